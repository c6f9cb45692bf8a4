section
-- ===== PART A: goes FIRST, ahead of the names: the tables' words, and 'selects' of the private methods out of them =====
/-- a private method of a class that the tables say can be made, by its rows of tables_1 -/
def lw_okq (q : MethodName × Nat) : Prop := (q.1.cls ≠ "java/lang/invoke/MethodHandle" ∧ q.1.cls ≠ "java/lang/invoke/VarHandle") ∧ Cond.instantiable q.1.cls q.2 ∈ tables_1 ∧ Cond.privateMethod q.1 ∈ tables_1 ∧ Cond.instanceMethod q.1 ∈ tables_1
theorem lw_p0 : lw_okq (⟨"DownFrames", "isPacket", "(I)Z"⟩, 3) := ⟨⟨by decide +kernel, by decide +kernel⟩, List.mem_of_getElem? (i := 7) (by decide +kernel), List.mem_of_getElem? (i := 80) (by decide +kernel), List.mem_of_getElem? (i := 81) (by decide +kernel)⟩
theorem lw_p1 : lw_okq (⟨"DownFrames$Channel", "add", "(I)V"⟩, 4) := ⟨⟨by decide +kernel, by decide +kernel⟩, List.mem_of_getElem? (i := 22) (by decide +kernel), List.mem_of_getElem? (i := 92) (by decide +kernel), List.mem_of_getElem? (i := 93) (by decide +kernel)⟩
theorem lw_p2 : lw_okq (⟨"DownFrames$Maker", "next", "()I"⟩, 4) := ⟨⟨by decide +kernel, by decide +kernel⟩, List.mem_of_getElem? (i := 15) (by decide +kernel), List.mem_of_getElem? (i := 104) (by decide +kernel), List.mem_of_getElem? (i := 105) (by decide +kernel)⟩
theorem lw_p3 : lw_okq (⟨"DownFrames$Channel", "empty", "(I)V"⟩, 4) := ⟨⟨by decide +kernel, by decide +kernel⟩, List.mem_of_getElem? (i := 22) (by decide +kernel), List.mem_of_getElem? (i := 112) (by decide +kernel), List.mem_of_getElem? (i := 113) (by decide +kernel)⟩
theorem lw_p4 : lw_okq (⟨"DownFrames$Channel", "peek", "(I)I"⟩, 4) := ⟨⟨by decide +kernel, by decide +kernel⟩, List.mem_of_getElem? (i := 22) (by decide +kernel), List.mem_of_getElem? (i := 116) (by decide +kernel), List.mem_of_getElem? (i := 117) (by decide +kernel)⟩
theorem lw_p5 : lw_okq (⟨"DownFrames$Maker", "put", "(III)V"⟩, 4) := ⟨⟨by decide +kernel, by decide +kernel⟩, List.mem_of_getElem? (i := 15) (by decide +kernel), List.mem_of_getElem? (i := 120) (by decide +kernel), List.mem_of_getElem? (i := 121) (by decide +kernel)⟩
theorem lw_p6 : lw_okq (⟨"DownFramesModel", "wait", "(IIZ)V"⟩, 10) := ⟨⟨by decide +kernel, by decide +kernel⟩, List.mem_of_getElem? (i := 145) (by decide +kernel), List.mem_of_getElem? (i := 191) (by decide +kernel), List.mem_of_getElem? (i := 192) (by decide +kernel)⟩
theorem lw_p7 : lw_okq (⟨"DownFramesModel", "fills", "(II)V"⟩, 10) := ⟨⟨by decide +kernel, by decide +kernel⟩, List.mem_of_getElem? (i := 145) (by decide +kernel), List.mem_of_getElem? (i := 199) (by decide +kernel), List.mem_of_getElem? (i := 200) (by decide +kernel)⟩
theorem lw_p8 : lw_okq (⟨"DownFramesModel", "first", "(II)I"⟩, 10) := ⟨⟨by decide +kernel, by decide +kernel⟩, List.mem_of_getElem? (i := 145) (by decide +kernel), List.mem_of_getElem? (i := 203) (by decide +kernel), List.mem_of_getElem? (i := 204) (by decide +kernel)⟩
theorem lw_p9 : lw_okq (⟨"DownFramesModel", "add", "(I)V"⟩, 10) := ⟨⟨by decide +kernel, by decide +kernel⟩, List.mem_of_getElem? (i := 145) (by decide +kernel), List.mem_of_getElem? (i := 207) (by decide +kernel), List.mem_of_getElem? (i := 208) (by decide +kernel)⟩
theorem lw_p10 : lw_okq (⟨"DownFramesModel", "check", "()I"⟩, 10) := ⟨⟨by decide +kernel, by decide +kernel⟩, List.mem_of_getElem? (i := 145) (by decide +kernel), List.mem_of_getElem? (i := 211) (by decide +kernel), List.mem_of_getElem? (i := 212) (by decide +kernel)⟩
theorem lw_p11 : lw_okq (⟨"DownFramesModel", "leave", "(II)V"⟩, 10) := ⟨⟨by decide +kernel, by decide +kernel⟩, List.mem_of_getElem? (i := 145) (by decide +kernel), List.mem_of_getElem? (i := 218) (by decide +kernel), List.mem_of_getElem? (i := 219) (by decide +kernel)⟩
def lw_privs_1 : List (MethodName × Nat) := [(⟨"DownFrames", "isPacket", "(I)Z"⟩, 3), (⟨"DownFrames$Channel", "add", "(I)V"⟩, 4), (⟨"DownFrames$Maker", "next", "()I"⟩, 4), (⟨"DownFrames$Channel", "empty", "(I)V"⟩, 4), (⟨"DownFrames$Channel", "peek", "(I)I"⟩, 4), (⟨"DownFrames$Maker", "put", "(III)V"⟩, 4), (⟨"DownFramesModel", "wait", "(IIZ)V"⟩, 10), (⟨"DownFramesModel", "fills", "(II)V"⟩, 10), (⟨"DownFramesModel", "first", "(II)I"⟩, 10), (⟨"DownFramesModel", "add", "(I)V"⟩, 10), (⟨"DownFramesModel", "check", "()I"⟩, 10), (⟨"DownFramesModel", "leave", "(II)V"⟩, 10)]
theorem lw_r1 : ∀ q ∈ lw_privs_1, lw_okq q := List.forall_mem_cons.mpr ⟨lw_p0, List.forall_mem_cons.mpr ⟨lw_p1, List.forall_mem_cons.mpr ⟨lw_p2, List.forall_mem_cons.mpr ⟨lw_p3, List.forall_mem_cons.mpr ⟨lw_p4, List.forall_mem_cons.mpr ⟨lw_p5, List.forall_mem_cons.mpr ⟨lw_p6, List.forall_mem_cons.mpr ⟨lw_p7, List.forall_mem_cons.mpr ⟨lw_p8, List.forall_mem_cons.mpr ⟨lw_p9, List.forall_mem_cons.mpr ⟨lw_p10, List.forall_mem_cons.mpr ⟨lw_p11, fun _ h => absurd h List.not_mem_nil⟩⟩⟩⟩⟩⟩⟩⟩⟩⟩⟩⟩
def lw_privs : List (MethodName × Nat) := lw_privs_1
def lw_tbl : List Cond := k2_sels lw_privs ++ tables_1
theorem lw_privs_ok : ∀ q ∈ lw_privs, lw_okq q := lw_r1
/-! the words that stay under warming: one list for every method -/
def gd_tbl : List Cond := lw_tbl.filter goodWord
theorem gd_good (w : Cond) (h : w ∈ gd_tbl) : goodWord w = true := (List.mem_filter.mp h).2
theorem gd_sub (w : Cond) (h : w ∈ gd_tbl) : w ∈ lw_tbl := (List.mem_filter.mp h).1
abbrev R_Ch : String := "DownFrames$Channel"
abbrev R_Mk : String := "DownFrames$Maker"
abbrev R_Fr : String := "DownFrames"
abbrev R_Mo : String := "DownFramesModel"
abbrev R_Ck : String := "DownFrames$Check"
abbrev R_Lw : String := "DownFramesLaw"
def F_Ch : u_T := fun k => match k with
  | 0 => ("DownFrames$Channel", "ring", "[B", true)
  | 1 => ("DownFrames$Channel", "first", "I", false)
  | 2 => ("DownFrames$Channel", "size", "I", false)
  | _ => ("DownFrames$Channel", "left", "I", false)
def t_Ch : Nat → FieldType := fun k => match k with
  | 0 => .array .byte
  | 1 => .int
  | 2 => .int
  | _ => .int
def F_Mk : u_T := fun k => match k with
  | 0 => ("DownFrames$Maker", "frame", "[B", true)
  | 1 => ("DownFrames$Maker", "channels", "[LDownFrames$Channel;", true)
  | 2 => ("DownFrames$Maker", "made", "I", false)
  | _ => ("DownFrames$Maker", "counts", "[I", true)
def t_Mk : Nat → FieldType := fun k => match k with
  | 0 => .array .byte
  | 1 => .array (.object "DownFrames$Channel")
  | 2 => .int
  | _ => .array .int
def F_Fr : u_T := fun k => match k with
  | 0 => ("DownFrames", "tape", "[B", true)
  | 1 => ("DownFrames", "size", "I", false)
  | _ => ("DownFrames", "maker", "LDownFrames$Maker;", true)
def t_Fr : Nat → FieldType := fun k => match k with
  | 0 => .array .byte
  | 1 => .int
  | _ => .object "DownFrames$Maker"
def F_Mo : u_T := fun k => match k with
  | 0 => ("DownFramesModel", "thrown", "I", false)
  | 1 => ("DownFramesModel", "length", "I", true)
  | 2 => ("DownFramesModel", "tape", "[B", true)
  | 3 => ("DownFramesModel", "many", "I", false)
  | 4 => ("DownFramesModel", "bytes", "[B", true)
  | 5 => ("DownFramesModel", "begins", "[Z", true)
  | 6 => ("DownFramesModel", "waits", "[I", true)
  | 7 => ("DownFramesModel", "frames", "[I", true)
  | 8 => ("DownFramesModel", "frame", "[B", true)
  | _ => ("DownFramesModel", "filled", "I", false)
def t_Mo : Nat → FieldType := fun k => match k with
  | 0 => .int
  | 1 => .int
  | 2 => .array .byte
  | 3 => .int
  | 4 => .array .byte
  | 5 => .array .boolean
  | 6 => .array .int
  | 7 => .array .int
  | 8 => .array .byte
  | _ => .int
abbrev classes : List vw_C := [(R_Ch, F_Ch, 4), (R_Mk, F_Mk, 4), (R_Fr, F_Fr, 3), (R_Mo, F_Mo, 10)]
abbrev b_Fr_init : ByteArray := prog_1_method_1_code
abbrev y_Fr_init : MethodName := ⟨"DownFrames", "<init>", "(I)V"⟩
abbrev b_Mk_init : ByteArray := prog_4_method_1_code
abbrev y_Mk_init : MethodName := ⟨"DownFrames$Maker", "<init>", "(I)V"⟩
abbrev b_Ch_init : ByteArray := prog_2_method_1_code
abbrev y_Ch_init : MethodName := ⟨"DownFrames$Channel", "<init>", "()V"⟩
abbrev b_Fr_give : ByteArray := prog_1_method_2_code
abbrev y_Fr_give : MethodName := ⟨"DownFrames", "give", "(JI)Z"⟩
abbrev b_Fr_send : ByteArray := prog_1_method_4_code
abbrev y_Fr_send : MethodName := ⟨"DownFrames", "send", "(I)I"⟩
abbrev b_Fr_isPacket : ByteArray := prog_1_method_3_code
abbrev y_Fr_isPacket : MethodName := ⟨"DownFrames", "isPacket", "(I)Z"⟩
abbrev b_Ch_hasRoom : ByteArray := prog_2_method_2_code
abbrev y_Ch_hasRoom : MethodName := ⟨"DownFrames$Channel", "hasRoom", "(I)Z"⟩
abbrev b_Ch_put : ByteArray := prog_2_method_4_code
abbrev y_Ch_put : MethodName := ⟨"DownFrames$Channel", "put", "([BI)V"⟩
abbrev b_Ch_add : ByteArray := prog_2_method_3_code
abbrev y_Ch_add : MethodName := ⟨"DownFrames$Channel", "add", "(I)V"⟩
abbrev b_Fr_frame : ByteArray := prog_1_method_5_code
abbrev y_Fr_frame : MethodName := ⟨"DownFrames", "frame", "(I)I"⟩
abbrev b_Mk_make : ByteArray := prog_4_method_4_code
abbrev y_Mk_make : MethodName := ⟨"DownFrames$Maker", "make", "(I)I"⟩
abbrev b_Mk_next : ByteArray := prog_4_method_2_code
abbrev y_Mk_next : MethodName := ⟨"DownFrames$Maker", "next", "()I"⟩
abbrev b_Ch_fill : ByteArray := prog_2_method_6_code
abbrev y_Ch_fill : MethodName := ⟨"DownFrames$Channel", "fill", "([BII)I"⟩
abbrev b_Ch_empty : ByteArray := prog_2_method_7_code
abbrev y_Ch_empty : MethodName := ⟨"DownFrames$Channel", "empty", "(I)V"⟩
abbrev b_Ch_peek : ByteArray := prog_2_method_5_code
abbrev y_Ch_peek : MethodName := ⟨"DownFrames$Channel", "peek", "(I)I"⟩
abbrev b_Mk_put : ByteArray := prog_4_method_3_code
abbrev y_Mk_put : MethodName := ⟨"DownFrames$Maker", "put", "(III)V"⟩
abbrev b_Ck_of : ByteArray := prog_3_method_2_code
abbrev y_Ck_of : MethodName := ⟨"DownFrames$Check", "of", "([BII)I"⟩
abbrev b_Fr_byteAt : ByteArray := prog_1_method_6_code
abbrev y_Fr_byteAt : MethodName := ⟨"DownFrames", "byteAt", "(I)I"⟩
abbrev b_Fr_waiting : ByteArray := prog_1_method_7_code
abbrev y_Fr_waiting : MethodName := ⟨"DownFrames", "waiting", "(I)I"⟩
abbrev b_Fr_count : ByteArray := prog_1_method_8_code
abbrev y_Fr_count : MethodName := ⟨"DownFrames", "count", "(I)I"⟩
abbrev b_law_cell : ByteArray := method_2_code
abbrev y_law_cell : MethodName := ⟨"DownFramesLaw", "cell", "([II)I"⟩
abbrev b_Mo_init : ByteArray := prog_6_method_1_code
abbrev y_Mo_init : MethodName := ⟨"DownFramesModel", "<init>", "(I)V"⟩
abbrev b_Mo_give : ByteArray := prog_6_method_3_code
abbrev y_Mo_give : MethodName := ⟨"DownFramesModel", "give", "(JI)Z"⟩
abbrev b_Mo_send : ByteArray := prog_6_method_5_code
abbrev y_Mo_send : MethodName := ⟨"DownFramesModel", "send", "(I)I"⟩
abbrev b_Mo_wait : ByteArray := prog_6_method_4_code
abbrev y_Mo_wait : MethodName := ⟨"DownFramesModel", "wait", "(IIZ)V"⟩
abbrev b_Mo_frame : ByteArray := prog_6_method_11_code
abbrev y_Mo_frame : MethodName := ⟨"DownFramesModel", "frame", "(I)I"⟩
abbrev b_Mo_fills : ByteArray := prog_6_method_8_code
abbrev y_Mo_fills : MethodName := ⟨"DownFramesModel", "fills", "(II)V"⟩
abbrev b_Mo_first : ByteArray := prog_6_method_9_code
abbrev y_Mo_first : MethodName := ⟨"DownFramesModel", "first", "(II)I"⟩
abbrev b_Mo_add : ByteArray := prog_6_method_6_code
abbrev y_Mo_add : MethodName := ⟨"DownFramesModel", "add", "(I)V"⟩
abbrev b_Mo_check : ByteArray := prog_6_method_7_code
abbrev y_Mo_check : MethodName := ⟨"DownFramesModel", "check", "()I"⟩
abbrev b_Mo_leave : ByteArray := prog_6_method_10_code
abbrev y_Mo_leave : MethodName := ⟨"DownFramesModel", "leave", "(II)V"⟩
abbrev b_Mo_byteAt : ByteArray := prog_6_method_12_code
abbrev y_Mo_byteAt : MethodName := ⟨"DownFramesModel", "byteAt", "(I)I"⟩
abbrev b_Mo_waiting : ByteArray := prog_6_method_13_code
abbrev y_Mo_waiting : MethodName := ⟨"DownFramesModel", "waiting", "(I)I"⟩
abbrev b_Mo_count : ByteArray := prog_6_method_14_code
abbrev y_Mo_count : MethodName := ⟨"DownFramesModel", "count", "(I)I"⟩
abbrev b_law_law : ByteArray := code
abbrev y_law_law : MethodName := ⟨"DownFramesLaw", "law", "([I)Z"⟩
theorem n_Ch : ∀ a, a < 4 → ∀ b, b < 4 → a ≠ b → (F_Ch a).2.1 ≠ (F_Ch b).2.1 := by decide +kernel
theorem t_Ch_ok : ∀ k, k < 4 → parseFieldDescriptor (F_Ch k).2.2.1 = some (t_Ch k) := by decide +kernel
theorem i_Ch : ∀ w ∈ u_ws R_Ch F_Ch 4, w ∈ gd_tbl := by decide +kernel
theorem n_Mk : ∀ a, a < 4 → ∀ b, b < 4 → a ≠ b → (F_Mk a).2.1 ≠ (F_Mk b).2.1 := by decide +kernel
theorem t_Mk_ok : ∀ k, k < 4 → parseFieldDescriptor (F_Mk k).2.2.1 = some (t_Mk k) := by decide +kernel
theorem i_Mk : ∀ w ∈ u_ws R_Mk F_Mk 4, w ∈ gd_tbl := by decide +kernel
theorem n_Fr : ∀ a, a < 3 → ∀ b, b < 3 → a ≠ b → (F_Fr a).2.1 ≠ (F_Fr b).2.1 := by decide +kernel
theorem t_Fr_ok : ∀ k, k < 3 → parseFieldDescriptor (F_Fr k).2.2.1 = some (t_Fr k) := by decide +kernel
theorem i_Fr : ∀ w ∈ u_ws R_Fr F_Fr 3, w ∈ gd_tbl := by decide +kernel
theorem n_Mo : ∀ a, a < 10 → ∀ b, b < 10 → a ≠ b → (F_Mo a).2.1 ≠ (F_Mo b).2.1 := by decide +kernel
theorem t_Mo_ok : ∀ k, k < 10 → parseFieldDescriptor (F_Mo k).2.2.1 = some (t_Mo k) := by decide +kernel
theorem i_Mo : ∀ w ∈ u_ws R_Mo F_Mo 10, w ∈ gd_tbl := by decide +kernel
theorem gd_of {w : Cond} (i : Nat) (h : tables_1[i]? = some w) (g : goodWord w = true) : w ∈ gd_tbl := List.mem_filter.mpr ⟨List.mem_append_right _ (List.mem_of_getElem? h), g⟩
theorem gd_pr {w : Cond} (i : Nat) (h : (k2_sels lw_privs)[i]? = some w) (g : goodWord w = true) : w ∈ gd_tbl := List.mem_filter.mpr ⟨List.mem_append_left _ (List.mem_of_getElem? h), g⟩
theorem q_0 : Cond.initialized "DownFramesLaw" ∈ gd_tbl := gd_of 0 rfl rfl
theorem q_1 : Cond.initialized "DownFrames" ∈ gd_tbl := gd_of 1 rfl rfl
theorem q_2 : Cond.initialized "DownFrames$Maker" ∈ gd_tbl := gd_of 2 rfl rfl
theorem q_3 : Cond.initialized "DownFrames$Channel" ∈ gd_tbl := gd_of 3 rfl rfl
theorem q_4 : Cond.initialized "DownFramesModel" ∈ gd_tbl := gd_of 4 rfl rfl
theorem q_5 : Cond.initialized "DownFrames$Check" ∈ gd_tbl := gd_of 5 rfl rfl
theorem q_6 : Cond.classLink "DownFramesLaw" 7 "DownFrames" ∈ gd_tbl := gd_of 6 rfl rfl
theorem q_7 : Cond.instantiable "DownFrames" 3 ∈ gd_tbl := gd_of 7 rfl rfl
theorem q_8 : Cond.methodLink "DownFramesLaw" 15 y_Fr_init ∈ gd_tbl := gd_of 8 rfl rfl
theorem q_9 : Cond.instanceMethod y_Fr_init ∈ gd_tbl := gd_of 9 rfl rfl
theorem q_10 : Cond.code y_Fr_init b_Fr_init 2 none ∈ gd_tbl := gd_of 10 rfl rfl
theorem q_11 : Cond.methodLink "DownFrames" 1 objectInit ∈ gd_tbl := gd_of 11 rfl rfl
theorem q_12 : Cond.instanceMethod objectInit ∈ gd_tbl := gd_of 12 rfl rfl
theorem q_13 : Cond.code objectInit ⟨#[0xb1]⟩ 1 none ∈ gd_tbl := gd_of 13 rfl rfl
theorem q_14 : Cond.classLink "DownFrames" 13 "DownFrames$Maker" ∈ gd_tbl := gd_of 14 rfl rfl
theorem q_15 : Cond.instantiable "DownFrames$Maker" 4 ∈ gd_tbl := gd_of 15 rfl rfl
theorem q_16 : Cond.methodLink "DownFrames" 15 y_Mk_init ∈ gd_tbl := gd_of 16 rfl rfl
theorem q_17 : Cond.instanceMethod y_Mk_init ∈ gd_tbl := gd_of 17 rfl rfl
theorem q_18 : Cond.code y_Mk_init b_Mk_init 2 none ∈ gd_tbl := gd_of 18 rfl rfl
theorem q_19 : Cond.methodLink "DownFrames$Maker" 3 objectInit ∈ gd_tbl := gd_of 19 rfl rfl
theorem q_20 : Cond.classLink "DownFrames$Maker" 9 "DownFrames$Channel" ∈ gd_tbl := gd_of 20 rfl rfl
theorem q_22 : Cond.instantiable "DownFrames$Channel" 4 ∈ gd_tbl := gd_of 22 rfl rfl
theorem q_24 : Cond.instanceMethod y_Ch_init ∈ gd_tbl := gd_of 24 rfl rfl
theorem q_25 : Cond.code y_Ch_init b_Ch_init 1 none ∈ gd_tbl := gd_of 25 rfl rfl
theorem q_26 : Cond.methodLink "DownFrames$Channel" 3 objectInit ∈ gd_tbl := gd_of 26 rfl rfl
theorem q_27 : Cond.fieldLink "DownFrames$Channel" 11 "DownFrames$Channel" "ring" "[B" ∈ gd_tbl := gd_of 27 rfl rfl
theorem q_28 : Cond.fieldLink "DownFrames$Channel" 19 "DownFrames$Channel" "first" "I" ∈ gd_tbl := gd_of 28 rfl rfl
theorem q_29 : Cond.fieldLink "DownFrames$Channel" 15 "DownFrames$Channel" "size" "I" ∈ gd_tbl := gd_of 29 rfl rfl
theorem q_32 : Cond.fieldLink "DownFrames$Channel" 26 "DownFrames$Channel" "left" "I" ∈ gd_tbl := gd_of 32 rfl rfl
theorem q_42 : Cond.arrayClass FieldType.byte ∈ gd_tbl := gd_of 42 rfl rfl
theorem q_43 : Cond.fieldLink "DownFrames$Maker" 22 "DownFrames$Maker" "frame" "[B" ∈ gd_tbl := gd_of 43 rfl rfl
theorem q_45 : Cond.fieldLink "DownFrames$Maker" 12 "DownFrames$Maker" "channels" "[LDownFrames$Channel;" ∈ gd_tbl := gd_of 45 rfl rfl
theorem q_47 : Cond.fieldLink "DownFrames$Maker" 42 "DownFrames$Maker" "made" "I" ∈ gd_tbl := gd_of 47 rfl rfl
theorem q_49 : Cond.fieldLink "DownFrames$Maker" 18 "DownFrames$Maker" "counts" "[I" ∈ gd_tbl := gd_of 49 rfl rfl
theorem q_60 : Cond.arrayClass FieldType.int ∈ gd_tbl := gd_of 60 rfl rfl
theorem q_61 : Cond.fieldLink "DownFrames" 9 "DownFrames" "tape" "[B" ∈ gd_tbl := gd_of 61 rfl rfl
theorem q_62 : Cond.fieldLink "DownFrames" 22 "DownFrames" "size" "I" ∈ gd_tbl := gd_of 62 rfl rfl
theorem q_63 : Cond.fieldLink "DownFrames" 18 "DownFrames" "maker" "LDownFrames$Maker;" ∈ gd_tbl := gd_of 63 rfl rfl
theorem q_71 : Cond.methodLink "DownFramesLaw" 23 y_Fr_give ∈ gd_tbl := gd_of 71 rfl rfl
theorem q_72 : Cond.instanceMethod y_Fr_give ∈ gd_tbl := gd_of 72 rfl rfl
theorem q_73 : Cond.selects "DownFrames" y_Fr_give y_Fr_give ∈ gd_tbl := gd_of 73 rfl rfl
theorem q_74 : Cond.code y_Fr_give b_Fr_give 5 (some .boolean) ∈ gd_tbl := gd_of 74 rfl rfl
theorem q_75 : Cond.methodLink "DownFramesLaw" 28 y_Fr_send ∈ gd_tbl := gd_of 75 rfl rfl
theorem q_76 : Cond.instanceMethod y_Fr_send ∈ gd_tbl := gd_of 76 rfl rfl
theorem q_77 : Cond.selects "DownFrames" y_Fr_send y_Fr_send ∈ gd_tbl := gd_of 77 rfl rfl
theorem q_78 : Cond.code y_Fr_send b_Fr_send 3 (some .int) ∈ gd_tbl := gd_of 78 rfl rfl
theorem q_79 : Cond.methodLink "DownFrames" 28 y_Fr_isPacket ∈ gd_tbl := gd_of 79 rfl rfl
theorem q_81 : Cond.instanceMethod y_Fr_isPacket ∈ gd_tbl := gd_of 81 rfl rfl
theorem q_82 : Cond.code y_Fr_isPacket b_Fr_isPacket 2 (some .boolean) ∈ gd_tbl := gd_of 82 rfl rfl
theorem q_83 : Cond.methodLink "DownFrames" 36 y_Ch_hasRoom ∈ gd_tbl := gd_of 83 rfl rfl
theorem q_84 : Cond.instanceMethod y_Ch_hasRoom ∈ gd_tbl := gd_of 84 rfl rfl
theorem q_85 : Cond.selects "DownFrames$Channel" y_Ch_hasRoom y_Ch_hasRoom ∈ gd_tbl := gd_of 85 rfl rfl
theorem q_86 : Cond.code y_Ch_hasRoom b_Ch_hasRoom 2 (some .boolean) ∈ gd_tbl := gd_of 86 rfl rfl
theorem q_87 : Cond.methodLink "DownFrames" 39 y_Ch_put ∈ gd_tbl := gd_of 87 rfl rfl
theorem q_88 : Cond.instanceMethod y_Ch_put ∈ gd_tbl := gd_of 88 rfl rfl
theorem q_89 : Cond.selects "DownFrames$Channel" y_Ch_put y_Ch_put ∈ gd_tbl := gd_of 89 rfl rfl
theorem q_90 : Cond.code y_Ch_put b_Ch_put 4 none ∈ gd_tbl := gd_of 90 rfl rfl
theorem q_91 : Cond.methodLink "DownFrames$Channel" 22 y_Ch_add ∈ gd_tbl := gd_of 91 rfl rfl
theorem q_93 : Cond.instanceMethod y_Ch_add ∈ gd_tbl := gd_of 93 rfl rfl
theorem q_94 : Cond.code y_Ch_add b_Ch_add 2 none ∈ gd_tbl := gd_of 94 rfl rfl
theorem q_95 : Cond.methodLink "DownFramesLaw" 33 y_Fr_frame ∈ gd_tbl := gd_of 95 rfl rfl
theorem q_96 : Cond.instanceMethod y_Fr_frame ∈ gd_tbl := gd_of 96 rfl rfl
theorem q_97 : Cond.selects "DownFrames" y_Fr_frame y_Fr_frame ∈ gd_tbl := gd_of 97 rfl rfl
theorem q_98 : Cond.code y_Fr_frame b_Fr_frame 2 (some .int) ∈ gd_tbl := gd_of 98 rfl rfl
theorem q_99 : Cond.methodLink "DownFrames" 44 y_Mk_make ∈ gd_tbl := gd_of 99 rfl rfl
theorem q_100 : Cond.instanceMethod y_Mk_make ∈ gd_tbl := gd_of 100 rfl rfl
theorem q_101 : Cond.selects "DownFrames$Maker" y_Mk_make y_Mk_make ∈ gd_tbl := gd_of 101 rfl rfl
theorem q_102 : Cond.code y_Mk_make b_Mk_make 7 (some .int) ∈ gd_tbl := gd_of 102 rfl rfl
theorem q_103 : Cond.methodLink "DownFrames$Maker" 30 y_Mk_next ∈ gd_tbl := gd_of 103 rfl rfl
theorem q_105 : Cond.instanceMethod y_Mk_next ∈ gd_tbl := gd_of 105 rfl rfl
theorem q_106 : Cond.code y_Mk_next b_Mk_next 2 (some .int) ∈ gd_tbl := gd_of 106 rfl rfl
theorem q_107 : Cond.methodLink "DownFrames$Maker" 34 y_Ch_fill ∈ gd_tbl := gd_of 107 rfl rfl
theorem q_108 : Cond.instanceMethod y_Ch_fill ∈ gd_tbl := gd_of 108 rfl rfl
theorem q_109 : Cond.selects "DownFrames$Channel" y_Ch_fill y_Ch_fill ∈ gd_tbl := gd_of 109 rfl rfl
theorem q_110 : Cond.code y_Ch_fill b_Ch_fill 6 (some .int) ∈ gd_tbl := gd_of 110 rfl rfl
theorem q_111 : Cond.methodLink "DownFrames$Channel" 29 y_Ch_empty ∈ gd_tbl := gd_of 111 rfl rfl
theorem q_113 : Cond.instanceMethod y_Ch_empty ∈ gd_tbl := gd_of 113 rfl rfl
theorem q_114 : Cond.code y_Ch_empty b_Ch_empty 4 none ∈ gd_tbl := gd_of 114 rfl rfl
theorem q_115 : Cond.methodLink "DownFrames$Channel" 32 y_Ch_peek ∈ gd_tbl := gd_of 115 rfl rfl
theorem q_117 : Cond.instanceMethod y_Ch_peek ∈ gd_tbl := gd_of 117 rfl rfl
theorem q_118 : Cond.code y_Ch_peek b_Ch_peek 2 (some .int) ∈ gd_tbl := gd_of 118 rfl rfl
theorem q_119 : Cond.methodLink "DownFrames$Maker" 38 y_Mk_put ∈ gd_tbl := gd_of 119 rfl rfl
theorem q_121 : Cond.instanceMethod y_Mk_put ∈ gd_tbl := gd_of 121 rfl rfl
theorem q_122 : Cond.code y_Mk_put b_Mk_put 5 none ∈ gd_tbl := gd_of 122 rfl rfl
theorem q_123 : Cond.methodLink "DownFrames$Maker" 45 y_Ck_of ∈ gd_tbl := gd_of 123 rfl rfl
theorem q_124 : Cond.static y_Ck_of ∈ gd_tbl := gd_of 124 rfl rfl
theorem q_125 : Cond.code y_Ck_of b_Ck_of 6 (some .int) ∈ gd_tbl := gd_of 125 rfl rfl
theorem q_126 : Cond.constant "DownFrames$Check" 7 65535 ∈ gd_tbl := gd_of 126 rfl rfl
theorem q_127 : Cond.constant "DownFrames$Check" 8 32768 ∈ gd_tbl := gd_of 127 rfl rfl
theorem q_128 : Cond.constant "DownFrames$Check" 9 69665 ∈ gd_tbl := gd_of 128 rfl rfl
theorem q_129 : Cond.methodLink "DownFramesLaw" 37 y_Fr_byteAt ∈ gd_tbl := gd_of 129 rfl rfl
theorem q_130 : Cond.instanceMethod y_Fr_byteAt ∈ gd_tbl := gd_of 130 rfl rfl
theorem q_131 : Cond.selects "DownFrames" y_Fr_byteAt y_Fr_byteAt ∈ gd_tbl := gd_of 131 rfl rfl
theorem q_132 : Cond.code y_Fr_byteAt b_Fr_byteAt 2 (some .int) ∈ gd_tbl := gd_of 132 rfl rfl
theorem q_133 : Cond.methodLink "DownFramesLaw" 41 y_Fr_waiting ∈ gd_tbl := gd_of 133 rfl rfl
theorem q_134 : Cond.instanceMethod y_Fr_waiting ∈ gd_tbl := gd_of 134 rfl rfl
theorem q_135 : Cond.selects "DownFrames" y_Fr_waiting y_Fr_waiting ∈ gd_tbl := gd_of 135 rfl rfl
theorem q_136 : Cond.code y_Fr_waiting b_Fr_waiting 2 (some .int) ∈ gd_tbl := gd_of 136 rfl rfl
theorem q_137 : Cond.methodLink "DownFramesLaw" 45 y_Fr_count ∈ gd_tbl := gd_of 137 rfl rfl
theorem q_138 : Cond.instanceMethod y_Fr_count ∈ gd_tbl := gd_of 138 rfl rfl
theorem q_139 : Cond.selects "DownFrames" y_Fr_count y_Fr_count ∈ gd_tbl := gd_of 139 rfl rfl
theorem q_140 : Cond.code y_Fr_count b_Fr_count 2 (some .int) ∈ gd_tbl := gd_of 140 rfl rfl
theorem q_141 : Cond.methodLink "DownFramesLaw" 9 y_law_cell ∈ gd_tbl := gd_of 141 rfl rfl
theorem q_142 : Cond.static y_law_cell ∈ gd_tbl := gd_of 142 rfl rfl
theorem q_143 : Cond.code y_law_cell b_law_cell 2 (some .int) ∈ gd_tbl := gd_of 143 rfl rfl
theorem q_144 : Cond.classLink "DownFramesLaw" 18 "DownFramesModel" ∈ gd_tbl := gd_of 144 rfl rfl
theorem q_145 : Cond.instantiable "DownFramesModel" 10 ∈ gd_tbl := gd_of 145 rfl rfl
theorem q_146 : Cond.methodLink "DownFramesLaw" 20 y_Mo_init ∈ gd_tbl := gd_of 146 rfl rfl
theorem q_147 : Cond.instanceMethod y_Mo_init ∈ gd_tbl := gd_of 147 rfl rfl
theorem q_148 : Cond.code y_Mo_init b_Mo_init 2 none ∈ gd_tbl := gd_of 148 rfl rfl
theorem q_149 : Cond.methodLink "DownFramesModel" 1 objectInit ∈ gd_tbl := gd_of 149 rfl rfl
theorem q_150 : Cond.fieldLink "DownFramesModel" 34 "DownFramesModel" "thrown" "I" ∈ gd_tbl := gd_of 150 rfl rfl
theorem q_151 : Cond.fieldLink "DownFramesModel" 30 "DownFramesModel" "length" "I" ∈ gd_tbl := gd_of 151 rfl rfl
theorem q_152 : Cond.fieldLink "DownFramesModel" 7 "DownFramesModel" "tape" "[B" ∈ gd_tbl := gd_of 152 rfl rfl
theorem q_153 : Cond.fieldLink "DownFramesModel" 37 "DownFramesModel" "many" "I" ∈ gd_tbl := gd_of 153 rfl rfl
theorem q_154 : Cond.fieldLink "DownFramesModel" 13 "DownFramesModel" "bytes" "[B" ∈ gd_tbl := gd_of 154 rfl rfl
theorem q_155 : Cond.fieldLink "DownFramesModel" 16 "DownFramesModel" "begins" "[Z" ∈ gd_tbl := gd_of 155 rfl rfl
theorem q_156 : Cond.fieldLink "DownFramesModel" 20 "DownFramesModel" "waits" "[I" ∈ gd_tbl := gd_of 156 rfl rfl
theorem q_157 : Cond.fieldLink "DownFramesModel" 24 "DownFramesModel" "frames" "[I" ∈ gd_tbl := gd_of 157 rfl rfl
theorem q_158 : Cond.fieldLink "DownFramesModel" 27 "DownFramesModel" "frame" "[B" ∈ gd_tbl := gd_of 158 rfl rfl
theorem q_159 : Cond.fieldLink "DownFramesModel" 44 "DownFramesModel" "filled" "I" ∈ gd_tbl := gd_of 159 rfl rfl
theorem q_181 : Cond.arrayClass FieldType.boolean ∈ gd_tbl := gd_of 181 rfl rfl
theorem q_182 : Cond.methodLink "DownFramesLaw" 27 y_Mo_give ∈ gd_tbl := gd_of 182 rfl rfl
theorem q_183 : Cond.instanceMethod y_Mo_give ∈ gd_tbl := gd_of 183 rfl rfl
theorem q_184 : Cond.selects "DownFramesModel" y_Mo_give y_Mo_give ∈ gd_tbl := gd_of 184 rfl rfl
theorem q_185 : Cond.code y_Mo_give b_Mo_give 5 (some .boolean) ∈ gd_tbl := gd_of 185 rfl rfl
theorem q_186 : Cond.methodLink "DownFramesLaw" 32 y_Mo_send ∈ gd_tbl := gd_of 186 rfl rfl
theorem q_187 : Cond.instanceMethod y_Mo_send ∈ gd_tbl := gd_of 187 rfl rfl
theorem q_188 : Cond.selects "DownFramesModel" y_Mo_send y_Mo_send ∈ gd_tbl := gd_of 188 rfl rfl
theorem q_189 : Cond.code y_Mo_send b_Mo_send 5 (some .int) ∈ gd_tbl := gd_of 189 rfl rfl
theorem q_190 : Cond.methodLink "DownFramesModel" 40 y_Mo_wait ∈ gd_tbl := gd_of 190 rfl rfl
theorem q_192 : Cond.instanceMethod y_Mo_wait ∈ gd_tbl := gd_of 192 rfl rfl
theorem q_193 : Cond.code y_Mo_wait b_Mo_wait 4 none ∈ gd_tbl := gd_of 193 rfl rfl
theorem q_194 : Cond.methodLink "DownFramesLaw" 36 y_Mo_frame ∈ gd_tbl := gd_of 194 rfl rfl
theorem q_195 : Cond.instanceMethod y_Mo_frame ∈ gd_tbl := gd_of 195 rfl rfl
theorem q_196 : Cond.selects "DownFramesModel" y_Mo_frame y_Mo_frame ∈ gd_tbl := gd_of 196 rfl rfl
theorem q_197 : Cond.code y_Mo_frame b_Mo_frame 7 (some .int) ∈ gd_tbl := gd_of 197 rfl rfl
theorem q_198 : Cond.methodLink "DownFramesModel" 50 y_Mo_fills ∈ gd_tbl := gd_of 198 rfl rfl
theorem q_200 : Cond.instanceMethod y_Mo_fills ∈ gd_tbl := gd_of 200 rfl rfl
theorem q_201 : Cond.code y_Mo_fills b_Mo_fills 5 none ∈ gd_tbl := gd_of 201 rfl rfl
theorem q_202 : Cond.methodLink "DownFramesModel" 54 y_Mo_first ∈ gd_tbl := gd_of 202 rfl rfl
theorem q_204 : Cond.instanceMethod y_Mo_first ∈ gd_tbl := gd_of 204 rfl rfl
theorem q_205 : Cond.code y_Mo_first b_Mo_first 4 (some .int) ∈ gd_tbl := gd_of 205 rfl rfl
theorem q_206 : Cond.methodLink "DownFramesModel" 58 y_Mo_add ∈ gd_tbl := gd_of 206 rfl rfl
theorem q_208 : Cond.instanceMethod y_Mo_add ∈ gd_tbl := gd_of 208 rfl rfl
theorem q_209 : Cond.code y_Mo_add b_Mo_add 2 none ∈ gd_tbl := gd_of 209 rfl rfl
theorem q_210 : Cond.methodLink "DownFramesModel" 62 y_Mo_check ∈ gd_tbl := gd_of 210 rfl rfl
theorem q_212 : Cond.instanceMethod y_Mo_check ∈ gd_tbl := gd_of 212 rfl rfl
theorem q_213 : Cond.code y_Mo_check b_Mo_check 4 (some .int) ∈ gd_tbl := gd_of 213 rfl rfl
theorem q_214 : Cond.constant "DownFramesModel" 47 65535 ∈ gd_tbl := gd_of 214 rfl rfl
theorem q_215 : Cond.constant "DownFramesModel" 48 65536 ∈ gd_tbl := gd_of 215 rfl rfl
theorem q_216 : Cond.constant "DownFramesModel" 49 69665 ∈ gd_tbl := gd_of 216 rfl rfl
theorem q_217 : Cond.methodLink "DownFramesModel" 66 y_Mo_leave ∈ gd_tbl := gd_of 217 rfl rfl
theorem q_219 : Cond.instanceMethod y_Mo_leave ∈ gd_tbl := gd_of 219 rfl rfl
theorem q_220 : Cond.code y_Mo_leave b_Mo_leave 4 none ∈ gd_tbl := gd_of 220 rfl rfl
theorem q_221 : Cond.methodLink "DownFramesLaw" 40 y_Mo_byteAt ∈ gd_tbl := gd_of 221 rfl rfl
theorem q_222 : Cond.instanceMethod y_Mo_byteAt ∈ gd_tbl := gd_of 222 rfl rfl
theorem q_223 : Cond.selects "DownFramesModel" y_Mo_byteAt y_Mo_byteAt ∈ gd_tbl := gd_of 223 rfl rfl
theorem q_224 : Cond.code y_Mo_byteAt b_Mo_byteAt 2 (some .int) ∈ gd_tbl := gd_of 224 rfl rfl
theorem q_225 : Cond.methodLink "DownFramesLaw" 44 y_Mo_waiting ∈ gd_tbl := gd_of 225 rfl rfl
theorem q_226 : Cond.instanceMethod y_Mo_waiting ∈ gd_tbl := gd_of 226 rfl rfl
theorem q_227 : Cond.selects "DownFramesModel" y_Mo_waiting y_Mo_waiting ∈ gd_tbl := gd_of 227 rfl rfl
theorem q_228 : Cond.code y_Mo_waiting b_Mo_waiting 2 (some .int) ∈ gd_tbl := gd_of 228 rfl rfl
theorem q_229 : Cond.methodLink "DownFramesLaw" 48 y_Mo_count ∈ gd_tbl := gd_of 229 rfl rfl
theorem q_230 : Cond.instanceMethod y_Mo_count ∈ gd_tbl := gd_of 230 rfl rfl
theorem q_231 : Cond.selects "DownFramesModel" y_Mo_count y_Mo_count ∈ gd_tbl := gd_of 231 rfl rfl
theorem q_232 : Cond.code y_Mo_count b_Mo_count 2 (some .int) ∈ gd_tbl := gd_of 232 rfl rfl
theorem q_233 : Cond.constantLong "DownFramesLaw" 21 4294967295 ∈ gd_tbl := gd_of 233 rfl rfl
theorem q_p0 : Cond.selects "DownFrames" y_Fr_isPacket y_Fr_isPacket ∈ gd_tbl := gd_pr 0 rfl rfl
theorem q_p1 : Cond.selects "DownFrames$Channel" y_Ch_add y_Ch_add ∈ gd_tbl := gd_pr 1 rfl rfl
theorem q_p2 : Cond.selects "DownFrames$Maker" y_Mk_next y_Mk_next ∈ gd_tbl := gd_pr 2 rfl rfl
theorem q_p3 : Cond.selects "DownFrames$Channel" y_Ch_empty y_Ch_empty ∈ gd_tbl := gd_pr 3 rfl rfl
theorem q_p4 : Cond.selects "DownFrames$Channel" y_Ch_peek y_Ch_peek ∈ gd_tbl := gd_pr 4 rfl rfl
theorem q_p5 : Cond.selects "DownFrames$Maker" y_Mk_put y_Mk_put ∈ gd_tbl := gd_pr 5 rfl rfl
theorem q_p6 : Cond.selects "DownFramesModel" y_Mo_wait y_Mo_wait ∈ gd_tbl := gd_pr 6 rfl rfl
theorem q_p7 : Cond.selects "DownFramesModel" y_Mo_fills y_Mo_fills ∈ gd_tbl := gd_pr 7 rfl rfl
theorem q_p8 : Cond.selects "DownFramesModel" y_Mo_first y_Mo_first ∈ gd_tbl := gd_pr 8 rfl rfl
theorem q_p9 : Cond.selects "DownFramesModel" y_Mo_add y_Mo_add ∈ gd_tbl := gd_pr 9 rfl rfl
theorem q_p10 : Cond.selects "DownFramesModel" y_Mo_check y_Mo_check ∈ gd_tbl := gd_pr 10 rfl rfl
theorem q_p11 : Cond.selects "DownFramesModel" y_Mo_leave y_Mo_leave ∈ gd_tbl := gd_pr 11 rfl rfl
end
section
theorem d_Fr_init_0 : decode b_Fr_init 0 = .ok (.aload_n 0, 1) := by decide +kernel
theorem d_Fr_init_1 : decode b_Fr_init 1 = .ok (.invokespecial 1, 3) := by decide +kernel
theorem d_Fr_init_4 : decode b_Fr_init 4 = .ok (.aload_n 0, 1) := by decide +kernel
theorem d_Fr_init_5 : decode b_Fr_init 5 = .ok (.sipush 1024, 3) := by decide +kernel
theorem d_Fr_init_8 : decode b_Fr_init 8 = .ok (.newarray .byte, 2) := by decide +kernel
theorem d_Fr_init_10 : decode b_Fr_init 10 = .ok (.putfield 9, 3) := by decide +kernel
theorem d_Fr_init_13 : decode b_Fr_init 13 = .ok (.aload_n 0, 1) := by decide +kernel
theorem d_Fr_init_14 : decode b_Fr_init 14 = .ok (.new 13, 3) := by decide +kernel
theorem d_Fr_init_17 : decode b_Fr_init 17 = .ok (.dup, 1) := by decide +kernel
theorem d_Fr_init_18 : decode b_Fr_init 18 = .ok (.iload_n 1, 1) := by decide +kernel
theorem d_Fr_init_19 : decode b_Fr_init 19 = .ok (.bipush 64, 2) := by decide +kernel
theorem d_Fr_init_21 : decode b_Fr_init 21 = .ok (.if_icmp .ge 8, 3) := by decide +kernel
theorem d_Fr_init_24 : decode b_Fr_init 24 = .ok (.bipush 64, 2) := by decide +kernel
theorem d_Fr_init_26 : decode b_Fr_init 26 = .ok (.goto 17, 3) := by decide +kernel
theorem d_Fr_init_29 : decode b_Fr_init 29 = .ok (.iload_n 1, 1) := by decide +kernel
theorem d_Fr_init_30 : decode b_Fr_init 30 = .ok (.sipush 256, 3) := by decide +kernel
theorem d_Fr_init_33 : decode b_Fr_init 33 = .ok (.if_icmp .le 9, 3) := by decide +kernel
theorem d_Fr_init_36 : decode b_Fr_init 36 = .ok (.sipush 256, 3) := by decide +kernel
theorem d_Fr_init_39 : decode b_Fr_init 39 = .ok (.goto 4, 3) := by decide +kernel
theorem d_Fr_init_42 : decode b_Fr_init 42 = .ok (.iload_n 1, 1) := by decide +kernel
theorem d_Fr_init_43 : decode b_Fr_init 43 = .ok (.invokespecial 15, 3) := by decide +kernel
theorem d_Fr_init_46 : decode b_Fr_init 46 = .ok (.putfield 18, 3) := by decide +kernel
theorem d_Fr_init_49 : decode b_Fr_init 49 = .ok (.return_, 1) := by decide +kernel
theorem d_Fr_give_0 : decode b_Fr_give 0 = .ok (.iload_n 3, 1) := by decide +kernel
theorem d_Fr_give_1 : decode b_Fr_give 1 = .ok (.iconst 1, 1) := by decide +kernel
theorem d_Fr_give_2 : decode b_Fr_give 2 = .ok (.if_icmp .lt 21, 3) := by decide +kernel
theorem d_Fr_give_5 : decode b_Fr_give 5 = .ok (.iload_n 3, 1) := by decide +kernel
theorem d_Fr_give_6 : decode b_Fr_give 6 = .ok (.bipush 8, 2) := by decide +kernel
theorem d_Fr_give_8 : decode b_Fr_give 8 = .ok (.if_icmp .gt 15, 3) := by decide +kernel
theorem d_Fr_give_11 : decode b_Fr_give 11 = .ok (.aload_n 0, 1) := by decide +kernel
theorem d_Fr_give_12 : decode b_Fr_give 12 = .ok (.getfield 22, 3) := by decide +kernel
theorem d_Fr_give_15 : decode b_Fr_give 15 = .ok (.iload_n 3, 1) := by decide +kernel
theorem d_Fr_give_16 : decode b_Fr_give 16 = .ok (.iadd, 1) := by decide +kernel
theorem d_Fr_give_17 : decode b_Fr_give 17 = .ok (.sipush 1024, 3) := by decide +kernel
theorem d_Fr_give_20 : decode b_Fr_give 20 = .ok (.if_icmp .le 5, 3) := by decide +kernel
theorem d_Fr_give_23 : decode b_Fr_give 23 = .ok (.iconst 0, 1) := by decide +kernel
theorem d_Fr_give_24 : decode b_Fr_give 24 = .ok (.ireturn, 1) := by decide +kernel
theorem d_Fr_give_25 : decode b_Fr_give 25 = .ok (.iconst 0, 1) := by decide +kernel
theorem d_Fr_give_26 : decode b_Fr_give 26 = .ok (.istore 4, 2) := by decide +kernel
theorem d_Fr_give_28 : decode b_Fr_give 28 = .ok (.iload 4, 2) := by decide +kernel
theorem d_Fr_give_30 : decode b_Fr_give 30 = .ok (.iload_n 3, 1) := by decide +kernel
theorem d_Fr_give_31 : decode b_Fr_give 31 = .ok (.if_icmp .ge 37, 3) := by decide +kernel
theorem d_Fr_give_34 : decode b_Fr_give 34 = .ok (.aload_n 0, 1) := by decide +kernel
theorem d_Fr_give_35 : decode b_Fr_give 35 = .ok (.getfield 9, 3) := by decide +kernel
theorem d_Fr_give_38 : decode b_Fr_give 38 = .ok (.aload_n 0, 1) := by decide +kernel
theorem d_Fr_give_39 : decode b_Fr_give 39 = .ok (.dup, 1) := by decide +kernel
theorem d_Fr_give_40 : decode b_Fr_give 40 = .ok (.getfield 22, 3) := by decide +kernel
theorem d_Fr_give_43 : decode b_Fr_give 43 = .ok (.dup_x1, 1) := by decide +kernel
theorem d_Fr_give_44 : decode b_Fr_give 44 = .ok (.iconst 1, 1) := by decide +kernel
theorem d_Fr_give_45 : decode b_Fr_give 45 = .ok (.iadd, 1) := by decide +kernel
theorem d_Fr_give_46 : decode b_Fr_give 46 = .ok (.putfield 22, 3) := by decide +kernel
theorem d_Fr_give_49 : decode b_Fr_give 49 = .ok (.lload_n 1, 1) := by decide +kernel
theorem d_Fr_give_50 : decode b_Fr_give 50 = .ok (.bipush 56, 2) := by decide +kernel
theorem d_Fr_give_52 : decode b_Fr_give 52 = .ok (.bipush 8, 2) := by decide +kernel
theorem d_Fr_give_54 : decode b_Fr_give 54 = .ok (.iload 4, 2) := by decide +kernel
theorem d_Fr_give_56 : decode b_Fr_give 56 = .ok (.imul, 1) := by decide +kernel
theorem d_Fr_give_57 : decode b_Fr_give 57 = .ok (.isub, 1) := by decide +kernel
theorem d_Fr_give_58 : decode b_Fr_give 58 = .ok (.lshr, 1) := by decide +kernel
theorem d_Fr_give_59 : decode b_Fr_give 59 = .ok (.l2i, 1) := by decide +kernel
theorem d_Fr_give_60 : decode b_Fr_give 60 = .ok (.i2b, 1) := by decide +kernel
theorem d_Fr_give_61 : decode b_Fr_give 61 = .ok (.bastore, 1) := by decide +kernel
theorem d_Fr_give_62 : decode b_Fr_give 62 = .ok (.iinc 4 1, 3) := by decide +kernel
theorem d_Fr_give_65 : decode b_Fr_give 65 = .ok (.goto (-37), 3) := by decide +kernel
theorem d_Fr_give_68 : decode b_Fr_give 68 = .ok (.iconst 1, 1) := by decide +kernel
theorem d_Fr_give_69 : decode b_Fr_give 69 = .ok (.ireturn, 1) := by decide +kernel
theorem d_Fr_isPacket_0 : decode b_Fr_isPacket 0 = .ok (.iload_n 1, 1) := by decide +kernel
theorem d_Fr_isPacket_1 : decode b_Fr_isPacket 1 = .ok (.bipush 7, 2) := by decide +kernel
theorem d_Fr_isPacket_3 : decode b_Fr_isPacket 3 = .ok (.if_icmp .lt 38, 3) := by decide +kernel
theorem d_Fr_isPacket_6 : decode b_Fr_isPacket 6 = .ok (.iload_n 1, 1) := by decide +kernel
theorem d_Fr_isPacket_7 : decode b_Fr_isPacket 7 = .ok (.bipush 7, 2) := by decide +kernel
theorem d_Fr_isPacket_9 : decode b_Fr_isPacket 9 = .ok (.aload_n 0, 1) := by decide +kernel
theorem d_Fr_isPacket_10 : decode b_Fr_isPacket 10 = .ok (.getfield 9, 3) := by decide +kernel
theorem d_Fr_isPacket_13 : decode b_Fr_isPacket 13 = .ok (.iconst 4, 1) := by decide +kernel
theorem d_Fr_isPacket_14 : decode b_Fr_isPacket 14 = .ok (.baload, 1) := by decide +kernel
theorem d_Fr_isPacket_15 : decode b_Fr_isPacket 15 = .ok (.sipush 255, 3) := by decide +kernel
theorem d_Fr_isPacket_18 : decode b_Fr_isPacket 18 = .ok (.iand, 1) := by decide +kernel
theorem d_Fr_isPacket_19 : decode b_Fr_isPacket 19 = .ok (.bipush 8, 2) := by decide +kernel
theorem d_Fr_isPacket_21 : decode b_Fr_isPacket 21 = .ok (.ishl, 1) := by decide +kernel
theorem d_Fr_isPacket_22 : decode b_Fr_isPacket 22 = .ok (.aload_n 0, 1) := by decide +kernel
theorem d_Fr_isPacket_23 : decode b_Fr_isPacket 23 = .ok (.getfield 9, 3) := by decide +kernel
theorem d_Fr_isPacket_26 : decode b_Fr_isPacket 26 = .ok (.iconst 5, 1) := by decide +kernel
theorem d_Fr_isPacket_27 : decode b_Fr_isPacket 27 = .ok (.baload, 1) := by decide +kernel
theorem d_Fr_isPacket_28 : decode b_Fr_isPacket 28 = .ok (.sipush 255, 3) := by decide +kernel
theorem d_Fr_isPacket_31 : decode b_Fr_isPacket 31 = .ok (.iand, 1) := by decide +kernel
theorem d_Fr_isPacket_32 : decode b_Fr_isPacket 32 = .ok (.ior, 1) := by decide +kernel
theorem d_Fr_isPacket_33 : decode b_Fr_isPacket 33 = .ok (.iadd, 1) := by decide +kernel
theorem d_Fr_isPacket_34 : decode b_Fr_isPacket 34 = .ok (.if_icmp .ne 7, 3) := by decide +kernel
theorem d_Fr_isPacket_37 : decode b_Fr_isPacket 37 = .ok (.iconst 1, 1) := by decide +kernel
theorem d_Fr_isPacket_38 : decode b_Fr_isPacket 38 = .ok (.goto 4, 3) := by decide +kernel
theorem d_Fr_isPacket_41 : decode b_Fr_isPacket 41 = .ok (.iconst 0, 1) := by decide +kernel
theorem d_Fr_isPacket_42 : decode b_Fr_isPacket 42 = .ok (.ireturn, 1) := by decide +kernel
theorem d_Fr_send_0 : decode b_Fr_send 0 = .ok (.aload_n 0, 1) := by decide +kernel
theorem d_Fr_send_1 : decode b_Fr_send 1 = .ok (.getfield 22, 3) := by decide +kernel
theorem d_Fr_send_4 : decode b_Fr_send 4 = .ok (.istore_n 2, 1) := by decide +kernel
theorem d_Fr_send_5 : decode b_Fr_send 5 = .ok (.aload_n 0, 1) := by decide +kernel
theorem d_Fr_send_6 : decode b_Fr_send 6 = .ok (.iconst 0, 1) := by decide +kernel
theorem d_Fr_send_7 : decode b_Fr_send 7 = .ok (.putfield 22, 3) := by decide +kernel
theorem d_Fr_send_10 : decode b_Fr_send 10 = .ok (.iload_n 1, 1) := by decide +kernel
theorem d_Fr_send_11 : decode b_Fr_send 11 = .ok (.ifCond .lt 32, 3) := by decide +kernel
theorem d_Fr_send_14 : decode b_Fr_send 14 = .ok (.iload_n 1, 1) := by decide +kernel
theorem d_Fr_send_15 : decode b_Fr_send 15 = .ok (.iconst 2, 1) := by decide +kernel
theorem d_Fr_send_16 : decode b_Fr_send 16 = .ok (.if_icmp .ge 27, 3) := by decide +kernel
theorem d_Fr_send_19 : decode b_Fr_send 19 = .ok (.aload_n 0, 1) := by decide +kernel
theorem d_Fr_send_20 : decode b_Fr_send 20 = .ok (.iload_n 2, 1) := by decide +kernel
theorem d_Fr_send_21 : decode b_Fr_send 21 = .ok (.invokevirtual 28, 3) := by decide +kernel
theorem d_Fr_send_24 : decode b_Fr_send 24 = .ok (.ifCond .eq 19, 3) := by decide +kernel
theorem d_Fr_send_27 : decode b_Fr_send 27 = .ok (.aload_n 0, 1) := by decide +kernel
theorem d_Fr_send_28 : decode b_Fr_send 28 = .ok (.getfield 18, 3) := by decide +kernel
theorem d_Fr_send_31 : decode b_Fr_send 31 = .ok (.getfield 32, 3) := by decide +kernel
theorem d_Fr_send_34 : decode b_Fr_send 34 = .ok (.iload_n 1, 1) := by decide +kernel
theorem d_Fr_send_35 : decode b_Fr_send 35 = .ok (.aaload, 1) := by decide +kernel
theorem d_Fr_send_36 : decode b_Fr_send 36 = .ok (.iload_n 2, 1) := by decide +kernel
theorem d_Fr_send_37 : decode b_Fr_send 37 = .ok (.invokevirtual 36, 3) := by decide +kernel
theorem d_Fr_send_40 : decode b_Fr_send 40 = .ok (.ifCond .ne 5, 3) := by decide +kernel
theorem d_Fr_send_43 : decode b_Fr_send 43 = .ok (.iconst (-1), 1) := by decide +kernel
theorem d_Fr_send_44 : decode b_Fr_send 44 = .ok (.ireturn, 1) := by decide +kernel
theorem d_Fr_send_45 : decode b_Fr_send 45 = .ok (.aload_n 0, 1) := by decide +kernel
theorem d_Fr_send_46 : decode b_Fr_send 46 = .ok (.getfield 18, 3) := by decide +kernel
theorem d_Fr_send_49 : decode b_Fr_send 49 = .ok (.getfield 32, 3) := by decide +kernel
theorem d_Fr_send_52 : decode b_Fr_send 52 = .ok (.iload_n 1, 1) := by decide +kernel
theorem d_Fr_send_53 : decode b_Fr_send 53 = .ok (.aaload, 1) := by decide +kernel
theorem d_Fr_send_54 : decode b_Fr_send 54 = .ok (.aload_n 0, 1) := by decide +kernel
theorem d_Fr_send_55 : decode b_Fr_send 55 = .ok (.getfield 9, 3) := by decide +kernel
theorem d_Fr_send_58 : decode b_Fr_send 58 = .ok (.iload_n 2, 1) := by decide +kernel
theorem d_Fr_send_59 : decode b_Fr_send 59 = .ok (.invokevirtual 39, 3) := by decide +kernel
theorem d_Fr_send_62 : decode b_Fr_send 62 = .ok (.aload_n 0, 1) := by decide +kernel
theorem d_Fr_send_63 : decode b_Fr_send 63 = .ok (.getfield 18, 3) := by decide +kernel
theorem d_Fr_send_66 : decode b_Fr_send 66 = .ok (.getfield 32, 3) := by decide +kernel
theorem d_Fr_send_69 : decode b_Fr_send 69 = .ok (.iload_n 1, 1) := by decide +kernel
theorem d_Fr_send_70 : decode b_Fr_send 70 = .ok (.aaload, 1) := by decide +kernel
theorem d_Fr_send_71 : decode b_Fr_send 71 = .ok (.getfield 43, 3) := by decide +kernel
theorem d_Fr_send_74 : decode b_Fr_send 74 = .ok (.ireturn, 1) := by decide +kernel
theorem d_Fr_frame_0 : decode b_Fr_frame 0 = .ok (.aload_n 0, 1) := by decide +kernel
theorem d_Fr_frame_1 : decode b_Fr_frame 1 = .ok (.getfield 18, 3) := by decide +kernel
theorem d_Fr_frame_4 : decode b_Fr_frame 4 = .ok (.iload_n 1, 1) := by decide +kernel
theorem d_Fr_frame_5 : decode b_Fr_frame 5 = .ok (.invokevirtual 44, 3) := by decide +kernel
theorem d_Fr_frame_8 : decode b_Fr_frame 8 = .ok (.ireturn, 1) := by decide +kernel
theorem d_Fr_byteAt_0 : decode b_Fr_byteAt 0 = .ok (.iload_n 1, 1) := by decide +kernel
theorem d_Fr_byteAt_1 : decode b_Fr_byteAt 1 = .ok (.ifCond .lt 25, 3) := by decide +kernel
theorem d_Fr_byteAt_4 : decode b_Fr_byteAt 4 = .ok (.iload_n 1, 1) := by decide +kernel
theorem d_Fr_byteAt_5 : decode b_Fr_byteAt 5 = .ok (.aload_n 0, 1) := by decide +kernel
theorem d_Fr_byteAt_6 : decode b_Fr_byteAt 6 = .ok (.getfield 18, 3) := by decide +kernel
theorem d_Fr_byteAt_9 : decode b_Fr_byteAt 9 = .ok (.getfield 48, 3) := by decide +kernel
theorem d_Fr_byteAt_12 : decode b_Fr_byteAt 12 = .ok (.arraylength, 1) := by decide +kernel
theorem d_Fr_byteAt_13 : decode b_Fr_byteAt 13 = .ok (.if_icmp .ge 13, 3) := by decide +kernel
theorem d_Fr_byteAt_16 : decode b_Fr_byteAt 16 = .ok (.aload_n 0, 1) := by decide +kernel
theorem d_Fr_byteAt_17 : decode b_Fr_byteAt 17 = .ok (.getfield 18, 3) := by decide +kernel
theorem d_Fr_byteAt_20 : decode b_Fr_byteAt 20 = .ok (.getfield 51, 3) := by decide +kernel
theorem d_Fr_byteAt_23 : decode b_Fr_byteAt 23 = .ok (.ifCond .ne 7, 3) := by decide +kernel
theorem d_Fr_byteAt_26 : decode b_Fr_byteAt 26 = .ok (.iconst (-1), 1) := by decide +kernel
theorem d_Fr_byteAt_27 : decode b_Fr_byteAt 27 = .ok (.goto 16, 3) := by decide +kernel
theorem d_Fr_byteAt_30 : decode b_Fr_byteAt 30 = .ok (.aload_n 0, 1) := by decide +kernel
theorem d_Fr_byteAt_31 : decode b_Fr_byteAt 31 = .ok (.getfield 18, 3) := by decide +kernel
theorem d_Fr_byteAt_34 : decode b_Fr_byteAt 34 = .ok (.getfield 48, 3) := by decide +kernel
theorem d_Fr_byteAt_37 : decode b_Fr_byteAt 37 = .ok (.iload_n 1, 1) := by decide +kernel
theorem d_Fr_byteAt_38 : decode b_Fr_byteAt 38 = .ok (.baload, 1) := by decide +kernel
theorem d_Fr_byteAt_39 : decode b_Fr_byteAt 39 = .ok (.sipush 255, 3) := by decide +kernel
theorem d_Fr_byteAt_42 : decode b_Fr_byteAt 42 = .ok (.iand, 1) := by decide +kernel
theorem d_Fr_byteAt_43 : decode b_Fr_byteAt 43 = .ok (.ireturn, 1) := by decide +kernel
theorem d_Fr_waiting_0 : decode b_Fr_waiting 0 = .ok (.iload_n 1, 1) := by decide +kernel
theorem d_Fr_waiting_1 : decode b_Fr_waiting 1 = .ok (.ifCond .lt 8, 3) := by decide +kernel
theorem d_Fr_waiting_4 : decode b_Fr_waiting 4 = .ok (.iload_n 1, 1) := by decide +kernel
theorem d_Fr_waiting_5 : decode b_Fr_waiting 5 = .ok (.iconst 2, 1) := by decide +kernel
theorem d_Fr_waiting_6 : decode b_Fr_waiting 6 = .ok (.if_icmp .lt 7, 3) := by decide +kernel
theorem d_Fr_waiting_9 : decode b_Fr_waiting 9 = .ok (.iconst (-1), 1) := by decide +kernel
theorem d_Fr_waiting_10 : decode b_Fr_waiting 10 = .ok (.goto 15, 3) := by decide +kernel
theorem d_Fr_waiting_13 : decode b_Fr_waiting 13 = .ok (.aload_n 0, 1) := by decide +kernel
theorem d_Fr_waiting_14 : decode b_Fr_waiting 14 = .ok (.getfield 18, 3) := by decide +kernel
theorem d_Fr_waiting_17 : decode b_Fr_waiting 17 = .ok (.getfield 32, 3) := by decide +kernel
theorem d_Fr_waiting_20 : decode b_Fr_waiting 20 = .ok (.iload_n 1, 1) := by decide +kernel
theorem d_Fr_waiting_21 : decode b_Fr_waiting 21 = .ok (.aaload, 1) := by decide +kernel
theorem d_Fr_waiting_22 : decode b_Fr_waiting 22 = .ok (.getfield 43, 3) := by decide +kernel
theorem d_Fr_waiting_25 : decode b_Fr_waiting 25 = .ok (.ireturn, 1) := by decide +kernel
theorem d_Fr_count_0 : decode b_Fr_count 0 = .ok (.iload_n 1, 1) := by decide +kernel
theorem d_Fr_count_1 : decode b_Fr_count 1 = .ok (.tableswitch 91 0 5 #[39, 47, 57, 67, 77, 82], 39) := by decide +kernel
theorem d_Fr_count_40 : decode b_Fr_count 40 = .ok (.aload_n 0, 1) := by decide +kernel
theorem d_Fr_count_41 : decode b_Fr_count 41 = .ok (.getfield 18, 3) := by decide +kernel
theorem d_Fr_count_44 : decode b_Fr_count 44 = .ok (.getfield 51, 3) := by decide +kernel
theorem d_Fr_count_47 : decode b_Fr_count 47 = .ok (.ireturn, 1) := by decide +kernel
theorem d_Fr_count_48 : decode b_Fr_count 48 = .ok (.aload_n 0, 1) := by decide +kernel
theorem d_Fr_count_49 : decode b_Fr_count 49 = .ok (.getfield 18, 3) := by decide +kernel
theorem d_Fr_count_52 : decode b_Fr_count 52 = .ok (.getfield 54, 3) := by decide +kernel
theorem d_Fr_count_55 : decode b_Fr_count 55 = .ok (.iconst 0, 1) := by decide +kernel
theorem d_Fr_count_56 : decode b_Fr_count 56 = .ok (.iaload, 1) := by decide +kernel
theorem d_Fr_count_57 : decode b_Fr_count 57 = .ok (.ireturn, 1) := by decide +kernel
theorem d_Fr_count_58 : decode b_Fr_count 58 = .ok (.aload_n 0, 1) := by decide +kernel
theorem d_Fr_count_59 : decode b_Fr_count 59 = .ok (.getfield 18, 3) := by decide +kernel
theorem d_Fr_count_62 : decode b_Fr_count 62 = .ok (.getfield 54, 3) := by decide +kernel
theorem d_Fr_count_65 : decode b_Fr_count 65 = .ok (.iconst 1, 1) := by decide +kernel
theorem d_Fr_count_66 : decode b_Fr_count 66 = .ok (.iaload, 1) := by decide +kernel
theorem d_Fr_count_67 : decode b_Fr_count 67 = .ok (.ireturn, 1) := by decide +kernel
theorem d_Fr_count_68 : decode b_Fr_count 68 = .ok (.aload_n 0, 1) := by decide +kernel
theorem d_Fr_count_69 : decode b_Fr_count 69 = .ok (.getfield 18, 3) := by decide +kernel
theorem d_Fr_count_72 : decode b_Fr_count 72 = .ok (.getfield 54, 3) := by decide +kernel
theorem d_Fr_count_75 : decode b_Fr_count 75 = .ok (.iconst 2, 1) := by decide +kernel
theorem d_Fr_count_76 : decode b_Fr_count 76 = .ok (.iaload, 1) := by decide +kernel
theorem d_Fr_count_77 : decode b_Fr_count 77 = .ok (.ireturn, 1) := by decide +kernel
theorem d_Fr_count_78 : decode b_Fr_count 78 = .ok (.aload_n 0, 1) := by decide +kernel
theorem d_Fr_count_79 : decode b_Fr_count 79 = .ok (.getfield 22, 3) := by decide +kernel
theorem d_Fr_count_82 : decode b_Fr_count 82 = .ok (.ireturn, 1) := by decide +kernel
theorem d_Fr_count_83 : decode b_Fr_count 83 = .ok (.aload_n 0, 1) := by decide +kernel
theorem d_Fr_count_84 : decode b_Fr_count 84 = .ok (.getfield 18, 3) := by decide +kernel
theorem d_Fr_count_87 : decode b_Fr_count 87 = .ok (.getfield 48, 3) := by decide +kernel
theorem d_Fr_count_90 : decode b_Fr_count 90 = .ok (.arraylength, 1) := by decide +kernel
theorem d_Fr_count_91 : decode b_Fr_count 91 = .ok (.ireturn, 1) := by decide +kernel
theorem d_Fr_count_92 : decode b_Fr_count 92 = .ok (.iconst (-1), 1) := by decide +kernel
theorem d_Fr_count_93 : decode b_Fr_count 93 = .ok (.ireturn, 1) := by decide +kernel
theorem d_Mo_init_0 : decode b_Mo_init 0 = .ok (.aload_n 0, 1) := by decide +kernel
theorem d_Mo_init_1 : decode b_Mo_init 1 = .ok (.invokespecial 1, 3) := by decide +kernel
theorem d_Mo_init_4 : decode b_Mo_init 4 = .ok (.aload_n 0, 1) := by decide +kernel
theorem d_Mo_init_5 : decode b_Mo_init 5 = .ok (.sipush 1024, 3) := by decide +kernel
theorem d_Mo_init_8 : decode b_Mo_init 8 = .ok (.newarray .byte, 2) := by decide +kernel
theorem d_Mo_init_10 : decode b_Mo_init 10 = .ok (.putfield 7, 3) := by decide +kernel
theorem d_Mo_init_13 : decode b_Mo_init 13 = .ok (.aload_n 0, 1) := by decide +kernel
theorem d_Mo_init_14 : decode b_Mo_init 14 = .ok (.sipush 8400, 3) := by decide +kernel
theorem d_Mo_init_17 : decode b_Mo_init 17 = .ok (.newarray .byte, 2) := by decide +kernel
theorem d_Mo_init_19 : decode b_Mo_init 19 = .ok (.putfield 13, 3) := by decide +kernel
theorem d_Mo_init_22 : decode b_Mo_init 22 = .ok (.aload_n 0, 1) := by decide +kernel
theorem d_Mo_init_23 : decode b_Mo_init 23 = .ok (.sipush 8400, 3) := by decide +kernel
theorem d_Mo_init_26 : decode b_Mo_init 26 = .ok (.newarray .boolean, 2) := by decide +kernel
theorem d_Mo_init_28 : decode b_Mo_init 28 = .ok (.putfield 16, 3) := by decide +kernel
theorem d_Mo_init_31 : decode b_Mo_init 31 = .ok (.aload_n 0, 1) := by decide +kernel
theorem d_Mo_init_32 : decode b_Mo_init 32 = .ok (.iconst 2, 1) := by decide +kernel
theorem d_Mo_init_33 : decode b_Mo_init 33 = .ok (.newarray .int, 2) := by decide +kernel
theorem d_Mo_init_35 : decode b_Mo_init 35 = .ok (.putfield 20, 3) := by decide +kernel
theorem d_Mo_init_38 : decode b_Mo_init 38 = .ok (.aload_n 0, 1) := by decide +kernel
theorem d_Mo_init_39 : decode b_Mo_init 39 = .ok (.iconst 4, 1) := by decide +kernel
theorem d_Mo_init_40 : decode b_Mo_init 40 = .ok (.newarray .int, 2) := by decide +kernel
theorem d_Mo_init_42 : decode b_Mo_init 42 = .ok (.putfield 24, 3) := by decide +kernel
theorem d_Mo_init_45 : decode b_Mo_init 45 = .ok (.aload_n 0, 1) := by decide +kernel
theorem d_Mo_init_46 : decode b_Mo_init 46 = .ok (.sipush 256, 3) := by decide +kernel
theorem d_Mo_init_49 : decode b_Mo_init 49 = .ok (.newarray .byte, 2) := by decide +kernel
theorem d_Mo_init_51 : decode b_Mo_init 51 = .ok (.putfield 27, 3) := by decide +kernel
theorem d_Mo_init_54 : decode b_Mo_init 54 = .ok (.aload_n 0, 1) := by decide +kernel
theorem d_Mo_init_55 : decode b_Mo_init 55 = .ok (.iload_n 1, 1) := by decide +kernel
theorem d_Mo_init_56 : decode b_Mo_init 56 = .ok (.bipush 64, 2) := by decide +kernel
theorem d_Mo_init_58 : decode b_Mo_init 58 = .ok (.if_icmp .ge 8, 3) := by decide +kernel
theorem d_Mo_init_61 : decode b_Mo_init 61 = .ok (.bipush 64, 2) := by decide +kernel
theorem d_Mo_init_63 : decode b_Mo_init 63 = .ok (.goto 17, 3) := by decide +kernel
theorem d_Mo_init_66 : decode b_Mo_init 66 = .ok (.iload_n 1, 1) := by decide +kernel
end
section
theorem d_Mo_init_67 : decode b_Mo_init 67 = .ok (.sipush 256, 3) := by decide +kernel
theorem d_Mo_init_70 : decode b_Mo_init 70 = .ok (.if_icmp .le 9, 3) := by decide +kernel
theorem d_Mo_init_73 : decode b_Mo_init 73 = .ok (.sipush 256, 3) := by decide +kernel
theorem d_Mo_init_76 : decode b_Mo_init 76 = .ok (.goto 4, 3) := by decide +kernel
theorem d_Mo_init_79 : decode b_Mo_init 79 = .ok (.iload_n 1, 1) := by decide +kernel
theorem d_Mo_init_80 : decode b_Mo_init 80 = .ok (.putfield 30, 3) := by decide +kernel
theorem d_Mo_init_83 : decode b_Mo_init 83 = .ok (.return_, 1) := by decide +kernel
theorem d_Mo_give_0 : decode b_Mo_give 0 = .ok (.aload_n 0, 1) := by decide +kernel
theorem d_Mo_give_1 : decode b_Mo_give 1 = .ok (.iconst 0, 1) := by decide +kernel
theorem d_Mo_give_2 : decode b_Mo_give 2 = .ok (.putfield 34, 3) := by decide +kernel
theorem d_Mo_give_5 : decode b_Mo_give 5 = .ok (.iload_n 3, 1) := by decide +kernel
theorem d_Mo_give_6 : decode b_Mo_give 6 = .ok (.iconst 1, 1) := by decide +kernel
theorem d_Mo_give_7 : decode b_Mo_give 7 = .ok (.if_icmp .lt 21, 3) := by decide +kernel
theorem d_Mo_give_10 : decode b_Mo_give 10 = .ok (.iload_n 3, 1) := by decide +kernel
theorem d_Mo_give_11 : decode b_Mo_give 11 = .ok (.bipush 8, 2) := by decide +kernel
theorem d_Mo_give_13 : decode b_Mo_give 13 = .ok (.if_icmp .gt 15, 3) := by decide +kernel
theorem d_Mo_give_16 : decode b_Mo_give 16 = .ok (.aload_n 0, 1) := by decide +kernel
theorem d_Mo_give_17 : decode b_Mo_give 17 = .ok (.getfield 37, 3) := by decide +kernel
theorem d_Mo_give_20 : decode b_Mo_give 20 = .ok (.sipush 1024, 3) := by decide +kernel
theorem d_Mo_give_23 : decode b_Mo_give 23 = .ok (.iload_n 3, 1) := by decide +kernel
theorem d_Mo_give_24 : decode b_Mo_give 24 = .ok (.isub, 1) := by decide +kernel
theorem d_Mo_give_25 : decode b_Mo_give 25 = .ok (.if_icmp .le 5, 3) := by decide +kernel
theorem d_Mo_give_28 : decode b_Mo_give 28 = .ok (.iconst 0, 1) := by decide +kernel
theorem d_Mo_give_29 : decode b_Mo_give 29 = .ok (.ireturn, 1) := by decide +kernel
theorem d_Mo_give_30 : decode b_Mo_give 30 = .ok (.iconst 0, 1) := by decide +kernel
theorem d_Mo_give_31 : decode b_Mo_give 31 = .ok (.istore 4, 2) := by decide +kernel
theorem d_Mo_give_33 : decode b_Mo_give 33 = .ok (.iload 4, 2) := by decide +kernel
theorem d_Mo_give_35 : decode b_Mo_give 35 = .ok (.iload_n 3, 1) := by decide +kernel
theorem d_Mo_give_36 : decode b_Mo_give 36 = .ok (.if_icmp .ge 33, 3) := by decide +kernel
theorem d_Mo_give_39 : decode b_Mo_give 39 = .ok (.aload_n 0, 1) := by decide +kernel
theorem d_Mo_give_40 : decode b_Mo_give 40 = .ok (.getfield 7, 3) := by decide +kernel
theorem d_Mo_give_43 : decode b_Mo_give 43 = .ok (.aload_n 0, 1) := by decide +kernel
theorem d_Mo_give_44 : decode b_Mo_give 44 = .ok (.getfield 37, 3) := by decide +kernel
theorem d_Mo_give_47 : decode b_Mo_give 47 = .ok (.iload 4, 2) := by decide +kernel
theorem d_Mo_give_49 : decode b_Mo_give 49 = .ok (.iadd, 1) := by decide +kernel
theorem d_Mo_give_50 : decode b_Mo_give 50 = .ok (.lload_n 1, 1) := by decide +kernel
theorem d_Mo_give_51 : decode b_Mo_give 51 = .ok (.bipush 56, 2) := by decide +kernel
theorem d_Mo_give_53 : decode b_Mo_give 53 = .ok (.bipush 8, 2) := by decide +kernel
theorem d_Mo_give_55 : decode b_Mo_give 55 = .ok (.iload 4, 2) := by decide +kernel
theorem d_Mo_give_57 : decode b_Mo_give 57 = .ok (.imul, 1) := by decide +kernel
theorem d_Mo_give_58 : decode b_Mo_give 58 = .ok (.isub, 1) := by decide +kernel
theorem d_Mo_give_59 : decode b_Mo_give 59 = .ok (.lshr, 1) := by decide +kernel
theorem d_Mo_give_60 : decode b_Mo_give 60 = .ok (.l2i, 1) := by decide +kernel
theorem d_Mo_give_61 : decode b_Mo_give 61 = .ok (.i2b, 1) := by decide +kernel
theorem d_Mo_give_62 : decode b_Mo_give 62 = .ok (.bastore, 1) := by decide +kernel
theorem d_Mo_give_63 : decode b_Mo_give 63 = .ok (.iinc 4 1, 3) := by decide +kernel
theorem d_Mo_give_66 : decode b_Mo_give 66 = .ok (.goto (-33), 3) := by decide +kernel
theorem d_Mo_give_69 : decode b_Mo_give 69 = .ok (.aload_n 0, 1) := by decide +kernel
theorem d_Mo_give_70 : decode b_Mo_give 70 = .ok (.dup, 1) := by decide +kernel
theorem d_Mo_give_71 : decode b_Mo_give 71 = .ok (.getfield 37, 3) := by decide +kernel
theorem d_Mo_give_74 : decode b_Mo_give 74 = .ok (.iload_n 3, 1) := by decide +kernel
theorem d_Mo_give_75 : decode b_Mo_give 75 = .ok (.iadd, 1) := by decide +kernel
theorem d_Mo_give_76 : decode b_Mo_give 76 = .ok (.putfield 37, 3) := by decide +kernel
theorem d_Mo_give_79 : decode b_Mo_give 79 = .ok (.iconst 1, 1) := by decide +kernel
theorem d_Mo_give_80 : decode b_Mo_give 80 = .ok (.ireturn, 1) := by decide +kernel
theorem d_Mo_wait_0 : decode b_Mo_wait 0 = .ok (.aload_n 0, 1) := by decide +kernel
theorem d_Mo_wait_1 : decode b_Mo_wait 1 = .ok (.getfield 13, 3) := by decide +kernel
theorem d_Mo_wait_4 : decode b_Mo_wait 4 = .ok (.sipush 4200, 3) := by decide +kernel
theorem d_Mo_wait_7 : decode b_Mo_wait 7 = .ok (.iload_n 1, 1) := by decide +kernel
theorem d_Mo_wait_8 : decode b_Mo_wait 8 = .ok (.imul, 1) := by decide +kernel
theorem d_Mo_wait_9 : decode b_Mo_wait 9 = .ok (.aload_n 0, 1) := by decide +kernel
theorem d_Mo_wait_10 : decode b_Mo_wait 10 = .ok (.getfield 20, 3) := by decide +kernel
theorem d_Mo_wait_13 : decode b_Mo_wait 13 = .ok (.iload_n 1, 1) := by decide +kernel
theorem d_Mo_wait_14 : decode b_Mo_wait 14 = .ok (.iaload, 1) := by decide +kernel
theorem d_Mo_wait_15 : decode b_Mo_wait 15 = .ok (.iadd, 1) := by decide +kernel
theorem d_Mo_wait_16 : decode b_Mo_wait 16 = .ok (.iload_n 2, 1) := by decide +kernel
theorem d_Mo_wait_17 : decode b_Mo_wait 17 = .ok (.i2b, 1) := by decide +kernel
theorem d_Mo_wait_18 : decode b_Mo_wait 18 = .ok (.bastore, 1) := by decide +kernel
theorem d_Mo_wait_19 : decode b_Mo_wait 19 = .ok (.aload_n 0, 1) := by decide +kernel
theorem d_Mo_wait_20 : decode b_Mo_wait 20 = .ok (.getfield 16, 3) := by decide +kernel
theorem d_Mo_wait_23 : decode b_Mo_wait 23 = .ok (.sipush 4200, 3) := by decide +kernel
theorem d_Mo_wait_26 : decode b_Mo_wait 26 = .ok (.iload_n 1, 1) := by decide +kernel
theorem d_Mo_wait_27 : decode b_Mo_wait 27 = .ok (.imul, 1) := by decide +kernel
theorem d_Mo_wait_28 : decode b_Mo_wait 28 = .ok (.aload_n 0, 1) := by decide +kernel
theorem d_Mo_wait_29 : decode b_Mo_wait 29 = .ok (.getfield 20, 3) := by decide +kernel
theorem d_Mo_wait_32 : decode b_Mo_wait 32 = .ok (.iload_n 1, 1) := by decide +kernel
theorem d_Mo_wait_33 : decode b_Mo_wait 33 = .ok (.iaload, 1) := by decide +kernel
theorem d_Mo_wait_34 : decode b_Mo_wait 34 = .ok (.iadd, 1) := by decide +kernel
theorem d_Mo_wait_35 : decode b_Mo_wait 35 = .ok (.iload_n 3, 1) := by decide +kernel
theorem d_Mo_wait_36 : decode b_Mo_wait 36 = .ok (.bastore, 1) := by decide +kernel
theorem d_Mo_wait_37 : decode b_Mo_wait 37 = .ok (.aload_n 0, 1) := by decide +kernel
theorem d_Mo_wait_38 : decode b_Mo_wait 38 = .ok (.getfield 20, 3) := by decide +kernel
theorem d_Mo_wait_41 : decode b_Mo_wait 41 = .ok (.iload_n 1, 1) := by decide +kernel
theorem d_Mo_wait_42 : decode b_Mo_wait 42 = .ok (.dup2, 1) := by decide +kernel
theorem d_Mo_wait_43 : decode b_Mo_wait 43 = .ok (.iaload, 1) := by decide +kernel
theorem d_Mo_wait_44 : decode b_Mo_wait 44 = .ok (.iconst 1, 1) := by decide +kernel
theorem d_Mo_wait_45 : decode b_Mo_wait 45 = .ok (.iadd, 1) := by decide +kernel
theorem d_Mo_wait_46 : decode b_Mo_wait 46 = .ok (.iastore, 1) := by decide +kernel
theorem d_Mo_wait_47 : decode b_Mo_wait 47 = .ok (.return_, 1) := by decide +kernel
theorem d_Mo_send_0 : decode b_Mo_send 0 = .ok (.aload_n 0, 1) := by decide +kernel
theorem d_Mo_send_1 : decode b_Mo_send 1 = .ok (.iconst 0, 1) := by decide +kernel
theorem d_Mo_send_2 : decode b_Mo_send 2 = .ok (.putfield 34, 3) := by decide +kernel
theorem d_Mo_send_5 : decode b_Mo_send 5 = .ok (.aload_n 0, 1) := by decide +kernel
theorem d_Mo_send_6 : decode b_Mo_send 6 = .ok (.getfield 37, 3) := by decide +kernel
theorem d_Mo_send_9 : decode b_Mo_send 9 = .ok (.istore_n 2, 1) := by decide +kernel
theorem d_Mo_send_10 : decode b_Mo_send 10 = .ok (.aload_n 0, 1) := by decide +kernel
theorem d_Mo_send_11 : decode b_Mo_send 11 = .ok (.iconst 0, 1) := by decide +kernel
theorem d_Mo_send_12 : decode b_Mo_send 12 = .ok (.putfield 37, 3) := by decide +kernel
theorem d_Mo_send_15 : decode b_Mo_send 15 = .ok (.iload_n 2, 1) := by decide +kernel
theorem d_Mo_send_16 : decode b_Mo_send 16 = .ok (.bipush 6, 2) := by decide +kernel
theorem d_Mo_send_18 : decode b_Mo_send 18 = .ok (.if_icmp .le 39, 3) := by decide +kernel
theorem d_Mo_send_21 : decode b_Mo_send 21 = .ok (.iload_n 2, 1) := by decide +kernel
theorem d_Mo_send_22 : decode b_Mo_send 22 = .ok (.bipush 7, 2) := by decide +kernel
theorem d_Mo_send_24 : decode b_Mo_send 24 = .ok (.sipush 256, 3) := by decide +kernel
theorem d_Mo_send_27 : decode b_Mo_send 27 = .ok (.aload_n 0, 1) := by decide +kernel
theorem d_Mo_send_28 : decode b_Mo_send 28 = .ok (.getfield 7, 3) := by decide +kernel
theorem d_Mo_send_31 : decode b_Mo_send 31 = .ok (.iconst 4, 1) := by decide +kernel
theorem d_Mo_send_32 : decode b_Mo_send 32 = .ok (.baload, 1) := by decide +kernel
theorem d_Mo_send_33 : decode b_Mo_send 33 = .ok (.sipush 255, 3) := by decide +kernel
theorem d_Mo_send_36 : decode b_Mo_send 36 = .ok (.iand, 1) := by decide +kernel
theorem d_Mo_send_37 : decode b_Mo_send 37 = .ok (.imul, 1) := by decide +kernel
theorem d_Mo_send_38 : decode b_Mo_send 38 = .ok (.iadd, 1) := by decide +kernel
theorem d_Mo_send_39 : decode b_Mo_send 39 = .ok (.aload_n 0, 1) := by decide +kernel
theorem d_Mo_send_40 : decode b_Mo_send 40 = .ok (.getfield 7, 3) := by decide +kernel
theorem d_Mo_send_43 : decode b_Mo_send 43 = .ok (.iconst 5, 1) := by decide +kernel
theorem d_Mo_send_44 : decode b_Mo_send 44 = .ok (.baload, 1) := by decide +kernel
theorem d_Mo_send_45 : decode b_Mo_send 45 = .ok (.sipush 255, 3) := by decide +kernel
theorem d_Mo_send_48 : decode b_Mo_send 48 = .ok (.iand, 1) := by decide +kernel
theorem d_Mo_send_49 : decode b_Mo_send 49 = .ok (.iadd, 1) := by decide +kernel
theorem d_Mo_send_50 : decode b_Mo_send 50 = .ok (.if_icmp .ne 7, 3) := by decide +kernel
theorem d_Mo_send_53 : decode b_Mo_send 53 = .ok (.iconst 1, 1) := by decide +kernel
theorem d_Mo_send_54 : decode b_Mo_send 54 = .ok (.goto 4, 3) := by decide +kernel
theorem d_Mo_send_57 : decode b_Mo_send 57 = .ok (.iconst 0, 1) := by decide +kernel
theorem d_Mo_send_58 : decode b_Mo_send 58 = .ok (.istore_n 3, 1) := by decide +kernel
theorem d_Mo_send_59 : decode b_Mo_send 59 = .ok (.iload_n 1, 1) := by decide +kernel
theorem d_Mo_send_60 : decode b_Mo_send 60 = .ok (.ifCond .lt 26, 3) := by decide +kernel
theorem d_Mo_send_63 : decode b_Mo_send 63 = .ok (.iload_n 1, 1) := by decide +kernel
theorem d_Mo_send_64 : decode b_Mo_send 64 = .ok (.iconst 1, 1) := by decide +kernel
theorem d_Mo_send_65 : decode b_Mo_send 65 = .ok (.if_icmp .gt 21, 3) := by decide +kernel
theorem d_Mo_send_68 : decode b_Mo_send 68 = .ok (.iload_n 3, 1) := by decide +kernel
theorem d_Mo_send_69 : decode b_Mo_send 69 = .ok (.ifCond .eq 17, 3) := by decide +kernel
theorem d_Mo_send_72 : decode b_Mo_send 72 = .ok (.aload_n 0, 1) := by decide +kernel
theorem d_Mo_send_73 : decode b_Mo_send 73 = .ok (.getfield 20, 3) := by decide +kernel
theorem d_Mo_send_76 : decode b_Mo_send 76 = .ok (.iload_n 1, 1) := by decide +kernel
theorem d_Mo_send_77 : decode b_Mo_send 77 = .ok (.iaload, 1) := by decide +kernel
theorem d_Mo_send_78 : decode b_Mo_send 78 = .ok (.iload_n 2, 1) := by decide +kernel
theorem d_Mo_send_79 : decode b_Mo_send 79 = .ok (.iadd, 1) := by decide +kernel
theorem d_Mo_send_80 : decode b_Mo_send 80 = .ok (.sipush 4096, 3) := by decide +kernel
theorem d_Mo_send_83 : decode b_Mo_send 83 = .ok (.if_icmp .le 5, 3) := by decide +kernel
theorem d_Mo_send_86 : decode b_Mo_send 86 = .ok (.iconst (-1), 1) := by decide +kernel
theorem d_Mo_send_87 : decode b_Mo_send 87 = .ok (.ireturn, 1) := by decide +kernel
theorem d_Mo_send_88 : decode b_Mo_send 88 = .ok (.iconst 0, 1) := by decide +kernel
theorem d_Mo_send_89 : decode b_Mo_send 89 = .ok (.istore 4, 2) := by decide +kernel
theorem d_Mo_send_91 : decode b_Mo_send 91 = .ok (.iload 4, 2) := by decide +kernel
theorem d_Mo_send_93 : decode b_Mo_send 93 = .ok (.iload_n 2, 1) := by decide +kernel
theorem d_Mo_send_94 : decode b_Mo_send 94 = .ok (.if_icmp .ge 31, 3) := by decide +kernel
theorem d_Mo_send_97 : decode b_Mo_send 97 = .ok (.aload_n 0, 1) := by decide +kernel
theorem d_Mo_send_98 : decode b_Mo_send 98 = .ok (.iload_n 1, 1) := by decide +kernel
theorem d_Mo_send_99 : decode b_Mo_send 99 = .ok (.aload_n 0, 1) := by decide +kernel
theorem d_Mo_send_100 : decode b_Mo_send 100 = .ok (.getfield 7, 3) := by decide +kernel
theorem d_Mo_send_103 : decode b_Mo_send 103 = .ok (.iload 4, 2) := by decide +kernel
theorem d_Mo_send_105 : decode b_Mo_send 105 = .ok (.baload, 1) := by decide +kernel
theorem d_Mo_send_106 : decode b_Mo_send 106 = .ok (.iload 4, 2) := by decide +kernel
theorem d_Mo_send_108 : decode b_Mo_send 108 = .ok (.ifCond .ne 7, 3) := by decide +kernel
theorem d_Mo_send_111 : decode b_Mo_send 111 = .ok (.iconst 1, 1) := by decide +kernel
theorem d_Mo_send_112 : decode b_Mo_send 112 = .ok (.goto 4, 3) := by decide +kernel
theorem d_Mo_send_115 : decode b_Mo_send 115 = .ok (.iconst 0, 1) := by decide +kernel
theorem d_Mo_send_116 : decode b_Mo_send 116 = .ok (.invokevirtual 40, 3) := by decide +kernel
theorem d_Mo_send_119 : decode b_Mo_send 119 = .ok (.iinc 4 1, 3) := by decide +kernel
theorem d_Mo_send_122 : decode b_Mo_send 122 = .ok (.goto (-31), 3) := by decide +kernel
theorem d_Mo_send_125 : decode b_Mo_send 125 = .ok (.aload_n 0, 1) := by decide +kernel
theorem d_Mo_send_126 : decode b_Mo_send 126 = .ok (.getfield 20, 3) := by decide +kernel
theorem d_Mo_send_129 : decode b_Mo_send 129 = .ok (.iload_n 1, 1) := by decide +kernel
theorem d_Mo_send_130 : decode b_Mo_send 130 = .ok (.iaload, 1) := by decide +kernel
theorem d_Mo_send_131 : decode b_Mo_send 131 = .ok (.ireturn, 1) := by decide +kernel
theorem d_Mo_add_0 : decode b_Mo_add 0 = .ok (.aload_n 0, 1) := by decide +kernel
theorem d_Mo_add_1 : decode b_Mo_add 1 = .ok (.getfield 27, 3) := by decide +kernel
theorem d_Mo_add_4 : decode b_Mo_add 4 = .ok (.aload_n 0, 1) := by decide +kernel
theorem d_Mo_add_5 : decode b_Mo_add 5 = .ok (.getfield 44, 3) := by decide +kernel
theorem d_Mo_add_8 : decode b_Mo_add 8 = .ok (.iload_n 1, 1) := by decide +kernel
theorem d_Mo_add_9 : decode b_Mo_add 9 = .ok (.i2b, 1) := by decide +kernel
theorem d_Mo_add_10 : decode b_Mo_add 10 = .ok (.bastore, 1) := by decide +kernel
theorem d_Mo_add_11 : decode b_Mo_add 11 = .ok (.aload_n 0, 1) := by decide +kernel
theorem d_Mo_add_12 : decode b_Mo_add 12 = .ok (.dup, 1) := by decide +kernel
theorem d_Mo_add_13 : decode b_Mo_add 13 = .ok (.getfield 44, 3) := by decide +kernel
theorem d_Mo_add_16 : decode b_Mo_add 16 = .ok (.iconst 1, 1) := by decide +kernel
theorem d_Mo_add_17 : decode b_Mo_add 17 = .ok (.iadd, 1) := by decide +kernel
theorem d_Mo_add_18 : decode b_Mo_add 18 = .ok (.putfield 44, 3) := by decide +kernel
theorem d_Mo_add_21 : decode b_Mo_add 21 = .ok (.return_, 1) := by decide +kernel
theorem d_Mo_check_0 : decode b_Mo_check 0 = .ok (.ldc 47, 2) := by decide +kernel
theorem d_Mo_check_2 : decode b_Mo_check 2 = .ok (.istore_n 1, 1) := by decide +kernel
theorem d_Mo_check_3 : decode b_Mo_check 3 = .ok (.iconst 0, 1) := by decide +kernel
theorem d_Mo_check_4 : decode b_Mo_check 4 = .ok (.istore_n 2, 1) := by decide +kernel
theorem d_Mo_check_5 : decode b_Mo_check 5 = .ok (.iload_n 2, 1) := by decide +kernel
theorem d_Mo_check_6 : decode b_Mo_check 6 = .ok (.aload_n 0, 1) := by decide +kernel
theorem d_Mo_check_7 : decode b_Mo_check 7 = .ok (.getfield 44, 3) := by decide +kernel
theorem d_Mo_check_10 : decode b_Mo_check 10 = .ok (.if_icmp .ge 59, 3) := by decide +kernel
theorem d_Mo_check_13 : decode b_Mo_check 13 = .ok (.iload_n 1, 1) := by decide +kernel
theorem d_Mo_check_14 : decode b_Mo_check 14 = .ok (.aload_n 0, 1) := by decide +kernel
theorem d_Mo_check_15 : decode b_Mo_check 15 = .ok (.getfield 27, 3) := by decide +kernel
theorem d_Mo_check_18 : decode b_Mo_check 18 = .ok (.iload_n 2, 1) := by decide +kernel
theorem d_Mo_check_19 : decode b_Mo_check 19 = .ok (.baload, 1) := by decide +kernel
theorem d_Mo_check_20 : decode b_Mo_check 20 = .ok (.sipush 255, 3) := by decide +kernel
theorem d_Mo_check_23 : decode b_Mo_check 23 = .ok (.iand, 1) := by decide +kernel
theorem d_Mo_check_24 : decode b_Mo_check 24 = .ok (.sipush 256, 3) := by decide +kernel
theorem d_Mo_check_27 : decode b_Mo_check 27 = .ok (.imul, 1) := by decide +kernel
theorem d_Mo_check_28 : decode b_Mo_check 28 = .ok (.ixor, 1) := by decide +kernel
theorem d_Mo_check_29 : decode b_Mo_check 29 = .ok (.istore_n 1, 1) := by decide +kernel
theorem d_Mo_check_30 : decode b_Mo_check 30 = .ok (.iconst 0, 1) := by decide +kernel
theorem d_Mo_check_31 : decode b_Mo_check 31 = .ok (.istore_n 3, 1) := by decide +kernel
theorem d_Mo_check_32 : decode b_Mo_check 32 = .ok (.iload_n 3, 1) := by decide +kernel
theorem d_Mo_check_33 : decode b_Mo_check 33 = .ok (.bipush 8, 2) := by decide +kernel
theorem d_Mo_check_35 : decode b_Mo_check 35 = .ok (.if_icmp .ge 28, 3) := by decide +kernel
theorem d_Mo_check_38 : decode b_Mo_check 38 = .ok (.iconst 2, 1) := by decide +kernel
theorem d_Mo_check_39 : decode b_Mo_check 39 = .ok (.iload_n 1, 1) := by decide +kernel
theorem d_Mo_check_40 : decode b_Mo_check 40 = .ok (.imul, 1) := by decide +kernel
theorem d_Mo_check_41 : decode b_Mo_check 41 = .ok (.istore_n 1, 1) := by decide +kernel
theorem d_Mo_check_42 : decode b_Mo_check 42 = .ok (.iload_n 1, 1) := by decide +kernel
theorem d_Mo_check_43 : decode b_Mo_check 43 = .ok (.ldc 48, 2) := by decide +kernel
theorem d_Mo_check_45 : decode b_Mo_check 45 = .ok (.if_icmp .lt 10, 3) := by decide +kernel
theorem d_Mo_check_48 : decode b_Mo_check 48 = .ok (.iload_n 1, 1) := by decide +kernel
theorem d_Mo_check_49 : decode b_Mo_check 49 = .ok (.ldc 49, 2) := by decide +kernel
theorem d_Mo_check_51 : decode b_Mo_check 51 = .ok (.ixor, 1) := by decide +kernel
theorem d_Mo_check_52 : decode b_Mo_check 52 = .ok (.goto 4, 3) := by decide +kernel
theorem d_Mo_check_55 : decode b_Mo_check 55 = .ok (.iload_n 1, 1) := by decide +kernel
theorem d_Mo_check_56 : decode b_Mo_check 56 = .ok (.istore_n 1, 1) := by decide +kernel
theorem d_Mo_check_57 : decode b_Mo_check 57 = .ok (.iinc 3 1, 3) := by decide +kernel
theorem d_Mo_check_60 : decode b_Mo_check 60 = .ok (.goto (-28), 3) := by decide +kernel
theorem d_Mo_check_63 : decode b_Mo_check 63 = .ok (.iinc 2 1, 3) := by decide +kernel
theorem d_Mo_check_66 : decode b_Mo_check 66 = .ok (.goto (-61), 3) := by decide +kernel
theorem d_Mo_check_69 : decode b_Mo_check 69 = .ok (.iload_n 1, 1) := by decide +kernel
theorem d_Mo_check_70 : decode b_Mo_check 70 = .ok (.ireturn, 1) := by decide +kernel
theorem d_Mo_fills_0 : decode b_Mo_fills 0 = .ok (.iload_n 2, 1) := by decide +kernel
theorem d_Mo_fills_1 : decode b_Mo_fills 1 = .ok (.bipush 7, 2) := by decide +kernel
theorem d_Mo_fills_3 : decode b_Mo_fills 3 = .ok (.isub, 1) := by decide +kernel
theorem d_Mo_fills_4 : decode b_Mo_fills 4 = .ok (.istore_n 3, 1) := by decide +kernel
theorem d_Mo_fills_5 : decode b_Mo_fills 5 = .ok (.aload_n 0, 1) := by decide +kernel
theorem d_Mo_fills_6 : decode b_Mo_fills 6 = .ok (.iload_n 1, 1) := by decide +kernel
theorem d_Mo_fills_7 : decode b_Mo_fills 7 = .ok (.bipush 7, 2) := by decide +kernel
theorem d_Mo_fills_9 : decode b_Mo_fills 9 = .ok (.iconst 1, 1) := by decide +kernel
theorem d_Mo_fills_10 : decode b_Mo_fills 10 = .ok (.invokevirtual 40, 3) := by decide +kernel
theorem d_Mo_fills_13 : decode b_Mo_fills 13 = .ok (.aload_n 0, 1) := by decide +kernel
theorem d_Mo_fills_14 : decode b_Mo_fills 14 = .ok (.iload_n 1, 1) := by decide +kernel
theorem d_Mo_fills_15 : decode b_Mo_fills 15 = .ok (.sipush 255, 3) := by decide +kernel
theorem d_Mo_fills_18 : decode b_Mo_fills 18 = .ok (.iconst 0, 1) := by decide +kernel
theorem d_Mo_fills_19 : decode b_Mo_fills 19 = .ok (.invokevirtual 40, 3) := by decide +kernel
theorem d_Mo_fills_22 : decode b_Mo_fills 22 = .ok (.aload_n 0, 1) := by decide +kernel
theorem d_Mo_fills_23 : decode b_Mo_fills 23 = .ok (.iload_n 1, 1) := by decide +kernel
theorem d_Mo_fills_24 : decode b_Mo_fills 24 = .ok (.sipush 192, 3) := by decide +kernel
theorem d_Mo_fills_27 : decode b_Mo_fills 27 = .ok (.iconst 0, 1) := by decide +kernel
end
section
theorem d_Mo_fills_28 : decode b_Mo_fills 28 = .ok (.invokevirtual 40, 3) := by decide +kernel
theorem d_Mo_fills_31 : decode b_Mo_fills 31 = .ok (.aload_n 0, 1) := by decide +kernel
theorem d_Mo_fills_32 : decode b_Mo_fills 32 = .ok (.iload_n 1, 1) := by decide +kernel
theorem d_Mo_fills_33 : decode b_Mo_fills 33 = .ok (.iconst 0, 1) := by decide +kernel
theorem d_Mo_fills_34 : decode b_Mo_fills 34 = .ok (.iconst 0, 1) := by decide +kernel
theorem d_Mo_fills_35 : decode b_Mo_fills 35 = .ok (.invokevirtual 40, 3) := by decide +kernel
theorem d_Mo_fills_38 : decode b_Mo_fills 38 = .ok (.aload_n 0, 1) := by decide +kernel
theorem d_Mo_fills_39 : decode b_Mo_fills 39 = .ok (.iload_n 1, 1) := by decide +kernel
theorem d_Mo_fills_40 : decode b_Mo_fills 40 = .ok (.iload_n 3, 1) := by decide +kernel
theorem d_Mo_fills_41 : decode b_Mo_fills 41 = .ok (.sipush 256, 3) := by decide +kernel
theorem d_Mo_fills_44 : decode b_Mo_fills 44 = .ok (.idiv, 1) := by decide +kernel
theorem d_Mo_fills_45 : decode b_Mo_fills 45 = .ok (.iconst 0, 1) := by decide +kernel
theorem d_Mo_fills_46 : decode b_Mo_fills 46 = .ok (.invokevirtual 40, 3) := by decide +kernel
theorem d_Mo_fills_49 : decode b_Mo_fills 49 = .ok (.aload_n 0, 1) := by decide +kernel
theorem d_Mo_fills_50 : decode b_Mo_fills 50 = .ok (.iload_n 1, 1) := by decide +kernel
theorem d_Mo_fills_51 : decode b_Mo_fills 51 = .ok (.iload_n 3, 1) := by decide +kernel
theorem d_Mo_fills_52 : decode b_Mo_fills 52 = .ok (.iconst 0, 1) := by decide +kernel
theorem d_Mo_fills_53 : decode b_Mo_fills 53 = .ok (.invokevirtual 40, 3) := by decide +kernel
theorem d_Mo_fills_56 : decode b_Mo_fills 56 = .ok (.bipush 6, 2) := by decide +kernel
theorem d_Mo_fills_58 : decode b_Mo_fills 58 = .ok (.istore 4, 2) := by decide +kernel
theorem d_Mo_fills_60 : decode b_Mo_fills 60 = .ok (.iload 4, 2) := by decide +kernel
theorem d_Mo_fills_62 : decode b_Mo_fills 62 = .ok (.iload_n 2, 1) := by decide +kernel
theorem d_Mo_fills_63 : decode b_Mo_fills 63 = .ok (.if_icmp .ge 17, 3) := by decide +kernel
theorem d_Mo_fills_66 : decode b_Mo_fills 66 = .ok (.aload_n 0, 1) := by decide +kernel
theorem d_Mo_fills_67 : decode b_Mo_fills 67 = .ok (.iload_n 1, 1) := by decide +kernel
theorem d_Mo_fills_68 : decode b_Mo_fills 68 = .ok (.bipush 85, 2) := by decide +kernel
theorem d_Mo_fills_70 : decode b_Mo_fills 70 = .ok (.iconst 0, 1) := by decide +kernel
theorem d_Mo_fills_71 : decode b_Mo_fills 71 = .ok (.invokevirtual 40, 3) := by decide +kernel
theorem d_Mo_fills_74 : decode b_Mo_fills 74 = .ok (.iinc 4 1, 3) := by decide +kernel
theorem d_Mo_fills_77 : decode b_Mo_fills 77 = .ok (.goto (-17), 3) := by decide +kernel
theorem d_Mo_fills_80 : decode b_Mo_fills 80 = .ok (.return_, 1) := by decide +kernel
theorem d_Mo_first_0 : decode b_Mo_first 0 = .ok (.iconst 0, 1) := by decide +kernel
theorem d_Mo_first_1 : decode b_Mo_first 1 = .ok (.istore_n 3, 1) := by decide +kernel
theorem d_Mo_first_2 : decode b_Mo_first 2 = .ok (.iload_n 3, 1) := by decide +kernel
theorem d_Mo_first_3 : decode b_Mo_first 3 = .ok (.iload_n 2, 1) := by decide +kernel
theorem d_Mo_first_4 : decode b_Mo_first 4 = .ok (.if_icmp .ge 24, 3) := by decide +kernel
theorem d_Mo_first_7 : decode b_Mo_first 7 = .ok (.aload_n 0, 1) := by decide +kernel
theorem d_Mo_first_8 : decode b_Mo_first 8 = .ok (.getfield 16, 3) := by decide +kernel
theorem d_Mo_first_11 : decode b_Mo_first 11 = .ok (.sipush 4200, 3) := by decide +kernel
theorem d_Mo_first_14 : decode b_Mo_first 14 = .ok (.iload_n 1, 1) := by decide +kernel
theorem d_Mo_first_15 : decode b_Mo_first 15 = .ok (.imul, 1) := by decide +kernel
theorem d_Mo_first_16 : decode b_Mo_first 16 = .ok (.iload_n 3, 1) := by decide +kernel
theorem d_Mo_first_17 : decode b_Mo_first 17 = .ok (.iadd, 1) := by decide +kernel
theorem d_Mo_first_18 : decode b_Mo_first 18 = .ok (.baload, 1) := by decide +kernel
theorem d_Mo_first_19 : decode b_Mo_first 19 = .ok (.ifCond .ne 9, 3) := by decide +kernel
theorem d_Mo_first_22 : decode b_Mo_first 22 = .ok (.iinc 3 1, 3) := by decide +kernel
theorem d_Mo_first_25 : decode b_Mo_first 25 = .ok (.goto (-23), 3) := by decide +kernel
theorem d_Mo_first_28 : decode b_Mo_first 28 = .ok (.iload_n 3, 1) := by decide +kernel
theorem d_Mo_first_29 : decode b_Mo_first 29 = .ok (.iload_n 2, 1) := by decide +kernel
theorem d_Mo_first_30 : decode b_Mo_first 30 = .ok (.if_icmp .ge 7, 3) := by decide +kernel
theorem d_Mo_first_33 : decode b_Mo_first 33 = .ok (.iload_n 3, 1) := by decide +kernel
theorem d_Mo_first_34 : decode b_Mo_first 34 = .ok (.goto 6, 3) := by decide +kernel
theorem d_Mo_first_37 : decode b_Mo_first 37 = .ok (.sipush 2047, 3) := by decide +kernel
theorem d_Mo_first_40 : decode b_Mo_first 40 = .ok (.ireturn, 1) := by decide +kernel
theorem d_Mo_leave_0 : decode b_Mo_leave 0 = .ok (.aload_n 0, 1) := by decide +kernel
theorem d_Mo_leave_1 : decode b_Mo_leave 1 = .ok (.getfield 20, 3) := by decide +kernel
theorem d_Mo_leave_4 : decode b_Mo_leave 4 = .ok (.iload_n 1, 1) := by decide +kernel
theorem d_Mo_leave_5 : decode b_Mo_leave 5 = .ok (.dup2, 1) := by decide +kernel
theorem d_Mo_leave_6 : decode b_Mo_leave 6 = .ok (.iaload, 1) := by decide +kernel
theorem d_Mo_leave_7 : decode b_Mo_leave 7 = .ok (.iload_n 2, 1) := by decide +kernel
theorem d_Mo_leave_8 : decode b_Mo_leave 8 = .ok (.isub, 1) := by decide +kernel
theorem d_Mo_leave_9 : decode b_Mo_leave 9 = .ok (.iastore, 1) := by decide +kernel
theorem d_Mo_leave_10 : decode b_Mo_leave 10 = .ok (.sipush 4200, 3) := by decide +kernel
theorem d_Mo_leave_13 : decode b_Mo_leave 13 = .ok (.iload_n 1, 1) := by decide +kernel
theorem d_Mo_leave_14 : decode b_Mo_leave 14 = .ok (.imul, 1) := by decide +kernel
theorem d_Mo_leave_15 : decode b_Mo_leave 15 = .ok (.istore_n 3, 1) := by decide +kernel
theorem d_Mo_leave_16 : decode b_Mo_leave 16 = .ok (.iload_n 3, 1) := by decide +kernel
theorem d_Mo_leave_17 : decode b_Mo_leave 17 = .ok (.sipush 4200, 3) := by decide +kernel
theorem d_Mo_leave_20 : decode b_Mo_leave 20 = .ok (.iload_n 1, 1) := by decide +kernel
theorem d_Mo_leave_21 : decode b_Mo_leave 21 = .ok (.imul, 1) := by decide +kernel
theorem d_Mo_leave_22 : decode b_Mo_leave 22 = .ok (.aload_n 0, 1) := by decide +kernel
theorem d_Mo_leave_23 : decode b_Mo_leave 23 = .ok (.getfield 20, 3) := by decide +kernel
theorem d_Mo_leave_26 : decode b_Mo_leave 26 = .ok (.iload_n 1, 1) := by decide +kernel
theorem d_Mo_leave_27 : decode b_Mo_leave 27 = .ok (.iaload, 1) := by decide +kernel
theorem d_Mo_leave_28 : decode b_Mo_leave 28 = .ok (.iadd, 1) := by decide +kernel
theorem d_Mo_leave_29 : decode b_Mo_leave 29 = .ok (.if_icmp .ge 37, 3) := by decide +kernel
theorem d_Mo_leave_32 : decode b_Mo_leave 32 = .ok (.aload_n 0, 1) := by decide +kernel
theorem d_Mo_leave_33 : decode b_Mo_leave 33 = .ok (.getfield 13, 3) := by decide +kernel
theorem d_Mo_leave_36 : decode b_Mo_leave 36 = .ok (.iload_n 3, 1) := by decide +kernel
theorem d_Mo_leave_37 : decode b_Mo_leave 37 = .ok (.aload_n 0, 1) := by decide +kernel
theorem d_Mo_leave_38 : decode b_Mo_leave 38 = .ok (.getfield 13, 3) := by decide +kernel
theorem d_Mo_leave_41 : decode b_Mo_leave 41 = .ok (.iload_n 3, 1) := by decide +kernel
theorem d_Mo_leave_42 : decode b_Mo_leave 42 = .ok (.iload_n 2, 1) := by decide +kernel
theorem d_Mo_leave_43 : decode b_Mo_leave 43 = .ok (.iadd, 1) := by decide +kernel
theorem d_Mo_leave_44 : decode b_Mo_leave 44 = .ok (.baload, 1) := by decide +kernel
theorem d_Mo_leave_45 : decode b_Mo_leave 45 = .ok (.bastore, 1) := by decide +kernel
theorem d_Mo_leave_46 : decode b_Mo_leave 46 = .ok (.aload_n 0, 1) := by decide +kernel
theorem d_Mo_leave_47 : decode b_Mo_leave 47 = .ok (.getfield 16, 3) := by decide +kernel
theorem d_Mo_leave_50 : decode b_Mo_leave 50 = .ok (.iload_n 3, 1) := by decide +kernel
theorem d_Mo_leave_51 : decode b_Mo_leave 51 = .ok (.aload_n 0, 1) := by decide +kernel
theorem d_Mo_leave_52 : decode b_Mo_leave 52 = .ok (.getfield 16, 3) := by decide +kernel
theorem d_Mo_leave_55 : decode b_Mo_leave 55 = .ok (.iload_n 3, 1) := by decide +kernel
theorem d_Mo_leave_56 : decode b_Mo_leave 56 = .ok (.iload_n 2, 1) := by decide +kernel
theorem d_Mo_leave_57 : decode b_Mo_leave 57 = .ok (.iadd, 1) := by decide +kernel
theorem d_Mo_leave_58 : decode b_Mo_leave 58 = .ok (.baload, 1) := by decide +kernel
theorem d_Mo_leave_59 : decode b_Mo_leave 59 = .ok (.bastore, 1) := by decide +kernel
theorem d_Mo_leave_60 : decode b_Mo_leave 60 = .ok (.iinc 3 1, 3) := by decide +kernel
theorem d_Mo_leave_63 : decode b_Mo_leave 63 = .ok (.goto (-47), 3) := by decide +kernel
theorem d_Mo_leave_66 : decode b_Mo_leave 66 = .ok (.return_, 1) := by decide +kernel
theorem d_Mo_frame_0 : decode b_Mo_frame 0 = .ok (.aload_n 0, 1) := by decide +kernel
theorem d_Mo_frame_1 : decode b_Mo_frame 1 = .ok (.iconst 0, 1) := by decide +kernel
theorem d_Mo_frame_2 : decode b_Mo_frame 2 = .ok (.putfield 34, 3) := by decide +kernel
theorem d_Mo_frame_5 : decode b_Mo_frame 5 = .ok (.aload_n 0, 1) := by decide +kernel
theorem d_Mo_frame_6 : decode b_Mo_frame 6 = .ok (.getfield 20, 3) := by decide +kernel
theorem d_Mo_frame_9 : decode b_Mo_frame 9 = .ok (.iconst 0, 1) := by decide +kernel
theorem d_Mo_frame_10 : decode b_Mo_frame 10 = .ok (.iaload, 1) := by decide +kernel
theorem d_Mo_frame_11 : decode b_Mo_frame 11 = .ok (.ifCond .le 7, 3) := by decide +kernel
theorem d_Mo_frame_14 : decode b_Mo_frame 14 = .ok (.iconst 0, 1) := by decide +kernel
theorem d_Mo_frame_15 : decode b_Mo_frame 15 = .ok (.goto 17, 3) := by decide +kernel
theorem d_Mo_frame_18 : decode b_Mo_frame 18 = .ok (.aload_n 0, 1) := by decide +kernel
theorem d_Mo_frame_19 : decode b_Mo_frame 19 = .ok (.getfield 20, 3) := by decide +kernel
theorem d_Mo_frame_22 : decode b_Mo_frame 22 = .ok (.iconst 1, 1) := by decide +kernel
theorem d_Mo_frame_23 : decode b_Mo_frame 23 = .ok (.iaload, 1) := by decide +kernel
theorem d_Mo_frame_24 : decode b_Mo_frame 24 = .ok (.ifCond .le 7, 3) := by decide +kernel
theorem d_Mo_frame_27 : decode b_Mo_frame 27 = .ok (.iconst 1, 1) := by decide +kernel
theorem d_Mo_frame_28 : decode b_Mo_frame 28 = .ok (.goto 4, 3) := by decide +kernel
theorem d_Mo_frame_31 : decode b_Mo_frame 31 = .ok (.iconst 2, 1) := by decide +kernel
theorem d_Mo_frame_32 : decode b_Mo_frame 32 = .ok (.istore_n 2, 1) := by decide +kernel
theorem d_Mo_frame_33 : decode b_Mo_frame 33 = .ok (.iload_n 2, 1) := by decide +kernel
theorem d_Mo_frame_34 : decode b_Mo_frame 34 = .ok (.iconst 2, 1) := by decide +kernel
theorem d_Mo_frame_35 : decode b_Mo_frame 35 = .ok (.if_icmp .ne 8, 3) := by decide +kernel
theorem d_Mo_frame_38 : decode b_Mo_frame 38 = .ok (.bipush 7, 2) := by decide +kernel
theorem d_Mo_frame_40 : decode b_Mo_frame 40 = .ok (.goto 4, 3) := by decide +kernel
theorem d_Mo_frame_43 : decode b_Mo_frame 43 = .ok (.iload_n 2, 1) := by decide +kernel
theorem d_Mo_frame_44 : decode b_Mo_frame 44 = .ok (.istore_n 3, 1) := by decide +kernel
theorem d_Mo_frame_45 : decode b_Mo_frame 45 = .ok (.aload_n 0, 1) := by decide +kernel
theorem d_Mo_frame_46 : decode b_Mo_frame 46 = .ok (.getfield 30, 3) := by decide +kernel
theorem d_Mo_frame_49 : decode b_Mo_frame 49 = .ok (.bipush 12, 2) := by decide +kernel
theorem d_Mo_frame_51 : decode b_Mo_frame 51 = .ok (.isub, 1) := by decide +kernel
theorem d_Mo_frame_52 : decode b_Mo_frame 52 = .ok (.istore 4, 2) := by decide +kernel
theorem d_Mo_frame_54 : decode b_Mo_frame 54 = .ok (.iload_n 2, 1) := by decide +kernel
theorem d_Mo_frame_55 : decode b_Mo_frame 55 = .ok (.iconst 2, 1) := by decide +kernel
theorem d_Mo_frame_56 : decode b_Mo_frame 56 = .ok (.if_icmp .ge 47, 3) := by decide +kernel
theorem d_Mo_frame_59 : decode b_Mo_frame 59 = .ok (.aload_n 0, 1) := by decide +kernel
theorem d_Mo_frame_60 : decode b_Mo_frame 60 = .ok (.getfield 20, 3) := by decide +kernel
theorem d_Mo_frame_63 : decode b_Mo_frame 63 = .ok (.iload_n 2, 1) := by decide +kernel
theorem d_Mo_frame_64 : decode b_Mo_frame 64 = .ok (.iaload, 1) := by decide +kernel
theorem d_Mo_frame_65 : decode b_Mo_frame 65 = .ok (.iload 4, 2) := by decide +kernel
theorem d_Mo_frame_67 : decode b_Mo_frame 67 = .ok (.if_icmp .ge 36, 3) := by decide +kernel
theorem d_Mo_frame_70 : decode b_Mo_frame 70 = .ok (.aload_n 0, 1) := by decide +kernel
theorem d_Mo_frame_71 : decode b_Mo_frame 71 = .ok (.iload_n 2, 1) := by decide +kernel
theorem d_Mo_frame_72 : decode b_Mo_frame 72 = .ok (.iload 4, 2) := by decide +kernel
theorem d_Mo_frame_74 : decode b_Mo_frame 74 = .ok (.aload_n 0, 1) := by decide +kernel
theorem d_Mo_frame_75 : decode b_Mo_frame 75 = .ok (.getfield 20, 3) := by decide +kernel
theorem d_Mo_frame_78 : decode b_Mo_frame 78 = .ok (.iload_n 2, 1) := by decide +kernel
theorem d_Mo_frame_79 : decode b_Mo_frame 79 = .ok (.iaload, 1) := by decide +kernel
theorem d_Mo_frame_80 : decode b_Mo_frame 80 = .ok (.isub, 1) := by decide +kernel
theorem d_Mo_frame_81 : decode b_Mo_frame 81 = .ok (.bipush 7, 2) := by decide +kernel
theorem d_Mo_frame_83 : decode b_Mo_frame 83 = .ok (.if_icmp .le 15, 3) := by decide +kernel
theorem d_Mo_frame_86 : decode b_Mo_frame 86 = .ok (.iload 4, 2) := by decide +kernel
theorem d_Mo_frame_88 : decode b_Mo_frame 88 = .ok (.aload_n 0, 1) := by decide +kernel
theorem d_Mo_frame_89 : decode b_Mo_frame 89 = .ok (.getfield 20, 3) := by decide +kernel
theorem d_Mo_frame_92 : decode b_Mo_frame 92 = .ok (.iload_n 2, 1) := by decide +kernel
theorem d_Mo_frame_93 : decode b_Mo_frame 93 = .ok (.iaload, 1) := by decide +kernel
theorem d_Mo_frame_94 : decode b_Mo_frame 94 = .ok (.isub, 1) := by decide +kernel
theorem d_Mo_frame_95 : decode b_Mo_frame 95 = .ok (.goto 5, 3) := by decide +kernel
theorem d_Mo_frame_98 : decode b_Mo_frame 98 = .ok (.bipush 7, 2) := by decide +kernel
theorem d_Mo_frame_100 : decode b_Mo_frame 100 = .ok (.invokevirtual 50, 3) := by decide +kernel
theorem d_Mo_frame_103 : decode b_Mo_frame 103 = .ok (.iload_n 2, 1) := by decide +kernel
theorem d_Mo_frame_104 : decode b_Mo_frame 104 = .ok (.iconst 2, 1) := by decide +kernel
theorem d_Mo_frame_105 : decode b_Mo_frame 105 = .ok (.if_icmp .ne 9, 3) := by decide +kernel
theorem d_Mo_frame_108 : decode b_Mo_frame 108 = .ok (.sipush 2046, 3) := by decide +kernel
theorem d_Mo_frame_111 : decode b_Mo_frame 111 = .ok (.goto 10, 3) := by decide +kernel
theorem d_Mo_frame_114 : decode b_Mo_frame 114 = .ok (.aload_n 0, 1) := by decide +kernel
theorem d_Mo_frame_115 : decode b_Mo_frame 115 = .ok (.iload_n 2, 1) := by decide +kernel
theorem d_Mo_frame_116 : decode b_Mo_frame 116 = .ok (.iload 4, 2) := by decide +kernel
theorem d_Mo_frame_118 : decode b_Mo_frame 118 = .ok (.invokevirtual 54, 3) := by decide +kernel
theorem d_Mo_frame_121 : decode b_Mo_frame 121 = .ok (.istore 5, 2) := by decide +kernel
theorem d_Mo_frame_123 : decode b_Mo_frame 123 = .ok (.aload_n 0, 1) := by decide +kernel
theorem d_Mo_frame_124 : decode b_Mo_frame 124 = .ok (.iconst 0, 1) := by decide +kernel
theorem d_Mo_frame_125 : decode b_Mo_frame 125 = .ok (.putfield 44, 3) := by decide +kernel
theorem d_Mo_frame_128 : decode b_Mo_frame 128 = .ok (.aload_n 0, 1) := by decide +kernel
theorem d_Mo_frame_129 : decode b_Mo_frame 129 = .ok (.bipush 21, 2) := by decide +kernel
theorem d_Mo_frame_131 : decode b_Mo_frame 131 = .ok (.invokevirtual 58, 3) := by decide +kernel
theorem d_Mo_frame_134 : decode b_Mo_frame 134 = .ok (.aload_n 0, 1) := by decide +kernel
theorem d_Mo_frame_135 : decode b_Mo_frame 135 = .ok (.sipush 160, 3) := by decide +kernel
theorem d_Mo_frame_138 : decode b_Mo_frame 138 = .ok (.iconst 2, 1) := by decide +kernel
theorem d_Mo_frame_139 : decode b_Mo_frame 139 = .ok (.iload_n 3, 1) := by decide +kernel
theorem d_Mo_frame_140 : decode b_Mo_frame 140 = .ok (.imul, 1) := by decide +kernel
theorem d_Mo_frame_141 : decode b_Mo_frame 141 = .ok (.iadd, 1) := by decide +kernel
theorem d_Mo_frame_142 : decode b_Mo_frame 142 = .ok (.iconst 1, 1) := by decide +kernel
theorem d_Mo_frame_143 : decode b_Mo_frame 143 = .ok (.iadd, 1) := by decide +kernel
theorem d_Mo_frame_144 : decode b_Mo_frame 144 = .ok (.invokevirtual 58, 3) := by decide +kernel
theorem d_Mo_frame_147 : decode b_Mo_frame 147 = .ok (.aload_n 0, 1) := by decide +kernel
theorem d_Mo_frame_148 : decode b_Mo_frame 148 = .ok (.aload_n 0, 1) := by decide +kernel
theorem d_Mo_frame_149 : decode b_Mo_frame 149 = .ok (.getfield 24, 3) := by decide +kernel
theorem d_Mo_frame_152 : decode b_Mo_frame 152 = .ok (.iconst 0, 1) := by decide +kernel
theorem d_Mo_frame_153 : decode b_Mo_frame 153 = .ok (.iaload, 1) := by decide +kernel
theorem d_Mo_frame_154 : decode b_Mo_frame 154 = .ok (.invokevirtual 58, 3) := by decide +kernel
theorem d_Mo_frame_157 : decode b_Mo_frame 157 = .ok (.aload_n 0, 1) := by decide +kernel
theorem d_Mo_frame_158 : decode b_Mo_frame 158 = .ok (.aload_n 0, 1) := by decide +kernel
theorem d_Mo_frame_159 : decode b_Mo_frame 159 = .ok (.getfield 24, 3) := by decide +kernel
theorem d_Mo_frame_162 : decode b_Mo_frame 162 = .ok (.iconst 1, 1) := by decide +kernel
theorem d_Mo_frame_163 : decode b_Mo_frame 163 = .ok (.iload_n 2, 1) := by decide +kernel
theorem d_Mo_frame_164 : decode b_Mo_frame 164 = .ok (.iadd, 1) := by decide +kernel
theorem d_Mo_frame_165 : decode b_Mo_frame 165 = .ok (.iaload, 1) := by decide +kernel
theorem d_Mo_frame_166 : decode b_Mo_frame 166 = .ok (.invokevirtual 58, 3) := by decide +kernel
theorem d_Mo_frame_169 : decode b_Mo_frame 169 = .ok (.aload_n 0, 1) := by decide +kernel
theorem d_Mo_frame_170 : decode b_Mo_frame 170 = .ok (.bipush 24, 2) := by decide +kernel
theorem d_Mo_frame_172 : decode b_Mo_frame 172 = .ok (.iload 5, 2) := by decide +kernel
theorem d_Mo_frame_174 : decode b_Mo_frame 174 = .ok (.sipush 256, 3) := by decide +kernel
theorem d_Mo_frame_177 : decode b_Mo_frame 177 = .ok (.idiv, 1) := by decide +kernel
theorem d_Mo_frame_178 : decode b_Mo_frame 178 = .ok (.iadd, 1) := by decide +kernel
theorem d_Mo_frame_179 : decode b_Mo_frame 179 = .ok (.invokevirtual 58, 3) := by decide +kernel
theorem d_Mo_frame_182 : decode b_Mo_frame 182 = .ok (.aload_n 0, 1) := by decide +kernel
theorem d_Mo_frame_183 : decode b_Mo_frame 183 = .ok (.iload 5, 2) := by decide +kernel
theorem d_Mo_frame_185 : decode b_Mo_frame 185 = .ok (.invokevirtual 58, 3) := by decide +kernel
theorem d_Mo_frame_188 : decode b_Mo_frame 188 = .ok (.iconst 0, 1) := by decide +kernel
theorem d_Mo_frame_189 : decode b_Mo_frame 189 = .ok (.istore 6, 2) := by decide +kernel
theorem d_Mo_frame_191 : decode b_Mo_frame 191 = .ok (.iload 6, 2) := by decide +kernel
theorem d_Mo_frame_193 : decode b_Mo_frame 193 = .ok (.iload 4, 2) := by decide +kernel
theorem d_Mo_frame_195 : decode b_Mo_frame 195 = .ok (.if_icmp .ge 36, 3) := by decide +kernel
theorem d_Mo_frame_198 : decode b_Mo_frame 198 = .ok (.aload_n 0, 1) := by decide +kernel
theorem d_Mo_frame_199 : decode b_Mo_frame 199 = .ok (.iload_n 2, 1) := by decide +kernel
theorem d_Mo_frame_200 : decode b_Mo_frame 200 = .ok (.iconst 2, 1) := by decide +kernel
theorem d_Mo_frame_201 : decode b_Mo_frame 201 = .ok (.if_icmp .ne 8, 3) := by decide +kernel
theorem d_Mo_frame_204 : decode b_Mo_frame 204 = .ok (.bipush 85, 2) := by decide +kernel
theorem d_Mo_frame_206 : decode b_Mo_frame 206 = .ok (.goto 16, 3) := by decide +kernel
theorem d_Mo_frame_209 : decode b_Mo_frame 209 = .ok (.aload_n 0, 1) := by decide +kernel
theorem d_Mo_frame_210 : decode b_Mo_frame 210 = .ok (.getfield 13, 3) := by decide +kernel
theorem d_Mo_frame_213 : decode b_Mo_frame 213 = .ok (.sipush 4200, 3) := by decide +kernel
theorem d_Mo_frame_216 : decode b_Mo_frame 216 = .ok (.iload_n 2, 1) := by decide +kernel
theorem d_Mo_frame_217 : decode b_Mo_frame 217 = .ok (.imul, 1) := by decide +kernel
theorem d_Mo_frame_218 : decode b_Mo_frame 218 = .ok (.iload 6, 2) := by decide +kernel
theorem d_Mo_frame_220 : decode b_Mo_frame 220 = .ok (.iadd, 1) := by decide +kernel
theorem d_Mo_frame_221 : decode b_Mo_frame 221 = .ok (.baload, 1) := by decide +kernel
theorem d_Mo_frame_222 : decode b_Mo_frame 222 = .ok (.invokevirtual 58, 3) := by decide +kernel
theorem d_Mo_frame_225 : decode b_Mo_frame 225 = .ok (.iinc 6 1, 3) := by decide +kernel
theorem d_Mo_frame_228 : decode b_Mo_frame 228 = .ok (.goto (-37), 3) := by decide +kernel
theorem d_Mo_frame_231 : decode b_Mo_frame 231 = .ok (.bipush 24, 2) := by decide +kernel
theorem d_Mo_frame_233 : decode b_Mo_frame 233 = .ok (.istore 6, 2) := by decide +kernel
theorem d_Mo_frame_235 : decode b_Mo_frame 235 = .ok (.iload 6, 2) := by decide +kernel
theorem d_Mo_frame_237 : decode b_Mo_frame 237 = .ok (.ifCond .lt 17, 3) := by decide +kernel
theorem d_Mo_frame_240 : decode b_Mo_frame 240 = .ok (.aload_n 0, 1) := by decide +kernel
theorem d_Mo_frame_241 : decode b_Mo_frame 241 = .ok (.iload_n 1, 1) := by decide +kernel
theorem d_Mo_frame_242 : decode b_Mo_frame 242 = .ok (.iload 6, 2) := by decide +kernel
theorem d_Mo_frame_244 : decode b_Mo_frame 244 = .ok (.ishr, 1) := by decide +kernel
theorem d_Mo_frame_245 : decode b_Mo_frame 245 = .ok (.invokevirtual 58, 3) := by decide +kernel
theorem d_Mo_frame_248 : decode b_Mo_frame 248 = .ok (.iinc 6 (-8), 3) := by decide +kernel
theorem d_Mo_frame_251 : decode b_Mo_frame 251 = .ok (.goto (-16), 3) := by decide +kernel
end
section
theorem d_Mo_frame_254 : decode b_Mo_frame 254 = .ok (.aload_n 0, 1) := by decide +kernel
theorem d_Mo_frame_255 : decode b_Mo_frame 255 = .ok (.invokevirtual 62, 3) := by decide +kernel
theorem d_Mo_frame_258 : decode b_Mo_frame 258 = .ok (.istore 6, 2) := by decide +kernel
theorem d_Mo_frame_260 : decode b_Mo_frame 260 = .ok (.aload_n 0, 1) := by decide +kernel
theorem d_Mo_frame_261 : decode b_Mo_frame 261 = .ok (.iload 6, 2) := by decide +kernel
theorem d_Mo_frame_263 : decode b_Mo_frame 263 = .ok (.sipush 256, 3) := by decide +kernel
theorem d_Mo_frame_266 : decode b_Mo_frame 266 = .ok (.idiv, 1) := by decide +kernel
theorem d_Mo_frame_267 : decode b_Mo_frame 267 = .ok (.invokevirtual 58, 3) := by decide +kernel
theorem d_Mo_frame_270 : decode b_Mo_frame 270 = .ok (.aload_n 0, 1) := by decide +kernel
theorem d_Mo_frame_271 : decode b_Mo_frame 271 = .ok (.iload 6, 2) := by decide +kernel
theorem d_Mo_frame_273 : decode b_Mo_frame 273 = .ok (.invokevirtual 58, 3) := by decide +kernel
theorem d_Mo_frame_276 : decode b_Mo_frame 276 = .ok (.iload_n 2, 1) := by decide +kernel
theorem d_Mo_frame_277 : decode b_Mo_frame 277 = .ok (.iconst 2, 1) := by decide +kernel
theorem d_Mo_frame_278 : decode b_Mo_frame 278 = .ok (.if_icmp .ge 10, 3) := by decide +kernel
theorem d_Mo_frame_281 : decode b_Mo_frame 281 = .ok (.aload_n 0, 1) := by decide +kernel
theorem d_Mo_frame_282 : decode b_Mo_frame 282 = .ok (.iload_n 2, 1) := by decide +kernel
theorem d_Mo_frame_283 : decode b_Mo_frame 283 = .ok (.iload 4, 2) := by decide +kernel
theorem d_Mo_frame_285 : decode b_Mo_frame 285 = .ok (.invokevirtual 66, 3) := by decide +kernel
theorem d_Mo_frame_288 : decode b_Mo_frame 288 = .ok (.aload_n 0, 1) := by decide +kernel
theorem d_Mo_frame_289 : decode b_Mo_frame 289 = .ok (.getfield 24, 3) := by decide +kernel
theorem d_Mo_frame_292 : decode b_Mo_frame 292 = .ok (.iconst 0, 1) := by decide +kernel
theorem d_Mo_frame_293 : decode b_Mo_frame 293 = .ok (.dup2, 1) := by decide +kernel
theorem d_Mo_frame_294 : decode b_Mo_frame 294 = .ok (.iaload, 1) := by decide +kernel
theorem d_Mo_frame_295 : decode b_Mo_frame 295 = .ok (.iconst 1, 1) := by decide +kernel
theorem d_Mo_frame_296 : decode b_Mo_frame 296 = .ok (.iadd, 1) := by decide +kernel
theorem d_Mo_frame_297 : decode b_Mo_frame 297 = .ok (.iastore, 1) := by decide +kernel
theorem d_Mo_frame_298 : decode b_Mo_frame 298 = .ok (.aload_n 0, 1) := by decide +kernel
theorem d_Mo_frame_299 : decode b_Mo_frame 299 = .ok (.getfield 24, 3) := by decide +kernel
theorem d_Mo_frame_302 : decode b_Mo_frame 302 = .ok (.iconst 1, 1) := by decide +kernel
theorem d_Mo_frame_303 : decode b_Mo_frame 303 = .ok (.iload_n 2, 1) := by decide +kernel
theorem d_Mo_frame_304 : decode b_Mo_frame 304 = .ok (.iadd, 1) := by decide +kernel
theorem d_Mo_frame_305 : decode b_Mo_frame 305 = .ok (.dup2, 1) := by decide +kernel
theorem d_Mo_frame_306 : decode b_Mo_frame 306 = .ok (.iaload, 1) := by decide +kernel
theorem d_Mo_frame_307 : decode b_Mo_frame 307 = .ok (.iconst 1, 1) := by decide +kernel
theorem d_Mo_frame_308 : decode b_Mo_frame 308 = .ok (.iadd, 1) := by decide +kernel
theorem d_Mo_frame_309 : decode b_Mo_frame 309 = .ok (.iastore, 1) := by decide +kernel
theorem d_Mo_frame_310 : decode b_Mo_frame 310 = .ok (.iload_n 3, 1) := by decide +kernel
theorem d_Mo_frame_311 : decode b_Mo_frame 311 = .ok (.ireturn, 1) := by decide +kernel
theorem d_Mo_byteAt_0 : decode b_Mo_byteAt 0 = .ok (.aload_n 0, 1) := by decide +kernel
theorem d_Mo_byteAt_1 : decode b_Mo_byteAt 1 = .ok (.iconst 0, 1) := by decide +kernel
theorem d_Mo_byteAt_2 : decode b_Mo_byteAt 2 = .ok (.putfield 34, 3) := by decide +kernel
theorem d_Mo_byteAt_5 : decode b_Mo_byteAt 5 = .ok (.iload_n 1, 1) := by decide +kernel
theorem d_Mo_byteAt_6 : decode b_Mo_byteAt 6 = .ok (.ifCond .lt 24, 3) := by decide +kernel
theorem d_Mo_byteAt_9 : decode b_Mo_byteAt 9 = .ok (.iload_n 1, 1) := by decide +kernel
theorem d_Mo_byteAt_10 : decode b_Mo_byteAt 10 = .ok (.aload_n 0, 1) := by decide +kernel
theorem d_Mo_byteAt_11 : decode b_Mo_byteAt 11 = .ok (.getfield 44, 3) := by decide +kernel
theorem d_Mo_byteAt_14 : decode b_Mo_byteAt 14 = .ok (.if_icmp .ge 16, 3) := by decide +kernel
theorem d_Mo_byteAt_17 : decode b_Mo_byteAt 17 = .ok (.aload_n 0, 1) := by decide +kernel
theorem d_Mo_byteAt_18 : decode b_Mo_byteAt 18 = .ok (.getfield 27, 3) := by decide +kernel
theorem d_Mo_byteAt_21 : decode b_Mo_byteAt 21 = .ok (.iload_n 1, 1) := by decide +kernel
theorem d_Mo_byteAt_22 : decode b_Mo_byteAt 22 = .ok (.baload, 1) := by decide +kernel
theorem d_Mo_byteAt_23 : decode b_Mo_byteAt 23 = .ok (.sipush 255, 3) := by decide +kernel
theorem d_Mo_byteAt_26 : decode b_Mo_byteAt 26 = .ok (.iand, 1) := by decide +kernel
theorem d_Mo_byteAt_27 : decode b_Mo_byteAt 27 = .ok (.goto 4, 3) := by decide +kernel
theorem d_Mo_byteAt_30 : decode b_Mo_byteAt 30 = .ok (.iconst (-1), 1) := by decide +kernel
theorem d_Mo_byteAt_31 : decode b_Mo_byteAt 31 = .ok (.ireturn, 1) := by decide +kernel
theorem d_Mo_waiting_0 : decode b_Mo_waiting 0 = .ok (.aload_n 0, 1) := by decide +kernel
theorem d_Mo_waiting_1 : decode b_Mo_waiting 1 = .ok (.iconst 0, 1) := by decide +kernel
theorem d_Mo_waiting_2 : decode b_Mo_waiting 2 = .ok (.putfield 34, 3) := by decide +kernel
theorem d_Mo_waiting_5 : decode b_Mo_waiting 5 = .ok (.iload_n 1, 1) := by decide +kernel
theorem d_Mo_waiting_6 : decode b_Mo_waiting 6 = .ok (.ifCond .eq 8, 3) := by decide +kernel
theorem d_Mo_waiting_9 : decode b_Mo_waiting 9 = .ok (.iload_n 1, 1) := by decide +kernel
theorem d_Mo_waiting_10 : decode b_Mo_waiting 10 = .ok (.iconst 1, 1) := by decide +kernel
theorem d_Mo_waiting_11 : decode b_Mo_waiting 11 = .ok (.if_icmp .ne 12, 3) := by decide +kernel
theorem d_Mo_waiting_14 : decode b_Mo_waiting 14 = .ok (.aload_n 0, 1) := by decide +kernel
theorem d_Mo_waiting_15 : decode b_Mo_waiting 15 = .ok (.getfield 20, 3) := by decide +kernel
theorem d_Mo_waiting_18 : decode b_Mo_waiting 18 = .ok (.iload_n 1, 1) := by decide +kernel
theorem d_Mo_waiting_19 : decode b_Mo_waiting 19 = .ok (.iaload, 1) := by decide +kernel
theorem d_Mo_waiting_20 : decode b_Mo_waiting 20 = .ok (.goto 4, 3) := by decide +kernel
theorem d_Mo_waiting_23 : decode b_Mo_waiting 23 = .ok (.iconst (-1), 1) := by decide +kernel
theorem d_Mo_waiting_24 : decode b_Mo_waiting 24 = .ok (.ireturn, 1) := by decide +kernel
theorem d_Mo_count_0 : decode b_Mo_count 0 = .ok (.aload_n 0, 1) := by decide +kernel
theorem d_Mo_count_1 : decode b_Mo_count 1 = .ok (.iconst 0, 1) := by decide +kernel
theorem d_Mo_count_2 : decode b_Mo_count 2 = .ok (.putfield 34, 3) := by decide +kernel
theorem d_Mo_count_5 : decode b_Mo_count 5 = .ok (.iload_n 1, 1) := by decide +kernel
theorem d_Mo_count_6 : decode b_Mo_count 6 = .ok (.ifCond .lt 17, 3) := by decide +kernel
theorem d_Mo_count_9 : decode b_Mo_count 9 = .ok (.iload_n 1, 1) := by decide +kernel
theorem d_Mo_count_10 : decode b_Mo_count 10 = .ok (.iconst 4, 1) := by decide +kernel
theorem d_Mo_count_11 : decode b_Mo_count 11 = .ok (.if_icmp .ge 12, 3) := by decide +kernel
theorem d_Mo_count_14 : decode b_Mo_count 14 = .ok (.aload_n 0, 1) := by decide +kernel
theorem d_Mo_count_15 : decode b_Mo_count 15 = .ok (.getfield 24, 3) := by decide +kernel
theorem d_Mo_count_18 : decode b_Mo_count 18 = .ok (.iload_n 1, 1) := by decide +kernel
theorem d_Mo_count_19 : decode b_Mo_count 19 = .ok (.iaload, 1) := by decide +kernel
theorem d_Mo_count_20 : decode b_Mo_count 20 = .ok (.goto 28, 3) := by decide +kernel
theorem d_Mo_count_23 : decode b_Mo_count 23 = .ok (.iload_n 1, 1) := by decide +kernel
theorem d_Mo_count_24 : decode b_Mo_count 24 = .ok (.iconst 4, 1) := by decide +kernel
theorem d_Mo_count_25 : decode b_Mo_count 25 = .ok (.if_icmp .ne 10, 3) := by decide +kernel
theorem d_Mo_count_28 : decode b_Mo_count 28 = .ok (.aload_n 0, 1) := by decide +kernel
theorem d_Mo_count_29 : decode b_Mo_count 29 = .ok (.getfield 37, 3) := by decide +kernel
theorem d_Mo_count_32 : decode b_Mo_count 32 = .ok (.goto 16, 3) := by decide +kernel
theorem d_Mo_count_35 : decode b_Mo_count 35 = .ok (.iload_n 1, 1) := by decide +kernel
theorem d_Mo_count_36 : decode b_Mo_count 36 = .ok (.iconst 5, 1) := by decide +kernel
theorem d_Mo_count_37 : decode b_Mo_count 37 = .ok (.if_icmp .ne 10, 3) := by decide +kernel
theorem d_Mo_count_40 : decode b_Mo_count 40 = .ok (.aload_n 0, 1) := by decide +kernel
theorem d_Mo_count_41 : decode b_Mo_count 41 = .ok (.getfield 30, 3) := by decide +kernel
theorem d_Mo_count_44 : decode b_Mo_count 44 = .ok (.goto 4, 3) := by decide +kernel
theorem d_Mo_count_47 : decode b_Mo_count 47 = .ok (.iconst (-1), 1) := by decide +kernel
theorem d_Mo_count_48 : decode b_Mo_count 48 = .ok (.ireturn, 1) := by decide +kernel
theorem d_Ch_init_0 : decode b_Ch_init 0 = .ok (.aload_n 0, 1) := by decide +kernel
theorem d_Ch_init_1 : decode b_Ch_init 1 = .ok (.invokespecial 3, 3) := by decide +kernel
theorem d_Ch_init_4 : decode b_Ch_init 4 = .ok (.aload_n 0, 1) := by decide +kernel
theorem d_Ch_init_5 : decode b_Ch_init 5 = .ok (.sipush 4096, 3) := by decide +kernel
theorem d_Ch_init_8 : decode b_Ch_init 8 = .ok (.newarray .byte, 2) := by decide +kernel
theorem d_Ch_init_10 : decode b_Ch_init 10 = .ok (.putfield 11, 3) := by decide +kernel
theorem d_Ch_init_13 : decode b_Ch_init 13 = .ok (.return_, 1) := by decide +kernel
theorem d_Ch_hasRoom_0 : decode b_Ch_hasRoom 0 = .ok (.aload_n 0, 1) := by decide +kernel
theorem d_Ch_hasRoom_1 : decode b_Ch_hasRoom 1 = .ok (.getfield 15, 3) := by decide +kernel
theorem d_Ch_hasRoom_4 : decode b_Ch_hasRoom 4 = .ok (.iload_n 1, 1) := by decide +kernel
theorem d_Ch_hasRoom_5 : decode b_Ch_hasRoom 5 = .ok (.iadd, 1) := by decide +kernel
theorem d_Ch_hasRoom_6 : decode b_Ch_hasRoom 6 = .ok (.sipush 4096, 3) := by decide +kernel
theorem d_Ch_hasRoom_9 : decode b_Ch_hasRoom 9 = .ok (.if_icmp .gt 7, 3) := by decide +kernel
theorem d_Ch_hasRoom_12 : decode b_Ch_hasRoom 12 = .ok (.iconst 1, 1) := by decide +kernel
theorem d_Ch_hasRoom_13 : decode b_Ch_hasRoom 13 = .ok (.goto 4, 3) := by decide +kernel
theorem d_Ch_hasRoom_16 : decode b_Ch_hasRoom 16 = .ok (.iconst 0, 1) := by decide +kernel
theorem d_Ch_hasRoom_17 : decode b_Ch_hasRoom 17 = .ok (.ireturn, 1) := by decide +kernel
theorem d_Ch_add_0 : decode b_Ch_add 0 = .ok (.aload_n 0, 1) := by decide +kernel
theorem d_Ch_add_1 : decode b_Ch_add 1 = .ok (.getfield 11, 3) := by decide +kernel
theorem d_Ch_add_4 : decode b_Ch_add 4 = .ok (.aload_n 0, 1) := by decide +kernel
theorem d_Ch_add_5 : decode b_Ch_add 5 = .ok (.getfield 19, 3) := by decide +kernel
theorem d_Ch_add_8 : decode b_Ch_add 8 = .ok (.aload_n 0, 1) := by decide +kernel
theorem d_Ch_add_9 : decode b_Ch_add 9 = .ok (.getfield 15, 3) := by decide +kernel
theorem d_Ch_add_12 : decode b_Ch_add 12 = .ok (.iadd, 1) := by decide +kernel
theorem d_Ch_add_13 : decode b_Ch_add 13 = .ok (.sipush 4096, 3) := by decide +kernel
theorem d_Ch_add_16 : decode b_Ch_add 16 = .ok (.irem, 1) := by decide +kernel
theorem d_Ch_add_17 : decode b_Ch_add 17 = .ok (.iload_n 1, 1) := by decide +kernel
theorem d_Ch_add_18 : decode b_Ch_add 18 = .ok (.i2b, 1) := by decide +kernel
theorem d_Ch_add_19 : decode b_Ch_add 19 = .ok (.bastore, 1) := by decide +kernel
theorem d_Ch_add_20 : decode b_Ch_add 20 = .ok (.aload_n 0, 1) := by decide +kernel
theorem d_Ch_add_21 : decode b_Ch_add 21 = .ok (.dup, 1) := by decide +kernel
theorem d_Ch_add_22 : decode b_Ch_add 22 = .ok (.getfield 15, 3) := by decide +kernel
theorem d_Ch_add_25 : decode b_Ch_add 25 = .ok (.iconst 1, 1) := by decide +kernel
theorem d_Ch_add_26 : decode b_Ch_add 26 = .ok (.iadd, 1) := by decide +kernel
theorem d_Ch_add_27 : decode b_Ch_add 27 = .ok (.putfield 15, 3) := by decide +kernel
theorem d_Ch_add_30 : decode b_Ch_add 30 = .ok (.return_, 1) := by decide +kernel
theorem d_Ch_put_0 : decode b_Ch_put 0 = .ok (.iconst 0, 1) := by decide +kernel
theorem d_Ch_put_1 : decode b_Ch_put 1 = .ok (.istore_n 3, 1) := by decide +kernel
theorem d_Ch_put_2 : decode b_Ch_put 2 = .ok (.iload_n 3, 1) := by decide +kernel
theorem d_Ch_put_3 : decode b_Ch_put 3 = .ok (.iload_n 2, 1) := by decide +kernel
theorem d_Ch_put_4 : decode b_Ch_put 4 = .ok (.if_icmp .ge 16, 3) := by decide +kernel
theorem d_Ch_put_7 : decode b_Ch_put 7 = .ok (.aload_n 0, 1) := by decide +kernel
theorem d_Ch_put_8 : decode b_Ch_put 8 = .ok (.aload_n 1, 1) := by decide +kernel
theorem d_Ch_put_9 : decode b_Ch_put 9 = .ok (.iload_n 3, 1) := by decide +kernel
theorem d_Ch_put_10 : decode b_Ch_put 10 = .ok (.baload, 1) := by decide +kernel
theorem d_Ch_put_11 : decode b_Ch_put 11 = .ok (.invokevirtual 22, 3) := by decide +kernel
theorem d_Ch_put_14 : decode b_Ch_put 14 = .ok (.iinc 3 1, 3) := by decide +kernel
theorem d_Ch_put_17 : decode b_Ch_put 17 = .ok (.goto (-15), 3) := by decide +kernel
theorem d_Ch_put_20 : decode b_Ch_put 20 = .ok (.return_, 1) := by decide +kernel
theorem d_Ch_peek_0 : decode b_Ch_peek 0 = .ok (.aload_n 0, 1) := by decide +kernel
theorem d_Ch_peek_1 : decode b_Ch_peek 1 = .ok (.getfield 11, 3) := by decide +kernel
theorem d_Ch_peek_4 : decode b_Ch_peek 4 = .ok (.aload_n 0, 1) := by decide +kernel
theorem d_Ch_peek_5 : decode b_Ch_peek 5 = .ok (.getfield 19, 3) := by decide +kernel
theorem d_Ch_peek_8 : decode b_Ch_peek 8 = .ok (.iload_n 1, 1) := by decide +kernel
theorem d_Ch_peek_9 : decode b_Ch_peek 9 = .ok (.iadd, 1) := by decide +kernel
theorem d_Ch_peek_10 : decode b_Ch_peek 10 = .ok (.sipush 4096, 3) := by decide +kernel
theorem d_Ch_peek_13 : decode b_Ch_peek 13 = .ok (.irem, 1) := by decide +kernel
theorem d_Ch_peek_14 : decode b_Ch_peek 14 = .ok (.baload, 1) := by decide +kernel
theorem d_Ch_peek_15 : decode b_Ch_peek 15 = .ok (.sipush 255, 3) := by decide +kernel
theorem d_Ch_peek_18 : decode b_Ch_peek 18 = .ok (.iand, 1) := by decide +kernel
theorem d_Ch_peek_19 : decode b_Ch_peek 19 = .ok (.ireturn, 1) := by decide +kernel
theorem d_Ch_fill_0 : decode b_Ch_fill 0 = .ok (.iconst (-1), 1) := by decide +kernel
theorem d_Ch_fill_1 : decode b_Ch_fill 1 = .ok (.istore 4, 2) := by decide +kernel
theorem d_Ch_fill_3 : decode b_Ch_fill 3 = .ok (.iload_n 2, 1) := by decide +kernel
theorem d_Ch_fill_4 : decode b_Ch_fill 4 = .ok (.istore 5, 2) := by decide +kernel
theorem d_Ch_fill_6 : decode b_Ch_fill 6 = .ok (.iload 5, 2) := by decide +kernel
theorem d_Ch_fill_8 : decode b_Ch_fill 8 = .ok (.iload_n 3, 1) := by decide +kernel
theorem d_Ch_fill_9 : decode b_Ch_fill 9 = .ok (.if_icmp .ge 116, 3) := by decide +kernel
theorem d_Ch_fill_12 : decode b_Ch_fill 12 = .ok (.aload_n 0, 1) := by decide +kernel
theorem d_Ch_fill_13 : decode b_Ch_fill 13 = .ok (.getfield 26, 3) := by decide +kernel
theorem d_Ch_fill_16 : decode b_Ch_fill 16 = .ok (.ifCond .ne 56, 3) := by decide +kernel
theorem d_Ch_fill_19 : decode b_Ch_fill 19 = .ok (.aload_n 0, 1) := by decide +kernel
theorem d_Ch_fill_20 : decode b_Ch_fill 20 = .ok (.getfield 15, 3) := by decide +kernel
theorem d_Ch_fill_23 : decode b_Ch_fill 23 = .ok (.ifCond .ne 11, 3) := by decide +kernel
theorem d_Ch_fill_26 : decode b_Ch_fill 26 = .ok (.aload_n 0, 1) := by decide +kernel
theorem d_Ch_fill_27 : decode b_Ch_fill 27 = .ok (.iload_n 3, 1) := by decide +kernel
theorem d_Ch_fill_28 : decode b_Ch_fill 28 = .ok (.iload 5, 2) := by decide +kernel
theorem d_Ch_fill_30 : decode b_Ch_fill 30 = .ok (.isub, 1) := by decide +kernel
theorem d_Ch_fill_31 : decode b_Ch_fill 31 = .ok (.invokevirtual 29, 3) := by decide +kernel
theorem d_Ch_fill_34 : decode b_Ch_fill 34 = .ok (.iload 4, 2) := by decide +kernel
theorem d_Ch_fill_36 : decode b_Ch_fill 36 = .ok (.iconst (-1), 1) := by decide +kernel
theorem d_Ch_fill_37 : decode b_Ch_fill 37 = .ok (.if_icmp .ne 10, 3) := by decide +kernel
theorem d_Ch_fill_40 : decode b_Ch_fill 40 = .ok (.iload 5, 2) := by decide +kernel
theorem d_Ch_fill_42 : decode b_Ch_fill 42 = .ok (.iload_n 2, 1) := by decide +kernel
theorem d_Ch_fill_43 : decode b_Ch_fill 43 = .ok (.isub, 1) := by decide +kernel
theorem d_Ch_fill_44 : decode b_Ch_fill 44 = .ok (.goto 5, 3) := by decide +kernel
theorem d_Ch_fill_47 : decode b_Ch_fill 47 = .ok (.iload 4, 2) := by decide +kernel
theorem d_Ch_fill_49 : decode b_Ch_fill 49 = .ok (.istore 4, 2) := by decide +kernel
theorem d_Ch_fill_51 : decode b_Ch_fill 51 = .ok (.aload_n 0, 1) := by decide +kernel
theorem d_Ch_fill_52 : decode b_Ch_fill 52 = .ok (.bipush 7, 2) := by decide +kernel
theorem d_Ch_fill_54 : decode b_Ch_fill 54 = .ok (.aload_n 0, 1) := by decide +kernel
theorem d_Ch_fill_55 : decode b_Ch_fill 55 = .ok (.iconst 4, 1) := by decide +kernel
theorem d_Ch_fill_56 : decode b_Ch_fill 56 = .ok (.invokevirtual 32, 3) := by decide +kernel
theorem d_Ch_fill_59 : decode b_Ch_fill 59 = .ok (.bipush 8, 2) := by decide +kernel
theorem d_Ch_fill_61 : decode b_Ch_fill 61 = .ok (.ishl, 1) := by decide +kernel
theorem d_Ch_fill_62 : decode b_Ch_fill 62 = .ok (.aload_n 0, 1) := by decide +kernel
theorem d_Ch_fill_63 : decode b_Ch_fill 63 = .ok (.iconst 5, 1) := by decide +kernel
theorem d_Ch_fill_64 : decode b_Ch_fill 64 = .ok (.invokevirtual 32, 3) := by decide +kernel
theorem d_Ch_fill_67 : decode b_Ch_fill 67 = .ok (.ior, 1) := by decide +kernel
theorem d_Ch_fill_68 : decode b_Ch_fill 68 = .ok (.iadd, 1) := by decide +kernel
theorem d_Ch_fill_69 : decode b_Ch_fill 69 = .ok (.putfield 26, 3) := by decide +kernel
theorem d_Ch_fill_72 : decode b_Ch_fill 72 = .ok (.aload_n 1, 1) := by decide +kernel
theorem d_Ch_fill_73 : decode b_Ch_fill 73 = .ok (.iload 5, 2) := by decide +kernel
theorem d_Ch_fill_75 : decode b_Ch_fill 75 = .ok (.aload_n 0, 1) := by decide +kernel
theorem d_Ch_fill_76 : decode b_Ch_fill 76 = .ok (.getfield 11, 3) := by decide +kernel
theorem d_Ch_fill_79 : decode b_Ch_fill 79 = .ok (.aload_n 0, 1) := by decide +kernel
theorem d_Ch_fill_80 : decode b_Ch_fill 80 = .ok (.getfield 19, 3) := by decide +kernel
theorem d_Ch_fill_83 : decode b_Ch_fill 83 = .ok (.baload, 1) := by decide +kernel
theorem d_Ch_fill_84 : decode b_Ch_fill 84 = .ok (.bastore, 1) := by decide +kernel
theorem d_Ch_fill_85 : decode b_Ch_fill 85 = .ok (.aload_n 0, 1) := by decide +kernel
theorem d_Ch_fill_86 : decode b_Ch_fill 86 = .ok (.aload_n 0, 1) := by decide +kernel
theorem d_Ch_fill_87 : decode b_Ch_fill 87 = .ok (.getfield 19, 3) := by decide +kernel
theorem d_Ch_fill_90 : decode b_Ch_fill 90 = .ok (.iconst 1, 1) := by decide +kernel
theorem d_Ch_fill_91 : decode b_Ch_fill 91 = .ok (.iadd, 1) := by decide +kernel
theorem d_Ch_fill_92 : decode b_Ch_fill 92 = .ok (.sipush 4096, 3) := by decide +kernel
theorem d_Ch_fill_95 : decode b_Ch_fill 95 = .ok (.irem, 1) := by decide +kernel
theorem d_Ch_fill_96 : decode b_Ch_fill 96 = .ok (.putfield 19, 3) := by decide +kernel
theorem d_Ch_fill_99 : decode b_Ch_fill 99 = .ok (.aload_n 0, 1) := by decide +kernel
theorem d_Ch_fill_100 : decode b_Ch_fill 100 = .ok (.dup, 1) := by decide +kernel
theorem d_Ch_fill_101 : decode b_Ch_fill 101 = .ok (.getfield 15, 3) := by decide +kernel
theorem d_Ch_fill_104 : decode b_Ch_fill 104 = .ok (.iconst 1, 1) := by decide +kernel
theorem d_Ch_fill_105 : decode b_Ch_fill 105 = .ok (.isub, 1) := by decide +kernel
theorem d_Ch_fill_106 : decode b_Ch_fill 106 = .ok (.putfield 15, 3) := by decide +kernel
theorem d_Ch_fill_109 : decode b_Ch_fill 109 = .ok (.aload_n 0, 1) := by decide +kernel
theorem d_Ch_fill_110 : decode b_Ch_fill 110 = .ok (.dup, 1) := by decide +kernel
theorem d_Ch_fill_111 : decode b_Ch_fill 111 = .ok (.getfield 26, 3) := by decide +kernel
theorem d_Ch_fill_114 : decode b_Ch_fill 114 = .ok (.iconst 1, 1) := by decide +kernel
theorem d_Ch_fill_115 : decode b_Ch_fill 115 = .ok (.isub, 1) := by decide +kernel
theorem d_Ch_fill_116 : decode b_Ch_fill 116 = .ok (.putfield 26, 3) := by decide +kernel
theorem d_Ch_fill_119 : decode b_Ch_fill 119 = .ok (.iinc 5 1, 3) := by decide +kernel
theorem d_Ch_fill_122 : decode b_Ch_fill 122 = .ok (.goto (-116), 3) := by decide +kernel
theorem d_Ch_fill_125 : decode b_Ch_fill 125 = .ok (.iload 4, 2) := by decide +kernel
theorem d_Ch_fill_127 : decode b_Ch_fill 127 = .ok (.ireturn, 1) := by decide +kernel
theorem d_Ch_empty_0 : decode b_Ch_empty 0 = .ok (.iload_n 1, 1) := by decide +kernel
theorem d_Ch_empty_1 : decode b_Ch_empty 1 = .ok (.bipush 7, 2) := by decide +kernel
theorem d_Ch_empty_3 : decode b_Ch_empty 3 = .ok (.if_icmp .ge 8, 3) := by decide +kernel
theorem d_Ch_empty_6 : decode b_Ch_empty 6 = .ok (.bipush 7, 2) := by decide +kernel
theorem d_Ch_empty_8 : decode b_Ch_empty 8 = .ok (.goto 4, 3) := by decide +kernel
theorem d_Ch_empty_11 : decode b_Ch_empty 11 = .ok (.iload_n 1, 1) := by decide +kernel
theorem d_Ch_empty_12 : decode b_Ch_empty 12 = .ok (.bipush 6, 2) := by decide +kernel
theorem d_Ch_empty_14 : decode b_Ch_empty 14 = .ok (.isub, 1) := by decide +kernel
theorem d_Ch_empty_15 : decode b_Ch_empty 15 = .ok (.istore_n 2, 1) := by decide +kernel
end
section
theorem d_Ch_empty_16 : decode b_Ch_empty 16 = .ok (.aload_n 0, 1) := by decide +kernel
theorem d_Ch_empty_17 : decode b_Ch_empty 17 = .ok (.bipush 7, 2) := by decide +kernel
theorem d_Ch_empty_19 : decode b_Ch_empty 19 = .ok (.invokevirtual 22, 3) := by decide +kernel
theorem d_Ch_empty_22 : decode b_Ch_empty 22 = .ok (.aload_n 0, 1) := by decide +kernel
theorem d_Ch_empty_23 : decode b_Ch_empty 23 = .ok (.sipush 255, 3) := by decide +kernel
theorem d_Ch_empty_26 : decode b_Ch_empty 26 = .ok (.invokevirtual 22, 3) := by decide +kernel
theorem d_Ch_empty_29 : decode b_Ch_empty 29 = .ok (.aload_n 0, 1) := by decide +kernel
theorem d_Ch_empty_30 : decode b_Ch_empty 30 = .ok (.sipush 192, 3) := by decide +kernel
theorem d_Ch_empty_33 : decode b_Ch_empty 33 = .ok (.invokevirtual 22, 3) := by decide +kernel
theorem d_Ch_empty_36 : decode b_Ch_empty 36 = .ok (.aload_n 0, 1) := by decide +kernel
theorem d_Ch_empty_37 : decode b_Ch_empty 37 = .ok (.iconst 0, 1) := by decide +kernel
theorem d_Ch_empty_38 : decode b_Ch_empty 38 = .ok (.invokevirtual 22, 3) := by decide +kernel
theorem d_Ch_empty_41 : decode b_Ch_empty 41 = .ok (.aload_n 0, 1) := by decide +kernel
theorem d_Ch_empty_42 : decode b_Ch_empty 42 = .ok (.iload_n 2, 1) := by decide +kernel
theorem d_Ch_empty_43 : decode b_Ch_empty 43 = .ok (.iconst 1, 1) := by decide +kernel
theorem d_Ch_empty_44 : decode b_Ch_empty 44 = .ok (.isub, 1) := by decide +kernel
theorem d_Ch_empty_45 : decode b_Ch_empty 45 = .ok (.bipush 8, 2) := by decide +kernel
theorem d_Ch_empty_47 : decode b_Ch_empty 47 = .ok (.ishr, 1) := by decide +kernel
theorem d_Ch_empty_48 : decode b_Ch_empty 48 = .ok (.invokevirtual 22, 3) := by decide +kernel
theorem d_Ch_empty_51 : decode b_Ch_empty 51 = .ok (.aload_n 0, 1) := by decide +kernel
theorem d_Ch_empty_52 : decode b_Ch_empty 52 = .ok (.iload_n 2, 1) := by decide +kernel
theorem d_Ch_empty_53 : decode b_Ch_empty 53 = .ok (.iconst 1, 1) := by decide +kernel
theorem d_Ch_empty_54 : decode b_Ch_empty 54 = .ok (.isub, 1) := by decide +kernel
theorem d_Ch_empty_55 : decode b_Ch_empty 55 = .ok (.invokevirtual 22, 3) := by decide +kernel
theorem d_Ch_empty_58 : decode b_Ch_empty 58 = .ok (.iconst 0, 1) := by decide +kernel
theorem d_Ch_empty_59 : decode b_Ch_empty 59 = .ok (.istore_n 3, 1) := by decide +kernel
theorem d_Ch_empty_60 : decode b_Ch_empty 60 = .ok (.iload_n 3, 1) := by decide +kernel
theorem d_Ch_empty_61 : decode b_Ch_empty 61 = .ok (.iload_n 2, 1) := by decide +kernel
theorem d_Ch_empty_62 : decode b_Ch_empty 62 = .ok (.if_icmp .ge 15, 3) := by decide +kernel
theorem d_Ch_empty_65 : decode b_Ch_empty 65 = .ok (.aload_n 0, 1) := by decide +kernel
theorem d_Ch_empty_66 : decode b_Ch_empty 66 = .ok (.bipush 85, 2) := by decide +kernel
theorem d_Ch_empty_68 : decode b_Ch_empty 68 = .ok (.invokevirtual 22, 3) := by decide +kernel
theorem d_Ch_empty_71 : decode b_Ch_empty 71 = .ok (.iinc 3 1, 3) := by decide +kernel
theorem d_Ch_empty_74 : decode b_Ch_empty 74 = .ok (.goto (-14), 3) := by decide +kernel
theorem d_Ch_empty_77 : decode b_Ch_empty 77 = .ok (.return_, 1) := by decide +kernel
theorem d_Ck_of_0 : decode b_Ck_of 0 = .ok (.ldc 7, 2) := by decide +kernel
theorem d_Ck_of_2 : decode b_Ck_of 2 = .ok (.istore_n 3, 1) := by decide +kernel
theorem d_Ck_of_3 : decode b_Ck_of 3 = .ok (.iload_n 1, 1) := by decide +kernel
theorem d_Ck_of_4 : decode b_Ck_of 4 = .ok (.istore 4, 2) := by decide +kernel
theorem d_Ck_of_6 : decode b_Ck_of 6 = .ok (.iload 4, 2) := by decide +kernel
theorem d_Ck_of_8 : decode b_Ck_of 8 = .ok (.iload_n 1, 1) := by decide +kernel
theorem d_Ck_of_9 : decode b_Ck_of 9 = .ok (.iload_n 2, 1) := by decide +kernel
theorem d_Ck_of_10 : decode b_Ck_of 10 = .ok (.iadd, 1) := by decide +kernel
theorem d_Ck_of_11 : decode b_Ck_of 11 = .ok (.if_icmp .ge 59, 3) := by decide +kernel
theorem d_Ck_of_14 : decode b_Ck_of 14 = .ok (.iload_n 3, 1) := by decide +kernel
theorem d_Ck_of_15 : decode b_Ck_of 15 = .ok (.aload_n 0, 1) := by decide +kernel
theorem d_Ck_of_16 : decode b_Ck_of 16 = .ok (.iload 4, 2) := by decide +kernel
theorem d_Ck_of_18 : decode b_Ck_of 18 = .ok (.baload, 1) := by decide +kernel
theorem d_Ck_of_19 : decode b_Ck_of 19 = .ok (.sipush 255, 3) := by decide +kernel
theorem d_Ck_of_22 : decode b_Ck_of 22 = .ok (.iand, 1) := by decide +kernel
theorem d_Ck_of_23 : decode b_Ck_of 23 = .ok (.bipush 8, 2) := by decide +kernel
theorem d_Ck_of_25 : decode b_Ck_of 25 = .ok (.ishl, 1) := by decide +kernel
theorem d_Ck_of_26 : decode b_Ck_of 26 = .ok (.ixor, 1) := by decide +kernel
theorem d_Ck_of_27 : decode b_Ck_of 27 = .ok (.istore_n 3, 1) := by decide +kernel
theorem d_Ck_of_28 : decode b_Ck_of 28 = .ok (.iconst 0, 1) := by decide +kernel
theorem d_Ck_of_29 : decode b_Ck_of 29 = .ok (.istore 5, 2) := by decide +kernel
theorem d_Ck_of_31 : decode b_Ck_of 31 = .ok (.iload 5, 2) := by decide +kernel
theorem d_Ck_of_33 : decode b_Ck_of 33 = .ok (.bipush 8, 2) := by decide +kernel
theorem d_Ck_of_35 : decode b_Ck_of 35 = .ok (.if_icmp .ge 29, 3) := by decide +kernel
theorem d_Ck_of_38 : decode b_Ck_of 38 = .ok (.iload_n 3, 1) := by decide +kernel
theorem d_Ck_of_39 : decode b_Ck_of 39 = .ok (.ldc 8, 2) := by decide +kernel
theorem d_Ck_of_41 : decode b_Ck_of 41 = .ok (.iand, 1) := by decide +kernel
theorem d_Ck_of_42 : decode b_Ck_of 42 = .ok (.ifCond .eq 12, 3) := by decide +kernel
theorem d_Ck_of_45 : decode b_Ck_of 45 = .ok (.iload_n 3, 1) := by decide +kernel
theorem d_Ck_of_46 : decode b_Ck_of 46 = .ok (.iconst 1, 1) := by decide +kernel
theorem d_Ck_of_47 : decode b_Ck_of 47 = .ok (.ishl, 1) := by decide +kernel
theorem d_Ck_of_48 : decode b_Ck_of 48 = .ok (.ldc 9, 2) := by decide +kernel
theorem d_Ck_of_50 : decode b_Ck_of 50 = .ok (.ixor, 1) := by decide +kernel
theorem d_Ck_of_51 : decode b_Ck_of 51 = .ok (.goto 6, 3) := by decide +kernel
theorem d_Ck_of_54 : decode b_Ck_of 54 = .ok (.iload_n 3, 1) := by decide +kernel
theorem d_Ck_of_55 : decode b_Ck_of 55 = .ok (.iconst 1, 1) := by decide +kernel
theorem d_Ck_of_56 : decode b_Ck_of 56 = .ok (.ishl, 1) := by decide +kernel
theorem d_Ck_of_57 : decode b_Ck_of 57 = .ok (.istore_n 3, 1) := by decide +kernel
theorem d_Ck_of_58 : decode b_Ck_of 58 = .ok (.iinc 5 1, 3) := by decide +kernel
theorem d_Ck_of_61 : decode b_Ck_of 61 = .ok (.goto (-30), 3) := by decide +kernel
theorem d_Ck_of_64 : decode b_Ck_of 64 = .ok (.iinc 4 1, 3) := by decide +kernel
theorem d_Ck_of_67 : decode b_Ck_of 67 = .ok (.goto (-61), 3) := by decide +kernel
theorem d_Ck_of_70 : decode b_Ck_of 70 = .ok (.iload_n 3, 1) := by decide +kernel
theorem d_Ck_of_71 : decode b_Ck_of 71 = .ok (.ireturn, 1) := by decide +kernel
theorem d_Mk_init_0 : decode b_Mk_init 0 = .ok (.aload_n 0, 1) := by decide +kernel
theorem d_Mk_init_1 : decode b_Mk_init 1 = .ok (.invokespecial 3, 3) := by decide +kernel
theorem d_Mk_init_4 : decode b_Mk_init 4 = .ok (.aload_n 0, 1) := by decide +kernel
theorem d_Mk_init_5 : decode b_Mk_init 5 = .ok (.iconst 2, 1) := by decide +kernel
theorem d_Mk_init_6 : decode b_Mk_init 6 = .ok (.anewarray 9, 3) := by decide +kernel
theorem d_Mk_init_9 : decode b_Mk_init 9 = .ok (.dup, 1) := by decide +kernel
theorem d_Mk_init_10 : decode b_Mk_init 10 = .ok (.iconst 0, 1) := by decide +kernel
theorem d_Mk_init_11 : decode b_Mk_init 11 = .ok (.new 9, 3) := by decide +kernel
theorem d_Mk_init_14 : decode b_Mk_init 14 = .ok (.dup, 1) := by decide +kernel
theorem d_Mk_init_15 : decode b_Mk_init 15 = .ok (.invokespecial 11, 3) := by decide +kernel
theorem d_Mk_init_18 : decode b_Mk_init 18 = .ok (.aastore, 1) := by decide +kernel
theorem d_Mk_init_19 : decode b_Mk_init 19 = .ok (.dup, 1) := by decide +kernel
theorem d_Mk_init_20 : decode b_Mk_init 20 = .ok (.iconst 1, 1) := by decide +kernel
theorem d_Mk_init_21 : decode b_Mk_init 21 = .ok (.new 9, 3) := by decide +kernel
theorem d_Mk_init_24 : decode b_Mk_init 24 = .ok (.dup, 1) := by decide +kernel
theorem d_Mk_init_25 : decode b_Mk_init 25 = .ok (.invokespecial 11, 3) := by decide +kernel
theorem d_Mk_init_28 : decode b_Mk_init 28 = .ok (.aastore, 1) := by decide +kernel
theorem d_Mk_init_29 : decode b_Mk_init 29 = .ok (.putfield 12, 3) := by decide +kernel
theorem d_Mk_init_32 : decode b_Mk_init 32 = .ok (.aload_n 0, 1) := by decide +kernel
theorem d_Mk_init_33 : decode b_Mk_init 33 = .ok (.iconst 3, 1) := by decide +kernel
theorem d_Mk_init_34 : decode b_Mk_init 34 = .ok (.newarray .int, 2) := by decide +kernel
theorem d_Mk_init_36 : decode b_Mk_init 36 = .ok (.putfield 18, 3) := by decide +kernel
theorem d_Mk_init_39 : decode b_Mk_init 39 = .ok (.aload_n 0, 1) := by decide +kernel
theorem d_Mk_init_40 : decode b_Mk_init 40 = .ok (.iload_n 1, 1) := by decide +kernel
theorem d_Mk_init_41 : decode b_Mk_init 41 = .ok (.newarray .byte, 2) := by decide +kernel
theorem d_Mk_init_43 : decode b_Mk_init 43 = .ok (.putfield 22, 3) := by decide +kernel
theorem d_Mk_init_46 : decode b_Mk_init 46 = .ok (.return_, 1) := by decide +kernel
theorem d_Mk_next_0 : decode b_Mk_next 0 = .ok (.iconst 0, 1) := by decide +kernel
theorem d_Mk_next_1 : decode b_Mk_next 1 = .ok (.istore_n 1, 1) := by decide +kernel
theorem d_Mk_next_2 : decode b_Mk_next 2 = .ok (.iload_n 1, 1) := by decide +kernel
theorem d_Mk_next_3 : decode b_Mk_next 3 = .ok (.iconst 2, 1) := by decide +kernel
theorem d_Mk_next_4 : decode b_Mk_next 4 = .ok (.if_icmp .ge 21, 3) := by decide +kernel
theorem d_Mk_next_7 : decode b_Mk_next 7 = .ok (.aload_n 0, 1) := by decide +kernel
theorem d_Mk_next_8 : decode b_Mk_next 8 = .ok (.getfield 12, 3) := by decide +kernel
theorem d_Mk_next_11 : decode b_Mk_next 11 = .ok (.iload_n 1, 1) := by decide +kernel
theorem d_Mk_next_12 : decode b_Mk_next 12 = .ok (.aaload, 1) := by decide +kernel
theorem d_Mk_next_13 : decode b_Mk_next 13 = .ok (.getfield 26, 3) := by decide +kernel
theorem d_Mk_next_16 : decode b_Mk_next 16 = .ok (.ifCond .ne 9, 3) := by decide +kernel
theorem d_Mk_next_19 : decode b_Mk_next 19 = .ok (.iinc 1 1, 3) := by decide +kernel
theorem d_Mk_next_22 : decode b_Mk_next 22 = .ok (.goto (-20), 3) := by decide +kernel
theorem d_Mk_next_25 : decode b_Mk_next 25 = .ok (.iload_n 1, 1) := by decide +kernel
theorem d_Mk_next_26 : decode b_Mk_next 26 = .ok (.ireturn, 1) := by decide +kernel
theorem d_Mk_put_0 : decode b_Mk_put 0 = .ok (.iconst 0, 1) := by decide +kernel
theorem d_Mk_put_1 : decode b_Mk_put 1 = .ok (.istore 4, 2) := by decide +kernel
theorem d_Mk_put_3 : decode b_Mk_put 3 = .ok (.iload 4, 2) := by decide +kernel
theorem d_Mk_put_5 : decode b_Mk_put 5 = .ok (.iload_n 2, 1) := by decide +kernel
theorem d_Mk_put_6 : decode b_Mk_put 6 = .ok (.if_icmp .ge 30, 3) := by decide +kernel
theorem d_Mk_put_9 : decode b_Mk_put 9 = .ok (.aload_n 0, 1) := by decide +kernel
theorem d_Mk_put_10 : decode b_Mk_put 10 = .ok (.getfield 22, 3) := by decide +kernel
theorem d_Mk_put_13 : decode b_Mk_put 13 = .ok (.iload_n 1, 1) := by decide +kernel
theorem d_Mk_put_14 : decode b_Mk_put 14 = .ok (.iload 4, 2) := by decide +kernel
theorem d_Mk_put_16 : decode b_Mk_put 16 = .ok (.iadd, 1) := by decide +kernel
theorem d_Mk_put_17 : decode b_Mk_put 17 = .ok (.iload_n 3, 1) := by decide +kernel
theorem d_Mk_put_18 : decode b_Mk_put 18 = .ok (.bipush 8, 2) := by decide +kernel
theorem d_Mk_put_20 : decode b_Mk_put 20 = .ok (.iload_n 2, 1) := by decide +kernel
theorem d_Mk_put_21 : decode b_Mk_put 21 = .ok (.iconst 1, 1) := by decide +kernel
theorem d_Mk_put_22 : decode b_Mk_put 22 = .ok (.isub, 1) := by decide +kernel
theorem d_Mk_put_23 : decode b_Mk_put 23 = .ok (.iload 4, 2) := by decide +kernel
theorem d_Mk_put_25 : decode b_Mk_put 25 = .ok (.isub, 1) := by decide +kernel
theorem d_Mk_put_26 : decode b_Mk_put 26 = .ok (.imul, 1) := by decide +kernel
theorem d_Mk_put_27 : decode b_Mk_put 27 = .ok (.ishr, 1) := by decide +kernel
theorem d_Mk_put_28 : decode b_Mk_put 28 = .ok (.i2b, 1) := by decide +kernel
theorem d_Mk_put_29 : decode b_Mk_put 29 = .ok (.bastore, 1) := by decide +kernel
theorem d_Mk_put_30 : decode b_Mk_put 30 = .ok (.iinc 4 1, 3) := by decide +kernel
theorem d_Mk_put_33 : decode b_Mk_put 33 = .ok (.goto (-30), 3) := by decide +kernel
theorem d_Mk_put_36 : decode b_Mk_put 36 = .ok (.return_, 1) := by decide +kernel
theorem d_Mk_make_0 : decode b_Mk_make 0 = .ok (.aload_n 0, 1) := by decide +kernel
theorem d_Mk_make_1 : decode b_Mk_make 1 = .ok (.invokevirtual 30, 3) := by decide +kernel
theorem d_Mk_make_4 : decode b_Mk_make 4 = .ok (.istore_n 2, 1) := by decide +kernel
theorem d_Mk_make_5 : decode b_Mk_make 5 = .ok (.iload_n 2, 1) := by decide +kernel
theorem d_Mk_make_6 : decode b_Mk_make 6 = .ok (.iconst 2, 1) := by decide +kernel
theorem d_Mk_make_7 : decode b_Mk_make 7 = .ok (.if_icmp .ne 8, 3) := by decide +kernel
theorem d_Mk_make_10 : decode b_Mk_make 10 = .ok (.bipush 7, 2) := by decide +kernel
theorem d_Mk_make_12 : decode b_Mk_make 12 = .ok (.goto 4, 3) := by decide +kernel
theorem d_Mk_make_15 : decode b_Mk_make 15 = .ok (.iload_n 2, 1) := by decide +kernel
theorem d_Mk_make_16 : decode b_Mk_make 16 = .ok (.istore_n 3, 1) := by decide +kernel
theorem d_Mk_make_17 : decode b_Mk_make 17 = .ok (.aload_n 0, 1) := by decide +kernel
theorem d_Mk_make_18 : decode b_Mk_make 18 = .ok (.getfield 22, 3) := by decide +kernel
theorem d_Mk_make_21 : decode b_Mk_make 21 = .ok (.arraylength, 1) := by decide +kernel
theorem d_Mk_make_22 : decode b_Mk_make 22 = .ok (.bipush 6, 2) := by decide +kernel
theorem d_Mk_make_24 : decode b_Mk_make 24 = .ok (.isub, 1) := by decide +kernel
theorem d_Mk_make_25 : decode b_Mk_make 25 = .ok (.istore 4, 2) := by decide +kernel
theorem d_Mk_make_27 : decode b_Mk_make 27 = .ok (.sipush 2046, 3) := by decide +kernel
theorem d_Mk_make_30 : decode b_Mk_make 30 = .ok (.istore 5, 2) := by decide +kernel
theorem d_Mk_make_32 : decode b_Mk_make 32 = .ok (.iload_n 2, 1) := by decide +kernel
theorem d_Mk_make_33 : decode b_Mk_make 33 = .ok (.iconst 2, 1) := by decide +kernel
theorem d_Mk_make_34 : decode b_Mk_make 34 = .ok (.if_icmp .ne 32, 3) := by decide +kernel
theorem d_Mk_make_37 : decode b_Mk_make 37 = .ok (.bipush 6, 2) := by decide +kernel
theorem d_Mk_make_39 : decode b_Mk_make 39 = .ok (.istore 6, 2) := by decide +kernel
theorem d_Mk_make_41 : decode b_Mk_make 41 = .ok (.iload 6, 2) := by decide +kernel
theorem d_Mk_make_43 : decode b_Mk_make 43 = .ok (.iload 4, 2) := by decide +kernel
theorem d_Mk_make_45 : decode b_Mk_make 45 = .ok (.if_icmp .ge 18, 3) := by decide +kernel
theorem d_Mk_make_48 : decode b_Mk_make 48 = .ok (.aload_n 0, 1) := by decide +kernel
theorem d_Mk_make_49 : decode b_Mk_make 49 = .ok (.getfield 22, 3) := by decide +kernel
theorem d_Mk_make_52 : decode b_Mk_make 52 = .ok (.iload 6, 2) := by decide +kernel
theorem d_Mk_make_54 : decode b_Mk_make 54 = .ok (.bipush 85, 2) := by decide +kernel
theorem d_Mk_make_56 : decode b_Mk_make 56 = .ok (.bastore, 1) := by decide +kernel
theorem d_Mk_make_57 : decode b_Mk_make 57 = .ok (.iinc 6 1, 3) := by decide +kernel
theorem d_Mk_make_60 : decode b_Mk_make 60 = .ok (.goto (-19), 3) := by decide +kernel
theorem d_Mk_make_63 : decode b_Mk_make 63 = .ok (.goto 38, 3) := by decide +kernel
theorem d_Mk_make_66 : decode b_Mk_make 66 = .ok (.aload_n 0, 1) := by decide +kernel
theorem d_Mk_make_67 : decode b_Mk_make 67 = .ok (.getfield 12, 3) := by decide +kernel
theorem d_Mk_make_70 : decode b_Mk_make 70 = .ok (.iload_n 2, 1) := by decide +kernel
theorem d_Mk_make_71 : decode b_Mk_make 71 = .ok (.aaload, 1) := by decide +kernel
theorem d_Mk_make_72 : decode b_Mk_make 72 = .ok (.aload_n 0, 1) := by decide +kernel
theorem d_Mk_make_73 : decode b_Mk_make 73 = .ok (.getfield 22, 3) := by decide +kernel
theorem d_Mk_make_76 : decode b_Mk_make 76 = .ok (.bipush 6, 2) := by decide +kernel
theorem d_Mk_make_78 : decode b_Mk_make 78 = .ok (.iload 4, 2) := by decide +kernel
theorem d_Mk_make_80 : decode b_Mk_make 80 = .ok (.invokevirtual 34, 3) := by decide +kernel
theorem d_Mk_make_83 : decode b_Mk_make 83 = .ok (.istore 6, 2) := by decide +kernel
theorem d_Mk_make_85 : decode b_Mk_make 85 = .ok (.iload 6, 2) := by decide +kernel
theorem d_Mk_make_87 : decode b_Mk_make 87 = .ok (.iconst (-1), 1) := by decide +kernel
theorem d_Mk_make_88 : decode b_Mk_make 88 = .ok (.if_icmp .ne 9, 3) := by decide +kernel
theorem d_Mk_make_91 : decode b_Mk_make 91 = .ok (.sipush 2047, 3) := by decide +kernel
theorem d_Mk_make_94 : decode b_Mk_make 94 = .ok (.goto 5, 3) := by decide +kernel
theorem d_Mk_make_97 : decode b_Mk_make 97 = .ok (.iload 6, 2) := by decide +kernel
theorem d_Mk_make_99 : decode b_Mk_make 99 = .ok (.istore 5, 2) := by decide +kernel
theorem d_Mk_make_101 : decode b_Mk_make 101 = .ok (.aload_n 0, 1) := by decide +kernel
theorem d_Mk_make_102 : decode b_Mk_make 102 = .ok (.iconst 0, 1) := by decide +kernel
theorem d_Mk_make_103 : decode b_Mk_make 103 = .ok (.iconst 2, 1) := by decide +kernel
theorem d_Mk_make_104 : decode b_Mk_make 104 = .ok (.sipush 5536, 3) := by decide +kernel
theorem d_Mk_make_107 : decode b_Mk_make 107 = .ok (.iload_n 3, 1) := by decide +kernel
theorem d_Mk_make_108 : decode b_Mk_make 108 = .ok (.iconst 1, 1) := by decide +kernel
theorem d_Mk_make_109 : decode b_Mk_make 109 = .ok (.ishl, 1) := by decide +kernel
theorem d_Mk_make_110 : decode b_Mk_make 110 = .ok (.ior, 1) := by decide +kernel
theorem d_Mk_make_111 : decode b_Mk_make 111 = .ok (.iconst 1, 1) := by decide +kernel
theorem d_Mk_make_112 : decode b_Mk_make 112 = .ok (.ior, 1) := by decide +kernel
theorem d_Mk_make_113 : decode b_Mk_make 113 = .ok (.invokevirtual 38, 3) := by decide +kernel
theorem d_Mk_make_116 : decode b_Mk_make 116 = .ok (.aload_n 0, 1) := by decide +kernel
theorem d_Mk_make_117 : decode b_Mk_make 117 = .ok (.iconst 2, 1) := by decide +kernel
theorem d_Mk_make_118 : decode b_Mk_make 118 = .ok (.iconst 1, 1) := by decide +kernel
theorem d_Mk_make_119 : decode b_Mk_make 119 = .ok (.aload_n 0, 1) := by decide +kernel
theorem d_Mk_make_120 : decode b_Mk_make 120 = .ok (.getfield 42, 3) := by decide +kernel
theorem d_Mk_make_123 : decode b_Mk_make 123 = .ok (.invokevirtual 38, 3) := by decide +kernel
theorem d_Mk_make_126 : decode b_Mk_make 126 = .ok (.aload_n 0, 1) := by decide +kernel
theorem d_Mk_make_127 : decode b_Mk_make 127 = .ok (.iconst 3, 1) := by decide +kernel
theorem d_Mk_make_128 : decode b_Mk_make 128 = .ok (.iconst 1, 1) := by decide +kernel
theorem d_Mk_make_129 : decode b_Mk_make 129 = .ok (.aload_n 0, 1) := by decide +kernel
theorem d_Mk_make_130 : decode b_Mk_make 130 = .ok (.getfield 18, 3) := by decide +kernel
theorem d_Mk_make_133 : decode b_Mk_make 133 = .ok (.iload_n 2, 1) := by decide +kernel
theorem d_Mk_make_134 : decode b_Mk_make 134 = .ok (.iaload, 1) := by decide +kernel
theorem d_Mk_make_135 : decode b_Mk_make 135 = .ok (.invokevirtual 38, 3) := by decide +kernel
theorem d_Mk_make_138 : decode b_Mk_make 138 = .ok (.aload_n 0, 1) := by decide +kernel
theorem d_Mk_make_139 : decode b_Mk_make 139 = .ok (.iconst 4, 1) := by decide +kernel
theorem d_Mk_make_140 : decode b_Mk_make 140 = .ok (.iconst 2, 1) := by decide +kernel
theorem d_Mk_make_141 : decode b_Mk_make 141 = .ok (.sipush 6144, 3) := by decide +kernel
theorem d_Mk_make_144 : decode b_Mk_make 144 = .ok (.iload 5, 2) := by decide +kernel
theorem d_Mk_make_146 : decode b_Mk_make 146 = .ok (.ior, 1) := by decide +kernel
theorem d_Mk_make_147 : decode b_Mk_make 147 = .ok (.invokevirtual 38, 3) := by decide +kernel
theorem d_Mk_make_150 : decode b_Mk_make 150 = .ok (.aload_n 0, 1) := by decide +kernel
theorem d_Mk_make_151 : decode b_Mk_make 151 = .ok (.iload 4, 2) := by decide +kernel
theorem d_Mk_make_153 : decode b_Mk_make 153 = .ok (.iconst 4, 1) := by decide +kernel
theorem d_Mk_make_154 : decode b_Mk_make 154 = .ok (.iload_n 1, 1) := by decide +kernel
theorem d_Mk_make_155 : decode b_Mk_make 155 = .ok (.invokevirtual 38, 3) := by decide +kernel
theorem d_Mk_make_158 : decode b_Mk_make 158 = .ok (.aload_n 0, 1) := by decide +kernel
theorem d_Mk_make_159 : decode b_Mk_make 159 = .ok (.iload 4, 2) := by decide +kernel
theorem d_Mk_make_161 : decode b_Mk_make 161 = .ok (.iconst 4, 1) := by decide +kernel
theorem d_Mk_make_162 : decode b_Mk_make 162 = .ok (.iadd, 1) := by decide +kernel
theorem d_Mk_make_163 : decode b_Mk_make 163 = .ok (.iconst 2, 1) := by decide +kernel
theorem d_Mk_make_164 : decode b_Mk_make 164 = .ok (.aload_n 0, 1) := by decide +kernel
theorem d_Mk_make_165 : decode b_Mk_make 165 = .ok (.getfield 22, 3) := by decide +kernel
end
section
theorem d_Mk_make_168 : decode b_Mk_make 168 = .ok (.iconst 0, 1) := by decide +kernel
theorem d_Mk_make_169 : decode b_Mk_make 169 = .ok (.iload 4, 2) := by decide +kernel
theorem d_Mk_make_171 : decode b_Mk_make 171 = .ok (.iconst 4, 1) := by decide +kernel
theorem d_Mk_make_172 : decode b_Mk_make 172 = .ok (.iadd, 1) := by decide +kernel
theorem d_Mk_make_173 : decode b_Mk_make 173 = .ok (.invokestatic 45, 3) := by decide +kernel
theorem d_Mk_make_176 : decode b_Mk_make 176 = .ok (.invokevirtual 38, 3) := by decide +kernel
theorem d_Mk_make_179 : decode b_Mk_make 179 = .ok (.aload_n 0, 1) := by decide +kernel
theorem d_Mk_make_180 : decode b_Mk_make 180 = .ok (.dup, 1) := by decide +kernel
theorem d_Mk_make_181 : decode b_Mk_make 181 = .ok (.getfield 42, 3) := by decide +kernel
theorem d_Mk_make_184 : decode b_Mk_make 184 = .ok (.iconst 1, 1) := by decide +kernel
theorem d_Mk_make_185 : decode b_Mk_make 185 = .ok (.iadd, 1) := by decide +kernel
theorem d_Mk_make_186 : decode b_Mk_make 186 = .ok (.putfield 42, 3) := by decide +kernel
theorem d_Mk_make_189 : decode b_Mk_make 189 = .ok (.aload_n 0, 1) := by decide +kernel
theorem d_Mk_make_190 : decode b_Mk_make 190 = .ok (.getfield 18, 3) := by decide +kernel
theorem d_Mk_make_193 : decode b_Mk_make 193 = .ok (.iload_n 2, 1) := by decide +kernel
theorem d_Mk_make_194 : decode b_Mk_make 194 = .ok (.dup2, 1) := by decide +kernel
theorem d_Mk_make_195 : decode b_Mk_make 195 = .ok (.iaload, 1) := by decide +kernel
theorem d_Mk_make_196 : decode b_Mk_make 196 = .ok (.iconst 1, 1) := by decide +kernel
theorem d_Mk_make_197 : decode b_Mk_make 197 = .ok (.iadd, 1) := by decide +kernel
theorem d_Mk_make_198 : decode b_Mk_make 198 = .ok (.iastore, 1) := by decide +kernel
theorem d_Mk_make_199 : decode b_Mk_make 199 = .ok (.iload_n 3, 1) := by decide +kernel
theorem d_Mk_make_200 : decode b_Mk_make 200 = .ok (.ireturn, 1) := by decide +kernel
theorem d_law_cell_0 : decode b_law_cell 0 = .ok (.iload_n 1, 1) := by decide +kernel
theorem d_law_cell_1 : decode b_law_cell 1 = .ok (.aload_n 0, 1) := by decide +kernel
theorem d_law_cell_2 : decode b_law_cell 2 = .ok (.arraylength, 1) := by decide +kernel
theorem d_law_cell_3 : decode b_law_cell 3 = .ok (.if_icmp .ge 9, 3) := by decide +kernel
theorem d_law_cell_6 : decode b_law_cell 6 = .ok (.aload_n 0, 1) := by decide +kernel
theorem d_law_cell_7 : decode b_law_cell 7 = .ok (.iload_n 1, 1) := by decide +kernel
theorem d_law_cell_8 : decode b_law_cell 8 = .ok (.iaload, 1) := by decide +kernel
theorem d_law_cell_9 : decode b_law_cell 9 = .ok (.goto 4, 3) := by decide +kernel
theorem d_law_cell_12 : decode b_law_cell 12 = .ok (.iconst 0, 1) := by decide +kernel
theorem d_law_cell_13 : decode b_law_cell 13 = .ok (.ireturn, 1) := by decide +kernel
theorem d_law_law_0 : decode b_law_law 0 = .ok (.new 7, 3) := by decide +kernel
theorem d_law_law_3 : decode b_law_law 3 = .ok (.dup, 1) := by decide +kernel
theorem d_law_law_4 : decode b_law_law 4 = .ok (.aload_n 0, 1) := by decide +kernel
theorem d_law_law_5 : decode b_law_law 5 = .ok (.iconst 0, 1) := by decide +kernel
theorem d_law_law_6 : decode b_law_law 6 = .ok (.invokestatic 9, 3) := by decide +kernel
theorem d_law_law_9 : decode b_law_law 9 = .ok (.invokespecial 15, 3) := by decide +kernel
theorem d_law_law_12 : decode b_law_law 12 = .ok (.astore_n 1, 1) := by decide +kernel
theorem d_law_law_13 : decode b_law_law 13 = .ok (.new 18, 3) := by decide +kernel
theorem d_law_law_16 : decode b_law_law 16 = .ok (.dup, 1) := by decide +kernel
theorem d_law_law_17 : decode b_law_law 17 = .ok (.aload_n 0, 1) := by decide +kernel
theorem d_law_law_18 : decode b_law_law 18 = .ok (.iconst 0, 1) := by decide +kernel
theorem d_law_law_19 : decode b_law_law 19 = .ok (.invokestatic 9, 3) := by decide +kernel
theorem d_law_law_22 : decode b_law_law 22 = .ok (.invokespecial 20, 3) := by decide +kernel
theorem d_law_law_25 : decode b_law_law 25 = .ok (.astore_n 2, 1) := by decide +kernel
theorem d_law_law_26 : decode b_law_law 26 = .ok (.iconst 1, 1) := by decide +kernel
theorem d_law_law_27 : decode b_law_law 27 = .ok (.istore_n 3, 1) := by decide +kernel
theorem d_law_law_28 : decode b_law_law 28 = .ok (.iload_n 3, 1) := by decide +kernel
theorem d_law_law_29 : decode b_law_law 29 = .ok (.aload_n 0, 1) := by decide +kernel
theorem d_law_law_30 : decode b_law_law 30 = .ok (.arraylength, 1) := by decide +kernel
theorem d_law_law_31 : decode b_law_law 31 = .ok (.iconst 4, 1) := by decide +kernel
theorem d_law_law_32 : decode b_law_law 32 = .ok (.isub, 1) := by decide +kernel
theorem d_law_law_33 : decode b_law_law 33 = .ok (.if_icmp .gt 231, 3) := by decide +kernel
theorem d_law_law_36 : decode b_law_law 36 = .ok (.aload_n 0, 1) := by decide +kernel
theorem d_law_law_37 : decode b_law_law 37 = .ok (.iload_n 3, 1) := by decide +kernel
theorem d_law_law_38 : decode b_law_law 38 = .ok (.iaload, 1) := by decide +kernel
theorem d_law_law_39 : decode b_law_law 39 = .ok (.bipush 7, 2) := by decide +kernel
theorem d_law_law_41 : decode b_law_law 41 = .ok (.iand, 1) := by decide +kernel
theorem d_law_law_42 : decode b_law_law 42 = .ok (.tableswitch 216 0 5 #[38, 101, 124, 147, 170, 193], 38) := by decide +kernel
theorem d_law_law_80 : decode b_law_law 80 = .ok (.aload_n 1, 1) := by decide +kernel
theorem d_law_law_81 : decode b_law_law 81 = .ok (.aload_n 0, 1) := by decide +kernel
theorem d_law_law_82 : decode b_law_law 82 = .ok (.iload_n 3, 1) := by decide +kernel
theorem d_law_law_83 : decode b_law_law 83 = .ok (.iconst 1, 1) := by decide +kernel
theorem d_law_law_84 : decode b_law_law 84 = .ok (.iadd, 1) := by decide +kernel
theorem d_law_law_85 : decode b_law_law 85 = .ok (.iaload, 1) := by decide +kernel
theorem d_law_law_86 : decode b_law_law 86 = .ok (.i2l, 1) := by decide +kernel
theorem d_law_law_87 : decode b_law_law 87 = .ok (.bipush 32, 2) := by decide +kernel
theorem d_law_law_89 : decode b_law_law 89 = .ok (.lshl, 1) := by decide +kernel
theorem d_law_law_90 : decode b_law_law 90 = .ok (.aload_n 0, 1) := by decide +kernel
theorem d_law_law_91 : decode b_law_law 91 = .ok (.iload_n 3, 1) := by decide +kernel
theorem d_law_law_92 : decode b_law_law 92 = .ok (.iconst 2, 1) := by decide +kernel
theorem d_law_law_93 : decode b_law_law 93 = .ok (.iadd, 1) := by decide +kernel
theorem d_law_law_94 : decode b_law_law 94 = .ok (.iaload, 1) := by decide +kernel
theorem d_law_law_95 : decode b_law_law 95 = .ok (.i2l, 1) := by decide +kernel
theorem d_law_law_96 : decode b_law_law 96 = .ok (.ldc2_w 21, 3) := by decide +kernel
theorem d_law_law_99 : decode b_law_law 99 = .ok (.land, 1) := by decide +kernel
theorem d_law_law_100 : decode b_law_law 100 = .ok (.lor, 1) := by decide +kernel
theorem d_law_law_101 : decode b_law_law 101 = .ok (.aload_n 0, 1) := by decide +kernel
theorem d_law_law_102 : decode b_law_law 102 = .ok (.iload_n 3, 1) := by decide +kernel
theorem d_law_law_103 : decode b_law_law 103 = .ok (.iconst 3, 1) := by decide +kernel
theorem d_law_law_104 : decode b_law_law 104 = .ok (.iadd, 1) := by decide +kernel
theorem d_law_law_105 : decode b_law_law 105 = .ok (.iaload, 1) := by decide +kernel
theorem d_law_law_106 : decode b_law_law 106 = .ok (.invokevirtual 23, 3) := by decide +kernel
theorem d_law_law_109 : decode b_law_law 109 = .ok (.aload_n 2, 1) := by decide +kernel
theorem d_law_law_110 : decode b_law_law 110 = .ok (.aload_n 0, 1) := by decide +kernel
theorem d_law_law_111 : decode b_law_law 111 = .ok (.iload_n 3, 1) := by decide +kernel
theorem d_law_law_112 : decode b_law_law 112 = .ok (.iconst 1, 1) := by decide +kernel
theorem d_law_law_113 : decode b_law_law 113 = .ok (.iadd, 1) := by decide +kernel
theorem d_law_law_114 : decode b_law_law 114 = .ok (.iaload, 1) := by decide +kernel
theorem d_law_law_115 : decode b_law_law 115 = .ok (.i2l, 1) := by decide +kernel
theorem d_law_law_116 : decode b_law_law 116 = .ok (.bipush 32, 2) := by decide +kernel
theorem d_law_law_118 : decode b_law_law 118 = .ok (.lshl, 1) := by decide +kernel
theorem d_law_law_119 : decode b_law_law 119 = .ok (.aload_n 0, 1) := by decide +kernel
theorem d_law_law_120 : decode b_law_law 120 = .ok (.iload_n 3, 1) := by decide +kernel
theorem d_law_law_121 : decode b_law_law 121 = .ok (.iconst 2, 1) := by decide +kernel
theorem d_law_law_122 : decode b_law_law 122 = .ok (.iadd, 1) := by decide +kernel
theorem d_law_law_123 : decode b_law_law 123 = .ok (.iaload, 1) := by decide +kernel
theorem d_law_law_124 : decode b_law_law 124 = .ok (.i2l, 1) := by decide +kernel
theorem d_law_law_125 : decode b_law_law 125 = .ok (.ldc2_w 21, 3) := by decide +kernel
theorem d_law_law_128 : decode b_law_law 128 = .ok (.land, 1) := by decide +kernel
theorem d_law_law_129 : decode b_law_law 129 = .ok (.lor, 1) := by decide +kernel
theorem d_law_law_130 : decode b_law_law 130 = .ok (.aload_n 0, 1) := by decide +kernel
theorem d_law_law_131 : decode b_law_law 131 = .ok (.iload_n 3, 1) := by decide +kernel
theorem d_law_law_132 : decode b_law_law 132 = .ok (.iconst 3, 1) := by decide +kernel
theorem d_law_law_133 : decode b_law_law 133 = .ok (.iadd, 1) := by decide +kernel
theorem d_law_law_134 : decode b_law_law 134 = .ok (.iaload, 1) := by decide +kernel
theorem d_law_law_135 : decode b_law_law 135 = .ok (.invokevirtual 27, 3) := by decide +kernel
theorem d_law_law_138 : decode b_law_law 138 = .ok (.if_icmp .eq 120, 3) := by decide +kernel
theorem d_law_law_141 : decode b_law_law 141 = .ok (.iconst 0, 1) := by decide +kernel
theorem d_law_law_142 : decode b_law_law 142 = .ok (.ireturn, 1) := by decide +kernel
theorem d_law_law_143 : decode b_law_law 143 = .ok (.aload_n 1, 1) := by decide +kernel
theorem d_law_law_144 : decode b_law_law 144 = .ok (.aload_n 0, 1) := by decide +kernel
theorem d_law_law_145 : decode b_law_law 145 = .ok (.iload_n 3, 1) := by decide +kernel
theorem d_law_law_146 : decode b_law_law 146 = .ok (.iconst 1, 1) := by decide +kernel
theorem d_law_law_147 : decode b_law_law 147 = .ok (.iadd, 1) := by decide +kernel
theorem d_law_law_148 : decode b_law_law 148 = .ok (.iaload, 1) := by decide +kernel
theorem d_law_law_149 : decode b_law_law 149 = .ok (.invokevirtual 28, 3) := by decide +kernel
theorem d_law_law_152 : decode b_law_law 152 = .ok (.aload_n 2, 1) := by decide +kernel
theorem d_law_law_153 : decode b_law_law 153 = .ok (.aload_n 0, 1) := by decide +kernel
theorem d_law_law_154 : decode b_law_law 154 = .ok (.iload_n 3, 1) := by decide +kernel
theorem d_law_law_155 : decode b_law_law 155 = .ok (.iconst 1, 1) := by decide +kernel
theorem d_law_law_156 : decode b_law_law 156 = .ok (.iadd, 1) := by decide +kernel
theorem d_law_law_157 : decode b_law_law 157 = .ok (.iaload, 1) := by decide +kernel
theorem d_law_law_158 : decode b_law_law 158 = .ok (.invokevirtual 32, 3) := by decide +kernel
theorem d_law_law_161 : decode b_law_law 161 = .ok (.if_icmp .eq 97, 3) := by decide +kernel
theorem d_law_law_164 : decode b_law_law 164 = .ok (.iconst 0, 1) := by decide +kernel
theorem d_law_law_165 : decode b_law_law 165 = .ok (.ireturn, 1) := by decide +kernel
theorem d_law_law_166 : decode b_law_law 166 = .ok (.aload_n 1, 1) := by decide +kernel
theorem d_law_law_167 : decode b_law_law 167 = .ok (.aload_n 0, 1) := by decide +kernel
theorem d_law_law_168 : decode b_law_law 168 = .ok (.iload_n 3, 1) := by decide +kernel
theorem d_law_law_169 : decode b_law_law 169 = .ok (.iconst 1, 1) := by decide +kernel
theorem d_law_law_170 : decode b_law_law 170 = .ok (.iadd, 1) := by decide +kernel
theorem d_law_law_171 : decode b_law_law 171 = .ok (.iaload, 1) := by decide +kernel
theorem d_law_law_172 : decode b_law_law 172 = .ok (.invokevirtual 33, 3) := by decide +kernel
theorem d_law_law_175 : decode b_law_law 175 = .ok (.aload_n 2, 1) := by decide +kernel
theorem d_law_law_176 : decode b_law_law 176 = .ok (.aload_n 0, 1) := by decide +kernel
theorem d_law_law_177 : decode b_law_law 177 = .ok (.iload_n 3, 1) := by decide +kernel
theorem d_law_law_178 : decode b_law_law 178 = .ok (.iconst 1, 1) := by decide +kernel
theorem d_law_law_179 : decode b_law_law 179 = .ok (.iadd, 1) := by decide +kernel
theorem d_law_law_180 : decode b_law_law 180 = .ok (.iaload, 1) := by decide +kernel
theorem d_law_law_181 : decode b_law_law 181 = .ok (.invokevirtual 36, 3) := by decide +kernel
theorem d_law_law_184 : decode b_law_law 184 = .ok (.if_icmp .eq 74, 3) := by decide +kernel
theorem d_law_law_187 : decode b_law_law 187 = .ok (.iconst 0, 1) := by decide +kernel
theorem d_law_law_188 : decode b_law_law 188 = .ok (.ireturn, 1) := by decide +kernel
theorem d_law_law_189 : decode b_law_law 189 = .ok (.aload_n 1, 1) := by decide +kernel
theorem d_law_law_190 : decode b_law_law 190 = .ok (.aload_n 0, 1) := by decide +kernel
theorem d_law_law_191 : decode b_law_law 191 = .ok (.iload_n 3, 1) := by decide +kernel
theorem d_law_law_192 : decode b_law_law 192 = .ok (.iconst 1, 1) := by decide +kernel
theorem d_law_law_193 : decode b_law_law 193 = .ok (.iadd, 1) := by decide +kernel
theorem d_law_law_194 : decode b_law_law 194 = .ok (.iaload, 1) := by decide +kernel
theorem d_law_law_195 : decode b_law_law 195 = .ok (.invokevirtual 37, 3) := by decide +kernel
theorem d_law_law_198 : decode b_law_law 198 = .ok (.aload_n 2, 1) := by decide +kernel
theorem d_law_law_199 : decode b_law_law 199 = .ok (.aload_n 0, 1) := by decide +kernel
theorem d_law_law_200 : decode b_law_law 200 = .ok (.iload_n 3, 1) := by decide +kernel
theorem d_law_law_201 : decode b_law_law 201 = .ok (.iconst 1, 1) := by decide +kernel
theorem d_law_law_202 : decode b_law_law 202 = .ok (.iadd, 1) := by decide +kernel
theorem d_law_law_203 : decode b_law_law 203 = .ok (.iaload, 1) := by decide +kernel
theorem d_law_law_204 : decode b_law_law 204 = .ok (.invokevirtual 40, 3) := by decide +kernel
theorem d_law_law_207 : decode b_law_law 207 = .ok (.if_icmp .eq 51, 3) := by decide +kernel
theorem d_law_law_210 : decode b_law_law 210 = .ok (.iconst 0, 1) := by decide +kernel
theorem d_law_law_211 : decode b_law_law 211 = .ok (.ireturn, 1) := by decide +kernel
theorem d_law_law_212 : decode b_law_law 212 = .ok (.aload_n 1, 1) := by decide +kernel
theorem d_law_law_213 : decode b_law_law 213 = .ok (.aload_n 0, 1) := by decide +kernel
theorem d_law_law_214 : decode b_law_law 214 = .ok (.iload_n 3, 1) := by decide +kernel
theorem d_law_law_215 : decode b_law_law 215 = .ok (.iconst 1, 1) := by decide +kernel
theorem d_law_law_216 : decode b_law_law 216 = .ok (.iadd, 1) := by decide +kernel
theorem d_law_law_217 : decode b_law_law 217 = .ok (.iaload, 1) := by decide +kernel
theorem d_law_law_218 : decode b_law_law 218 = .ok (.invokevirtual 41, 3) := by decide +kernel
theorem d_law_law_221 : decode b_law_law 221 = .ok (.aload_n 2, 1) := by decide +kernel
theorem d_law_law_222 : decode b_law_law 222 = .ok (.aload_n 0, 1) := by decide +kernel
theorem d_law_law_223 : decode b_law_law 223 = .ok (.iload_n 3, 1) := by decide +kernel
theorem d_law_law_224 : decode b_law_law 224 = .ok (.iconst 1, 1) := by decide +kernel
theorem d_law_law_225 : decode b_law_law 225 = .ok (.iadd, 1) := by decide +kernel
theorem d_law_law_226 : decode b_law_law 226 = .ok (.iaload, 1) := by decide +kernel
theorem d_law_law_227 : decode b_law_law 227 = .ok (.invokevirtual 44, 3) := by decide +kernel
theorem d_law_law_230 : decode b_law_law 230 = .ok (.if_icmp .eq 28, 3) := by decide +kernel
theorem d_law_law_233 : decode b_law_law 233 = .ok (.iconst 0, 1) := by decide +kernel
theorem d_law_law_234 : decode b_law_law 234 = .ok (.ireturn, 1) := by decide +kernel
theorem d_law_law_235 : decode b_law_law 235 = .ok (.aload_n 1, 1) := by decide +kernel
theorem d_law_law_236 : decode b_law_law 236 = .ok (.aload_n 0, 1) := by decide +kernel
theorem d_law_law_237 : decode b_law_law 237 = .ok (.iload_n 3, 1) := by decide +kernel
theorem d_law_law_238 : decode b_law_law 238 = .ok (.iconst 1, 1) := by decide +kernel
theorem d_law_law_239 : decode b_law_law 239 = .ok (.iadd, 1) := by decide +kernel
theorem d_law_law_240 : decode b_law_law 240 = .ok (.iaload, 1) := by decide +kernel
theorem d_law_law_241 : decode b_law_law 241 = .ok (.invokevirtual 45, 3) := by decide +kernel
theorem d_law_law_244 : decode b_law_law 244 = .ok (.aload_n 2, 1) := by decide +kernel
theorem d_law_law_245 : decode b_law_law 245 = .ok (.aload_n 0, 1) := by decide +kernel
theorem d_law_law_246 : decode b_law_law 246 = .ok (.iload_n 3, 1) := by decide +kernel
theorem d_law_law_247 : decode b_law_law 247 = .ok (.iconst 1, 1) := by decide +kernel
theorem d_law_law_248 : decode b_law_law 248 = .ok (.iadd, 1) := by decide +kernel
theorem d_law_law_249 : decode b_law_law 249 = .ok (.iaload, 1) := by decide +kernel
theorem d_law_law_250 : decode b_law_law 250 = .ok (.invokevirtual 48, 3) := by decide +kernel
theorem d_law_law_253 : decode b_law_law 253 = .ok (.if_icmp .eq 5, 3) := by decide +kernel
theorem d_law_law_256 : decode b_law_law 256 = .ok (.iconst 0, 1) := by decide +kernel
theorem d_law_law_257 : decode b_law_law 257 = .ok (.ireturn, 1) := by decide +kernel
theorem d_law_law_258 : decode b_law_law 258 = .ok (.iinc 3 4, 3) := by decide +kernel
theorem d_law_law_261 : decode b_law_law 261 = .ok (.goto (-233), 3) := by decide +kernel
theorem d_law_law_264 : decode b_law_law 264 = .ok (.iconst 1, 1) := by decide +kernel
theorem d_law_law_265 : decode b_law_law 265 = .ok (.ireturn, 1) := by decide +kernel
end
section
/-! numbers -/
def bz (x : Int32) : Int32 := x.toInt8.toInt32
def ub (x : Int32) : Nat := x.toBitVec.toNat % 256
theorem ub_lt (x : Int32) : ub x < 256 := Nat.mod_lt _ (by decide)
theorem ub_and (x : Int32) : x &&& nI 255 = nI (ub x) := pk_and x 8 (by decide)
theorem bz_nar (x : Int32) : vp_nar .byte x = bz x := vp_nar_byte x
theorem bz_bz (x : Int32) : bz (bz x) = bz x := by
  have h := pk_vb x
  rw [bz_nar] at h
  exact h
theorem vp_nar_z0 : vp_nar .boolean (nI 0) = nI 0 := by decide +kernel
theorem vp_nar_z1 : vp_nar .boolean (nI 1) = nI 1 := by decide +kernel
theorem nI_ci (n : Nat) (h : n < 2 ^ 31) : (nI n).toNatClampNeg = n := nI_clamp h
theorem nI_inj {a b : Nat} (ha : a < 2 ^ 31) (hb : b < 2 ^ 31) (h : nI a = nI b) : a = b := (nI_eq ha hb).mp h
theorem nI_inc (j : Nat) : nI j + Int32.ofInt 1 = nI (j + 1) := nI_1 j
theorem nI_inc4 (j : Nat) : nI j + Int32.ofInt 4 = nI (j + 4) := nI_add j 4
/-! the world of every method: the words, the arrays' kinds -/
def NW (U : State) : Prop := va_Nw (.methodLinkNest "DownFrames$Maker" 11 y_Ch_init "DownFrames") U ∧ va_Nw (.fieldLinkNest "DownFrames$Maker" 26 "DownFrames$Channel" "size" "I" "DownFrames") U ∧ va_Nw (.fieldLinkNest "DownFrames" 43 "DownFrames$Channel" "size" "I" "DownFrames") U ∧ va_Nw (.fieldLinkNest "DownFrames" 48 "DownFrames$Maker" "frame" "[B" "DownFrames") U ∧ va_Nw (.fieldLinkNest "DownFrames" 32 "DownFrames$Maker" "channels" "[LDownFrames$Channel;" "DownFrames") U ∧ va_Nw (.fieldLinkNest "DownFrames" 51 "DownFrames$Maker" "made" "I" "DownFrames") U ∧ va_Nw (.fieldLinkNest "DownFrames" 54 "DownFrames$Maker" "counts" "[I" "DownFrames") U ∧ va_AO "DownFrames$Channel" U
theorem NW.warm {s U : State} (hW : s.WarmedH U.vm) (h : NW s) : NW U := ⟨h.1.warmM hW, h.2.1.warmF hW, h.2.2.1.warmF hW, h.2.2.2.1.warmF hW, h.2.2.2.2.1.warmF hW, h.2.2.2.2.2.1.warmF hW, h.2.2.2.2.2.2.1.warmF hW, h.2.2.2.2.2.2.2.moved hW.alike⟩
theorem NW.same {u U : State} (e : u.vm = U.vm) (h : NW u) : NW U := ⟨h.1.same rfl e, h.2.1.same rfl e, h.2.2.1.same rfl e, h.2.2.2.1.same rfl e, h.2.2.2.2.1.same rfl e, h.2.2.2.2.2.1.same rfl e, h.2.2.2.2.2.2.1.same rfl e, h.2.2.2.2.2.2.2.moved (by rw [e]; exact Vm.Alike.refl U.vm)⟩
abbrev tys (ca : Nat → ClassId) : List (ClassId × FieldType) := [(ca 0, .byte), (ca 1, .int), (ca 2, .object "DownFrames$Channel"), (ca 3, .boolean)]
def PW (D : va_G) (ca : Nat → ClassId) (U : State) : Prop := va_K D classes (tys ca) U ∧ NW U
theorem PW.warm {D : va_G} {ca : Nat → ClassId} {s U : State} (hW : s.WarmedH U.vm) (h : PW D ca s) : PW D ca U := ⟨va_K.moved hW.alike h.1, h.2.warm hW⟩
theorem PW.call {D : va_G} {ca : Nat → ClassId} {U : State} {g : JFrame} {mk : MethodId} {a : Array Value} (h : PW D ca U) : PW D ca (U.calling g mk a) := ⟨va_K.moved (u := U) (U := U.calling g mk a) (Vm.Alike.refl U.vm) h.1, h.2.same rfl⟩
def Pre (D : va_G) (ca : Nat → ClassId) (ws : va_W) (sz : Nat) (U : State) : Prop := U.heap.size = sz ∧ va_P D classes ws U.heap ∧ PW D ca U ∧ va_D (fun _ => True) ws
def Pst (D : va_G) (A : Nat → Prop) (ws : va_W) (t : State) : Prop := va_P D classes ws t.heap ∧ va_D A ws
abbrev wd (y : MethodName) (b : ByteArray) (n : Nat) (r : Option FieldType) : List Cond := .code y b n r :: gd_tbl
abbrev MetI (l : Launch) (y : MethodName) (b : ByteArray) (n : Nat) (r : Option FieldType) (rm : Room) (D : va_G) (ca : Nat → ClassId) (av : List Value) (ws : va_W) (sz : Nat) {S : Type} (post : Int32 → S → Prop) (w1 : S → va_W) : Prop := Met l y (wd y b n r) rm (va_Pc av (Pre D ca ws sz)) (va_Qi post (fun u t => Pst D (va_A ws sz) (w1 u) t) (va_A ws sz)) rm.cells rm.slots (va_A ws sz)
abbrev MetV (l : Launch) (y : MethodName) (b : ByteArray) (n : Nat) (rm : Room) (D : va_G) (ca : Nat → ClassId) (av : List Value) (ws : va_W) (sz : Nat) {S : Type} (post : S → Prop) (w1 : S → va_W) : Prop := Met l y (wd y b n none) rm (va_Pc av (Pre D ca ws sz)) (va_Qv post (fun u t => Pst D (va_A ws sz) (w1 u) t) (va_A ws sz)) rm.cells rm.slots (va_A ws sz)
theorem MetI.of {l : Launch} {y : MethodName} {b : ByteArray} {n : Nat} {r : Option FieldType} {rm : Room} {D : va_G} {ca : Nat → ClassId} {av : List Value} {ws : va_W} {sz : Nat} {S : Type} {post : Int32 → S → Prop} {w1 : S → va_W} (hy : plainName y.cls = true) (hn : (lg_sl av).length ≤ n)
    (body : ∀ (p : Program) (e : Env) (s : State) (m : MethodId) (below : List Frame) (meth : Method) (c : Code) (A : Nat → Prop) (ls : Array Slot), CallFix p m c b n s av.toArray gd_tbl y.cls → meth.sig.returnType = r → meth.locks = false → PW D ca s → va_P D classes ws s.heap → va_D A ws → (∀ q, s.heap.size ≤ q → A q) → lv_has ls n (lv_args 0 av) →
      W p l e rm s m av.toArray below meth c s.heap [] 0 0 (MQ below (va_Qi post (fun u t => Pst D A (w1 u) t) A) av.toArray s rm.cells rm.slots A) (F0 m 0 ls [])) : MetI l y b n r rm D ca av ws sz post w1 := by
  refine Met.ofW (cc := b) (maxL := n) (ret := r) hy rfl ?_
  intro p e s m args below meth c s₁ B hml hv
  obtain ⟨rfl, hsz, hP, hK, hD0⟩ := hv
  have hts := atoms_spec (ws := wd y b n r) B.pre
  subst hsz
  rw [lg_entry_eq]
  exact body p e s m below meth c _ _ ⟨B.exec, B.bytes, hml, findClass_of_methodNamed B.named, fun w hw => hts w (List.mem_cons_of_mem _ hw)⟩ B.returns B.notSynchronized hK hP hD0.self (fun q h => Or.inr h) (lv_entry av hn)
theorem MetV.of {l : Launch} {y : MethodName} {b : ByteArray} {n : Nat} {rm : Room} {D : va_G} {ca : Nat → ClassId} {av : List Value} {ws : va_W} {sz : Nat} {S : Type} {post : S → Prop} {w1 : S → va_W} (hy : plainName y.cls = true) (hn : (lg_sl av).length ≤ n)
    (body : ∀ (p : Program) (e : Env) (s : State) (m : MethodId) (below : List Frame) (meth : Method) (c : Code) (A : Nat → Prop) (ls : Array Slot), CallFix p m c b n s av.toArray gd_tbl y.cls → meth.sig.returnType = none → meth.locks = false → PW D ca s → va_P D classes ws s.heap → va_D A ws → (∀ q, s.heap.size ≤ q → A q) → lv_has ls n (lv_args 0 av) → meth.name = y.name →
      W p l e rm s m av.toArray below meth c s.heap [] 0 0 (MQ below (va_Qv post (fun u t => Pst D A (w1 u) t) A) av.toArray s rm.cells rm.slots A) (F0 m 0 ls [])) : MetV l y b n rm D ca av ws sz post w1 := by
  refine Met.ofW (cc := b) (maxL := n) (ret := none) hy rfl ?_
  intro p e s m args below meth c s₁ B hml hv
  obtain ⟨rfl, hsz, hP, hK, hD0⟩ := hv
  have hts := atoms_spec (ws := wd y b n none) B.pre
  subst hsz
  rw [lg_entry_eq]
  exact body p e s m below meth c _ _ ⟨B.exec, B.bytes, hml, findClass_of_methodNamed B.named, fun w hw => hts w (List.mem_cons_of_mem _ hw)⟩ B.returns B.notSynchronized hK hP hD0.self (fun q h => Or.inr h) (lv_entry av hn) (name_of_methodNamed B.named B.method).1
theorem gd_in {y : MethodName} {b : ByteArray} {n : Nat} {r : Option FieldType} (h : Cond.code y b n r ∈ gd_tbl) : GoodIn gd_tbl (wd y b n r) := by
  intro w hw
  rcases List.mem_cons.mp hw with rfl | hw
  · exact ⟨h, good_of_word (gd_good _ h)⟩
  · exact ⟨hw, good_of_word (gd_good _ hw)⟩
theorem lw_blind {av : List Value} {D : va_G} {ca : Nat → ClassId} {ws : va_W} {sz : Nat} : FrameBlind (va_Pc av (Pre D ca ws sz)) := fun _ _ _ _ q => ⟨q.1, q.2.1, q.2.2.1, q.2.2.2.1.call, q.2.2.2.2⟩
section LZ
variable {p : Program} {l : Launch} {e : Env} {R : Room} {s : State} {m : MethodId} {args : Array Value} {below : List Frame} {meth : Method} {c : Code} {H : Heap} {locs : List Loc} {cells slots : Nat} {Q : State → Prop}
variable {cc : ByteArray} {pc : Nat} {ls : Array Slot} {rest : List Value}
theorem lz_cut {g g0 : JFrame} (tail : W p l e R s m args below meth c H locs cells slots Q g) (k : W p l e R s m args below meth c H locs cells slots Q g → W p l e R s m args below meth c H locs cells slots Q g0) : W p l e R s m args below meth c H locs cells slots Q g0 := k tail
theorem lz_top {x y : Int32} (h : x = y) (k : W p l e R s m args below meth c H locs cells slots Q (F0 m pc ls (.int y :: rest))) : W p l e R s m args below meth c H locs cells slots Q (F0 m pc ls (.int x :: rest)) := by
  subst h
  exact k
theorem lz_iadd (hexec : p.tables.exec = Jvm.exec) (hb : c.code = cc) {a b : Nat}  (hdg : decode cc pc = .ok (.iadd, 1)) (k : W p l e R s m args below meth c H locs cells slots Q (F0 m (pc + 1) ls (.int (nI (a + b)) :: rest))) : W p l e R s m args below meth c H locs cells slots Q (F0 m pc ls (.int (nI b) :: .int (nI a) :: rest)) := lv_iadd hexec hb hdg (by rw [nI_add]; exact k)
theorem lz_isub (hexec : p.tables.exec = Jvm.exec) (hb : c.code = cc) {a b : Nat} (h : b ≤ a) (hdg : decode cc pc = .ok (.isub, 1)) (k : W p l e R s m args below meth c H locs cells slots Q (F0 m (pc + 1) ls (.int (nI (a - b)) :: rest))) : W p l e R s m args below meth c H locs cells slots Q (F0 m pc ls (.int (nI b) :: .int (nI a) :: rest)) := lv_isub hexec hb hdg (by rw [pk_sub h]; exact k)
theorem lz_imul (hexec : p.tables.exec = Jvm.exec) (hb : c.code = cc) {a b : Nat}  (hdg : decode cc pc = .ok (.imul, 1)) (k : W p l e R s m args below meth c H locs cells slots Q (F0 m (pc + 1) ls (.int (nI (a * b)) :: rest))) : W p l e R s m args below meth c H locs cells slots Q (F0 m pc ls (.int (nI b) :: .int (nI a) :: rest)) := lv_imul hexec hb hdg (by rw [pk_mul]; exact k)
theorem lz_idiv (hexec : p.tables.exec = Jvm.exec) (hb : c.code = cc) {a b : Nat} (ha : a < 2 ^ 31) (h0 : 0 < b) (h1 : b < 2 ^ 31) (hdg : decode cc pc = .ok (.idiv, 1)) (k : W p l e R s m args below meth c H locs cells slots Q (F0 m (pc + 1) ls (.int (nI (a / b)) :: rest))) : W p l e R s m args below meth c H locs cells slots Q (F0 m pc ls (.int (nI b) :: .int (nI a) :: rest)) := lv_idiv hexec hb hdg (nI_ne0 h0 h1) (by rw [pk_div ha h0 h1]; exact k)
theorem lz_irem (hexec : p.tables.exec = Jvm.exec) (hb : c.code = cc) {a b : Nat} (ha : a < 2 ^ 31) (h0 : 0 < b) (h1 : b < 2 ^ 31) (hdg : decode cc pc = .ok (.irem, 1)) (k : W p l e R s m args below meth c H locs cells slots Q (F0 m (pc + 1) ls (.int (nI (a % b)) :: rest))) : W p l e R s m args below meth c H locs cells slots Q (F0 m pc ls (.int (nI b) :: .int (nI a) :: rest)) := lv_irem hexec hb hdg (nI_ne0 h0 h1) (by rw [pk_rem ha h0 h1]; exact k)
theorem lz_ishl (hexec : p.tables.exec = Jvm.exec) (hb : c.code = cc) {a b : Nat} (t : Nat) (hs : ((nI b &&& 31).toBitVec.smod 32).toNat = t) (h : a * 2 ^ t < 2 ^ 32) (hdg : decode cc pc = .ok (.ishl, 1)) (k : W p l e R s m args below meth c H locs cells slots Q (F0 m (pc + 1) ls (.int (nI (a * 2 ^ t)) :: rest))) : W p l e R s m args below meth c H locs cells slots Q (F0 m pc ls (.int (nI b) :: .int (nI a) :: rest)) := lv_ishl hexec hb hdg (by rw [pk_shlN _ t hs h]; exact k)
theorem lz_ishr (hexec : p.tables.exec = Jvm.exec) (hb : c.code = cc) {a b : Nat} (t : Nat) (hs : ((nI b &&& 31).toBitVec.smod 32).toNat = t) (h : a < 2 ^ 31) (hdg : decode cc pc = .ok (.ishr, 1)) (k : W p l e R s m args below meth c H locs cells slots Q (F0 m (pc + 1) ls (.int (nI (a / 2 ^ t)) :: rest))) : W p l e R s m args below meth c H locs cells slots Q (F0 m pc ls (.int (nI b) :: .int (nI a) :: rest)) := lv_ishr hexec hb hdg (by rw [pk_shrN h _ t hs]; exact k)
theorem lz_and255 (hexec : p.tables.exec = Jvm.exec) (hb : c.code = cc) {x : Int32} (hdg : decode cc pc = .ok (.iand, 1)) (k : W p l e R s m args below meth c H locs cells slots Q (F0 m (pc + 1) ls (.int (nI (ub x)) :: rest))) : W p l e R s m args below meth c H locs cells slots Q (F0 m pc ls (.int (nI 255) :: .int x :: rest)) := lv_iand hexec hb hdg (by rw [ub_and]; exact k)
theorem lz_i2b (hexec : p.tables.exec = Jvm.exec) (hb : c.code = cc) {x : Int32} (hdg : decode cc pc = .ok (.i2b, 1)) (k : W p l e R s m args below meth c H locs cells slots Q (F0 m (pc + 1) ls (.int (bz x) :: rest))) : W p l e R s m args below meth c H locs cells slots Q (F0 m pc ls (.int x :: rest)) := lv_i2b (v := bz x) hexec hb hdg rfl k
theorem lz_icmp_ge (hexec : p.tables.exec = Jvm.exec) (hb : c.code = cc) {a b : Nat} (ha : a < 2 ^ 31) (hb2 : b < 2 ^ 31) {off : Int} {tgt : Nat} (hdg : decode cc pc = .ok (.if_icmp .ge off, 3)) (ht : (pc : Int) + off = (tgt : Int)) (kt : b ≤ a → W p l e R s m args below meth c H locs cells slots Q (F0 m tgt ls rest)) (kf : a < b → W p l e R s m args below meth c H locs cells slots Q (F0 m (pc + 3) ls rest)) : W p l e R s m args below meth c H locs cells slots Q (F0 m pc ls (.int (nI b) :: .int (nI a) :: rest)) := lv_icmp_ge hexec hb hdg ht (fun h => kt ((nI_leI hb2 ha).mp h)) (fun h => kf (Nat.lt_of_not_le (fun q => h ((nI_leI hb2 ha).mpr q))))
theorem lz_icmp_le (hexec : p.tables.exec = Jvm.exec) (hb : c.code = cc) {a b : Nat} (ha : a < 2 ^ 31) (hb2 : b < 2 ^ 31) {off : Int} {tgt : Nat} (hdg : decode cc pc = .ok (.if_icmp .le off, 3)) (ht : (pc : Int) + off = (tgt : Int)) (kt : a ≤ b → W p l e R s m args below meth c H locs cells slots Q (F0 m tgt ls rest)) (kf : b < a → W p l e R s m args below meth c H locs cells slots Q (F0 m (pc + 3) ls rest)) : W p l e R s m args below meth c H locs cells slots Q (F0 m pc ls (.int (nI b) :: .int (nI a) :: rest)) := lv_icmp_le hexec hb hdg ht (fun h => kt ((nI_leI ha hb2).mp h)) (fun h => kf (Nat.lt_of_not_le (fun q => h ((nI_leI ha hb2).mpr q))))
theorem lz_icmp_lt (hexec : p.tables.exec = Jvm.exec) (hb : c.code = cc) {a b : Nat} (ha : a < 2 ^ 31) (hb2 : b < 2 ^ 31) {off : Int} {tgt : Nat} (hdg : decode cc pc = .ok (.if_icmp .lt off, 3)) (ht : (pc : Int) + off = (tgt : Int)) (kt : a < b → W p l e R s m args below meth c H locs cells slots Q (F0 m tgt ls rest)) (kf : b ≤ a → W p l e R s m args below meth c H locs cells slots Q (F0 m (pc + 3) ls rest)) : W p l e R s m args below meth c H locs cells slots Q (F0 m pc ls (.int (nI b) :: .int (nI a) :: rest)) := lv_icmp_lt hexec hb hdg ht (fun h => kt ((nI_ltI ha hb2).mp h)) (fun h => kf (Nat.le_of_not_lt (fun q => h ((nI_ltI ha hb2).mpr q))))
theorem lz_icmp_gt (hexec : p.tables.exec = Jvm.exec) (hb : c.code = cc) {a b : Nat} (ha : a < 2 ^ 31) (hb2 : b < 2 ^ 31) {off : Int} {tgt : Nat} (hdg : decode cc pc = .ok (.if_icmp .gt off, 3)) (ht : (pc : Int) + off = (tgt : Int)) (kt : b < a → W p l e R s m args below meth c H locs cells slots Q (F0 m tgt ls rest)) (kf : a ≤ b → W p l e R s m args below meth c H locs cells slots Q (F0 m (pc + 3) ls rest)) : W p l e R s m args below meth c H locs cells slots Q (F0 m pc ls (.int (nI b) :: .int (nI a) :: rest)) := lv_icmp_gt hexec hb hdg ht (fun h => kt ((nI_ltI hb2 ha).mp h)) (fun h => kf (Nat.le_of_not_lt (fun q => h ((nI_ltI hb2 ha).mpr q))))
theorem lz_icmp_eq (hexec : p.tables.exec = Jvm.exec) (hb : c.code = cc) {a b : Nat} (ha : a < 2 ^ 31) (hb2 : b < 2 ^ 31) {off : Int} {tgt : Nat} (hdg : decode cc pc = .ok (.if_icmp .eq off, 3)) (ht : (pc : Int) + off = (tgt : Int)) (kt : a = b → W p l e R s m args below meth c H locs cells slots Q (F0 m tgt ls rest)) (kf : a ≠ b → W p l e R s m args below meth c H locs cells slots Q (F0 m (pc + 3) ls rest)) : W p l e R s m args below meth c H locs cells slots Q (F0 m pc ls (.int (nI b) :: .int (nI a) :: rest)) := lv_icmp_eq hexec hb hdg ht (fun h => kt ((nI_eq ha hb2).mp h)) (fun h => kf (fun q => h ((nI_eq ha hb2).mpr q)))
theorem lz_icmp_ne (hexec : p.tables.exec = Jvm.exec) (hb : c.code = cc) {a b : Nat} (ha : a < 2 ^ 31) (hb2 : b < 2 ^ 31) {off : Int} {tgt : Nat} (hdg : decode cc pc = .ok (.if_icmp .ne off, 3)) (ht : (pc : Int) + off = (tgt : Int)) (kt : a ≠ b → W p l e R s m args below meth c H locs cells slots Q (F0 m tgt ls rest)) (kf : a = b → W p l e R s m args below meth c H locs cells slots Q (F0 m (pc + 3) ls rest)) : W p l e R s m args below meth c H locs cells slots Q (F0 m pc ls (.int (nI b) :: .int (nI a) :: rest)) := lv_icmp_ne hexec hb hdg ht (fun h => kt (fun q => h ((nI_eq ha hb2).mpr q))) (fun h => kf ((nI_eq ha hb2).mp h))
theorem lz_if_eq (hexec : p.tables.exec = Jvm.exec) (hb : c.code = cc) {a : Nat} (ha : a < 2 ^ 31) {off : Int} {tgt : Nat} (hdg : decode cc pc = .ok (.ifCond .eq off, 3)) (ht : (pc : Int) + off = (tgt : Int)) (kt : a = 0 → W p l e R s m args below meth c H locs cells slots Q (F0 m tgt ls rest)) (kf : 0 < a → W p l e R s m args below meth c H locs cells slots Q (F0 m (pc + 3) ls rest)) : W p l e R s m args below meth c H locs cells slots Q (F0 m pc ls (.int (nI a) :: rest)) := lv_if_eq hexec hb hdg ht (fun h => kt ((nI_eq ha (by decide : (0 : Nat) < 2 ^ 31)).mp h)) (fun h => kf (Nat.pos_of_ne_zero (fun q => h ((nI_eq ha (by decide : (0 : Nat) < 2 ^ 31)).mpr q))))
theorem lz_if_ne (hexec : p.tables.exec = Jvm.exec) (hb : c.code = cc) {a : Nat} (ha : a < 2 ^ 31) {off : Int} {tgt : Nat} (hdg : decode cc pc = .ok (.ifCond .ne off, 3)) (ht : (pc : Int) + off = (tgt : Int)) (kt : 0 < a → W p l e R s m args below meth c H locs cells slots Q (F0 m tgt ls rest)) (kf : a = 0 → W p l e R s m args below meth c H locs cells slots Q (F0 m (pc + 3) ls rest)) : W p l e R s m args below meth c H locs cells slots Q (F0 m pc ls (.int (nI a) :: rest)) := lv_if_ne hexec hb hdg ht (fun h => kt (Nat.pos_of_ne_zero (fun q => h ((nI_eq ha (by decide : (0 : Nat) < 2 ^ 31)).mpr q)))) (fun h => kf ((nI_eq ha (by decide : (0 : Nat) < 2 ^ 31)).mp h))
theorem lz_if_le (hexec : p.tables.exec = Jvm.exec) (hb : c.code = cc) {a : Nat} (ha : a < 2 ^ 31) {off : Int} {tgt : Nat} (hdg : decode cc pc = .ok (.ifCond .le off, 3)) (ht : (pc : Int) + off = (tgt : Int)) (kt : a = 0 → W p l e R s m args below meth c H locs cells slots Q (F0 m tgt ls rest)) (kf : 0 < a → W p l e R s m args below meth c H locs cells slots Q (F0 m (pc + 3) ls rest)) : W p l e R s m args below meth c H locs cells slots Q (F0 m pc ls (.int (nI a) :: rest)) := lv_if_le hexec hb hdg ht (fun h => kt (Nat.le_zero.mp ((nI_leI ha (by decide : (0 : Nat) < 2 ^ 31)).mp h))) (fun h => kf (Nat.lt_of_not_le (fun q => h ((nI_leI ha (by decide : (0 : Nat) < 2 ^ 31)).mpr q))))
theorem lz_bald (hexec : p.tables.exec = Jvm.exec) (hb : c.code = cc) {D : va_G} {cl : List vw_C} {ts : List (ClassId × FieldType)} {ws : va_W} {a : Nat} (hK : va_K D cl ts s) (hP : va_P D cl ws H) (q0 t0 : Nat) {cA : ClassId} {n i : Nat} {f : Nat → Int32} (ha : ws[q0]? = some (a, .inl (cA, n, .inl f))) (ht : ts[t0]? = some (cA, .byte)) (hi : i < n) (hn : n < 2 ^ 31) (hdg : decode cc pc = .ok (.baload, 1)) (k : W p l e R s m args below meth c H locs cells slots Q (F0 m (pc + 1) ls (.int (f i) :: rest))) : W p l e R s m args below meth c H locs cells slots Q (F0 m pc ls (.int (nI i) :: .ref a :: rest)) := va_bald hexec hb hK hP q0 t0 ha ht (vp_in_nI hi hn) hdg (by rw [nI_clamp (Nat.lt_trans hi hn)]; exact k)
theorem lz_iald (hexec : p.tables.exec = Jvm.exec) (hb : c.code = cc) {D : va_G} {cl : List vw_C} {ts : List (ClassId × FieldType)} {ws : va_W} {a : Nat} (hK : va_K D cl ts s) (hP : va_P D cl ws H) (q0 t0 : Nat) {cA : ClassId} {n i : Nat} {f : Nat → Int32} (ha : ws[q0]? = some (a, .inl (cA, n, .inl f))) (ht : ts[t0]? = some (cA, .int)) (hi : i < n) (hn : n < 2 ^ 31) (hdg : decode cc pc = .ok (.iaload, 1)) (k : W p l e R s m args below meth c H locs cells slots Q (F0 m (pc + 1) ls (.int (f i) :: rest))) : W p l e R s m args below meth c H locs cells slots Q (F0 m pc ls (.int (nI i) :: .ref a :: rest)) := va_iald hexec hb hK hP q0 t0 ha ht (vp_in_nI hi hn) hdg (by rw [nI_clamp (Nat.lt_trans hi hn)]; exact k)
theorem lz_zald (hexec : p.tables.exec = Jvm.exec) (hb : c.code = cc) {D : va_G} {cl : List vw_C} {ts : List (ClassId × FieldType)} {ws : va_W} {a : Nat} (hK : va_K D cl ts s) (hP : va_P D cl ws H) (q0 t0 : Nat) {cA : ClassId} {n i : Nat} {f : Nat → Int32} (ha : ws[q0]? = some (a, .inl (cA, n, .inl f))) (ht : ts[t0]? = some (cA, .boolean)) (hi : i < n) (hn : n < 2 ^ 31) (hdg : decode cc pc = .ok (.baload, 1)) (k : W p l e R s m args below meth c H locs cells slots Q (F0 m (pc + 1) ls (.int (f i) :: rest))) : W p l e R s m args below meth c H locs cells slots Q (F0 m pc ls (.int (nI i) :: .ref a :: rest)) := va_zald hexec hb hK hP q0 t0 ha ht (vp_in_nI hi hn) hdg (by rw [nI_clamp (Nat.lt_trans hi hn)]; exact k)
theorem lz_bast (hexec : p.tables.exec = Jvm.exec) (hb : c.code = cc) {D : va_G} {cl : List vw_C} {ts : List (ClassId × FieldType)} {ws : va_W} {A : Nat → Prop} {H0 : Heap} {a : Nat} (hK : va_K D cl ts s) (hP : va_P D cl ws H) (hD : va_D A ws) (hS : va_S A H0 H locs) (q0 t0 : Nat) {cA : ClassId} {n i : Nat} {f : Nat → Int32} {x : Int32} (ha : ws[q0]? = some (a, .inl (cA, n, .inl f))) (ht : ts[t0]? = some (cA, .byte)) (hi : i < n) (hn : n < 2 ^ 31) (hdg : decode cc pc = .ok (.bastore, 1)) (k : ∀ (H1 : Heap) (locs1 : List Loc), va_P D cl (ws.set q0 (a, .inl (cA, n, .inl (upd f i (bz x))))) H1 → va_D A (ws.set q0 (a, .inl (cA, n, .inl (upd f i (bz x))))) → va_S A H0 H1 locs1 → W p l e R s m args below meth c H1 locs1 cells slots Q (F0 m (pc + 1) ls rest)) : W p l e R s m args below meth c H locs cells slots Q (F0 m pc ls (.int x :: .int (nI i) :: .ref a :: rest)) := va_bast hexec hb hK hP hD hS q0 t0 ha ht (vp_in_nI hi hn) hdg (fun H1 locs1 h1 h2 h3 => by
  rw [nI_clamp (Nat.lt_trans hi hn), bz_nar] at h1 h2
  exact k H1 locs1 h1 h2 h3)
theorem lz_iast (hexec : p.tables.exec = Jvm.exec) (hb : c.code = cc) {D : va_G} {cl : List vw_C} {ts : List (ClassId × FieldType)} {ws : va_W} {A : Nat → Prop} {H0 : Heap} {a : Nat} (hK : va_K D cl ts s) (hP : va_P D cl ws H) (hD : va_D A ws) (hS : va_S A H0 H locs) (q0 t0 : Nat) {cA : ClassId} {n i : Nat} {f : Nat → Int32} {x : Int32} (ha : ws[q0]? = some (a, .inl (cA, n, .inl f))) (ht : ts[t0]? = some (cA, .int)) (hi : i < n) (hn : n < 2 ^ 31) (hdg : decode cc pc = .ok (.iastore, 1)) (k : ∀ (H1 : Heap) (locs1 : List Loc), va_P D cl (ws.set q0 (a, .inl (cA, n, .inl (upd f i (x))))) H1 → va_D A (ws.set q0 (a, .inl (cA, n, .inl (upd f i (x))))) → va_S A H0 H1 locs1 → W p l e R s m args below meth c H1 locs1 cells slots Q (F0 m (pc + 1) ls rest)) : W p l e R s m args below meth c H locs cells slots Q (F0 m pc ls (.int x :: .int (nI i) :: .ref a :: rest)) := va_iast hexec hb hK hP hD hS q0 t0 ha ht (vp_in_nI hi hn) hdg (fun H1 locs1 h1 h2 h3 => by
  rw [nI_clamp (Nat.lt_trans hi hn)] at h1 h2
  exact k H1 locs1 h1 h2 h3)
theorem lz_zast (hexec : p.tables.exec = Jvm.exec) (hb : c.code = cc) {D : va_G} {cl : List vw_C} {ts : List (ClassId × FieldType)} {ws : va_W} {A : Nat → Prop} {H0 : Heap} {a : Nat} (hK : va_K D cl ts s) (hP : va_P D cl ws H) (hD : va_D A ws) (hS : va_S A H0 H locs) (q0 t0 : Nat) {cA : ClassId} {n i : Nat} {f : Nat → Int32} {x : Int32} (ha : ws[q0]? = some (a, .inl (cA, n, .inl f))) (ht : ts[t0]? = some (cA, .boolean)) (hi : i < n) (hn : n < 2 ^ 31) (hdg : decode cc pc = .ok (.bastore, 1)) (k : ∀ (H1 : Heap) (locs1 : List Loc), va_P D cl (ws.set q0 (a, .inl (cA, n, .inl (upd f i (vp_nar .boolean x))))) H1 → va_D A (ws.set q0 (a, .inl (cA, n, .inl (upd f i (vp_nar .boolean x))))) → va_S A H0 H1 locs1 → W p l e R s m args below meth c H1 locs1 cells slots Q (F0 m (pc + 1) ls rest)) : W p l e R s m args below meth c H locs cells slots Q (F0 m pc ls (.int x :: .int (nI i) :: .ref a :: rest)) := va_zast hexec hb hK hP hD hS q0 t0 ha ht (vp_in_nI hi hn) hdg (fun H1 locs1 h1 h2 h3 => by
  rw [nI_clamp (Nat.lt_trans hi hn)] at h1 h2
  exact k H1 locs1 h1 h2 h3)
theorem lz_aald (hexec : p.tables.exec = Jvm.exec) (hb : c.code = cc) {D : va_G} {cl : List vw_C} {ts : List (ClassId × FieldType)} {ws : va_W} {a : Nat} (hK : va_K D cl ts s) (hP : va_P D cl ws H) (q0 t0 : Nat) {cA : ClassId} {C : String} {n i v : Nat} {f : Nat → Option Nat} (ha : ws[q0]? = some (a, .inl (cA, n, .inr (.inr (.inr (.inr f)))))) (ht : ts[t0]? = some (cA, .object C)) (hi : i < n) (hn : n < 2 ^ 31) (hv : f i = some v) (hdg : decode cc pc = .ok (.aaload, 1)) (k : W p l e R s m args below meth c H locs cells slots Q (F0 m (pc + 1) ls (.ref v :: rest))) : W p l e R s m args below meth c H locs cells slots Q (F0 m pc ls (.int (nI i) :: .ref a :: rest)) := va_aldq hexec hb hK hP q0 t0 ha ht (vp_in_nI hi hn) hdg (by rw [nI_clamp (Nat.lt_trans hi hn), hv]; exact k)
theorem va_K.one {D : va_G} {cl : List vw_C} {ts : List (ClassId × FieldType)} {cA : ClassId} {ty : FieldType} (hK : va_K D cl (ts ++ [(cA, ty)]) s) (t0 : Nat) {cB : ClassId} (ht : ts[t0]? = some (cB, ty)) : cA = cB := by
  have h1 : (ts ++ [(cA, ty)])[ts.length]? = some (cA, ty) := by simp
  have h2 : (ts ++ [(cA, ty)])[t0]? = some (cB, ty) := by rw [List.getElem?_append_left (List.getElem?_eq_some_iff.mp ht).1]; exact ht
  have k1 := (hK.2 _ _ h1).2
  have k2 := (hK.2 _ _ h2).2
  cases ty with
  | object C =>
    obtain ⟨_, _, _, _, _, e1⟩ := k1
    obtain ⟨_, _, _, _, _, e2⟩ := k2
    exact Option.some.inj (e1.symm.trans e2)
  | _ => exact Option.some.inj (k1.symm.trans k2)
theorem lz_newa (hexec : p.tables.exec = Jvm.exec) (hb : c.code = cc) {D : va_G} {cl : List vw_C} {ts : List (ClassId × FieldType)} {ws : va_W} {A : Nat → Prop} {H0 : Heap} (hA : ∀ q, H0.size ≤ q → A q) {atype : ArrayType} (harr : (Cond.arrayClass (newarray.typeOf atype)).before args s = true) {ty : FieldType} (hty : newarray.typeOf atype = ty) (hdef : defaultValue ty = .int (nI 0)) (hbs : componentBytes ty ≤ 4) (hK : va_K D cl ts s) (hP : va_P D cl ws H) (hD : va_D A ws) (hS : va_S A H0 H locs) (t0 : Nat) {cA : ClassId} (ht : ts[t0]? = some (cA, ty)) {N : Nat} (hN : N < 2 ^ 27) (hcells : cells + 1 ≤ R.cells) (hslots : slots + N ≤ R.slots) (hdg : decode cc pc = .ok (.newarray atype, 2)) (k : ∀ (q : Nat) (H1 : Heap), va_P D cl (ws ++ [(q, .inl (cA, N, .inl (fun _ => nI 0)))]) H1 → va_D A (ws ++ [(q, .inl (cA, N, .inl (fun _ => nI 0)))]) → va_S A H0 H1 locs → W p l e R s m args below meth c H1 locs (cells + 1) (slots + N) Q (F0 m (pc + 2) ls (.ref q :: rest))) : W p l e R s m args below meth c H locs cells slots Q (F0 m pc ls (.int (nI N) :: rest)) := by
  refine va_newa (a0 := (N, .inl (fun _ => nI 0))) hexec hb harr hty hK hP hD hS hA (fun cA => by rw [vp_cell_i, hdef]) (nI_pos (by omega)) (nI_clamp (by omega)) (Nat.le_trans (Nat.mul_le_mul_left N hbs) (by omega)) hcells hslots hdg (fun q cB H1 h1 h2 h3 h4 => ?_)
  obtain rfl := va_K.one h1 t0 ht
  exact k q H1 h2 h3 h4
theorem lz_newq (hexec : p.tables.exec = Jvm.exec) (hb : c.code = cc) {D : va_G} {cl : List vw_C} {ts : List (ClassId × FieldType)} {ws : va_W} {A : Nat → Prop} {H0 : Heap} (hA : ∀ q, H0.size ≤ q → A q) {own C : String} {index : Nat} (hown : s.vm.findClass own = some m.cls) (hcl : (Cond.classLink own index C).before args s = true) (hover : va_AO C s) (hK : va_K D cl ts s) (hP : va_P D cl ws H) (hD : va_D A ws) (hS : va_S A H0 H locs) (t0 : Nat) {cA : ClassId} (ht : ts[t0]? = some (cA, .object C)) {N : Nat} (hN : N < 2 ^ 27) (hcells : cells + 1 ≤ R.cells) (hslots : slots + N ≤ R.slots) (hdg : decode cc pc = .ok (.anewarray index, 3)) (k : ∀ (q : Nat) (H1 : Heap), va_P D cl (ws ++ [(q, .inl (cA, N, .inr (.inr (.inr (.inr (fun _ => none))))))]) H1 → va_D A (ws ++ [(q, .inl (cA, N, .inr (.inr (.inr (.inr (fun _ => none))))))]) → va_S A H0 H1 locs → W p l e R s m args below meth c H1 locs (cells + 1) (slots + N) Q (F0 m (pc + 3) ls (.ref q :: rest))) : W p l e R s m args below meth c H locs cells slots Q (F0 m pc ls (.int (nI N) :: rest)) := by
  refine va_newq hexec hb hown hcl hover hK hP hD hS hA (nI_pos (by omega)) (nI_clamp (by omega)) (by omega) hcells hslots hdg (fun q cB H1 h1 h2 h3 h4 => ?_)
  obtain rfl := va_K.one h1 t0 ht
  exact k q H1 h2 h3 h4
theorem k_iret (hexec : p.tables.exec = Jvm.exec) (hb : c.code = cc) {S : Type} {post : Int32 → S → Prop} {w1 : S → va_W} {D : va_G} {A : Nat → Prop} {ty : FieldType} {v : Int32} (hr : meth.sig.returnType = some ty) (hn : narrow ty (.int v) = .int v) (hlk : meth.locks = false) (u : S) (hp : post v u) (hP : va_P D classes (w1 u) H) (hD : va_D A (w1 u)) (hS : va_S A s.heap H locs) (hdg : decode cc pc = .ok (.ireturn, 1)) : W p l e R s m args below meth c H locs cells slots (MQ below (va_Qi post (fun u t => Pst D A (w1 u) t) A) args s cells slots A) (F0 m pc ls [.int v]) := W.zret hexec hb hr hn (fun t ht hW => ⟨⟨v, u, rfl, hp, by rw [ht]; exact hP, hD⟩, hS.F ht⟩) hS.2.2 hdg hlk
theorem k_vret (hexec : p.tables.exec = Jvm.exec) (hb : c.code = cc) {S : Type} {post : S → Prop} {w1 : S → va_W} {D : va_G} {A : Nat → Prop} (hr : meth.sig.returnType = none) (hlk : meth.locks = false) (u : S) (hp : post u) (hP : va_P D classes (w1 u) H) (hD : va_D A (w1 u)) (hS : va_S A s.heap H locs) (hdg : decode cc pc = .ok (.return_, 1)) : W p l e R s m args below meth c H locs cells slots (MQ below (va_Qv post (fun u t => Pst D A (w1 u) t) A) args s cells slots A) (F0 m pc ls []) := W.vret hexec hb hr (fun t ht hW => ⟨⟨u, rfl, hp, by rw [ht]; exact hP, hD⟩, hS.F ht⟩) hS.2.2 hdg hlk
theorem k_Vi {S : Type} {w1 : S → va_W} {y : MethodName} {bytes : ByteArray} {maxL nL n index : Nat} {rm : Room} {own : String} {As st : List Value} {ws wc wr : va_W} {D : va_G} {ca : Nat → ClassId} {A0 : Nat → Prop} {H0 : Heap} {post : Int32 → S → Prop} {rt : Option FieldType} (S0 : CallFix p m c cc nL s args gd_tbl own)
    {b ci q0 : Nat} {C : vw_C} {fs : List Value} (hy : y.cls = C.1) (w1h : Cond.methodLink own index y ∈ gd_tbl) (w2h : Cond.instanceMethod y ∈ gd_tbl) (w3h : Cond.selects C.1 y y ∈ gd_tbl) (w4h : Cond.initialized y.cls ∈ gd_tbl) (hc : classes[ci]? = some C) (he : wc[q0]? = some (b, .inr (ci, fs))) (w5h : Cond.code y bytes maxL rt ∈ gd_tbl) (hd : y.cls ≠ "java/lang/invoke/MethodHandle" ∧ y.cls ≠ "java/lang/invoke/VarHandle" ∧ (parseMethodDescriptor y.desc).map (fun d => d.parameters.length) = some n) (hK : PW D ca s) (hP : va_P D classes ws H) (hD : va_D A0 ws) (hS : va_S A0 H0 H locs) (hA : ∀ q, H0.size ≤ q → A0 q)
    (hM : MetI l y bytes maxL rt rm D ca (.ref b :: As) wc H.size post w1) (isC isR : List Nat) (hC : isC.map (fun i => ws[i]?) = wc.map some) (hR : isR.map (fun i => ws[i]?) = wr.map some) (hnC : va_nd isC = true) (hnR : va_nd isR = true) (hdis : ∀ i ∈ isR, i ∉ isC)
    (hRm : rm.frames + 1 ≤ R.frames ∧ 8 + (maxL + 11) + rm.locals ≤ R.locals) (hn : As.length = n) (hsize : ls.size = nL) (hst : st = As.reverse ++ .ref b :: rest) (hrm : (rest.map fun v => v.category).sum ≤ 8) (hf : cells + rm.cells ≤ R.cells ∧ slots + rm.slots ≤ R.slots) (hdg : decode cc pc = .ok (.invokevirtual index, 3))
    (k : ∀ (r : Int32) (u : S) (H1 : Heap) (locs1 : List Loc), post r u → va_P D classes (wr ++ w1 u) H1 → va_D A0 (wr ++ w1 u) → va_S A0 H0 H1 locs1 → W p l e R s m args below meth c H1 locs1 (cells + rm.cells) (slots + rm.slots) Q (F0 m (pc + 3) ls (.int r :: rest))) : W p l e R s m args below meth c H locs cells slots Q (F0 m pc ls st) := by
  subst hst
  have hPc : va_P D classes wc H := fun i q hi => by
    have h1 : (isC.map (fun i => ws[i]?))[i]? = some (some q) := by rw [hC, List.getElem?_map, hi]; rfl
    rw [List.getElem?_map] at h1
    cases hi2 : isC[i]? with
    | none => rw [hi2] at h1; cases h1
    | some j => rw [hi2] at h1; exact hP _ _ (Option.some.inj h1)
  have hDc := hD.sub isC hnC hC
  have hFc := va_free hD hS hA isC hC
  refine va_calli (va_runV (C := C.1) (As := As) (rest := rest) S0 hM ⟨callB_of n S0.2.2.2.2 (gd_in w5h) rfl rfl rfl (S0.2.2.2.2 _ w4h) (S0.2.2.2.2 _ w1h) hd hRm, S0.2.2.2.2 _ w2h, S0.2.2.2.2 _ w3h⟩ ⟨lw_blind, va_recv hK.1 hPc hc he, fun U hU hW => ⟨rfl, by rw [hU], by rw [hU]; exact hPc, hK.warm hW, hDc.weaken (fun _ _ _ _ => trivial)⟩⟩ rfl hn hsize rfl (lv_room hrm) hdg hf) hS (fun q _ h => hFc q h) hFc (fun r u t H1 locs ht hvm hw hB hz1 hk1 hS => ?_)
  obtain ⟨hP1, hD1⟩ := hB
  rw [ht] at hP1
  obtain ⟨hP, hD⟩ := va_join hP hD isC isR hC hR hnR hdis hk1 hFc hP1 hD1
  exact k r u H1 locs hw hP hD hS
theorem k_Vv {S : Type} {w1 : S → va_W} {y : MethodName} {bytes : ByteArray} {maxL nL n index : Nat} {rm : Room} {own : String} {As st : List Value} {ws wc wr : va_W} {D : va_G} {ca : Nat → ClassId} {A0 : Nat → Prop} {H0 : Heap} {post : S → Prop}  (S0 : CallFix p m c cc nL s args gd_tbl own)
    {b ci q0 : Nat} {C : vw_C} {fs : List Value} (hy : y.cls = C.1) (w1h : Cond.methodLink own index y ∈ gd_tbl) (w2h : Cond.instanceMethod y ∈ gd_tbl) (w3h : Cond.selects C.1 y y ∈ gd_tbl) (w4h : Cond.initialized y.cls ∈ gd_tbl) (hc : classes[ci]? = some C) (he : wc[q0]? = some (b, .inr (ci, fs))) (w5h : Cond.code y bytes maxL none ∈ gd_tbl) (hd : y.cls ≠ "java/lang/invoke/MethodHandle" ∧ y.cls ≠ "java/lang/invoke/VarHandle" ∧ (parseMethodDescriptor y.desc).map (fun d => d.parameters.length) = some n) (hK : PW D ca s) (hP : va_P D classes ws H) (hD : va_D A0 ws) (hS : va_S A0 H0 H locs) (hA : ∀ q, H0.size ≤ q → A0 q)
    (hM : MetV l y bytes maxL rm D ca (.ref b :: As) wc H.size post w1) (isC isR : List Nat) (hC : isC.map (fun i => ws[i]?) = wc.map some) (hR : isR.map (fun i => ws[i]?) = wr.map some) (hnC : va_nd isC = true) (hnR : va_nd isR = true) (hdis : ∀ i ∈ isR, i ∉ isC)
    (hRm : rm.frames + 1 ≤ R.frames ∧ 8 + (maxL + 11) + rm.locals ≤ R.locals) (hn : As.length = n) (hsize : ls.size = nL) (hst : st = As.reverse ++ .ref b :: rest) (hrm : (rest.map fun v => v.category).sum ≤ 8) (hf : cells + rm.cells ≤ R.cells ∧ slots + rm.slots ≤ R.slots) (hdg : decode cc pc = .ok (.invokevirtual index, 3))
    (k : ∀ (u : S) (H1 : Heap) (locs1 : List Loc), post u → va_P D classes (wr ++ w1 u) H1 → va_D A0 (wr ++ w1 u) → va_S A0 H0 H1 locs1 → W p l e R s m args below meth c H1 locs1 (cells + rm.cells) (slots + rm.slots) Q (F0 m (pc + 3) ls (rest))) : W p l e R s m args below meth c H locs cells slots Q (F0 m pc ls st) := by
  subst hst
  have hPc : va_P D classes wc H := fun i q hi => by
    have h1 : (isC.map (fun i => ws[i]?))[i]? = some (some q) := by rw [hC, List.getElem?_map, hi]; rfl
    rw [List.getElem?_map] at h1
    cases hi2 : isC[i]? with
    | none => rw [hi2] at h1; cases h1
    | some j => rw [hi2] at h1; exact hP _ _ (Option.some.inj h1)
  have hDc := hD.sub isC hnC hC
  have hFc := va_free hD hS hA isC hC
  refine va_callv (va_runV (C := C.1) (As := As) (rest := rest) S0 hM ⟨callB_of n S0.2.2.2.2 (gd_in w5h) rfl rfl rfl (S0.2.2.2.2 _ w4h) (S0.2.2.2.2 _ w1h) hd hRm, S0.2.2.2.2 _ w2h, S0.2.2.2.2 _ w3h⟩ ⟨lw_blind, va_recv hK.1 hPc hc he, fun U hU hW => ⟨rfl, by rw [hU], by rw [hU]; exact hPc, hK.warm hW, hDc.weaken (fun _ _ _ _ => trivial)⟩⟩ rfl hn hsize rfl (lv_room hrm) hdg hf) hS (fun q _ h => hFc q h) hFc (fun u t H1 locs ht hvm hw hB hz1 hk1 hS => ?_)
  obtain ⟨hP1, hD1⟩ := hB
  rw [ht] at hP1
  obtain ⟨hP, hD⟩ := va_join hP hD isC isR hC hR hnR hdis hk1 hFc hP1 hD1
  exact k u H1 locs hw hP hD hS
theorem k_Si {S : Type} {w1 : S → va_W} {y : MethodName} {bytes : ByteArray} {maxL nL n index : Nat} {rm : Room} {own : String} {As st : List Value} {ws wc wr : va_W} {D : va_G} {ca : Nat → ClassId} {A0 : Nat → Prop} {H0 : Heap} {post : Int32 → S → Prop} {rt : Option FieldType} (S0 : CallFix p m c cc nL s args gd_tbl own)
    (w1h : Cond.methodLink own index y ∈ gd_tbl) (w2h : Cond.static y ∈ gd_tbl) (w4h : Cond.initialized y.cls ∈ gd_tbl) (w5h : Cond.code y bytes maxL rt ∈ gd_tbl) (hd : y.cls ≠ "java/lang/invoke/MethodHandle" ∧ y.cls ≠ "java/lang/invoke/VarHandle" ∧ (parseMethodDescriptor y.desc).map (fun d => d.parameters.length) = some n) (hK : PW D ca s) (hP : va_P D classes ws H) (hD : va_D A0 ws) (hS : va_S A0 H0 H locs) (hA : ∀ q, H0.size ≤ q → A0 q)
    (hM : MetI l y bytes maxL rt rm D ca As wc H.size post w1) (isC isR : List Nat) (hC : isC.map (fun i => ws[i]?) = wc.map some) (hR : isR.map (fun i => ws[i]?) = wr.map some) (hnC : va_nd isC = true) (hnR : va_nd isR = true) (hdis : ∀ i ∈ isR, i ∉ isC)
    (hRm : rm.frames + 1 ≤ R.frames ∧ 8 + (maxL + 11) + rm.locals ≤ R.locals) (hn : As.length = n) (hsize : ls.size = nL) (hst : st = As.reverse ++ rest) (hrm : (rest.map fun v => v.category).sum ≤ 8) (hf : cells + rm.cells ≤ R.cells ∧ slots + rm.slots ≤ R.slots) (hdg : decode cc pc = .ok (.invokestatic index, 3))
    (k : ∀ (r : Int32) (u : S) (H1 : Heap) (locs1 : List Loc), post r u → va_P D classes (wr ++ w1 u) H1 → va_D A0 (wr ++ w1 u) → va_S A0 H0 H1 locs1 → W p l e R s m args below meth c H1 locs1 (cells + rm.cells) (slots + rm.slots) Q (F0 m (pc + 3) ls (.int r :: rest))) : W p l e R s m args below meth c H locs cells slots Q (F0 m pc ls st) := by
  subst hst
  have hPc : va_P D classes wc H := fun i q hi => by
    have h1 : (isC.map (fun i => ws[i]?))[i]? = some (some q) := by rw [hC, List.getElem?_map, hi]; rfl
    rw [List.getElem?_map] at h1
    cases hi2 : isC[i]? with
    | none => rw [hi2] at h1; cases h1
    | some j => rw [hi2] at h1; exact hP _ _ (Option.some.inj h1)
  have hDc := hD.sub isC hnC hC
  have hFc := va_free hD hS hA isC hC
  refine va_calli (va_runS (As := As) (rest := rest) S0 hM ⟨callB_of n S0.2.2.2.2 (gd_in w5h) rfl rfl rfl (S0.2.2.2.2 _ w4h) (S0.2.2.2.2 _ w1h) hd hRm, S0.2.2.2.2 _ w2h⟩ ⟨lw_blind, fun U hU hW => ⟨rfl, by rw [hU], by rw [hU]; exact hPc, hK.warm hW, hDc.weaken (fun _ _ _ _ => trivial)⟩⟩ rfl hn hsize rfl (lv_room hrm) hdg hf) hS (fun q _ h => hFc q h) hFc (fun r u t H1 locs ht hvm hw hB hz1 hk1 hS => ?_)
  obtain ⟨hP1, hD1⟩ := hB
  rw [ht] at hP1
  obtain ⟨hP, hD⟩ := va_join hP hD isC isR hC hR hnR hdis hk1 hFc hP1 hD1
  exact k r u H1 locs hw hP hD hS
theorem k_Iv {S : Type} {w1 : S → va_W} {y : MethodName} {bytes : ByteArray} {maxL nL n index : Nat} {rm : Room} {own : String} {As st : List Value} {ws wc wr : va_W} {D : va_G} {ca : Nat → ClassId} {A0 : Nat → Prop} {H0 : Heap} {post : S → Prop}  (S0 : CallFix p m c cc nL s args gd_tbl own)
    {b : Nat} (hy1 : y.name = "<init>") (w1h : Cond.methodLink own index y ∈ gd_tbl) (w2h : Cond.instanceMethod y ∈ gd_tbl) (w4h : Cond.initialized y.cls ∈ gd_tbl) (w5h : Cond.code y bytes maxL none ∈ gd_tbl) (hd : y.cls ≠ "java/lang/invoke/MethodHandle" ∧ y.cls ≠ "java/lang/invoke/VarHandle" ∧ (parseMethodDescriptor y.desc).map (fun d => d.parameters.length) = some n) (hK : PW D ca s) (hP : va_P D classes ws H) (hD : va_D A0 ws) (hS : va_S A0 H0 H locs) (hA : ∀ q, H0.size ≤ q → A0 q)
    (hM : MetV l y bytes maxL rm D ca (.ref b :: As) wc H.size post w1) (isC isR : List Nat) (hC : isC.map (fun i => ws[i]?) = wc.map some) (hR : isR.map (fun i => ws[i]?) = wr.map some) (hnC : va_nd isC = true) (hnR : va_nd isR = true) (hdis : ∀ i ∈ isR, i ∉ isC)
    (hRm : rm.frames + 1 ≤ R.frames ∧ 8 + (maxL + 11) + rm.locals ≤ R.locals) (hn : As.length = n) (hsize : ls.size = nL) (hst : st = As.reverse ++ .ref b :: rest) (hrm : (rest.map fun v => v.category).sum ≤ 8) (hf : cells + rm.cells ≤ R.cells ∧ slots + rm.slots ≤ R.slots) (hdg : decode cc pc = .ok (.invokespecial index, 3))
    (k : ∀ (u : S) (H1 : Heap) (locs1 : List Loc), post u → va_P D classes (wr ++ w1 u) H1 → va_D A0 (wr ++ w1 u) → va_S A0 H0 H1 locs1 → W p l e R s m args below meth c H1 locs1 (cells + rm.cells) (slots + rm.slots) Q (F0 m (pc + 3) ls (rest))) : W p l e R s m args below meth c H locs cells slots Q (F0 m pc ls st) := by
  subst hst
  have hPc : va_P D classes wc H := fun i q hi => by
    have h1 : (isC.map (fun i => ws[i]?))[i]? = some (some q) := by rw [hC, List.getElem?_map, hi]; rfl
    rw [List.getElem?_map] at h1
    cases hi2 : isC[i]? with
    | none => rw [hi2] at h1; cases h1
    | some j => rw [hi2] at h1; exact hP _ _ (Option.some.inj h1)
  have hDc := hD.sub isC hnC hC
  have hFc := va_free hD hS hA isC hC
  refine va_callv (va_runI (As := As) (rest := rest) S0 hM ⟨callB_of n S0.2.2.2.2 (gd_in w5h) rfl rfl rfl (S0.2.2.2.2 _ w4h) (S0.2.2.2.2 _ w1h) hd hRm, hy1, S0.2.2.2.2 _ w2h⟩ ⟨lw_blind, fun U hU hW => ⟨rfl, by rw [hU], by rw [hU]; exact hPc, hK.warm hW, hDc.weaken (fun _ _ _ _ => trivial)⟩⟩ rfl hn hsize rfl (lv_room hrm) hdg hf) hS (fun q _ h => hFc q h) hFc (fun u t H1 locs ht hvm hw hB hz1 hk1 hS => ?_)
  obtain ⟨hP1, hD1⟩ := hB
  rw [ht] at hP1
  obtain ⟨hP, hD⟩ := va_join hP hD isC isR hC hR hnR hdis hk1 hFc hP1 hD1
  exact k u H1 locs hw hP hD hS
theorem k_INv {S : Type} {w1 : S → va_W} {y : MethodName} {bytes : ByteArray} {maxL nL n index : Nat} {rm : Room} {own : String} {As st : List Value} {ws wc wr : va_W} {D : va_G} {ca : Nat → ClassId} {A0 : Nat → Prop} {H0 : Heap} {post : S → Prop}  (S0 : CallFix p m c cc nL s args gd_tbl own)
    {b : Nat} {host : String} (hy1 : y.name = "<init>") (w1h : va_Nw (.methodLinkNest own index y host) s) (w2h : Cond.instanceMethod y ∈ gd_tbl) (w4h : Cond.initialized y.cls ∈ gd_tbl) (w5h : Cond.code y bytes maxL none ∈ gd_tbl) (hd : y.cls ≠ "java/lang/invoke/MethodHandle" ∧ y.cls ≠ "java/lang/invoke/VarHandle" ∧ (parseMethodDescriptor y.desc).map (fun d => d.parameters.length) = some n) (hK : PW D ca s) (hP : va_P D classes ws H) (hD : va_D A0 ws) (hS : va_S A0 H0 H locs) (hA : ∀ q, H0.size ≤ q → A0 q)
    (hM : MetV l y bytes maxL rm D ca (.ref b :: As) wc H.size post w1) (isC isR : List Nat) (hC : isC.map (fun i => ws[i]?) = wc.map some) (hR : isR.map (fun i => ws[i]?) = wr.map some) (hnC : va_nd isC = true) (hnR : va_nd isR = true) (hdis : ∀ i ∈ isR, i ∉ isC)
    (hRm : rm.frames + 1 ≤ R.frames ∧ 8 + (maxL + 11) + rm.locals ≤ R.locals) (hn : As.length = n) (hsize : ls.size = nL) (hst : st = As.reverse ++ .ref b :: rest) (hrm : (rest.map fun v => v.category).sum ≤ 8) (hf : cells + rm.cells ≤ R.cells ∧ slots + rm.slots ≤ R.slots) (hdg : decode cc pc = .ok (.invokespecial index, 3))
    (k : ∀ (u : S) (H1 : Heap) (locs1 : List Loc), post u → va_P D classes (wr ++ w1 u) H1 → va_D A0 (wr ++ w1 u) → va_S A0 H0 H1 locs1 → W p l e R s m args below meth c H1 locs1 (cells + rm.cells) (slots + rm.slots) Q (F0 m (pc + 3) ls (rest))) : W p l e R s m args below meth c H locs cells slots Q (F0 m pc ls st) := by
  subst hst
  have hPc : va_P D classes wc H := fun i q hi => by
    have h1 : (isC.map (fun i => ws[i]?))[i]? = some (some q) := by rw [hC, List.getElem?_map, hi]; rfl
    rw [List.getElem?_map] at h1
    cases hi2 : isC[i]? with
    | none => rw [hi2] at h1; cases h1
    | some j => rw [hi2] at h1; exact hP _ _ (Option.some.inj h1)
  have hDc := hD.sub isC hnC hC
  have hFc := va_free hD hS hA isC hC
  refine va_callv (va_runIN (As := As) (rest := rest) S0 hM ⟨va_cnB n S0.2.2.2.2 (gd_in w5h) rfl rfl rfl w1h (S0.2.2.2.2 _ w4h) hd hRm, hy1, S0.2.2.2.2 _ w2h⟩ ⟨lw_blind, fun U hU hW => ⟨rfl, by rw [hU], by rw [hU]; exact hPc, hK.warm hW, hDc.weaken (fun _ _ _ _ => trivial)⟩⟩ rfl hn hsize rfl (lv_room hrm) hdg hf) hS (fun q _ h => hFc q h) hFc (fun u t H1 locs ht hvm hw hB hz1 hk1 hS => ?_)
  obtain ⟨hP1, hD1⟩ := hB
  rw [ht] at hP1
  obtain ⟨hP, hD⟩ := va_join hP hD isC isR hC hR hnR hdis hk1 hFc hP1 hD1
  exact k u H1 locs hw hP hD hS
end LZ
end
section
section FLD
variable {p : Program} {l : Launch} {e : Env} {R : Room} {s : State} {m : MethodId} {args : Array Value} {below : List Frame} {meth : Method} {c : Code} {H : Heap} {locs : List Loc} {cells slots : Nat} {Q : State → Prop}
variable {cc : ByteArray} {pc nL : Nat} {ls : Array Slot} {rest : List Value} {D : va_G} {ca : Nat → ClassId} {ws : va_W} {Aa : Nat → Prop} {H0 : Heap} {a q0 : Nat} {fs : List Value} {v : Value}
theorem gf_Ch_11 (S0 : CallFix p m c cc nL s args gd_tbl "DownFrames$Channel") (hK : PW D ca s) (hP : va_P D classes ws H) (he : ws[q0]? = some (a, .inr (0, fs))) (hv : fs[0]? = some v) (hdg : decode cc pc = .ok (.getfield 11, 3)) (k : W p l e R s m args below meth c H locs cells slots Q (F0 m (pc + 3) ls (v :: rest))) : W p l e R s m args below meth c H locs cells slots Q (F0 m pc ls (.ref a :: rest)) := va_get (D := D) (ci := 0) (C := R_Ch) (T := F_Ch) (N := 4) S0.1 S0.2.1 S0.2.2.2.2 i_Ch S0.2.2.2.1 hK.1 hP q0 he rfl 0 (by decide) (S0.2.2.2.2 _ q_27) (fun _ h9 => h9) hv hdg k
theorem pf_Ch_11 (S0 : CallFix p m c cc nL s args gd_tbl "DownFrames$Channel") (hnm : meth.name = "<init>") (hK : PW D ca s) (hP : va_P D classes ws H) (hD : va_D Aa ws) (hS : va_S Aa H0 H locs) (he : ws[q0]? = some (a, .inr (0, fs))) (hn : narrow (t_Ch 0) v = v) (hfit : fits (t_Ch 0) v = true) (hl : 0 < fs.length) (hdg : decode cc pc = .ok (.putfield 11, 3)) (k : ∀ (H1 : Heap) (locs1 : List Loc), va_P D classes (ws.set q0 (a, .inr (0, fs.set 0 v))) H1 → va_D Aa (ws.set q0 (a, .inr (0, fs.set 0 v))) → va_S Aa H0 H1 locs1 → W p l e R s m args below meth c H1 locs1 cells slots Q (F0 m (pc + 3) ls rest)) : W p l e R s m args below meth c H locs cells slots Q (F0 m pc ls (v :: .ref a :: rest)) := va_putF (D := D) (ci := 0) (ty := t_Ch 0) (C := R_Ch) (T := F_Ch) (N := 4) S0.1 S0.2.1 S0.2.2.2.2 i_Ch t_Ch t_Ch_ok n_Ch S0.2.2.2.1 hK.1 hP hD hS q0 he rfl 0 (by decide) (S0.2.2.2.2 _ q_27) (fun _ h9 => h9) (rfl : (F_Ch 0).2.2.2 = true) hnm rfl (t_Ch_ok 0 (by decide)) hn hfit hl hdg k
theorem gf_Ch_19 (S0 : CallFix p m c cc nL s args gd_tbl "DownFrames$Channel") (hK : PW D ca s) (hP : va_P D classes ws H) (he : ws[q0]? = some (a, .inr (0, fs))) (hv : fs[1]? = some v) (hdg : decode cc pc = .ok (.getfield 19, 3)) (k : W p l e R s m args below meth c H locs cells slots Q (F0 m (pc + 3) ls (v :: rest))) : W p l e R s m args below meth c H locs cells slots Q (F0 m pc ls (.ref a :: rest)) := va_get (D := D) (ci := 0) (C := R_Ch) (T := F_Ch) (N := 4) S0.1 S0.2.1 S0.2.2.2.2 i_Ch S0.2.2.2.1 hK.1 hP q0 he rfl 1 (by decide) (S0.2.2.2.2 _ q_28) (fun _ h9 => h9) hv hdg k
theorem pf_Ch_19 (S0 : CallFix p m c cc nL s args gd_tbl "DownFrames$Channel") (hK : PW D ca s) (hP : va_P D classes ws H) (hD : va_D Aa ws) (hS : va_S Aa H0 H locs) (he : ws[q0]? = some (a, .inr (0, fs))) (hn : narrow (t_Ch 1) v = v) (hfit : fits (t_Ch 1) v = true) (hl : 1 < fs.length) (hdg : decode cc pc = .ok (.putfield 19, 3)) (k : ∀ (H1 : Heap) (locs1 : List Loc), va_P D classes (ws.set q0 (a, .inr (0, fs.set 1 v))) H1 → va_D Aa (ws.set q0 (a, .inr (0, fs.set 1 v))) → va_S Aa H0 H1 locs1 → W p l e R s m args below meth c H1 locs1 cells slots Q (F0 m (pc + 3) ls rest)) : W p l e R s m args below meth c H locs cells slots Q (F0 m pc ls (v :: .ref a :: rest)) := va_put (D := D) (ci := 0) (ty := t_Ch 1) (C := R_Ch) (T := F_Ch) (N := 4) S0.1 S0.2.1 S0.2.2.2.2 i_Ch t_Ch t_Ch_ok n_Ch S0.2.2.2.1 hK.1 hP hD hS q0 he rfl 1 (by decide) (S0.2.2.2.2 _ q_28) (fun _ h9 => h9) (rfl : (F_Ch 1).2.2.2 = false) (t_Ch_ok 1 (by decide)) hn hfit hl hdg k
theorem gf_Ch_15 (S0 : CallFix p m c cc nL s args gd_tbl "DownFrames$Channel") (hK : PW D ca s) (hP : va_P D classes ws H) (he : ws[q0]? = some (a, .inr (0, fs))) (hv : fs[2]? = some v) (hdg : decode cc pc = .ok (.getfield 15, 3)) (k : W p l e R s m args below meth c H locs cells slots Q (F0 m (pc + 3) ls (v :: rest))) : W p l e R s m args below meth c H locs cells slots Q (F0 m pc ls (.ref a :: rest)) := va_get (D := D) (ci := 0) (C := R_Ch) (T := F_Ch) (N := 4) S0.1 S0.2.1 S0.2.2.2.2 i_Ch S0.2.2.2.1 hK.1 hP q0 he rfl 2 (by decide) (S0.2.2.2.2 _ q_29) (fun _ h9 => h9) hv hdg k
theorem pf_Ch_15 (S0 : CallFix p m c cc nL s args gd_tbl "DownFrames$Channel") (hK : PW D ca s) (hP : va_P D classes ws H) (hD : va_D Aa ws) (hS : va_S Aa H0 H locs) (he : ws[q0]? = some (a, .inr (0, fs))) (hn : narrow (t_Ch 2) v = v) (hfit : fits (t_Ch 2) v = true) (hl : 2 < fs.length) (hdg : decode cc pc = .ok (.putfield 15, 3)) (k : ∀ (H1 : Heap) (locs1 : List Loc), va_P D classes (ws.set q0 (a, .inr (0, fs.set 2 v))) H1 → va_D Aa (ws.set q0 (a, .inr (0, fs.set 2 v))) → va_S Aa H0 H1 locs1 → W p l e R s m args below meth c H1 locs1 cells slots Q (F0 m (pc + 3) ls rest)) : W p l e R s m args below meth c H locs cells slots Q (F0 m pc ls (v :: .ref a :: rest)) := va_put (D := D) (ci := 0) (ty := t_Ch 2) (C := R_Ch) (T := F_Ch) (N := 4) S0.1 S0.2.1 S0.2.2.2.2 i_Ch t_Ch t_Ch_ok n_Ch S0.2.2.2.1 hK.1 hP hD hS q0 he rfl 2 (by decide) (S0.2.2.2.2 _ q_29) (fun _ h9 => h9) (rfl : (F_Ch 2).2.2.2 = false) (t_Ch_ok 2 (by decide)) hn hfit hl hdg k
theorem gf_Mk_26 (S0 : CallFix p m c cc nL s args gd_tbl "DownFrames$Maker") (hK : PW D ca s) (hP : va_P D classes ws H) (he : ws[q0]? = some (a, .inr (0, fs))) (hv : fs[2]? = some v) (hdg : decode cc pc = .ok (.getfield 26, 3)) (k : W p l e R s m args below meth c H locs cells slots Q (F0 m (pc + 3) ls (v :: rest))) : W p l e R s m args below meth c H locs cells slots Q (F0 m pc ls (.ref a :: rest)) := va_getN (D := D) (ci := 0) (C := R_Ch) (T := F_Ch) (N := 4) S0.1 S0.2.1 S0.2.2.2.2 i_Ch S0.2.2.2.1 hK.1 hP q0 he rfl 2 (by decide) (va_Nw.use rfl hK.2.2.1) (fun _ h9 => h9) hv hdg k
theorem gf_Fr_43 (S0 : CallFix p m c cc nL s args gd_tbl "DownFrames") (hK : PW D ca s) (hP : va_P D classes ws H) (he : ws[q0]? = some (a, .inr (0, fs))) (hv : fs[2]? = some v) (hdg : decode cc pc = .ok (.getfield 43, 3)) (k : W p l e R s m args below meth c H locs cells slots Q (F0 m (pc + 3) ls (v :: rest))) : W p l e R s m args below meth c H locs cells slots Q (F0 m pc ls (.ref a :: rest)) := va_getN (D := D) (ci := 0) (C := R_Ch) (T := F_Ch) (N := 4) S0.1 S0.2.1 S0.2.2.2.2 i_Ch S0.2.2.2.1 hK.1 hP q0 he rfl 2 (by decide) (va_Nw.use rfl hK.2.2.2.1) (fun _ h9 => h9) hv hdg k
theorem gf_Ch_26 (S0 : CallFix p m c cc nL s args gd_tbl "DownFrames$Channel") (hK : PW D ca s) (hP : va_P D classes ws H) (he : ws[q0]? = some (a, .inr (0, fs))) (hv : fs[3]? = some v) (hdg : decode cc pc = .ok (.getfield 26, 3)) (k : W p l e R s m args below meth c H locs cells slots Q (F0 m (pc + 3) ls (v :: rest))) : W p l e R s m args below meth c H locs cells slots Q (F0 m pc ls (.ref a :: rest)) := va_get (D := D) (ci := 0) (C := R_Ch) (T := F_Ch) (N := 4) S0.1 S0.2.1 S0.2.2.2.2 i_Ch S0.2.2.2.1 hK.1 hP q0 he rfl 3 (by decide) (S0.2.2.2.2 _ q_32) (fun _ h9 => h9) hv hdg k
theorem pf_Ch_26 (S0 : CallFix p m c cc nL s args gd_tbl "DownFrames$Channel") (hK : PW D ca s) (hP : va_P D classes ws H) (hD : va_D Aa ws) (hS : va_S Aa H0 H locs) (he : ws[q0]? = some (a, .inr (0, fs))) (hn : narrow (t_Ch 3) v = v) (hfit : fits (t_Ch 3) v = true) (hl : 3 < fs.length) (hdg : decode cc pc = .ok (.putfield 26, 3)) (k : ∀ (H1 : Heap) (locs1 : List Loc), va_P D classes (ws.set q0 (a, .inr (0, fs.set 3 v))) H1 → va_D Aa (ws.set q0 (a, .inr (0, fs.set 3 v))) → va_S Aa H0 H1 locs1 → W p l e R s m args below meth c H1 locs1 cells slots Q (F0 m (pc + 3) ls rest)) : W p l e R s m args below meth c H locs cells slots Q (F0 m pc ls (v :: .ref a :: rest)) := va_put (D := D) (ci := 0) (ty := t_Ch 3) (C := R_Ch) (T := F_Ch) (N := 4) S0.1 S0.2.1 S0.2.2.2.2 i_Ch t_Ch t_Ch_ok n_Ch S0.2.2.2.1 hK.1 hP hD hS q0 he rfl 3 (by decide) (S0.2.2.2.2 _ q_32) (fun _ h9 => h9) (rfl : (F_Ch 3).2.2.2 = false) (t_Ch_ok 3 (by decide)) hn hfit hl hdg k
theorem gf_Mk_22 (S0 : CallFix p m c cc nL s args gd_tbl "DownFrames$Maker") (hK : PW D ca s) (hP : va_P D classes ws H) (he : ws[q0]? = some (a, .inr (1, fs))) (hv : fs[0]? = some v) (hdg : decode cc pc = .ok (.getfield 22, 3)) (k : W p l e R s m args below meth c H locs cells slots Q (F0 m (pc + 3) ls (v :: rest))) : W p l e R s m args below meth c H locs cells slots Q (F0 m pc ls (.ref a :: rest)) := va_get (D := D) (ci := 1) (C := R_Mk) (T := F_Mk) (N := 4) S0.1 S0.2.1 S0.2.2.2.2 i_Mk S0.2.2.2.1 hK.1 hP q0 he rfl 0 (by decide) (S0.2.2.2.2 _ q_43) (fun _ h9 => h9) hv hdg k
theorem pf_Mk_22 (S0 : CallFix p m c cc nL s args gd_tbl "DownFrames$Maker") (hnm : meth.name = "<init>") (hK : PW D ca s) (hP : va_P D classes ws H) (hD : va_D Aa ws) (hS : va_S Aa H0 H locs) (he : ws[q0]? = some (a, .inr (1, fs))) (hn : narrow (t_Mk 0) v = v) (hfit : fits (t_Mk 0) v = true) (hl : 0 < fs.length) (hdg : decode cc pc = .ok (.putfield 22, 3)) (k : ∀ (H1 : Heap) (locs1 : List Loc), va_P D classes (ws.set q0 (a, .inr (1, fs.set 0 v))) H1 → va_D Aa (ws.set q0 (a, .inr (1, fs.set 0 v))) → va_S Aa H0 H1 locs1 → W p l e R s m args below meth c H1 locs1 cells slots Q (F0 m (pc + 3) ls rest)) : W p l e R s m args below meth c H locs cells slots Q (F0 m pc ls (v :: .ref a :: rest)) := va_putF (D := D) (ci := 1) (ty := t_Mk 0) (C := R_Mk) (T := F_Mk) (N := 4) S0.1 S0.2.1 S0.2.2.2.2 i_Mk t_Mk t_Mk_ok n_Mk S0.2.2.2.1 hK.1 hP hD hS q0 he rfl 0 (by decide) (S0.2.2.2.2 _ q_43) (fun _ h9 => h9) (rfl : (F_Mk 0).2.2.2 = true) hnm rfl (t_Mk_ok 0 (by decide)) hn hfit hl hdg k
theorem gf_Fr_48 (S0 : CallFix p m c cc nL s args gd_tbl "DownFrames") (hK : PW D ca s) (hP : va_P D classes ws H) (he : ws[q0]? = some (a, .inr (1, fs))) (hv : fs[0]? = some v) (hdg : decode cc pc = .ok (.getfield 48, 3)) (k : W p l e R s m args below meth c H locs cells slots Q (F0 m (pc + 3) ls (v :: rest))) : W p l e R s m args below meth c H locs cells slots Q (F0 m pc ls (.ref a :: rest)) := va_getN (D := D) (ci := 1) (C := R_Mk) (T := F_Mk) (N := 4) S0.1 S0.2.1 S0.2.2.2.2 i_Mk S0.2.2.2.1 hK.1 hP q0 he rfl 0 (by decide) (va_Nw.use rfl hK.2.2.2.2.1) (fun _ h9 => h9) hv hdg k
theorem gf_Mk_12 (S0 : CallFix p m c cc nL s args gd_tbl "DownFrames$Maker") (hK : PW D ca s) (hP : va_P D classes ws H) (he : ws[q0]? = some (a, .inr (1, fs))) (hv : fs[1]? = some v) (hdg : decode cc pc = .ok (.getfield 12, 3)) (k : W p l e R s m args below meth c H locs cells slots Q (F0 m (pc + 3) ls (v :: rest))) : W p l e R s m args below meth c H locs cells slots Q (F0 m pc ls (.ref a :: rest)) := va_get (D := D) (ci := 1) (C := R_Mk) (T := F_Mk) (N := 4) S0.1 S0.2.1 S0.2.2.2.2 i_Mk S0.2.2.2.1 hK.1 hP q0 he rfl 1 (by decide) (S0.2.2.2.2 _ q_45) (fun _ h9 => h9) hv hdg k
theorem pf_Mk_12 (S0 : CallFix p m c cc nL s args gd_tbl "DownFrames$Maker") (hnm : meth.name = "<init>") (hK : PW D ca s) (hP : va_P D classes ws H) (hD : va_D Aa ws) (hS : va_S Aa H0 H locs) (he : ws[q0]? = some (a, .inr (1, fs))) (hn : narrow (t_Mk 1) v = v) (hfit : fits (t_Mk 1) v = true) (hl : 1 < fs.length) (hdg : decode cc pc = .ok (.putfield 12, 3)) (k : ∀ (H1 : Heap) (locs1 : List Loc), va_P D classes (ws.set q0 (a, .inr (1, fs.set 1 v))) H1 → va_D Aa (ws.set q0 (a, .inr (1, fs.set 1 v))) → va_S Aa H0 H1 locs1 → W p l e R s m args below meth c H1 locs1 cells slots Q (F0 m (pc + 3) ls rest)) : W p l e R s m args below meth c H locs cells slots Q (F0 m pc ls (v :: .ref a :: rest)) := va_putF (D := D) (ci := 1) (ty := t_Mk 1) (C := R_Mk) (T := F_Mk) (N := 4) S0.1 S0.2.1 S0.2.2.2.2 i_Mk t_Mk t_Mk_ok n_Mk S0.2.2.2.1 hK.1 hP hD hS q0 he rfl 1 (by decide) (S0.2.2.2.2 _ q_45) (fun _ h9 => h9) (rfl : (F_Mk 1).2.2.2 = true) hnm rfl (t_Mk_ok 1 (by decide)) hn hfit hl hdg k
theorem gf_Fr_32 (S0 : CallFix p m c cc nL s args gd_tbl "DownFrames") (hK : PW D ca s) (hP : va_P D classes ws H) (he : ws[q0]? = some (a, .inr (1, fs))) (hv : fs[1]? = some v) (hdg : decode cc pc = .ok (.getfield 32, 3)) (k : W p l e R s m args below meth c H locs cells slots Q (F0 m (pc + 3) ls (v :: rest))) : W p l e R s m args below meth c H locs cells slots Q (F0 m pc ls (.ref a :: rest)) := va_getN (D := D) (ci := 1) (C := R_Mk) (T := F_Mk) (N := 4) S0.1 S0.2.1 S0.2.2.2.2 i_Mk S0.2.2.2.1 hK.1 hP q0 he rfl 1 (by decide) (va_Nw.use rfl hK.2.2.2.2.2.1) (fun _ h9 => h9) hv hdg k
theorem gf_Mk_42 (S0 : CallFix p m c cc nL s args gd_tbl "DownFrames$Maker") (hK : PW D ca s) (hP : va_P D classes ws H) (he : ws[q0]? = some (a, .inr (1, fs))) (hv : fs[2]? = some v) (hdg : decode cc pc = .ok (.getfield 42, 3)) (k : W p l e R s m args below meth c H locs cells slots Q (F0 m (pc + 3) ls (v :: rest))) : W p l e R s m args below meth c H locs cells slots Q (F0 m pc ls (.ref a :: rest)) := va_get (D := D) (ci := 1) (C := R_Mk) (T := F_Mk) (N := 4) S0.1 S0.2.1 S0.2.2.2.2 i_Mk S0.2.2.2.1 hK.1 hP q0 he rfl 2 (by decide) (S0.2.2.2.2 _ q_47) (fun _ h9 => h9) hv hdg k
theorem pf_Mk_42 (S0 : CallFix p m c cc nL s args gd_tbl "DownFrames$Maker") (hK : PW D ca s) (hP : va_P D classes ws H) (hD : va_D Aa ws) (hS : va_S Aa H0 H locs) (he : ws[q0]? = some (a, .inr (1, fs))) (hn : narrow (t_Mk 2) v = v) (hfit : fits (t_Mk 2) v = true) (hl : 2 < fs.length) (hdg : decode cc pc = .ok (.putfield 42, 3)) (k : ∀ (H1 : Heap) (locs1 : List Loc), va_P D classes (ws.set q0 (a, .inr (1, fs.set 2 v))) H1 → va_D Aa (ws.set q0 (a, .inr (1, fs.set 2 v))) → va_S Aa H0 H1 locs1 → W p l e R s m args below meth c H1 locs1 cells slots Q (F0 m (pc + 3) ls rest)) : W p l e R s m args below meth c H locs cells slots Q (F0 m pc ls (v :: .ref a :: rest)) := va_put (D := D) (ci := 1) (ty := t_Mk 2) (C := R_Mk) (T := F_Mk) (N := 4) S0.1 S0.2.1 S0.2.2.2.2 i_Mk t_Mk t_Mk_ok n_Mk S0.2.2.2.1 hK.1 hP hD hS q0 he rfl 2 (by decide) (S0.2.2.2.2 _ q_47) (fun _ h9 => h9) (rfl : (F_Mk 2).2.2.2 = false) (t_Mk_ok 2 (by decide)) hn hfit hl hdg k
theorem gf_Fr_51 (S0 : CallFix p m c cc nL s args gd_tbl "DownFrames") (hK : PW D ca s) (hP : va_P D classes ws H) (he : ws[q0]? = some (a, .inr (1, fs))) (hv : fs[2]? = some v) (hdg : decode cc pc = .ok (.getfield 51, 3)) (k : W p l e R s m args below meth c H locs cells slots Q (F0 m (pc + 3) ls (v :: rest))) : W p l e R s m args below meth c H locs cells slots Q (F0 m pc ls (.ref a :: rest)) := va_getN (D := D) (ci := 1) (C := R_Mk) (T := F_Mk) (N := 4) S0.1 S0.2.1 S0.2.2.2.2 i_Mk S0.2.2.2.1 hK.1 hP q0 he rfl 2 (by decide) (va_Nw.use rfl hK.2.2.2.2.2.2.1) (fun _ h9 => h9) hv hdg k
theorem gf_Mk_18 (S0 : CallFix p m c cc nL s args gd_tbl "DownFrames$Maker") (hK : PW D ca s) (hP : va_P D classes ws H) (he : ws[q0]? = some (a, .inr (1, fs))) (hv : fs[3]? = some v) (hdg : decode cc pc = .ok (.getfield 18, 3)) (k : W p l e R s m args below meth c H locs cells slots Q (F0 m (pc + 3) ls (v :: rest))) : W p l e R s m args below meth c H locs cells slots Q (F0 m pc ls (.ref a :: rest)) := va_get (D := D) (ci := 1) (C := R_Mk) (T := F_Mk) (N := 4) S0.1 S0.2.1 S0.2.2.2.2 i_Mk S0.2.2.2.1 hK.1 hP q0 he rfl 3 (by decide) (S0.2.2.2.2 _ q_49) (fun _ h9 => h9) hv hdg k
theorem pf_Mk_18 (S0 : CallFix p m c cc nL s args gd_tbl "DownFrames$Maker") (hnm : meth.name = "<init>") (hK : PW D ca s) (hP : va_P D classes ws H) (hD : va_D Aa ws) (hS : va_S Aa H0 H locs) (he : ws[q0]? = some (a, .inr (1, fs))) (hn : narrow (t_Mk 3) v = v) (hfit : fits (t_Mk 3) v = true) (hl : 3 < fs.length) (hdg : decode cc pc = .ok (.putfield 18, 3)) (k : ∀ (H1 : Heap) (locs1 : List Loc), va_P D classes (ws.set q0 (a, .inr (1, fs.set 3 v))) H1 → va_D Aa (ws.set q0 (a, .inr (1, fs.set 3 v))) → va_S Aa H0 H1 locs1 → W p l e R s m args below meth c H1 locs1 cells slots Q (F0 m (pc + 3) ls rest)) : W p l e R s m args below meth c H locs cells slots Q (F0 m pc ls (v :: .ref a :: rest)) := va_putF (D := D) (ci := 1) (ty := t_Mk 3) (C := R_Mk) (T := F_Mk) (N := 4) S0.1 S0.2.1 S0.2.2.2.2 i_Mk t_Mk t_Mk_ok n_Mk S0.2.2.2.1 hK.1 hP hD hS q0 he rfl 3 (by decide) (S0.2.2.2.2 _ q_49) (fun _ h9 => h9) (rfl : (F_Mk 3).2.2.2 = true) hnm rfl (t_Mk_ok 3 (by decide)) hn hfit hl hdg k
theorem gf_Fr_54 (S0 : CallFix p m c cc nL s args gd_tbl "DownFrames") (hK : PW D ca s) (hP : va_P D classes ws H) (he : ws[q0]? = some (a, .inr (1, fs))) (hv : fs[3]? = some v) (hdg : decode cc pc = .ok (.getfield 54, 3)) (k : W p l e R s m args below meth c H locs cells slots Q (F0 m (pc + 3) ls (v :: rest))) : W p l e R s m args below meth c H locs cells slots Q (F0 m pc ls (.ref a :: rest)) := va_getN (D := D) (ci := 1) (C := R_Mk) (T := F_Mk) (N := 4) S0.1 S0.2.1 S0.2.2.2.2 i_Mk S0.2.2.2.1 hK.1 hP q0 he rfl 3 (by decide) (va_Nw.use rfl hK.2.2.2.2.2.2.2.1) (fun _ h9 => h9) hv hdg k
theorem gf_Fr_9 (S0 : CallFix p m c cc nL s args gd_tbl "DownFrames") (hK : PW D ca s) (hP : va_P D classes ws H) (he : ws[q0]? = some (a, .inr (2, fs))) (hv : fs[0]? = some v) (hdg : decode cc pc = .ok (.getfield 9, 3)) (k : W p l e R s m args below meth c H locs cells slots Q (F0 m (pc + 3) ls (v :: rest))) : W p l e R s m args below meth c H locs cells slots Q (F0 m pc ls (.ref a :: rest)) := va_get (D := D) (ci := 2) (C := R_Fr) (T := F_Fr) (N := 3) S0.1 S0.2.1 S0.2.2.2.2 i_Fr S0.2.2.2.1 hK.1 hP q0 he rfl 0 (by decide) (S0.2.2.2.2 _ q_61) (fun _ h9 => h9) hv hdg k
theorem pf_Fr_9 (S0 : CallFix p m c cc nL s args gd_tbl "DownFrames") (hnm : meth.name = "<init>") (hK : PW D ca s) (hP : va_P D classes ws H) (hD : va_D Aa ws) (hS : va_S Aa H0 H locs) (he : ws[q0]? = some (a, .inr (2, fs))) (hn : narrow (t_Fr 0) v = v) (hfit : fits (t_Fr 0) v = true) (hl : 0 < fs.length) (hdg : decode cc pc = .ok (.putfield 9, 3)) (k : ∀ (H1 : Heap) (locs1 : List Loc), va_P D classes (ws.set q0 (a, .inr (2, fs.set 0 v))) H1 → va_D Aa (ws.set q0 (a, .inr (2, fs.set 0 v))) → va_S Aa H0 H1 locs1 → W p l e R s m args below meth c H1 locs1 cells slots Q (F0 m (pc + 3) ls rest)) : W p l e R s m args below meth c H locs cells slots Q (F0 m pc ls (v :: .ref a :: rest)) := va_putF (D := D) (ci := 2) (ty := t_Fr 0) (C := R_Fr) (T := F_Fr) (N := 3) S0.1 S0.2.1 S0.2.2.2.2 i_Fr t_Fr t_Fr_ok n_Fr S0.2.2.2.1 hK.1 hP hD hS q0 he rfl 0 (by decide) (S0.2.2.2.2 _ q_61) (fun _ h9 => h9) (rfl : (F_Fr 0).2.2.2 = true) hnm rfl (t_Fr_ok 0 (by decide)) hn hfit hl hdg k
theorem gf_Fr_22 (S0 : CallFix p m c cc nL s args gd_tbl "DownFrames") (hK : PW D ca s) (hP : va_P D classes ws H) (he : ws[q0]? = some (a, .inr (2, fs))) (hv : fs[1]? = some v) (hdg : decode cc pc = .ok (.getfield 22, 3)) (k : W p l e R s m args below meth c H locs cells slots Q (F0 m (pc + 3) ls (v :: rest))) : W p l e R s m args below meth c H locs cells slots Q (F0 m pc ls (.ref a :: rest)) := va_get (D := D) (ci := 2) (C := R_Fr) (T := F_Fr) (N := 3) S0.1 S0.2.1 S0.2.2.2.2 i_Fr S0.2.2.2.1 hK.1 hP q0 he rfl 1 (by decide) (S0.2.2.2.2 _ q_62) (fun _ h9 => h9) hv hdg k
theorem pf_Fr_22 (S0 : CallFix p m c cc nL s args gd_tbl "DownFrames") (hK : PW D ca s) (hP : va_P D classes ws H) (hD : va_D Aa ws) (hS : va_S Aa H0 H locs) (he : ws[q0]? = some (a, .inr (2, fs))) (hn : narrow (t_Fr 1) v = v) (hfit : fits (t_Fr 1) v = true) (hl : 1 < fs.length) (hdg : decode cc pc = .ok (.putfield 22, 3)) (k : ∀ (H1 : Heap) (locs1 : List Loc), va_P D classes (ws.set q0 (a, .inr (2, fs.set 1 v))) H1 → va_D Aa (ws.set q0 (a, .inr (2, fs.set 1 v))) → va_S Aa H0 H1 locs1 → W p l e R s m args below meth c H1 locs1 cells slots Q (F0 m (pc + 3) ls rest)) : W p l e R s m args below meth c H locs cells slots Q (F0 m pc ls (v :: .ref a :: rest)) := va_put (D := D) (ci := 2) (ty := t_Fr 1) (C := R_Fr) (T := F_Fr) (N := 3) S0.1 S0.2.1 S0.2.2.2.2 i_Fr t_Fr t_Fr_ok n_Fr S0.2.2.2.1 hK.1 hP hD hS q0 he rfl 1 (by decide) (S0.2.2.2.2 _ q_62) (fun _ h9 => h9) (rfl : (F_Fr 1).2.2.2 = false) (t_Fr_ok 1 (by decide)) hn hfit hl hdg k
theorem gf_Fr_18 (S0 : CallFix p m c cc nL s args gd_tbl "DownFrames") (hK : PW D ca s) (hP : va_P D classes ws H) (he : ws[q0]? = some (a, .inr (2, fs))) (hv : fs[2]? = some v) (hdg : decode cc pc = .ok (.getfield 18, 3)) (k : W p l e R s m args below meth c H locs cells slots Q (F0 m (pc + 3) ls (v :: rest))) : W p l e R s m args below meth c H locs cells slots Q (F0 m pc ls (.ref a :: rest)) := va_get (D := D) (ci := 2) (C := R_Fr) (T := F_Fr) (N := 3) S0.1 S0.2.1 S0.2.2.2.2 i_Fr S0.2.2.2.1 hK.1 hP q0 he rfl 2 (by decide) (S0.2.2.2.2 _ q_63) (fun _ h9 => h9) hv hdg k
theorem pf_Fr_18 (S0 : CallFix p m c cc nL s args gd_tbl "DownFrames") (hnm : meth.name = "<init>") (hK : PW D ca s) (hP : va_P D classes ws H) (hD : va_D Aa ws) (hS : va_S Aa H0 H locs) (he : ws[q0]? = some (a, .inr (2, fs))) (hn : narrow (t_Fr 2) v = v) (hfit : fits (t_Fr 2) v = true) (hl : 2 < fs.length) (hdg : decode cc pc = .ok (.putfield 18, 3)) (k : ∀ (H1 : Heap) (locs1 : List Loc), va_P D classes (ws.set q0 (a, .inr (2, fs.set 2 v))) H1 → va_D Aa (ws.set q0 (a, .inr (2, fs.set 2 v))) → va_S Aa H0 H1 locs1 → W p l e R s m args below meth c H1 locs1 cells slots Q (F0 m (pc + 3) ls rest)) : W p l e R s m args below meth c H locs cells slots Q (F0 m pc ls (v :: .ref a :: rest)) := va_putF (D := D) (ci := 2) (ty := t_Fr 2) (C := R_Fr) (T := F_Fr) (N := 3) S0.1 S0.2.1 S0.2.2.2.2 i_Fr t_Fr t_Fr_ok n_Fr S0.2.2.2.1 hK.1 hP hD hS q0 he rfl 2 (by decide) (S0.2.2.2.2 _ q_63) (fun _ h9 => h9) (rfl : (F_Fr 2).2.2.2 = true) hnm rfl (t_Fr_ok 2 (by decide)) hn hfit hl hdg k
theorem gf_Mo_34 (S0 : CallFix p m c cc nL s args gd_tbl "DownFramesModel") (hK : PW D ca s) (hP : va_P D classes ws H) (he : ws[q0]? = some (a, .inr (3, fs))) (hv : fs[0]? = some v) (hdg : decode cc pc = .ok (.getfield 34, 3)) (k : W p l e R s m args below meth c H locs cells slots Q (F0 m (pc + 3) ls (v :: rest))) : W p l e R s m args below meth c H locs cells slots Q (F0 m pc ls (.ref a :: rest)) := va_get (D := D) (ci := 3) (C := R_Mo) (T := F_Mo) (N := 10) S0.1 S0.2.1 S0.2.2.2.2 i_Mo S0.2.2.2.1 hK.1 hP q0 he rfl 0 (by decide) (S0.2.2.2.2 _ q_150) (fun _ h9 => h9) hv hdg k
theorem pf_Mo_34 (S0 : CallFix p m c cc nL s args gd_tbl "DownFramesModel") (hK : PW D ca s) (hP : va_P D classes ws H) (hD : va_D Aa ws) (hS : va_S Aa H0 H locs) (he : ws[q0]? = some (a, .inr (3, fs))) (hn : narrow (t_Mo 0) v = v) (hfit : fits (t_Mo 0) v = true) (hl : 0 < fs.length) (hdg : decode cc pc = .ok (.putfield 34, 3)) (k : ∀ (H1 : Heap) (locs1 : List Loc), va_P D classes (ws.set q0 (a, .inr (3, fs.set 0 v))) H1 → va_D Aa (ws.set q0 (a, .inr (3, fs.set 0 v))) → va_S Aa H0 H1 locs1 → W p l e R s m args below meth c H1 locs1 cells slots Q (F0 m (pc + 3) ls rest)) : W p l e R s m args below meth c H locs cells slots Q (F0 m pc ls (v :: .ref a :: rest)) := va_put (D := D) (ci := 3) (ty := t_Mo 0) (C := R_Mo) (T := F_Mo) (N := 10) S0.1 S0.2.1 S0.2.2.2.2 i_Mo t_Mo t_Mo_ok n_Mo S0.2.2.2.1 hK.1 hP hD hS q0 he rfl 0 (by decide) (S0.2.2.2.2 _ q_150) (fun _ h9 => h9) (rfl : (F_Mo 0).2.2.2 = false) (t_Mo_ok 0 (by decide)) hn hfit hl hdg k
theorem gf_Mo_30 (S0 : CallFix p m c cc nL s args gd_tbl "DownFramesModel") (hK : PW D ca s) (hP : va_P D classes ws H) (he : ws[q0]? = some (a, .inr (3, fs))) (hv : fs[1]? = some v) (hdg : decode cc pc = .ok (.getfield 30, 3)) (k : W p l e R s m args below meth c H locs cells slots Q (F0 m (pc + 3) ls (v :: rest))) : W p l e R s m args below meth c H locs cells slots Q (F0 m pc ls (.ref a :: rest)) := va_get (D := D) (ci := 3) (C := R_Mo) (T := F_Mo) (N := 10) S0.1 S0.2.1 S0.2.2.2.2 i_Mo S0.2.2.2.1 hK.1 hP q0 he rfl 1 (by decide) (S0.2.2.2.2 _ q_151) (fun _ h9 => h9) hv hdg k
theorem pf_Mo_30 (S0 : CallFix p m c cc nL s args gd_tbl "DownFramesModel") (hnm : meth.name = "<init>") (hK : PW D ca s) (hP : va_P D classes ws H) (hD : va_D Aa ws) (hS : va_S Aa H0 H locs) (he : ws[q0]? = some (a, .inr (3, fs))) (hn : narrow (t_Mo 1) v = v) (hfit : fits (t_Mo 1) v = true) (hl : 1 < fs.length) (hdg : decode cc pc = .ok (.putfield 30, 3)) (k : ∀ (H1 : Heap) (locs1 : List Loc), va_P D classes (ws.set q0 (a, .inr (3, fs.set 1 v))) H1 → va_D Aa (ws.set q0 (a, .inr (3, fs.set 1 v))) → va_S Aa H0 H1 locs1 → W p l e R s m args below meth c H1 locs1 cells slots Q (F0 m (pc + 3) ls rest)) : W p l e R s m args below meth c H locs cells slots Q (F0 m pc ls (v :: .ref a :: rest)) := va_putF (D := D) (ci := 3) (ty := t_Mo 1) (C := R_Mo) (T := F_Mo) (N := 10) S0.1 S0.2.1 S0.2.2.2.2 i_Mo t_Mo t_Mo_ok n_Mo S0.2.2.2.1 hK.1 hP hD hS q0 he rfl 1 (by decide) (S0.2.2.2.2 _ q_151) (fun _ h9 => h9) (rfl : (F_Mo 1).2.2.2 = true) hnm rfl (t_Mo_ok 1 (by decide)) hn hfit hl hdg k
theorem gf_Mo_7 (S0 : CallFix p m c cc nL s args gd_tbl "DownFramesModel") (hK : PW D ca s) (hP : va_P D classes ws H) (he : ws[q0]? = some (a, .inr (3, fs))) (hv : fs[2]? = some v) (hdg : decode cc pc = .ok (.getfield 7, 3)) (k : W p l e R s m args below meth c H locs cells slots Q (F0 m (pc + 3) ls (v :: rest))) : W p l e R s m args below meth c H locs cells slots Q (F0 m pc ls (.ref a :: rest)) := va_get (D := D) (ci := 3) (C := R_Mo) (T := F_Mo) (N := 10) S0.1 S0.2.1 S0.2.2.2.2 i_Mo S0.2.2.2.1 hK.1 hP q0 he rfl 2 (by decide) (S0.2.2.2.2 _ q_152) (fun _ h9 => h9) hv hdg k
theorem pf_Mo_7 (S0 : CallFix p m c cc nL s args gd_tbl "DownFramesModel") (hnm : meth.name = "<init>") (hK : PW D ca s) (hP : va_P D classes ws H) (hD : va_D Aa ws) (hS : va_S Aa H0 H locs) (he : ws[q0]? = some (a, .inr (3, fs))) (hn : narrow (t_Mo 2) v = v) (hfit : fits (t_Mo 2) v = true) (hl : 2 < fs.length) (hdg : decode cc pc = .ok (.putfield 7, 3)) (k : ∀ (H1 : Heap) (locs1 : List Loc), va_P D classes (ws.set q0 (a, .inr (3, fs.set 2 v))) H1 → va_D Aa (ws.set q0 (a, .inr (3, fs.set 2 v))) → va_S Aa H0 H1 locs1 → W p l e R s m args below meth c H1 locs1 cells slots Q (F0 m (pc + 3) ls rest)) : W p l e R s m args below meth c H locs cells slots Q (F0 m pc ls (v :: .ref a :: rest)) := va_putF (D := D) (ci := 3) (ty := t_Mo 2) (C := R_Mo) (T := F_Mo) (N := 10) S0.1 S0.2.1 S0.2.2.2.2 i_Mo t_Mo t_Mo_ok n_Mo S0.2.2.2.1 hK.1 hP hD hS q0 he rfl 2 (by decide) (S0.2.2.2.2 _ q_152) (fun _ h9 => h9) (rfl : (F_Mo 2).2.2.2 = true) hnm rfl (t_Mo_ok 2 (by decide)) hn hfit hl hdg k
theorem gf_Mo_37 (S0 : CallFix p m c cc nL s args gd_tbl "DownFramesModel") (hK : PW D ca s) (hP : va_P D classes ws H) (he : ws[q0]? = some (a, .inr (3, fs))) (hv : fs[3]? = some v) (hdg : decode cc pc = .ok (.getfield 37, 3)) (k : W p l e R s m args below meth c H locs cells slots Q (F0 m (pc + 3) ls (v :: rest))) : W p l e R s m args below meth c H locs cells slots Q (F0 m pc ls (.ref a :: rest)) := va_get (D := D) (ci := 3) (C := R_Mo) (T := F_Mo) (N := 10) S0.1 S0.2.1 S0.2.2.2.2 i_Mo S0.2.2.2.1 hK.1 hP q0 he rfl 3 (by decide) (S0.2.2.2.2 _ q_153) (fun _ h9 => h9) hv hdg k
theorem pf_Mo_37 (S0 : CallFix p m c cc nL s args gd_tbl "DownFramesModel") (hK : PW D ca s) (hP : va_P D classes ws H) (hD : va_D Aa ws) (hS : va_S Aa H0 H locs) (he : ws[q0]? = some (a, .inr (3, fs))) (hn : narrow (t_Mo 3) v = v) (hfit : fits (t_Mo 3) v = true) (hl : 3 < fs.length) (hdg : decode cc pc = .ok (.putfield 37, 3)) (k : ∀ (H1 : Heap) (locs1 : List Loc), va_P D classes (ws.set q0 (a, .inr (3, fs.set 3 v))) H1 → va_D Aa (ws.set q0 (a, .inr (3, fs.set 3 v))) → va_S Aa H0 H1 locs1 → W p l e R s m args below meth c H1 locs1 cells slots Q (F0 m (pc + 3) ls rest)) : W p l e R s m args below meth c H locs cells slots Q (F0 m pc ls (v :: .ref a :: rest)) := va_put (D := D) (ci := 3) (ty := t_Mo 3) (C := R_Mo) (T := F_Mo) (N := 10) S0.1 S0.2.1 S0.2.2.2.2 i_Mo t_Mo t_Mo_ok n_Mo S0.2.2.2.1 hK.1 hP hD hS q0 he rfl 3 (by decide) (S0.2.2.2.2 _ q_153) (fun _ h9 => h9) (rfl : (F_Mo 3).2.2.2 = false) (t_Mo_ok 3 (by decide)) hn hfit hl hdg k
theorem gf_Mo_13 (S0 : CallFix p m c cc nL s args gd_tbl "DownFramesModel") (hK : PW D ca s) (hP : va_P D classes ws H) (he : ws[q0]? = some (a, .inr (3, fs))) (hv : fs[4]? = some v) (hdg : decode cc pc = .ok (.getfield 13, 3)) (k : W p l e R s m args below meth c H locs cells slots Q (F0 m (pc + 3) ls (v :: rest))) : W p l e R s m args below meth c H locs cells slots Q (F0 m pc ls (.ref a :: rest)) := va_get (D := D) (ci := 3) (C := R_Mo) (T := F_Mo) (N := 10) S0.1 S0.2.1 S0.2.2.2.2 i_Mo S0.2.2.2.1 hK.1 hP q0 he rfl 4 (by decide) (S0.2.2.2.2 _ q_154) (fun _ h9 => h9) hv hdg k
theorem pf_Mo_13 (S0 : CallFix p m c cc nL s args gd_tbl "DownFramesModel") (hnm : meth.name = "<init>") (hK : PW D ca s) (hP : va_P D classes ws H) (hD : va_D Aa ws) (hS : va_S Aa H0 H locs) (he : ws[q0]? = some (a, .inr (3, fs))) (hn : narrow (t_Mo 4) v = v) (hfit : fits (t_Mo 4) v = true) (hl : 4 < fs.length) (hdg : decode cc pc = .ok (.putfield 13, 3)) (k : ∀ (H1 : Heap) (locs1 : List Loc), va_P D classes (ws.set q0 (a, .inr (3, fs.set 4 v))) H1 → va_D Aa (ws.set q0 (a, .inr (3, fs.set 4 v))) → va_S Aa H0 H1 locs1 → W p l e R s m args below meth c H1 locs1 cells slots Q (F0 m (pc + 3) ls rest)) : W p l e R s m args below meth c H locs cells slots Q (F0 m pc ls (v :: .ref a :: rest)) := va_putF (D := D) (ci := 3) (ty := t_Mo 4) (C := R_Mo) (T := F_Mo) (N := 10) S0.1 S0.2.1 S0.2.2.2.2 i_Mo t_Mo t_Mo_ok n_Mo S0.2.2.2.1 hK.1 hP hD hS q0 he rfl 4 (by decide) (S0.2.2.2.2 _ q_154) (fun _ h9 => h9) (rfl : (F_Mo 4).2.2.2 = true) hnm rfl (t_Mo_ok 4 (by decide)) hn hfit hl hdg k
theorem gf_Mo_16 (S0 : CallFix p m c cc nL s args gd_tbl "DownFramesModel") (hK : PW D ca s) (hP : va_P D classes ws H) (he : ws[q0]? = some (a, .inr (3, fs))) (hv : fs[5]? = some v) (hdg : decode cc pc = .ok (.getfield 16, 3)) (k : W p l e R s m args below meth c H locs cells slots Q (F0 m (pc + 3) ls (v :: rest))) : W p l e R s m args below meth c H locs cells slots Q (F0 m pc ls (.ref a :: rest)) := va_get (D := D) (ci := 3) (C := R_Mo) (T := F_Mo) (N := 10) S0.1 S0.2.1 S0.2.2.2.2 i_Mo S0.2.2.2.1 hK.1 hP q0 he rfl 5 (by decide) (S0.2.2.2.2 _ q_155) (fun _ h9 => h9) hv hdg k
theorem pf_Mo_16 (S0 : CallFix p m c cc nL s args gd_tbl "DownFramesModel") (hnm : meth.name = "<init>") (hK : PW D ca s) (hP : va_P D classes ws H) (hD : va_D Aa ws) (hS : va_S Aa H0 H locs) (he : ws[q0]? = some (a, .inr (3, fs))) (hn : narrow (t_Mo 5) v = v) (hfit : fits (t_Mo 5) v = true) (hl : 5 < fs.length) (hdg : decode cc pc = .ok (.putfield 16, 3)) (k : ∀ (H1 : Heap) (locs1 : List Loc), va_P D classes (ws.set q0 (a, .inr (3, fs.set 5 v))) H1 → va_D Aa (ws.set q0 (a, .inr (3, fs.set 5 v))) → va_S Aa H0 H1 locs1 → W p l e R s m args below meth c H1 locs1 cells slots Q (F0 m (pc + 3) ls rest)) : W p l e R s m args below meth c H locs cells slots Q (F0 m pc ls (v :: .ref a :: rest)) := va_putF (D := D) (ci := 3) (ty := t_Mo 5) (C := R_Mo) (T := F_Mo) (N := 10) S0.1 S0.2.1 S0.2.2.2.2 i_Mo t_Mo t_Mo_ok n_Mo S0.2.2.2.1 hK.1 hP hD hS q0 he rfl 5 (by decide) (S0.2.2.2.2 _ q_155) (fun _ h9 => h9) (rfl : (F_Mo 5).2.2.2 = true) hnm rfl (t_Mo_ok 5 (by decide)) hn hfit hl hdg k
theorem gf_Mo_20 (S0 : CallFix p m c cc nL s args gd_tbl "DownFramesModel") (hK : PW D ca s) (hP : va_P D classes ws H) (he : ws[q0]? = some (a, .inr (3, fs))) (hv : fs[6]? = some v) (hdg : decode cc pc = .ok (.getfield 20, 3)) (k : W p l e R s m args below meth c H locs cells slots Q (F0 m (pc + 3) ls (v :: rest))) : W p l e R s m args below meth c H locs cells slots Q (F0 m pc ls (.ref a :: rest)) := va_get (D := D) (ci := 3) (C := R_Mo) (T := F_Mo) (N := 10) S0.1 S0.2.1 S0.2.2.2.2 i_Mo S0.2.2.2.1 hK.1 hP q0 he rfl 6 (by decide) (S0.2.2.2.2 _ q_156) (fun _ h9 => h9) hv hdg k
theorem pf_Mo_20 (S0 : CallFix p m c cc nL s args gd_tbl "DownFramesModel") (hnm : meth.name = "<init>") (hK : PW D ca s) (hP : va_P D classes ws H) (hD : va_D Aa ws) (hS : va_S Aa H0 H locs) (he : ws[q0]? = some (a, .inr (3, fs))) (hn : narrow (t_Mo 6) v = v) (hfit : fits (t_Mo 6) v = true) (hl : 6 < fs.length) (hdg : decode cc pc = .ok (.putfield 20, 3)) (k : ∀ (H1 : Heap) (locs1 : List Loc), va_P D classes (ws.set q0 (a, .inr (3, fs.set 6 v))) H1 → va_D Aa (ws.set q0 (a, .inr (3, fs.set 6 v))) → va_S Aa H0 H1 locs1 → W p l e R s m args below meth c H1 locs1 cells slots Q (F0 m (pc + 3) ls rest)) : W p l e R s m args below meth c H locs cells slots Q (F0 m pc ls (v :: .ref a :: rest)) := va_putF (D := D) (ci := 3) (ty := t_Mo 6) (C := R_Mo) (T := F_Mo) (N := 10) S0.1 S0.2.1 S0.2.2.2.2 i_Mo t_Mo t_Mo_ok n_Mo S0.2.2.2.1 hK.1 hP hD hS q0 he rfl 6 (by decide) (S0.2.2.2.2 _ q_156) (fun _ h9 => h9) (rfl : (F_Mo 6).2.2.2 = true) hnm rfl (t_Mo_ok 6 (by decide)) hn hfit hl hdg k
theorem gf_Mo_24 (S0 : CallFix p m c cc nL s args gd_tbl "DownFramesModel") (hK : PW D ca s) (hP : va_P D classes ws H) (he : ws[q0]? = some (a, .inr (3, fs))) (hv : fs[7]? = some v) (hdg : decode cc pc = .ok (.getfield 24, 3)) (k : W p l e R s m args below meth c H locs cells slots Q (F0 m (pc + 3) ls (v :: rest))) : W p l e R s m args below meth c H locs cells slots Q (F0 m pc ls (.ref a :: rest)) := va_get (D := D) (ci := 3) (C := R_Mo) (T := F_Mo) (N := 10) S0.1 S0.2.1 S0.2.2.2.2 i_Mo S0.2.2.2.1 hK.1 hP q0 he rfl 7 (by decide) (S0.2.2.2.2 _ q_157) (fun _ h9 => h9) hv hdg k
theorem pf_Mo_24 (S0 : CallFix p m c cc nL s args gd_tbl "DownFramesModel") (hnm : meth.name = "<init>") (hK : PW D ca s) (hP : va_P D classes ws H) (hD : va_D Aa ws) (hS : va_S Aa H0 H locs) (he : ws[q0]? = some (a, .inr (3, fs))) (hn : narrow (t_Mo 7) v = v) (hfit : fits (t_Mo 7) v = true) (hl : 7 < fs.length) (hdg : decode cc pc = .ok (.putfield 24, 3)) (k : ∀ (H1 : Heap) (locs1 : List Loc), va_P D classes (ws.set q0 (a, .inr (3, fs.set 7 v))) H1 → va_D Aa (ws.set q0 (a, .inr (3, fs.set 7 v))) → va_S Aa H0 H1 locs1 → W p l e R s m args below meth c H1 locs1 cells slots Q (F0 m (pc + 3) ls rest)) : W p l e R s m args below meth c H locs cells slots Q (F0 m pc ls (v :: .ref a :: rest)) := va_putF (D := D) (ci := 3) (ty := t_Mo 7) (C := R_Mo) (T := F_Mo) (N := 10) S0.1 S0.2.1 S0.2.2.2.2 i_Mo t_Mo t_Mo_ok n_Mo S0.2.2.2.1 hK.1 hP hD hS q0 he rfl 7 (by decide) (S0.2.2.2.2 _ q_157) (fun _ h9 => h9) (rfl : (F_Mo 7).2.2.2 = true) hnm rfl (t_Mo_ok 7 (by decide)) hn hfit hl hdg k
theorem gf_Mo_27 (S0 : CallFix p m c cc nL s args gd_tbl "DownFramesModel") (hK : PW D ca s) (hP : va_P D classes ws H) (he : ws[q0]? = some (a, .inr (3, fs))) (hv : fs[8]? = some v) (hdg : decode cc pc = .ok (.getfield 27, 3)) (k : W p l e R s m args below meth c H locs cells slots Q (F0 m (pc + 3) ls (v :: rest))) : W p l e R s m args below meth c H locs cells slots Q (F0 m pc ls (.ref a :: rest)) := va_get (D := D) (ci := 3) (C := R_Mo) (T := F_Mo) (N := 10) S0.1 S0.2.1 S0.2.2.2.2 i_Mo S0.2.2.2.1 hK.1 hP q0 he rfl 8 (by decide) (S0.2.2.2.2 _ q_158) (fun _ h9 => h9) hv hdg k
theorem pf_Mo_27 (S0 : CallFix p m c cc nL s args gd_tbl "DownFramesModel") (hnm : meth.name = "<init>") (hK : PW D ca s) (hP : va_P D classes ws H) (hD : va_D Aa ws) (hS : va_S Aa H0 H locs) (he : ws[q0]? = some (a, .inr (3, fs))) (hn : narrow (t_Mo 8) v = v) (hfit : fits (t_Mo 8) v = true) (hl : 8 < fs.length) (hdg : decode cc pc = .ok (.putfield 27, 3)) (k : ∀ (H1 : Heap) (locs1 : List Loc), va_P D classes (ws.set q0 (a, .inr (3, fs.set 8 v))) H1 → va_D Aa (ws.set q0 (a, .inr (3, fs.set 8 v))) → va_S Aa H0 H1 locs1 → W p l e R s m args below meth c H1 locs1 cells slots Q (F0 m (pc + 3) ls rest)) : W p l e R s m args below meth c H locs cells slots Q (F0 m pc ls (v :: .ref a :: rest)) := va_putF (D := D) (ci := 3) (ty := t_Mo 8) (C := R_Mo) (T := F_Mo) (N := 10) S0.1 S0.2.1 S0.2.2.2.2 i_Mo t_Mo t_Mo_ok n_Mo S0.2.2.2.1 hK.1 hP hD hS q0 he rfl 8 (by decide) (S0.2.2.2.2 _ q_158) (fun _ h9 => h9) (rfl : (F_Mo 8).2.2.2 = true) hnm rfl (t_Mo_ok 8 (by decide)) hn hfit hl hdg k
theorem gf_Mo_44 (S0 : CallFix p m c cc nL s args gd_tbl "DownFramesModel") (hK : PW D ca s) (hP : va_P D classes ws H) (he : ws[q0]? = some (a, .inr (3, fs))) (hv : fs[9]? = some v) (hdg : decode cc pc = .ok (.getfield 44, 3)) (k : W p l e R s m args below meth c H locs cells slots Q (F0 m (pc + 3) ls (v :: rest))) : W p l e R s m args below meth c H locs cells slots Q (F0 m pc ls (.ref a :: rest)) := va_get (D := D) (ci := 3) (C := R_Mo) (T := F_Mo) (N := 10) S0.1 S0.2.1 S0.2.2.2.2 i_Mo S0.2.2.2.1 hK.1 hP q0 he rfl 9 (by decide) (S0.2.2.2.2 _ q_159) (fun _ h9 => h9) hv hdg k
theorem pf_Mo_44 (S0 : CallFix p m c cc nL s args gd_tbl "DownFramesModel") (hK : PW D ca s) (hP : va_P D classes ws H) (hD : va_D Aa ws) (hS : va_S Aa H0 H locs) (he : ws[q0]? = some (a, .inr (3, fs))) (hn : narrow (t_Mo 9) v = v) (hfit : fits (t_Mo 9) v = true) (hl : 9 < fs.length) (hdg : decode cc pc = .ok (.putfield 44, 3)) (k : ∀ (H1 : Heap) (locs1 : List Loc), va_P D classes (ws.set q0 (a, .inr (3, fs.set 9 v))) H1 → va_D Aa (ws.set q0 (a, .inr (3, fs.set 9 v))) → va_S Aa H0 H1 locs1 → W p l e R s m args below meth c H1 locs1 cells slots Q (F0 m (pc + 3) ls rest)) : W p l e R s m args below meth c H locs cells slots Q (F0 m pc ls (v :: .ref a :: rest)) := va_put (D := D) (ci := 3) (ty := t_Mo 9) (C := R_Mo) (T := F_Mo) (N := 10) S0.1 S0.2.1 S0.2.2.2.2 i_Mo t_Mo t_Mo_ok n_Mo S0.2.2.2.1 hK.1 hP hD hS q0 he rfl 9 (by decide) (S0.2.2.2.2 _ q_159) (fun _ h9 => h9) (rfl : (F_Mo 9).2.2.2 = false) (t_Mo_ok 9 (by decide)) hn hfit hl hdg k
end FLD
end
section
/-! pure words: rows of bytes, rings, packets, checks -/
def bl (f : Nat → Int32) (a n : Nat) (g : Nat → Int32) : Nat → Int32 := fun k => if a ≤ k ∧ k < a + n then g (k - a) else f k
theorem bl_0 (f : Nat → Int32) (a : Nat) (g : Nat → Int32) : bl f a 0 g = f := by
  funext k
  exact if_neg (by omega)
theorem bl_in {f g : Nat → Int32} {a n k : Nat} (h : a ≤ k) (h2 : k < a + n) : bl f a n g k = g (k - a) := if_pos ⟨h, h2⟩
theorem bl_out {f g : Nat → Int32} {a n k : Nat} (h : k < a ∨ a + n ≤ k) : bl f a n g k = f k := if_neg (by omega)
theorem bl_s (f g : Nat → Int32) (a j : Nat) : upd (bl f a j g) (a + j) (g j) = bl f a (j + 1) g := by
  funext k
  unfold upd bl
  by_cases h : k = a + j
  · subst h
    rw [if_pos rfl, if_pos (by omega), Nat.add_sub_cancel_left]
  · rw [if_neg h]
    by_cases h2 : a ≤ k ∧ k < a + j
    · rw [if_pos h2, if_pos (by omega)]
    · rw [if_neg h2, if_neg (by omega)]
theorem bl_congr {f g g' : Nat → Int32} {a n : Nat} (h : ∀ k, k < n → g k = g' k) : bl f a n g = bl f a n g' := by
  funext k
  unfold bl
  by_cases h2 : a ≤ k ∧ k < a + n
  · rw [if_pos h2, if_pos h2, h _ (by omega)]
  · rw [if_neg h2, if_neg h2]
theorem upd_s (f : Nat → Int32) (k : Nat) (v : Int32) : upd f k v k = v := if_pos rfl
theorem upd_n {f : Nat → Int32} {k j : Nat} {v : Int32} (h : j ≠ k) : upd f k v j = f j := if_neg h
def RV (ring : Nat → Int32) (fi w : Nat) (q : Nat → Int32) : Prop := ∀ k, k < w → ring ((fi + k) % 4096) = q k
theorem RV_add {ring q : Nat → Int32} {fi w : Nat} (v : Int32) (h : RV ring fi w q) (hw : w < 4096) : RV (upd ring ((fi + w) % 4096) v) fi (w + 1) (upd q w v) := by
  intro k hk
  by_cases e : k = w
  · subst e
    rw [upd_s, upd_s]
  · rw [upd_n e, upd_n (by omega)]
    exact h k (by omega)
theorem RV_pop {ring q : Nat → Int32} {fi w : Nat} (h : RV ring fi w q) (hw : 0 < w) : RV ring ((fi + 1) % 4096) (w - 1) (fun k => q (k + 1)) := by
  intro k hk
  have h1 := h (k + 1) (by omega)
  show _ = q (k + 1)
  rw [← h1]
  congr 1
  omega
theorem RV_congr {ring q q' : Nat → Int32} {fi w : Nat} (h : RV ring fi w q) (hq : ∀ k, k < w → q k = q' k) : RV ring fi w q' := fun k hk => (h k hk).trans (hq k hk)
def fl : Nat → Int32 := fun k => if k = 0 then nI 1 else nI 0
def ebv (N k : Nat) : Int32 := if k = 0 then nI 7 else if k = 1 then nI 255 else if k = 2 then nI 192 else if k = 3 then nI 0 else if k = 4 then nI ((N - 7) / 256) else if k = 5 then nI (N - 7) else nI 85
def eb (N : Nat) : Nat → Int32 := fun k => bz (ebv N k)
def qlen (q : Nat → Int32) (k : Nat) : Nat := 7 + (ub (q (k + 4)) * 256 + ub (q (k + 5)))
def PK (q g : Nat → Int32) (w le : Nat) : Prop := le ≤ w ∧ (∀ k, k < le → g k = nI 0) ∧ (le < w → g le = nI 1) ∧ ∀ k, k < w → g k = nI 1 → k + qlen q k ≤ w ∧ (∀ j, k < j → j < k + qlen q k → g j = nI 0) ∧ (k + qlen q k < w → g (k + qlen q k) = nI 1)
def ne (F w : Nat) : Nat := if 7 < F - w then F - w else 7
def qx (q : Nat → Int32) (w F : Nat) : Nat → Int32 := if w < F then bl q w (ne F w) (eb (ne F w)) else q
def gx (g : Nat → Int32) (w F : Nat) : Nat → Int32 := if w < F then bl g w (ne F w) fl else g
def wx (w F : Nat) : Nat := if w < F then w + ne F w else w
theorem ne_ge (F w : Nat) : 7 ≤ ne F w := by unfold ne; split <;> omega
theorem ne_le (F w : Nat) : F - w ≤ ne F w ∧ ne F w ≤ F - w + 7 := by unfold ne; split <;> omega
theorem wx_ge (w F : Nat) : F ≤ wx w F ∧ w ≤ wx w F := by
  have h := ne_le F w
  unfold wx; split <;> omega
theorem wx_le (w F : Nat) : wx w F ≤ w ∨ wx w F ≤ F + 7 := by
  have h := ne_le F w
  unfold wx; split <;> omega
theorem ub_bz (x : Int32) : ub (bz x) = ub x := by
  have h1 := ub_and (bz x)
  have h2 := ub_and x
  have h3 : bz x &&& nI 255 = x &&& nI 255 := by
    apply Int32.toBitVec_inj.mp
    apply BitVec.eq_of_getLsbD_eq
    intro i hi
    have e : (nI 255).toBitVec = 255#32 := by decide +kernel
    rw [Int32.toBitVec_and, Int32.toBitVec_and, BitVec.getLsbD_and, BitVec.getLsbD_and, e]
    by_cases h8 : i < 8
    · congr 1
      show (x.toInt8.toInt32).toBitVec.getLsbD i = _
      simp only [Int8.toBitVec_toInt32, Int32.toBitVec_toInt8, BitVec.getLsbD_signExtend, BitVec.getLsbD_setWidth]
      simp [h8, hi]
    · have : (255#32).getLsbD i = false := by
        rw [show (255#32) = (255#8).setWidth 32 by decide, BitVec.getLsbD_setWidth]
        simp [BitVec.getLsbD_of_ge, show 8 ≤ i by omega]
      rw [this, Bool.and_false, Bool.and_false]
  exact nI_inj (Nat.lt_trans (ub_lt _) (by decide)) (Nat.lt_trans (ub_lt _) (by decide)) (h1.symm.trans (h3.trans h2))
theorem ub_nI {n : Nat} (h : n < 2 ^ 32) : ub (nI n) = n % 256 := by unfold ub; rw [pk_tn h]
theorem PK_pop {q g : Nat → Int32} {w le le0 : Nat} (hw : 0 < w) (h : PK q g w le0) (hl : (0 < le0 ∧ le = le0) ∨ (le0 = 0 ∧ le = qlen q 0)) : 0 < le ∧ le ≤ w ∧ PK (fun k => q (k + 1)) (fun k => g (k + 1)) (w - 1) (le - 1) := by
  obtain ⟨h1, h2, h3, h4⟩ := h
  have h5 : ∀ k, k < w - 1 → g (k + 1) = nI 1 → k + qlen (fun k => q (k + 1)) k ≤ w - 1 ∧ (∀ j, k < j → j < k + qlen (fun k => q (k + 1)) k → g (j + 1) = nI 0) ∧ (k + qlen (fun k => q (k + 1)) k < w - 1 → g (k + qlen (fun k => q (k + 1)) k + 1) = nI 1) := by
    intro k hk hg
    have e : qlen (fun k => q (k + 1)) k = qlen q (k + 1) := by
      unfold qlen
      rw [show k + 4 + 1 = k + 1 + 4 by omega, show k + 5 + 1 = k + 1 + 5 by omega]
    obtain ⟨a1, a2, a3⟩ := h4 (k + 1) (by omega) hg
    rw [e]
    refine ⟨by omega, fun j hj hj2 => a2 (j + 1) (by omega) (by omega), fun hj => ?_⟩
    rw [show k + qlen q (k + 1) + 1 = k + 1 + qlen q (k + 1) by omega]
    exact a3 (by omega)
  rcases hl with ⟨l1, rfl⟩ | ⟨rfl, rfl⟩
  · refine ⟨l1, h1, by omega, fun k hk => h2 (k + 1) (by omega), fun hk => ?_, h5⟩
    show g (le - 1 + 1) = _
    rw [show le - 1 + 1 = le by omega]
    exact h3 (by omega)
  · obtain ⟨a1, a2, a3⟩ := h4 0 hw (h3 hw)
    have hq : 7 ≤ qlen q 0 := by unfold qlen; omega
    rw [Nat.zero_add] at a1 a2 a3
    refine ⟨by omega, a1, by omega, fun k hk => a2 (k + 1) (by omega) (by omega), fun hk => ?_, h5⟩
    show g (qlen q 0 - 1 + 1) = _
    rw [show qlen q 0 - 1 + 1 = qlen q 0 by omega]
    exact a3 (by omega)
theorem PK_app {q g src : Nat → Int32} {w le n : Nat} (h : PK q g w le) (hn : n = qlen src 0) : PK (bl q w n src) (bl g w n fl) (w + n) le := by
  obtain ⟨h1, h2, h3, h4⟩ := h
  have h7 : 7 ≤ n := by rw [hn]; unfold qlen; omega
  have hw : bl g w n fl w = nI 1 := by
    rw [bl_in (by omega) (by omega), Nat.sub_self]; rfl
  refine ⟨by omega, fun k hk => by rw [bl_out (by omega)]; exact h2 k hk, fun hk => ?_, fun k hk hg => ?_⟩
  · by_cases e : le < w
    · rw [bl_out (by omega)]; exact h3 e
    · rw [show le = w by omega]; exact hw
  · by_cases e : k < w
    · rw [bl_out (by omega)] at hg
      obtain ⟨a1, a2, a3⟩ := h4 k e hg
      have h8 : 7 ≤ qlen q k := by unfold qlen; omega
      have eq : qlen (bl q w n src) k = qlen q k := by
        unfold qlen
        rw [bl_out (by omega), bl_out (by omega)]
      rw [eq]
      refine ⟨by omega, fun j hj hj2 => by rw [bl_out (by omega)]; exact a2 j hj hj2, fun hj => ?_⟩
      by_cases e2 : k + qlen q k < w
      · rw [bl_out (by omega)]; exact a3 e2
      · rw [show k + qlen q k = w by omega]; exact hw
    · have ek : k = w := by
        by_cases e3 : k = w
        · exact e3
        · rw [bl_in (by omega) (by omega)] at hg
          unfold fl at hg
          rw [if_neg (by omega)] at hg
          exact absurd hg (by decide +kernel)
      subst ek
      have eq : qlen (bl q k n src) k = n := by
        rw [hn]
        unfold qlen
        rw [bl_in (by omega) (by omega), bl_in (by omega) (by omega)]
        rw [show k + 4 - k = 0 + 4 by omega, show k + 5 - k = 0 + 5 by omega]
      rw [eq]
      refine ⟨by omega, fun j hj hj2 => ?_, fun hj => by omega⟩
      rw [bl_in (by omega) (by omega)]
      exact if_neg (by omega)
theorem PK_congr {q g q' g' : Nat → Int32} {w le : Nat} (h : PK q g w le) (hq : ∀ k, k < w → q k = q' k) (hg : ∀ k, k < w → g k = g' k) : PK q' g' w le := by
  obtain ⟨h1, h2, h3, h4⟩ := h
  refine ⟨h1, fun k hk => by rw [← hg k (by omega)]; exact h2 k hk, fun hk => by rw [← hg le hk]; exact h3 hk, fun k hk hgk => ?_⟩
  rw [← hg k hk] at hgk
  obtain ⟨a1, a2, a3⟩ := h4 k hk hgk
  have h8 : 7 ≤ qlen q k := by unfold qlen; omega
  have eq : qlen q' k = qlen q k := by
    unfold qlen
    rw [hq (k + 4) (by omega), hq (k + 5) (by omega)]
  rw [eq]
  refine ⟨a1, fun j hj hj2 => by rw [← hg j (by omega)]; exact a2 j hj hj2, fun hj => by rw [← hg _ hj]; exact a3 hj⟩
theorem PK_0 (q g : Nat → Int32) : PK q g 0 0 := ⟨Nat.le_refl 0, fun k h => absurd h (Nat.not_lt_zero k), fun h => absurd h (Nat.not_lt_zero 0), fun k h => absurd h (Nat.not_lt_zero k)⟩
theorem eb_len {N : Nat} (h : 7 ≤ N) (h2 : N < 65536) : N = qlen (eb N) 0 := by
  unfold qlen
  rw [show (0 + 4 : Nat) = 4 from rfl, show (0 + 5 : Nat) = 5 from rfl]
  rw [show eb N 4 = bz (nI ((N - 7) / 256)) from rfl, show eb N 5 = bz (nI (N - 7)) from rfl, ub_bz, ub_bz, ub_nI (by omega), ub_nI (by omega)]
  omega
def isF (g : Nat → Int32) (n k : Nat) : Prop := k ≤ n ∧ (∀ i, i < k → g i = nI 0) ∧ (k < n → ¬ g k = nI 0)
theorem isF_one {g g' : Nat → Int32} {n k k' : Nat} (h : isF g n k) (h' : isF g' n k') (e : ∀ i, i < n → g i = g' i) : k = k' := by
  obtain ⟨a1, a2, a3⟩ := h
  obtain ⟨b1, b2, b3⟩ := h'
  rcases Nat.lt_trichotomy k k' with h | h | h
  · exact absurd ((e k (by omega)).trans (b2 k h)) (a3 (by omega))
  · exact h
  · exact absurd ((e k' (by omega)).symm.trans (a2 k' h)) (b3 (by omega))
/-! the check -/
def cs (x : Nat) : Nat := if 32768 ≤ x then (x * 2) ^^^ 69665 else x * 2
def c8 : Nat → Nat → Nat
  | 0, x => x
  | j + 1, x => cs (c8 j x)
def crc (f : Nat → Int32) : Nat → Nat
  | 0 => 65535
  | k + 1 => c8 8 (crc f k ^^^ (ub (f k) * 256))
theorem cs_lt {x : Nat} (h : x < 65536) : cs x < 65536 := by
  unfold cs
  split
  · have h1 : ((x * 2) ^^^ 69665) / 2 ^ 16 = 0 := by
      rw [← Nat.shiftRight_eq_div_pow, Nat.shiftRight_xor_distrib, Nat.shiftRight_eq_div_pow, show (69665 >>> 16 : Nat) = 1 by decide, show x * 2 / 2 ^ 16 = 1 by omega]
      decide
    omega
  · omega
theorem c8_lt {x : Nat} (h : x < 65536) : ∀ j, c8 j x < 65536
  | 0 => h
  | j + 1 => cs_lt (c8_lt h j)
theorem crc_lt (f : Nat → Int32) : ∀ k, crc f k < 65536 ∧ crc f k ^^^ (ub (f k) * 256) < 65536
  | 0 => ⟨(by decide : 65535 < 65536), Nat.xor_lt_two_pow (n := 16) (by decide : 65535 < 2 ^ 16) (by have := ub_lt (f 0); omega)⟩
  | k + 1 => by
    have h1 : crc f (k + 1) < 65536 := c8_lt (crc_lt f k).2 8
    exact ⟨h1, Nat.xor_lt_two_pow (n := 16) h1 (by have := ub_lt (f (k + 1)); omega)⟩
theorem crc_congr {f g : Nat → Int32} : ∀ k, (∀ i, i < k → f i = g i) → crc f k = crc g k
  | 0, _ => rfl
  | k + 1, h => by
    show c8 8 (crc f k ^^^ (ub (f k) * 256)) = c8 8 (crc g k ^^^ (ub (g k) * 256))
    rw [crc_congr k (fun i hi => h i (by omega)), h k (by omega)]
theorem nI_xor (a b : Nat) : nI a ^^^ nI b = nI (a ^^^ b) := by
  apply Int32.toBitVec_inj.mp
  show (BitVec.ofNat 32 a) ^^^ (BitVec.ofNat 32 b) = BitVec.ofNat 32 (a ^^^ b)
  apply BitVec.eq_of_getLsbD_eq
  intro i hi
  simp [BitVec.getLsbD_xor, BitVec.getLsbD_ofNat, hi, Nat.testBit_xor]
theorem nI_and (a b : Nat) : nI a &&& nI b = nI (a &&& b) := by
  apply Int32.toBitVec_inj.mp
  show (BitVec.ofNat 32 a) &&& (BitVec.ofNat 32 b) = BitVec.ofNat 32 (a &&& b)
  apply BitVec.eq_of_getLsbD_eq
  intro i hi
  simp [BitVec.getLsbD_and, BitVec.getLsbD_ofNat, hi, Nat.testBit_and]
theorem nI_or (a b : Nat) : nI a ||| nI b = nI (a ||| b) := by
  apply Int32.toBitVec_inj.mp
  show (BitVec.ofNat 32 a) ||| (BitVec.ofNat 32 b) = BitVec.ofNat 32 (a ||| b)
  apply BitVec.eq_of_getLsbD_eq
  intro i hi
  simp [BitVec.getLsbD_or, BitVec.getLsbD_ofNat, hi, Nat.testBit_or]
theorem and15 {x : Nat} (h : x < 65536) : x &&& 32768 = if 32768 ≤ x then 32768 else 0 := by
  apply Nat.eq_of_testBit_eq
  intro i
  rw [Nat.testBit_and, show (32768 : Nat) = 2 ^ 15 from rfl, Nat.testBit_two_pow]
  by_cases hi : 15 = i
  · subst hi
    rw [Nat.testBit_eq_decide_div_mod_eq]
    split
    · rw [show x / 2 ^ 15 % 2 = 1 by omega, Nat.testBit_two_pow]; rfl
    · rw [show x / 2 ^ 15 % 2 = 0 by omega]; rfl
  · split
    · rw [Nat.testBit_two_pow]; simp [hi]
    · simp [hi]
theorem or_lo {a b t : Nat} (h : b < 2 ^ t) : (a * 2 ^ t) ||| b = a * 2 ^ t + b := by
  rw [Nat.mul_comm, Nat.two_pow_add_eq_or_of_lt h]
/-! what a call of give adds -/
def gv (n : Nat) (x : Int32) : Nat := if 1 ≤ x.toInt ∧ x.toInt ≤ 8 ∧ (n : Int) + x.toInt ≤ 1024 then x.toInt.toNat else 0
def gb (w : Int64) : Nat → Int32 := fun k => bz ((w >>> ((nI (56 - 8 * k)).toInt64 &&& 63)).toInt32)
def isP (t : Nat → Int32) (n : Nat) : Prop := 7 ≤ n ∧ n = qlen t 0
/-! a whole frame -/
def fbP (F : Nat) (ch : Nat) (made cnt : Int32) (fst : Nat) (fd : Nat → Int32) (word : Int32) : Nat → Int32 := fun k =>
  if k = 0 then bz (nI 21) else if k = 1 then bz (nI (160 + 2 * ch + 1)) else if k = 2 then bz made else if k = 3 then bz cnt else if k = 4 then bz (nI (24 + fst / 256)) else if k = 5 then bz (nI fst) else if k < 6 + F then bz (fd (k - 6)) else bz (word >>> (nI (24 - 8 * (k - 6 - F)) &&& 31))
def fb (F : Nat) (ch : Nat) (made cnt : Int32) (fst : Nat) (fd : Nat → Int32) (word : Int32) : Nat → Int32 := fun k =>
  if k < 10 + F then fbP F ch made cnt fst fd word k else if k = 10 + F then bz (nI (crc (fbP F ch made cnt fst fd word) (10 + F) / 256)) else bz (nI (crc (fbP F ch made cnt fst fd word) (10 + F)))
end
section
theorem RV_bl {ring q g : Nat → Int32} {fi w j : Nat} {v : Int32} (h : RV ring fi (w + j + 1) (upd (bl q w j g) (w + j) v)) (e : v = g j) : RV ring fi (w + (j + 1)) (bl q w (j + 1) g) := by
  subst e
  rw [bl_s] at h
  exact h
set_option maxHeartbeats 1000000 in
set_option maxRecDepth 100000 in
/-- Channel.add: one byte behind the others -/
theorem c_Ch_add (l : Launch) (D : va_G) (ca : Nat → ClassId) (sz : Nat) (o r fi w le : Nat) (ring q : Nat → Int32) (b : Int32) (h1 : fi < 4096) (h2 : w < 4096) (hv : RV ring fi w q) : MetV l y_Ch_add b_Ch_add 2 ({ frames := 0, cells := 0, slots := 0, locals := 0 } : Room) D ca [.ref o, .int b] [(o, .inr (0, [.ref r, .int (nI fi), .int (nI w), .int (nI le)])), (r, .inl (ca 0, 4096, .inl ring))] sz (fun ring : Nat → Int32 => RV ring fi (w + 1) (upd q w (bz b))) (fun ring => [(o, .inr (0, [.ref r, .int (nI fi), .int (nI (w + 1)), .int (nI le)])), (r, .inl (ca 0, 4096, .inl ring))]) := by
  refine MetV.of (by decide) (Nat.le_of_ble_eq_true rfl) ?_
  intro p e s m below meth c A ls S0 hr hlk hK hP hD hA hl hnm
  have hx := S0.1
  have hb := S0.2.1
  have hS : va_S A s.heap s.heap [] := va_S.rf
  have hP : va_P D classes [(o, .inr (0, [.ref r, .int (nI fi), .int (nI w), .int (nI le)])), (r, .inl (ca 0, 4096, .inl ring))] s.heap := hP
  have hD : va_D A [(o, .inr (0, [.ref r, .int (nI fi), .int (nI w), .int (nI le)])), (r, .inl (ca 0, 4096, .inl ring))] := hD
  have hl : lv_has ls 2 [(0, .ref o), (1, .int b)] := hl
  refine lv_aload_n hx hb d_Ch_add_0 rfl (lv_at hl 0 rfl) ?_
  refine gf_Ch_11 (q0 := 0) S0 hK hP rfl rfl d_Ch_add_1 ?_
  refine lv_aload_n hx hb d_Ch_add_4 rfl (lv_at hl 0 rfl) ?_
  refine gf_Ch_19 (q0 := 0) S0 hK hP rfl rfl d_Ch_add_5 ?_
  refine lv_aload_n hx hb d_Ch_add_8 rfl (lv_at hl 0 rfl) ?_
  refine gf_Ch_15 (q0 := 0) S0 hK hP rfl rfl d_Ch_add_9 ?_
  refine lz_iadd hx hb d_Ch_add_12 ?_
  refine lv_sipush (v := nI 4096) hx hb d_Ch_add_13 (by decide) ?_
  refine lz_irem hx hb (by omega) (by decide) (by decide) d_Ch_add_16 ?_
  refine lv_iload_n hx hb d_Ch_add_17 rfl (lv_at hl 1 rfl) ?_
  refine lz_i2b hx hb d_Ch_add_18 ?_
  refine lz_bast (i := (fi + w) % 4096) hx hb hK.1 hP hD hS 1 0 rfl rfl (by omega) (by decide) d_Ch_add_19 (fun H locs hP hD hS => ?_)
  rw [bz_bz] at hP hD
  have hP : va_P D classes [(o, .inr (0, [.ref r, .int (nI fi), .int (nI w), .int (nI le)])), (r, .inl (ca 0, 4096, .inl (upd ring ((fi + w) % 4096) (bz b))))] H := hP
  have hD : va_D A [(o, .inr (0, [.ref r, .int (nI fi), .int (nI w), .int (nI le)])), (r, .inl (ca 0, 4096, .inl (upd ring ((fi + w) % 4096) (bz b))))] := hD
  refine lv_aload_n hx hb d_Ch_add_20 rfl (lv_at hl 0 rfl) ?_
  refine lv_dup hx hb d_Ch_add_21 rfl ?_
  refine gf_Ch_15 (q0 := 0) S0 hK hP rfl rfl d_Ch_add_22 ?_
  refine lv_iconst (v := nI 1) hx hb d_Ch_add_25 (by decide) ?_
  refine lz_iadd hx hb d_Ch_add_26 ?_
  refine pf_Ch_15 (q0 := 0) S0 hK hP hD hS rfl rfl rfl (Nat.le_of_ble_eq_true rfl) d_Ch_add_27 (fun H locs hP hD hS => ?_)
  have hP : va_P D classes [(o, .inr (0, [.ref r, .int (nI fi), .int (nI (w + 1)), .int (nI le)])), (r, .inl (ca 0, 4096, .inl (upd ring ((fi + w) % 4096) (bz b))))] H := hP
  have hD : va_D A [(o, .inr (0, [.ref r, .int (nI fi), .int (nI (w + 1)), .int (nI le)])), (r, .inl (ca 0, 4096, .inl (upd ring ((fi + w) % 4096) (bz b))))] := hD
  exact k_vret hx hb hr hlk (upd ring ((fi + w) % 4096) (bz b)) (RV_add _ hv h2) hP hD hS d_Ch_add_30
set_option maxHeartbeats 1000000 in
set_option maxRecDepth 100000 in
/-- Channel.hasRoom -/
theorem c_Ch_hasRoom (l : Launch) (D : va_G) (ca : Nat → ClassId) (sz : Nat) (o r fi w le n : Nat) (ring : Nat → Int32) (h1 : w ≤ 4096) (h2 : n ≤ 1024) : MetI l y_Ch_hasRoom b_Ch_hasRoom 2 (some .boolean) ({ frames := 0, cells := 0, slots := 0, locals := 0 } : Room) D ca [.ref o, .int (nI n)] [(o, .inr (0, [.ref r, .int (nI fi), .int (nI w), .int (nI le)])), (r, .inl (ca 0, 4096, .inl ring))] sz (fun (x : Int32) (_ : Unit) => x = if w + n ≤ 4096 then nI 1 else nI 0) (fun _ => [(o, .inr (0, [.ref r, .int (nI fi), .int (nI w), .int (nI le)])), (r, .inl (ca 0, 4096, .inl ring))]) := by
  refine MetI.of (by decide) (Nat.le_of_ble_eq_true rfl) ?_
  intro p e s m below meth c A ls S0 hr hlk hK hP hD hA hl
  have hx := S0.1
  have hb := S0.2.1
  have hS : va_S A s.heap s.heap [] := va_S.rf
  have hP : va_P D classes [(o, .inr (0, [.ref r, .int (nI fi), .int (nI w), .int (nI le)])), (r, .inl (ca 0, 4096, .inl ring))] s.heap := hP
  have hD : va_D A [(o, .inr (0, [.ref r, .int (nI fi), .int (nI w), .int (nI le)])), (r, .inl (ca 0, 4096, .inl ring))] := hD
  have hl : lv_has ls 2 [(0, .ref o), (1, .int (nI n))] := hl
  refine lv_aload_n hx hb d_Ch_hasRoom_0 rfl (lv_at hl 0 rfl) ?_
  refine gf_Ch_15 (q0 := 0) S0 hK hP rfl rfl d_Ch_hasRoom_1 ?_
  refine lv_iload_n hx hb d_Ch_hasRoom_4 rfl (lv_at hl 1 rfl) ?_
  refine lz_iadd hx hb d_Ch_hasRoom_5 ?_
  refine lv_sipush (v := nI 4096) hx hb d_Ch_hasRoom_6 (by decide) ?_
  refine lz_icmp_gt (tgt := 16) hx hb (by omega) (by omega) d_Ch_hasRoom_9 (by decide) (fun h3 => ?_) (fun h3 => ?_)
  · refine lv_iconst (v := nI 0) hx hb d_Ch_hasRoom_16 (by decide) ?_
    exact k_iret hx hb hr (by decide) hlk (()) (by rw [if_neg (by omega)]) hP hD hS d_Ch_hasRoom_17
  · refine lv_iconst (v := nI 1) hx hb d_Ch_hasRoom_12 (by decide) ?_
    refine lv_goto (tgt := 17) hx hb d_Ch_hasRoom_13 (by decide) ?_
    exact k_iret hx hb hr (by decide) hlk (()) (by rw [if_pos h3]) hP hD hS d_Ch_hasRoom_17
set_option maxHeartbeats 1000000 in
set_option maxRecDepth 100000 in
/-- Channel.peek -/
theorem c_Ch_peek (l : Launch) (D : va_G) (ca : Nat → ClassId) (sz : Nat) (o r fi w le n : Nat) (ring : Nat → Int32) (h1 : fi < 4096) (h2 : n < 4096) : MetI l y_Ch_peek b_Ch_peek 2 (some .int) ({ frames := 0, cells := 0, slots := 0, locals := 0 } : Room) D ca [.ref o, .int (nI n)] [(o, .inr (0, [.ref r, .int (nI fi), .int (nI w), .int (nI le)])), (r, .inl (ca 0, 4096, .inl ring))] sz (fun (x : Int32) (_ : Unit) => x = nI (ub (ring ((fi + n) % 4096)))) (fun _ => [(o, .inr (0, [.ref r, .int (nI fi), .int (nI w), .int (nI le)])), (r, .inl (ca 0, 4096, .inl ring))]) := by
  refine MetI.of (by decide) (Nat.le_of_ble_eq_true rfl) ?_
  intro p e s m below meth c A ls S0 hr hlk hK hP hD hA hl
  have hx := S0.1
  have hb := S0.2.1
  have hS : va_S A s.heap s.heap [] := va_S.rf
  have hP : va_P D classes [(o, .inr (0, [.ref r, .int (nI fi), .int (nI w), .int (nI le)])), (r, .inl (ca 0, 4096, .inl ring))] s.heap := hP
  have hD : va_D A [(o, .inr (0, [.ref r, .int (nI fi), .int (nI w), .int (nI le)])), (r, .inl (ca 0, 4096, .inl ring))] := hD
  have hl : lv_has ls 2 [(0, .ref o), (1, .int (nI n))] := hl
  refine lv_aload_n hx hb d_Ch_peek_0 rfl (lv_at hl 0 rfl) ?_
  refine gf_Ch_11 (q0 := 0) S0 hK hP rfl rfl d_Ch_peek_1 ?_
  refine lv_aload_n hx hb d_Ch_peek_4 rfl (lv_at hl 0 rfl) ?_
  refine gf_Ch_19 (q0 := 0) S0 hK hP rfl rfl d_Ch_peek_5 ?_
  refine lv_iload_n hx hb d_Ch_peek_8 rfl (lv_at hl 1 rfl) ?_
  refine lz_iadd hx hb d_Ch_peek_9 ?_
  refine lv_sipush (v := nI 4096) hx hb d_Ch_peek_10 (by decide) ?_
  refine lz_irem hx hb (by omega) (by decide) (by decide) d_Ch_peek_13 ?_
  refine lz_bald (i := (fi + n) % 4096) hx hb hK.1 hP 1 0 rfl rfl (by omega) (by decide) d_Ch_peek_14 ?_
  refine lv_sipush (v := nI 255) hx hb d_Ch_peek_15 (by decide) ?_
  refine lz_and255 hx hb d_Ch_peek_18 ?_
  exact k_iret hx hb hr (rfl) hlk (()) (rfl) hP hD hS d_Ch_peek_19
set_option maxHeartbeats 1000000 in
set_option maxRecDepth 100000 in
theorem lp_Ch_put {p : Program} {l : Launch} {e : Env} {s : State} {m : MethodId} {args : Array Value} {below : List Frame} {meth : Method} {c : Code} {Q : State → Prop} {D : va_G} {ca : Nat → ClassId} {A : Nat → Prop} {H0 : Heap} (o r t fi w le N : Nat) (q tape : Nat → Int32) (h1 : fi < 4096) (h2 : w + N ≤ 4096) (h3 : N ≤ 1024) (S0 : CallFix p m c b_Ch_put 4 s args gd_tbl "DownFrames$Channel") (hK : PW D ca s) (hA : ∀ q, H0.size ≤ q → A q) (kk : ∀ (ring : Nat → Int32) (H : Heap) (locs : List Loc) (ls : Array Slot), (RV ring fi (w + N) (bl q w N (fun k => bz (tape k)))) → va_P D classes [(o, .inr (0, [.ref r, .int (nI fi), .int (nI (w + N)), .int (nI le)])), (r, .inl (ca 0, 4096, .inl ring)), (t, .inl (ca 0, 1024, .inl tape))] H → va_D A [(o, .inr (0, [.ref r, .int (nI fi), .int (nI (w + N)), .int (nI le)])), (r, .inl (ca 0, 4096, .inl ring)), (t, .inl (ca 0, 1024, .inl tape))] → va_S A H0 H locs → lv_has ls 4 [(0, .ref o)] → W p l e ({ frames := 1, cells := 0, slots := 0, locals := 21 } : Room) s m args below meth c H locs 0 0 Q (F0 m 20 ls [])) :
    ∀ (nf : Nat) (j : Nat) (ring : Nat → Int32) (H : Heap) (locs : List Loc) (ls : Array Slot), N - j < nf → (j ≤ N) → (RV ring fi (w + j) (bl q w j (fun k => bz (tape k)))) → va_P D classes [(o, .inr (0, [.ref r, .int (nI fi), .int (nI (w + j)), .int (nI le)])), (r, .inl (ca 0, 4096, .inl ring)), (t, .inl (ca 0, 1024, .inl tape))] H → va_D A [(o, .inr (0, [.ref r, .int (nI fi), .int (nI (w + j)), .int (nI le)])), (r, .inl (ca 0, 4096, .inl ring)), (t, .inl (ca 0, 1024, .inl tape))] → va_S A H0 H locs → lv_has ls 4 [(3, .int (nI j)), (0, .ref o), (1, .ref t), (2, .int (nI N))] → W p l e ({ frames := 1, cells := 0, slots := 0, locals := 21 } : Room) s m args below meth c H locs 0 0 Q (F0 m 2 ls []) := by
  have hx := S0.1
  have hb := S0.2.1
  intro nf
  induction nf with
  | zero =>
    intro j ring H locs ls hm
    exact absurd hm (Nat.not_lt_zero _)
  | succ nf ih =>
    intro j ring H locs ls hm hj hv hP hD hS hl
    refine lv_iload_n hx hb d_Ch_put_2 rfl (lv_at hl 0 rfl) ?_
    refine lv_iload_n hx hb d_Ch_put_3 rfl (lv_at hl 3 rfl) ?_
    refine lz_icmp_ge (tgt := 20) hx hb (by omega) (by omega) d_Ch_put_4 (by decide) (fun h4 => ?_) (fun h4 => ?_)
    · have e9 : N = j := by omega
      subst e9
      exact kk ring H locs ls hv hP hD hS (lv_sub hl [1] rfl)
    · refine lv_aload_n hx hb d_Ch_put_7 rfl (lv_at hl 1 rfl) ?_
      refine lv_aload_n hx hb d_Ch_put_8 rfl (lv_at hl 2 rfl) ?_
      refine lv_iload_n hx hb d_Ch_put_9 rfl (lv_at hl 0 rfl) ?_
      refine lz_bald (i := j) hx hb hK.1 hP 2 0 rfl rfl (by omega) (by decide) d_Ch_put_10 ?_
      refine k_Vv (n := 1) (As := [.int (tape j)]) (rest := []) (wc := [(o, .inr (0, [.ref r, .int (nI fi), .int (nI (w + j)), .int (nI le)])), (r, .inl (ca 0, 4096, .inl ring))]) (wr := [(t, .inl (ca 0, 1024, .inl tape))]) (ci := 0) (q0 := 0) S0 rfl q_91 q_93 q_p1 q_3 rfl rfl q_94 (by decide +kernel) hK hP hD hS hA (c_Ch_add l D ca H.size o r fi (w + j) le ring (bl q w j (fun k => bz (tape k))) (tape j) h1 (by omega) hv) [0, 1] [2] rfl rfl (by decide) (by decide) (by decide) ⟨Nat.le_of_ble_eq_true rfl, Nat.le_of_ble_eq_true rfl⟩ rfl hl.1 rfl (Nat.le_of_ble_eq_true rfl) ⟨Nat.le_of_ble_eq_true rfl, Nat.le_of_ble_eq_true rfl⟩ d_Ch_put_11 (fun ring2 H locs hw hP hD hS => ?_)
      refine W.cs (cells' := 0) (slots' := 0) rfl rfl ?_
      have hP : va_P D classes [(t, .inl (ca 0, 1024, .inl tape)), (o, .inr (0, [.ref r, .int (nI fi), .int (nI (w + j + 1)), .int (nI le)])), (r, .inl (ca 0, 4096, .inl ring2))] H := hP
      have hD : va_D A [(t, .inl (ca 0, 1024, .inl tape)), (o, .inr (0, [.ref r, .int (nI fi), .int (nI (w + j + 1)), .int (nI le)])), (r, .inl (ca 0, 4096, .inl ring2))] := hD
      refine lv_iinc (v := nI (j + 1)) (lv' := [(3, .int (nI (j + 1))), (0, .ref o), (1, .ref t), (2, .int (nI N))]) hx hb d_Ch_put_14 hl (k := 0) rfl (nI_inc _) (by decide) rfl (fun ls hl => ?_)
      refine lv_goto (tgt := 2) hx hb d_Ch_put_17 (by decide) ?_
      exact ih (j + 1) ring2 H locs ls (by omega) (by omega) (RV_bl hw rfl) (hP.sub [1, 2, 0] rfl) (hD.sub [1, 2, 0] (by decide) rfl) hS (lv_sub hl [0, 1, 2, 3] rfl)
set_option maxHeartbeats 1000000 in
set_option maxRecDepth 100000 in
/-- Channel.put: N bytes of a row behind the others -/
theorem c_Ch_put (l : Launch) (D : va_G) (ca : Nat → ClassId) (sz : Nat) (o r t fi w le N : Nat) (ring q tape : Nat → Int32) (h1 : fi < 4096) (h2 : w + N ≤ 4096) (h3 : N ≤ 1024) (hv : RV ring fi w q) : MetV l y_Ch_put b_Ch_put 4 ({ frames := 1, cells := 0, slots := 0, locals := 21 } : Room) D ca [.ref o, .ref t, .int (nI N)] [(o, .inr (0, [.ref r, .int (nI fi), .int (nI w), .int (nI le)])), (r, .inl (ca 0, 4096, .inl ring)), (t, .inl (ca 0, 1024, .inl tape))] sz (fun ring : Nat → Int32 => RV ring fi (w + N) (bl q w N (fun k => bz (tape k)))) (fun ring => [(o, .inr (0, [.ref r, .int (nI fi), .int (nI (w + N)), .int (nI le)])), (r, .inl (ca 0, 4096, .inl ring)), (t, .inl (ca 0, 1024, .inl tape))]) := by
  refine MetV.of (by decide) (Nat.le_of_ble_eq_true rfl) ?_
  intro p e s m below meth c A ls S0 hr hlk hK hP hD hA hl hnm
  have hx := S0.1
  have hb := S0.2.1
  have hS : va_S A s.heap s.heap [] := va_S.rf
  have hP : va_P D classes [(o, .inr (0, [.ref r, .int (nI fi), .int (nI w), .int (nI le)])), (r, .inl (ca 0, 4096, .inl ring)), (t, .inl (ca 0, 1024, .inl tape))] s.heap := hP
  have hD : va_D A [(o, .inr (0, [.ref r, .int (nI fi), .int (nI w), .int (nI le)])), (r, .inl (ca 0, 4096, .inl ring)), (t, .inl (ca 0, 1024, .inl tape))] := hD
  have hl : lv_has ls 4 [(0, .ref o), (1, .ref t), (2, .int (nI N))] := hl
  refine lv_iconst (v := nI 0) hx hb d_Ch_put_0 (by decide) ?_
  refine lv_istore_n (lv' := [(3, .int (nI 0)), (0, .ref o), (1, .ref t), (2, .int (nI N))]) hx hb d_Ch_put_1 rfl hl (by decide) rfl (fun ls hl => ?_)
  refine lp_Ch_put o r t fi w le N q tape h1 h2 h3 S0 hK hA (fun ring H locs ls hv hP hD hS hl => ?_) (N + 1) 0 ring _ _ ls (by omega) (by omega) (by rw [bl_0]; exact hv) hP hD hS (lv_sub hl [0, 1, 2, 3] rfl)
  exact k_vret hx hb hr hlk (ring) (hv) hP hD hS d_Ch_put_20
theorem ebv85 (N j : Nat) : eb N (6 + j) = bz (nI 85) := by
  unfold eb ebv
  rw [if_neg (by omega), if_neg (by omega), if_neg (by omega), if_neg (by omega), if_neg (by omega), if_neg (by omega)]
set_option maxHeartbeats 1000000 in
set_option maxRecDepth 100000 in
theorem lp_Ch_empty {p : Program} {l : Launch} {e : Env} {s : State} {m : MethodId} {args : Array Value} {below : List Frame} {meth : Method} {c : Code} {Q : State → Prop} {D : va_G} {ca : Nat → ClassId} {A : Nat → Prop} {H0 : Heap} (o r fi w le N : Nat) (q : Nat → Int32) (h1 : fi < 4096) (h2 : w + N ≤ 4096) (h3 : 7 ≤ N) (S0 : CallFix p m c b_Ch_empty 4 s args gd_tbl "DownFrames$Channel") (hK : PW D ca s) (hA : ∀ q, H0.size ≤ q → A q) (kk : ∀ (ring : Nat → Int32) (H : Heap) (locs : List Loc) (ls : Array Slot), (RV ring fi (w + N) (bl q w N (eb N))) → va_P D classes [(o, .inr (0, [.ref r, .int (nI fi), .int (nI (w + N)), .int (nI le)])), (r, .inl (ca 0, 4096, .inl ring))] H → va_D A [(o, .inr (0, [.ref r, .int (nI fi), .int (nI (w + N)), .int (nI le)])), (r, .inl (ca 0, 4096, .inl ring))] → va_S A H0 H locs → lv_has ls 4 [(0, .ref o)] → W p l e ({ frames := 1, cells := 0, slots := 0, locals := 21 } : Room) s m args below meth c H locs 0 0 Q (F0 m 77 ls [])) :
    ∀ (nf : Nat) (j : Nat) (ring : Nat → Int32) (H : Heap) (locs : List Loc) (ls : Array Slot), N - 6 - j < nf → (j ≤ N - 6) → (RV ring fi (w + (6 + j)) (bl q w (6 + j) (eb N))) → va_P D classes [(o, .inr (0, [.ref r, .int (nI fi), .int (nI (w + (6 + j))), .int (nI le)])), (r, .inl (ca 0, 4096, .inl ring))] H → va_D A [(o, .inr (0, [.ref r, .int (nI fi), .int (nI (w + (6 + j))), .int (nI le)])), (r, .inl (ca 0, 4096, .inl ring))] → va_S A H0 H locs → lv_has ls 4 [(3, .int (nI j)), (0, .ref o), (2, .int (nI (N - 6)))] → W p l e ({ frames := 1, cells := 0, slots := 0, locals := 21 } : Room) s m args below meth c H locs 0 0 Q (F0 m 60 ls []) := by
  have hx := S0.1
  have hb := S0.2.1
  intro nf
  induction nf with
  | zero =>
    intro j ring H locs ls hm
    exact absurd hm (Nat.not_lt_zero _)
  | succ nf ih =>
    intro j ring H locs ls hm hj hv hP hD hS hl
    refine lv_iload_n hx hb d_Ch_empty_60 rfl (lv_at hl 0 rfl) ?_
    refine lv_iload_n hx hb d_Ch_empty_61 rfl (lv_at hl 2 rfl) ?_
    refine lz_icmp_ge (tgt := 77) hx hb (by omega) (by omega) d_Ch_empty_62 (by decide) (fun h4 => ?_) (fun h4 => ?_)
    · have e9 : N - 6 = j := by omega
      subst e9
      have e8 : 6 + (N - 6) = N := by omega
      rw [e8] at hv
      have e7 : w + (6 + (N - 6)) = w + N := by omega
      rw [e7] at hP hD
      exact kk ring H locs ls hv hP hD hS (lv_sub hl [1] rfl)
    · refine lv_aload_n hx hb d_Ch_empty_65 rfl (lv_at hl 1 rfl) ?_
      refine lv_bipush (v := nI 85) hx hb d_Ch_empty_66 (by decide) ?_
      refine k_Vv (n := 1) (As := [.int (nI 85)]) (rest := []) (wc := [(o, .inr (0, [.ref r, .int (nI fi), .int (nI (w + (6 + j))), .int (nI le)])), (r, .inl (ca 0, 4096, .inl ring))]) (wr := []) (ci := 0) (q0 := 0) S0 rfl q_91 q_93 q_p1 q_3 rfl rfl q_94 (by decide +kernel) hK hP hD hS hA (c_Ch_add l D ca H.size o r fi (w + (6 + j)) le ring (bl q w (6 + j) (eb N)) (nI 85) h1 (by omega) hv) [0, 1] [] rfl rfl (by decide) (by decide) (by decide) ⟨Nat.le_of_ble_eq_true rfl, Nat.le_of_ble_eq_true rfl⟩ rfl hl.1 rfl (Nat.le_of_ble_eq_true rfl) ⟨Nat.le_of_ble_eq_true rfl, Nat.le_of_ble_eq_true rfl⟩ d_Ch_empty_68 (fun ring2 H locs hw hP hD hS => ?_)
      refine W.cs (cells' := 0) (slots' := 0) rfl rfl ?_
      have hP : va_P D classes [(o, .inr (0, [.ref r, .int (nI fi), .int (nI (w + (6 + j) + 1)), .int (nI le)])), (r, .inl (ca 0, 4096, .inl ring2))] H := hP
      have hD : va_D A [(o, .inr (0, [.ref r, .int (nI fi), .int (nI (w + (6 + j) + 1)), .int (nI le)])), (r, .inl (ca 0, 4096, .inl ring2))] := hD
      refine lv_iinc (v := nI (j + 1)) (lv' := [(3, .int (nI (j + 1))), (0, .ref o), (2, .int (nI (N - 6)))]) hx hb d_Ch_empty_71 hl (k := 0) rfl (nI_inc _) (by decide) rfl (fun ls hl => ?_)
      refine lv_goto (tgt := 60) hx hb d_Ch_empty_74 (by decide) ?_
      exact ih (j + 1) ring2 H locs ls (by omega) (by omega) (RV_bl hw (ebv85 N j).symm) hP hD hS (lv_sub hl [0, 1, 2] rfl)
set_option maxHeartbeats 1000000 in
set_option maxRecDepth 100000 in
/-- Channel.empty: an empty packet behind the others -/
theorem c_Ch_empty (l : Launch) (D : va_G) (ca : Nat → ClassId) (sz : Nat) (o r fi w le n N : Nat) (ring q : Nat → Int32) (h1 : fi < 4096) (h2 : w + N ≤ 4096) (h5 : n ≤ 256) (hN : N = if n < 7 then 7 else n) (h3 : 7 ≤ N) (hv : RV ring fi w q) : MetV l y_Ch_empty b_Ch_empty 4 ({ frames := 1, cells := 0, slots := 0, locals := 21 } : Room) D ca [.ref o, .int (nI n)] [(o, .inr (0, [.ref r, .int (nI fi), .int (nI w), .int (nI le)])), (r, .inl (ca 0, 4096, .inl ring))] sz (fun ring : Nat → Int32 => RV ring fi (w + N) (bl q w N (eb N))) (fun ring => [(o, .inr (0, [.ref r, .int (nI fi), .int (nI (w + N)), .int (nI le)])), (r, .inl (ca 0, 4096, .inl ring))]) := by
  refine MetV.of (by decide) (Nat.le_of_ble_eq_true rfl) ?_
  intro p e s m below meth c A ls S0 hr hlk hK hP hD hA hl hnm
  have hx := S0.1
  have hb := S0.2.1
  have hS : va_S A s.heap s.heap [] := va_S.rf
  have hP : va_P D classes [(o, .inr (0, [.ref r, .int (nI fi), .int (nI w), .int (nI le)])), (r, .inl (ca 0, 4096, .inl ring))] s.heap := hP
  have hD : va_D A [(o, .inr (0, [.ref r, .int (nI fi), .int (nI w), .int (nI le)])), (r, .inl (ca 0, 4096, .inl ring))] := hD
  have hl : lv_has ls 4 [(0, .ref o), (1, .int (nI n))] := hl
  refine lv_iload_n hx hb d_Ch_empty_0 rfl (lv_at hl 1 rfl) ?_
  refine lv_bipush (v := nI 7) hx hb d_Ch_empty_1 (by decide) ?_
  refine lz_cut (g := F0 m 12 ls [.int (nI N)]) ?_ (fun tail => ?_)
  · have hv0 : RV ring fi (w + 0) (bl q w 0 (eb N)) := by rw [bl_0]; exact hv
    refine lv_bipush (v := nI 6) hx hb d_Ch_empty_12 (by decide) ?_
    refine lz_isub hx hb (by omega) d_Ch_empty_14 ?_
    refine lv_istore_n (lv' := [(2, .int (nI (N - 6))), (0, .ref o), (1, .int (nI n))]) hx hb d_Ch_empty_15 rfl hl (by decide) rfl (fun ls hl => ?_)
    refine lv_aload_n hx hb d_Ch_empty_16 rfl (lv_at hl 1 rfl) ?_
    refine lv_bipush (v := nI 7) hx hb d_Ch_empty_17 (by decide) ?_
    refine k_Vv (n := 1) (As := [.int (nI 7)]) (rest := []) (wc := [(o, .inr (0, [.ref r, .int (nI fi), .int (nI w), .int (nI le)])), (r, .inl (ca 0, 4096, .inl ring))]) (wr := []) (ci := 0) (q0 := 0) S0 rfl q_91 q_93 q_p1 q_3 rfl rfl q_94 (by decide +kernel) hK hP hD hS hA (c_Ch_add l D ca s.heap.size o r fi (w + 0) le ring (bl q w 0 (eb N)) (nI 7) h1 (by omega) hv0) [0, 1] [] rfl rfl (by decide) (by decide) (by decide) ⟨Nat.le_of_ble_eq_true rfl, Nat.le_of_ble_eq_true rfl⟩ rfl hl.1 rfl (Nat.le_of_ble_eq_true rfl) ⟨Nat.le_of_ble_eq_true rfl, Nat.le_of_ble_eq_true rfl⟩ d_Ch_empty_19 (fun ring1 H locs hw hP hD hS => ?_)
    refine W.cs (cells' := 0) (slots' := 0) rfl rfl ?_
    have hP : va_P D classes [(o, .inr (0, [.ref r, .int (nI fi), .int (nI (w + 1)), .int (nI le)])), (r, .inl (ca 0, 4096, .inl ring1))] H := hP
    have hD : va_D A [(o, .inr (0, [.ref r, .int (nI fi), .int (nI (w + 1)), .int (nI le)])), (r, .inl (ca 0, 4096, .inl ring1))] := hD
    have hv1 : RV ring1 fi (w + 1) (bl q w 1 (eb N)) := RV_bl hw rfl
    refine lv_aload_n hx hb d_Ch_empty_22 rfl (lv_at hl 1 rfl) ?_
    refine lv_sipush (v := nI 255) hx hb d_Ch_empty_23 (by decide) ?_
    refine k_Vv (n := 1) (As := [.int (nI 255)]) (rest := []) (wc := [(o, .inr (0, [.ref r, .int (nI fi), .int (nI (w + 1)), .int (nI le)])), (r, .inl (ca 0, 4096, .inl ring1))]) (wr := []) (ci := 0) (q0 := 0) S0 rfl q_91 q_93 q_p1 q_3 rfl rfl q_94 (by decide +kernel) hK hP hD hS hA (c_Ch_add l D ca H.size o r fi (w + 1) le ring1 (bl q w 1 (eb N)) (nI 255) h1 (by omega) hv1) [0, 1] [] rfl rfl (by decide) (by decide) (by decide) ⟨Nat.le_of_ble_eq_true rfl, Nat.le_of_ble_eq_true rfl⟩ rfl hl.1 rfl (Nat.le_of_ble_eq_true rfl) ⟨Nat.le_of_ble_eq_true rfl, Nat.le_of_ble_eq_true rfl⟩ d_Ch_empty_26 (fun ring2 H locs hw hP hD hS => ?_)
    refine W.cs (cells' := 0) (slots' := 0) rfl rfl ?_
    have hP : va_P D classes [(o, .inr (0, [.ref r, .int (nI fi), .int (nI (w + 2)), .int (nI le)])), (r, .inl (ca 0, 4096, .inl ring2))] H := hP
    have hD : va_D A [(o, .inr (0, [.ref r, .int (nI fi), .int (nI (w + 2)), .int (nI le)])), (r, .inl (ca 0, 4096, .inl ring2))] := hD
    have hv2 : RV ring2 fi (w + 2) (bl q w 2 (eb N)) := RV_bl hw rfl
    refine lv_aload_n hx hb d_Ch_empty_29 rfl (lv_at hl 1 rfl) ?_
    refine lv_sipush (v := nI 192) hx hb d_Ch_empty_30 (by decide) ?_
    refine k_Vv (n := 1) (As := [.int (nI 192)]) (rest := []) (wc := [(o, .inr (0, [.ref r, .int (nI fi), .int (nI (w + 2)), .int (nI le)])), (r, .inl (ca 0, 4096, .inl ring2))]) (wr := []) (ci := 0) (q0 := 0) S0 rfl q_91 q_93 q_p1 q_3 rfl rfl q_94 (by decide +kernel) hK hP hD hS hA (c_Ch_add l D ca H.size o r fi (w + 2) le ring2 (bl q w 2 (eb N)) (nI 192) h1 (by omega) hv2) [0, 1] [] rfl rfl (by decide) (by decide) (by decide) ⟨Nat.le_of_ble_eq_true rfl, Nat.le_of_ble_eq_true rfl⟩ rfl hl.1 rfl (Nat.le_of_ble_eq_true rfl) ⟨Nat.le_of_ble_eq_true rfl, Nat.le_of_ble_eq_true rfl⟩ d_Ch_empty_33 (fun ring3 H locs hw hP hD hS => ?_)
    refine W.cs (cells' := 0) (slots' := 0) rfl rfl ?_
    have hP : va_P D classes [(o, .inr (0, [.ref r, .int (nI fi), .int (nI (w + 3)), .int (nI le)])), (r, .inl (ca 0, 4096, .inl ring3))] H := hP
    have hD : va_D A [(o, .inr (0, [.ref r, .int (nI fi), .int (nI (w + 3)), .int (nI le)])), (r, .inl (ca 0, 4096, .inl ring3))] := hD
    have hv3 : RV ring3 fi (w + 3) (bl q w 3 (eb N)) := RV_bl hw rfl
    refine lv_aload_n hx hb d_Ch_empty_36 rfl (lv_at hl 1 rfl) ?_
    refine lv_iconst (v := nI 0) hx hb d_Ch_empty_37 (by decide) ?_
    refine k_Vv (n := 1) (As := [.int (nI 0)]) (rest := []) (wc := [(o, .inr (0, [.ref r, .int (nI fi), .int (nI (w + 3)), .int (nI le)])), (r, .inl (ca 0, 4096, .inl ring3))]) (wr := []) (ci := 0) (q0 := 0) S0 rfl q_91 q_93 q_p1 q_3 rfl rfl q_94 (by decide +kernel) hK hP hD hS hA (c_Ch_add l D ca H.size o r fi (w + 3) le ring3 (bl q w 3 (eb N)) (nI 0) h1 (by omega) hv3) [0, 1] [] rfl rfl (by decide) (by decide) (by decide) ⟨Nat.le_of_ble_eq_true rfl, Nat.le_of_ble_eq_true rfl⟩ rfl hl.1 rfl (Nat.le_of_ble_eq_true rfl) ⟨Nat.le_of_ble_eq_true rfl, Nat.le_of_ble_eq_true rfl⟩ d_Ch_empty_38 (fun ring4 H locs hw hP hD hS => ?_)
    refine W.cs (cells' := 0) (slots' := 0) rfl rfl ?_
    have hP : va_P D classes [(o, .inr (0, [.ref r, .int (nI fi), .int (nI (w + 4)), .int (nI le)])), (r, .inl (ca 0, 4096, .inl ring4))] H := hP
    have hD : va_D A [(o, .inr (0, [.ref r, .int (nI fi), .int (nI (w + 4)), .int (nI le)])), (r, .inl (ca 0, 4096, .inl ring4))] := hD
    have hv4 : RV ring4 fi (w + 4) (bl q w 4 (eb N)) := RV_bl hw rfl
    refine lv_aload_n hx hb d_Ch_empty_41 rfl (lv_at hl 1 rfl) ?_
    refine lv_iload_n hx hb d_Ch_empty_42 rfl (lv_at hl 0 rfl) ?_
    refine lv_iconst (v := nI 1) hx hb d_Ch_empty_43 (by decide) ?_
    refine lz_isub hx hb (by omega) d_Ch_empty_44 ?_
    refine lv_bipush (v := nI 8) hx hb d_Ch_empty_45 (by decide) ?_
    refine lz_ishr hx hb 8 (by decide) (by omega) d_Ch_empty_47 ?_
    refine lz_top (y := nI ((N - 7) / 256)) (by rw [show N - 6 - 1 = N - 7 by omega]) ?_
    refine k_Vv (n := 1) (As := [.int (nI ((N - 7) / 256))]) (rest := []) (wc := [(o, .inr (0, [.ref r, .int (nI fi), .int (nI (w + 4)), .int (nI le)])), (r, .inl (ca 0, 4096, .inl ring4))]) (wr := []) (ci := 0) (q0 := 0) S0 rfl q_91 q_93 q_p1 q_3 rfl rfl q_94 (by decide +kernel) hK hP hD hS hA (c_Ch_add l D ca H.size o r fi (w + 4) le ring4 (bl q w 4 (eb N)) (nI ((N - 7) / 256)) h1 (by omega) hv4) [0, 1] [] rfl rfl (by decide) (by decide) (by decide) ⟨Nat.le_of_ble_eq_true rfl, Nat.le_of_ble_eq_true rfl⟩ rfl hl.1 rfl (Nat.le_of_ble_eq_true rfl) ⟨Nat.le_of_ble_eq_true rfl, Nat.le_of_ble_eq_true rfl⟩ d_Ch_empty_48 (fun ring5 H locs hw hP hD hS => ?_)
    refine W.cs (cells' := 0) (slots' := 0) rfl rfl ?_
    have hP : va_P D classes [(o, .inr (0, [.ref r, .int (nI fi), .int (nI (w + 5)), .int (nI le)])), (r, .inl (ca 0, 4096, .inl ring5))] H := hP
    have hD : va_D A [(o, .inr (0, [.ref r, .int (nI fi), .int (nI (w + 5)), .int (nI le)])), (r, .inl (ca 0, 4096, .inl ring5))] := hD
    have hv5 : RV ring5 fi (w + 5) (bl q w 5 (eb N)) := RV_bl hw rfl
    refine lv_aload_n hx hb d_Ch_empty_51 rfl (lv_at hl 1 rfl) ?_
    refine lv_iload_n hx hb d_Ch_empty_52 rfl (lv_at hl 0 rfl) ?_
    refine lv_iconst (v := nI 1) hx hb d_Ch_empty_53 (by decide) ?_
    refine lz_isub hx hb (by omega) d_Ch_empty_54 ?_
    refine lz_top (y := nI (N - 7)) (by rw [show N - 6 - 1 = N - 7 by omega]) ?_
    refine k_Vv (n := 1) (As := [.int (nI (N - 7))]) (rest := []) (wc := [(o, .inr (0, [.ref r, .int (nI fi), .int (nI (w + 5)), .int (nI le)])), (r, .inl (ca 0, 4096, .inl ring5))]) (wr := []) (ci := 0) (q0 := 0) S0 rfl q_91 q_93 q_p1 q_3 rfl rfl q_94 (by decide +kernel) hK hP hD hS hA (c_Ch_add l D ca H.size o r fi (w + 5) le ring5 (bl q w 5 (eb N)) (nI (N - 7)) h1 (by omega) hv5) [0, 1] [] rfl rfl (by decide) (by decide) (by decide) ⟨Nat.le_of_ble_eq_true rfl, Nat.le_of_ble_eq_true rfl⟩ rfl hl.1 rfl (Nat.le_of_ble_eq_true rfl) ⟨Nat.le_of_ble_eq_true rfl, Nat.le_of_ble_eq_true rfl⟩ d_Ch_empty_55 (fun ring6 H locs hw hP hD hS => ?_)
    refine W.cs (cells' := 0) (slots' := 0) rfl rfl ?_
    have hP : va_P D classes [(o, .inr (0, [.ref r, .int (nI fi), .int (nI (w + 6)), .int (nI le)])), (r, .inl (ca 0, 4096, .inl ring6))] H := hP
    have hD : va_D A [(o, .inr (0, [.ref r, .int (nI fi), .int (nI (w + 6)), .int (nI le)])), (r, .inl (ca 0, 4096, .inl ring6))] := hD
    have hv6 : RV ring6 fi (w + 6) (bl q w 6 (eb N)) := RV_bl hw rfl
    refine lv_iconst (v := nI 0) hx hb d_Ch_empty_58 (by decide) ?_
    refine lv_istore_n (lv' := [(3, .int (nI 0)), (2, .int (nI (N - 6))), (0, .ref o), (1, .int (nI n))]) hx hb d_Ch_empty_59 rfl hl (by decide) rfl (fun ls hl => ?_)
    refine lp_Ch_empty o r fi w le N q h1 h2 h3 S0 hK hA (fun ring H locs ls hv hP hD hS hl => ?_) (N + 1) 0 ring6 _ _ ls (by omega) (by omega) hv6 hP hD hS (lv_sub hl [0, 2, 1] rfl)
    exact k_vret hx hb hr hlk (ring) (hv) hP hD hS d_Ch_empty_77
  · refine lz_icmp_ge (tgt := 11) hx hb (by omega) (by omega) d_Ch_empty_3 (by decide) (fun h4 => ?_) (fun h4 => ?_)
    · refine lv_iload_n hx hb d_Ch_empty_11 rfl (lv_at hl 1 rfl) ?_
      refine lz_top (y := nI N) (by rw [hN, if_neg (by omega)]) ?_
      exact tail
    · refine lv_bipush (v := nI 7) hx hb d_Ch_empty_6 (by decide) ?_
      refine lv_goto (tgt := 12) hx hb d_Ch_empty_8 (by decide) ?_
      refine lz_top (y := nI N) (by rw [hN, if_pos h4]) ?_
      exact tail
end
section
set_option maxHeartbeats 1000000 in
set_option maxRecDepth 100000 in
theorem fl_72 {p : Program} {l : Launch} {e : Env} {s : State} {m : MethodId} {args : Array Value} {below : List Frame} {meth : Method} {c : Code} {Q : State → Prop} {D : va_G} {ca : Nat → ClassId} {A : Nat → Prop} {H0 : Heap} (o r t fm un F L : Nat) (h1 : un = fm + F) (h2 : un ≤ L) (h3 : L ≤ 256) (j fi sz le : Nat) (ring rw_ : Nat → Int32) (b : Int32) (h4 : fi < 4096) (h5 : j < F) (h6 : 0 < sz) (h7 : 0 < le) (h8 : sz ≤ 4096) (S0 : CallFix p m c b_Ch_fill 6 s args gd_tbl "DownFrames$Channel") (hK : PW D ca s) (hA : ∀ q, H0.size ≤ q → A q) (kk : ∀  (H : Heap) (locs : List Loc) (ls : Array Slot), va_P D classes [(o, .inr (0, [.ref r, .int (nI ((fi + 1) % 4096)), .int (nI (sz - 1)), .int (nI (le - 1))])), (r, .inl (ca 0, 4096, .inl ring)), (t, .inl (ca 0, L, .inl (upd rw_ (fm + j) (bz (ring fi)))))] H → va_D A [(o, .inr (0, [.ref r, .int (nI ((fi + 1) % 4096)), .int (nI (sz - 1)), .int (nI (le - 1))])), (r, .inl (ca 0, 4096, .inl ring)), (t, .inl (ca 0, L, .inl (upd rw_ (fm + j) (bz (ring fi)))))] → va_S A H0 H locs → lv_has ls 6 [(5, .int (nI (fm + j + 1))), (0, .ref o), (1, .ref t), (2, .int (nI fm)), (3, .int (nI un)), (4, .int b)] → W p l e ({ frames := 2, cells := 0, slots := 0, locals := 44 } : Room) s m args below meth c H locs 0 0 Q (F0 m 6 ls [])) (H : Heap) (locs : List Loc) (ls : Array Slot) (hP : va_P D classes [(o, .inr (0, [.ref r, .int (nI fi), .int (nI sz), .int (nI le)])), (r, .inl (ca 0, 4096, .inl ring)), (t, .inl (ca 0, L, .inl rw_))] H) (hD : va_D A [(o, .inr (0, [.ref r, .int (nI fi), .int (nI sz), .int (nI le)])), (r, .inl (ca 0, 4096, .inl ring)), (t, .inl (ca 0, L, .inl rw_))]) (hS : va_S A H0 H locs) (hl : lv_has ls 6 [(5, .int (nI (fm + j))), (0, .ref o), (1, .ref t), (2, .int (nI fm)), (3, .int (nI un)), (4, .int b)]) : W p l e ({ frames := 2, cells := 0, slots := 0, locals := 44 } : Room) s m args below meth c H locs 0 0 Q (F0 m 72 ls []) := by
  have hx := S0.1
  have hb := S0.2.1
  refine lv_aload_n hx hb d_Ch_fill_72 rfl (lv_at hl 2 rfl) ?_
  refine lv_iload hx hb d_Ch_fill_73 (lv_at hl 0 rfl) ?_
  refine lv_aload_n hx hb d_Ch_fill_75 rfl (lv_at hl 1 rfl) ?_
  refine gf_Ch_11 (q0 := 0) S0 hK hP rfl rfl d_Ch_fill_76 ?_
  refine lv_aload_n hx hb d_Ch_fill_79 rfl (lv_at hl 1 rfl) ?_
  refine gf_Ch_19 (q0 := 0) S0 hK hP rfl rfl d_Ch_fill_80 ?_
  refine lz_bald (i := fi) hx hb hK.1 hP 1 0 rfl rfl (h4) (by decide) d_Ch_fill_83 ?_
  refine lz_bast (i := fm + j) hx hb hK.1 hP hD hS 2 0 rfl rfl (by omega) (by omega) d_Ch_fill_84 (fun H locs hP hD hS => ?_)
  have hP : va_P D classes [(o, .inr (0, [.ref r, .int (nI fi), .int (nI sz), .int (nI le)])), (r, .inl (ca 0, 4096, .inl ring)), (t, .inl (ca 0, L, .inl (upd rw_ (fm + j) (bz (ring fi)))))] H := hP
  have hD : va_D A [(o, .inr (0, [.ref r, .int (nI fi), .int (nI sz), .int (nI le)])), (r, .inl (ca 0, 4096, .inl ring)), (t, .inl (ca 0, L, .inl (upd rw_ (fm + j) (bz (ring fi)))))] := hD
  refine lv_aload_n hx hb d_Ch_fill_85 rfl (lv_at hl 1 rfl) ?_
  refine lv_aload_n hx hb d_Ch_fill_86 rfl (lv_at hl 1 rfl) ?_
  refine gf_Ch_19 (q0 := 0) S0 hK hP rfl rfl d_Ch_fill_87 ?_
  refine lv_iconst (v := nI 1) hx hb d_Ch_fill_90 (by decide) ?_
  refine lz_iadd hx hb d_Ch_fill_91 ?_
  refine lv_sipush (v := nI 4096) hx hb d_Ch_fill_92 (by decide) ?_
  refine lz_irem hx hb (by omega) (by decide) (by decide) d_Ch_fill_95 ?_
  refine pf_Ch_19 (q0 := 0) S0 hK hP hD hS rfl rfl rfl (Nat.le_of_ble_eq_true rfl) d_Ch_fill_96 (fun H locs hP hD hS => ?_)
  have hP : va_P D classes [(o, .inr (0, [.ref r, .int (nI ((fi + 1) % 4096)), .int (nI sz), .int (nI le)])), (r, .inl (ca 0, 4096, .inl ring)), (t, .inl (ca 0, L, .inl (upd rw_ (fm + j) (bz (ring fi)))))] H := hP
  have hD : va_D A [(o, .inr (0, [.ref r, .int (nI ((fi + 1) % 4096)), .int (nI sz), .int (nI le)])), (r, .inl (ca 0, 4096, .inl ring)), (t, .inl (ca 0, L, .inl (upd rw_ (fm + j) (bz (ring fi)))))] := hD
  refine lv_aload_n hx hb d_Ch_fill_99 rfl (lv_at hl 1 rfl) ?_
  refine lv_dup hx hb d_Ch_fill_100 rfl ?_
  refine gf_Ch_15 (q0 := 0) S0 hK hP rfl rfl d_Ch_fill_101 ?_
  refine lv_iconst (v := nI 1) hx hb d_Ch_fill_104 (by decide) ?_
  refine lz_isub hx hb (by omega) d_Ch_fill_105 ?_
  refine pf_Ch_15 (q0 := 0) S0 hK hP hD hS rfl rfl rfl (Nat.le_of_ble_eq_true rfl) d_Ch_fill_106 (fun H locs hP hD hS => ?_)
  have hP : va_P D classes [(o, .inr (0, [.ref r, .int (nI ((fi + 1) % 4096)), .int (nI (sz - 1)), .int (nI le)])), (r, .inl (ca 0, 4096, .inl ring)), (t, .inl (ca 0, L, .inl (upd rw_ (fm + j) (bz (ring fi)))))] H := hP
  have hD : va_D A [(o, .inr (0, [.ref r, .int (nI ((fi + 1) % 4096)), .int (nI (sz - 1)), .int (nI le)])), (r, .inl (ca 0, 4096, .inl ring)), (t, .inl (ca 0, L, .inl (upd rw_ (fm + j) (bz (ring fi)))))] := hD
  refine lv_aload_n hx hb d_Ch_fill_109 rfl (lv_at hl 1 rfl) ?_
  refine lv_dup hx hb d_Ch_fill_110 rfl ?_
  refine gf_Ch_26 (q0 := 0) S0 hK hP rfl rfl d_Ch_fill_111 ?_
  refine lv_iconst (v := nI 1) hx hb d_Ch_fill_114 (by decide) ?_
  refine lz_isub hx hb (by omega) d_Ch_fill_115 ?_
  refine pf_Ch_26 (q0 := 0) S0 hK hP hD hS rfl rfl rfl (Nat.le_of_ble_eq_true rfl) d_Ch_fill_116 (fun H locs hP hD hS => ?_)
  have hP : va_P D classes [(o, .inr (0, [.ref r, .int (nI ((fi + 1) % 4096)), .int (nI (sz - 1)), .int (nI (le - 1))])), (r, .inl (ca 0, 4096, .inl ring)), (t, .inl (ca 0, L, .inl (upd rw_ (fm + j) (bz (ring fi)))))] H := hP
  have hD : va_D A [(o, .inr (0, [.ref r, .int (nI ((fi + 1) % 4096)), .int (nI (sz - 1)), .int (nI (le - 1))])), (r, .inl (ca 0, 4096, .inl ring)), (t, .inl (ca 0, L, .inl (upd rw_ (fm + j) (bz (ring fi)))))] := hD
  refine lv_iinc (v := nI (fm + j + 1)) (lv' := [(5, .int (nI (fm + j + 1))), (0, .ref o), (1, .ref t), (2, .int (nI fm)), (3, .int (nI un)), (4, .int b)]) hx hb d_Ch_fill_119 hl (k := 0) rfl (nI_inc _) (by decide) rfl (fun ls hl => ?_)
  refine lv_goto (tgt := 6) hx hb d_Ch_fill_122 (by decide) ?_
  exact kk H locs ls hP hD hS (lv_sub hl [0, 1, 2, 3, 4, 5] rfl)
set_option maxHeartbeats 1000000 in
set_option maxRecDepth 100000 in
theorem fl_34 {p : Program} {l : Launch} {e : Env} {s : State} {m : MethodId} {args : Array Value} {below : List Frame} {meth : Method} {c : Code} {Q : State → Prop} {D : va_G} {ca : Nat → ClassId} {A : Nat → Prop} {H0 : Heap} (o r t fm un F L : Nat) (h1 : un = fm + F) (h2 : un ≤ L) (h3 : L ≤ 256) (j fi sz le : Nat) (ring rw_ : Nat → Int32) (b : Int32) (h5 : j < F) (S0 : CallFix p m c b_Ch_fill 6 s args gd_tbl "DownFrames$Channel") (hK : PW D ca s) (hA : ∀ q, H0.size ≤ q → A q) (kk : ∀ (b2 : Int32) (H : Heap) (locs : List Loc) (ls : Array Slot), ((b = -1 ∧ b2 = nI j) ∨ (¬ b = -1 ∧ b2 = b)) → va_P D classes [(o, .inr (0, [.ref r, .int (nI fi), .int (nI sz), .int (nI le)])), (r, .inl (ca 0, 4096, .inl ring)), (t, .inl (ca 0, L, .inl rw_))] H → va_D A [(o, .inr (0, [.ref r, .int (nI fi), .int (nI sz), .int (nI le)])), (r, .inl (ca 0, 4096, .inl ring)), (t, .inl (ca 0, L, .inl rw_))] → va_S A H0 H locs → lv_has ls 6 [(5, .int (nI (fm + j))), (0, .ref o), (1, .ref t), (2, .int (nI fm)), (3, .int (nI un)), (4, .int b2)] → W p l e ({ frames := 2, cells := 0, slots := 0, locals := 44 } : Room) s m args below meth c H locs 0 0 Q (F0 m 51 ls [])) (H : Heap) (locs : List Loc) (ls : Array Slot) (hP : va_P D classes [(o, .inr (0, [.ref r, .int (nI fi), .int (nI sz), .int (nI le)])), (r, .inl (ca 0, 4096, .inl ring)), (t, .inl (ca 0, L, .inl rw_))] H) (hD : va_D A [(o, .inr (0, [.ref r, .int (nI fi), .int (nI sz), .int (nI le)])), (r, .inl (ca 0, 4096, .inl ring)), (t, .inl (ca 0, L, .inl rw_))]) (hS : va_S A H0 H locs) (hl : lv_has ls 6 [(5, .int (nI (fm + j))), (0, .ref o), (1, .ref t), (2, .int (nI fm)), (3, .int (nI un)), (4, .int b)]) : W p l e ({ frames := 2, cells := 0, slots := 0, locals := 44 } : Room) s m args below meth c H locs 0 0 Q (F0 m 34 ls []) := by
  have hx := S0.1
  have hb := S0.2.1
  refine lv_iload hx hb d_Ch_fill_34 (lv_at hl 5 rfl) ?_
  refine lv_iconst (v := (-1)) hx hb d_Ch_fill_36 (by decide) ?_
  refine lv_icmp_ne (tgt := 47) hx hb d_Ch_fill_37 (by decide) (fun h9 => ?_) (fun h9 => ?_)
  · refine lv_iload hx hb d_Ch_fill_47 (lv_at hl 5 rfl) ?_
    refine lv_istore (lv' := [(4, .int b), (5, .int (nI (fm + j))), (0, .ref o), (1, .ref t), (2, .int (nI fm)), (3, .int (nI un))]) hx hb d_Ch_fill_49 hl (by decide) rfl (fun ls hl => ?_)
    exact kk b H locs ls (Or.inr ⟨h9, rfl⟩) hP hD hS (lv_sub hl [1, 2, 3, 4, 5, 0] rfl)
  · refine lv_iload hx hb d_Ch_fill_40 (lv_at hl 0 rfl) ?_
    refine lv_iload_n hx hb d_Ch_fill_42 rfl (lv_at hl 3 rfl) ?_
    refine lz_isub hx hb (by omega) d_Ch_fill_43 ?_
    refine lz_top (y := nI j) (by rw [show fm + j - fm = j by omega]) ?_
    refine lv_goto (tgt := 49) hx hb d_Ch_fill_44 (by decide) ?_
    refine lv_istore (lv' := [(4, .int (nI j)), (5, .int (nI (fm + j))), (0, .ref o), (1, .ref t), (2, .int (nI fm)), (3, .int (nI un))]) hx hb d_Ch_fill_49 hl (by decide) rfl (fun ls hl => ?_)
    exact kk (nI j) H locs ls (Or.inl ⟨h9, rfl⟩) hP hD hS (lv_sub hl [1, 2, 3, 4, 5, 0] rfl)
set_option maxHeartbeats 1000000 in
set_option maxRecDepth 100000 in
theorem fl_51 {p : Program} {l : Launch} {e : Env} {s : State} {m : MethodId} {args : Array Value} {below : List Frame} {meth : Method} {c : Code} {Q : State → Prop} {D : va_G} {ca : Nat → ClassId} {A : Nat → Prop} {H0 : Heap} (o r t fm un F L : Nat) (h1 : un = fm + F) (h2 : un ≤ L) (h3 : L ≤ 256) (j fi sz le le2 : Nat) (ring rw_ : Nat → Int32) (b : Int32) (h4 : fi < 4096) (hle : le2 = 7 + (ub (ring ((fi + 4) % 4096)) * 256 + ub (ring ((fi + 5) % 4096)))) (S0 : CallFix p m c b_Ch_fill 6 s args gd_tbl "DownFrames$Channel") (hK : PW D ca s) (hA : ∀ q, H0.size ≤ q → A q) (kk : ∀  (H : Heap) (locs : List Loc) (ls : Array Slot), va_P D classes [(o, .inr (0, [.ref r, .int (nI fi), .int (nI sz), .int (nI le2)])), (r, .inl (ca 0, 4096, .inl ring)), (t, .inl (ca 0, L, .inl rw_))] H → va_D A [(o, .inr (0, [.ref r, .int (nI fi), .int (nI sz), .int (nI le2)])), (r, .inl (ca 0, 4096, .inl ring)), (t, .inl (ca 0, L, .inl rw_))] → va_S A H0 H locs → lv_has ls 6 [(5, .int (nI (fm + j))), (0, .ref o), (1, .ref t), (2, .int (nI fm)), (3, .int (nI un)), (4, .int b)] → W p l e ({ frames := 2, cells := 0, slots := 0, locals := 44 } : Room) s m args below meth c H locs 0 0 Q (F0 m 72 ls [])) (H : Heap) (locs : List Loc) (ls : Array Slot) (hP : va_P D classes [(o, .inr (0, [.ref r, .int (nI fi), .int (nI sz), .int (nI le)])), (r, .inl (ca 0, 4096, .inl ring)), (t, .inl (ca 0, L, .inl rw_))] H) (hD : va_D A [(o, .inr (0, [.ref r, .int (nI fi), .int (nI sz), .int (nI le)])), (r, .inl (ca 0, 4096, .inl ring)), (t, .inl (ca 0, L, .inl rw_))]) (hS : va_S A H0 H locs) (hl : lv_has ls 6 [(5, .int (nI (fm + j))), (0, .ref o), (1, .ref t), (2, .int (nI fm)), (3, .int (nI un)), (4, .int b)]) : W p l e ({ frames := 2, cells := 0, slots := 0, locals := 44 } : Room) s m args below meth c H locs 0 0 Q (F0 m 51 ls []) := by
  have hx := S0.1
  have hb := S0.2.1
  refine lv_aload_n hx hb d_Ch_fill_51 rfl (lv_at hl 1 rfl) ?_
  refine lv_bipush (v := nI 7) hx hb d_Ch_fill_52 (by decide) ?_
  refine lv_aload_n hx hb d_Ch_fill_54 rfl (lv_at hl 1 rfl) ?_
  refine lv_iconst (v := nI 4) hx hb d_Ch_fill_55 (by decide) ?_
  refine k_Vi (n := 1) (As := [.int (nI 4)]) (rest := [.int (nI 7), .ref o]) (wc := [(o, .inr (0, [.ref r, .int (nI fi), .int (nI sz), .int (nI le)])), (r, .inl (ca 0, 4096, .inl ring))]) (wr := [(t, .inl (ca 0, L, .inl rw_))]) (ci := 0) (q0 := 0) S0 rfl q_115 q_117 q_p4 q_3 rfl rfl q_118 (by decide +kernel) hK hP hD hS hA (c_Ch_peek l D ca H.size o r fi sz le 4 ring h4 (by decide)) [0, 1] [2] rfl rfl (by decide) (by decide) (by decide) ⟨Nat.le_of_ble_eq_true rfl, Nat.le_of_ble_eq_true rfl⟩ rfl hl.1 rfl (Nat.le_of_ble_eq_true rfl) ⟨Nat.le_of_ble_eq_true rfl, Nat.le_of_ble_eq_true rfl⟩ d_Ch_fill_56 (fun r1 u1 H locs hw hP hD hS => ?_)
  refine W.cs (cells' := 0) (slots' := 0) rfl rfl ?_
  subst hw
  have hP : va_P D classes [(t, .inl (ca 0, L, .inl rw_)), (o, .inr (0, [.ref r, .int (nI fi), .int (nI sz), .int (nI le)])), (r, .inl (ca 0, 4096, .inl ring))] H := hP
  have hD : va_D A [(t, .inl (ca 0, L, .inl rw_)), (o, .inr (0, [.ref r, .int (nI fi), .int (nI sz), .int (nI le)])), (r, .inl (ca 0, 4096, .inl ring))] := hD
  have hu4 := ub_lt (ring ((fi + 4) % 4096))
  refine lv_bipush (v := nI 8) hx hb d_Ch_fill_59 (by decide) ?_
  refine lz_ishl hx hb 8 (by decide) (by omega) d_Ch_fill_61 ?_
  refine lv_aload_n hx hb d_Ch_fill_62 rfl (lv_at hl 1 rfl) ?_
  refine lv_iconst (v := nI 5) hx hb d_Ch_fill_63 (by decide) ?_
  refine k_Vi (n := 1) (As := [.int (nI 5)]) (rest := [.int (nI ((ub (ring ((fi + 4) % 4096))) * 2 ^ 8)), .int (nI 7), .ref o]) (wc := [(o, .inr (0, [.ref r, .int (nI fi), .int (nI sz), .int (nI le)])), (r, .inl (ca 0, 4096, .inl ring))]) (wr := [(t, .inl (ca 0, L, .inl rw_))]) (ci := 0) (q0 := 0) S0 rfl q_115 q_117 q_p4 q_3 rfl rfl q_118 (by decide +kernel) hK hP hD hS hA (c_Ch_peek l D ca H.size o r fi sz le 5 ring h4 (by decide)) [1, 2] [0] rfl rfl (by decide) (by decide) (by decide) ⟨Nat.le_of_ble_eq_true rfl, Nat.le_of_ble_eq_true rfl⟩ rfl hl.1 rfl (Nat.le_of_ble_eq_true rfl) ⟨Nat.le_of_ble_eq_true rfl, Nat.le_of_ble_eq_true rfl⟩ d_Ch_fill_64 (fun r1 u1 H locs hw hP hD hS => ?_)
  refine W.cs (cells' := 0) (slots' := 0) rfl rfl ?_
  subst hw
  have hP : va_P D classes [(t, .inl (ca 0, L, .inl rw_)), (o, .inr (0, [.ref r, .int (nI fi), .int (nI sz), .int (nI le)])), (r, .inl (ca 0, 4096, .inl ring))] H := hP
  have hD : va_D A [(t, .inl (ca 0, L, .inl rw_)), (o, .inr (0, [.ref r, .int (nI fi), .int (nI sz), .int (nI le)])), (r, .inl (ca 0, 4096, .inl ring))] := hD
  have hu5 := ub_lt (ring ((fi + 5) % 4096))
  refine lv_ior hx hb d_Ch_fill_67 ?_
  refine lz_top (y := nI (ub (ring ((fi + 4) % 4096)) * 256 + ub (ring ((fi + 5) % 4096)))) (by rw [nI_or, or_lo (by omega)]) ?_
  refine lz_iadd hx hb d_Ch_fill_68 ?_
  refine lz_top (y := nI le2) (by rw [hle]) ?_
  refine pf_Ch_26 (q0 := 1) S0 hK hP hD hS rfl rfl rfl (Nat.le_of_ble_eq_true rfl) d_Ch_fill_69 (fun H locs hP hD hS => ?_)
  have hP : va_P D classes [(t, .inl (ca 0, L, .inl rw_)), (o, .inr (0, [.ref r, .int (nI fi), .int (nI sz), .int (nI le2)])), (r, .inl (ca 0, 4096, .inl ring))] H := hP
  have hD : va_D A [(t, .inl (ca 0, L, .inl rw_)), (o, .inr (0, [.ref r, .int (nI fi), .int (nI sz), .int (nI le2)])), (r, .inl (ca 0, 4096, .inl ring))] := hD
  exact kk H locs ls (hP.sub [1, 2, 0] rfl) (hD.sub [1, 2, 0] (by decide) rfl) hS (lv_sub hl [0, 1, 2, 3, 4, 5] rfl)
end
section
/-! the loop of Channel.fill: what holds at its head -/
def fB (g : Nat → Int32) (j : Nat) (b : Int32) : Prop := (b = -1 ∧ ∀ i, i < j → g i = nI 0) ∨ ∃ k, k < j ∧ b = nI k ∧ (¬ g k = nI 0) ∧ ∀ i, i < k → g i = nI 0
def FI (q g : Nat → Int32) (w F j : Nat) (qs gs : Nat → Int32) (ws : Nat) (ring : Nat → Int32) (fi sz le : Nat) (b : Int32) : Prop :=
  ((qs = q ∧ gs = g ∧ ws = w) ∨ (w < F ∧ qs = qx q w F ∧ gs = gx g w F ∧ ws = wx w F)) ∧ j ≤ ws ∧ ws ≤ 4096 ∧ sz = ws - j ∧ fi < 4096 ∧ RV ring fi sz (fun k => qs (k + j)) ∧ PK (fun k => qs (k + j)) (fun k => gs (k + j)) sz le ∧ fB gs j b
theorem nI10 : ¬ nI 1 = nI 0 := by decide +kernel
theorem nIm1 {k : Nat} (h : k < 2 ^ 31) : ¬ nI k = -1 := by
  intro e
  have h1 := nI_toInt h
  rw [e] at h1
  have h2 : (-1 : Int32).toInt = -1 := by decide +kernel
  omega
theorem fB_z {g : Nat → Int32} {j : Nat} {b : Int32} (h : fB g j b) (hg : g j = nI 0) : fB g (j + 1) b := by
  rcases h with ⟨h1, h2⟩ | ⟨k, h1, h2, h3, h4⟩
  · refine Or.inl ⟨h1, fun i hi => ?_⟩
    by_cases e : i = j
    · rw [e]; exact hg
    · exact h2 i (by omega)
  · exact Or.inr ⟨k, by omega, h2, h3, h4⟩
theorem fB_o {g : Nat → Int32} {j : Nat} {b b2 : Int32} (hj : j < 2 ^ 31) (h : fB g j b) (hg : g j = nI 1) (hb : (b = -1 ∧ b2 = nI j) ∨ (¬ b = -1 ∧ b2 = b)) : fB g (j + 1) b2 := by
  rcases h with ⟨h1, h2⟩ | ⟨k, h1, h2, h3, h4⟩
  · rcases hb with ⟨_, e⟩ | ⟨e, _⟩
    · exact Or.inr ⟨j, by omega, e, by rw [hg]; exact nI10, h2⟩
    · exact absurd h1 e
  · rcases hb with ⟨e, _⟩ | ⟨_, e⟩
    · exact absurd (h2.symm.trans e) (nIm1 (by omega))
    · exact Or.inr ⟨k, by omega, e.trans h2, h3, h4⟩
theorem fB_congr {g g' : Nat → Int32} {j : Nat} {b : Int32} (h : fB g j b) (e : ∀ i, i < j → g i = g' i) : fB g' j b := by
  rcases h with ⟨h1, h2⟩ | ⟨k, h1, h2, h3, h4⟩
  · exact Or.inl ⟨h1, fun i hi => by rw [← e i hi]; exact h2 i hi⟩
  · exact Or.inr ⟨k, h1, h2, by rw [← e k h1]; exact h3, fun i hi => by rw [← e i (by omega)]; exact h4 i hi⟩
theorem fB_isF {g : Nat → Int32} {n : Nat} {b : Int32} (h : fB g n b) : ∃ k, isF g n k ∧ b = if k < n then nI k else -1 := by
  rcases h with ⟨h1, h2⟩ | ⟨k, h1, h2, h3, h4⟩
  · exact ⟨n, ⟨Nat.le_refl n, h2, fun h => absurd h (Nat.lt_irrefl n)⟩, by rw [if_neg (Nat.lt_irrefl n)]; exact h1⟩
  · exact ⟨k, ⟨by omega, h4, fun _ => h3⟩, by rw [if_pos h1]; exact h2⟩
theorem FI_gs {q g qs gs ring : Nat → Int32} {w F j ws fi sz le : Nat} {b : Int32} (h : FI q g w F j qs gs ws ring fi sz le b) (hs : 0 < sz) : (0 < le → gs j = nI 0) ∧ (le = 0 → gs j = nI 1) := by
  obtain ⟨-, -, -, -, -, -, ⟨-, p2, p3, -⟩, -⟩ := h
  refine ⟨fun hl => ?_, fun hl => ?_⟩
  · have : gs (0 + j) = nI 0 := p2 0 hl
    rwa [Nat.zero_add] at this
  · subst hl
    have : gs (0 + j) = nI 1 := p3 hs
    rwa [Nat.zero_add] at this
theorem FI_step {q g qs gs ring : Nat → Int32} {w F j ws fi sz le le2 : Nat} {b b2 : Int32} (hj : j < F) (hF : F ≤ 256) (h : FI q g w F j qs gs ws ring fi sz le b) (hs : 0 < sz) (hl : (0 < le ∧ le2 = le ∧ b2 = b) ∨ (le = 0 ∧ le2 = qlen (fun k => qs (k + j)) 0 ∧ ((b = -1 ∧ b2 = nI j) ∨ (¬ b = -1 ∧ b2 = b)))) : 0 < le2 ∧ FI q g w F (j + 1) qs gs ws ring ((fi + 1) % 4096) (sz - 1) (le2 - 1) b2 ∧ bz (ring fi) = bz (qs j) := by
  have hg := FI_gs h hs
  obtain ⟨h1, h2, h3, h4, h5, h6, h7, h8⟩ := h
  have hp := PK_pop (le := le2) hs h7 (by rcases hl with ⟨a, c, -⟩ | ⟨a, c, -⟩; exact Or.inl ⟨a, c⟩; exact Or.inr ⟨a, c⟩)
  refine ⟨hp.1, ⟨h1, by omega, h3, by omega, Nat.mod_lt _ (by decide), ?_, ?_, ?_⟩, ?_⟩
  · refine RV_congr (RV_pop h6 hs) (fun k _ => ?_)
    show qs (k + 1 + j) = qs (k + (j + 1))
    congr 1; omega
  · refine PK_congr hp.2.2 (fun k _ => ?_) (fun k _ => ?_)
    · show qs (k + 1 + j) = qs (k + (j + 1))
      congr 1; omega
    · show gs (k + 1 + j) = gs (k + (j + 1))
      congr 1; omega
  · rcases hl with ⟨a, -, c⟩ | ⟨a, -, c⟩
    · rw [c]; exact fB_z h8 (hg.1 a)
    · exact fB_o (by omega) h8 (hg.2 a) c
  · have e := h6 0 hs
    rw [Nat.add_zero, Nat.mod_eq_of_lt h5] at e
    rw [e]
    show bz (qs (0 + j)) = _
    rw [Nat.zero_add]
theorem FI_A {q g qs gs ring : Nat → Int32} {w F j ws fi sz le : Nat} {b : Int32} (hj : j < F) (h : FI q g w F j qs gs ws ring fi sz le b) (hs : sz = 0) : w = j ∧ qs = q ∧ gs = g ∧ le = 0 := by
  obtain ⟨h1, h2, h3, h4, h5, h6, h7, h8⟩ := h
  have hl : le = 0 := by have := h7.1; omega
  rcases h1 with ⟨a1, a2, a3⟩ | ⟨a0, a1, a2, a3⟩
  · exact ⟨by omega, a1, a2, hl⟩
  · have := (wx_ge w F).1
    omega
theorem qx_lo {q : Nat → Int32} {w F k : Nat} (h : k < w) : qx q w F k = q k := by
  unfold qx
  split
  · exact bl_out (by omega)
  · rfl
theorem gx_lo {g : Nat → Int32} {w F k : Nat} (h : k < w) : gx g w F k = g k := by
  unfold gx
  split
  · exact bl_out (by omega)
  · rfl
theorem ne_alt (F w : Nat) : ne F w = if F - w < 7 then 7 else F - w := by
  unfold ne
  split <;> split <;> omega
theorem FI_switch {q g qs gs ring ring2 : Nat → Int32} {w F j ws fi sz le N : Nat} {b : Int32} (hj : j < F) (hF : F ≤ 256) (h : FI q g w F j qs gs ws ring fi sz le b) (hs : sz = 0) (hN : N = ne F w) (hr : RV ring2 fi (0 + N) (bl (fun k => qs (k + j)) 0 N (eb N))) : FI q g w F j (qx q w F) (gx g w F) (wx w F) ring2 fi N 0 b := by
  obtain ⟨e1, e2, e3, e4⟩ := FI_A hj h hs
  obtain ⟨h1, h2, h3, h4, h5, h6, h7, h8⟩ := h
  subst e1; subst e2; subst e3; subst hN
  have hq : ∀ k, k < ne F w → bl (fun k => qs (k + w)) 0 (ne F w) (eb (ne F w)) k = qx qs w F (k + w) := by
    intro k hk
    unfold qx
    rw [if_pos hj, bl_in (by omega) (by omega), bl_in (by omega) (by omega)]
    congr 1; omega
  have hg : ∀ k, k < ne F w → bl (fun k => gs (k + w)) 0 (ne F w) fl k = gx gs w F (k + w) := by
    intro k hk
    unfold gx
    rw [if_pos hj, bl_in (by omega) (by omega), bl_in (by omega) (by omega)]
    congr 1; omega
  have hle := ne_le F w
  have hw : wx w F = w + ne F w := if_pos hj
  refine ⟨Or.inr ⟨hj, rfl, rfl, rfl⟩, by omega, by omega, by omega, h5, ?_, ?_, fB_congr h8 (fun i hi => (gx_lo hi).symm)⟩
  · rw [Nat.zero_add] at hr
    exact RV_congr hr hq
  · have hp := PK_app (q := fun k => qs (k + w)) (g := fun k => gs (k + w)) (PK_0 _ _) (eb_len (ne_ge F w) (by omega))
    rw [Nat.zero_add] at hp
    exact PK_congr hp hq hg
theorem FI_exit {q g qs gs ring : Nat → Int32} {w F ws fi sz le : Nat} {b : Int32} (h : FI q g w F F qs gs ws ring fi sz le b) : qs = qx q w F ∧ gs = gx g w F ∧ ws = wx w F := by
  obtain ⟨h1, h2, -⟩ := h
  rcases h1 with ⟨a1, a2, a3⟩ | ⟨a0, a1, a2, a3⟩
  · have hn : ¬ w < F := by omega
    refine ⟨?_, ?_, ?_⟩
    · unfold qx; rw [if_neg hn]; exact a1
    · unfold gx; rw [if_neg hn]; exact a2
    · unfold wx; rw [if_neg hn]; exact a3
  · exact ⟨a1, a2, a3⟩
set_option maxHeartbeats 1000000 in
set_option maxRecDepth 100000 in
theorem fl_34h {p : Program} {l : Launch} {e : Env} {s : State} {m : MethodId} {args : Array Value} {below : List Frame} {meth : Method} {c : Code} {Q : State → Prop} {D : va_G} {ca : Nat → ClassId} {A : Nat → Prop} {H0 : Heap} (o r t fm un F L : Nat) (h1 : un = fm + F) (h2 : un ≤ L) (h3 : L ≤ 256) (w : Nat) (q g row : Nat → Int32) (j ws fi sz : Nat) (qs gs ring : Nat → Int32) (b : Int32) (h5 : j < F) (h6 : 0 < sz) (hI : FI q g w F j qs gs ws ring fi sz 0 b) (S0 : CallFix p m c b_Ch_fill 6 s args gd_tbl "DownFrames$Channel") (hK : PW D ca s) (hA : ∀ q, H0.size ≤ q → A q) (kk : ∀ (le : Nat) (b : Int32) (H : Heap) (locs : List Loc) (ls : Array Slot), FI q g w F (j + 1) qs gs ws ring ((fi + 1) % 4096) (sz - 1) le b → va_P D classes [(o, .inr (0, [.ref r, .int (nI ((fi + 1) % 4096)), .int (nI (sz - 1)), .int (nI le)])), (r, .inl (ca 0, 4096, .inl ring)), (t, .inl (ca 0, L, .inl (bl row fm (j + 1) (fun k => bz (qs k)))))] H → va_D A [(o, .inr (0, [.ref r, .int (nI ((fi + 1) % 4096)), .int (nI (sz - 1)), .int (nI le)])), (r, .inl (ca 0, 4096, .inl ring)), (t, .inl (ca 0, L, .inl (bl row fm (j + 1) (fun k => bz (qs k)))))] → va_S A H0 H locs → lv_has ls 6 [(5, .int (nI (fm + j + 1))), (0, .ref o), (1, .ref t), (2, .int (nI fm)), (3, .int (nI un)), (4, .int b)] → W p l e ({ frames := 2, cells := 0, slots := 0, locals := 44 } : Room) s m args below meth c H locs 0 0 Q (F0 m 6 ls [])) (H : Heap) (locs : List Loc) (ls : Array Slot) (hP : va_P D classes [(o, .inr (0, [.ref r, .int (nI fi), .int (nI sz), .int (nI 0)])), (r, .inl (ca 0, 4096, .inl ring)), (t, .inl (ca 0, L, .inl (bl row fm j (fun k => bz (qs k)))))] H) (hD : va_D A [(o, .inr (0, [.ref r, .int (nI fi), .int (nI sz), .int (nI 0)])), (r, .inl (ca 0, 4096, .inl ring)), (t, .inl (ca 0, L, .inl (bl row fm j (fun k => bz (qs k)))))]) (hS : va_S A H0 H locs) (hl : lv_has ls 6 [(5, .int (nI (fm + j))), (0, .ref o), (1, .ref t), (2, .int (nI fm)), (3, .int (nI un)), (4, .int b)]) : W p l e ({ frames := 2, cells := 0, slots := 0, locals := 44 } : Room) s m args below meth c H locs 0 0 Q (F0 m 34 ls []) := by
  have hx := S0.1
  have hb := S0.2.1
  refine fl_34 o r t fm un F L h1 h2 h3 j fi sz 0 ring (bl row fm j (fun k => bz (qs k))) b h5 S0 hK hA (fun b2 H locs ls hb2 hP hD hS hl => ?_) H locs ls hP hD hS hl
  have hst := FI_step (le2 := qlen (fun k => qs (k + j)) 0) h5 (by omega) hI h6 (Or.inr ⟨rfl, rfl, hb2⟩)
  obtain ⟨-, -, -, -, h4, hrv, ⟨-, -, p3, p4⟩, -⟩ := id hI
  have h7 := (p4 0 h6 (p3 h6)).1
  have h8 : 7 ≤ qlen (fun k => qs (k + j)) 0 := by unfold qlen; omega
  have h9 : sz ≤ 4096 := by have := hI.2.2.1; have := hI.2.2.2.1; omega
  refine fl_51 o r t fm un F L h1 h2 h3 j fi sz 0 (qlen (fun k => qs (k + j)) 0) ring (bl row fm j (fun k => bz (qs k))) b2 h4 (by rw [hrv 4 (by omega), hrv 5 (by omega)]; rfl) S0 hK hA (fun H locs ls hP hD hS hl => ?_) H locs ls hP hD hS hl
  refine fl_72 o r t fm un F L h1 h2 h3 j fi sz (qlen (fun k => qs (k + j)) 0) ring (bl row fm j (fun k => bz (qs k))) b2 h4 h5 h6 hst.1 h9 S0 hK hA (fun H locs ls hP hD hS hl => ?_) H locs ls hP hD hS hl
  rw [hst.2.2, bl_s row (fun k => bz (qs k))] at hP hD
  exact kk _ b2 H locs ls hst.2.1 hP hD hS hl
set_option maxHeartbeats 1000000 in
set_option maxRecDepth 100000 in
theorem lp_Ch_fill {p : Program} {l : Launch} {e : Env} {s : State} {m : MethodId} {args : Array Value} {below : List Frame} {meth : Method} {c : Code} {Q : State → Prop} {D : va_G} {ca : Nat → ClassId} {A : Nat → Prop} {H0 : Heap} (o r t fm un F L : Nat) (h1 : un = fm + F) (h2 : un ≤ L) (h3 : L ≤ 256) (w : Nat) (q g row : Nat → Int32) (S0 : CallFix p m c b_Ch_fill 6 s args gd_tbl "DownFrames$Channel") (hK : PW D ca s) (hA : ∀ q, H0.size ≤ q → A q) (kk : ∀ (ws fi sz le : Nat) (qs gs ring : Nat → Int32) (b : Int32) (H : Heap) (locs : List Loc) (ls : Array Slot), FI q g w F F qs gs ws ring fi sz le b → va_P D classes [(o, .inr (0, [.ref r, .int (nI fi), .int (nI sz), .int (nI le)])), (r, .inl (ca 0, 4096, .inl ring)), (t, .inl (ca 0, L, .inl (bl row fm F (fun k => bz (qs k)))))] H → va_D A [(o, .inr (0, [.ref r, .int (nI fi), .int (nI sz), .int (nI le)])), (r, .inl (ca 0, 4096, .inl ring)), (t, .inl (ca 0, L, .inl (bl row fm F (fun k => bz (qs k)))))] → va_S A H0 H locs → lv_has ls 6 [(4, .int b)] → W p l e ({ frames := 2, cells := 0, slots := 0, locals := 44 } : Room) s m args below meth c H locs 0 0 Q (F0 m 125 ls [])) :
    ∀ (nf : Nat) (j ws fi sz le : Nat) (qs gs ring : Nat → Int32) (b : Int32) (H : Heap) (locs : List Loc) (ls : Array Slot), F - j < nf → (j ≤ F) → (FI q g w F j qs gs ws ring fi sz le b) → va_P D classes [(o, .inr (0, [.ref r, .int (nI fi), .int (nI sz), .int (nI le)])), (r, .inl (ca 0, 4096, .inl ring)), (t, .inl (ca 0, L, .inl (bl row fm j (fun k => bz (qs k)))))] H → va_D A [(o, .inr (0, [.ref r, .int (nI fi), .int (nI sz), .int (nI le)])), (r, .inl (ca 0, 4096, .inl ring)), (t, .inl (ca 0, L, .inl (bl row fm j (fun k => bz (qs k)))))] → va_S A H0 H locs → lv_has ls 6 [(5, .int (nI (fm + j))), (0, .ref o), (1, .ref t), (2, .int (nI fm)), (3, .int (nI un)), (4, .int b)] → W p l e ({ frames := 2, cells := 0, slots := 0, locals := 44 } : Room) s m args below meth c H locs 0 0 Q (F0 m 6 ls []) := by
  have hx := S0.1
  have hb := S0.2.1
  intro nf
  induction nf with
  | zero =>
    intro j ws fi sz le qs gs ring b H locs ls hm
    exact absurd hm (Nat.not_lt_zero _)
  | succ nf ih =>
    intro j ws fi sz le qs gs ring b H locs ls hm hj hI hP hD hS hl
    obtain ⟨-, i1, i2, i3, i4, -, i6, -⟩ := id hI
    have i7 := i6.1
    refine lv_iload hx hb d_Ch_fill_6 (lv_at hl 0 rfl) ?_
    refine lv_iload_n hx hb d_Ch_fill_8 rfl (lv_at hl 4 rfl) ?_
    refine lz_icmp_ge (tgt := 125) hx hb (by omega) (by omega) d_Ch_fill_9 (by decide) (fun h5 => ?_) (fun h5 => ?_)
    · have e9 : F = j := by have := hI.2.1; omega
      subst e9
      exact kk ws fi sz le qs gs ring b H locs ls hI hP hD hS (lv_sub hl [5] rfl)
    · refine lv_aload_n hx hb d_Ch_fill_12 rfl (lv_at hl 1 rfl) ?_
      refine gf_Ch_26 (q0 := 0) S0 hK hP rfl rfl d_Ch_fill_13 ?_
      refine lz_if_ne (tgt := 72) hx hb (by omega) d_Ch_fill_16 (by decide) (fun h7 => ?_) (fun h7 => ?_)
      · have h6 : 0 < sz := by have := hI.2.2.2.2.2.2.1.1; omega
        have h9 : sz ≤ 4096 := by have := hI.2.2.1; have := hI.2.2.2.1; omega
        have hst := FI_step (le2 := le) (b2 := b) (by omega) (by omega) hI h6 (Or.inl ⟨h7, rfl, rfl⟩)
        refine fl_72 o r t fm un F L h1 h2 h3 j fi sz le ring (bl row fm j (fun k => bz (qs k))) b hI.2.2.2.2.1 (by omega) h6 h7 h9 S0 hK hA (fun H locs ls hP hD hS hl => ?_) H locs ls hP hD hS hl
        rw [hst.2.2, bl_s row (fun k => bz (qs k))] at hP hD
        exact ih (j + 1) ws _ _ _ qs gs ring b H locs ls (by omega) (by omega) hst.2.1 hP hD hS hl
      · subst h7
        refine lv_aload_n hx hb d_Ch_fill_19 rfl (lv_at hl 1 rfl) ?_
        refine gf_Ch_15 (q0 := 0) S0 hK hP rfl rfl d_Ch_fill_20 ?_
        refine lz_if_ne (tgt := 34) hx hb (by omega) d_Ch_fill_23 (by decide) (fun h6 => ?_) (fun h6 => ?_)
        · refine fl_34h o r t fm un F L h1 h2 h3 w q g row j ws fi sz qs gs ring b (by omega) h6 hI S0 hK hA (fun le2 b2 H locs ls hI hP hD hS hl => ?_) H locs ls hP hD hS hl
          exact ih (j + 1) ws _ _ le2 qs gs ring b2 H locs ls (by omega) (by omega) hI hP hD hS hl
        · obtain ⟨g1, g2, g3, -⟩ := FI_A (by omega) hI h6
          subst h6
          refine lv_aload_n hx hb d_Ch_fill_26 rfl (lv_at hl 1 rfl) ?_
          refine lv_iload_n hx hb d_Ch_fill_27 rfl (lv_at hl 4 rfl) ?_
          refine lv_iload hx hb d_Ch_fill_28 (lv_at hl 0 rfl) ?_
          refine lz_isub hx hb (by omega) d_Ch_fill_30 ?_
          refine lz_top (y := nI (F - w)) (by rw [show un - (fm + j) = F - w by omega]) ?_
          have hn := ne_le F w
          refine k_Vv (n := 1) (As := [.int (nI (F - w))]) (rest := []) (wc := [(o, .inr (0, [.ref r, .int (nI fi), .int (nI 0), .int (nI 0)])), (r, .inl (ca 0, 4096, .inl ring))]) (wr := [(t, .inl (ca 0, L, .inl (bl row fm j (fun k => bz (qs k)))))]) (ci := 0) (q0 := 0) S0 rfl q_111 q_113 q_p3 q_3 rfl rfl q_114 (by decide +kernel) hK hP hD hS hA (c_Ch_empty l D ca H.size o r fi 0 0 (F - w) (ne F w) ring (fun k => qs (k + j)) hI.2.2.2.2.1 (by omega) (by omega) (ne_alt F w) (ne_ge F w) hI.2.2.2.2.2.1) [0, 1] [2] rfl rfl (by decide) (by decide) (by decide) ⟨Nat.le_of_ble_eq_true rfl, Nat.le_of_ble_eq_true rfl⟩ rfl hl.1 rfl (Nat.le_of_ble_eq_true rfl) ⟨Nat.le_of_ble_eq_true rfl, Nat.le_of_ble_eq_true rfl⟩ d_Ch_fill_31 (fun ring2 H locs hw hP hD hS => ?_)
          refine W.cs (cells' := 0) (slots' := 0) rfl rfl ?_
          rw [Nat.zero_add] at hP hD
          have hP : va_P D classes [(t, .inl (ca 0, L, .inl (bl row fm j (fun k => bz (qs k))))), (o, .inr (0, [.ref r, .int (nI fi), .int (nI (ne F w)), .int (nI 0)])), (r, .inl (ca 0, 4096, .inl ring2))] H := hP
          have hD : va_D A [(t, .inl (ca 0, L, .inl (bl row fm j (fun k => bz (qs k))))), (o, .inr (0, [.ref r, .int (nI fi), .int (nI (ne F w)), .int (nI 0)])), (r, .inl (ca 0, 4096, .inl ring2))] := hD
          have hI2 := FI_switch (by omega) (by omega) hI rfl rfl hw
          have e9 : bl row fm j (fun k => bz (qs k)) = bl row fm j (fun k => bz (qx q w F k)) := bl_congr (fun k hk => by show bz (qs k) = bz (qx q w F k); rw [qx_lo (by omega), g2])
          rw [e9] at hP hD
          have hP : va_P D classes [(t, .inl (ca 0, L, .inl (bl row fm j (fun k => bz (qx q w F k))))), (o, .inr (0, [.ref r, .int (nI fi), .int (nI (ne F w)), .int (nI 0)])), (r, .inl (ca 0, 4096, .inl ring2))] H := hP
          have hD : va_D A [(t, .inl (ca 0, L, .inl (bl row fm j (fun k => bz (qx q w F k))))), (o, .inr (0, [.ref r, .int (nI fi), .int (nI (ne F w)), .int (nI 0)])), (r, .inl (ca 0, 4096, .inl ring2))] := hD
          refine fl_34h o r t fm un F L h1 h2 h3 w q g row j (wx w F) fi (ne F w) (qx q w F) (gx g w F) ring2 b (by omega) (by omega) hI2 S0 hK hA (fun le2 b2 H locs ls hI hP hD hS hl => ?_) H locs ls (hP.sub [1, 2, 0] rfl) (hD.sub [1, 2, 0] (by decide) rfl) hS hl
          exact ih (j + 1) (wx w F) _ _ le2 (qx q w F) (gx g w F) ring2 b2 H locs ls (by omega) (by omega) hI hP hD hS hl
set_option maxHeartbeats 1000000 in
set_option maxRecDepth 100000 in
/-- Channel.fill: F bytes go into a row -/
theorem c_Ch_fill (l : Launch) (D : va_G) (ca : Nat → ClassId) (sz : Nat) (o r t fm un F L : Nat) (h1 : un = fm + F) (h2 : un ≤ L) (h3 : L ≤ 256) (w fi le : Nat) (q g row ring : Nat → Int32) (h4 : fi < 4096) (h5 : w ≤ 4096) (hv : RV ring fi w q) (hp : PK q g w le) : MetI l y_Ch_fill b_Ch_fill 6 (some .int) ({ frames := 2, cells := 0, slots := 0, locals := 44 } : Room) D ca [.ref o, .ref t, .int (nI fm), .int (nI un)] [(o, .inr (0, [.ref r, .int (nI fi), .int (nI w), .int (nI le)])), (r, .inl (ca 0, 4096, .inl ring)), (t, .inl (ca 0, L, .inl row))] sz (fun (b : Int32) (u : (Nat → Int32) × Nat × Nat) => fB (gx g w F) F b ∧ u.2.1 < 4096 ∧ RV u.1 u.2.1 (wx w F - F) (fun k => qx q w F (k + F)) ∧ PK (fun k => qx q w F (k + F)) (fun k => gx g w F (k + F)) (wx w F - F) u.2.2) (fun u => [(o, .inr (0, [.ref r, .int (nI (u.2.1)), .int (nI (wx w F - F)), .int (nI (u.2.2))])), (r, .inl (ca 0, 4096, .inl u.1)), (t, .inl (ca 0, L, .inl (bl row fm F (fun k => bz (qx q w F k)))))]) := by
  refine MetI.of (by decide) (Nat.le_of_ble_eq_true rfl) ?_
  intro p e s m below meth c A ls S0 hr hlk hK hP hD hA hl
  have hx := S0.1
  have hb := S0.2.1
  have hS : va_S A s.heap s.heap [] := va_S.rf
  have hP : va_P D classes [(o, .inr (0, [.ref r, .int (nI fi), .int (nI w), .int (nI le)])), (r, .inl (ca 0, 4096, .inl ring)), (t, .inl (ca 0, L, .inl row))] s.heap := hP
  have hD : va_D A [(o, .inr (0, [.ref r, .int (nI fi), .int (nI w), .int (nI le)])), (r, .inl (ca 0, 4096, .inl ring)), (t, .inl (ca 0, L, .inl row))] := hD
  have hl : lv_has ls 6 [(0, .ref o), (1, .ref t), (2, .int (nI fm)), (3, .int (nI un))] := hl
  refine lv_iconst (v := (-1)) hx hb d_Ch_fill_0 (by decide) ?_
  refine lv_istore (lv' := [(4, .int (-1)), (0, .ref o), (1, .ref t), (2, .int (nI fm)), (3, .int (nI un))]) hx hb d_Ch_fill_1 hl (by decide) rfl (fun ls hl => ?_)
  refine lv_iload_n hx hb d_Ch_fill_3 rfl (lv_at hl 3 rfl) ?_
  refine lv_istore (lv' := [(5, .int (nI fm)), (4, .int (-1)), (0, .ref o), (1, .ref t), (2, .int (nI fm)), (3, .int (nI un))]) hx hb d_Ch_fill_4 hl (by decide) rfl (fun ls hl => ?_)
  have e0 : row = bl row fm 0 (fun k => bz (q k)) := (bl_0 _ _ _).symm
  rw [e0] at hP hD
  refine lp_Ch_fill o r t fm un F L h1 h2 h3 w q g row S0 hK hA (fun ws fi2 sz2 le2 qs gs ring2 b H locs ls hI hP hD hS hl => ?_) (F + 1) 0 w fi w le q g ring (-1) _ _ ls (by omega) (by omega) ⟨Or.inl ⟨rfl, rfl, rfl⟩, by omega, h5, by omega, h4, hv, hp, Or.inl ⟨rfl, fun i hi => absurd hi (Nat.not_lt_zero i)⟩⟩ hP hD hS (lv_sub hl [0, 2, 3, 4, 5, 1] rfl)
  obtain ⟨rfl, rfl, rfl⟩ := FI_exit hI
  obtain ⟨-, -, -, h4b, h5b, h6b, h7b, h8b⟩ := hI
  subst h4b
  refine lv_iload hx hb d_Ch_fill_125 (lv_at hl 0 rfl) ?_
  exact k_iret hx hb hr (rfl) hlk ((ring2, fi2, le2)) (⟨h8b, h5b, h6b, h7b⟩) hP hD hS d_Ch_fill_127
end
section
theorem cs_hi {x : Nat} (h : 32768 ≤ x) : cs x = (x * 2) ^^^ 69665 := if_pos h
theorem cs_lo {x : Nat} (h : x < 32768) : cs x = x * 2 := if_neg (by omega)
set_option maxHeartbeats 1000000 in
set_option maxRecDepth 100000 in
theorem lp_Ck_in {p : Program} {l : Launch} {e : Env} {s : State} {m : MethodId} {args : Array Value} {below : List Frame} {meth : Method} {c : Code} {Q : State → Prop} {D : va_G} {ca : Nat → ClassId} {A : Nat → Prop} {H0 : Heap} (t L n k x : Nat) (row : Nat → Int32) (hx0 : x < 65536) (S0 : CallFix p m c b_Ck_of 6 s args gd_tbl "DownFrames$Check") (hK : PW D ca s) (hA : ∀ q, H0.size ≤ q → A q) (kk : ∀  (H : Heap) (locs : List Loc) (ls : Array Slot), va_P D classes [(t, .inl (ca 0, L, .inl row))] H → va_D A [(t, .inl (ca 0, L, .inl row))] → va_S A H0 H locs → lv_has ls 6 [(3, .int (nI (c8 8 x))), (0, .ref t), (1, .int (nI 0)), (2, .int (nI n)), (4, .int (nI k))] → W p l e ({ frames := 0, cells := 0, slots := 0, locals := 0 } : Room) s m args below meth c H locs 0 0 Q (F0 m 64 ls [])) :
    ∀ (nf : Nat) (i : Nat) (H : Heap) (locs : List Loc) (ls : Array Slot), 8 - i < nf → (i ≤ 8) → va_P D classes [(t, .inl (ca 0, L, .inl row))] H → va_D A [(t, .inl (ca 0, L, .inl row))] → va_S A H0 H locs → lv_has ls 6 [(5, .int (nI i)), (3, .int (nI (c8 i x))), (0, .ref t), (1, .int (nI 0)), (2, .int (nI n)), (4, .int (nI k))] → W p l e ({ frames := 0, cells := 0, slots := 0, locals := 0 } : Room) s m args below meth c H locs 0 0 Q (F0 m 31 ls []) := by
  have hx := S0.1
  have hb := S0.2.1
  intro nf
  induction nf with
  | zero =>
    intro i H locs ls hm
    exact absurd hm (Nat.not_lt_zero _)
  | succ nf ih =>
    intro i H locs ls hm hi hP hD hS hl
    have hc := c8_lt hx0 i
    refine lv_iload hx hb d_Ck_of_31 (lv_at hl 0 rfl) ?_
    refine lv_bipush (v := nI 8) hx hb d_Ck_of_33 (by decide) ?_
    refine lz_icmp_ge (tgt := 64) hx hb (by omega) (by omega) d_Ck_of_35 (by decide) (fun h4 => ?_) (fun h4 => ?_)
    · have e9 : 8 = i := by omega
      subst e9
      exact kk H locs ls hP hD hS (lv_sub hl [1, 2, 3, 4, 5] rfl)
    · refine lv_iload_n hx hb d_Ck_of_38 rfl (lv_at hl 1 rfl) ?_
      refine lv_ldc (v := 32768) hx hb S0.2.2.2.1 (S0.2.2.2.2 _ q_127) d_Ck_of_39 ?_
      refine lz_top (y := nI 32768) (by decide) ?_
      refine lv_iand hx hb d_Ck_of_41 ?_
      refine lz_top (y := nI (c8 i x &&& 32768)) (by rw [nI_and]) ?_
      have ha := and15 hc
      have hal : c8 i x &&& 32768 < 2 ^ 31 := by rw [ha]; split <;> decide
      refine lz_if_eq (tgt := 54) hx hb (by omega) d_Ck_of_42 (by decide) (fun h5 => ?_) (fun h5 => ?_)
      · have h6 : c8 i x < 32768 := by rw [ha] at h5; split at h5 <;> omega
        refine lv_iload_n hx hb d_Ck_of_54 rfl (lv_at hl 1 rfl) ?_
        refine lv_iconst (v := nI 1) hx hb d_Ck_of_55 (by decide) ?_
        refine lz_ishl hx hb 1 (by decide) (by omega) d_Ck_of_56 ?_
        refine lz_top (y := nI (c8 (i + 1) x)) (by rw [show c8 (i + 1) x = cs (c8 i x) from rfl, cs_lo h6]) ?_
        refine lv_istore_n (lv' := [(3, .int (nI (c8 (i + 1) x))), (5, .int (nI i)), (0, .ref t), (1, .int (nI 0)), (2, .int (nI n)), (4, .int (nI k))]) hx hb d_Ck_of_57 rfl hl (by decide) rfl (fun ls hl => ?_)
        refine lv_iinc (v := nI (i + 1)) (lv' := [(5, .int (nI (i + 1))), (3, .int (nI (c8 (i + 1) x))), (0, .ref t), (1, .int (nI 0)), (2, .int (nI n)), (4, .int (nI k))]) hx hb d_Ck_of_58 hl (k := 1) rfl (nI_inc _) (by decide) rfl (fun ls hl => ?_)
        refine lv_goto (tgt := 31) hx hb d_Ck_of_61 (by decide) ?_
        exact ih (i + 1) H locs ls (by omega) (by omega) hP hD hS (lv_sub hl [0, 1, 2, 3, 4, 5] rfl)
      · have h6 : 32768 ≤ c8 i x := by rw [ha] at h5; split at h5 <;> omega
        refine lv_iload_n hx hb d_Ck_of_45 rfl (lv_at hl 1 rfl) ?_
        refine lv_iconst (v := nI 1) hx hb d_Ck_of_46 (by decide) ?_
        refine lz_ishl hx hb 1 (by decide) (by omega) d_Ck_of_47 ?_
        refine lv_ldc (v := 69665) hx hb S0.2.2.2.1 (S0.2.2.2.2 _ q_128) d_Ck_of_48 ?_
        refine lz_top (y := nI 69665) (by decide) ?_
        refine lv_ixor hx hb d_Ck_of_50 ?_
        refine lv_goto (tgt := 57) hx hb d_Ck_of_51 (by decide) ?_
        refine lz_top (y := nI (c8 (i + 1) x)) (by rw [nI_xor, show c8 (i + 1) x = cs (c8 i x) from rfl, cs_hi h6]) ?_
        refine lv_istore_n (lv' := [(3, .int (nI (c8 (i + 1) x))), (5, .int (nI i)), (0, .ref t), (1, .int (nI 0)), (2, .int (nI n)), (4, .int (nI k))]) hx hb d_Ck_of_57 rfl hl (by decide) rfl (fun ls hl => ?_)
        refine lv_iinc (v := nI (i + 1)) (lv' := [(5, .int (nI (i + 1))), (3, .int (nI (c8 (i + 1) x))), (0, .ref t), (1, .int (nI 0)), (2, .int (nI n)), (4, .int (nI k))]) hx hb d_Ck_of_58 hl (k := 1) rfl (nI_inc _) (by decide) rfl (fun ls hl => ?_)
        refine lv_goto (tgt := 31) hx hb d_Ck_of_61 (by decide) ?_
        exact ih (i + 1) H locs ls (by omega) (by omega) hP hD hS (lv_sub hl [0, 1, 2, 3, 4, 5] rfl)
set_option maxHeartbeats 1000000 in
set_option maxRecDepth 100000 in
theorem lp_Ck_of {p : Program} {l : Launch} {e : Env} {s : State} {m : MethodId} {args : Array Value} {below : List Frame} {meth : Method} {c : Code} {Q : State → Prop} {D : va_G} {ca : Nat → ClassId} {A : Nat → Prop} {H0 : Heap} (t L n : Nat) (row : Nat → Int32) (h1 : n ≤ L) (h2 : L ≤ 256) (S0 : CallFix p m c b_Ck_of 6 s args gd_tbl "DownFrames$Check") (hK : PW D ca s) (hA : ∀ q, H0.size ≤ q → A q) (kk : ∀  (H : Heap) (locs : List Loc) (ls : Array Slot), va_P D classes [(t, .inl (ca 0, L, .inl row))] H → va_D A [(t, .inl (ca 0, L, .inl row))] → va_S A H0 H locs → lv_has ls 6 [(3, .int (nI (crc row n)))] → W p l e ({ frames := 0, cells := 0, slots := 0, locals := 0 } : Room) s m args below meth c H locs 0 0 Q (F0 m 70 ls [])) :
    ∀ (nf : Nat) (k : Nat) (H : Heap) (locs : List Loc) (ls : Array Slot), n - k < nf → (k ≤ n) → va_P D classes [(t, .inl (ca 0, L, .inl row))] H → va_D A [(t, .inl (ca 0, L, .inl row))] → va_S A H0 H locs → lv_has ls 6 [(4, .int (nI k)), (3, .int (nI (crc row k))), (0, .ref t), (1, .int (nI 0)), (2, .int (nI n))] → W p l e ({ frames := 0, cells := 0, slots := 0, locals := 0 } : Room) s m args below meth c H locs 0 0 Q (F0 m 6 ls []) := by
  have hx := S0.1
  have hb := S0.2.1
  intro nf
  induction nf with
  | zero =>
    intro k H locs ls hm
    exact absurd hm (Nat.not_lt_zero _)
  | succ nf ih =>
    intro k H locs ls hm hk hP hD hS hl
    have hc := crc_lt row k
    have hu := ub_lt (row k)
    refine lv_iload hx hb d_Ck_of_6 (lv_at hl 0 rfl) ?_
    refine lv_iload_n hx hb d_Ck_of_8 rfl (lv_at hl 3 rfl) ?_
    refine lv_iload_n hx hb d_Ck_of_9 rfl (lv_at hl 4 rfl) ?_
    refine lz_iadd hx hb d_Ck_of_10 ?_
    refine lz_top (y := nI n) (by rw [Nat.zero_add]) ?_
    refine lz_icmp_ge (tgt := 70) hx hb (by omega) (by omega) d_Ck_of_11 (by decide) (fun h4 => ?_) (fun h4 => ?_)
    · have e9 : n = k := by omega
      subst e9
      exact kk H locs ls hP hD hS (lv_sub hl [1] rfl)
    · refine lv_iload_n hx hb d_Ck_of_14 rfl (lv_at hl 1 rfl) ?_
      refine lv_aload_n hx hb d_Ck_of_15 rfl (lv_at hl 2 rfl) ?_
      refine lv_iload hx hb d_Ck_of_16 (lv_at hl 0 rfl) ?_
      refine lz_bald (i := k) hx hb hK.1 hP 0 0 rfl rfl (by omega) (by omega) d_Ck_of_18 ?_
      refine lv_sipush (v := nI 255) hx hb d_Ck_of_19 (by decide) ?_
      refine lz_and255 hx hb d_Ck_of_22 ?_
      refine lv_bipush (v := nI 8) hx hb d_Ck_of_23 (by decide) ?_
      refine lz_ishl hx hb 8 (by decide) (by omega) d_Ck_of_25 ?_
      refine lv_ixor hx hb d_Ck_of_26 ?_
      refine lz_top (y := nI (crc row k ^^^ (ub (row k) * 256))) (by rw [nI_xor]) ?_
      refine lv_istore_n (lv' := [(3, .int (nI (crc row k ^^^ (ub (row k) * 256)))), (4, .int (nI k)), (0, .ref t), (1, .int (nI 0)), (2, .int (nI n))]) hx hb d_Ck_of_27 rfl hl (by decide) rfl (fun ls hl => ?_)
      refine lv_iconst (v := nI 0) hx hb d_Ck_of_28 (by decide) ?_
      refine lv_istore (lv' := [(5, .int (nI 0)), (3, .int (nI (crc row k ^^^ (ub (row k) * 256)))), (4, .int (nI k)), (0, .ref t), (1, .int (nI 0)), (2, .int (nI n))]) hx hb d_Ck_of_29 hl (by decide) rfl (fun ls hl => ?_)
      refine lp_Ck_in t L n k _ row hc.2 S0 hK hA (fun H locs ls hP hD hS hl => ?_) 9 0 H locs ls (by omega) (by omega) hP hD hS (lv_sub hl [0, 1, 3, 4, 5, 2] rfl)
      have hl : lv_has ls 6 [(3, .int (nI (crc row (k + 1)))), (0, .ref t), (1, .int (nI 0)), (2, .int (nI n)), (4, .int (nI k))] := hl
      refine lv_iinc (v := nI (k + 1)) (lv' := [(4, .int (nI (k + 1))), (3, .int (nI (crc row (k + 1)))), (0, .ref t), (1, .int (nI 0)), (2, .int (nI n))]) hx hb d_Ck_of_64 hl (k := 4) rfl (nI_inc _) (by decide) rfl (fun ls hl => ?_)
      refine lv_goto (tgt := 6) hx hb d_Ck_of_67 (by decide) ?_
      exact ih (k + 1) H locs ls (by omega) (by omega) hP hD hS (lv_sub hl [0, 1, 2, 3, 4] rfl)
set_option maxHeartbeats 1000000 in
set_option maxRecDepth 100000 in
/-- Check.of -/
theorem c_Ck_of (l : Launch) (D : va_G) (ca : Nat → ClassId) (sz : Nat) (t L n : Nat) (row : Nat → Int32) (h1 : n ≤ L) (h2 : L ≤ 256) : MetI l y_Ck_of b_Ck_of 6 (some .int) ({ frames := 0, cells := 0, slots := 0, locals := 0 } : Room) D ca [.ref t, .int (nI 0), .int (nI n)] [(t, .inl (ca 0, L, .inl row))] sz (fun (x : Int32) (_ : Unit) => x = nI (crc row n)) (fun _ => [(t, .inl (ca 0, L, .inl row))]) := by
  refine MetI.of (by decide) (Nat.le_of_ble_eq_true rfl) ?_
  intro p e s m below meth c A ls S0 hr hlk hK hP hD hA hl
  have hx := S0.1
  have hb := S0.2.1
  have hS : va_S A s.heap s.heap [] := va_S.rf
  have hP : va_P D classes [(t, .inl (ca 0, L, .inl row))] s.heap := hP
  have hD : va_D A [(t, .inl (ca 0, L, .inl row))] := hD
  have hl : lv_has ls 6 [(0, .ref t), (1, .int (nI 0)), (2, .int (nI n))] := hl
  refine lv_ldc (v := 65535) hx hb S0.2.2.2.1 (S0.2.2.2.2 _ q_126) d_Ck_of_0 ?_
  refine lz_top (y := nI 65535) (by decide) ?_
  refine lv_istore_n (lv' := [(3, .int (nI 65535)), (0, .ref t), (1, .int (nI 0)), (2, .int (nI n))]) hx hb d_Ck_of_2 rfl hl (by decide) rfl (fun ls hl => ?_)
  refine lv_iload_n hx hb d_Ck_of_3 rfl (lv_at hl 2 rfl) ?_
  refine lv_istore (lv' := [(4, .int (nI 0)), (3, .int (nI 65535)), (0, .ref t), (1, .int (nI 0)), (2, .int (nI n))]) hx hb d_Ck_of_4 hl (by decide) rfl (fun ls hl => ?_)
  refine lp_Ck_of t L n row h1 h2 S0 hK hA (fun H locs ls hP hD hS hl => ?_) (n + 1) 0 _ _ ls (by omega) (by omega) hP hD hS (lv_sub hl [0, 1, 2, 3, 4] rfl)
  refine lv_iload_n hx hb d_Ck_of_70 rfl (lv_at hl 0 rfl) ?_
  exact k_iret hx hb hr (rfl) hlk (()) (rfl) hP hD hS d_Ck_of_71
set_option maxHeartbeats 1000000 in
set_option maxRecDepth 100000 in
theorem lp_Mo_in {p : Program} {l : Launch} {e : Env} {s : State} {m : MethodId} {args : Array Value} {below : List Frame} {meth : Method} {c : Code} {Q : State → Prop} {D : va_G} {ca : Nat → ClassId} {A : Nat → Prop} {H0 : Heap} (mo mt my mg mw mf mr L n fi : Nat) (fr : Nat → Int32) (k x : Nat) (hx0 : x < 65536) (S0 : CallFix p m c b_Mo_check 4 s args gd_tbl "DownFramesModel") (hK : PW D ca s) (hA : ∀ q, H0.size ≤ q → A q) (kk : ∀  (H : Heap) (locs : List Loc) (ls : Array Slot), va_P D classes [(mo, .inr (3, [.int (nI 0), .int (nI L), .ref mt, .int (nI n), .ref my, .ref mg, .ref mw, .ref mf, .ref mr, .int (nI fi)])), (mr, .inl (ca 0, 256, .inl fr))] H → va_D A [(mo, .inr (3, [.int (nI 0), .int (nI L), .ref mt, .int (nI n), .ref my, .ref mg, .ref mw, .ref mf, .ref mr, .int (nI fi)])), (mr, .inl (ca 0, 256, .inl fr))] → va_S A H0 H locs → lv_has ls 4 [(1, .int (nI (c8 8 x))), (0, .ref mo), (2, .int (nI k))] → W p l e ({ frames := 0, cells := 0, slots := 0, locals := 0 } : Room) s m args below meth c H locs 0 0 Q (F0 m 63 ls [])) :
    ∀ (nf : Nat) (i : Nat) (H : Heap) (locs : List Loc) (ls : Array Slot), 8 - i < nf → (i ≤ 8) → va_P D classes [(mo, .inr (3, [.int (nI 0), .int (nI L), .ref mt, .int (nI n), .ref my, .ref mg, .ref mw, .ref mf, .ref mr, .int (nI fi)])), (mr, .inl (ca 0, 256, .inl fr))] H → va_D A [(mo, .inr (3, [.int (nI 0), .int (nI L), .ref mt, .int (nI n), .ref my, .ref mg, .ref mw, .ref mf, .ref mr, .int (nI fi)])), (mr, .inl (ca 0, 256, .inl fr))] → va_S A H0 H locs → lv_has ls 4 [(3, .int (nI i)), (1, .int (nI (c8 i x))), (0, .ref mo), (2, .int (nI k))] → W p l e ({ frames := 0, cells := 0, slots := 0, locals := 0 } : Room) s m args below meth c H locs 0 0 Q (F0 m 32 ls []) := by
  have hx := S0.1
  have hb := S0.2.1
  intro nf
  induction nf with
  | zero =>
    intro i H locs ls hm
    exact absurd hm (Nat.not_lt_zero _)
  | succ nf ih =>
    intro i H locs ls hm hi hP hD hS hl
    have hc := c8_lt hx0 i
    refine lv_iload_n hx hb d_Mo_check_32 rfl (lv_at hl 0 rfl) ?_
    refine lv_bipush (v := nI 8) hx hb d_Mo_check_33 (by decide) ?_
    refine lz_icmp_ge (tgt := 63) hx hb (by omega) (by omega) d_Mo_check_35 (by decide) (fun h4 => ?_) (fun h4 => ?_)
    · have e9 : 8 = i := by omega
      subst e9
      exact kk H locs ls hP hD hS (lv_sub hl [1, 2, 3] rfl)
    · refine lv_iconst (v := nI 2) hx hb d_Mo_check_38 (by decide) ?_
      refine lv_iload_n hx hb d_Mo_check_39 rfl (lv_at hl 1 rfl) ?_
      refine lz_imul hx hb d_Mo_check_40 ?_
      refine lz_top (y := nI (c8 i x * 2)) (by rw [Nat.mul_comm]) ?_
      refine lv_istore_n (lv' := [(1, .int (nI (c8 i x * 2))), (3, .int (nI i)), (0, .ref mo), (2, .int (nI k))]) hx hb d_Mo_check_41 rfl hl (by decide) rfl (fun ls hl => ?_)
      refine lv_iload_n hx hb d_Mo_check_42 rfl (lv_at hl 0 rfl) ?_
      refine lv_ldc (v := 65536) hx hb S0.2.2.2.1 (S0.2.2.2.2 _ q_215) d_Mo_check_43 ?_
      refine lz_top (y := nI 65536) (by decide) ?_
      refine lz_icmp_lt (tgt := 55) hx hb (by omega) (by omega) d_Mo_check_45 (by decide) (fun h5 => ?_) (fun h5 => ?_)
      · refine lv_iload_n hx hb d_Mo_check_55 rfl (lv_at hl 0 rfl) ?_
        refine lz_top (y := nI (c8 (i + 1) x)) (by rw [show c8 (i + 1) x = cs (c8 i x) from rfl, cs_lo (by omega)]) ?_
        refine lv_istore_n (lv' := [(1, .int (nI (c8 (i + 1) x))), (3, .int (nI i)), (0, .ref mo), (2, .int (nI k))]) hx hb d_Mo_check_56 rfl hl (by decide) rfl (fun ls hl => ?_)
        refine lv_iinc (v := nI (i + 1)) (lv' := [(3, .int (nI (i + 1))), (1, .int (nI (c8 (i + 1) x))), (0, .ref mo), (2, .int (nI k))]) hx hb d_Mo_check_57 hl (k := 1) rfl (nI_inc _) (by decide) rfl (fun ls hl => ?_)
        refine lv_goto (tgt := 32) hx hb d_Mo_check_60 (by decide) ?_
        exact ih (i + 1) H locs ls (by omega) (by omega) hP hD hS (lv_sub hl [0, 1, 2, 3] rfl)
      · refine lv_iload_n hx hb d_Mo_check_48 rfl (lv_at hl 0 rfl) ?_
        refine lv_ldc (v := 69665) hx hb S0.2.2.2.1 (S0.2.2.2.2 _ q_216) d_Mo_check_49 ?_
        refine lz_top (y := nI 69665) (by decide) ?_
        refine lv_ixor hx hb d_Mo_check_51 ?_
        refine lv_goto (tgt := 56) hx hb d_Mo_check_52 (by decide) ?_
        refine lz_top (y := nI (c8 (i + 1) x)) (by rw [nI_xor, show c8 (i + 1) x = cs (c8 i x) from rfl, cs_hi (by omega)]) ?_
        refine lv_istore_n (lv' := [(1, .int (nI (c8 (i + 1) x))), (3, .int (nI i)), (0, .ref mo), (2, .int (nI k))]) hx hb d_Mo_check_56 rfl hl (by decide) rfl (fun ls hl => ?_)
        refine lv_iinc (v := nI (i + 1)) (lv' := [(3, .int (nI (i + 1))), (1, .int (nI (c8 (i + 1) x))), (0, .ref mo), (2, .int (nI k))]) hx hb d_Mo_check_57 hl (k := 1) rfl (nI_inc _) (by decide) rfl (fun ls hl => ?_)
        refine lv_goto (tgt := 32) hx hb d_Mo_check_60 (by decide) ?_
        exact ih (i + 1) H locs ls (by omega) (by omega) hP hD hS (lv_sub hl [0, 1, 2, 3] rfl)
set_option maxHeartbeats 1000000 in
set_option maxRecDepth 100000 in
theorem lp_Mo_check {p : Program} {l : Launch} {e : Env} {s : State} {m : MethodId} {args : Array Value} {below : List Frame} {meth : Method} {c : Code} {Q : State → Prop} {D : va_G} {ca : Nat → ClassId} {A : Nat → Prop} {H0 : Heap} (mo mt my mg mw mf mr L n fi : Nat) (fr : Nat → Int32) (h1 : fi ≤ 256) (S0 : CallFix p m c b_Mo_check 4 s args gd_tbl "DownFramesModel") (hK : PW D ca s) (hA : ∀ q, H0.size ≤ q → A q) (kk : ∀  (H : Heap) (locs : List Loc) (ls : Array Slot), va_P D classes [(mo, .inr (3, [.int (nI 0), .int (nI L), .ref mt, .int (nI n), .ref my, .ref mg, .ref mw, .ref mf, .ref mr, .int (nI fi)])), (mr, .inl (ca 0, 256, .inl fr))] H → va_D A [(mo, .inr (3, [.int (nI 0), .int (nI L), .ref mt, .int (nI n), .ref my, .ref mg, .ref mw, .ref mf, .ref mr, .int (nI fi)])), (mr, .inl (ca 0, 256, .inl fr))] → va_S A H0 H locs → lv_has ls 4 [(1, .int (nI (crc fr fi)))] → W p l e ({ frames := 0, cells := 0, slots := 0, locals := 0 } : Room) s m args below meth c H locs 0 0 Q (F0 m 69 ls [])) :
    ∀ (nf : Nat) (k : Nat) (H : Heap) (locs : List Loc) (ls : Array Slot), fi - k < nf → (k ≤ fi) → va_P D classes [(mo, .inr (3, [.int (nI 0), .int (nI L), .ref mt, .int (nI n), .ref my, .ref mg, .ref mw, .ref mf, .ref mr, .int (nI fi)])), (mr, .inl (ca 0, 256, .inl fr))] H → va_D A [(mo, .inr (3, [.int (nI 0), .int (nI L), .ref mt, .int (nI n), .ref my, .ref mg, .ref mw, .ref mf, .ref mr, .int (nI fi)])), (mr, .inl (ca 0, 256, .inl fr))] → va_S A H0 H locs → lv_has ls 4 [(2, .int (nI k)), (1, .int (nI (crc fr k))), (0, .ref mo)] → W p l e ({ frames := 0, cells := 0, slots := 0, locals := 0 } : Room) s m args below meth c H locs 0 0 Q (F0 m 5 ls []) := by
  have hx := S0.1
  have hb := S0.2.1
  intro nf
  induction nf with
  | zero =>
    intro k H locs ls hm
    exact absurd hm (Nat.not_lt_zero _)
  | succ nf ih =>
    intro k H locs ls hm hk hP hD hS hl
    have hc := crc_lt fr k
    have hu := ub_lt (fr k)
    refine lv_iload_n hx hb d_Mo_check_5 rfl (lv_at hl 0 rfl) ?_
    refine lv_aload_n hx hb d_Mo_check_6 rfl (lv_at hl 2 rfl) ?_
    refine gf_Mo_44 (q0 := 0) S0 hK hP rfl rfl d_Mo_check_7 ?_
    refine lz_icmp_ge (tgt := 69) hx hb (by omega) (by omega) d_Mo_check_10 (by decide) (fun h4 => ?_) (fun h4 => ?_)
    · have e9 : fi = k := by omega
      subst e9
      exact kk H locs ls hP hD hS (lv_sub hl [1] rfl)
    · refine lv_iload_n hx hb d_Mo_check_13 rfl (lv_at hl 1 rfl) ?_
      refine lv_aload_n hx hb d_Mo_check_14 rfl (lv_at hl 2 rfl) ?_
      refine gf_Mo_27 (q0 := 0) S0 hK hP rfl rfl d_Mo_check_15 ?_
      refine lv_iload_n hx hb d_Mo_check_18 rfl (lv_at hl 0 rfl) ?_
      refine lz_bald (i := k) hx hb hK.1 hP 1 0 rfl rfl (by omega) (by decide) d_Mo_check_19 ?_
      refine lv_sipush (v := nI 255) hx hb d_Mo_check_20 (by decide) ?_
      refine lz_and255 hx hb d_Mo_check_23 ?_
      refine lv_sipush (v := nI 256) hx hb d_Mo_check_24 (by decide) ?_
      refine lz_imul hx hb d_Mo_check_27 ?_
      refine lv_ixor hx hb d_Mo_check_28 ?_
      refine lz_top (y := nI (crc fr k ^^^ (ub (fr k) * 256))) (by rw [nI_xor]) ?_
      refine lv_istore_n (lv' := [(1, .int (nI (crc fr k ^^^ (ub (fr k) * 256)))), (2, .int (nI k)), (0, .ref mo)]) hx hb d_Mo_check_29 rfl hl (by decide) rfl (fun ls hl => ?_)
      refine lv_iconst (v := nI 0) hx hb d_Mo_check_30 (by decide) ?_
      refine lv_istore_n (lv' := [(3, .int (nI 0)), (1, .int (nI (crc fr k ^^^ (ub (fr k) * 256)))), (2, .int (nI k)), (0, .ref mo)]) hx hb d_Mo_check_31 rfl hl (by decide) rfl (fun ls hl => ?_)
      refine lp_Mo_in mo mt my mg mw mf mr L n fi fr k _ hc.2 S0 hK hA (fun H locs ls hP hD hS hl => ?_) 9 0 H locs ls (by omega) (by omega) hP hD hS (lv_sub hl [0, 1, 3, 2] rfl)
      have hl : lv_has ls 4 [(1, .int (nI (crc fr (k + 1)))), (0, .ref mo), (2, .int (nI k))] := hl
      refine lv_iinc (v := nI (k + 1)) (lv' := [(2, .int (nI (k + 1))), (1, .int (nI (crc fr (k + 1)))), (0, .ref mo)]) hx hb d_Mo_check_63 hl (k := 2) rfl (nI_inc _) (by decide) rfl (fun ls hl => ?_)
      refine lv_goto (tgt := 5) hx hb d_Mo_check_66 (by decide) ?_
      exact ih (k + 1) H locs ls (by omega) (by omega) hP hD hS (lv_sub hl [0, 1, 2] rfl)
set_option maxHeartbeats 1000000 in
set_option maxRecDepth 100000 in
/-- the model: check -/
theorem c_Mo_check (l : Launch) (D : va_G) (ca : Nat → ClassId) (sz : Nat) (mo mt my mg mw mf mr L n fi : Nat) (fr : Nat → Int32) (h1 : fi ≤ 256) : MetI l y_Mo_check b_Mo_check 4 (some .int) ({ frames := 0, cells := 0, slots := 0, locals := 0 } : Room) D ca [.ref mo] [(mo, .inr (3, [.int (nI 0), .int (nI L), .ref mt, .int (nI n), .ref my, .ref mg, .ref mw, .ref mf, .ref mr, .int (nI fi)])), (mr, .inl (ca 0, 256, .inl fr))] sz (fun (x : Int32) (_ : Unit) => x = nI (crc fr fi)) (fun _ => [(mo, .inr (3, [.int (nI 0), .int (nI L), .ref mt, .int (nI n), .ref my, .ref mg, .ref mw, .ref mf, .ref mr, .int (nI fi)])), (mr, .inl (ca 0, 256, .inl fr))]) := by
  refine MetI.of (by decide) (Nat.le_of_ble_eq_true rfl) ?_
  intro p e s m below meth c A ls S0 hr hlk hK hP hD hA hl
  have hx := S0.1
  have hb := S0.2.1
  have hS : va_S A s.heap s.heap [] := va_S.rf
  have hP : va_P D classes [(mo, .inr (3, [.int (nI 0), .int (nI L), .ref mt, .int (nI n), .ref my, .ref mg, .ref mw, .ref mf, .ref mr, .int (nI fi)])), (mr, .inl (ca 0, 256, .inl fr))] s.heap := hP
  have hD : va_D A [(mo, .inr (3, [.int (nI 0), .int (nI L), .ref mt, .int (nI n), .ref my, .ref mg, .ref mw, .ref mf, .ref mr, .int (nI fi)])), (mr, .inl (ca 0, 256, .inl fr))] := hD
  have hl : lv_has ls 4 [(0, .ref mo)] := hl
  refine lv_ldc (v := 65535) hx hb S0.2.2.2.1 (S0.2.2.2.2 _ q_214) d_Mo_check_0 ?_
  refine lz_top (y := nI 65535) (by decide) ?_
  refine lv_istore_n (lv' := [(1, .int (nI 65535)), (0, .ref mo)]) hx hb d_Mo_check_2 rfl hl (by decide) rfl (fun ls hl => ?_)
  refine lv_iconst (v := nI 0) hx hb d_Mo_check_3 (by decide) ?_
  refine lv_istore_n (lv' := [(2, .int (nI 0)), (1, .int (nI 65535)), (0, .ref mo)]) hx hb d_Mo_check_4 rfl hl (by decide) rfl (fun ls hl => ?_)
  refine lp_Mo_check mo mt my mg mw mf mr L n fi fr h1 S0 hK hA (fun H locs ls hP hD hS hl => ?_) (fi + 1) 0 _ _ ls (by omega) (by omega) hP hD hS (lv_sub hl [0, 1, 2] rfl)
  refine lv_iload_n hx hb d_Mo_check_69 rfl (lv_at hl 0 rfl) ?_
  exact k_iret hx hb hr (rfl) hlk (()) (rfl) hP hD hS d_Mo_check_70
end
section
abbrev chf (a b : Nat) : Nat → Option Nat := va_up (va_up (fun _ => none) 0 (some a)) 1 (some b)
abbrev cst : Type := (Nat → Int32) × Nat × Nat
def chOK (q g : Nat → Int32) (w : Nat) (x : cst) : Prop := x.2.1 < 4096 ∧ RV x.1 x.2.1 w q ∧ PK q g w x.2.2
def nx (w0 w1 : Nat) : Nat := if 0 < w0 then 0 else if 0 < w1 then 1 else 2
def pt (v : Int32) (n : Nat) : Nat → Int32 := fun k => bz (v >>> (nI (8 * (n - 1 - k)) &&& 31))
set_option maxHeartbeats 1000000 in
set_option maxRecDepth 100000 in
theorem lp_Mk_put {p : Program} {l : Launch} {e : Env} {s : State} {m : MethodId} {args : Array Value} {below : List Frame} {meth : Method} {c : Code} {Q : State → Prop} {D : va_G} {ca : Nat → ClassId} {A : Nat → Prop} {H0 : Heap} (mk fr ch cn L at_ n : Nat) (made v : Int32) (frame : Nat → Int32) (h1 : at_ + n ≤ L) (h2 : L ≤ 256) (S0 : CallFix p m c b_Mk_put 5 s args gd_tbl "DownFrames$Maker") (hK : PW D ca s) (hA : ∀ q, H0.size ≤ q → A q) (kk : ∀  (H : Heap) (locs : List Loc) (ls : Array Slot), va_P D classes [(mk, .inr (1, [.ref fr, .ref ch, .int made, .ref cn])), (fr, .inl (ca 0, L, .inl (bl frame at_ n (pt v n))))] H → va_D A [(mk, .inr (1, [.ref fr, .ref ch, .int made, .ref cn])), (fr, .inl (ca 0, L, .inl (bl frame at_ n (pt v n))))] → va_S A H0 H locs → lv_has ls 5 [(0, .ref mk)] → W p l e ({ frames := 0, cells := 0, slots := 0, locals := 0 } : Room) s m args below meth c H locs 0 0 Q (F0 m 36 ls [])) :
    ∀ (nf : Nat) (k : Nat) (H : Heap) (locs : List Loc) (ls : Array Slot), n - k < nf → (k ≤ n) → va_P D classes [(mk, .inr (1, [.ref fr, .ref ch, .int made, .ref cn])), (fr, .inl (ca 0, L, .inl (bl frame at_ k (pt v n))))] H → va_D A [(mk, .inr (1, [.ref fr, .ref ch, .int made, .ref cn])), (fr, .inl (ca 0, L, .inl (bl frame at_ k (pt v n))))] → va_S A H0 H locs → lv_has ls 5 [(4, .int (nI k)), (0, .ref mk), (1, .int (nI at_)), (2, .int (nI n)), (3, .int v)] → W p l e ({ frames := 0, cells := 0, slots := 0, locals := 0 } : Room) s m args below meth c H locs 0 0 Q (F0 m 3 ls []) := by
  have hx := S0.1
  have hb := S0.2.1
  intro nf
  induction nf with
  | zero =>
    intro k H locs ls hm
    exact absurd hm (Nat.not_lt_zero _)
  | succ nf ih =>
    intro k H locs ls hm hk hP hD hS hl
    refine lv_iload hx hb d_Mk_put_3 (lv_at hl 0 rfl) ?_
    refine lv_iload_n hx hb d_Mk_put_5 rfl (lv_at hl 3 rfl) ?_
    refine lz_icmp_ge (tgt := 36) hx hb (by omega) (by omega) d_Mk_put_6 (by decide) (fun h4 => ?_) (fun h4 => ?_)
    · have e9 : n = k := by omega
      subst e9
      exact kk H locs ls hP hD hS (lv_sub hl [1] rfl)
    · refine lv_aload_n hx hb d_Mk_put_9 rfl (lv_at hl 1 rfl) ?_
      refine gf_Mk_22 (q0 := 0) S0 hK hP rfl rfl d_Mk_put_10 ?_
      refine lv_iload_n hx hb d_Mk_put_13 rfl (lv_at hl 2 rfl) ?_
      refine lv_iload hx hb d_Mk_put_14 (lv_at hl 0 rfl) ?_
      refine lz_iadd hx hb d_Mk_put_16 ?_
      refine lv_iload_n hx hb d_Mk_put_17 rfl (lv_at hl 4 rfl) ?_
      refine lv_bipush (v := nI 8) hx hb d_Mk_put_18 (by decide) ?_
      refine lv_iload_n hx hb d_Mk_put_20 rfl (lv_at hl 3 rfl) ?_
      refine lv_iconst (v := nI 1) hx hb d_Mk_put_21 (by decide) ?_
      refine lz_isub hx hb (by omega) d_Mk_put_22 ?_
      refine lv_iload hx hb d_Mk_put_23 (lv_at hl 0 rfl) ?_
      refine lz_isub hx hb (by omega) d_Mk_put_25 ?_
      refine lz_imul hx hb d_Mk_put_26 ?_
      refine lv_ishr hx hb d_Mk_put_27 ?_
      refine lz_i2b hx hb d_Mk_put_28 ?_
      refine lz_bast (i := at_ + k) hx hb hK.1 hP hD hS 1 0 rfl rfl (by omega) (by omega) d_Mk_put_29 (fun H locs hP hD hS => ?_)
      rw [bz_bz] at hP hD
      have hP : va_P D classes [(mk, .inr (1, [.ref fr, .ref ch, .int made, .ref cn])), (fr, .inl (ca 0, L, .inl (upd (bl frame at_ k (pt v n)) (at_ + k) (bz (v >>> (nI (8 * ((n - 1) - k)) &&& 31))))))] H := hP
      have hD : va_D A [(mk, .inr (1, [.ref fr, .ref ch, .int made, .ref cn])), (fr, .inl (ca 0, L, .inl (upd (bl frame at_ k (pt v n)) (at_ + k) (bz (v >>> (nI (8 * ((n - 1) - k)) &&& 31))))))] := hD
      refine lv_iinc (v := nI (k + 1)) (lv' := [(4, .int (nI (k + 1))), (0, .ref mk), (1, .int (nI at_)), (2, .int (nI n)), (3, .int v)]) hx hb d_Mk_put_30 hl (k := 0) rfl (nI_inc _) (by decide) rfl (fun ls hl => ?_)
      refine lv_goto (tgt := 3) hx hb d_Mk_put_33 (by decide) ?_
      have e9 : upd (bl frame at_ k (pt v n)) (at_ + k) (bz (v >>> (nI (8 * ((n - 1) - k)) &&& 31))) = bl frame at_ (k + 1) (pt v n) := bl_s frame (pt v n) at_ k
      rw [e9] at hP hD
      clear e9
      have hP : va_P D classes [(mk, .inr (1, [.ref fr, .ref ch, .int made, .ref cn])), (fr, .inl (ca 0, L, .inl (bl frame at_ (k + 1) (pt v n))))] H := hP
      have hD : va_D A [(mk, .inr (1, [.ref fr, .ref ch, .int made, .ref cn])), (fr, .inl (ca 0, L, .inl (bl frame at_ (k + 1) (pt v n))))] := hD
      exact ih (k + 1) H locs ls (by omega) (by omega) hP hD hS (lv_sub hl [0, 1, 2, 3, 4] rfl)
set_option maxHeartbeats 1000000 in
set_option maxRecDepth 100000 in
/-- Maker.put -/
theorem c_Mk_put (l : Launch) (D : va_G) (ca : Nat → ClassId) (sz : Nat) (mk fr ch cn L at_ n : Nat) (made v : Int32) (frame : Nat → Int32) (h1 : at_ + n ≤ L) (h2 : L ≤ 256) : MetV l y_Mk_put b_Mk_put 5 ({ frames := 0, cells := 0, slots := 0, locals := 0 } : Room) D ca [.ref mk, .int (nI at_), .int (nI n), .int v] [(mk, .inr (1, [.ref fr, .ref ch, .int made, .ref cn])), (fr, .inl (ca 0, L, .inl frame))] sz (fun _ : Unit => True) (fun _ => [(mk, .inr (1, [.ref fr, .ref ch, .int made, .ref cn])), (fr, .inl (ca 0, L, .inl (bl frame at_ n (pt v n))))]) := by
  refine MetV.of (by decide) (Nat.le_of_ble_eq_true rfl) ?_
  intro p e s m below meth c A ls S0 hr hlk hK hP hD hA hl hnm
  have hx := S0.1
  have hb := S0.2.1
  have hS : va_S A s.heap s.heap [] := va_S.rf
  have hP : va_P D classes [(mk, .inr (1, [.ref fr, .ref ch, .int made, .ref cn])), (fr, .inl (ca 0, L, .inl frame))] s.heap := hP
  have hD : va_D A [(mk, .inr (1, [.ref fr, .ref ch, .int made, .ref cn])), (fr, .inl (ca 0, L, .inl frame))] := hD
  have hl : lv_has ls 5 [(0, .ref mk), (1, .int (nI at_)), (2, .int (nI n)), (3, .int v)] := hl
  refine lv_iconst (v := nI 0) hx hb d_Mk_put_0 (by decide) ?_
  refine lv_istore (lv' := [(4, .int (nI 0)), (0, .ref mk), (1, .int (nI at_)), (2, .int (nI n)), (3, .int v)]) hx hb d_Mk_put_1 hl (by decide) rfl (fun ls hl => ?_)
  have e0 : frame = bl frame at_ 0 (pt v n) := (bl_0 _ _ _).symm
  rw [e0] at hP hD
  refine lp_Mk_put mk fr ch cn L at_ n made v frame h1 h2 S0 hK hA (fun H locs ls hP hD hS hl => ?_) (n + 1) 0 _ _ ls (by omega) (by omega) hP hD hS (lv_sub hl [0, 1, 2, 3, 4] rfl)
  exact k_vret hx hb hr hlk (()) (trivial) hP hD hS d_Mk_put_36
set_option maxHeartbeats 1000000 in
set_option maxRecDepth 100000 in
/-- Maker.next -/
theorem c_Mk_next (l : Launch) (D : va_G) (ca : Nat → ClassId) (sz : Nat) (mk fr ch cn c0 r0 c1 r1 fi0 w0 le0 fi1 w1 le1 : Nat) (made : Int32) (h1 : w0 ≤ 4096) (h2 : w1 ≤ 4096) : MetI l y_Mk_next b_Mk_next 2 (some .int) ({ frames := 0, cells := 0, slots := 0, locals := 0 } : Room) D ca [.ref mk] [(mk, .inr (1, [.ref fr, .ref ch, .int made, .ref cn])), (ch, .inl (ca 2, 2, .inr (.inr (.inr (.inr (chf c0 c1)))))), (c0, .inr (0, [.ref r0, .int (nI fi0), .int (nI w0), .int (nI le0)])), (c1, .inr (0, [.ref r1, .int (nI fi1), .int (nI w1), .int (nI le1)]))] sz (fun (x : Int32) (_ : Unit) => x = nI (nx w0 w1)) (fun _ => [(mk, .inr (1, [.ref fr, .ref ch, .int made, .ref cn])), (ch, .inl (ca 2, 2, .inr (.inr (.inr (.inr (chf c0 c1)))))), (c0, .inr (0, [.ref r0, .int (nI fi0), .int (nI w0), .int (nI le0)])), (c1, .inr (0, [.ref r1, .int (nI fi1), .int (nI w1), .int (nI le1)]))]) := by
  refine MetI.of (by decide) (Nat.le_of_ble_eq_true rfl) ?_
  intro p e s m below meth c A ls S0 hr hlk hK hP hD hA hl
  have hx := S0.1
  have hb := S0.2.1
  have hS : va_S A s.heap s.heap [] := va_S.rf
  have hP : va_P D classes [(mk, .inr (1, [.ref fr, .ref ch, .int made, .ref cn])), (ch, .inl (ca 2, 2, .inr (.inr (.inr (.inr (chf c0 c1)))))), (c0, .inr (0, [.ref r0, .int (nI fi0), .int (nI w0), .int (nI le0)])), (c1, .inr (0, [.ref r1, .int (nI fi1), .int (nI w1), .int (nI le1)]))] s.heap := hP
  have hD : va_D A [(mk, .inr (1, [.ref fr, .ref ch, .int made, .ref cn])), (ch, .inl (ca 2, 2, .inr (.inr (.inr (.inr (chf c0 c1)))))), (c0, .inr (0, [.ref r0, .int (nI fi0), .int (nI w0), .int (nI le0)])), (c1, .inr (0, [.ref r1, .int (nI fi1), .int (nI w1), .int (nI le1)]))] := hD
  have hl : lv_has ls 2 [(0, .ref mk)] := hl
  refine lv_iconst (v := nI 0) hx hb d_Mk_next_0 (by decide) ?_
  refine lv_istore_n (lv' := [(1, .int (nI 0)), (0, .ref mk)]) hx hb d_Mk_next_1 rfl hl (by decide) rfl (fun ls hl => ?_)
  refine lv_iload_n hx hb d_Mk_next_2 rfl (lv_at hl 0 rfl) ?_
  refine lv_iconst (v := nI 2) hx hb d_Mk_next_3 (by decide) ?_
  refine lz_icmp_ge (tgt := 25) hx hb (by omega) (by omega) d_Mk_next_4 (by decide) (fun h5 => ?_) (fun h5 => ?_)
  · exfalso
    omega
  · refine lv_aload_n hx hb d_Mk_next_7 rfl (lv_at hl 1 rfl) ?_
    refine gf_Mk_12 (q0 := 0) S0 hK hP rfl rfl d_Mk_next_8 ?_
    refine lv_iload_n hx hb d_Mk_next_11 rfl (lv_at hl 0 rfl) ?_
    refine lz_aald (i := 0) (v := c0) hx hb hK.1 hP 1 2 rfl rfl (by decide) (by decide) rfl d_Mk_next_12 ?_
    refine gf_Mk_26 (q0 := 2) S0 hK hP rfl rfl d_Mk_next_13 ?_
    refine lz_if_ne (tgt := 25) hx hb (by omega) d_Mk_next_16 (by decide) (fun h6 => ?_) (fun h6 => ?_)
    · refine lv_iload_n hx hb d_Mk_next_25 rfl (lv_at hl 0 rfl) ?_
      exact k_iret hx hb hr (rfl) hlk (()) (by unfold nx; rw [if_pos h6]) hP hD hS d_Mk_next_26
    · have h7_0 := h6
      refine lv_iinc (v := nI 1) (lv' := [(1, .int (nI 1)), (0, .ref mk)]) hx hb d_Mk_next_19 hl (k := 0) rfl (by decide) (by decide) rfl (fun ls hl => ?_)
      refine lv_goto (tgt := 2) hx hb d_Mk_next_22 (by decide) ?_
      refine lv_iload_n hx hb d_Mk_next_2 rfl (lv_at hl 0 rfl) ?_
      refine lv_iconst (v := nI 2) hx hb d_Mk_next_3 (by decide) ?_
      refine lz_icmp_ge (tgt := 25) hx hb (by omega) (by omega) d_Mk_next_4 (by decide) (fun h5 => ?_) (fun h5 => ?_)
      · exfalso
        omega
      · refine lv_aload_n hx hb d_Mk_next_7 rfl (lv_at hl 1 rfl) ?_
        refine gf_Mk_12 (q0 := 0) S0 hK hP rfl rfl d_Mk_next_8 ?_
        refine lv_iload_n hx hb d_Mk_next_11 rfl (lv_at hl 0 rfl) ?_
        refine lz_aald (i := 1) (v := c1) hx hb hK.1 hP 1 2 rfl rfl (by decide) (by decide) rfl d_Mk_next_12 ?_
        refine gf_Mk_26 (q0 := 3) S0 hK hP rfl rfl d_Mk_next_13 ?_
        refine lz_if_ne (tgt := 25) hx hb (by omega) d_Mk_next_16 (by decide) (fun h6 => ?_) (fun h6 => ?_)
        · refine lv_iload_n hx hb d_Mk_next_25 rfl (lv_at hl 0 rfl) ?_
          exact k_iret hx hb hr (rfl) hlk (()) (by unfold nx; rw [if_neg (by omega), if_pos h6]) hP hD hS d_Mk_next_26
        · have h7_1 := h6
          refine lv_iinc (v := nI 2) (lv' := [(1, .int (nI 2)), (0, .ref mk)]) hx hb d_Mk_next_19 hl (k := 0) rfl (by decide) (by decide) rfl (fun ls hl => ?_)
          refine lv_goto (tgt := 2) hx hb d_Mk_next_22 (by decide) ?_
          refine lv_iload_n hx hb d_Mk_next_2 rfl (lv_at hl 0 rfl) ?_
          refine lv_iconst (v := nI 2) hx hb d_Mk_next_3 (by decide) ?_
          refine lz_icmp_ge (tgt := 25) hx hb (by omega) (by omega) d_Mk_next_4 (by decide) (fun h5 => ?_) (fun h5 => ?_)
          · refine lv_iload_n hx hb d_Mk_next_25 rfl (lv_at hl 0 rfl) ?_
            exact k_iret hx hb hr (rfl) hlk (()) (by unfold nx; rw [if_neg (by omega), if_neg (by omega)]) hP hD hS d_Mk_next_26
          · exfalso
            omega
set_option maxHeartbeats 1000000 in
set_option maxRecDepth 100000 in
theorem mk_tail {p : Program} {l : Launch} {e : Env} {s : State} {m : MethodId} {args : Array Value} {below : List Frame} {meth : Method} {c : Code} {Q : State → Prop} {D : va_G} {ca : Nat → ClassId} {A : Nat → Prop} {H0 : Heap} (mk fr ch cn c0 r0 c1 r1 : Nat) (L un c_ cx fst fi0 w0 le0 fi1 w1 le1 : Nat) (made word : Int32) (frame counts ring0 ring1 : Nat → Int32) (h1 : un + 6 = L) (h2 : 64 ≤ L) (h3 : L ≤ 256) (h4 : c_ < 3) (h5 : cx = 0 ∨ cx = 1 ∨ cx = 7) (h6 : fst < 2048) (S0 : CallFix p m c b_Mk_make 7 s args gd_tbl "DownFrames$Maker") (hK : PW D ca s) (hA : ∀ q, H0.size ≤ q → A q) (kk : ∀  (H : Heap) (locs : List Loc) (ls : Array Slot), va_P D classes [(mk, .inr (1, [.ref fr, .ref ch, .int (made + nI 1), .ref cn])), (fr, .inl (ca 0, L, .inl (bl (bl (bl (bl (bl (bl frame 0 2 (pt (nI (5537 + 2 * cx)) 2)) 2 1 (pt made 1)) 3 1 (pt (counts c_) 1)) 4 2 (pt (nI (6144 + fst)) 2)) un 4 (pt word 4)) (un + 4) 2 (pt (nI (crc (bl (bl (bl (bl (bl frame 0 2 (pt (nI (5537 + 2 * cx)) 2)) 2 1 (pt made 1)) 3 1 (pt (counts c_) 1)) 4 2 (pt (nI (6144 + fst)) 2)) un 4 (pt word 4)) (un + 4))) 2)))), (ch, .inl (ca 2, 2, .inr (.inr (.inr (.inr (chf c0 c1)))))), (cn, .inl (ca 1, 3, .inl (upd counts c_ (counts c_ + nI 1)))), (c0, .inr (0, [.ref r0, .int (nI fi0), .int (nI w0), .int (nI le0)])), (r0, .inl (ca 0, 4096, .inl ring0)), (c1, .inr (0, [.ref r1, .int (nI fi1), .int (nI w1), .int (nI le1)])), (r1, .inl (ca 0, 4096, .inl ring1))] H → va_D A [(mk, .inr (1, [.ref fr, .ref ch, .int (made + nI 1), .ref cn])), (fr, .inl (ca 0, L, .inl (bl (bl (bl (bl (bl (bl frame 0 2 (pt (nI (5537 + 2 * cx)) 2)) 2 1 (pt made 1)) 3 1 (pt (counts c_) 1)) 4 2 (pt (nI (6144 + fst)) 2)) un 4 (pt word 4)) (un + 4) 2 (pt (nI (crc (bl (bl (bl (bl (bl frame 0 2 (pt (nI (5537 + 2 * cx)) 2)) 2 1 (pt made 1)) 3 1 (pt (counts c_) 1)) 4 2 (pt (nI (6144 + fst)) 2)) un 4 (pt word 4)) (un + 4))) 2)))), (ch, .inl (ca 2, 2, .inr (.inr (.inr (.inr (chf c0 c1)))))), (cn, .inl (ca 1, 3, .inl (upd counts c_ (counts c_ + nI 1)))), (c0, .inr (0, [.ref r0, .int (nI fi0), .int (nI w0), .int (nI le0)])), (r0, .inl (ca 0, 4096, .inl ring0)), (c1, .inr (0, [.ref r1, .int (nI fi1), .int (nI w1), .int (nI le1)])), (r1, .inl (ca 0, 4096, .inl ring1))] → va_S A H0 H locs → lv_has ls 7 [(3, .int (nI cx))] → W p l e ({ frames := 3, cells := 0, slots := 0, locals := 69 } : Room) s m args below meth c H locs 0 0 Q (F0 m 199 ls [])) (H : Heap) (locs : List Loc) (ls : Array Slot) (hP : va_P D classes [(mk, .inr (1, [.ref fr, .ref ch, .int made, .ref cn])), (fr, .inl (ca 0, L, .inl frame)), (ch, .inl (ca 2, 2, .inr (.inr (.inr (.inr (chf c0 c1)))))), (cn, .inl (ca 1, 3, .inl counts)), (c0, .inr (0, [.ref r0, .int (nI fi0), .int (nI w0), .int (nI le0)])), (r0, .inl (ca 0, 4096, .inl ring0)), (c1, .inr (0, [.ref r1, .int (nI fi1), .int (nI w1), .int (nI le1)])), (r1, .inl (ca 0, 4096, .inl ring1))] H) (hD : va_D A [(mk, .inr (1, [.ref fr, .ref ch, .int made, .ref cn])), (fr, .inl (ca 0, L, .inl frame)), (ch, .inl (ca 2, 2, .inr (.inr (.inr (.inr (chf c0 c1)))))), (cn, .inl (ca 1, 3, .inl counts)), (c0, .inr (0, [.ref r0, .int (nI fi0), .int (nI w0), .int (nI le0)])), (r0, .inl (ca 0, 4096, .inl ring0)), (c1, .inr (0, [.ref r1, .int (nI fi1), .int (nI w1), .int (nI le1)])), (r1, .inl (ca 0, 4096, .inl ring1))]) (hS : va_S A H0 H locs) (hl : lv_has ls 7 [(0, .ref mk), (1, .int word), (2, .int (nI c_)), (3, .int (nI cx)), (4, .int (nI un)), (5, .int (nI fst))]) : W p l e ({ frames := 3, cells := 0, slots := 0, locals := 69 } : Room) s m args below meth c H locs 0 0 Q (F0 m 101 ls []) := by
  have hx := S0.1
  have hb := S0.2.1
  refine lv_aload_n hx hb d_Mk_make_101 rfl (lv_at hl 0 rfl) ?_
  refine lv_iconst (v := nI 0) hx hb d_Mk_make_102 (by decide) ?_
  refine lv_iconst (v := nI 2) hx hb d_Mk_make_103 (by decide) ?_
  refine lv_sipush (v := nI 5536) hx hb d_Mk_make_104 (by decide) ?_
  refine lv_iload_n hx hb d_Mk_make_107 rfl (lv_at hl 3 rfl) ?_
  refine lv_iconst (v := nI 1) hx hb d_Mk_make_108 (by decide) ?_
  refine lz_ishl hx hb 1 (by decide) (by omega) d_Mk_make_109 ?_
  refine lv_ior hx hb d_Mk_make_110 ?_
  refine lv_iconst (v := nI 1) hx hb d_Mk_make_111 (by decide) ?_
  refine lv_ior hx hb d_Mk_make_112 ?_
  refine lz_top (y := nI (5537 + 2 * cx)) (by rcases h5 with rfl | rfl | rfl <;> decide +kernel) ?_
  refine k_Vv (n := 3) (As := [.int (nI 0), .int (nI 2), .int (nI (5537 + 2 * cx))]) (rest := []) (wc := [(mk, .inr (1, [.ref fr, .ref ch, .int made, .ref cn])), (fr, .inl (ca 0, L, .inl frame))]) (wr := [(ch, .inl (ca 2, 2, .inr (.inr (.inr (.inr (chf c0 c1)))))), (cn, .inl (ca 1, 3, .inl counts)), (c0, .inr (0, [.ref r0, .int (nI fi0), .int (nI w0), .int (nI le0)])), (r0, .inl (ca 0, 4096, .inl ring0)), (c1, .inr (0, [.ref r1, .int (nI fi1), .int (nI w1), .int (nI le1)])), (r1, .inl (ca 0, 4096, .inl ring1))]) (ci := 1) (q0 := 0) S0 rfl q_119 q_121 q_p5 q_2 rfl rfl q_122 (by decide +kernel) hK hP hD hS hA (c_Mk_put l D ca H.size mk fr ch cn L (0) 2 made (nI (5537 + 2 * cx)) (frame) (by omega) h3) [0, 1] [2, 3, 4, 5, 6, 7] rfl rfl (by decide) (by decide) (by decide) ⟨Nat.le_of_ble_eq_true rfl, Nat.le_of_ble_eq_true rfl⟩ rfl hl.1 rfl (Nat.le_of_ble_eq_true rfl) ⟨Nat.le_of_ble_eq_true rfl, Nat.le_of_ble_eq_true rfl⟩ d_Mk_make_113 (fun u H locs hw hP hD hS => ?_)
  refine W.cs (cells' := 0) (slots' := 0) rfl rfl ?_
  have hP : va_P D classes [(ch, .inl (ca 2, 2, .inr (.inr (.inr (.inr (chf c0 c1)))))), (cn, .inl (ca 1, 3, .inl counts)), (c0, .inr (0, [.ref r0, .int (nI fi0), .int (nI w0), .int (nI le0)])), (r0, .inl (ca 0, 4096, .inl ring0)), (c1, .inr (0, [.ref r1, .int (nI fi1), .int (nI w1), .int (nI le1)])), (r1, .inl (ca 0, 4096, .inl ring1)), (mk, .inr (1, [.ref fr, .ref ch, .int made, .ref cn])), (fr, .inl (ca 0, L, .inl (bl (frame) 0 2 (pt (nI (5537 + 2 * cx)) 2))))] H := hP
  have hD : va_D A [(ch, .inl (ca 2, 2, .inr (.inr (.inr (.inr (chf c0 c1)))))), (cn, .inl (ca 1, 3, .inl counts)), (c0, .inr (0, [.ref r0, .int (nI fi0), .int (nI w0), .int (nI le0)])), (r0, .inl (ca 0, 4096, .inl ring0)), (c1, .inr (0, [.ref r1, .int (nI fi1), .int (nI w1), .int (nI le1)])), (r1, .inl (ca 0, 4096, .inl ring1)), (mk, .inr (1, [.ref fr, .ref ch, .int made, .ref cn])), (fr, .inl (ca 0, L, .inl (bl (frame) 0 2 (pt (nI (5537 + 2 * cx)) 2))))] := hD
  refine lv_aload_n hx hb d_Mk_make_116 rfl (lv_at hl 0 rfl) ?_
  refine lv_iconst (v := nI 2) hx hb d_Mk_make_117 (by decide) ?_
  refine lv_iconst (v := nI 1) hx hb d_Mk_make_118 (by decide) ?_
  refine lv_aload_n hx hb d_Mk_make_119 rfl (lv_at hl 0 rfl) ?_
  refine gf_Mk_42 (q0 := 6) S0 hK hP rfl rfl d_Mk_make_120 ?_
  refine k_Vv (n := 3) (As := [.int (nI 2), .int (nI 1), .int made]) (rest := []) (wc := [(mk, .inr (1, [.ref fr, .ref ch, .int made, .ref cn])), (fr, .inl (ca 0, L, .inl (bl (frame) 0 2 (pt (nI (5537 + 2 * cx)) 2))))]) (wr := [(ch, .inl (ca 2, 2, .inr (.inr (.inr (.inr (chf c0 c1)))))), (cn, .inl (ca 1, 3, .inl counts)), (c0, .inr (0, [.ref r0, .int (nI fi0), .int (nI w0), .int (nI le0)])), (r0, .inl (ca 0, 4096, .inl ring0)), (c1, .inr (0, [.ref r1, .int (nI fi1), .int (nI w1), .int (nI le1)])), (r1, .inl (ca 0, 4096, .inl ring1))]) (ci := 1) (q0 := 0) S0 rfl q_119 q_121 q_p5 q_2 rfl rfl q_122 (by decide +kernel) hK hP hD hS hA (c_Mk_put l D ca H.size mk fr ch cn L (2) 1 made (made) (bl (frame) 0 2 (pt (nI (5537 + 2 * cx)) 2)) (by omega) h3) [6, 7] [0, 1, 2, 3, 4, 5] rfl rfl (by decide) (by decide) (by decide) ⟨Nat.le_of_ble_eq_true rfl, Nat.le_of_ble_eq_true rfl⟩ rfl hl.1 rfl (Nat.le_of_ble_eq_true rfl) ⟨Nat.le_of_ble_eq_true rfl, Nat.le_of_ble_eq_true rfl⟩ d_Mk_make_123 (fun u H locs hw hP hD hS => ?_)
  refine W.cs (cells' := 0) (slots' := 0) rfl rfl ?_
  have hP : va_P D classes [(ch, .inl (ca 2, 2, .inr (.inr (.inr (.inr (chf c0 c1)))))), (cn, .inl (ca 1, 3, .inl counts)), (c0, .inr (0, [.ref r0, .int (nI fi0), .int (nI w0), .int (nI le0)])), (r0, .inl (ca 0, 4096, .inl ring0)), (c1, .inr (0, [.ref r1, .int (nI fi1), .int (nI w1), .int (nI le1)])), (r1, .inl (ca 0, 4096, .inl ring1)), (mk, .inr (1, [.ref fr, .ref ch, .int made, .ref cn])), (fr, .inl (ca 0, L, .inl (bl (bl (frame) 0 2 (pt (nI (5537 + 2 * cx)) 2)) 2 1 (pt made 1))))] H := hP
  have hD : va_D A [(ch, .inl (ca 2, 2, .inr (.inr (.inr (.inr (chf c0 c1)))))), (cn, .inl (ca 1, 3, .inl counts)), (c0, .inr (0, [.ref r0, .int (nI fi0), .int (nI w0), .int (nI le0)])), (r0, .inl (ca 0, 4096, .inl ring0)), (c1, .inr (0, [.ref r1, .int (nI fi1), .int (nI w1), .int (nI le1)])), (r1, .inl (ca 0, 4096, .inl ring1)), (mk, .inr (1, [.ref fr, .ref ch, .int made, .ref cn])), (fr, .inl (ca 0, L, .inl (bl (bl (frame) 0 2 (pt (nI (5537 + 2 * cx)) 2)) 2 1 (pt made 1))))] := hD
  refine lv_aload_n hx hb d_Mk_make_126 rfl (lv_at hl 0 rfl) ?_
  refine lv_iconst (v := nI 3) hx hb d_Mk_make_127 (by decide) ?_
  refine lv_iconst (v := nI 1) hx hb d_Mk_make_128 (by decide) ?_
  refine lv_aload_n hx hb d_Mk_make_129 rfl (lv_at hl 0 rfl) ?_
  refine gf_Mk_18 (q0 := 6) S0 hK hP rfl rfl d_Mk_make_130 ?_
  refine lv_iload_n hx hb d_Mk_make_133 rfl (lv_at hl 2 rfl) ?_
  refine lz_iald (i := c_) hx hb hK.1 hP 1 1 rfl rfl (by omega) (by decide) d_Mk_make_134 ?_
  refine k_Vv (n := 3) (As := [.int (nI 3), .int (nI 1), .int (counts c_)]) (rest := []) (wc := [(mk, .inr (1, [.ref fr, .ref ch, .int made, .ref cn])), (fr, .inl (ca 0, L, .inl (bl (bl (frame) 0 2 (pt (nI (5537 + 2 * cx)) 2)) 2 1 (pt made 1))))]) (wr := [(ch, .inl (ca 2, 2, .inr (.inr (.inr (.inr (chf c0 c1)))))), (cn, .inl (ca 1, 3, .inl counts)), (c0, .inr (0, [.ref r0, .int (nI fi0), .int (nI w0), .int (nI le0)])), (r0, .inl (ca 0, 4096, .inl ring0)), (c1, .inr (0, [.ref r1, .int (nI fi1), .int (nI w1), .int (nI le1)])), (r1, .inl (ca 0, 4096, .inl ring1))]) (ci := 1) (q0 := 0) S0 rfl q_119 q_121 q_p5 q_2 rfl rfl q_122 (by decide +kernel) hK hP hD hS hA (c_Mk_put l D ca H.size mk fr ch cn L (3) 1 made (counts c_) (bl (bl (frame) 0 2 (pt (nI (5537 + 2 * cx)) 2)) 2 1 (pt made 1)) (by omega) h3) [6, 7] [0, 1, 2, 3, 4, 5] rfl rfl (by decide) (by decide) (by decide) ⟨Nat.le_of_ble_eq_true rfl, Nat.le_of_ble_eq_true rfl⟩ rfl hl.1 rfl (Nat.le_of_ble_eq_true rfl) ⟨Nat.le_of_ble_eq_true rfl, Nat.le_of_ble_eq_true rfl⟩ d_Mk_make_135 (fun u H locs hw hP hD hS => ?_)
  refine W.cs (cells' := 0) (slots' := 0) rfl rfl ?_
  have hP : va_P D classes [(ch, .inl (ca 2, 2, .inr (.inr (.inr (.inr (chf c0 c1)))))), (cn, .inl (ca 1, 3, .inl counts)), (c0, .inr (0, [.ref r0, .int (nI fi0), .int (nI w0), .int (nI le0)])), (r0, .inl (ca 0, 4096, .inl ring0)), (c1, .inr (0, [.ref r1, .int (nI fi1), .int (nI w1), .int (nI le1)])), (r1, .inl (ca 0, 4096, .inl ring1)), (mk, .inr (1, [.ref fr, .ref ch, .int made, .ref cn])), (fr, .inl (ca 0, L, .inl (bl (bl (bl (frame) 0 2 (pt (nI (5537 + 2 * cx)) 2)) 2 1 (pt made 1)) 3 1 (pt (counts c_) 1))))] H := hP
  have hD : va_D A [(ch, .inl (ca 2, 2, .inr (.inr (.inr (.inr (chf c0 c1)))))), (cn, .inl (ca 1, 3, .inl counts)), (c0, .inr (0, [.ref r0, .int (nI fi0), .int (nI w0), .int (nI le0)])), (r0, .inl (ca 0, 4096, .inl ring0)), (c1, .inr (0, [.ref r1, .int (nI fi1), .int (nI w1), .int (nI le1)])), (r1, .inl (ca 0, 4096, .inl ring1)), (mk, .inr (1, [.ref fr, .ref ch, .int made, .ref cn])), (fr, .inl (ca 0, L, .inl (bl (bl (bl (frame) 0 2 (pt (nI (5537 + 2 * cx)) 2)) 2 1 (pt made 1)) 3 1 (pt (counts c_) 1))))] := hD
  refine lv_aload_n hx hb d_Mk_make_138 rfl (lv_at hl 0 rfl) ?_
  refine lv_iconst (v := nI 4) hx hb d_Mk_make_139 (by decide) ?_
  refine lv_iconst (v := nI 2) hx hb d_Mk_make_140 (by decide) ?_
  refine lv_sipush (v := nI 6144) hx hb d_Mk_make_141 (by decide) ?_
  refine lv_iload hx hb d_Mk_make_144 (lv_at hl 5 rfl) ?_
  refine lv_ior hx hb d_Mk_make_146 ?_
  refine lz_top (y := nI (6144 + fst)) (by rw [nI_or, show (6144 : Nat) = 3 * 2 ^ 11 from rfl, or_lo (by omega)]) ?_
  refine k_Vv (n := 3) (As := [.int (nI 4), .int (nI 2), .int (nI (6144 + fst))]) (rest := []) (wc := [(mk, .inr (1, [.ref fr, .ref ch, .int made, .ref cn])), (fr, .inl (ca 0, L, .inl (bl (bl (bl (frame) 0 2 (pt (nI (5537 + 2 * cx)) 2)) 2 1 (pt made 1)) 3 1 (pt (counts c_) 1))))]) (wr := [(ch, .inl (ca 2, 2, .inr (.inr (.inr (.inr (chf c0 c1)))))), (cn, .inl (ca 1, 3, .inl counts)), (c0, .inr (0, [.ref r0, .int (nI fi0), .int (nI w0), .int (nI le0)])), (r0, .inl (ca 0, 4096, .inl ring0)), (c1, .inr (0, [.ref r1, .int (nI fi1), .int (nI w1), .int (nI le1)])), (r1, .inl (ca 0, 4096, .inl ring1))]) (ci := 1) (q0 := 0) S0 rfl q_119 q_121 q_p5 q_2 rfl rfl q_122 (by decide +kernel) hK hP hD hS hA (c_Mk_put l D ca H.size mk fr ch cn L (4) 2 made (nI (6144 + fst)) (bl (bl (bl (frame) 0 2 (pt (nI (5537 + 2 * cx)) 2)) 2 1 (pt made 1)) 3 1 (pt (counts c_) 1)) (by omega) h3) [6, 7] [0, 1, 2, 3, 4, 5] rfl rfl (by decide) (by decide) (by decide) ⟨Nat.le_of_ble_eq_true rfl, Nat.le_of_ble_eq_true rfl⟩ rfl hl.1 rfl (Nat.le_of_ble_eq_true rfl) ⟨Nat.le_of_ble_eq_true rfl, Nat.le_of_ble_eq_true rfl⟩ d_Mk_make_147 (fun u H locs hw hP hD hS => ?_)
  refine W.cs (cells' := 0) (slots' := 0) rfl rfl ?_
  have hP : va_P D classes [(ch, .inl (ca 2, 2, .inr (.inr (.inr (.inr (chf c0 c1)))))), (cn, .inl (ca 1, 3, .inl counts)), (c0, .inr (0, [.ref r0, .int (nI fi0), .int (nI w0), .int (nI le0)])), (r0, .inl (ca 0, 4096, .inl ring0)), (c1, .inr (0, [.ref r1, .int (nI fi1), .int (nI w1), .int (nI le1)])), (r1, .inl (ca 0, 4096, .inl ring1)), (mk, .inr (1, [.ref fr, .ref ch, .int made, .ref cn])), (fr, .inl (ca 0, L, .inl (bl (bl (bl (bl (frame) 0 2 (pt (nI (5537 + 2 * cx)) 2)) 2 1 (pt made 1)) 3 1 (pt (counts c_) 1)) 4 2 (pt (nI (6144 + fst)) 2))))] H := hP
  have hD : va_D A [(ch, .inl (ca 2, 2, .inr (.inr (.inr (.inr (chf c0 c1)))))), (cn, .inl (ca 1, 3, .inl counts)), (c0, .inr (0, [.ref r0, .int (nI fi0), .int (nI w0), .int (nI le0)])), (r0, .inl (ca 0, 4096, .inl ring0)), (c1, .inr (0, [.ref r1, .int (nI fi1), .int (nI w1), .int (nI le1)])), (r1, .inl (ca 0, 4096, .inl ring1)), (mk, .inr (1, [.ref fr, .ref ch, .int made, .ref cn])), (fr, .inl (ca 0, L, .inl (bl (bl (bl (bl (frame) 0 2 (pt (nI (5537 + 2 * cx)) 2)) 2 1 (pt made 1)) 3 1 (pt (counts c_) 1)) 4 2 (pt (nI (6144 + fst)) 2))))] := hD
  refine lv_aload_n hx hb d_Mk_make_150 rfl (lv_at hl 0 rfl) ?_
  refine lv_iload hx hb d_Mk_make_151 (lv_at hl 4 rfl) ?_
  refine lv_iconst (v := nI 4) hx hb d_Mk_make_153 (by decide) ?_
  refine lv_iload_n hx hb d_Mk_make_154 rfl (lv_at hl 1 rfl) ?_
  refine k_Vv (n := 3) (As := [.int (nI un), .int (nI 4), .int word]) (rest := []) (wc := [(mk, .inr (1, [.ref fr, .ref ch, .int made, .ref cn])), (fr, .inl (ca 0, L, .inl (bl (bl (bl (bl (frame) 0 2 (pt (nI (5537 + 2 * cx)) 2)) 2 1 (pt made 1)) 3 1 (pt (counts c_) 1)) 4 2 (pt (nI (6144 + fst)) 2))))]) (wr := [(ch, .inl (ca 2, 2, .inr (.inr (.inr (.inr (chf c0 c1)))))), (cn, .inl (ca 1, 3, .inl counts)), (c0, .inr (0, [.ref r0, .int (nI fi0), .int (nI w0), .int (nI le0)])), (r0, .inl (ca 0, 4096, .inl ring0)), (c1, .inr (0, [.ref r1, .int (nI fi1), .int (nI w1), .int (nI le1)])), (r1, .inl (ca 0, 4096, .inl ring1))]) (ci := 1) (q0 := 0) S0 rfl q_119 q_121 q_p5 q_2 rfl rfl q_122 (by decide +kernel) hK hP hD hS hA (c_Mk_put l D ca H.size mk fr ch cn L (un) 4 made (word) (bl (bl (bl (bl (frame) 0 2 (pt (nI (5537 + 2 * cx)) 2)) 2 1 (pt made 1)) 3 1 (pt (counts c_) 1)) 4 2 (pt (nI (6144 + fst)) 2)) (by omega) h3) [6, 7] [0, 1, 2, 3, 4, 5] rfl rfl (by decide) (by decide) (by decide) ⟨Nat.le_of_ble_eq_true rfl, Nat.le_of_ble_eq_true rfl⟩ rfl hl.1 rfl (Nat.le_of_ble_eq_true rfl) ⟨Nat.le_of_ble_eq_true rfl, Nat.le_of_ble_eq_true rfl⟩ d_Mk_make_155 (fun u H locs hw hP hD hS => ?_)
  refine W.cs (cells' := 0) (slots' := 0) rfl rfl ?_
  have hP : va_P D classes [(ch, .inl (ca 2, 2, .inr (.inr (.inr (.inr (chf c0 c1)))))), (cn, .inl (ca 1, 3, .inl counts)), (c0, .inr (0, [.ref r0, .int (nI fi0), .int (nI w0), .int (nI le0)])), (r0, .inl (ca 0, 4096, .inl ring0)), (c1, .inr (0, [.ref r1, .int (nI fi1), .int (nI w1), .int (nI le1)])), (r1, .inl (ca 0, 4096, .inl ring1)), (mk, .inr (1, [.ref fr, .ref ch, .int made, .ref cn])), (fr, .inl (ca 0, L, .inl (bl (bl (bl (bl (bl (frame) 0 2 (pt (nI (5537 + 2 * cx)) 2)) 2 1 (pt made 1)) 3 1 (pt (counts c_) 1)) 4 2 (pt (nI (6144 + fst)) 2)) un 4 (pt word 4))))] H := hP
  have hD : va_D A [(ch, .inl (ca 2, 2, .inr (.inr (.inr (.inr (chf c0 c1)))))), (cn, .inl (ca 1, 3, .inl counts)), (c0, .inr (0, [.ref r0, .int (nI fi0), .int (nI w0), .int (nI le0)])), (r0, .inl (ca 0, 4096, .inl ring0)), (c1, .inr (0, [.ref r1, .int (nI fi1), .int (nI w1), .int (nI le1)])), (r1, .inl (ca 0, 4096, .inl ring1)), (mk, .inr (1, [.ref fr, .ref ch, .int made, .ref cn])), (fr, .inl (ca 0, L, .inl (bl (bl (bl (bl (bl (frame) 0 2 (pt (nI (5537 + 2 * cx)) 2)) 2 1 (pt made 1)) 3 1 (pt (counts c_) 1)) 4 2 (pt (nI (6144 + fst)) 2)) un 4 (pt word 4))))] := hD
  refine lv_aload_n hx hb d_Mk_make_158 rfl (lv_at hl 0 rfl) ?_
  refine lv_iload hx hb d_Mk_make_159 (lv_at hl 4 rfl) ?_
  refine lv_iconst (v := nI 4) hx hb d_Mk_make_161 (by decide) ?_
  refine lz_iadd hx hb d_Mk_make_162 ?_
  refine lv_iconst (v := nI 2) hx hb d_Mk_make_163 (by decide) ?_
  refine lv_aload_n hx hb d_Mk_make_164 rfl (lv_at hl 0 rfl) ?_
  refine gf_Mk_22 (q0 := 6) S0 hK hP rfl rfl d_Mk_make_165 ?_
  refine lv_iconst (v := nI 0) hx hb d_Mk_make_168 (by decide) ?_
  refine lv_iload hx hb d_Mk_make_169 (lv_at hl 4 rfl) ?_
  refine lv_iconst (v := nI 4) hx hb d_Mk_make_171 (by decide) ?_
  refine lz_iadd hx hb d_Mk_make_172 ?_
  refine k_Si (n := 3) (As := [.ref fr, .int (nI 0), .int (nI (un + 4))]) (rest := [.int (nI 2), .int (nI (un + 4)), .ref mk]) (wc := [(fr, .inl (ca 0, L, .inl (bl (bl (bl (bl (bl (frame) 0 2 (pt (nI (5537 + 2 * cx)) 2)) 2 1 (pt made 1)) 3 1 (pt (counts c_) 1)) 4 2 (pt (nI (6144 + fst)) 2)) un 4 (pt word 4))))]) (wr := [(ch, .inl (ca 2, 2, .inr (.inr (.inr (.inr (chf c0 c1)))))), (cn, .inl (ca 1, 3, .inl counts)), (c0, .inr (0, [.ref r0, .int (nI fi0), .int (nI w0), .int (nI le0)])), (r0, .inl (ca 0, 4096, .inl ring0)), (c1, .inr (0, [.ref r1, .int (nI fi1), .int (nI w1), .int (nI le1)])), (r1, .inl (ca 0, 4096, .inl ring1)), (mk, .inr (1, [.ref fr, .ref ch, .int made, .ref cn]))]) S0 q_123 q_124 q_5 q_125 (by decide +kernel) hK hP hD hS hA (c_Ck_of l D ca H.size fr L (un + 4) (bl (bl (bl (bl (bl (frame) 0 2 (pt (nI (5537 + 2 * cx)) 2)) 2 1 (pt made 1)) 3 1 (pt (counts c_) 1)) 4 2 (pt (nI (6144 + fst)) 2)) un 4 (pt word 4)) (by omega) h3) [7] [0, 1, 2, 3, 4, 5, 6] rfl rfl (by decide) (by decide) (by decide) ⟨Nat.le_of_ble_eq_true rfl, Nat.le_of_ble_eq_true rfl⟩ rfl hl.1 rfl (Nat.le_of_ble_eq_true rfl) ⟨Nat.le_of_ble_eq_true rfl, Nat.le_of_ble_eq_true rfl⟩ d_Mk_make_173 (fun r_1 u H locs hw hP hD hS => ?_)
  refine W.cs (cells' := 0) (slots' := 0) rfl rfl ?_
  subst hw
  have hP : va_P D classes [(ch, .inl (ca 2, 2, .inr (.inr (.inr (.inr (chf c0 c1)))))), (cn, .inl (ca 1, 3, .inl counts)), (c0, .inr (0, [.ref r0, .int (nI fi0), .int (nI w0), .int (nI le0)])), (r0, .inl (ca 0, 4096, .inl ring0)), (c1, .inr (0, [.ref r1, .int (nI fi1), .int (nI w1), .int (nI le1)])), (r1, .inl (ca 0, 4096, .inl ring1)), (mk, .inr (1, [.ref fr, .ref ch, .int made, .ref cn])), (fr, .inl (ca 0, L, .inl (bl (bl (bl (bl (bl (frame) 0 2 (pt (nI (5537 + 2 * cx)) 2)) 2 1 (pt made 1)) 3 1 (pt (counts c_) 1)) 4 2 (pt (nI (6144 + fst)) 2)) un 4 (pt word 4))))] H := hP
  have hD : va_D A [(ch, .inl (ca 2, 2, .inr (.inr (.inr (.inr (chf c0 c1)))))), (cn, .inl (ca 1, 3, .inl counts)), (c0, .inr (0, [.ref r0, .int (nI fi0), .int (nI w0), .int (nI le0)])), (r0, .inl (ca 0, 4096, .inl ring0)), (c1, .inr (0, [.ref r1, .int (nI fi1), .int (nI w1), .int (nI le1)])), (r1, .inl (ca 0, 4096, .inl ring1)), (mk, .inr (1, [.ref fr, .ref ch, .int made, .ref cn])), (fr, .inl (ca 0, L, .inl (bl (bl (bl (bl (bl (frame) 0 2 (pt (nI (5537 + 2 * cx)) 2)) 2 1 (pt made 1)) 3 1 (pt (counts c_) 1)) 4 2 (pt (nI (6144 + fst)) 2)) un 4 (pt word 4))))] := hD
  refine k_Vv (n := 3) (As := [.int (nI (un + 4)), .int (nI 2), .int (nI (crc (bl (bl (bl (bl (bl (frame) 0 2 (pt (nI (5537 + 2 * cx)) 2)) 2 1 (pt made 1)) 3 1 (pt (counts c_) 1)) 4 2 (pt (nI (6144 + fst)) 2)) un 4 (pt word 4)) (un + 4)))]) (rest := []) (wc := [(mk, .inr (1, [.ref fr, .ref ch, .int made, .ref cn])), (fr, .inl (ca 0, L, .inl (bl (bl (bl (bl (bl (frame) 0 2 (pt (nI (5537 + 2 * cx)) 2)) 2 1 (pt made 1)) 3 1 (pt (counts c_) 1)) 4 2 (pt (nI (6144 + fst)) 2)) un 4 (pt word 4))))]) (wr := [(ch, .inl (ca 2, 2, .inr (.inr (.inr (.inr (chf c0 c1)))))), (cn, .inl (ca 1, 3, .inl counts)), (c0, .inr (0, [.ref r0, .int (nI fi0), .int (nI w0), .int (nI le0)])), (r0, .inl (ca 0, 4096, .inl ring0)), (c1, .inr (0, [.ref r1, .int (nI fi1), .int (nI w1), .int (nI le1)])), (r1, .inl (ca 0, 4096, .inl ring1))]) (ci := 1) (q0 := 0) S0 rfl q_119 q_121 q_p5 q_2 rfl rfl q_122 (by decide +kernel) hK hP hD hS hA (c_Mk_put l D ca H.size mk fr ch cn L (un + 4) 2 made (nI (crc (bl (bl (bl (bl (bl (frame) 0 2 (pt (nI (5537 + 2 * cx)) 2)) 2 1 (pt made 1)) 3 1 (pt (counts c_) 1)) 4 2 (pt (nI (6144 + fst)) 2)) un 4 (pt word 4)) (un + 4))) (bl (bl (bl (bl (bl (frame) 0 2 (pt (nI (5537 + 2 * cx)) 2)) 2 1 (pt made 1)) 3 1 (pt (counts c_) 1)) 4 2 (pt (nI (6144 + fst)) 2)) un 4 (pt word 4)) (by omega) h3) [6, 7] [0, 1, 2, 3, 4, 5] rfl rfl (by decide) (by decide) (by decide) ⟨Nat.le_of_ble_eq_true rfl, Nat.le_of_ble_eq_true rfl⟩ rfl hl.1 rfl (Nat.le_of_ble_eq_true rfl) ⟨Nat.le_of_ble_eq_true rfl, Nat.le_of_ble_eq_true rfl⟩ d_Mk_make_176 (fun u H locs hw hP hD hS => ?_)
  refine W.cs (cells' := 0) (slots' := 0) rfl rfl ?_
  have hP : va_P D classes [(ch, .inl (ca 2, 2, .inr (.inr (.inr (.inr (chf c0 c1)))))), (cn, .inl (ca 1, 3, .inl counts)), (c0, .inr (0, [.ref r0, .int (nI fi0), .int (nI w0), .int (nI le0)])), (r0, .inl (ca 0, 4096, .inl ring0)), (c1, .inr (0, [.ref r1, .int (nI fi1), .int (nI w1), .int (nI le1)])), (r1, .inl (ca 0, 4096, .inl ring1)), (mk, .inr (1, [.ref fr, .ref ch, .int made, .ref cn])), (fr, .inl (ca 0, L, .inl (bl (bl (bl (bl (bl (bl (frame) 0 2 (pt (nI (5537 + 2 * cx)) 2)) 2 1 (pt made 1)) 3 1 (pt (counts c_) 1)) 4 2 (pt (nI (6144 + fst)) 2)) un 4 (pt word 4)) (un + 4) 2 (pt (nI (crc (bl (bl (bl (bl (bl (frame) 0 2 (pt (nI (5537 + 2 * cx)) 2)) 2 1 (pt made 1)) 3 1 (pt (counts c_) 1)) 4 2 (pt (nI (6144 + fst)) 2)) un 4 (pt word 4)) (un + 4))) 2))))] H := hP
  have hD : va_D A [(ch, .inl (ca 2, 2, .inr (.inr (.inr (.inr (chf c0 c1)))))), (cn, .inl (ca 1, 3, .inl counts)), (c0, .inr (0, [.ref r0, .int (nI fi0), .int (nI w0), .int (nI le0)])), (r0, .inl (ca 0, 4096, .inl ring0)), (c1, .inr (0, [.ref r1, .int (nI fi1), .int (nI w1), .int (nI le1)])), (r1, .inl (ca 0, 4096, .inl ring1)), (mk, .inr (1, [.ref fr, .ref ch, .int made, .ref cn])), (fr, .inl (ca 0, L, .inl (bl (bl (bl (bl (bl (bl (frame) 0 2 (pt (nI (5537 + 2 * cx)) 2)) 2 1 (pt made 1)) 3 1 (pt (counts c_) 1)) 4 2 (pt (nI (6144 + fst)) 2)) un 4 (pt word 4)) (un + 4) 2 (pt (nI (crc (bl (bl (bl (bl (bl (frame) 0 2 (pt (nI (5537 + 2 * cx)) 2)) 2 1 (pt made 1)) 3 1 (pt (counts c_) 1)) 4 2 (pt (nI (6144 + fst)) 2)) un 4 (pt word 4)) (un + 4))) 2))))] := hD
  refine lv_aload_n hx hb d_Mk_make_179 rfl (lv_at hl 0 rfl) ?_
  refine lv_dup hx hb d_Mk_make_180 rfl ?_
  refine gf_Mk_42 (q0 := 6) S0 hK hP rfl rfl d_Mk_make_181 ?_
  refine lv_iconst (v := nI 1) hx hb d_Mk_make_184 (by decide) ?_
  refine lv_iadd hx hb d_Mk_make_185 ?_
  refine pf_Mk_42 (q0 := 6) S0 hK hP hD hS rfl rfl rfl (Nat.le_of_ble_eq_true rfl) d_Mk_make_186 (fun H locs hP hD hS => ?_)
  have hP : va_P D classes [(ch, .inl (ca 2, 2, .inr (.inr (.inr (.inr (chf c0 c1)))))), (cn, .inl (ca 1, 3, .inl counts)), (c0, .inr (0, [.ref r0, .int (nI fi0), .int (nI w0), .int (nI le0)])), (r0, .inl (ca 0, 4096, .inl ring0)), (c1, .inr (0, [.ref r1, .int (nI fi1), .int (nI w1), .int (nI le1)])), (r1, .inl (ca 0, 4096, .inl ring1)), (mk, .inr (1, [.ref fr, .ref ch, .int (made + (nI 1)), .ref cn])), (fr, .inl (ca 0, L, .inl (bl (bl (bl (bl (bl (bl (frame) 0 2 (pt (nI (5537 + 2 * cx)) 2)) 2 1 (pt made 1)) 3 1 (pt (counts c_) 1)) 4 2 (pt (nI (6144 + fst)) 2)) un 4 (pt word 4)) (un + 4) 2 (pt (nI (crc (bl (bl (bl (bl (bl (frame) 0 2 (pt (nI (5537 + 2 * cx)) 2)) 2 1 (pt made 1)) 3 1 (pt (counts c_) 1)) 4 2 (pt (nI (6144 + fst)) 2)) un 4 (pt word 4)) (un + 4))) 2))))] H := hP
  have hD : va_D A [(ch, .inl (ca 2, 2, .inr (.inr (.inr (.inr (chf c0 c1)))))), (cn, .inl (ca 1, 3, .inl counts)), (c0, .inr (0, [.ref r0, .int (nI fi0), .int (nI w0), .int (nI le0)])), (r0, .inl (ca 0, 4096, .inl ring0)), (c1, .inr (0, [.ref r1, .int (nI fi1), .int (nI w1), .int (nI le1)])), (r1, .inl (ca 0, 4096, .inl ring1)), (mk, .inr (1, [.ref fr, .ref ch, .int (made + (nI 1)), .ref cn])), (fr, .inl (ca 0, L, .inl (bl (bl (bl (bl (bl (bl (frame) 0 2 (pt (nI (5537 + 2 * cx)) 2)) 2 1 (pt made 1)) 3 1 (pt (counts c_) 1)) 4 2 (pt (nI (6144 + fst)) 2)) un 4 (pt word 4)) (un + 4) 2 (pt (nI (crc (bl (bl (bl (bl (bl (frame) 0 2 (pt (nI (5537 + 2 * cx)) 2)) 2 1 (pt made 1)) 3 1 (pt (counts c_) 1)) 4 2 (pt (nI (6144 + fst)) 2)) un 4 (pt word 4)) (un + 4))) 2))))] := hD
  refine lv_aload_n hx hb d_Mk_make_189 rfl (lv_at hl 0 rfl) ?_
  refine gf_Mk_18 (q0 := 6) S0 hK hP rfl rfl d_Mk_make_190 ?_
  refine lv_iload_n hx hb d_Mk_make_193 rfl (lv_at hl 2 rfl) ?_
  refine lv_dup2_11 hx hb d_Mk_make_194 rfl rfl ?_
  refine lz_iald (i := c_) hx hb hK.1 hP 1 1 rfl rfl (by omega) (by decide) d_Mk_make_195 ?_
  refine lv_iconst (v := nI 1) hx hb d_Mk_make_196 (by decide) ?_
  refine lv_iadd hx hb d_Mk_make_197 ?_
  refine lz_iast (i := c_) hx hb hK.1 hP hD hS 1 1 rfl rfl (by omega) (by decide) d_Mk_make_198 (fun H locs hP hD hS => ?_)
  have hP : va_P D classes [(ch, .inl (ca 2, 2, .inr (.inr (.inr (.inr (chf c0 c1)))))), (cn, .inl (ca 1, 3, .inl (upd counts c_ ((counts c_) + (nI 1))))), (c0, .inr (0, [.ref r0, .int (nI fi0), .int (nI w0), .int (nI le0)])), (r0, .inl (ca 0, 4096, .inl ring0)), (c1, .inr (0, [.ref r1, .int (nI fi1), .int (nI w1), .int (nI le1)])), (r1, .inl (ca 0, 4096, .inl ring1)), (mk, .inr (1, [.ref fr, .ref ch, .int (made + (nI 1)), .ref cn])), (fr, .inl (ca 0, L, .inl (bl (bl (bl (bl (bl (bl (frame) 0 2 (pt (nI (5537 + 2 * cx)) 2)) 2 1 (pt made 1)) 3 1 (pt (counts c_) 1)) 4 2 (pt (nI (6144 + fst)) 2)) un 4 (pt word 4)) (un + 4) 2 (pt (nI (crc (bl (bl (bl (bl (bl (frame) 0 2 (pt (nI (5537 + 2 * cx)) 2)) 2 1 (pt made 1)) 3 1 (pt (counts c_) 1)) 4 2 (pt (nI (6144 + fst)) 2)) un 4 (pt word 4)) (un + 4))) 2))))] H := hP
  have hD : va_D A [(ch, .inl (ca 2, 2, .inr (.inr (.inr (.inr (chf c0 c1)))))), (cn, .inl (ca 1, 3, .inl (upd counts c_ ((counts c_) + (nI 1))))), (c0, .inr (0, [.ref r0, .int (nI fi0), .int (nI w0), .int (nI le0)])), (r0, .inl (ca 0, 4096, .inl ring0)), (c1, .inr (0, [.ref r1, .int (nI fi1), .int (nI w1), .int (nI le1)])), (r1, .inl (ca 0, 4096, .inl ring1)), (mk, .inr (1, [.ref fr, .ref ch, .int (made + (nI 1)), .ref cn])), (fr, .inl (ca 0, L, .inl (bl (bl (bl (bl (bl (bl (frame) 0 2 (pt (nI (5537 + 2 * cx)) 2)) 2 1 (pt made 1)) 3 1 (pt (counts c_) 1)) 4 2 (pt (nI (6144 + fst)) 2)) un 4 (pt word 4)) (un + 4) 2 (pt (nI (crc (bl (bl (bl (bl (bl (frame) 0 2 (pt (nI (5537 + 2 * cx)) 2)) 2 1 (pt made 1)) 3 1 (pt (counts c_) 1)) 4 2 (pt (nI (6144 + fst)) 2)) un 4 (pt word 4)) (un + 4))) 2))))] := hD
  exact kk H locs ls (hP.sub [6, 7, 0, 1, 2, 3, 4, 5] rfl) (hD.sub [6, 7, 0, 1, 2, 3, 4, 5] (by decide) rfl) hS (lv_sub hl [3] rfl)
end
section
theorem bz_add (a b : Nat) : bz (nI (a + 256 * b)) = bz (nI a) := by
  have h : (nI (a + 256 * b)).toInt8 = (nI a).toInt8 := by
    apply Int8.toBitVec_inj.mp
    rw [Int32.toBitVec_toInt8, Int32.toBitVec_toInt8, BitVec.signExtend_eq_setWidth_of_le _ (by decide), BitVec.signExtend_eq_setWidth_of_le _ (by decide)]
    show (BitVec.ofNat 32 (a + 256 * b)).setWidth 8 = (BitVec.ofNat 32 a).setWidth 8
    apply BitVec.eq_of_toNat_eq
    simp only [BitVec.toNat_setWidth, BitVec.toNat_ofNat]
    omega
  unfold bz
  rw [h]
theorem shr0 (x : Int32) : x >>> (nI 0 &&& 31) = x := by
  rw [nI_0]
  exact sb_shr0 x
theorem pt1 (x : Int32) : pt x 1 0 = bz x := by
  show bz (x >>> (nI 0 &&& 31)) = _
  rw [shr0]
theorem pt20 {x : Nat} (h : x < 2 ^ 31) : pt (nI x) 2 0 = bz (nI (x / 256)) := by
  show bz (nI x >>> (nI 8 &&& 31)) = _
  rw [pk_shrN h _ 8 (by decide)]
theorem pt21 (x : Int32) : pt x 2 1 = bz x := by
  show bz (x >>> (nI 0 &&& 31)) = _
  rw [shr0]
theorem fb_pre {frame fd : Nat → Int32} {F cx fst un : Nat} {made cnt word : Int32} (hu : un = 6 + F) (h5 : cx = 0 ∨ cx = 1 ∨ cx = 7) (h6 : fst < 2048) (hf : ∀ k, 6 ≤ k → k < un → frame k = bz (fd (k - 6))) : ∀ i, i < un + 4 → (bl (bl (bl (bl (bl frame 0 2 (pt (nI (5537 + 2 * cx)) 2)) 2 1 (pt made 1)) 3 1 (pt cnt 1)) 4 2 (pt (nI (6144 + fst)) 2)) un 4 (pt word 4)) i = fbP F cx made cnt fst fd word i := by
  intro i hi
  unfold fbP
  by_cases h0 : i = 0
  · rw [if_pos h0, bl_out (by omega), bl_out (by omega), bl_out (by omega), bl_out (by omega), bl_in (by omega) (by omega), h0, pt20 (by omega)]
    rw [show (5537 + 2 * cx) / 256 = 21 by omega]
  by_cases h1 : i = 1
  · rw [if_neg h0, if_pos h1, bl_out (by omega), bl_out (by omega), bl_out (by omega), bl_out (by omega), bl_in (by omega) (by omega), h1, pt21]
    rw [show 5537 + 2 * cx = (160 + 2 * cx + 1) + 256 * 21 by omega, bz_add]
  by_cases h2 : i = 2
  · rw [if_neg h0, if_neg h1, if_pos h2, bl_out (by omega), bl_out (by omega), bl_out (by omega), bl_in (by omega) (by omega), h2, pt1]
  by_cases h3 : i = 3
  · rw [if_neg h0, if_neg h1, if_neg h2, if_pos h3, bl_out (by omega), bl_out (by omega), bl_in (by omega) (by omega), h3, pt1]
  by_cases h4 : i = 4
  · rw [if_neg h0, if_neg h1, if_neg h2, if_neg h3, if_pos h4, bl_out (by omega), bl_in (by omega) (by omega), h4, pt20 (by omega)]
    rw [show (6144 + fst) / 256 = 24 + fst / 256 by omega]
  by_cases h7 : i = 5
  · rw [if_neg h0, if_neg h1, if_neg h2, if_neg h3, if_neg h4, if_pos h7, bl_out (by omega), bl_in (by omega) (by omega), h7, pt21]
    rw [show 6144 + fst = fst + 256 * 24 by omega, bz_add]
  rw [if_neg h0, if_neg h1, if_neg h2, if_neg h3, if_neg h4, if_neg h7]
  by_cases h8 : i < 6 + F
  · rw [if_pos h8, bl_out (by omega), bl_out (by omega), bl_out (by omega), bl_out (by omega), bl_out (by omega)]
    exact hf i (by omega) (by omega)
  · rw [if_neg h8, bl_in (by omega) (by omega)]
    show bz (word >>> (nI (8 * (4 - 1 - (i - un))) &&& 31)) = _
    rw [show 8 * (4 - 1 - (i - un)) = 24 - 8 * (i - 6 - F) by omega]
theorem fb_all {g fd : Nat → Int32} {F cx fst un : Nat} {made cnt word : Int32} (hu : un = 6 + F) (hg : ∀ i, i < un + 4 → g i = fbP F cx made cnt fst fd word i) : ∀ i, i < un + 6 → (bl g (un + 4) 2 (pt (nI (crc g (un + 4))) 2)) i = fb F cx made cnt fst fd word i := by
  have hc : crc g (un + 4) = crc (fbP F cx made cnt fst fd word) (10 + F) := by
    rw [show 10 + F = un + 4 by omega]
    exact crc_congr _ hg
  have hl := (crc_lt g (un + 4)).1
  intro i hi
  unfold fb
  by_cases h0 : i < 10 + F
  · rw [if_pos h0, bl_out (by omega)]
    exact hg i (by omega)
  rw [if_neg h0, bl_in (by omega) (by omega)]
  by_cases h1 : i = 10 + F
  · rw [if_pos h1, show i - (un + 4) = 0 by omega, pt20 (by omega), hc]
  · rw [if_neg h1, show i - (un + 4) = 1 by omega, pt21, hc]
theorem nx_cases (w0 w1 : Nat) : (0 < w0 ∧ nx w0 w1 = 0) ∨ (w0 = 0 ∧ 0 < w1 ∧ nx w0 w1 = 1) ∨ (w0 = 0 ∧ w1 = 0 ∧ nx w0 w1 = 2) := by
  unfold nx
  by_cases h : 0 < w0
  · exact Or.inl ⟨h, if_pos h⟩
  · by_cases h1 : 0 < w1
    · exact Or.inr (Or.inl ⟨by omega, h1, by rw [if_neg h, if_pos h1]⟩)
    · exact Or.inr (Or.inr ⟨by omega, by omega, by rw [if_neg h, if_neg h1]⟩)
def mkR (F L : Nat) (made : Int32) (counts : Nat → Int32) (word : Int32) (q0 g0 q1 g1 : Nat → Int32) (w0 w1 : Nat) (x0 x1 : cst) (r : Int32) (u : (Nat → Int32) × (Nat → Int32) × (cst × Nat) × (cst × Nat)) : Prop :=
  (0 < w0 ∧ r = nI 0 ∧ (∃ k, isF (gx g0 w0 F) F k ∧ ∀ i, i < L → u.1 i = fb F 0 made (counts 0) (if k < F then k else 2047) (qx q0 w0 F) word i) ∧ u.2.1 = upd counts 0 (counts 0 + nI 1) ∧ chOK (fun k => qx q0 w0 F (k + F)) (fun k => gx g0 w0 F (k + F)) (wx w0 F - F) u.2.2.1.1 ∧ u.2.2.1.2 = wx w0 F - F ∧ u.2.2.2 = (x1, w1))
  ∨ (w0 = 0 ∧ 0 < w1 ∧ r = nI 1 ∧ (∃ k, isF (gx g1 w1 F) F k ∧ ∀ i, i < L → u.1 i = fb F 1 made (counts 1) (if k < F then k else 2047) (qx q1 w1 F) word i) ∧ u.2.1 = upd counts 1 (counts 1 + nI 1) ∧ chOK (fun k => qx q1 w1 F (k + F)) (fun k => gx g1 w1 F (k + F)) (wx w1 F - F) u.2.2.2.1 ∧ u.2.2.2.2 = wx w1 F - F ∧ u.2.2.1 = (x0, w0))
  ∨ (w0 = 0 ∧ w1 = 0 ∧ r = nI 7 ∧ (∀ i, i < L → u.1 i = fb F 7 made (counts 2) 2046 (fun _ => nI 85) word i) ∧ u.2.1 = upd counts 2 (counts 2 + nI 1) ∧ u.2.2.1 = (x0, w0) ∧ u.2.2.2 = (x1, w1))
set_option maxHeartbeats 1000000 in
set_option maxRecDepth 100000 in
theorem lp_mk_idle {p : Program} {l : Launch} {e : Env} {s : State} {m : MethodId} {args : Array Value} {below : List Frame} {meth : Method} {c : Code} {Q : State → Prop} {D : va_G} {ca : Nat → ClassId} {A : Nat → Prop} {H0 : Heap} (mk fr ch cn c0 r0 c1 r1 : Nat) (L un fi0 w0 le0 fi1 w1 le1 : Nat) (made word : Int32) (frame counts ring0 ring1 : Nat → Int32) (h1 : un + 6 = L) (h2 : 64 ≤ L) (h3 : L ≤ 256) (S0 : CallFix p m c b_Mk_make 7 s args gd_tbl "DownFrames$Maker") (hK : PW D ca s) (hA : ∀ q, H0.size ≤ q → A q) (kk : ∀  (H : Heap) (locs : List Loc) (ls : Array Slot), va_P D classes [(mk, .inr (1, [.ref fr, .ref ch, .int made, .ref cn])), (fr, .inl (ca 0, L, .inl (bl frame 6 (un - 6) (fun _ => bz (nI 85))))), (ch, .inl (ca 2, 2, .inr (.inr (.inr (.inr (chf c0 c1)))))), (cn, .inl (ca 1, 3, .inl counts)), (c0, .inr (0, [.ref r0, .int (nI fi0), .int (nI w0), .int (nI le0)])), (r0, .inl (ca 0, 4096, .inl ring0)), (c1, .inr (0, [.ref r1, .int (nI fi1), .int (nI w1), .int (nI le1)])), (r1, .inl (ca 0, 4096, .inl ring1))] H → va_D A [(mk, .inr (1, [.ref fr, .ref ch, .int made, .ref cn])), (fr, .inl (ca 0, L, .inl (bl frame 6 (un - 6) (fun _ => bz (nI 85))))), (ch, .inl (ca 2, 2, .inr (.inr (.inr (.inr (chf c0 c1)))))), (cn, .inl (ca 1, 3, .inl counts)), (c0, .inr (0, [.ref r0, .int (nI fi0), .int (nI w0), .int (nI le0)])), (r0, .inl (ca 0, 4096, .inl ring0)), (c1, .inr (0, [.ref r1, .int (nI fi1), .int (nI w1), .int (nI le1)])), (r1, .inl (ca 0, 4096, .inl ring1))] → va_S A H0 H locs → lv_has ls 7 [(0, .ref mk), (1, .int word), (2, .int (nI 2)), (3, .int (nI 7)), (4, .int (nI un)), (5, .int (nI 2046))] → W p l e ({ frames := 3, cells := 0, slots := 0, locals := 69 } : Room) s m args below meth c H locs 0 0 Q (F0 m 101 ls [])) :
    ∀ (nf : Nat) (j : Nat) (H : Heap) (locs : List Loc) (ls : Array Slot), un - 6 - j < nf → (j ≤ un - 6) → va_P D classes [(mk, .inr (1, [.ref fr, .ref ch, .int made, .ref cn])), (fr, .inl (ca 0, L, .inl (bl frame 6 j (fun _ => bz (nI 85))))), (ch, .inl (ca 2, 2, .inr (.inr (.inr (.inr (chf c0 c1)))))), (cn, .inl (ca 1, 3, .inl counts)), (c0, .inr (0, [.ref r0, .int (nI fi0), .int (nI w0), .int (nI le0)])), (r0, .inl (ca 0, 4096, .inl ring0)), (c1, .inr (0, [.ref r1, .int (nI fi1), .int (nI w1), .int (nI le1)])), (r1, .inl (ca 0, 4096, .inl ring1))] H → va_D A [(mk, .inr (1, [.ref fr, .ref ch, .int made, .ref cn])), (fr, .inl (ca 0, L, .inl (bl frame 6 j (fun _ => bz (nI 85))))), (ch, .inl (ca 2, 2, .inr (.inr (.inr (.inr (chf c0 c1)))))), (cn, .inl (ca 1, 3, .inl counts)), (c0, .inr (0, [.ref r0, .int (nI fi0), .int (nI w0), .int (nI le0)])), (r0, .inl (ca 0, 4096, .inl ring0)), (c1, .inr (0, [.ref r1, .int (nI fi1), .int (nI w1), .int (nI le1)])), (r1, .inl (ca 0, 4096, .inl ring1))] → va_S A H0 H locs → lv_has ls 7 [(6, .int (nI (6 + j))), (0, .ref mk), (1, .int word), (2, .int (nI 2)), (3, .int (nI 7)), (4, .int (nI un)), (5, .int (nI 2046))] → W p l e ({ frames := 3, cells := 0, slots := 0, locals := 69 } : Room) s m args below meth c H locs 0 0 Q (F0 m 41 ls []) := by
  have hx := S0.1
  have hb := S0.2.1
  intro nf
  induction nf with
  | zero =>
    intro j H locs ls hm
    exact absurd hm (Nat.not_lt_zero _)
  | succ nf ih =>
    intro j H locs ls hm hj hP hD hS hl
    refine lv_iload hx hb d_Mk_make_41 (lv_at hl 0 rfl) ?_
    refine lv_iload hx hb d_Mk_make_43 (lv_at hl 5 rfl) ?_
    refine lz_icmp_ge (tgt := 63) hx hb (by omega) (by omega) d_Mk_make_45 (by decide) (fun h4 => ?_) (fun h4 => ?_)
    · have e9 : un - 6 = j := by omega
      subst e9
      refine lv_goto (tgt := 101) hx hb d_Mk_make_63 (by decide) ?_
      exact kk H locs ls hP hD hS (lv_sub hl [1, 2, 3, 4, 5, 6] rfl)
    · refine lv_aload_n hx hb d_Mk_make_48 rfl (lv_at hl 1 rfl) ?_
      refine gf_Mk_22 (q0 := 0) S0 hK hP rfl rfl d_Mk_make_49 ?_
      refine lv_iload hx hb d_Mk_make_52 (lv_at hl 0 rfl) ?_
      refine lv_bipush (v := nI 85) hx hb d_Mk_make_54 (by decide) ?_
      refine lz_bast (i := 6 + j) hx hb hK.1 hP hD hS 1 0 rfl rfl (by omega) (by omega) d_Mk_make_56 (fun H locs hP hD hS => ?_)
      have hP : va_P D classes [(mk, .inr (1, [.ref fr, .ref ch, .int made, .ref cn])), (fr, .inl (ca 0, L, .inl (upd (bl frame 6 j (fun _ => bz (nI 85))) (6 + j) (bz (nI 85))))), (ch, .inl (ca 2, 2, .inr (.inr (.inr (.inr (chf c0 c1)))))), (cn, .inl (ca 1, 3, .inl counts)), (c0, .inr (0, [.ref r0, .int (nI fi0), .int (nI w0), .int (nI le0)])), (r0, .inl (ca 0, 4096, .inl ring0)), (c1, .inr (0, [.ref r1, .int (nI fi1), .int (nI w1), .int (nI le1)])), (r1, .inl (ca 0, 4096, .inl ring1))] H := hP
      have hD : va_D A [(mk, .inr (1, [.ref fr, .ref ch, .int made, .ref cn])), (fr, .inl (ca 0, L, .inl (upd (bl frame 6 j (fun _ => bz (nI 85))) (6 + j) (bz (nI 85))))), (ch, .inl (ca 2, 2, .inr (.inr (.inr (.inr (chf c0 c1)))))), (cn, .inl (ca 1, 3, .inl counts)), (c0, .inr (0, [.ref r0, .int (nI fi0), .int (nI w0), .int (nI le0)])), (r0, .inl (ca 0, 4096, .inl ring0)), (c1, .inr (0, [.ref r1, .int (nI fi1), .int (nI w1), .int (nI le1)])), (r1, .inl (ca 0, 4096, .inl ring1))] := hD
      have e9 : upd (bl frame 6 j (fun _ => bz (nI 85))) (6 + j) (bz (nI 85)) = bl frame 6 (j + 1) (fun _ => bz (nI 85)) := bl_s frame (fun _ => bz (nI 85)) 6 j
      rw [e9] at hP hD
      clear e9
      have hP : va_P D classes [(mk, .inr (1, [.ref fr, .ref ch, .int made, .ref cn])), (fr, .inl (ca 0, L, .inl (bl frame 6 (j + 1) (fun _ => bz (nI 85))))), (ch, .inl (ca 2, 2, .inr (.inr (.inr (.inr (chf c0 c1)))))), (cn, .inl (ca 1, 3, .inl counts)), (c0, .inr (0, [.ref r0, .int (nI fi0), .int (nI w0), .int (nI le0)])), (r0, .inl (ca 0, 4096, .inl ring0)), (c1, .inr (0, [.ref r1, .int (nI fi1), .int (nI w1), .int (nI le1)])), (r1, .inl (ca 0, 4096, .inl ring1))] H := hP
      have hD : va_D A [(mk, .inr (1, [.ref fr, .ref ch, .int made, .ref cn])), (fr, .inl (ca 0, L, .inl (bl frame 6 (j + 1) (fun _ => bz (nI 85))))), (ch, .inl (ca 2, 2, .inr (.inr (.inr (.inr (chf c0 c1)))))), (cn, .inl (ca 1, 3, .inl counts)), (c0, .inr (0, [.ref r0, .int (nI fi0), .int (nI w0), .int (nI le0)])), (r0, .inl (ca 0, 4096, .inl ring0)), (c1, .inr (0, [.ref r1, .int (nI fi1), .int (nI w1), .int (nI le1)])), (r1, .inl (ca 0, 4096, .inl ring1))] := hD
      refine lv_iinc (v := nI (6 + j + 1)) (lv' := [(6, .int (nI (6 + j + 1))), (0, .ref mk), (1, .int word), (2, .int (nI 2)), (3, .int (nI 7)), (4, .int (nI un)), (5, .int (nI 2046))]) hx hb d_Mk_make_57 hl (k := 0) rfl (nI_inc _) (by decide) rfl (fun ls hl => ?_)
      refine lv_goto (tgt := 41) hx hb d_Mk_make_60 (by decide) ?_
      exact ih (j + 1) H locs ls (by omega) (by omega) hP hD hS (lv_sub hl [0, 1, 2, 3, 4, 5, 6] rfl)
set_option maxHeartbeats 1000000 in
set_option maxRecDepth 100000 in
/-- Maker.make -/
theorem c_Mk_make (l : Launch) (D : va_G) (ca : Nat → ClassId) (sz : Nat) (mk fr ch cn c0 r0 c1 r1 : Nat) (F L fi0 w0 le0 fi1 w1 le1 : Nat) (made word : Int32) (frame counts ring0 ring1 q0 g0 q1 g1 : Nat → Int32) (h1 : F + 12 = L) (h2 : 64 ≤ L) (h3 : L ≤ 256) (h4 : w0 ≤ 4096) (h5 : w1 ≤ 4096) (hc0 : chOK q0 g0 w0 (ring0, fi0, le0)) (hc1 : chOK q1 g1 w1 (ring1, fi1, le1)) : MetI l y_Mk_make b_Mk_make 7 (some .int) ({ frames := 3, cells := 0, slots := 0, locals := 69 } : Room) D ca [.ref mk, .int word] [(mk, .inr (1, [.ref fr, .ref ch, .int made, .ref cn])), (fr, .inl (ca 0, L, .inl frame)), (ch, .inl (ca 2, 2, .inr (.inr (.inr (.inr (chf c0 c1)))))), (cn, .inl (ca 1, 3, .inl counts)), (c0, .inr (0, [.ref r0, .int (nI fi0), .int (nI w0), .int (nI le0)])), (r0, .inl (ca 0, 4096, .inl ring0)), (c1, .inr (0, [.ref r1, .int (nI fi1), .int (nI w1), .int (nI le1)])), (r1, .inl (ca 0, 4096, .inl ring1))] sz (fun (r : Int32) (u : (Nat → Int32) × (Nat → Int32) × (cst × Nat) × (cst × Nat)) => mkR F L made counts word q0 g0 q1 g1 w0 w1 (ring0, fi0, le0) (ring1, fi1, le1) r u) (fun u => [(mk, .inr (1, [.ref fr, .ref ch, .int (made + nI 1), .ref cn])), (fr, .inl (ca 0, L, .inl u.1)), (ch, .inl (ca 2, 2, .inr (.inr (.inr (.inr (chf c0 c1)))))), (cn, .inl (ca 1, 3, .inl u.2.1)), (c0, .inr (0, [.ref r0, .int (nI (u.2.2.1.1.2.1)), .int (nI (u.2.2.1.2)), .int (nI (u.2.2.1.1.2.2))])), (r0, .inl (ca 0, 4096, .inl u.2.2.1.1.1)), (c1, .inr (0, [.ref r1, .int (nI (u.2.2.2.1.2.1)), .int (nI (u.2.2.2.2)), .int (nI (u.2.2.2.1.2.2))])), (r1, .inl (ca 0, 4096, .inl u.2.2.2.1.1))]) := by
  refine MetI.of (by decide) (Nat.le_of_ble_eq_true rfl) ?_
  intro p e s m below meth c A ls S0 hr hlk hK hP hD hA hl
  have hx := S0.1
  have hb := S0.2.1
  have hS : va_S A s.heap s.heap [] := va_S.rf
  have hP : va_P D classes [(mk, .inr (1, [.ref fr, .ref ch, .int made, .ref cn])), (fr, .inl (ca 0, L, .inl frame)), (ch, .inl (ca 2, 2, .inr (.inr (.inr (.inr (chf c0 c1)))))), (cn, .inl (ca 1, 3, .inl counts)), (c0, .inr (0, [.ref r0, .int (nI fi0), .int (nI w0), .int (nI le0)])), (r0, .inl (ca 0, 4096, .inl ring0)), (c1, .inr (0, [.ref r1, .int (nI fi1), .int (nI w1), .int (nI le1)])), (r1, .inl (ca 0, 4096, .inl ring1))] s.heap := hP
  have hD : va_D A [(mk, .inr (1, [.ref fr, .ref ch, .int made, .ref cn])), (fr, .inl (ca 0, L, .inl frame)), (ch, .inl (ca 2, 2, .inr (.inr (.inr (.inr (chf c0 c1)))))), (cn, .inl (ca 1, 3, .inl counts)), (c0, .inr (0, [.ref r0, .int (nI fi0), .int (nI w0), .int (nI le0)])), (r0, .inl (ca 0, 4096, .inl ring0)), (c1, .inr (0, [.ref r1, .int (nI fi1), .int (nI w1), .int (nI le1)])), (r1, .inl (ca 0, 4096, .inl ring1))] := hD
  have hl : lv_has ls 7 [(0, .ref mk), (1, .int word)] := hl
  obtain ⟨un, hun⟩ : ∃ z, z = 6 + F := ⟨_, rfl⟩
  refine lv_aload_n hx hb d_Mk_make_0 rfl (lv_at hl 0 rfl) ?_
  refine k_Vi (n := 0) (As := []) (rest := []) (wc := [(mk, .inr (1, [.ref fr, .ref ch, .int made, .ref cn])), (ch, .inl (ca 2, 2, .inr (.inr (.inr (.inr (chf c0 c1)))))), (c0, .inr (0, [.ref r0, .int (nI fi0), .int (nI w0), .int (nI le0)])), (c1, .inr (0, [.ref r1, .int (nI fi1), .int (nI w1), .int (nI le1)]))]) (wr := [(fr, .inl (ca 0, L, .inl frame)), (cn, .inl (ca 1, 3, .inl counts)), (r0, .inl (ca 0, 4096, .inl ring0)), (r1, .inl (ca 0, 4096, .inl ring1))]) (ci := 1) (q0 := 0) S0 rfl q_103 q_105 q_p2 q_2 rfl rfl q_106 (by decide +kernel) hK hP hD hS hA (c_Mk_next l D ca s.heap.size mk fr ch cn c0 r0 c1 r1 fi0 w0 le0 fi1 w1 le1 made h4 h5) [0, 2, 4, 6] [1, 3, 5, 7] rfl rfl (by decide) (by decide) (by decide) ⟨Nat.le_of_ble_eq_true rfl, Nat.le_of_ble_eq_true rfl⟩ rfl hl.1 rfl (Nat.le_of_ble_eq_true rfl) ⟨Nat.le_of_ble_eq_true rfl, Nat.le_of_ble_eq_true rfl⟩ d_Mk_make_1 (fun r_1 u H locs hw hP hD hS => ?_)
  refine W.cs (cells' := 0) (slots' := 0) rfl rfl ?_
  subst hw
  have hP : va_P D classes [(fr, .inl (ca 0, L, .inl frame)), (cn, .inl (ca 1, 3, .inl counts)), (r0, .inl (ca 0, 4096, .inl ring0)), (r1, .inl (ca 0, 4096, .inl ring1)), (mk, .inr (1, [.ref fr, .ref ch, .int made, .ref cn])), (ch, .inl (ca 2, 2, .inr (.inr (.inr (.inr (chf c0 c1)))))), (c0, .inr (0, [.ref r0, .int (nI fi0), .int (nI w0), .int (nI le0)])), (c1, .inr (0, [.ref r1, .int (nI fi1), .int (nI w1), .int (nI le1)]))] H := hP
  have hD : va_D A [(fr, .inl (ca 0, L, .inl frame)), (cn, .inl (ca 1, 3, .inl counts)), (r0, .inl (ca 0, 4096, .inl ring0)), (r1, .inl (ca 0, 4096, .inl ring1)), (mk, .inr (1, [.ref fr, .ref ch, .int made, .ref cn])), (ch, .inl (ca 2, 2, .inr (.inr (.inr (.inr (chf c0 c1)))))), (c0, .inr (0, [.ref r0, .int (nI fi0), .int (nI w0), .int (nI le0)])), (c1, .inr (0, [.ref r1, .int (nI fi1), .int (nI w1), .int (nI le1)]))] := hD
  have hP : va_P D classes [(mk, .inr (1, [.ref fr, .ref ch, .int made, .ref cn])), (fr, .inl (ca 0, L, .inl frame)), (ch, .inl (ca 2, 2, .inr (.inr (.inr (.inr (chf c0 c1)))))), (cn, .inl (ca 1, 3, .inl counts)), (c0, .inr (0, [.ref r0, .int (nI fi0), .int (nI w0), .int (nI le0)])), (r0, .inl (ca 0, 4096, .inl ring0)), (c1, .inr (0, [.ref r1, .int (nI fi1), .int (nI w1), .int (nI le1)])), (r1, .inl (ca 0, 4096, .inl ring1))] H := hP.sub [4, 0, 5, 1, 6, 2, 7, 3] rfl
  have hD : va_D A [(mk, .inr (1, [.ref fr, .ref ch, .int made, .ref cn])), (fr, .inl (ca 0, L, .inl frame)), (ch, .inl (ca 2, 2, .inr (.inr (.inr (.inr (chf c0 c1)))))), (cn, .inl (ca 1, 3, .inl counts)), (c0, .inr (0, [.ref r0, .int (nI fi0), .int (nI w0), .int (nI le0)])), (r0, .inl (ca 0, 4096, .inl ring0)), (c1, .inr (0, [.ref r1, .int (nI fi1), .int (nI w1), .int (nI le1)])), (r1, .inl (ca 0, 4096, .inl ring1))] := hD.sub [4, 0, 5, 1, 6, 2, 7, 3] (by decide) rfl
  rcases nx_cases w0 w1 with ⟨hz, hnx⟩ | ⟨hz, hz1, hnx⟩ | ⟨hz, hz1, hnx⟩
  · refine lz_top (y := nI 0) (by rw [hnx]) ?_
    refine lv_istore_n (lv' := [(2, .int (nI 0)), (0, .ref mk), (1, .int word)]) hx hb d_Mk_make_4 rfl hl (by decide) rfl (fun ls hl => ?_)
    refine lv_iload_n hx hb d_Mk_make_5 rfl (lv_at hl 0 rfl) ?_
    refine lv_iconst (v := nI 2) hx hb d_Mk_make_6 (by decide) ?_
    refine lz_icmp_ne (tgt := 15) hx hb (by omega) (by omega) d_Mk_make_7 (by decide) (fun h9 => ?_) (fun h9 => ?_)
    · refine lv_iload_n hx hb d_Mk_make_15 rfl (lv_at hl 0 rfl) ?_
      refine lv_istore_n (lv' := [(3, .int (nI 0)), (2, .int (nI 0)), (0, .ref mk), (1, .int word)]) hx hb d_Mk_make_16 rfl hl (by decide) rfl (fun ls hl => ?_)
      refine lv_aload_n hx hb d_Mk_make_17 rfl (lv_at hl 2 rfl) ?_
      refine gf_Mk_22 (q0 := 0) S0 hK hP rfl rfl d_Mk_make_18 ?_
      refine va_alen (v := nI L) hx hb hK.1 hP 1 0 rfl rfl rfl d_Mk_make_21 ?_
      refine lv_bipush (v := nI 6) hx hb d_Mk_make_22 (by decide) ?_
      refine lz_isub hx hb (by omega) d_Mk_make_24 ?_
      refine lz_top (y := nI un) (by rw [show L - 6 = un by omega]) ?_
      refine lv_istore (lv' := [(4, .int (nI un)), (3, .int (nI 0)), (2, .int (nI 0)), (0, .ref mk), (1, .int word)]) hx hb d_Mk_make_25 hl (by decide) rfl (fun ls hl => ?_)
      refine lv_sipush (v := nI 2046) hx hb d_Mk_make_27 (by decide) ?_
      refine lv_istore (lv' := [(5, .int (nI 2046)), (4, .int (nI un)), (3, .int (nI 0)), (2, .int (nI 0)), (0, .ref mk), (1, .int word)]) hx hb d_Mk_make_30 hl (by decide) rfl (fun ls hl => ?_)
      refine lv_iload_n hx hb d_Mk_make_32 rfl (lv_at hl 3 rfl) ?_
      refine lv_iconst (v := nI 2) hx hb d_Mk_make_33 (by decide) ?_
      refine lz_icmp_ne (tgt := 66) hx hb (by omega) (by omega) d_Mk_make_34 (by decide) (fun h9 => ?_) (fun h9 => ?_)
      · refine lv_aload_n hx hb d_Mk_make_66 rfl (lv_at hl 4 rfl) ?_
        refine gf_Mk_12 (q0 := 0) S0 hK hP rfl rfl d_Mk_make_67 ?_
        refine lv_iload_n hx hb d_Mk_make_70 rfl (lv_at hl 3 rfl) ?_
        refine lz_aald (i := 0) (v := c0) hx hb hK.1 hP 2 2 rfl rfl (by decide) (by decide) rfl d_Mk_make_71 ?_
        refine lv_aload_n hx hb d_Mk_make_72 rfl (lv_at hl 4 rfl) ?_
        refine gf_Mk_22 (q0 := 0) S0 hK hP rfl rfl d_Mk_make_73 ?_
        refine lv_bipush (v := nI 6) hx hb d_Mk_make_76 (by decide) ?_
        refine lv_iload hx hb d_Mk_make_78 (lv_at hl 1 rfl) ?_
        refine k_Vi (n := 3) (As := [.ref fr, .int (nI 6), .int (nI un)]) (rest := []) (wc := [(c0, .inr (0, [.ref r0, .int (nI fi0), .int (nI w0), .int (nI le0)])), (r0, .inl (ca 0, 4096, .inl ring0)), (fr, .inl (ca 0, L, .inl frame))]) (wr := [(mk, .inr (1, [.ref fr, .ref ch, .int made, .ref cn])), (ch, .inl (ca 2, 2, .inr (.inr (.inr (.inr (chf c0 c1)))))), (cn, .inl (ca 1, 3, .inl counts)), (c1, .inr (0, [.ref r1, .int (nI fi1), .int (nI w1), .int (nI le1)])), (r1, .inl (ca 0, 4096, .inl ring1))]) (ci := 0) (q0 := 0) S0 rfl q_107 q_108 q_109 q_3 rfl rfl q_110 (by decide +kernel) hK hP hD hS hA (c_Ch_fill l D ca H.size c0 r0 fr 6 un F L hun (by omega) h3 w0 fi0 le0 q0 g0 frame ring0 hc0.1 h4 hc0.2.1 hc0.2.2) [4, 5, 1] [0, 2, 3, 6, 7] rfl rfl (by decide) (by decide) (by decide) ⟨Nat.le_of_ble_eq_true rfl, Nat.le_of_ble_eq_true rfl⟩ rfl hl.1 rfl (Nat.le_of_ble_eq_true rfl) ⟨Nat.le_of_ble_eq_true rfl, Nat.le_of_ble_eq_true rfl⟩ d_Mk_make_80 (fun b u H locs hw hP hD hS => ?_)
        refine W.cs (cells' := 0) (slots' := 0) rfl rfl ?_
        obtain ⟨ring2, fi2, le2⟩ := u
        have hP : va_P D classes [(mk, .inr (1, [.ref fr, .ref ch, .int made, .ref cn])), (ch, .inl (ca 2, 2, .inr (.inr (.inr (.inr (chf c0 c1)))))), (cn, .inl (ca 1, 3, .inl counts)), (c1, .inr (0, [.ref r1, .int (nI fi1), .int (nI w1), .int (nI le1)])), (r1, .inl (ca 0, 4096, .inl ring1)), (c0, .inr (0, [.ref r0, .int (nI (fi2)), .int (nI (wx w0 F - F)), .int (nI (le2))])), (r0, .inl (ca 0, 4096, .inl ring2)), (fr, .inl (ca 0, L, .inl (bl frame 6 F (fun k => bz (qx q0 w0 F k)))))] H := hP
        have hD : va_D A [(mk, .inr (1, [.ref fr, .ref ch, .int made, .ref cn])), (ch, .inl (ca 2, 2, .inr (.inr (.inr (.inr (chf c0 c1)))))), (cn, .inl (ca 1, 3, .inl counts)), (c1, .inr (0, [.ref r1, .int (nI fi1), .int (nI w1), .int (nI le1)])), (r1, .inl (ca 0, 4096, .inl ring1)), (c0, .inr (0, [.ref r0, .int (nI (fi2)), .int (nI (wx w0 F - F)), .int (nI (le2))])), (r0, .inl (ca 0, 4096, .inl ring2)), (fr, .inl (ca 0, L, .inl (bl frame 6 F (fun k => bz (qx q0 w0 F k)))))] := hD
        have hP : va_P D classes [(mk, .inr (1, [.ref fr, .ref ch, .int made, .ref cn])), (fr, .inl (ca 0, L, .inl (bl frame 6 F (fun k => bz (qx q0 w0 F k))))), (ch, .inl (ca 2, 2, .inr (.inr (.inr (.inr (chf c0 c1)))))), (cn, .inl (ca 1, 3, .inl counts)), (c0, .inr (0, [.ref r0, .int (nI (fi2)), .int (nI (wx w0 F - F)), .int (nI (le2))])), (r0, .inl (ca 0, 4096, .inl ring2)), (c1, .inr (0, [.ref r1, .int (nI fi1), .int (nI w1), .int (nI le1)])), (r1, .inl (ca 0, 4096, .inl ring1))] H := hP.sub [0, 7, 1, 2, 5, 6, 3, 4] rfl
        have hD : va_D A [(mk, .inr (1, [.ref fr, .ref ch, .int made, .ref cn])), (fr, .inl (ca 0, L, .inl (bl frame 6 F (fun k => bz (qx q0 w0 F k))))), (ch, .inl (ca 2, 2, .inr (.inr (.inr (.inr (chf c0 c1)))))), (cn, .inl (ca 1, 3, .inl counts)), (c0, .inr (0, [.ref r0, .int (nI (fi2)), .int (nI (wx w0 F - F)), .int (nI (le2))])), (r0, .inl (ca 0, 4096, .inl ring2)), (c1, .inr (0, [.ref r1, .int (nI fi1), .int (nI w1), .int (nI le1)])), (r1, .inl (ca 0, 4096, .inl ring1))] := hD.sub [0, 7, 1, 2, 5, 6, 3, 4] (by decide) rfl
        obtain ⟨hb1, hb2, hb3, hb4⟩ := hw
        obtain ⟨k, hk, hbk⟩ := fB_isF hb1
        obtain ⟨fst, hfst⟩ : ∃ z, z = if k < F then k else 2047 := ⟨_, rfl⟩
        have hf2 : fst < 2048 := by rw [hfst]; split <;> omega
        refine lv_istore (lv' := [(6, .int b), (5, .int (nI 2046)), (4, .int (nI un)), (3, .int (nI 0)), (2, .int (nI 0)), (0, .ref mk), (1, .int word)]) hx hb d_Mk_make_83 hl (by decide) rfl (fun ls hl => ?_)
        refine lv_iload hx hb d_Mk_make_85 (lv_at hl 0 rfl) ?_
        refine lv_iconst (v := (-1)) hx hb d_Mk_make_87 (by decide) ?_
        refine lz_cut (g := F0 m 99 ls [.int (nI fst)]) ?_ (fun tail => ?_)
        · refine lv_istore (lv' := [(5, .int (nI fst)), (6, .int b), (4, .int (nI un)), (3, .int (nI 0)), (2, .int (nI 0)), (0, .ref mk), (1, .int word)]) hx hb d_Mk_make_99 hl (by decide) rfl (fun ls hl => ?_)
          refine mk_tail mk fr ch cn c0 r0 c1 r1 L un 0 0 fst fi2 (wx w0 F - F) le2 fi1 w1 le1 made word (bl frame 6 F (fun k => bz (qx q0 w0 F k))) counts ring2 ring1 (by omega) h2 h3 (by omega) (by omega) hf2 S0 hK hA (fun H locs ls hP hD hS hl => ?_) H locs ls hP hD hS (lv_sub hl [5, 6, 4, 3, 2, 0] rfl)
          refine lv_iload_n hx hb d_Mk_make_199 rfl (lv_at hl 0 rfl) ?_
          have hfe := fb_all hun (fb_pre (frame := (bl frame 6 F (fun k => bz (qx q0 w0 F k)))) (fd := qx q0 w0 F) (F := F) (cx := 0) (fst := fst) (made := made) (cnt := counts 0) (word := word) hun (by omega) hf2 (fun k h6 h7 => by rw [bl_in (by omega) (by omega)]))
          rw [hfst] at hfe
          rw [hfst] at hP hD
          exact k_iret hx hb hr (rfl) hlk ((_, upd counts 0 (counts 0 + nI 1), ((ring2, fi2, le2), wx w0 F - F), ((ring1, fi1, le1), w1))) (Or.inl ⟨hz, rfl, ⟨k, hk, fun i hi => hfe i (by omega)⟩, rfl, ⟨hb2, hb3, hb4⟩, rfl, rfl⟩) hP hD hS d_Mk_make_200
        · rcases Nat.lt_or_ge k F with h8 | h8
          · rw [if_pos h8] at hbk hfst
            refine lv_icmp_ne (tgt := 97) hx hb d_Mk_make_88 (by decide) (fun h9 => ?_) (fun h9 => ?_)
            · refine lv_iload hx hb d_Mk_make_97 (lv_at hl 0 rfl) ?_
              refine lz_top (y := nI fst) (by rw [hfst, hbk]) ?_
              exact tail
            · exact absurd (hbk.symm.trans h9) (nIm1 (by omega))
          · rw [if_neg (by omega)] at hbk hfst
            refine lv_icmp_ne (tgt := 97) hx hb d_Mk_make_88 (by decide) (fun h9 => ?_) (fun h9 => ?_)
            · exact absurd hbk h9
            · refine lv_sipush (v := nI 2047) hx hb d_Mk_make_91 (by decide) ?_
              refine lv_goto (tgt := 99) hx hb d_Mk_make_94 (by decide) ?_
              refine lz_top (y := nI fst) (by rw [hfst]) ?_
              exact tail
      · exfalso
        omega
    · exfalso
      omega
  · refine lz_top (y := nI 1) (by rw [hnx]) ?_
    refine lv_istore_n (lv' := [(2, .int (nI 1)), (0, .ref mk), (1, .int word)]) hx hb d_Mk_make_4 rfl hl (by decide) rfl (fun ls hl => ?_)
    refine lv_iload_n hx hb d_Mk_make_5 rfl (lv_at hl 0 rfl) ?_
    refine lv_iconst (v := nI 2) hx hb d_Mk_make_6 (by decide) ?_
    refine lz_icmp_ne (tgt := 15) hx hb (by omega) (by omega) d_Mk_make_7 (by decide) (fun h9 => ?_) (fun h9 => ?_)
    · refine lv_iload_n hx hb d_Mk_make_15 rfl (lv_at hl 0 rfl) ?_
      refine lv_istore_n (lv' := [(3, .int (nI 1)), (2, .int (nI 1)), (0, .ref mk), (1, .int word)]) hx hb d_Mk_make_16 rfl hl (by decide) rfl (fun ls hl => ?_)
      refine lv_aload_n hx hb d_Mk_make_17 rfl (lv_at hl 2 rfl) ?_
      refine gf_Mk_22 (q0 := 0) S0 hK hP rfl rfl d_Mk_make_18 ?_
      refine va_alen (v := nI L) hx hb hK.1 hP 1 0 rfl rfl rfl d_Mk_make_21 ?_
      refine lv_bipush (v := nI 6) hx hb d_Mk_make_22 (by decide) ?_
      refine lz_isub hx hb (by omega) d_Mk_make_24 ?_
      refine lz_top (y := nI un) (by rw [show L - 6 = un by omega]) ?_
      refine lv_istore (lv' := [(4, .int (nI un)), (3, .int (nI 1)), (2, .int (nI 1)), (0, .ref mk), (1, .int word)]) hx hb d_Mk_make_25 hl (by decide) rfl (fun ls hl => ?_)
      refine lv_sipush (v := nI 2046) hx hb d_Mk_make_27 (by decide) ?_
      refine lv_istore (lv' := [(5, .int (nI 2046)), (4, .int (nI un)), (3, .int (nI 1)), (2, .int (nI 1)), (0, .ref mk), (1, .int word)]) hx hb d_Mk_make_30 hl (by decide) rfl (fun ls hl => ?_)
      refine lv_iload_n hx hb d_Mk_make_32 rfl (lv_at hl 3 rfl) ?_
      refine lv_iconst (v := nI 2) hx hb d_Mk_make_33 (by decide) ?_
      refine lz_icmp_ne (tgt := 66) hx hb (by omega) (by omega) d_Mk_make_34 (by decide) (fun h9 => ?_) (fun h9 => ?_)
      · refine lv_aload_n hx hb d_Mk_make_66 rfl (lv_at hl 4 rfl) ?_
        refine gf_Mk_12 (q0 := 0) S0 hK hP rfl rfl d_Mk_make_67 ?_
        refine lv_iload_n hx hb d_Mk_make_70 rfl (lv_at hl 3 rfl) ?_
        refine lz_aald (i := 1) (v := c1) hx hb hK.1 hP 2 2 rfl rfl (by decide) (by decide) rfl d_Mk_make_71 ?_
        refine lv_aload_n hx hb d_Mk_make_72 rfl (lv_at hl 4 rfl) ?_
        refine gf_Mk_22 (q0 := 0) S0 hK hP rfl rfl d_Mk_make_73 ?_
        refine lv_bipush (v := nI 6) hx hb d_Mk_make_76 (by decide) ?_
        refine lv_iload hx hb d_Mk_make_78 (lv_at hl 1 rfl) ?_
        refine k_Vi (n := 3) (As := [.ref fr, .int (nI 6), .int (nI un)]) (rest := []) (wc := [(c1, .inr (0, [.ref r1, .int (nI fi1), .int (nI w1), .int (nI le1)])), (r1, .inl (ca 0, 4096, .inl ring1)), (fr, .inl (ca 0, L, .inl frame))]) (wr := [(mk, .inr (1, [.ref fr, .ref ch, .int made, .ref cn])), (ch, .inl (ca 2, 2, .inr (.inr (.inr (.inr (chf c0 c1)))))), (cn, .inl (ca 1, 3, .inl counts)), (c0, .inr (0, [.ref r0, .int (nI fi0), .int (nI w0), .int (nI le0)])), (r0, .inl (ca 0, 4096, .inl ring0))]) (ci := 0) (q0 := 0) S0 rfl q_107 q_108 q_109 q_3 rfl rfl q_110 (by decide +kernel) hK hP hD hS hA (c_Ch_fill l D ca H.size c1 r1 fr 6 un F L hun (by omega) h3 w1 fi1 le1 q1 g1 frame ring1 hc1.1 h5 hc1.2.1 hc1.2.2) [6, 7, 1] [0, 2, 3, 4, 5] rfl rfl (by decide) (by decide) (by decide) ⟨Nat.le_of_ble_eq_true rfl, Nat.le_of_ble_eq_true rfl⟩ rfl hl.1 rfl (Nat.le_of_ble_eq_true rfl) ⟨Nat.le_of_ble_eq_true rfl, Nat.le_of_ble_eq_true rfl⟩ d_Mk_make_80 (fun b u H locs hw hP hD hS => ?_)
        refine W.cs (cells' := 0) (slots' := 0) rfl rfl ?_
        obtain ⟨ring2, fi2, le2⟩ := u
        have hP : va_P D classes [(mk, .inr (1, [.ref fr, .ref ch, .int made, .ref cn])), (ch, .inl (ca 2, 2, .inr (.inr (.inr (.inr (chf c0 c1)))))), (cn, .inl (ca 1, 3, .inl counts)), (c0, .inr (0, [.ref r0, .int (nI fi0), .int (nI w0), .int (nI le0)])), (r0, .inl (ca 0, 4096, .inl ring0)), (c1, .inr (0, [.ref r1, .int (nI (fi2)), .int (nI (wx w1 F - F)), .int (nI (le2))])), (r1, .inl (ca 0, 4096, .inl ring2)), (fr, .inl (ca 0, L, .inl (bl frame 6 F (fun k => bz (qx q1 w1 F k)))))] H := hP
        have hD : va_D A [(mk, .inr (1, [.ref fr, .ref ch, .int made, .ref cn])), (ch, .inl (ca 2, 2, .inr (.inr (.inr (.inr (chf c0 c1)))))), (cn, .inl (ca 1, 3, .inl counts)), (c0, .inr (0, [.ref r0, .int (nI fi0), .int (nI w0), .int (nI le0)])), (r0, .inl (ca 0, 4096, .inl ring0)), (c1, .inr (0, [.ref r1, .int (nI (fi2)), .int (nI (wx w1 F - F)), .int (nI (le2))])), (r1, .inl (ca 0, 4096, .inl ring2)), (fr, .inl (ca 0, L, .inl (bl frame 6 F (fun k => bz (qx q1 w1 F k)))))] := hD
        have hP : va_P D classes [(mk, .inr (1, [.ref fr, .ref ch, .int made, .ref cn])), (fr, .inl (ca 0, L, .inl (bl frame 6 F (fun k => bz (qx q1 w1 F k))))), (ch, .inl (ca 2, 2, .inr (.inr (.inr (.inr (chf c0 c1)))))), (cn, .inl (ca 1, 3, .inl counts)), (c0, .inr (0, [.ref r0, .int (nI fi0), .int (nI w0), .int (nI le0)])), (r0, .inl (ca 0, 4096, .inl ring0)), (c1, .inr (0, [.ref r1, .int (nI (fi2)), .int (nI (wx w1 F - F)), .int (nI (le2))])), (r1, .inl (ca 0, 4096, .inl ring2))] H := hP.sub [0, 7, 1, 2, 3, 4, 5, 6] rfl
        have hD : va_D A [(mk, .inr (1, [.ref fr, .ref ch, .int made, .ref cn])), (fr, .inl (ca 0, L, .inl (bl frame 6 F (fun k => bz (qx q1 w1 F k))))), (ch, .inl (ca 2, 2, .inr (.inr (.inr (.inr (chf c0 c1)))))), (cn, .inl (ca 1, 3, .inl counts)), (c0, .inr (0, [.ref r0, .int (nI fi0), .int (nI w0), .int (nI le0)])), (r0, .inl (ca 0, 4096, .inl ring0)), (c1, .inr (0, [.ref r1, .int (nI (fi2)), .int (nI (wx w1 F - F)), .int (nI (le2))])), (r1, .inl (ca 0, 4096, .inl ring2))] := hD.sub [0, 7, 1, 2, 3, 4, 5, 6] (by decide) rfl
        obtain ⟨hb1, hb2, hb3, hb4⟩ := hw
        obtain ⟨k, hk, hbk⟩ := fB_isF hb1
        obtain ⟨fst, hfst⟩ : ∃ z, z = if k < F then k else 2047 := ⟨_, rfl⟩
        have hf2 : fst < 2048 := by rw [hfst]; split <;> omega
        refine lv_istore (lv' := [(6, .int b), (5, .int (nI 2046)), (4, .int (nI un)), (3, .int (nI 1)), (2, .int (nI 1)), (0, .ref mk), (1, .int word)]) hx hb d_Mk_make_83 hl (by decide) rfl (fun ls hl => ?_)
        refine lv_iload hx hb d_Mk_make_85 (lv_at hl 0 rfl) ?_
        refine lv_iconst (v := (-1)) hx hb d_Mk_make_87 (by decide) ?_
        refine lz_cut (g := F0 m 99 ls [.int (nI fst)]) ?_ (fun tail => ?_)
        · refine lv_istore (lv' := [(5, .int (nI fst)), (6, .int b), (4, .int (nI un)), (3, .int (nI 1)), (2, .int (nI 1)), (0, .ref mk), (1, .int word)]) hx hb d_Mk_make_99 hl (by decide) rfl (fun ls hl => ?_)
          refine mk_tail mk fr ch cn c0 r0 c1 r1 L un 1 1 fst fi0 w0 le0 fi2 (wx w1 F - F) le2 made word (bl frame 6 F (fun k => bz (qx q1 w1 F k))) counts ring0 ring2 (by omega) h2 h3 (by omega) (by omega) hf2 S0 hK hA (fun H locs ls hP hD hS hl => ?_) H locs ls hP hD hS (lv_sub hl [5, 6, 4, 3, 2, 0] rfl)
          refine lv_iload_n hx hb d_Mk_make_199 rfl (lv_at hl 0 rfl) ?_
          have hfe := fb_all hun (fb_pre (frame := (bl frame 6 F (fun k => bz (qx q1 w1 F k)))) (fd := qx q1 w1 F) (F := F) (cx := 1) (fst := fst) (made := made) (cnt := counts 1) (word := word) hun (by omega) hf2 (fun k h6 h7 => by rw [bl_in (by omega) (by omega)]))
          rw [hfst] at hfe
          rw [hfst] at hP hD
          exact k_iret hx hb hr (rfl) hlk ((_, upd counts 1 (counts 1 + nI 1), ((ring0, fi0, le0), w0), ((ring2, fi2, le2), wx w1 F - F))) (Or.inr (Or.inl ⟨hz, hz1, rfl, ⟨k, hk, fun i hi => hfe i (by omega)⟩, rfl, ⟨hb2, hb3, hb4⟩, rfl, rfl⟩)) hP hD hS d_Mk_make_200
        · rcases Nat.lt_or_ge k F with h8 | h8
          · rw [if_pos h8] at hbk hfst
            refine lv_icmp_ne (tgt := 97) hx hb d_Mk_make_88 (by decide) (fun h9 => ?_) (fun h9 => ?_)
            · refine lv_iload hx hb d_Mk_make_97 (lv_at hl 0 rfl) ?_
              refine lz_top (y := nI fst) (by rw [hfst, hbk]) ?_
              exact tail
            · exact absurd (hbk.symm.trans h9) (nIm1 (by omega))
          · rw [if_neg (by omega)] at hbk hfst
            refine lv_icmp_ne (tgt := 97) hx hb d_Mk_make_88 (by decide) (fun h9 => ?_) (fun h9 => ?_)
            · exact absurd hbk h9
            · refine lv_sipush (v := nI 2047) hx hb d_Mk_make_91 (by decide) ?_
              refine lv_goto (tgt := 99) hx hb d_Mk_make_94 (by decide) ?_
              refine lz_top (y := nI fst) (by rw [hfst]) ?_
              exact tail
      · exfalso
        omega
    · exfalso
      omega
  · refine lz_top (y := nI 2) (by rw [hnx]) ?_
    refine lv_istore_n (lv' := [(2, .int (nI 2)), (0, .ref mk), (1, .int word)]) hx hb d_Mk_make_4 rfl hl (by decide) rfl (fun ls hl => ?_)
    refine lv_iload_n hx hb d_Mk_make_5 rfl (lv_at hl 0 rfl) ?_
    refine lv_iconst (v := nI 2) hx hb d_Mk_make_6 (by decide) ?_
    refine lz_icmp_ne (tgt := 15) hx hb (by omega) (by omega) d_Mk_make_7 (by decide) (fun h9 => ?_) (fun h9 => ?_)
    · exfalso
      exact h9 rfl
    · refine lv_bipush (v := nI 7) hx hb d_Mk_make_10 (by decide) ?_
      refine lv_goto (tgt := 16) hx hb d_Mk_make_12 (by decide) ?_
      refine lv_istore_n (lv' := [(3, .int (nI 7)), (2, .int (nI 2)), (0, .ref mk), (1, .int word)]) hx hb d_Mk_make_16 rfl hl (by decide) rfl (fun ls hl => ?_)
      refine lv_aload_n hx hb d_Mk_make_17 rfl (lv_at hl 2 rfl) ?_
      refine gf_Mk_22 (q0 := 0) S0 hK hP rfl rfl d_Mk_make_18 ?_
      refine va_alen (v := nI L) hx hb hK.1 hP 1 0 rfl rfl rfl d_Mk_make_21 ?_
      refine lv_bipush (v := nI 6) hx hb d_Mk_make_22 (by decide) ?_
      refine lz_isub hx hb (by omega) d_Mk_make_24 ?_
      refine lz_top (y := nI un) (by rw [show L - 6 = un by omega]) ?_
      refine lv_istore (lv' := [(4, .int (nI un)), (3, .int (nI 7)), (2, .int (nI 2)), (0, .ref mk), (1, .int word)]) hx hb d_Mk_make_25 hl (by decide) rfl (fun ls hl => ?_)
      refine lv_sipush (v := nI 2046) hx hb d_Mk_make_27 (by decide) ?_
      refine lv_istore (lv' := [(5, .int (nI 2046)), (4, .int (nI un)), (3, .int (nI 7)), (2, .int (nI 2)), (0, .ref mk), (1, .int word)]) hx hb d_Mk_make_30 hl (by decide) rfl (fun ls hl => ?_)
      refine lv_iload_n hx hb d_Mk_make_32 rfl (lv_at hl 3 rfl) ?_
      refine lv_iconst (v := nI 2) hx hb d_Mk_make_33 (by decide) ?_
      refine lz_icmp_ne (tgt := 66) hx hb (by omega) (by omega) d_Mk_make_34 (by decide) (fun h9 => ?_) (fun h9 => ?_)
      · exfalso
        exact h9 rfl
      · refine lv_bipush (v := nI 6) hx hb d_Mk_make_37 (by decide) ?_
        refine lv_istore (lv' := [(6, .int (nI 6)), (5, .int (nI 2046)), (4, .int (nI un)), (3, .int (nI 7)), (2, .int (nI 2)), (0, .ref mk), (1, .int word)]) hx hb d_Mk_make_39 hl (by decide) rfl (fun ls hl => ?_)
        have e0 : frame = bl frame 6 0 (fun _ => bz (nI 85)) := (bl_0 _ _ _).symm
        rw [e0] at hP hD
        refine lp_mk_idle mk fr ch cn c0 r0 c1 r1 L un fi0 w0 le0 fi1 w1 le1 made word frame counts ring0 ring1 (by omega) h2 h3 S0 hK hA (fun H locs ls hP hD hS hl => ?_) (un + 1) 0 H locs ls (by omega) (by omega) hP hD hS (lv_sub hl [0, 5, 6, 4, 3, 2, 1] rfl)
        refine mk_tail mk fr ch cn c0 r0 c1 r1 L un 2 7 2046 fi0 w0 le0 fi1 w1 le1 made word (bl frame 6 (un - 6) (fun _ => bz (nI 85))) counts ring0 ring1 (by omega) h2 h3 (by omega) (by omega) (by omega) S0 hK hA (fun H locs ls hP hD hS hl => ?_) H locs ls hP hD hS hl
        refine lv_iload_n hx hb d_Mk_make_199 rfl (lv_at hl 0 rfl) ?_
        have hfe := fb_all hun (fb_pre (frame := (bl frame 6 (un - 6) (fun _ => bz (nI 85)))) (fd := fun _ => nI 85) (F := F) (cx := 7) (fst := 2046) (made := made) (cnt := counts 2) (word := word) hun (by omega) (by omega) (fun k h6 h7 => by rw [bl_in (by omega) (by omega)]))
        exact k_iret hx hb hr (rfl) hlk ((_, upd counts 2 (counts 2 + nI 1), ((ring0, fi0, le0), w0), ((ring1, fi1, le1), w1))) (Or.inr (Or.inr ⟨hz, hz1, rfl, fun i hi => hfe i (by omega), rfl, rfl, rfl⟩)) hP hD hS d_Mk_make_200
end
section
theorem i32_1 : (nI 1).toInt = 1 := by decide +kernel
theorem i32_8 : (nI 8).toInt = 8 := by decide +kernel
theorem gv_cases (n : Nat) (x : Int32) : (x < nI 1 ∧ gv n x = 0) ∨ (¬ x < nI 1 ∧ nI 8 < x ∧ gv n x = 0) ∨ ∃ j, 1 ≤ j ∧ j ≤ 8 ∧ x = nI j ∧ gv n x = if n + j ≤ 1024 then j else 0 := by
  by_cases h1 : x < nI 1
  · refine Or.inl ⟨h1, if_neg ?_⟩
    have := Int32.lt_iff_toInt_lt.mp h1
    rw [i32_1] at this
    omega
  · by_cases h2 : nI 8 < x
    · refine Or.inr (Or.inl ⟨h1, h2, if_neg ?_⟩)
      have := Int32.lt_iff_toInt_lt.mp h2
      rw [i32_8] at this
      omega
    · have g1 : 1 ≤ x.toInt := Int.not_lt.mp (fun h => h1 (Int32.lt_iff_toInt_lt.mpr (by rw [i32_1]; exact h)))
      have g2 : x.toInt ≤ 8 := Int.not_lt.mp (fun h => h2 (Int32.lt_iff_toInt_lt.mpr (by rw [i32_8]; exact h)))
      have e : x = nI x.toInt.toNat := by
        apply Int32.toInt_inj.mp
        rw [nI_toInt (by omega)]
        omega
      refine Or.inr (Or.inr ⟨x.toInt.toNat, by omega, by omega, e, ?_⟩)
      unfold gv
      by_cases h : n + x.toInt.toNat ≤ 1024
      · rw [if_pos h, if_pos (by omega)]
      · rw [if_neg h, if_neg (by omega)]
set_option maxHeartbeats 1000000 in
set_option maxRecDepth 100000 in
theorem lp_Fr_give {p : Program} {l : Launch} {e : Env} {s : State} {m : MethodId} {args : Array Value} {below : List Frame} {meth : Method} {c : Code} {Q : State → Prop} {D : va_G} {ca : Nat → ClassId} {A : Nat → Prop} {H0 : Heap} (x tp mk n j : Nat) (wd_ : Int64) (tape : Nat → Int32) (h1 : n + j ≤ 1024) (h2 : j ≤ 8) (S0 : CallFix p m c b_Fr_give 5 s args gd_tbl "DownFrames") (hK : PW D ca s) (hA : ∀ q, H0.size ≤ q → A q) (kk : ∀  (H : Heap) (locs : List Loc) (ls : Array Slot), va_P D classes [(x, .inr (2, [.ref tp, .int (nI (n + j)), .ref mk])), (tp, .inl (ca 0, 1024, .inl (bl tape n j (gb wd_))))] H → va_D A [(x, .inr (2, [.ref tp, .int (nI (n + j)), .ref mk])), (tp, .inl (ca 0, 1024, .inl (bl tape n j (gb wd_))))] → va_S A H0 H locs → lv_has ls 5 [(0, .ref x)] → W p l e ({ frames := 0, cells := 0, slots := 0, locals := 0 } : Room) s m args below meth c H locs 0 0 Q (F0 m 68 ls [])) :
    ∀ (nf : Nat) (k : Nat) (H : Heap) (locs : List Loc) (ls : Array Slot), j - k < nf → (k ≤ j) → va_P D classes [(x, .inr (2, [.ref tp, .int (nI (n + k)), .ref mk])), (tp, .inl (ca 0, 1024, .inl (bl tape n k (gb wd_))))] H → va_D A [(x, .inr (2, [.ref tp, .int (nI (n + k)), .ref mk])), (tp, .inl (ca 0, 1024, .inl (bl tape n k (gb wd_))))] → va_S A H0 H locs → lv_has ls 5 [(4, .int (nI k)), (0, .ref x), (1, .long wd_), (3, .int (nI j))] → W p l e ({ frames := 0, cells := 0, slots := 0, locals := 0 } : Room) s m args below meth c H locs 0 0 Q (F0 m 28 ls []) := by
  have hx := S0.1
  have hb := S0.2.1
  intro nf
  induction nf with
  | zero =>
    intro k H locs ls hm
    exact absurd hm (Nat.not_lt_zero _)
  | succ nf ih =>
    intro k H locs ls hm hk hP hD hS hl
    refine lv_iload hx hb d_Fr_give_28 (lv_at hl 0 rfl) ?_
    refine lv_iload_n hx hb d_Fr_give_30 rfl (lv_at hl 3 rfl) ?_
    refine lz_icmp_ge (tgt := 68) hx hb (by omega) (by omega) d_Fr_give_31 (by decide) (fun h4 => ?_) (fun h4 => ?_)
    · have e9 : j = k := by omega
      subst e9
      exact kk H locs ls hP hD hS (lv_sub hl [1] rfl)
    · refine lv_aload_n hx hb d_Fr_give_34 rfl (lv_at hl 1 rfl) ?_
      refine gf_Fr_9 (q0 := 0) S0 hK hP rfl rfl d_Fr_give_35 ?_
      refine lv_aload_n hx hb d_Fr_give_38 rfl (lv_at hl 1 rfl) ?_
      refine lv_dup hx hb d_Fr_give_39 rfl ?_
      refine gf_Fr_22 (q0 := 0) S0 hK hP rfl rfl d_Fr_give_40 ?_
      refine lv_dup_x1 hx hb d_Fr_give_43 rfl rfl ?_
      refine lv_iconst (v := nI 1) hx hb d_Fr_give_44 (by decide) ?_
      refine lz_iadd hx hb d_Fr_give_45 ?_
      refine pf_Fr_22 (q0 := 0) S0 hK hP hD hS rfl rfl rfl (Nat.le_of_ble_eq_true rfl) d_Fr_give_46 (fun H locs hP hD hS => ?_)
      have hP : va_P D classes [(x, .inr (2, [.ref tp, .int (nI ((n + k) + 1)), .ref mk])), (tp, .inl (ca 0, 1024, .inl (bl tape n k (gb wd_))))] H := hP
      have hD : va_D A [(x, .inr (2, [.ref tp, .int (nI ((n + k) + 1)), .ref mk])), (tp, .inl (ca 0, 1024, .inl (bl tape n k (gb wd_))))] := hD
      refine lv_lload_n hx hb d_Fr_give_49 rfl (lv_at hl 2 rfl) ?_
      refine lv_bipush (v := nI 56) hx hb d_Fr_give_50 (by decide) ?_
      refine lv_bipush (v := nI 8) hx hb d_Fr_give_52 (by decide) ?_
      refine lv_iload hx hb d_Fr_give_54 (lv_at hl 0 rfl) ?_
      refine lz_imul hx hb d_Fr_give_56 ?_
      refine lz_isub hx hb (by omega) d_Fr_give_57 ?_
      refine lv_lshr hx hb d_Fr_give_58 rfl ?_
      refine lv_l2i hx hb d_Fr_give_59 rfl ?_
      refine lz_i2b hx hb d_Fr_give_60 ?_
      refine lz_bast (i := n + k) hx hb hK.1 hP hD hS 1 0 rfl rfl (by omega) (by decide) d_Fr_give_61 (fun H locs hP hD hS => ?_)
      rw [bz_bz] at hP hD
      have hP : va_P D classes [(x, .inr (2, [.ref tp, .int (nI ((n + k) + 1)), .ref mk])), (tp, .inl (ca 0, 1024, .inl (upd (bl tape n k (gb wd_)) (n + k) (bz ((wd_ >>> ((nI (56 - (8 * k))).toInt64 &&& 63)).toInt32)))))] H := hP
      have hD : va_D A [(x, .inr (2, [.ref tp, .int (nI ((n + k) + 1)), .ref mk])), (tp, .inl (ca 0, 1024, .inl (upd (bl tape n k (gb wd_)) (n + k) (bz ((wd_ >>> ((nI (56 - (8 * k))).toInt64 &&& 63)).toInt32)))))] := hD
      have e9 : upd (bl tape n k (gb wd_)) (n + k) (bz ((wd_ >>> ((nI (56 - (8 * k))).toInt64 &&& 63)).toInt32)) = bl tape n (k + 1) (gb wd_) := bl_s tape (gb wd_) n k
      rw [e9] at hP hD
      clear e9
      have hP : va_P D classes [(x, .inr (2, [.ref tp, .int (nI ((n + k) + 1)), .ref mk])), (tp, .inl (ca 0, 1024, .inl (bl tape n (k + 1) (gb wd_))))] H := hP
      have hD : va_D A [(x, .inr (2, [.ref tp, .int (nI ((n + k) + 1)), .ref mk])), (tp, .inl (ca 0, 1024, .inl (bl tape n (k + 1) (gb wd_))))] := hD
      refine lv_iinc (v := nI (k + 1)) (lv' := [(4, .int (nI (k + 1))), (0, .ref x), (1, .long wd_), (3, .int (nI j))]) hx hb d_Fr_give_62 hl (k := 0) rfl (nI_inc _) (by decide) rfl (fun ls hl => ?_)
      refine lv_goto (tgt := 28) hx hb d_Fr_give_65 (by decide) ?_
      exact ih (k + 1) H locs ls (by omega) (by omega) hP hD hS (lv_sub hl [0, 1, 2, 3] rfl)
set_option maxHeartbeats 1000000 in
set_option maxRecDepth 100000 in
/-- DownFrames.give -/
theorem c_Fr_give (l : Launch) (D : va_G) (ca : Nat → ClassId) (sz : Nat) (x tp mk n : Nat) (wd_ : Int64) (y : Int32) (tape : Nat → Int32) (h1 : n ≤ 1024) : MetI l y_Fr_give b_Fr_give 5 (some .boolean) ({ frames := 0, cells := 0, slots := 0, locals := 0 } : Room) D ca [.ref x, .long wd_, .int y] [(x, .inr (2, [.ref tp, .int (nI n), .ref mk])), (tp, .inl (ca 0, 1024, .inl tape))] sz (fun (r : Int32) (u : (Nat → Int32) × Nat) => r = (if gv n y = 0 then nI 0 else nI 1) ∧ u = (bl tape n (gv n y) (gb wd_), n + gv n y)) (fun u => [(x, .inr (2, [.ref tp, .int (nI (u.2)), .ref mk])), (tp, .inl (ca 0, 1024, .inl u.1))]) := by
  refine MetI.of (by decide) (Nat.le_of_ble_eq_true rfl) ?_
  intro p e s m below meth c A ls S0 hr hlk hK hP hD hA hl
  have hx := S0.1
  have hb := S0.2.1
  have hS : va_S A s.heap s.heap [] := va_S.rf
  have hP : va_P D classes [(x, .inr (2, [.ref tp, .int (nI n), .ref mk])), (tp, .inl (ca 0, 1024, .inl tape))] s.heap := hP
  have hD : va_D A [(x, .inr (2, [.ref tp, .int (nI n), .ref mk])), (tp, .inl (ca 0, 1024, .inl tape))] := hD
  have hl : lv_has ls 5 [(0, .ref x), (1, .long wd_), (3, .int y)] := hl
  rcases gv_cases n y with ⟨g1, g2⟩ | ⟨g1, g2, g3⟩ | ⟨j, g1, g2, rfl, g3⟩
  · refine lv_iload_n hx hb d_Fr_give_0 rfl (lv_at hl 2 rfl) ?_
    refine lv_iconst (v := nI 1) hx hb d_Fr_give_1 (by decide) ?_
    refine lv_icmp_lt (tgt := 23) hx hb d_Fr_give_2 (by decide) (fun h9 => ?_) (fun h9 => ?_)
    · refine lv_iconst (v := nI 0) hx hb d_Fr_give_23 (by decide) ?_
      exact k_iret hx hb hr (by decide) hlk ((tape, n)) (⟨by rw [if_pos g2], by rw [g2, bl_0]; rfl⟩) hP hD hS d_Fr_give_24
    · exact absurd g1 h9
  · refine lv_iload_n hx hb d_Fr_give_0 rfl (lv_at hl 2 rfl) ?_
    refine lv_iconst (v := nI 1) hx hb d_Fr_give_1 (by decide) ?_
    refine lv_icmp_lt (tgt := 23) hx hb d_Fr_give_2 (by decide) (fun h9 => ?_) (fun h9 => ?_)
    · exact absurd h9 g1
    · refine lv_iload_n hx hb d_Fr_give_5 rfl (lv_at hl 2 rfl) ?_
      refine lv_bipush (v := nI 8) hx hb d_Fr_give_6 (by decide) ?_
      refine lv_icmp_gt (tgt := 23) hx hb d_Fr_give_8 (by decide) (fun h9 => ?_) (fun h9 => ?_)
      · refine lv_iconst (v := nI 0) hx hb d_Fr_give_23 (by decide) ?_
        exact k_iret hx hb hr (by decide) hlk ((tape, n)) (⟨by rw [if_pos g3], by rw [g3, bl_0]; rfl⟩) hP hD hS d_Fr_give_24
      · exact absurd g2 h9
  · refine lv_iload_n hx hb d_Fr_give_0 rfl (lv_at hl 2 rfl) ?_
    refine lv_iconst (v := nI 1) hx hb d_Fr_give_1 (by decide) ?_
    refine lz_icmp_lt (tgt := 23) hx hb (by omega) (by omega) d_Fr_give_2 (by decide) (fun h9 => ?_) (fun h9 => ?_)
    · exfalso
      omega
    · refine lv_iload_n hx hb d_Fr_give_5 rfl (lv_at hl 2 rfl) ?_
      refine lv_bipush (v := nI 8) hx hb d_Fr_give_6 (by decide) ?_
      refine lz_icmp_gt (tgt := 23) hx hb (by omega) (by omega) d_Fr_give_8 (by decide) (fun h9 => ?_) (fun h9 => ?_)
      · exfalso
        omega
      · refine lv_aload_n hx hb d_Fr_give_11 rfl (lv_at hl 0 rfl) ?_
        refine gf_Fr_22 (q0 := 0) S0 hK hP rfl rfl d_Fr_give_12 ?_
        refine lv_iload_n hx hb d_Fr_give_15 rfl (lv_at hl 2 rfl) ?_
        refine lz_iadd hx hb d_Fr_give_16 ?_
        refine lv_sipush (v := nI 1024) hx hb d_Fr_give_17 (by decide) ?_
        refine lz_icmp_le (tgt := 25) hx hb (by omega) (by omega) d_Fr_give_20 (by decide) (fun h8 => ?_) (fun h8 => ?_)
        · rw [if_pos h8] at g3
          refine lv_iconst (v := nI 0) hx hb d_Fr_give_25 (by decide) ?_
          refine lv_istore (lv' := [(4, .int (nI 0)), (0, .ref x), (1, .long wd_), (3, .int (nI j))]) hx hb d_Fr_give_26 hl (by decide) rfl (fun ls hl => ?_)
          have e0 : tape = bl tape n 0 (gb wd_) := (bl_0 _ _ _).symm
          rw [e0] at hP hD
          refine lp_Fr_give x tp mk n j wd_ tape h8 (by omega) S0 hK hA (fun H locs ls hP hD hS hl => ?_) (j + 1) 0 _ _ ls (by omega) (by omega) hP hD hS (lv_sub hl [0, 1, 2, 3] rfl)
          refine lv_iconst (v := nI 1) hx hb d_Fr_give_68 (by decide) ?_
          exact k_iret hx hb hr (by decide) hlk ((bl tape n j (gb wd_), n + j)) (⟨by rw [g3, if_neg (by omega)], by rw [g3]⟩) hP hD hS d_Fr_give_69
        · refine lv_iconst (v := nI 0) hx hb d_Fr_give_23 (by decide) ?_
          rw [if_neg (by omega)] at g3
          exact k_iret hx hb hr (by decide) hlk ((tape, n)) (⟨by rw [if_pos g3], by rw [g3, bl_0]; rfl⟩) hP hD hS d_Fr_give_24
def pR (t : Nat → Int32) (n : Nat) (x : Int32) : Prop := (isP t n ∧ x = nI 1) ∨ (¬ isP t n ∧ x = nI 0)
set_option maxHeartbeats 1000000 in
set_option maxRecDepth 100000 in
/-- DownFrames.isPacket -/
theorem c_Fr_isPacket (l : Launch) (D : va_G) (ca : Nat → ClassId) (sz : Nat) (x tp mk n0 n : Nat) (tape : Nat → Int32) (h1 : n ≤ 1024) : MetI l y_Fr_isPacket b_Fr_isPacket 2 (some .boolean) ({ frames := 0, cells := 0, slots := 0, locals := 0 } : Room) D ca [.ref x, .int (nI n)] [(x, .inr (2, [.ref tp, .int (nI n0), .ref mk])), (tp, .inl (ca 0, 1024, .inl tape))] sz (fun (r : Int32) (_ : Unit) => pR tape n r) (fun _ => [(x, .inr (2, [.ref tp, .int (nI n0), .ref mk])), (tp, .inl (ca 0, 1024, .inl tape))]) := by
  refine MetI.of (by decide) (Nat.le_of_ble_eq_true rfl) ?_
  intro p e s m below meth c A ls S0 hr hlk hK hP hD hA hl
  have hx := S0.1
  have hb := S0.2.1
  have hS : va_S A s.heap s.heap [] := va_S.rf
  have hP : va_P D classes [(x, .inr (2, [.ref tp, .int (nI n0), .ref mk])), (tp, .inl (ca 0, 1024, .inl tape))] s.heap := hP
  have hD : va_D A [(x, .inr (2, [.ref tp, .int (nI n0), .ref mk])), (tp, .inl (ca 0, 1024, .inl tape))] := hD
  have hl : lv_has ls 2 [(0, .ref x), (1, .int (nI n))] := hl
  have hu4 := ub_lt (tape 4)
  have hu5 := ub_lt (tape 5)
  refine lv_iload_n hx hb d_Fr_isPacket_0 rfl (lv_at hl 1 rfl) ?_
  refine lv_bipush (v := nI 7) hx hb d_Fr_isPacket_1 (by decide) ?_
  refine lz_icmp_lt (tgt := 41) hx hb (by omega) (by omega) d_Fr_isPacket_3 (by decide) (fun h4 => ?_) (fun h4 => ?_)
  · refine lv_iconst (v := nI 0) hx hb d_Fr_isPacket_41 (by decide) ?_
    exact k_iret hx hb hr (by decide) hlk (()) (Or.inr ⟨fun h => absurd h.1 (by omega), rfl⟩) hP hD hS d_Fr_isPacket_42
  · refine lv_iload_n hx hb d_Fr_isPacket_6 rfl (lv_at hl 1 rfl) ?_
    refine lv_bipush (v := nI 7) hx hb d_Fr_isPacket_7 (by decide) ?_
    refine lv_aload_n hx hb d_Fr_isPacket_9 rfl (lv_at hl 0 rfl) ?_
    refine gf_Fr_9 (q0 := 0) S0 hK hP rfl rfl d_Fr_isPacket_10 ?_
    refine lv_iconst (v := nI 4) hx hb d_Fr_isPacket_13 (by decide) ?_
    refine lz_bald (i := 4) hx hb hK.1 hP 1 0 rfl rfl (by omega) (by decide) d_Fr_isPacket_14 ?_
    refine lv_sipush (v := nI 255) hx hb d_Fr_isPacket_15 (by decide) ?_
    refine lz_and255 hx hb d_Fr_isPacket_18 ?_
    refine lv_bipush (v := nI 8) hx hb d_Fr_isPacket_19 (by decide) ?_
    refine lz_ishl hx hb 8 (by decide) (by omega) d_Fr_isPacket_21 ?_
    refine lv_aload_n hx hb d_Fr_isPacket_22 rfl (lv_at hl 0 rfl) ?_
    refine gf_Fr_9 (q0 := 0) S0 hK hP rfl rfl d_Fr_isPacket_23 ?_
    refine lv_iconst (v := nI 5) hx hb d_Fr_isPacket_26 (by decide) ?_
    refine lz_bald (i := 5) hx hb hK.1 hP 1 0 rfl rfl (by omega) (by decide) d_Fr_isPacket_27 ?_
    refine lv_sipush (v := nI 255) hx hb d_Fr_isPacket_28 (by decide) ?_
    refine lz_and255 hx hb d_Fr_isPacket_31 ?_
    refine lv_ior hx hb d_Fr_isPacket_32 ?_
    refine lz_top (y := nI (ub (tape 4) * 256 + ub (tape 5))) (by rw [nI_or, or_lo (by omega)]) ?_
    refine lz_iadd hx hb d_Fr_isPacket_33 ?_
    refine lz_icmp_ne (tgt := 41) hx hb (by omega) (by omega) d_Fr_isPacket_34 (by decide) (fun h5 => ?_) (fun h5 => ?_)
    · refine lv_iconst (v := nI 0) hx hb d_Fr_isPacket_41 (by decide) ?_
      exact k_iret hx hb hr (by decide) hlk (()) (Or.inr ⟨fun h => h5 h.2, rfl⟩) hP hD hS d_Fr_isPacket_42
    · refine lv_iconst (v := nI 1) hx hb d_Fr_isPacket_37 (by decide) ?_
      refine lv_goto (tgt := 42) hx hb d_Fr_isPacket_38 (by decide) ?_
      exact k_iret hx hb hr (by decide) hlk (()) (Or.inl ⟨⟨h4, h5⟩, rfl⟩) hP hD hS d_Fr_isPacket_42
theorem c_cases (y : Int32) : (y < 0 ∧ ¬ y = nI 0 ∧ ¬ y = nI 1) ∨ (¬ y < 0 ∧ nI 2 ≤ y ∧ ¬ y = nI 0 ∧ ¬ y = nI 1) ∨ y = nI 0 ∨ y = nI 1 := by
  rcases pk_ix y (n := 2) (by decide) with h | h | ⟨j, hj, rfl⟩
  · refine Or.inl ⟨h, ?_, ?_⟩ <;> (intro e; rw [e] at h; exact absurd h (by decide))
  · refine Or.inr (Or.inl ⟨?_, h, ?_, ?_⟩)
    · intro h2
      have a := Int32.lt_iff_toInt_lt.mp h2
      have b := Int32.le_iff_toInt_le.mp h
      have c1 : (nI 2).toInt = 2 := by decide +kernel
      have c2 : (0 : Int32).toInt = 0 := by decide +kernel
      omega
    · intro e; rw [e] at h; exact absurd h (by decide)
    · intro e; rw [e] at h; exact absurd h (by decide)
  · rcases (show j = 0 ∨ j = 1 by omega) with rfl | rfl
    · exact Or.inr (Or.inr (Or.inl rfl))
    · exact Or.inr (Or.inr (Or.inr rfl))
def sdR (tape : Nat → Int32) (n : Nat) (y : Int32) (q0 g0 q1 g1 : Nat → Int32) (w0 w1 : Nat) (x0 x1 : cst) (r : Int32) (u : (cst × Nat) × (cst × Nat)) : Prop :=
  ((y = nI 0 ∧ isP tape n ∧ w0 + n ≤ 4096) ∧ r = nI (w0 + n) ∧ chOK (bl q0 w0 n (fun k => bz (tape k))) (bl g0 w0 n fl) (w0 + n) u.1.1 ∧ u.1.2 = w0 + n ∧ u.2 = (x1, w1))
  ∨ ((y = nI 1 ∧ isP tape n ∧ w1 + n ≤ 4096) ∧ r = nI (w1 + n) ∧ chOK (bl q1 w1 n (fun k => bz (tape k))) (bl g1 w1 n fl) (w1 + n) u.2.1 ∧ u.2.2 = w1 + n ∧ u.1 = (x0, w0))
  ∨ ((¬ (y = nI 0 ∧ isP tape n ∧ w0 + n ≤ 4096) ∧ ¬ (y = nI 1 ∧ isP tape n ∧ w1 + n ≤ 4096)) ∧ r = -1 ∧ u = ((x0, w0), (x1, w1)))
theorem isP_bz {t : Nat → Int32} {n : Nat} (h : isP t n) : n = qlen (fun k => bz (t k)) 0 := by
  have := h.2
  unfold qlen at this ⊢
  rw [ub_bz, ub_bz]
  exact this
theorem nI01 : ¬ nI 0 = nI 1 := by decide +kernel
set_option maxHeartbeats 1000000 in
set_option maxRecDepth 100000 in
/-- DownFrames.send -/
theorem c_Fr_send (l : Launch) (D : va_G) (ca : Nat → ClassId) (sz : Nat) (x tp mk fr ch cn c0 r0 c1 r1 : Nat) (L n fi0 w0 le0 fi1 w1 le1 : Nat) (made y : Int32) (tape frame counts ring0 ring1 q0 g0 q1 g1 : Nat → Int32) (h1 : n ≤ 1024) (h4 : w0 ≤ 4096) (h5 : w1 ≤ 4096) (hc0 : chOK q0 g0 w0 (ring0, fi0, le0)) (hc1 : chOK q1 g1 w1 (ring1, fi1, le1)) : MetI l y_Fr_send b_Fr_send 3 (some .int) ({ frames := 2, cells := 0, slots := 0, locals := 44 } : Room) D ca [.ref x, .int y] [(x, .inr (2, [.ref tp, .int (nI n), .ref mk])), (tp, .inl (ca 0, 1024, .inl tape)), (mk, .inr (1, [.ref fr, .ref ch, .int made, .ref cn])), (fr, .inl (ca 0, L, .inl frame)), (ch, .inl (ca 2, 2, .inr (.inr (.inr (.inr (chf c0 c1)))))), (cn, .inl (ca 1, 3, .inl counts)), (c0, .inr (0, [.ref r0, .int (nI fi0), .int (nI w0), .int (nI le0)])), (r0, .inl (ca 0, 4096, .inl ring0)), (c1, .inr (0, [.ref r1, .int (nI fi1), .int (nI w1), .int (nI le1)])), (r1, .inl (ca 0, 4096, .inl ring1))] sz (fun (r : Int32) (u : (cst × Nat) × (cst × Nat)) => sdR tape n y q0 g0 q1 g1 w0 w1 (ring0, fi0, le0) (ring1, fi1, le1) r u) (fun u => [(x, .inr (2, [.ref tp, .int (nI 0), .ref mk])), (tp, .inl (ca 0, 1024, .inl tape)), (mk, .inr (1, [.ref fr, .ref ch, .int made, .ref cn])), (fr, .inl (ca 0, L, .inl frame)), (ch, .inl (ca 2, 2, .inr (.inr (.inr (.inr (chf c0 c1)))))), (cn, .inl (ca 1, 3, .inl counts)), (c0, .inr (0, [.ref r0, .int (nI (u.1.1.2.1)), .int (nI (u.1.2)), .int (nI (u.1.1.2.2))])), (r0, .inl (ca 0, 4096, .inl u.1.1.1)), (c1, .inr (0, [.ref r1, .int (nI (u.2.1.2.1)), .int (nI (u.2.2)), .int (nI (u.2.1.2.2))])), (r1, .inl (ca 0, 4096, .inl u.2.1.1))]) := by
  refine MetI.of (by decide) (Nat.le_of_ble_eq_true rfl) ?_
  intro p e s m below meth c A ls S0 hr hlk hK hP hD hA hl
  have hx := S0.1
  have hb := S0.2.1
  have hS : va_S A s.heap s.heap [] := va_S.rf
  have hP : va_P D classes [(x, .inr (2, [.ref tp, .int (nI n), .ref mk])), (tp, .inl (ca 0, 1024, .inl tape)), (mk, .inr (1, [.ref fr, .ref ch, .int made, .ref cn])), (fr, .inl (ca 0, L, .inl frame)), (ch, .inl (ca 2, 2, .inr (.inr (.inr (.inr (chf c0 c1)))))), (cn, .inl (ca 1, 3, .inl counts)), (c0, .inr (0, [.ref r0, .int (nI fi0), .int (nI w0), .int (nI le0)])), (r0, .inl (ca 0, 4096, .inl ring0)), (c1, .inr (0, [.ref r1, .int (nI fi1), .int (nI w1), .int (nI le1)])), (r1, .inl (ca 0, 4096, .inl ring1))] s.heap := hP
  have hD : va_D A [(x, .inr (2, [.ref tp, .int (nI n), .ref mk])), (tp, .inl (ca 0, 1024, .inl tape)), (mk, .inr (1, [.ref fr, .ref ch, .int made, .ref cn])), (fr, .inl (ca 0, L, .inl frame)), (ch, .inl (ca 2, 2, .inr (.inr (.inr (.inr (chf c0 c1)))))), (cn, .inl (ca 1, 3, .inl counts)), (c0, .inr (0, [.ref r0, .int (nI fi0), .int (nI w0), .int (nI le0)])), (r0, .inl (ca 0, 4096, .inl ring0)), (c1, .inr (0, [.ref r1, .int (nI fi1), .int (nI w1), .int (nI le1)])), (r1, .inl (ca 0, 4096, .inl ring1))] := hD
  have hl : lv_has ls 3 [(0, .ref x), (1, .int y)] := hl
  refine lv_aload_n hx hb d_Fr_send_0 rfl (lv_at hl 0 rfl) ?_
  refine gf_Fr_22 (q0 := 0) S0 hK hP rfl rfl d_Fr_send_1 ?_
  refine lv_istore_n (lv' := [(2, .int (nI n)), (0, .ref x), (1, .int y)]) hx hb d_Fr_send_4 rfl hl (by decide) rfl (fun ls hl => ?_)
  refine lv_aload_n hx hb d_Fr_send_5 rfl (lv_at hl 1 rfl) ?_
  refine lv_iconst (v := nI 0) hx hb d_Fr_send_6 (by decide) ?_
  refine pf_Fr_22 (q0 := 0) S0 hK hP hD hS rfl rfl rfl (Nat.le_of_ble_eq_true rfl) d_Fr_send_7 (fun H locs hP hD hS => ?_)
  have hP : va_P D classes [(x, .inr (2, [.ref tp, .int (nI 0), .ref mk])), (tp, .inl (ca 0, 1024, .inl tape)), (mk, .inr (1, [.ref fr, .ref ch, .int made, .ref cn])), (fr, .inl (ca 0, L, .inl frame)), (ch, .inl (ca 2, 2, .inr (.inr (.inr (.inr (chf c0 c1)))))), (cn, .inl (ca 1, 3, .inl counts)), (c0, .inr (0, [.ref r0, .int (nI fi0), .int (nI w0), .int (nI le0)])), (r0, .inl (ca 0, 4096, .inl ring0)), (c1, .inr (0, [.ref r1, .int (nI fi1), .int (nI w1), .int (nI le1)])), (r1, .inl (ca 0, 4096, .inl ring1))] H := hP
  have hD : va_D A [(x, .inr (2, [.ref tp, .int (nI 0), .ref mk])), (tp, .inl (ca 0, 1024, .inl tape)), (mk, .inr (1, [.ref fr, .ref ch, .int made, .ref cn])), (fr, .inl (ca 0, L, .inl frame)), (ch, .inl (ca 2, 2, .inr (.inr (.inr (.inr (chf c0 c1)))))), (cn, .inl (ca 1, 3, .inl counts)), (c0, .inr (0, [.ref r0, .int (nI fi0), .int (nI w0), .int (nI le0)])), (r0, .inl (ca 0, 4096, .inl ring0)), (c1, .inr (0, [.ref r1, .int (nI fi1), .int (nI w1), .int (nI le1)])), (r1, .inl (ca 0, 4096, .inl ring1))] := hD
  refine lv_iload_n hx hb d_Fr_send_10 rfl (lv_at hl 2 rfl) ?_
  rcases c_cases y with ⟨g1, g2, g3⟩ | ⟨g1, g4, g2, g3⟩ | rfl | rfl
  · refine lv_if_lt (tgt := 43) hx hb d_Fr_send_11 (by decide) (fun h9 => ?_) (fun h9 => ?_)
    · refine lv_iconst (v := (-1)) hx hb d_Fr_send_43 (by decide) ?_
      exact k_iret hx hb hr (rfl) hlk ((((ring0, fi0, le0), w0), ((ring1, fi1, le1), w1))) (Or.inr (Or.inr ⟨⟨fun h => g2 h.1, fun h => g3 h.1⟩, rfl, rfl⟩)) hP hD hS d_Fr_send_44
    · exact absurd g1 h9
  · refine lv_if_lt (tgt := 43) hx hb d_Fr_send_11 (by decide) (fun h9 => ?_) (fun h9 => ?_)
    · exact absurd h9 g1
    · refine lv_iload_n hx hb d_Fr_send_14 rfl (lv_at hl 2 rfl) ?_
      refine lv_iconst (v := nI 2) hx hb d_Fr_send_15 (by decide) ?_
      refine lv_icmp_ge (tgt := 43) hx hb d_Fr_send_16 (by decide) (fun h9 => ?_) (fun h9 => ?_)
      · refine lv_iconst (v := (-1)) hx hb d_Fr_send_43 (by decide) ?_
        exact k_iret hx hb hr (rfl) hlk ((((ring0, fi0, le0), w0), ((ring1, fi1, le1), w1))) (Or.inr (Or.inr ⟨⟨fun h => g2 h.1, fun h => g3 h.1⟩, rfl, rfl⟩)) hP hD hS d_Fr_send_44
      · exact absurd g4 h9
  · refine lv_if_lt (tgt := 43) hx hb d_Fr_send_11 (by decide) (fun h9 => ?_) (fun h9 => ?_)
    · exact absurd h9 (by decide)
    · refine lv_iload_n hx hb d_Fr_send_14 rfl (lv_at hl 2 rfl) ?_
      refine lv_iconst (v := nI 2) hx hb d_Fr_send_15 (by decide) ?_
      refine lz_icmp_ge (tgt := 43) hx hb (by omega) (by omega) d_Fr_send_16 (by decide) (fun h9 => ?_) (fun h9 => ?_)
      · exfalso
        omega
      · refine lv_aload_n hx hb d_Fr_send_19 rfl (lv_at hl 1 rfl) ?_
        refine lv_iload_n hx hb d_Fr_send_20 rfl (lv_at hl 0 rfl) ?_
        refine k_Vi (n := 1) (As := [.int (nI n)]) (rest := []) (wc := [(x, .inr (2, [.ref tp, .int (nI 0), .ref mk])), (tp, .inl (ca 0, 1024, .inl tape))]) (wr := [(mk, .inr (1, [.ref fr, .ref ch, .int made, .ref cn])), (fr, .inl (ca 0, L, .inl frame)), (ch, .inl (ca 2, 2, .inr (.inr (.inr (.inr (chf c0 c1)))))), (cn, .inl (ca 1, 3, .inl counts)), (c0, .inr (0, [.ref r0, .int (nI fi0), .int (nI w0), .int (nI le0)])), (r0, .inl (ca 0, 4096, .inl ring0)), (c1, .inr (0, [.ref r1, .int (nI fi1), .int (nI w1), .int (nI le1)])), (r1, .inl (ca 0, 4096, .inl ring1))]) (ci := 2) (q0 := 0) S0 rfl q_79 q_81 q_p0 q_1 rfl rfl q_82 (by decide +kernel) hK hP hD hS hA (c_Fr_isPacket l D ca H.size x tp mk 0 n tape h1) [0, 1] [2, 3, 4, 5, 6, 7, 8, 9] rfl rfl (by decide) (by decide) (by decide) ⟨Nat.le_of_ble_eq_true rfl, Nat.le_of_ble_eq_true rfl⟩ rfl hl.1 rfl (Nat.le_of_ble_eq_true rfl) ⟨Nat.le_of_ble_eq_true rfl, Nat.le_of_ble_eq_true rfl⟩ d_Fr_send_21 (fun r_1 u H locs hw hP hD hS => ?_)
        refine W.cs (cells' := 0) (slots' := 0) rfl rfl ?_
        have hP : va_P D classes [(mk, .inr (1, [.ref fr, .ref ch, .int made, .ref cn])), (fr, .inl (ca 0, L, .inl frame)), (ch, .inl (ca 2, 2, .inr (.inr (.inr (.inr (chf c0 c1)))))), (cn, .inl (ca 1, 3, .inl counts)), (c0, .inr (0, [.ref r0, .int (nI fi0), .int (nI w0), .int (nI le0)])), (r0, .inl (ca 0, 4096, .inl ring0)), (c1, .inr (0, [.ref r1, .int (nI fi1), .int (nI w1), .int (nI le1)])), (r1, .inl (ca 0, 4096, .inl ring1)), (x, .inr (2, [.ref tp, .int (nI 0), .ref mk])), (tp, .inl (ca 0, 1024, .inl tape))] H := hP
        have hD : va_D A [(mk, .inr (1, [.ref fr, .ref ch, .int made, .ref cn])), (fr, .inl (ca 0, L, .inl frame)), (ch, .inl (ca 2, 2, .inr (.inr (.inr (.inr (chf c0 c1)))))), (cn, .inl (ca 1, 3, .inl counts)), (c0, .inr (0, [.ref r0, .int (nI fi0), .int (nI w0), .int (nI le0)])), (r0, .inl (ca 0, 4096, .inl ring0)), (c1, .inr (0, [.ref r1, .int (nI fi1), .int (nI w1), .int (nI le1)])), (r1, .inl (ca 0, 4096, .inl ring1)), (x, .inr (2, [.ref tp, .int (nI 0), .ref mk])), (tp, .inl (ca 0, 1024, .inl tape))] := hD
        have hP : va_P D classes [(x, .inr (2, [.ref tp, .int (nI 0), .ref mk])), (tp, .inl (ca 0, 1024, .inl tape)), (mk, .inr (1, [.ref fr, .ref ch, .int made, .ref cn])), (fr, .inl (ca 0, L, .inl frame)), (ch, .inl (ca 2, 2, .inr (.inr (.inr (.inr (chf c0 c1)))))), (cn, .inl (ca 1, 3, .inl counts)), (c0, .inr (0, [.ref r0, .int (nI fi0), .int (nI w0), .int (nI le0)])), (r0, .inl (ca 0, 4096, .inl ring0)), (c1, .inr (0, [.ref r1, .int (nI fi1), .int (nI w1), .int (nI le1)])), (r1, .inl (ca 0, 4096, .inl ring1))] H := hP.sub [8, 9, 0, 1, 2, 3, 4, 5, 6, 7] rfl
        have hD : va_D A [(x, .inr (2, [.ref tp, .int (nI 0), .ref mk])), (tp, .inl (ca 0, 1024, .inl tape)), (mk, .inr (1, [.ref fr, .ref ch, .int made, .ref cn])), (fr, .inl (ca 0, L, .inl frame)), (ch, .inl (ca 2, 2, .inr (.inr (.inr (.inr (chf c0 c1)))))), (cn, .inl (ca 1, 3, .inl counts)), (c0, .inr (0, [.ref r0, .int (nI fi0), .int (nI w0), .int (nI le0)])), (r0, .inl (ca 0, 4096, .inl ring0)), (c1, .inr (0, [.ref r1, .int (nI fi1), .int (nI w1), .int (nI le1)])), (r1, .inl (ca 0, 4096, .inl ring1))] := hD.sub [8, 9, 0, 1, 2, 3, 4, 5, 6, 7] (by decide) rfl
        rcases hw with ⟨hp, rfl⟩ | ⟨hp, rfl⟩
        · refine lz_if_eq (tgt := 43) hx hb (by omega) d_Fr_send_24 (by decide) (fun h9 => ?_) (fun h9 => ?_)
          · exfalso
            omega
          · refine lv_aload_n hx hb d_Fr_send_27 rfl (lv_at hl 1 rfl) ?_
            refine gf_Fr_18 (q0 := 0) S0 hK hP rfl rfl d_Fr_send_28 ?_
            refine gf_Fr_32 (q0 := 2) S0 hK hP rfl rfl d_Fr_send_31 ?_
            refine lv_iload_n hx hb d_Fr_send_34 rfl (lv_at hl 2 rfl) ?_
            refine lz_aald (i := 0) (v := c0) hx hb hK.1 hP 4 2 rfl rfl (by decide) (by decide) rfl d_Fr_send_35 ?_
            refine lv_iload_n hx hb d_Fr_send_36 rfl (lv_at hl 0 rfl) ?_
            refine k_Vi (n := 1) (As := [.int (nI n)]) (rest := []) (wc := [(c0, .inr (0, [.ref r0, .int (nI fi0), .int (nI w0), .int (nI le0)])), (r0, .inl (ca 0, 4096, .inl ring0))]) (wr := [(x, .inr (2, [.ref tp, .int (nI 0), .ref mk])), (tp, .inl (ca 0, 1024, .inl tape)), (mk, .inr (1, [.ref fr, .ref ch, .int made, .ref cn])), (fr, .inl (ca 0, L, .inl frame)), (ch, .inl (ca 2, 2, .inr (.inr (.inr (.inr (chf c0 c1)))))), (cn, .inl (ca 1, 3, .inl counts)), (c1, .inr (0, [.ref r1, .int (nI fi1), .int (nI w1), .int (nI le1)])), (r1, .inl (ca 0, 4096, .inl ring1))]) (ci := 0) (q0 := 0) S0 rfl q_83 q_84 q_85 q_3 rfl rfl q_86 (by decide +kernel) hK hP hD hS hA (c_Ch_hasRoom l D ca H.size c0 r0 fi0 w0 le0 n ring0 h4 h1) [6, 7] [0, 1, 2, 3, 4, 5, 8, 9] rfl rfl (by decide) (by decide) (by decide) ⟨Nat.le_of_ble_eq_true rfl, Nat.le_of_ble_eq_true rfl⟩ rfl hl.1 rfl (Nat.le_of_ble_eq_true rfl) ⟨Nat.le_of_ble_eq_true rfl, Nat.le_of_ble_eq_true rfl⟩ d_Fr_send_37 (fun r_1 u H locs hw hP hD hS => ?_)
            refine W.cs (cells' := 0) (slots' := 0) rfl rfl ?_
            have hP : va_P D classes [(x, .inr (2, [.ref tp, .int (nI 0), .ref mk])), (tp, .inl (ca 0, 1024, .inl tape)), (mk, .inr (1, [.ref fr, .ref ch, .int made, .ref cn])), (fr, .inl (ca 0, L, .inl frame)), (ch, .inl (ca 2, 2, .inr (.inr (.inr (.inr (chf c0 c1)))))), (cn, .inl (ca 1, 3, .inl counts)), (c1, .inr (0, [.ref r1, .int (nI fi1), .int (nI w1), .int (nI le1)])), (r1, .inl (ca 0, 4096, .inl ring1)), (c0, .inr (0, [.ref r0, .int (nI fi0), .int (nI w0), .int (nI le0)])), (r0, .inl (ca 0, 4096, .inl ring0))] H := hP
            have hD : va_D A [(x, .inr (2, [.ref tp, .int (nI 0), .ref mk])), (tp, .inl (ca 0, 1024, .inl tape)), (mk, .inr (1, [.ref fr, .ref ch, .int made, .ref cn])), (fr, .inl (ca 0, L, .inl frame)), (ch, .inl (ca 2, 2, .inr (.inr (.inr (.inr (chf c0 c1)))))), (cn, .inl (ca 1, 3, .inl counts)), (c1, .inr (0, [.ref r1, .int (nI fi1), .int (nI w1), .int (nI le1)])), (r1, .inl (ca 0, 4096, .inl ring1)), (c0, .inr (0, [.ref r0, .int (nI fi0), .int (nI w0), .int (nI le0)])), (r0, .inl (ca 0, 4096, .inl ring0))] := hD
            have hP : va_P D classes [(x, .inr (2, [.ref tp, .int (nI 0), .ref mk])), (tp, .inl (ca 0, 1024, .inl tape)), (mk, .inr (1, [.ref fr, .ref ch, .int made, .ref cn])), (fr, .inl (ca 0, L, .inl frame)), (ch, .inl (ca 2, 2, .inr (.inr (.inr (.inr (chf c0 c1)))))), (cn, .inl (ca 1, 3, .inl counts)), (c0, .inr (0, [.ref r0, .int (nI fi0), .int (nI w0), .int (nI le0)])), (r0, .inl (ca 0, 4096, .inl ring0)), (c1, .inr (0, [.ref r1, .int (nI fi1), .int (nI w1), .int (nI le1)])), (r1, .inl (ca 0, 4096, .inl ring1))] H := hP.sub [0, 1, 2, 3, 4, 5, 8, 9, 6, 7] rfl
            have hD : va_D A [(x, .inr (2, [.ref tp, .int (nI 0), .ref mk])), (tp, .inl (ca 0, 1024, .inl tape)), (mk, .inr (1, [.ref fr, .ref ch, .int made, .ref cn])), (fr, .inl (ca 0, L, .inl frame)), (ch, .inl (ca 2, 2, .inr (.inr (.inr (.inr (chf c0 c1)))))), (cn, .inl (ca 1, 3, .inl counts)), (c0, .inr (0, [.ref r0, .int (nI fi0), .int (nI w0), .int (nI le0)])), (r0, .inl (ca 0, 4096, .inl ring0)), (c1, .inr (0, [.ref r1, .int (nI fi1), .int (nI w1), .int (nI le1)])), (r1, .inl (ca 0, 4096, .inl ring1))] := hD.sub [0, 1, 2, 3, 4, 5, 8, 9, 6, 7] (by decide) rfl
            by_cases h8 : w0 + n ≤ 4096
            · rw [if_pos h8] at hw
              subst hw
              refine lz_if_ne (tgt := 45) hx hb (by omega) d_Fr_send_40 (by decide) (fun h9 => ?_) (fun h9 => ?_)
              · refine lv_aload_n hx hb d_Fr_send_45 rfl (lv_at hl 1 rfl) ?_
                refine gf_Fr_18 (q0 := 0) S0 hK hP rfl rfl d_Fr_send_46 ?_
                refine gf_Fr_32 (q0 := 2) S0 hK hP rfl rfl d_Fr_send_49 ?_
                refine lv_iload_n hx hb d_Fr_send_52 rfl (lv_at hl 2 rfl) ?_
                refine lz_aald (i := 0) (v := c0) hx hb hK.1 hP 4 2 rfl rfl (by decide) (by decide) rfl d_Fr_send_53 ?_
                refine lv_aload_n hx hb d_Fr_send_54 rfl (lv_at hl 1 rfl) ?_
                refine gf_Fr_9 (q0 := 0) S0 hK hP rfl rfl d_Fr_send_55 ?_
                refine lv_iload_n hx hb d_Fr_send_58 rfl (lv_at hl 0 rfl) ?_
                refine k_Vv (n := 2) (As := [.ref tp, .int (nI n)]) (rest := []) (wc := [(c0, .inr (0, [.ref r0, .int (nI fi0), .int (nI w0), .int (nI le0)])), (r0, .inl (ca 0, 4096, .inl ring0)), (tp, .inl (ca 0, 1024, .inl tape))]) (wr := [(x, .inr (2, [.ref tp, .int (nI 0), .ref mk])), (mk, .inr (1, [.ref fr, .ref ch, .int made, .ref cn])), (fr, .inl (ca 0, L, .inl frame)), (ch, .inl (ca 2, 2, .inr (.inr (.inr (.inr (chf c0 c1)))))), (cn, .inl (ca 1, 3, .inl counts)), (c1, .inr (0, [.ref r1, .int (nI fi1), .int (nI w1), .int (nI le1)])), (r1, .inl (ca 0, 4096, .inl ring1))]) (ci := 0) (q0 := 0) S0 rfl q_87 q_88 q_89 q_3 rfl rfl q_90 (by decide +kernel) hK hP hD hS hA (c_Ch_put l D ca H.size c0 r0 tp fi0 w0 le0 n ring0 q0 tape hc0.1 h8 h1 hc0.2.1) [6, 7, 1] [0, 2, 3, 4, 5, 8, 9] rfl rfl (by decide) (by decide) (by decide) ⟨Nat.le_of_ble_eq_true rfl, Nat.le_of_ble_eq_true rfl⟩ rfl hl.1 rfl (Nat.le_of_ble_eq_true rfl) ⟨Nat.le_of_ble_eq_true rfl, Nat.le_of_ble_eq_true rfl⟩ d_Fr_send_59 (fun ring2 H locs hw hP hD hS => ?_)
                refine W.cs (cells' := 0) (slots' := 0) rfl rfl ?_
                have hP : va_P D classes [(x, .inr (2, [.ref tp, .int (nI 0), .ref mk])), (mk, .inr (1, [.ref fr, .ref ch, .int made, .ref cn])), (fr, .inl (ca 0, L, .inl frame)), (ch, .inl (ca 2, 2, .inr (.inr (.inr (.inr (chf c0 c1)))))), (cn, .inl (ca 1, 3, .inl counts)), (c1, .inr (0, [.ref r1, .int (nI fi1), .int (nI w1), .int (nI le1)])), (r1, .inl (ca 0, 4096, .inl ring1)), (c0, .inr (0, [.ref r0, .int (nI fi0), .int (nI (w0 + n)), .int (nI le0)])), (r0, .inl (ca 0, 4096, .inl ring2)), (tp, .inl (ca 0, 1024, .inl tape))] H := hP
                have hD : va_D A [(x, .inr (2, [.ref tp, .int (nI 0), .ref mk])), (mk, .inr (1, [.ref fr, .ref ch, .int made, .ref cn])), (fr, .inl (ca 0, L, .inl frame)), (ch, .inl (ca 2, 2, .inr (.inr (.inr (.inr (chf c0 c1)))))), (cn, .inl (ca 1, 3, .inl counts)), (c1, .inr (0, [.ref r1, .int (nI fi1), .int (nI w1), .int (nI le1)])), (r1, .inl (ca 0, 4096, .inl ring1)), (c0, .inr (0, [.ref r0, .int (nI fi0), .int (nI (w0 + n)), .int (nI le0)])), (r0, .inl (ca 0, 4096, .inl ring2)), (tp, .inl (ca 0, 1024, .inl tape))] := hD
                have hP : va_P D classes [(x, .inr (2, [.ref tp, .int (nI 0), .ref mk])), (tp, .inl (ca 0, 1024, .inl tape)), (mk, .inr (1, [.ref fr, .ref ch, .int made, .ref cn])), (fr, .inl (ca 0, L, .inl frame)), (ch, .inl (ca 2, 2, .inr (.inr (.inr (.inr (chf c0 c1)))))), (cn, .inl (ca 1, 3, .inl counts)), (c0, .inr (0, [.ref r0, .int (nI fi0), .int (nI (w0 + n)), .int (nI le0)])), (r0, .inl (ca 0, 4096, .inl ring2)), (c1, .inr (0, [.ref r1, .int (nI fi1), .int (nI w1), .int (nI le1)])), (r1, .inl (ca 0, 4096, .inl ring1))] H := hP.sub [0, 9, 1, 2, 3, 4, 7, 8, 5, 6] rfl
                have hD : va_D A [(x, .inr (2, [.ref tp, .int (nI 0), .ref mk])), (tp, .inl (ca 0, 1024, .inl tape)), (mk, .inr (1, [.ref fr, .ref ch, .int made, .ref cn])), (fr, .inl (ca 0, L, .inl frame)), (ch, .inl (ca 2, 2, .inr (.inr (.inr (.inr (chf c0 c1)))))), (cn, .inl (ca 1, 3, .inl counts)), (c0, .inr (0, [.ref r0, .int (nI fi0), .int (nI (w0 + n)), .int (nI le0)])), (r0, .inl (ca 0, 4096, .inl ring2)), (c1, .inr (0, [.ref r1, .int (nI fi1), .int (nI w1), .int (nI le1)])), (r1, .inl (ca 0, 4096, .inl ring1))] := hD.sub [0, 9, 1, 2, 3, 4, 7, 8, 5, 6] (by decide) rfl
                refine lv_aload_n hx hb d_Fr_send_62 rfl (lv_at hl 1 rfl) ?_
                refine gf_Fr_18 (q0 := 0) S0 hK hP rfl rfl d_Fr_send_63 ?_
                refine gf_Fr_32 (q0 := 2) S0 hK hP rfl rfl d_Fr_send_66 ?_
                refine lv_iload_n hx hb d_Fr_send_69 rfl (lv_at hl 2 rfl) ?_
                refine lz_aald (i := 0) (v := c0) hx hb hK.1 hP 4 2 rfl rfl (by decide) (by decide) rfl d_Fr_send_70 ?_
                refine gf_Fr_43 (q0 := 6) S0 hK hP rfl rfl d_Fr_send_71 ?_
                exact k_iret hx hb hr (rfl) hlk ((((ring2, fi0, le0), w0 + n), ((ring1, fi1, le1), w1))) (Or.inl ⟨⟨rfl, hp, h8⟩, rfl, ⟨hc0.1, hw, PK_app hc0.2.2 (isP_bz hp)⟩, rfl, rfl⟩) hP hD hS d_Fr_send_74
              · exfalso
                omega
            · rw [if_neg h8] at hw
              subst hw
              refine lz_if_ne (tgt := 45) hx hb (by omega) d_Fr_send_40 (by decide) (fun h9 => ?_) (fun h9 => ?_)
              · exfalso
                omega
              · refine lv_iconst (v := (-1)) hx hb d_Fr_send_43 (by decide) ?_
                exact k_iret hx hb hr (rfl) hlk ((((ring0, fi0, le0), w0), ((ring1, fi1, le1), w1))) (Or.inr (Or.inr ⟨⟨fun h => h8 h.2.2, fun h => absurd h.1 (by decide)⟩, rfl, rfl⟩)) hP hD hS d_Fr_send_44
        · refine lz_if_eq (tgt := 43) hx hb (by omega) d_Fr_send_24 (by decide) (fun h9 => ?_) (fun h9 => ?_)
          · refine lv_iconst (v := (-1)) hx hb d_Fr_send_43 (by decide) ?_
            exact k_iret hx hb hr (rfl) hlk ((((ring0, fi0, le0), w0), ((ring1, fi1, le1), w1))) (Or.inr (Or.inr ⟨⟨fun h => hp h.2.1, fun h => absurd h.1 (by decide)⟩, rfl, rfl⟩)) hP hD hS d_Fr_send_44
          · exfalso
            omega
  · refine lv_if_lt (tgt := 43) hx hb d_Fr_send_11 (by decide) (fun h9 => ?_) (fun h9 => ?_)
    · exact absurd h9 (by decide)
    · refine lv_iload_n hx hb d_Fr_send_14 rfl (lv_at hl 2 rfl) ?_
      refine lv_iconst (v := nI 2) hx hb d_Fr_send_15 (by decide) ?_
      refine lz_icmp_ge (tgt := 43) hx hb (by omega) (by omega) d_Fr_send_16 (by decide) (fun h9 => ?_) (fun h9 => ?_)
      · exfalso
        omega
      · refine lv_aload_n hx hb d_Fr_send_19 rfl (lv_at hl 1 rfl) ?_
        refine lv_iload_n hx hb d_Fr_send_20 rfl (lv_at hl 0 rfl) ?_
        refine k_Vi (n := 1) (As := [.int (nI n)]) (rest := []) (wc := [(x, .inr (2, [.ref tp, .int (nI 0), .ref mk])), (tp, .inl (ca 0, 1024, .inl tape))]) (wr := [(mk, .inr (1, [.ref fr, .ref ch, .int made, .ref cn])), (fr, .inl (ca 0, L, .inl frame)), (ch, .inl (ca 2, 2, .inr (.inr (.inr (.inr (chf c0 c1)))))), (cn, .inl (ca 1, 3, .inl counts)), (c0, .inr (0, [.ref r0, .int (nI fi0), .int (nI w0), .int (nI le0)])), (r0, .inl (ca 0, 4096, .inl ring0)), (c1, .inr (0, [.ref r1, .int (nI fi1), .int (nI w1), .int (nI le1)])), (r1, .inl (ca 0, 4096, .inl ring1))]) (ci := 2) (q0 := 0) S0 rfl q_79 q_81 q_p0 q_1 rfl rfl q_82 (by decide +kernel) hK hP hD hS hA (c_Fr_isPacket l D ca H.size x tp mk 0 n tape h1) [0, 1] [2, 3, 4, 5, 6, 7, 8, 9] rfl rfl (by decide) (by decide) (by decide) ⟨Nat.le_of_ble_eq_true rfl, Nat.le_of_ble_eq_true rfl⟩ rfl hl.1 rfl (Nat.le_of_ble_eq_true rfl) ⟨Nat.le_of_ble_eq_true rfl, Nat.le_of_ble_eq_true rfl⟩ d_Fr_send_21 (fun r_1 u H locs hw hP hD hS => ?_)
        refine W.cs (cells' := 0) (slots' := 0) rfl rfl ?_
        have hP : va_P D classes [(mk, .inr (1, [.ref fr, .ref ch, .int made, .ref cn])), (fr, .inl (ca 0, L, .inl frame)), (ch, .inl (ca 2, 2, .inr (.inr (.inr (.inr (chf c0 c1)))))), (cn, .inl (ca 1, 3, .inl counts)), (c0, .inr (0, [.ref r0, .int (nI fi0), .int (nI w0), .int (nI le0)])), (r0, .inl (ca 0, 4096, .inl ring0)), (c1, .inr (0, [.ref r1, .int (nI fi1), .int (nI w1), .int (nI le1)])), (r1, .inl (ca 0, 4096, .inl ring1)), (x, .inr (2, [.ref tp, .int (nI 0), .ref mk])), (tp, .inl (ca 0, 1024, .inl tape))] H := hP
        have hD : va_D A [(mk, .inr (1, [.ref fr, .ref ch, .int made, .ref cn])), (fr, .inl (ca 0, L, .inl frame)), (ch, .inl (ca 2, 2, .inr (.inr (.inr (.inr (chf c0 c1)))))), (cn, .inl (ca 1, 3, .inl counts)), (c0, .inr (0, [.ref r0, .int (nI fi0), .int (nI w0), .int (nI le0)])), (r0, .inl (ca 0, 4096, .inl ring0)), (c1, .inr (0, [.ref r1, .int (nI fi1), .int (nI w1), .int (nI le1)])), (r1, .inl (ca 0, 4096, .inl ring1)), (x, .inr (2, [.ref tp, .int (nI 0), .ref mk])), (tp, .inl (ca 0, 1024, .inl tape))] := hD
        have hP : va_P D classes [(x, .inr (2, [.ref tp, .int (nI 0), .ref mk])), (tp, .inl (ca 0, 1024, .inl tape)), (mk, .inr (1, [.ref fr, .ref ch, .int made, .ref cn])), (fr, .inl (ca 0, L, .inl frame)), (ch, .inl (ca 2, 2, .inr (.inr (.inr (.inr (chf c0 c1)))))), (cn, .inl (ca 1, 3, .inl counts)), (c0, .inr (0, [.ref r0, .int (nI fi0), .int (nI w0), .int (nI le0)])), (r0, .inl (ca 0, 4096, .inl ring0)), (c1, .inr (0, [.ref r1, .int (nI fi1), .int (nI w1), .int (nI le1)])), (r1, .inl (ca 0, 4096, .inl ring1))] H := hP.sub [8, 9, 0, 1, 2, 3, 4, 5, 6, 7] rfl
        have hD : va_D A [(x, .inr (2, [.ref tp, .int (nI 0), .ref mk])), (tp, .inl (ca 0, 1024, .inl tape)), (mk, .inr (1, [.ref fr, .ref ch, .int made, .ref cn])), (fr, .inl (ca 0, L, .inl frame)), (ch, .inl (ca 2, 2, .inr (.inr (.inr (.inr (chf c0 c1)))))), (cn, .inl (ca 1, 3, .inl counts)), (c0, .inr (0, [.ref r0, .int (nI fi0), .int (nI w0), .int (nI le0)])), (r0, .inl (ca 0, 4096, .inl ring0)), (c1, .inr (0, [.ref r1, .int (nI fi1), .int (nI w1), .int (nI le1)])), (r1, .inl (ca 0, 4096, .inl ring1))] := hD.sub [8, 9, 0, 1, 2, 3, 4, 5, 6, 7] (by decide) rfl
        rcases hw with ⟨hp, rfl⟩ | ⟨hp, rfl⟩
        · refine lz_if_eq (tgt := 43) hx hb (by omega) d_Fr_send_24 (by decide) (fun h9 => ?_) (fun h9 => ?_)
          · exfalso
            omega
          · refine lv_aload_n hx hb d_Fr_send_27 rfl (lv_at hl 1 rfl) ?_
            refine gf_Fr_18 (q0 := 0) S0 hK hP rfl rfl d_Fr_send_28 ?_
            refine gf_Fr_32 (q0 := 2) S0 hK hP rfl rfl d_Fr_send_31 ?_
            refine lv_iload_n hx hb d_Fr_send_34 rfl (lv_at hl 2 rfl) ?_
            refine lz_aald (i := 1) (v := c1) hx hb hK.1 hP 4 2 rfl rfl (by decide) (by decide) rfl d_Fr_send_35 ?_
            refine lv_iload_n hx hb d_Fr_send_36 rfl (lv_at hl 0 rfl) ?_
            refine k_Vi (n := 1) (As := [.int (nI n)]) (rest := []) (wc := [(c1, .inr (0, [.ref r1, .int (nI fi1), .int (nI w1), .int (nI le1)])), (r1, .inl (ca 0, 4096, .inl ring1))]) (wr := [(x, .inr (2, [.ref tp, .int (nI 0), .ref mk])), (tp, .inl (ca 0, 1024, .inl tape)), (mk, .inr (1, [.ref fr, .ref ch, .int made, .ref cn])), (fr, .inl (ca 0, L, .inl frame)), (ch, .inl (ca 2, 2, .inr (.inr (.inr (.inr (chf c0 c1)))))), (cn, .inl (ca 1, 3, .inl counts)), (c0, .inr (0, [.ref r0, .int (nI fi0), .int (nI w0), .int (nI le0)])), (r0, .inl (ca 0, 4096, .inl ring0))]) (ci := 0) (q0 := 0) S0 rfl q_83 q_84 q_85 q_3 rfl rfl q_86 (by decide +kernel) hK hP hD hS hA (c_Ch_hasRoom l D ca H.size c1 r1 fi1 w1 le1 n ring1 h5 h1) [8, 9] [0, 1, 2, 3, 4, 5, 6, 7] rfl rfl (by decide) (by decide) (by decide) ⟨Nat.le_of_ble_eq_true rfl, Nat.le_of_ble_eq_true rfl⟩ rfl hl.1 rfl (Nat.le_of_ble_eq_true rfl) ⟨Nat.le_of_ble_eq_true rfl, Nat.le_of_ble_eq_true rfl⟩ d_Fr_send_37 (fun r_1 u H locs hw hP hD hS => ?_)
            refine W.cs (cells' := 0) (slots' := 0) rfl rfl ?_
            have hP : va_P D classes [(x, .inr (2, [.ref tp, .int (nI 0), .ref mk])), (tp, .inl (ca 0, 1024, .inl tape)), (mk, .inr (1, [.ref fr, .ref ch, .int made, .ref cn])), (fr, .inl (ca 0, L, .inl frame)), (ch, .inl (ca 2, 2, .inr (.inr (.inr (.inr (chf c0 c1)))))), (cn, .inl (ca 1, 3, .inl counts)), (c0, .inr (0, [.ref r0, .int (nI fi0), .int (nI w0), .int (nI le0)])), (r0, .inl (ca 0, 4096, .inl ring0)), (c1, .inr (0, [.ref r1, .int (nI fi1), .int (nI w1), .int (nI le1)])), (r1, .inl (ca 0, 4096, .inl ring1))] H := hP
            have hD : va_D A [(x, .inr (2, [.ref tp, .int (nI 0), .ref mk])), (tp, .inl (ca 0, 1024, .inl tape)), (mk, .inr (1, [.ref fr, .ref ch, .int made, .ref cn])), (fr, .inl (ca 0, L, .inl frame)), (ch, .inl (ca 2, 2, .inr (.inr (.inr (.inr (chf c0 c1)))))), (cn, .inl (ca 1, 3, .inl counts)), (c0, .inr (0, [.ref r0, .int (nI fi0), .int (nI w0), .int (nI le0)])), (r0, .inl (ca 0, 4096, .inl ring0)), (c1, .inr (0, [.ref r1, .int (nI fi1), .int (nI w1), .int (nI le1)])), (r1, .inl (ca 0, 4096, .inl ring1))] := hD
            by_cases h8 : w1 + n ≤ 4096
            · rw [if_pos h8] at hw
              subst hw
              refine lz_if_ne (tgt := 45) hx hb (by omega) d_Fr_send_40 (by decide) (fun h9 => ?_) (fun h9 => ?_)
              · refine lv_aload_n hx hb d_Fr_send_45 rfl (lv_at hl 1 rfl) ?_
                refine gf_Fr_18 (q0 := 0) S0 hK hP rfl rfl d_Fr_send_46 ?_
                refine gf_Fr_32 (q0 := 2) S0 hK hP rfl rfl d_Fr_send_49 ?_
                refine lv_iload_n hx hb d_Fr_send_52 rfl (lv_at hl 2 rfl) ?_
                refine lz_aald (i := 1) (v := c1) hx hb hK.1 hP 4 2 rfl rfl (by decide) (by decide) rfl d_Fr_send_53 ?_
                refine lv_aload_n hx hb d_Fr_send_54 rfl (lv_at hl 1 rfl) ?_
                refine gf_Fr_9 (q0 := 0) S0 hK hP rfl rfl d_Fr_send_55 ?_
                refine lv_iload_n hx hb d_Fr_send_58 rfl (lv_at hl 0 rfl) ?_
                refine k_Vv (n := 2) (As := [.ref tp, .int (nI n)]) (rest := []) (wc := [(c1, .inr (0, [.ref r1, .int (nI fi1), .int (nI w1), .int (nI le1)])), (r1, .inl (ca 0, 4096, .inl ring1)), (tp, .inl (ca 0, 1024, .inl tape))]) (wr := [(x, .inr (2, [.ref tp, .int (nI 0), .ref mk])), (mk, .inr (1, [.ref fr, .ref ch, .int made, .ref cn])), (fr, .inl (ca 0, L, .inl frame)), (ch, .inl (ca 2, 2, .inr (.inr (.inr (.inr (chf c0 c1)))))), (cn, .inl (ca 1, 3, .inl counts)), (c0, .inr (0, [.ref r0, .int (nI fi0), .int (nI w0), .int (nI le0)])), (r0, .inl (ca 0, 4096, .inl ring0))]) (ci := 0) (q0 := 0) S0 rfl q_87 q_88 q_89 q_3 rfl rfl q_90 (by decide +kernel) hK hP hD hS hA (c_Ch_put l D ca H.size c1 r1 tp fi1 w1 le1 n ring1 q1 tape hc1.1 h8 h1 hc1.2.1) [8, 9, 1] [0, 2, 3, 4, 5, 6, 7] rfl rfl (by decide) (by decide) (by decide) ⟨Nat.le_of_ble_eq_true rfl, Nat.le_of_ble_eq_true rfl⟩ rfl hl.1 rfl (Nat.le_of_ble_eq_true rfl) ⟨Nat.le_of_ble_eq_true rfl, Nat.le_of_ble_eq_true rfl⟩ d_Fr_send_59 (fun ring2 H locs hw hP hD hS => ?_)
                refine W.cs (cells' := 0) (slots' := 0) rfl rfl ?_
                have hP : va_P D classes [(x, .inr (2, [.ref tp, .int (nI 0), .ref mk])), (mk, .inr (1, [.ref fr, .ref ch, .int made, .ref cn])), (fr, .inl (ca 0, L, .inl frame)), (ch, .inl (ca 2, 2, .inr (.inr (.inr (.inr (chf c0 c1)))))), (cn, .inl (ca 1, 3, .inl counts)), (c0, .inr (0, [.ref r0, .int (nI fi0), .int (nI w0), .int (nI le0)])), (r0, .inl (ca 0, 4096, .inl ring0)), (c1, .inr (0, [.ref r1, .int (nI fi1), .int (nI (w1 + n)), .int (nI le1)])), (r1, .inl (ca 0, 4096, .inl ring2)), (tp, .inl (ca 0, 1024, .inl tape))] H := hP
                have hD : va_D A [(x, .inr (2, [.ref tp, .int (nI 0), .ref mk])), (mk, .inr (1, [.ref fr, .ref ch, .int made, .ref cn])), (fr, .inl (ca 0, L, .inl frame)), (ch, .inl (ca 2, 2, .inr (.inr (.inr (.inr (chf c0 c1)))))), (cn, .inl (ca 1, 3, .inl counts)), (c0, .inr (0, [.ref r0, .int (nI fi0), .int (nI w0), .int (nI le0)])), (r0, .inl (ca 0, 4096, .inl ring0)), (c1, .inr (0, [.ref r1, .int (nI fi1), .int (nI (w1 + n)), .int (nI le1)])), (r1, .inl (ca 0, 4096, .inl ring2)), (tp, .inl (ca 0, 1024, .inl tape))] := hD
                have hP : va_P D classes [(x, .inr (2, [.ref tp, .int (nI 0), .ref mk])), (tp, .inl (ca 0, 1024, .inl tape)), (mk, .inr (1, [.ref fr, .ref ch, .int made, .ref cn])), (fr, .inl (ca 0, L, .inl frame)), (ch, .inl (ca 2, 2, .inr (.inr (.inr (.inr (chf c0 c1)))))), (cn, .inl (ca 1, 3, .inl counts)), (c0, .inr (0, [.ref r0, .int (nI fi0), .int (nI w0), .int (nI le0)])), (r0, .inl (ca 0, 4096, .inl ring0)), (c1, .inr (0, [.ref r1, .int (nI fi1), .int (nI (w1 + n)), .int (nI le1)])), (r1, .inl (ca 0, 4096, .inl ring2))] H := hP.sub [0, 9, 1, 2, 3, 4, 5, 6, 7, 8] rfl
                have hD : va_D A [(x, .inr (2, [.ref tp, .int (nI 0), .ref mk])), (tp, .inl (ca 0, 1024, .inl tape)), (mk, .inr (1, [.ref fr, .ref ch, .int made, .ref cn])), (fr, .inl (ca 0, L, .inl frame)), (ch, .inl (ca 2, 2, .inr (.inr (.inr (.inr (chf c0 c1)))))), (cn, .inl (ca 1, 3, .inl counts)), (c0, .inr (0, [.ref r0, .int (nI fi0), .int (nI w0), .int (nI le0)])), (r0, .inl (ca 0, 4096, .inl ring0)), (c1, .inr (0, [.ref r1, .int (nI fi1), .int (nI (w1 + n)), .int (nI le1)])), (r1, .inl (ca 0, 4096, .inl ring2))] := hD.sub [0, 9, 1, 2, 3, 4, 5, 6, 7, 8] (by decide) rfl
                refine lv_aload_n hx hb d_Fr_send_62 rfl (lv_at hl 1 rfl) ?_
                refine gf_Fr_18 (q0 := 0) S0 hK hP rfl rfl d_Fr_send_63 ?_
                refine gf_Fr_32 (q0 := 2) S0 hK hP rfl rfl d_Fr_send_66 ?_
                refine lv_iload_n hx hb d_Fr_send_69 rfl (lv_at hl 2 rfl) ?_
                refine lz_aald (i := 1) (v := c1) hx hb hK.1 hP 4 2 rfl rfl (by decide) (by decide) rfl d_Fr_send_70 ?_
                refine gf_Fr_43 (q0 := 8) S0 hK hP rfl rfl d_Fr_send_71 ?_
                exact k_iret hx hb hr (rfl) hlk ((((ring0, fi0, le0), w0), ((ring2, fi1, le1), w1 + n))) (Or.inr (Or.inl ⟨⟨rfl, hp, h8⟩, rfl, ⟨hc1.1, hw, PK_app hc1.2.2 (isP_bz hp)⟩, rfl, rfl⟩)) hP hD hS d_Fr_send_74
              · exfalso
                omega
            · rw [if_neg h8] at hw
              subst hw
              refine lz_if_ne (tgt := 45) hx hb (by omega) d_Fr_send_40 (by decide) (fun h9 => ?_) (fun h9 => ?_)
              · exfalso
                omega
              · refine lv_iconst (v := (-1)) hx hb d_Fr_send_43 (by decide) ?_
                exact k_iret hx hb hr (rfl) hlk ((((ring0, fi0, le0), w0), ((ring1, fi1, le1), w1))) (Or.inr (Or.inr ⟨⟨fun h => absurd h.1 (by decide), fun h => h8 h.2.2⟩, rfl, rfl⟩)) hP hD hS d_Fr_send_44
        · refine lz_if_eq (tgt := 43) hx hb (by omega) d_Fr_send_24 (by decide) (fun h9 => ?_) (fun h9 => ?_)
          · refine lv_iconst (v := (-1)) hx hb d_Fr_send_43 (by decide) ?_
            exact k_iret hx hb hr (rfl) hlk ((((ring0, fi0, le0), w0), ((ring1, fi1, le1), w1))) (Or.inr (Or.inr ⟨⟨fun h => absurd h.1 (by decide), fun h => hp h.2.1⟩, rfl, rfl⟩)) hP hD hS d_Fr_send_44
          · exfalso
            omega
set_option maxHeartbeats 1000000 in
set_option maxRecDepth 100000 in
/-- DownFrames.frame -/
theorem c_Fr_frame (l : Launch) (D : va_G) (ca : Nat → ClassId) (sz : Nat) (x tp mk fr ch cn c0 r0 c1 r1 : Nat) (F L n fi0 w0 le0 fi1 w1 le1 : Nat) (made word : Int32) (tape frame counts ring0 ring1 q0 g0 q1 g1 : Nat → Int32) (h1 : F + 12 = L) (h2 : 64 ≤ L) (h3 : L ≤ 256) (h4 : w0 ≤ 4096) (h5 : w1 ≤ 4096) (hc0 : chOK q0 g0 w0 (ring0, fi0, le0)) (hc1 : chOK q1 g1 w1 (ring1, fi1, le1)) : MetI l y_Fr_frame b_Fr_frame 2 (some .int) ({ frames := 4, cells := 0, slots := 0, locals := 95 } : Room) D ca [.ref x, .int word] [(x, .inr (2, [.ref tp, .int (nI n), .ref mk])), (tp, .inl (ca 0, 1024, .inl tape)), (mk, .inr (1, [.ref fr, .ref ch, .int made, .ref cn])), (fr, .inl (ca 0, L, .inl frame)), (ch, .inl (ca 2, 2, .inr (.inr (.inr (.inr (chf c0 c1)))))), (cn, .inl (ca 1, 3, .inl counts)), (c0, .inr (0, [.ref r0, .int (nI fi0), .int (nI w0), .int (nI le0)])), (r0, .inl (ca 0, 4096, .inl ring0)), (c1, .inr (0, [.ref r1, .int (nI fi1), .int (nI w1), .int (nI le1)])), (r1, .inl (ca 0, 4096, .inl ring1))] sz (fun (r : Int32) (u : (Nat → Int32) × (Nat → Int32) × (cst × Nat) × (cst × Nat)) => mkR F L made counts word q0 g0 q1 g1 w0 w1 (ring0, fi0, le0) (ring1, fi1, le1) r u) (fun u => [(x, .inr (2, [.ref tp, .int (nI n), .ref mk])), (tp, .inl (ca 0, 1024, .inl tape)), (mk, .inr (1, [.ref fr, .ref ch, .int (made + nI 1), .ref cn])), (fr, .inl (ca 0, L, .inl u.1)), (ch, .inl (ca 2, 2, .inr (.inr (.inr (.inr (chf c0 c1)))))), (cn, .inl (ca 1, 3, .inl u.2.1)), (c0, .inr (0, [.ref r0, .int (nI (u.2.2.1.1.2.1)), .int (nI (u.2.2.1.2)), .int (nI (u.2.2.1.1.2.2))])), (r0, .inl (ca 0, 4096, .inl u.2.2.1.1.1)), (c1, .inr (0, [.ref r1, .int (nI (u.2.2.2.1.2.1)), .int (nI (u.2.2.2.2)), .int (nI (u.2.2.2.1.2.2))])), (r1, .inl (ca 0, 4096, .inl u.2.2.2.1.1))]) := by
  refine MetI.of (by decide) (Nat.le_of_ble_eq_true rfl) ?_
  intro p e s m below meth c A ls S0 hr hlk hK hP hD hA hl
  have hx := S0.1
  have hb := S0.2.1
  have hS : va_S A s.heap s.heap [] := va_S.rf
  have hP : va_P D classes [(x, .inr (2, [.ref tp, .int (nI n), .ref mk])), (tp, .inl (ca 0, 1024, .inl tape)), (mk, .inr (1, [.ref fr, .ref ch, .int made, .ref cn])), (fr, .inl (ca 0, L, .inl frame)), (ch, .inl (ca 2, 2, .inr (.inr (.inr (.inr (chf c0 c1)))))), (cn, .inl (ca 1, 3, .inl counts)), (c0, .inr (0, [.ref r0, .int (nI fi0), .int (nI w0), .int (nI le0)])), (r0, .inl (ca 0, 4096, .inl ring0)), (c1, .inr (0, [.ref r1, .int (nI fi1), .int (nI w1), .int (nI le1)])), (r1, .inl (ca 0, 4096, .inl ring1))] s.heap := hP
  have hD : va_D A [(x, .inr (2, [.ref tp, .int (nI n), .ref mk])), (tp, .inl (ca 0, 1024, .inl tape)), (mk, .inr (1, [.ref fr, .ref ch, .int made, .ref cn])), (fr, .inl (ca 0, L, .inl frame)), (ch, .inl (ca 2, 2, .inr (.inr (.inr (.inr (chf c0 c1)))))), (cn, .inl (ca 1, 3, .inl counts)), (c0, .inr (0, [.ref r0, .int (nI fi0), .int (nI w0), .int (nI le0)])), (r0, .inl (ca 0, 4096, .inl ring0)), (c1, .inr (0, [.ref r1, .int (nI fi1), .int (nI w1), .int (nI le1)])), (r1, .inl (ca 0, 4096, .inl ring1))] := hD
  have hl : lv_has ls 2 [(0, .ref x), (1, .int word)] := hl
  refine lv_aload_n hx hb d_Fr_frame_0 rfl (lv_at hl 0 rfl) ?_
  refine gf_Fr_18 (q0 := 0) S0 hK hP rfl rfl d_Fr_frame_1 ?_
  refine lv_iload_n hx hb d_Fr_frame_4 rfl (lv_at hl 1 rfl) ?_
  refine k_Vi (n := 1) (As := [.int word]) (rest := []) (wc := [(mk, .inr (1, [.ref fr, .ref ch, .int made, .ref cn])), (fr, .inl (ca 0, L, .inl frame)), (ch, .inl (ca 2, 2, .inr (.inr (.inr (.inr (chf c0 c1)))))), (cn, .inl (ca 1, 3, .inl counts)), (c0, .inr (0, [.ref r0, .int (nI fi0), .int (nI w0), .int (nI le0)])), (r0, .inl (ca 0, 4096, .inl ring0)), (c1, .inr (0, [.ref r1, .int (nI fi1), .int (nI w1), .int (nI le1)])), (r1, .inl (ca 0, 4096, .inl ring1))]) (wr := [(x, .inr (2, [.ref tp, .int (nI n), .ref mk])), (tp, .inl (ca 0, 1024, .inl tape))]) (ci := 1) (q0 := 0) S0 rfl q_99 q_100 q_101 q_2 rfl rfl q_102 (by decide +kernel) hK hP hD hS hA (c_Mk_make l D ca s.heap.size mk fr ch cn c0 r0 c1 r1 F L fi0 w0 le0 fi1 w1 le1 made word frame counts ring0 ring1 q0 g0 q1 g1 h1 h2 h3 h4 h5 hc0 hc1) [2, 3, 4, 5, 6, 7, 8, 9] [0, 1] rfl rfl (by decide) (by decide) (by decide) ⟨Nat.le_of_ble_eq_true rfl, Nat.le_of_ble_eq_true rfl⟩ rfl hl.1 rfl (Nat.le_of_ble_eq_true rfl) ⟨Nat.le_of_ble_eq_true rfl, Nat.le_of_ble_eq_true rfl⟩ d_Fr_frame_5 (fun r_1 u H locs hw hP hD hS => ?_)
  refine W.cs (cells' := 0) (slots' := 0) rfl rfl ?_
  have hP : va_P D classes [(x, .inr (2, [.ref tp, .int (nI n), .ref mk])), (tp, .inl (ca 0, 1024, .inl tape)), (mk, .inr (1, [.ref fr, .ref ch, .int (made + nI 1), .ref cn])), (fr, .inl (ca 0, L, .inl u.1)), (ch, .inl (ca 2, 2, .inr (.inr (.inr (.inr (chf c0 c1)))))), (cn, .inl (ca 1, 3, .inl u.2.1)), (c0, .inr (0, [.ref r0, .int (nI (u.2.2.1.1.2.1)), .int (nI (u.2.2.1.2)), .int (nI (u.2.2.1.1.2.2))])), (r0, .inl (ca 0, 4096, .inl u.2.2.1.1.1)), (c1, .inr (0, [.ref r1, .int (nI (u.2.2.2.1.2.1)), .int (nI (u.2.2.2.2)), .int (nI (u.2.2.2.1.2.2))])), (r1, .inl (ca 0, 4096, .inl u.2.2.2.1.1))] H := hP
  have hD : va_D A [(x, .inr (2, [.ref tp, .int (nI n), .ref mk])), (tp, .inl (ca 0, 1024, .inl tape)), (mk, .inr (1, [.ref fr, .ref ch, .int (made + nI 1), .ref cn])), (fr, .inl (ca 0, L, .inl u.1)), (ch, .inl (ca 2, 2, .inr (.inr (.inr (.inr (chf c0 c1)))))), (cn, .inl (ca 1, 3, .inl u.2.1)), (c0, .inr (0, [.ref r0, .int (nI (u.2.2.1.1.2.1)), .int (nI (u.2.2.1.2)), .int (nI (u.2.2.1.1.2.2))])), (r0, .inl (ca 0, 4096, .inl u.2.2.1.1.1)), (c1, .inr (0, [.ref r1, .int (nI (u.2.2.2.1.2.1)), .int (nI (u.2.2.2.2)), .int (nI (u.2.2.2.1.2.2))])), (r1, .inl (ca 0, 4096, .inl u.2.2.2.1.1))] := hD
  exact k_iret hx hb hr (rfl) hlk (u) (hw) hP hD hS d_Fr_frame_8
def byR (y : Int32) (L : Nat) (f : Nat → Int32) : Int32 := if ¬ y < 0 ∧ ¬ nI L ≤ y then nI (ub (f y.toNatClampNeg)) else -1
theorem byR_in {j L : Nat} (f : Nat → Int32) (h : j < L) (hL : L < 2 ^ 31) : byR (nI j) L f = nI (ub (f j)) := by
  unfold byR
  rw [if_pos ⟨nI_pos (by omega), nI_ge h hL⟩, nI_clamp (by omega)]
theorem byR_out {y : Int32} {L : Nat} (f : Nat → Int32) (h : y < 0 ∨ nI L ≤ y) : byR y L f = -1 := if_neg (fun q => h.elim q.1 q.2)
set_option maxHeartbeats 1000000 in
set_option maxRecDepth 100000 in
/-- DownFrames.byteAt -/
theorem c_Fr_byteAt (l : Launch) (D : va_G) (ca : Nat → ClassId) (sz : Nat) (x tp mk fr ch cn L n : Nat) (made y : Int32) (frame : Nat → Int32) (h1 : L ≤ 256) : MetI l y_Fr_byteAt b_Fr_byteAt 2 (some .int) ({ frames := 0, cells := 0, slots := 0, locals := 0 } : Room) D ca [.ref x, .int y] [(x, .inr (2, [.ref tp, .int (nI n), .ref mk])), (mk, .inr (1, [.ref fr, .ref ch, .int made, .ref cn])), (fr, .inl (ca 0, L, .inl frame))] sz (fun (r : Int32) (_ : Unit) => r = if made = 0 then -1 else byR y L frame) (fun _ => [(x, .inr (2, [.ref tp, .int (nI n), .ref mk])), (mk, .inr (1, [.ref fr, .ref ch, .int made, .ref cn])), (fr, .inl (ca 0, L, .inl frame))]) := by
  refine MetI.of (by decide) (Nat.le_of_ble_eq_true rfl) ?_
  intro p e s m below meth c A ls S0 hr hlk hK hP hD hA hl
  have hx := S0.1
  have hb := S0.2.1
  have hS : va_S A s.heap s.heap [] := va_S.rf
  have hP : va_P D classes [(x, .inr (2, [.ref tp, .int (nI n), .ref mk])), (mk, .inr (1, [.ref fr, .ref ch, .int made, .ref cn])), (fr, .inl (ca 0, L, .inl frame))] s.heap := hP
  have hD : va_D A [(x, .inr (2, [.ref tp, .int (nI n), .ref mk])), (mk, .inr (1, [.ref fr, .ref ch, .int made, .ref cn])), (fr, .inl (ca 0, L, .inl frame))] := hD
  have hl : lv_has ls 2 [(0, .ref x), (1, .int y)] := hl
  rcases pk_ix y (n := L) (by omega) with g1 | g1 | ⟨j, g1, rfl⟩
  · refine lv_iload_n hx hb d_Fr_byteAt_0 rfl (lv_at hl 1 rfl) ?_
    refine lv_if_lt (tgt := 26) hx hb d_Fr_byteAt_1 (by decide) (fun h9 => ?_) (fun h9 => ?_)
    · refine lv_iconst (v := (-1)) hx hb d_Fr_byteAt_26 (by decide) ?_
      refine lv_goto (tgt := 43) hx hb d_Fr_byteAt_27 (by decide) ?_
      exact k_iret hx hb hr (rfl) hlk (()) (by rw [byR_out _ (Or.inl g1), ite_self]) hP hD hS d_Fr_byteAt_43
    · exact absurd g1 h9
  · refine lv_iload_n hx hb d_Fr_byteAt_0 rfl (lv_at hl 1 rfl) ?_
    refine lv_if_lt (tgt := 26) hx hb d_Fr_byteAt_1 (by decide) (fun h9 => ?_) (fun h9 => ?_)
    · refine lv_iconst (v := (-1)) hx hb d_Fr_byteAt_26 (by decide) ?_
      refine lv_goto (tgt := 43) hx hb d_Fr_byteAt_27 (by decide) ?_
      exact k_iret hx hb hr (rfl) hlk (()) (by rw [byR_out _ (Or.inl h9), ite_self]) hP hD hS d_Fr_byteAt_43
    · refine lv_iload_n hx hb d_Fr_byteAt_4 rfl (lv_at hl 1 rfl) ?_
      refine lv_aload_n hx hb d_Fr_byteAt_5 rfl (lv_at hl 0 rfl) ?_
      refine gf_Fr_18 (q0 := 0) S0 hK hP rfl rfl d_Fr_byteAt_6 ?_
      refine gf_Fr_48 (q0 := 1) S0 hK hP rfl rfl d_Fr_byteAt_9 ?_
      refine va_alen (v := nI L) hx hb hK.1 hP 2 0 rfl rfl rfl d_Fr_byteAt_12 ?_
      refine lv_icmp_ge (tgt := 26) hx hb d_Fr_byteAt_13 (by decide) (fun h8 => ?_) (fun h8 => ?_)
      · refine lv_iconst (v := (-1)) hx hb d_Fr_byteAt_26 (by decide) ?_
        refine lv_goto (tgt := 43) hx hb d_Fr_byteAt_27 (by decide) ?_
        exact k_iret hx hb hr (rfl) hlk (()) (by rw [byR_out _ (Or.inr g1), ite_self]) hP hD hS d_Fr_byteAt_43
      · exact absurd g1 h8
  · refine lv_iload_n hx hb d_Fr_byteAt_0 rfl (lv_at hl 1 rfl) ?_
    refine lv_if_lt (tgt := 26) hx hb d_Fr_byteAt_1 (by decide) (fun h9 => ?_) (fun h9 => ?_)
    · exact absurd h9 (nI_pos (by omega))
    · refine lv_iload_n hx hb d_Fr_byteAt_4 rfl (lv_at hl 1 rfl) ?_
      refine lv_aload_n hx hb d_Fr_byteAt_5 rfl (lv_at hl 0 rfl) ?_
      refine gf_Fr_18 (q0 := 0) S0 hK hP rfl rfl d_Fr_byteAt_6 ?_
      refine gf_Fr_48 (q0 := 1) S0 hK hP rfl rfl d_Fr_byteAt_9 ?_
      refine va_alen (v := nI L) hx hb hK.1 hP 2 0 rfl rfl rfl d_Fr_byteAt_12 ?_
      refine lz_icmp_ge (tgt := 26) hx hb (by omega) (by omega) d_Fr_byteAt_13 (by decide) (fun h8 => ?_) (fun h8 => ?_)
      · exfalso
        omega
      · refine lv_aload_n hx hb d_Fr_byteAt_16 rfl (lv_at hl 0 rfl) ?_
        refine gf_Fr_18 (q0 := 0) S0 hK hP rfl rfl d_Fr_byteAt_17 ?_
        refine gf_Fr_51 (q0 := 1) S0 hK hP rfl rfl d_Fr_byteAt_20 ?_
        refine lv_if_ne (tgt := 30) hx hb d_Fr_byteAt_23 (by decide) (fun h7 => ?_) (fun h7 => ?_)
        · refine lv_aload_n hx hb d_Fr_byteAt_30 rfl (lv_at hl 0 rfl) ?_
          refine gf_Fr_18 (q0 := 0) S0 hK hP rfl rfl d_Fr_byteAt_31 ?_
          refine gf_Fr_48 (q0 := 1) S0 hK hP rfl rfl d_Fr_byteAt_34 ?_
          refine lv_iload_n hx hb d_Fr_byteAt_37 rfl (lv_at hl 1 rfl) ?_
          refine lz_bald (i := j) hx hb hK.1 hP 2 0 rfl rfl (by omega) (by omega) d_Fr_byteAt_38 ?_
          refine lv_sipush (v := nI 255) hx hb d_Fr_byteAt_39 (by decide) ?_
          refine lz_and255 hx hb d_Fr_byteAt_42 ?_
          exact k_iret hx hb hr (rfl) hlk (()) (by rw [if_neg h7, byR_in _ g1 (by omega)]) hP hD hS d_Fr_byteAt_43
        · refine lv_iconst (v := (-1)) hx hb d_Fr_byteAt_26 (by decide) ?_
          refine lv_goto (tgt := 43) hx hb d_Fr_byteAt_27 (by decide) ?_
          exact k_iret hx hb hr (rfl) hlk (()) (by rw [if_pos h7]) hP hD hS d_Fr_byteAt_43
def wtR (y : Int32) (w0 w1 : Nat) : Int32 := if y = nI 0 then nI w0 else if y = nI 1 then nI w1 else -1
set_option maxHeartbeats 1000000 in
set_option maxRecDepth 100000 in
/-- DownFrames.waiting -/
theorem c_Fr_waiting (l : Launch) (D : va_G) (ca : Nat → ClassId) (sz : Nat) (x tp mk fr ch cn c0 r0 c1 r1 n fi0 w0 le0 fi1 w1 le1 : Nat) (made y : Int32) : MetI l y_Fr_waiting b_Fr_waiting 2 (some .int) ({ frames := 0, cells := 0, slots := 0, locals := 0 } : Room) D ca [.ref x, .int y] [(x, .inr (2, [.ref tp, .int (nI n), .ref mk])), (mk, .inr (1, [.ref fr, .ref ch, .int made, .ref cn])), (ch, .inl (ca 2, 2, .inr (.inr (.inr (.inr (chf c0 c1)))))), (c0, .inr (0, [.ref r0, .int (nI fi0), .int (nI w0), .int (nI le0)])), (c1, .inr (0, [.ref r1, .int (nI fi1), .int (nI w1), .int (nI le1)]))] sz (fun (r : Int32) (_ : Unit) => r = wtR y w0 w1) (fun _ => [(x, .inr (2, [.ref tp, .int (nI n), .ref mk])), (mk, .inr (1, [.ref fr, .ref ch, .int made, .ref cn])), (ch, .inl (ca 2, 2, .inr (.inr (.inr (.inr (chf c0 c1)))))), (c0, .inr (0, [.ref r0, .int (nI fi0), .int (nI w0), .int (nI le0)])), (c1, .inr (0, [.ref r1, .int (nI fi1), .int (nI w1), .int (nI le1)]))]) := by
  refine MetI.of (by decide) (Nat.le_of_ble_eq_true rfl) ?_
  intro p e s m below meth c A ls S0 hr hlk hK hP hD hA hl
  have hx := S0.1
  have hb := S0.2.1
  have hS : va_S A s.heap s.heap [] := va_S.rf
  have hP : va_P D classes [(x, .inr (2, [.ref tp, .int (nI n), .ref mk])), (mk, .inr (1, [.ref fr, .ref ch, .int made, .ref cn])), (ch, .inl (ca 2, 2, .inr (.inr (.inr (.inr (chf c0 c1)))))), (c0, .inr (0, [.ref r0, .int (nI fi0), .int (nI w0), .int (nI le0)])), (c1, .inr (0, [.ref r1, .int (nI fi1), .int (nI w1), .int (nI le1)]))] s.heap := hP
  have hD : va_D A [(x, .inr (2, [.ref tp, .int (nI n), .ref mk])), (mk, .inr (1, [.ref fr, .ref ch, .int made, .ref cn])), (ch, .inl (ca 2, 2, .inr (.inr (.inr (.inr (chf c0 c1)))))), (c0, .inr (0, [.ref r0, .int (nI fi0), .int (nI w0), .int (nI le0)])), (c1, .inr (0, [.ref r1, .int (nI fi1), .int (nI w1), .int (nI le1)]))] := hD
  have hl : lv_has ls 2 [(0, .ref x), (1, .int y)] := hl
  rcases c_cases y with ⟨g1, g2, g3⟩ | ⟨g1, g4, g2, g3⟩ | rfl | rfl
  · refine lv_iload_n hx hb d_Fr_waiting_0 rfl (lv_at hl 1 rfl) ?_
    refine lv_if_lt (tgt := 9) hx hb d_Fr_waiting_1 (by decide) (fun h9 => ?_) (fun h9 => ?_)
    · refine lv_iconst (v := (-1)) hx hb d_Fr_waiting_9 (by decide) ?_
      refine lv_goto (tgt := 25) hx hb d_Fr_waiting_10 (by decide) ?_
      exact k_iret hx hb hr (rfl) hlk (()) (by unfold wtR; rw [if_neg g2, if_neg g3]) hP hD hS d_Fr_waiting_25
    · exact absurd g1 h9
  · refine lv_iload_n hx hb d_Fr_waiting_0 rfl (lv_at hl 1 rfl) ?_
    refine lv_if_lt (tgt := 9) hx hb d_Fr_waiting_1 (by decide) (fun h9 => ?_) (fun h9 => ?_)
    · exact absurd h9 g1
    · refine lv_iload_n hx hb d_Fr_waiting_4 rfl (lv_at hl 1 rfl) ?_
      refine lv_iconst (v := nI 2) hx hb d_Fr_waiting_5 (by decide) ?_
      refine lv_icmp_lt (tgt := 13) hx hb d_Fr_waiting_6 (by decide) (fun h8 => ?_) (fun h8 => ?_)
      · have e1 := Int32.lt_iff_toInt_lt.mp h8
        have e2 := Int32.le_iff_toInt_le.mp g4
        exfalso
        omega
      · refine lv_iconst (v := (-1)) hx hb d_Fr_waiting_9 (by decide) ?_
        refine lv_goto (tgt := 25) hx hb d_Fr_waiting_10 (by decide) ?_
        exact k_iret hx hb hr (rfl) hlk (()) (by unfold wtR; rw [if_neg g2, if_neg g3]) hP hD hS d_Fr_waiting_25
  · refine lv_iload_n hx hb d_Fr_waiting_0 rfl (lv_at hl 1 rfl) ?_
    refine lv_if_lt (tgt := 9) hx hb d_Fr_waiting_1 (by decide) (fun h9 => ?_) (fun h9 => ?_)
    · exact absurd h9 (by decide)
    · refine lv_iload_n hx hb d_Fr_waiting_4 rfl (lv_at hl 1 rfl) ?_
      refine lv_iconst (v := nI 2) hx hb d_Fr_waiting_5 (by decide) ?_
      refine lz_icmp_lt (tgt := 13) hx hb (by omega) (by omega) d_Fr_waiting_6 (by decide) (fun h8 => ?_) (fun h8 => ?_)
      · refine lv_aload_n hx hb d_Fr_waiting_13 rfl (lv_at hl 0 rfl) ?_
        refine gf_Fr_18 (q0 := 0) S0 hK hP rfl rfl d_Fr_waiting_14 ?_
        refine gf_Fr_32 (q0 := 1) S0 hK hP rfl rfl d_Fr_waiting_17 ?_
        refine lv_iload_n hx hb d_Fr_waiting_20 rfl (lv_at hl 1 rfl) ?_
        refine lz_aald (i := 0) (v := c0) hx hb hK.1 hP 2 2 rfl rfl (by decide) (by decide) rfl d_Fr_waiting_21 ?_
        refine gf_Fr_43 (q0 := 3) S0 hK hP rfl rfl d_Fr_waiting_22 ?_
        exact k_iret hx hb hr (rfl) hlk (()) (rfl) hP hD hS d_Fr_waiting_25
      · exfalso
        omega
  · refine lv_iload_n hx hb d_Fr_waiting_0 rfl (lv_at hl 1 rfl) ?_
    refine lv_if_lt (tgt := 9) hx hb d_Fr_waiting_1 (by decide) (fun h9 => ?_) (fun h9 => ?_)
    · exact absurd h9 (by decide)
    · refine lv_iload_n hx hb d_Fr_waiting_4 rfl (lv_at hl 1 rfl) ?_
      refine lv_iconst (v := nI 2) hx hb d_Fr_waiting_5 (by decide) ?_
      refine lz_icmp_lt (tgt := 13) hx hb (by omega) (by omega) d_Fr_waiting_6 (by decide) (fun h8 => ?_) (fun h8 => ?_)
      · refine lv_aload_n hx hb d_Fr_waiting_13 rfl (lv_at hl 0 rfl) ?_
        refine gf_Fr_18 (q0 := 0) S0 hK hP rfl rfl d_Fr_waiting_14 ?_
        refine gf_Fr_32 (q0 := 1) S0 hK hP rfl rfl d_Fr_waiting_17 ?_
        refine lv_iload_n hx hb d_Fr_waiting_20 rfl (lv_at hl 1 rfl) ?_
        refine lz_aald (i := 1) (v := c1) hx hb hK.1 hP 2 2 rfl rfl (by decide) (by decide) rfl d_Fr_waiting_21 ?_
        refine gf_Fr_43 (q0 := 4) S0 hK hP rfl rfl d_Fr_waiting_22 ?_
        exact k_iret hx hb hr (rfl) hlk (()) (by unfold wtR; rw [if_neg (by decide), if_pos rfl]) hP hD hS d_Fr_waiting_25
      · exfalso
        omega
def cnR (y : Int32) (a b c d : Int32) (n L : Nat) : Int32 := if y = nI 0 then a else if y = nI 1 then b else if y = nI 2 then c else if y = nI 3 then d else if y = nI 4 then nI n else if y = nI 5 then nI L else -1
theorem cn_cases (y : Int32) : (∃ j, j < 6 ∧ y = nI j) ∨ ((y.toInt < 0 ∨ 5 < y.toInt) ∧ (y < 0 ∨ nI 6 ≤ y) ∧ ∀ j, j < 6 → ¬ y = nI j) := by
  rcases pk_ix y (n := 6) (by decide) with h | h | ⟨j, hj, e⟩
  · have a := Int32.lt_iff_toInt_lt.mp h
    have c2 : (0 : Int32).toInt = 0 := by decide +kernel
    refine Or.inr ⟨Or.inl (by omega), Or.inl h, fun j hj e => ?_⟩
    rw [e, nI_toInt (by omega)] at a
    omega
  · have b := Int32.le_iff_toInt_le.mp h
    have c1 : (nI 6).toInt = 6 := by decide +kernel
    refine Or.inr ⟨Or.inr (by omega), Or.inr h, fun j hj e => ?_⟩
    have c3 := nI_toInt (n := j) (by omega)
    rw [e] at b
    omega
  · exact Or.inl ⟨j, hj, e⟩
theorem cnR_out {y a b c d : Int32} {n L : Nat} (h : ∀ j, j < 6 → ¬ y = nI j) : cnR y a b c d n L = -1 := by
  unfold cnR
  rw [if_neg (h 0 (by decide)), if_neg (h 1 (by decide)), if_neg (h 2 (by decide)), if_neg (h 3 (by decide)), if_neg (h 4 (by decide)), if_neg (h 5 (by decide))]
theorem cnR_0 (a b c d : Int32) (n L : Nat) : cnR (nI 0) a b c d n L = a ∧ cnR (nI 1) a b c d n L = b ∧ cnR (nI 2) a b c d n L = c ∧ cnR (nI 3) a b c d n L = d ∧ cnR (nI 4) a b c d n L = nI n ∧ cnR (nI 5) a b c d n L = nI L := ⟨rfl, rfl, rfl, rfl, rfl, rfl⟩
set_option maxHeartbeats 1000000 in
set_option maxRecDepth 100000 in
/-- DownFrames.count -/
theorem c_Fr_count (l : Launch) (D : va_G) (ca : Nat → ClassId) (sz : Nat) (x tp mk fr ch cn L n : Nat) (made y : Int32) (frame counts : Nat → Int32) : MetI l y_Fr_count b_Fr_count 2 (some .int) ({ frames := 0, cells := 0, slots := 0, locals := 0 } : Room) D ca [.ref x, .int y] [(x, .inr (2, [.ref tp, .int (nI n), .ref mk])), (mk, .inr (1, [.ref fr, .ref ch, .int made, .ref cn])), (fr, .inl (ca 0, L, .inl frame)), (cn, .inl (ca 1, 3, .inl counts))] sz (fun (r : Int32) (_ : Unit) => r = cnR y made (counts 0) (counts 1) (counts 2) n L) (fun _ => [(x, .inr (2, [.ref tp, .int (nI n), .ref mk])), (mk, .inr (1, [.ref fr, .ref ch, .int made, .ref cn])), (fr, .inl (ca 0, L, .inl frame)), (cn, .inl (ca 1, 3, .inl counts))]) := by
  refine MetI.of (by decide) (Nat.le_of_ble_eq_true rfl) ?_
  intro p e s m below meth c A ls S0 hr hlk hK hP hD hA hl
  have hx := S0.1
  have hb := S0.2.1
  have hS : va_S A s.heap s.heap [] := va_S.rf
  have hP : va_P D classes [(x, .inr (2, [.ref tp, .int (nI n), .ref mk])), (mk, .inr (1, [.ref fr, .ref ch, .int made, .ref cn])), (fr, .inl (ca 0, L, .inl frame)), (cn, .inl (ca 1, 3, .inl counts))] s.heap := hP
  have hD : va_D A [(x, .inr (2, [.ref tp, .int (nI n), .ref mk])), (mk, .inr (1, [.ref fr, .ref ch, .int made, .ref cn])), (fr, .inl (ca 0, L, .inl frame)), (cn, .inl (ca 1, 3, .inl counts))] := hD
  have hl : lv_has ls 2 [(0, .ref x), (1, .int y)] := hl
  rcases cn_cases y with ⟨j, hj, rfl⟩ | ⟨hout, -, hne⟩
  · rcases (show j = 0 ∨ j = 1 ∨ j = 2 ∨ j = 3 ∨ j = 4 ∨ j = 5 by omega) with rfl | rfl | rfl | rfl | rfl | rfl
    · refine lv_iload_n hx hb d_Fr_count_0 rfl (lv_at hl 1 rfl) ?_
      refine lv_tableIn (tgt := 40) hx hb d_Fr_count_1 (by decide) (by decide) rfl (by decide) ?_
      refine lv_aload_n hx hb d_Fr_count_40 rfl (lv_at hl 0 rfl) ?_
      refine gf_Fr_18 (q0 := 0) S0 hK hP rfl rfl d_Fr_count_41 ?_
      refine gf_Fr_51 (q0 := 1) S0 hK hP rfl rfl d_Fr_count_44 ?_
      exact k_iret hx hb hr (rfl) hlk (()) (rfl) hP hD hS d_Fr_count_47
    · refine lv_iload_n hx hb d_Fr_count_0 rfl (lv_at hl 1 rfl) ?_
      refine lv_tableIn (tgt := 48) hx hb d_Fr_count_1 (by decide) (by decide) rfl (by decide) ?_
      refine lv_aload_n hx hb d_Fr_count_48 rfl (lv_at hl 0 rfl) ?_
      refine gf_Fr_18 (q0 := 0) S0 hK hP rfl rfl d_Fr_count_49 ?_
      refine gf_Fr_54 (q0 := 1) S0 hK hP rfl rfl d_Fr_count_52 ?_
      refine lv_iconst (v := nI 0) hx hb d_Fr_count_55 (by decide) ?_
      refine lz_iald (i := 0) hx hb hK.1 hP 3 1 rfl rfl (by omega) (by decide) d_Fr_count_56 ?_
      exact k_iret hx hb hr (rfl) hlk (()) (rfl) hP hD hS d_Fr_count_57
    · refine lv_iload_n hx hb d_Fr_count_0 rfl (lv_at hl 1 rfl) ?_
      refine lv_tableIn (tgt := 58) hx hb d_Fr_count_1 (by decide) (by decide) rfl (by decide) ?_
      refine lv_aload_n hx hb d_Fr_count_58 rfl (lv_at hl 0 rfl) ?_
      refine gf_Fr_18 (q0 := 0) S0 hK hP rfl rfl d_Fr_count_59 ?_
      refine gf_Fr_54 (q0 := 1) S0 hK hP rfl rfl d_Fr_count_62 ?_
      refine lv_iconst (v := nI 1) hx hb d_Fr_count_65 (by decide) ?_
      refine lz_iald (i := 1) hx hb hK.1 hP 3 1 rfl rfl (by omega) (by decide) d_Fr_count_66 ?_
      exact k_iret hx hb hr (rfl) hlk (()) (rfl) hP hD hS d_Fr_count_67
    · refine lv_iload_n hx hb d_Fr_count_0 rfl (lv_at hl 1 rfl) ?_
      refine lv_tableIn (tgt := 68) hx hb d_Fr_count_1 (by decide) (by decide) rfl (by decide) ?_
      refine lv_aload_n hx hb d_Fr_count_68 rfl (lv_at hl 0 rfl) ?_
      refine gf_Fr_18 (q0 := 0) S0 hK hP rfl rfl d_Fr_count_69 ?_
      refine gf_Fr_54 (q0 := 1) S0 hK hP rfl rfl d_Fr_count_72 ?_
      refine lv_iconst (v := nI 2) hx hb d_Fr_count_75 (by decide) ?_
      refine lz_iald (i := 2) hx hb hK.1 hP 3 1 rfl rfl (by omega) (by decide) d_Fr_count_76 ?_
      exact k_iret hx hb hr (rfl) hlk (()) (rfl) hP hD hS d_Fr_count_77
    · refine lv_iload_n hx hb d_Fr_count_0 rfl (lv_at hl 1 rfl) ?_
      refine lv_tableIn (tgt := 78) hx hb d_Fr_count_1 (by decide) (by decide) rfl (by decide) ?_
      refine lv_aload_n hx hb d_Fr_count_78 rfl (lv_at hl 0 rfl) ?_
      refine gf_Fr_22 (q0 := 0) S0 hK hP rfl rfl d_Fr_count_79 ?_
      exact k_iret hx hb hr (rfl) hlk (()) (rfl) hP hD hS d_Fr_count_82
    · refine lv_iload_n hx hb d_Fr_count_0 rfl (lv_at hl 1 rfl) ?_
      refine lv_tableIn (tgt := 83) hx hb d_Fr_count_1 (by decide) (by decide) rfl (by decide) ?_
      refine lv_aload_n hx hb d_Fr_count_83 rfl (lv_at hl 0 rfl) ?_
      refine gf_Fr_18 (q0 := 0) S0 hK hP rfl rfl d_Fr_count_84 ?_
      refine gf_Fr_48 (q0 := 1) S0 hK hP rfl rfl d_Fr_count_87 ?_
      refine va_alen (v := nI L) hx hb hK.1 hP 2 0 rfl rfl rfl d_Fr_count_90 ?_
      exact k_iret hx hb hr (rfl) hlk (()) (rfl) hP hD hS d_Fr_count_91
  · refine lv_iload_n hx hb d_Fr_count_0 rfl (lv_at hl 1 rfl) ?_
    refine lv_tableOut (tgt := 92) hx hb d_Fr_count_1 hout (by decide) ?_
    refine lv_iconst (v := (-1)) hx hb d_Fr_count_92 (by decide) ?_
    exact k_iret hx hb hr (rfl) hlk (()) ((cnR_out hne).symm) hP hD hS d_Fr_count_93
end
section
theorem updN (wv : Nat → Nat) (i v : Nat) : upd (fun k => nI (wv k)) i (nI v) = fun k => nI (va_up wv i v k) := by
  funext k
  unfold upd va_up
  by_cases h : k = i
  · rw [if_pos h, if_pos h]
  · rw [if_neg h, if_neg h]
theorem up_up (wv : Nat → Nat) (i a b : Nat) : va_up (va_up wv i a) i b = va_up wv i b := bx_uu wv i a b
theorem up_self (wv : Nat → Nat) (i a : Nat) : va_up wv i a i = a := va_up_self wv i a
theorem up_id (wv : Nat → Nat) (i : Nat) : va_up wv i (wv i) = wv := by
  funext k
  unfold va_up
  by_cases h : k = i
  · rw [if_pos h, h]
  · rw [if_neg h]
theorem bl_z {f g : Nat → Int32} {j : Nat} {v : Int32} (h : v = g j) : upd (bl f 0 j g) j v = bl f 0 (j + 1) g := by
  have e := bl_s f g 0 j
  rw [Nat.zero_add] at e
  rw [h]
  exact e
set_option maxHeartbeats 1000000 in
set_option maxRecDepth 100000 in
theorem lp_Mo_give {p : Program} {l : Launch} {e : Env} {s : State} {m : MethodId} {args : Array Value} {below : List Frame} {meth : Method} {c : Code} {Q : State → Prop} {D : va_G} {ca : Nat → ClassId} {A : Nat → Prop} {H0 : Heap} (mo mt my mg mw mf mr : Nat) (L fi n j : Nat) (wd_ : Int64) (tape : Nat → Int32) (h1 : n + j ≤ 1024) (h2 : j ≤ 8) (S0 : CallFix p m c b_Mo_give 5 s args gd_tbl "DownFramesModel") (hK : PW D ca s) (hA : ∀ q, H0.size ≤ q → A q) (kk : ∀  (H : Heap) (locs : List Loc) (ls : Array Slot), va_P D classes [(mo, .inr (3, [.int (nI 0), .int (nI L), .ref mt, .int (nI n), .ref my, .ref mg, .ref mw, .ref mf, .ref mr, .int (nI fi)])), (mt, .inl (ca 0, 1024, .inl (bl tape n j (gb wd_))))] H → va_D A [(mo, .inr (3, [.int (nI 0), .int (nI L), .ref mt, .int (nI n), .ref my, .ref mg, .ref mw, .ref mf, .ref mr, .int (nI fi)])), (mt, .inl (ca 0, 1024, .inl (bl tape n j (gb wd_))))] → va_S A H0 H locs → lv_has ls 5 [(0, .ref mo), (3, .int (nI j))] → W p l e ({ frames := 0, cells := 0, slots := 0, locals := 0 } : Room) s m args below meth c H locs 0 0 Q (F0 m 69 ls [])) :
    ∀ (nf : Nat) (k : Nat) (H : Heap) (locs : List Loc) (ls : Array Slot), j - k < nf → (k ≤ j) → va_P D classes [(mo, .inr (3, [.int (nI 0), .int (nI L), .ref mt, .int (nI n), .ref my, .ref mg, .ref mw, .ref mf, .ref mr, .int (nI fi)])), (mt, .inl (ca 0, 1024, .inl (bl tape n k (gb wd_))))] H → va_D A [(mo, .inr (3, [.int (nI 0), .int (nI L), .ref mt, .int (nI n), .ref my, .ref mg, .ref mw, .ref mf, .ref mr, .int (nI fi)])), (mt, .inl (ca 0, 1024, .inl (bl tape n k (gb wd_))))] → va_S A H0 H locs → lv_has ls 5 [(4, .int (nI k)), (0, .ref mo), (1, .long wd_), (3, .int (nI j))] → W p l e ({ frames := 0, cells := 0, slots := 0, locals := 0 } : Room) s m args below meth c H locs 0 0 Q (F0 m 33 ls []) := by
  have hx := S0.1
  have hb := S0.2.1
  intro nf
  induction nf with
  | zero =>
    intro k H locs ls hm
    exact absurd hm (Nat.not_lt_zero _)
  | succ nf ih =>
    intro k H locs ls hm hk hP hD hS hl
    refine lv_iload hx hb d_Mo_give_33 (lv_at hl 0 rfl) ?_
    refine lv_iload_n hx hb d_Mo_give_35 rfl (lv_at hl 3 rfl) ?_
    refine lz_icmp_ge (tgt := 69) hx hb (by omega) (by omega) d_Mo_give_36 (by decide) (fun h4 => ?_) (fun h4 => ?_)
    · have e9 : j = k := by omega
      subst e9
      exact kk H locs ls hP hD hS (lv_sub hl [1, 3] rfl)
    · refine lv_aload_n hx hb d_Mo_give_39 rfl (lv_at hl 1 rfl) ?_
      refine gf_Mo_7 (q0 := 0) S0 hK hP rfl rfl d_Mo_give_40 ?_
      refine lv_aload_n hx hb d_Mo_give_43 rfl (lv_at hl 1 rfl) ?_
      refine gf_Mo_37 (q0 := 0) S0 hK hP rfl rfl d_Mo_give_44 ?_
      refine lv_iload hx hb d_Mo_give_47 (lv_at hl 0 rfl) ?_
      refine lz_iadd hx hb d_Mo_give_49 ?_
      refine lv_lload_n hx hb d_Mo_give_50 rfl (lv_at hl 2 rfl) ?_
      refine lv_bipush (v := nI 56) hx hb d_Mo_give_51 (by decide) ?_
      refine lv_bipush (v := nI 8) hx hb d_Mo_give_53 (by decide) ?_
      refine lv_iload hx hb d_Mo_give_55 (lv_at hl 0 rfl) ?_
      refine lz_imul hx hb d_Mo_give_57 ?_
      refine lz_isub hx hb (by omega) d_Mo_give_58 ?_
      refine lv_lshr hx hb d_Mo_give_59 rfl ?_
      refine lv_l2i hx hb d_Mo_give_60 rfl ?_
      refine lz_i2b hx hb d_Mo_give_61 ?_
      refine lz_bast (i := n + k) hx hb hK.1 hP hD hS 1 0 rfl rfl (by omega) (by decide) d_Mo_give_62 (fun H locs hP hD hS => ?_)
      rw [bz_bz] at hP hD
      have hP : va_P D classes [(mo, .inr (3, [.int (nI 0), .int (nI L), .ref mt, .int (nI n), .ref my, .ref mg, .ref mw, .ref mf, .ref mr, .int (nI fi)])), (mt, .inl (ca 0, 1024, .inl (upd (bl tape n k (gb wd_)) (n + k) (bz ((wd_ >>> ((nI (56 - (8 * k))).toInt64 &&& 63)).toInt32)))))] H := hP
      have hD : va_D A [(mo, .inr (3, [.int (nI 0), .int (nI L), .ref mt, .int (nI n), .ref my, .ref mg, .ref mw, .ref mf, .ref mr, .int (nI fi)])), (mt, .inl (ca 0, 1024, .inl (upd (bl tape n k (gb wd_)) (n + k) (bz ((wd_ >>> ((nI (56 - (8 * k))).toInt64 &&& 63)).toInt32)))))] := hD
      have e9 : upd (bl tape n k (gb wd_)) (n + k) (bz ((wd_ >>> ((nI (56 - (8 * k))).toInt64 &&& 63)).toInt32)) = bl tape n (k + 1) (gb wd_) := bl_s tape (gb wd_) n k
      rw [e9] at hP hD
      clear e9
      have hP : va_P D classes [(mo, .inr (3, [.int (nI 0), .int (nI L), .ref mt, .int (nI n), .ref my, .ref mg, .ref mw, .ref mf, .ref mr, .int (nI fi)])), (mt, .inl (ca 0, 1024, .inl (bl tape n (k + 1) (gb wd_))))] H := hP
      have hD : va_D A [(mo, .inr (3, [.int (nI 0), .int (nI L), .ref mt, .int (nI n), .ref my, .ref mg, .ref mw, .ref mf, .ref mr, .int (nI fi)])), (mt, .inl (ca 0, 1024, .inl (bl tape n (k + 1) (gb wd_))))] := hD
      refine lv_iinc (v := nI (k + 1)) (lv' := [(4, .int (nI (k + 1))), (0, .ref mo), (1, .long wd_), (3, .int (nI j))]) hx hb d_Mo_give_63 hl (k := 0) rfl (nI_inc _) (by decide) rfl (fun ls hl => ?_)
      refine lv_goto (tgt := 33) hx hb d_Mo_give_66 (by decide) ?_
      exact ih (k + 1) H locs ls (by omega) (by omega) hP hD hS (lv_sub hl [0, 1, 2, 3] rfl)
set_option maxHeartbeats 1000000 in
set_option maxRecDepth 100000 in
/-- the model: give -/
theorem c_Mo_give (l : Launch) (D : va_G) (ca : Nat → ClassId) (sz : Nat) (mo mt my mg mw mf mr : Nat) (L fi n : Nat) (wd_ : Int64) (y : Int32) (tape : Nat → Int32) (h1 : n ≤ 1024) : MetI l y_Mo_give b_Mo_give 5 (some .boolean) ({ frames := 0, cells := 0, slots := 0, locals := 0 } : Room) D ca [.ref mo, .long wd_, .int y] [(mo, .inr (3, [.int (nI 0), .int (nI L), .ref mt, .int (nI n), .ref my, .ref mg, .ref mw, .ref mf, .ref mr, .int (nI fi)])), (mt, .inl (ca 0, 1024, .inl tape))] sz (fun (r : Int32) (u : (Nat → Int32) × Nat) => r = (if gv n y = 0 then nI 0 else nI 1) ∧ u = (bl tape n (gv n y) (gb wd_), n + gv n y)) (fun u => [(mo, .inr (3, [.int (nI 0), .int (nI L), .ref mt, .int (nI (u.2)), .ref my, .ref mg, .ref mw, .ref mf, .ref mr, .int (nI fi)])), (mt, .inl (ca 0, 1024, .inl u.1))]) := by
  refine MetI.of (by decide) (Nat.le_of_ble_eq_true rfl) ?_
  intro p e s m below meth c A ls S0 hr hlk hK hP hD hA hl
  have hx := S0.1
  have hb := S0.2.1
  have hS : va_S A s.heap s.heap [] := va_S.rf
  have hP : va_P D classes [(mo, .inr (3, [.int (nI 0), .int (nI L), .ref mt, .int (nI n), .ref my, .ref mg, .ref mw, .ref mf, .ref mr, .int (nI fi)])), (mt, .inl (ca 0, 1024, .inl tape))] s.heap := hP
  have hD : va_D A [(mo, .inr (3, [.int (nI 0), .int (nI L), .ref mt, .int (nI n), .ref my, .ref mg, .ref mw, .ref mf, .ref mr, .int (nI fi)])), (mt, .inl (ca 0, 1024, .inl tape))] := hD
  have hl : lv_has ls 5 [(0, .ref mo), (1, .long wd_), (3, .int y)] := hl
  refine lv_aload_n hx hb d_Mo_give_0 rfl (lv_at hl 0 rfl) ?_
  refine lv_iconst (v := nI 0) hx hb d_Mo_give_1 (by decide) ?_
  refine pf_Mo_34 (q0 := 0) S0 hK hP hD hS rfl rfl rfl (Nat.le_of_ble_eq_true rfl) d_Mo_give_2 (fun H locs hP hD hS => ?_)
  have hP : va_P D classes [(mo, .inr (3, [.int (nI 0), .int (nI L), .ref mt, .int (nI n), .ref my, .ref mg, .ref mw, .ref mf, .ref mr, .int (nI fi)])), (mt, .inl (ca 0, 1024, .inl tape))] H := hP
  have hD : va_D A [(mo, .inr (3, [.int (nI 0), .int (nI L), .ref mt, .int (nI n), .ref my, .ref mg, .ref mw, .ref mf, .ref mr, .int (nI fi)])), (mt, .inl (ca 0, 1024, .inl tape))] := hD
  rcases gv_cases n y with ⟨g1, g2⟩ | ⟨g1, g2, g3⟩ | ⟨j, g1, g2, rfl, g3⟩
  · refine lv_iload_n hx hb d_Mo_give_5 rfl (lv_at hl 2 rfl) ?_
    refine lv_iconst (v := nI 1) hx hb d_Mo_give_6 (by decide) ?_
    refine lv_icmp_lt (tgt := 28) hx hb d_Mo_give_7 (by decide) (fun h9 => ?_) (fun h9 => ?_)
    · refine lv_iconst (v := nI 0) hx hb d_Mo_give_28 (by decide) ?_
      exact k_iret hx hb hr (by decide) hlk ((tape, n)) (⟨by rw [if_pos g2], by rw [g2, bl_0]; rfl⟩) hP hD hS d_Mo_give_29
    · exact absurd g1 h9
  · refine lv_iload_n hx hb d_Mo_give_5 rfl (lv_at hl 2 rfl) ?_
    refine lv_iconst (v := nI 1) hx hb d_Mo_give_6 (by decide) ?_
    refine lv_icmp_lt (tgt := 28) hx hb d_Mo_give_7 (by decide) (fun h9 => ?_) (fun h9 => ?_)
    · exact absurd h9 g1
    · refine lv_iload_n hx hb d_Mo_give_10 rfl (lv_at hl 2 rfl) ?_
      refine lv_bipush (v := nI 8) hx hb d_Mo_give_11 (by decide) ?_
      refine lv_icmp_gt (tgt := 28) hx hb d_Mo_give_13 (by decide) (fun h9 => ?_) (fun h9 => ?_)
      · refine lv_iconst (v := nI 0) hx hb d_Mo_give_28 (by decide) ?_
        exact k_iret hx hb hr (by decide) hlk ((tape, n)) (⟨by rw [if_pos g3], by rw [g3, bl_0]; rfl⟩) hP hD hS d_Mo_give_29
      · exact absurd g2 h9
  · refine lv_iload_n hx hb d_Mo_give_5 rfl (lv_at hl 2 rfl) ?_
    refine lv_iconst (v := nI 1) hx hb d_Mo_give_6 (by decide) ?_
    refine lz_icmp_lt (tgt := 28) hx hb (by omega) (by omega) d_Mo_give_7 (by decide) (fun h9 => ?_) (fun h9 => ?_)
    · exfalso
      omega
    · refine lv_iload_n hx hb d_Mo_give_10 rfl (lv_at hl 2 rfl) ?_
      refine lv_bipush (v := nI 8) hx hb d_Mo_give_11 (by decide) ?_
      refine lz_icmp_gt (tgt := 28) hx hb (by omega) (by omega) d_Mo_give_13 (by decide) (fun h9 => ?_) (fun h9 => ?_)
      · exfalso
        omega
      · refine lv_aload_n hx hb d_Mo_give_16 rfl (lv_at hl 0 rfl) ?_
        refine gf_Mo_37 (q0 := 0) S0 hK hP rfl rfl d_Mo_give_17 ?_
        refine lv_sipush (v := nI 1024) hx hb d_Mo_give_20 (by decide) ?_
        refine lv_iload_n hx hb d_Mo_give_23 rfl (lv_at hl 2 rfl) ?_
        refine lz_isub hx hb (by omega) d_Mo_give_24 ?_
        refine lz_icmp_le (tgt := 30) hx hb (by omega) (by omega) d_Mo_give_25 (by decide) (fun h8 => ?_) (fun h8 => ?_)
        · rw [if_pos (by omega)] at g3
          refine lv_iconst (v := nI 0) hx hb d_Mo_give_30 (by decide) ?_
          refine lv_istore (lv' := [(4, .int (nI 0)), (0, .ref mo), (1, .long wd_), (3, .int (nI j))]) hx hb d_Mo_give_31 hl (by decide) rfl (fun ls hl => ?_)
          have e0 : tape = bl tape n 0 (gb wd_) := (bl_0 _ _ _).symm
          rw [e0] at hP hD
          refine lp_Mo_give mo mt my mg mw mf mr L fi n j wd_ tape (by omega) (by omega) S0 hK hA (fun H locs ls hP hD hS hl => ?_) (j + 1) 0 _ _ ls (by omega) (by omega) hP hD hS (lv_sub hl [0, 1, 2, 3] rfl)
          refine lv_aload_n hx hb d_Mo_give_69 rfl (lv_at hl 0 rfl) ?_
          refine lv_dup hx hb d_Mo_give_70 rfl ?_
          refine gf_Mo_37 (q0 := 0) S0 hK hP rfl rfl d_Mo_give_71 ?_
          refine lv_iload_n hx hb d_Mo_give_74 rfl (lv_at hl 1 rfl) ?_
          refine lz_iadd hx hb d_Mo_give_75 ?_
          refine pf_Mo_37 (q0 := 0) S0 hK hP hD hS rfl rfl rfl (Nat.le_of_ble_eq_true rfl) d_Mo_give_76 (fun H locs hP hD hS => ?_)
          have hP : va_P D classes [(mo, .inr (3, [.int (nI 0), .int (nI L), .ref mt, .int (nI (n + j)), .ref my, .ref mg, .ref mw, .ref mf, .ref mr, .int (nI fi)])), (mt, .inl (ca 0, 1024, .inl (bl tape n j (gb wd_))))] H := hP
          have hD : va_D A [(mo, .inr (3, [.int (nI 0), .int (nI L), .ref mt, .int (nI (n + j)), .ref my, .ref mg, .ref mw, .ref mf, .ref mr, .int (nI fi)])), (mt, .inl (ca 0, 1024, .inl (bl tape n j (gb wd_))))] := hD
          refine lv_iconst (v := nI 1) hx hb d_Mo_give_79 (by decide) ?_
          exact k_iret hx hb hr (by decide) hlk ((bl tape n j (gb wd_), n + j)) (⟨by rw [g3, if_neg (by omega)], by rw [g3]⟩) hP hD hS d_Mo_give_80
        · refine lv_iconst (v := nI 0) hx hb d_Mo_give_28 (by decide) ?_
          rw [if_neg (by omega)] at g3
          exact k_iret hx hb hr (by decide) hlk ((tape, n)) (⟨by rw [if_pos g3], by rw [g3, bl_0]; rfl⟩) hP hD hS d_Mo_give_29
set_option maxHeartbeats 1000000 in
set_option maxRecDepth 100000 in
/-- the model: wait -/
theorem c_Mo_wait (l : Launch) (D : va_G) (ca : Nat → ClassId) (sz : Nat) (mo mt my mg mw mf mr : Nat) (L n fi c_ w : Nat) (b z : Int32) (bs bg : Nat → Int32) (wv : Nat → Nat) (h1 : c_ < 2) (h2 : w < 4200) (hw : wv c_ = w) (hz : vp_nar .boolean z = z) : MetV l y_Mo_wait b_Mo_wait 4 ({ frames := 0, cells := 0, slots := 0, locals := 0 } : Room) D ca [.ref mo, .int (nI c_), .int b, .int z] [(mo, .inr (3, [.int (nI 0), .int (nI L), .ref mt, .int (nI n), .ref my, .ref mg, .ref mw, .ref mf, .ref mr, .int (nI fi)])), (my, .inl (ca 0, 8400, .inl bs)), (mg, .inl (ca 3, 8400, .inl bg)), (mw, .inl (ca 1, 2, .inl (fun k => nI (wv k))))] sz (fun _ : Unit => True) (fun _ => [(mo, .inr (3, [.int (nI 0), .int (nI L), .ref mt, .int (nI n), .ref my, .ref mg, .ref mw, .ref mf, .ref mr, .int (nI fi)])), (my, .inl (ca 0, 8400, .inl (upd bs (4200 * c_ + w) (bz b)))), (mg, .inl (ca 3, 8400, .inl (upd bg (4200 * c_ + w) z))), (mw, .inl (ca 1, 2, .inl (fun k => nI (va_up wv c_ (w + 1) k))))]) := by
  refine MetV.of (by decide) (Nat.le_of_ble_eq_true rfl) ?_
  intro p e s m below meth c A ls S0 hr hlk hK hP hD hA hl hnm
  have hx := S0.1
  have hb := S0.2.1
  have hS : va_S A s.heap s.heap [] := va_S.rf
  have hP : va_P D classes [(mo, .inr (3, [.int (nI 0), .int (nI L), .ref mt, .int (nI n), .ref my, .ref mg, .ref mw, .ref mf, .ref mr, .int (nI fi)])), (my, .inl (ca 0, 8400, .inl bs)), (mg, .inl (ca 3, 8400, .inl bg)), (mw, .inl (ca 1, 2, .inl (fun k => nI (wv k))))] s.heap := hP
  have hD : va_D A [(mo, .inr (3, [.int (nI 0), .int (nI L), .ref mt, .int (nI n), .ref my, .ref mg, .ref mw, .ref mf, .ref mr, .int (nI fi)])), (my, .inl (ca 0, 8400, .inl bs)), (mg, .inl (ca 3, 8400, .inl bg)), (mw, .inl (ca 1, 2, .inl (fun k => nI (wv k))))] := hD
  have hl : lv_has ls 4 [(0, .ref mo), (1, .int (nI c_)), (2, .int b), (3, .int z)] := hl
  have hlt : 4200 * c_ + w < 8400 := by omega
  refine lv_aload_n hx hb d_Mo_wait_0 rfl (lv_at hl 0 rfl) ?_
  refine gf_Mo_13 (q0 := 0) S0 hK hP rfl rfl d_Mo_wait_1 ?_
  refine lv_sipush (v := nI 4200) hx hb d_Mo_wait_4 (by decide) ?_
  refine lv_iload_n hx hb d_Mo_wait_7 rfl (lv_at hl 1 rfl) ?_
  refine lz_imul hx hb d_Mo_wait_8 ?_
  refine lv_aload_n hx hb d_Mo_wait_9 rfl (lv_at hl 0 rfl) ?_
  refine gf_Mo_20 (q0 := 0) S0 hK hP rfl rfl d_Mo_wait_10 ?_
  refine lv_iload_n hx hb d_Mo_wait_13 rfl (lv_at hl 1 rfl) ?_
  refine lz_iald (i := c_) hx hb hK.1 hP 3 1 rfl rfl (by omega) (by decide) d_Mo_wait_14 ?_
  refine lz_top (y := nI w) (by rw [hw]) ?_
  refine lz_iadd hx hb d_Mo_wait_15 ?_
  refine lv_iload_n hx hb d_Mo_wait_16 rfl (lv_at hl 2 rfl) ?_
  refine lz_i2b hx hb d_Mo_wait_17 ?_
  refine lz_bast (i := (4200 * c_) + w) hx hb hK.1 hP hD hS 1 0 rfl rfl (by omega) (by decide) d_Mo_wait_18 (fun H locs hP hD hS => ?_)
  rw [bz_bz] at hP hD
  have hP : va_P D classes [(mo, .inr (3, [.int (nI 0), .int (nI L), .ref mt, .int (nI n), .ref my, .ref mg, .ref mw, .ref mf, .ref mr, .int (nI fi)])), (my, .inl (ca 0, 8400, .inl (upd bs ((4200 * c_) + w) (bz b)))), (mg, .inl (ca 3, 8400, .inl bg)), (mw, .inl (ca 1, 2, .inl (fun k => nI (wv k))))] H := hP
  have hD : va_D A [(mo, .inr (3, [.int (nI 0), .int (nI L), .ref mt, .int (nI n), .ref my, .ref mg, .ref mw, .ref mf, .ref mr, .int (nI fi)])), (my, .inl (ca 0, 8400, .inl (upd bs ((4200 * c_) + w) (bz b)))), (mg, .inl (ca 3, 8400, .inl bg)), (mw, .inl (ca 1, 2, .inl (fun k => nI (wv k))))] := hD
  refine lv_aload_n hx hb d_Mo_wait_19 rfl (lv_at hl 0 rfl) ?_
  refine gf_Mo_16 (q0 := 0) S0 hK hP rfl rfl d_Mo_wait_20 ?_
  refine lv_sipush (v := nI 4200) hx hb d_Mo_wait_23 (by decide) ?_
  refine lv_iload_n hx hb d_Mo_wait_26 rfl (lv_at hl 1 rfl) ?_
  refine lz_imul hx hb d_Mo_wait_27 ?_
  refine lv_aload_n hx hb d_Mo_wait_28 rfl (lv_at hl 0 rfl) ?_
  refine gf_Mo_20 (q0 := 0) S0 hK hP rfl rfl d_Mo_wait_29 ?_
  refine lv_iload_n hx hb d_Mo_wait_32 rfl (lv_at hl 1 rfl) ?_
  refine lz_iald (i := c_) hx hb hK.1 hP 3 1 rfl rfl (by omega) (by decide) d_Mo_wait_33 ?_
  refine lz_top (y := nI w) (by rw [hw]) ?_
  refine lz_iadd hx hb d_Mo_wait_34 ?_
  refine lv_iload_n hx hb d_Mo_wait_35 rfl (lv_at hl 3 rfl) ?_
  refine lz_zast (i := (4200 * c_) + w) hx hb hK.1 hP hD hS 2 3 rfl rfl (by omega) (by decide) d_Mo_wait_36 (fun H locs hP hD hS => ?_)
  have hP : va_P D classes [(mo, .inr (3, [.int (nI 0), .int (nI L), .ref mt, .int (nI n), .ref my, .ref mg, .ref mw, .ref mf, .ref mr, .int (nI fi)])), (my, .inl (ca 0, 8400, .inl (upd bs ((4200 * c_) + w) (bz b)))), (mg, .inl (ca 3, 8400, .inl (upd bg ((4200 * c_) + w) (vp_nar .boolean z)))), (mw, .inl (ca 1, 2, .inl (fun k => nI (wv k))))] H := hP
  have hD : va_D A [(mo, .inr (3, [.int (nI 0), .int (nI L), .ref mt, .int (nI n), .ref my, .ref mg, .ref mw, .ref mf, .ref mr, .int (nI fi)])), (my, .inl (ca 0, 8400, .inl (upd bs ((4200 * c_) + w) (bz b)))), (mg, .inl (ca 3, 8400, .inl (upd bg ((4200 * c_) + w) (vp_nar .boolean z)))), (mw, .inl (ca 1, 2, .inl (fun k => nI (wv k))))] := hD
  have e9 : upd bg ((4200 * c_) + w) (vp_nar .boolean z) = upd bg (4200 * c_ + w) z := by rw [hz]
  rw [e9] at hP hD
  clear e9
  have hP : va_P D classes [(mo, .inr (3, [.int (nI 0), .int (nI L), .ref mt, .int (nI n), .ref my, .ref mg, .ref mw, .ref mf, .ref mr, .int (nI fi)])), (my, .inl (ca 0, 8400, .inl (upd bs ((4200 * c_) + w) (bz b)))), (mg, .inl (ca 3, 8400, .inl (upd bg (4200 * c_ + w) z))), (mw, .inl (ca 1, 2, .inl (fun k => nI (wv k))))] H := hP
  have hD : va_D A [(mo, .inr (3, [.int (nI 0), .int (nI L), .ref mt, .int (nI n), .ref my, .ref mg, .ref mw, .ref mf, .ref mr, .int (nI fi)])), (my, .inl (ca 0, 8400, .inl (upd bs ((4200 * c_) + w) (bz b)))), (mg, .inl (ca 3, 8400, .inl (upd bg (4200 * c_ + w) z))), (mw, .inl (ca 1, 2, .inl (fun k => nI (wv k))))] := hD
  refine lv_aload_n hx hb d_Mo_wait_37 rfl (lv_at hl 0 rfl) ?_
  refine gf_Mo_20 (q0 := 0) S0 hK hP rfl rfl d_Mo_wait_38 ?_
  refine lv_iload_n hx hb d_Mo_wait_41 rfl (lv_at hl 1 rfl) ?_
  refine lv_dup2_11 hx hb d_Mo_wait_42 rfl rfl ?_
  refine lz_iald (i := c_) hx hb hK.1 hP 3 1 rfl rfl (by omega) (by decide) d_Mo_wait_43 ?_
  refine lz_top (y := nI w) (by rw [hw]) ?_
  refine lv_iconst (v := nI 1) hx hb d_Mo_wait_44 (by decide) ?_
  refine lz_iadd hx hb d_Mo_wait_45 ?_
  refine lz_iast (i := c_) hx hb hK.1 hP hD hS 3 1 rfl rfl (by omega) (by decide) d_Mo_wait_46 (fun H locs hP hD hS => ?_)
  have hP : va_P D classes [(mo, .inr (3, [.int (nI 0), .int (nI L), .ref mt, .int (nI n), .ref my, .ref mg, .ref mw, .ref mf, .ref mr, .int (nI fi)])), (my, .inl (ca 0, 8400, .inl (upd bs ((4200 * c_) + w) (bz b)))), (mg, .inl (ca 3, 8400, .inl (upd bg (4200 * c_ + w) z))), (mw, .inl (ca 1, 2, .inl (upd (fun k => nI (wv k)) c_ (nI (w + 1)))))] H := hP
  have hD : va_D A [(mo, .inr (3, [.int (nI 0), .int (nI L), .ref mt, .int (nI n), .ref my, .ref mg, .ref mw, .ref mf, .ref mr, .int (nI fi)])), (my, .inl (ca 0, 8400, .inl (upd bs ((4200 * c_) + w) (bz b)))), (mg, .inl (ca 3, 8400, .inl (upd bg (4200 * c_ + w) z))), (mw, .inl (ca 1, 2, .inl (upd (fun k => nI (wv k)) c_ (nI (w + 1)))))] := hD
  have e9 : upd (fun k => nI (wv k)) c_ (nI (w + 1)) = fun k => nI (va_up wv c_ (w + 1) k) := updN wv c_ (w + 1)
  rw [e9] at hP hD
  clear e9
  have hP : va_P D classes [(mo, .inr (3, [.int (nI 0), .int (nI L), .ref mt, .int (nI n), .ref my, .ref mg, .ref mw, .ref mf, .ref mr, .int (nI fi)])), (my, .inl (ca 0, 8400, .inl (upd bs ((4200 * c_) + w) (bz b)))), (mg, .inl (ca 3, 8400, .inl (upd bg (4200 * c_ + w) z))), (mw, .inl (ca 1, 2, .inl (fun k => nI (va_up wv c_ (w + 1) k))))] H := hP
  have hD : va_D A [(mo, .inr (3, [.int (nI 0), .int (nI L), .ref mt, .int (nI n), .ref my, .ref mg, .ref mw, .ref mf, .ref mr, .int (nI fi)])), (my, .inl (ca 0, 8400, .inl (upd bs ((4200 * c_) + w) (bz b)))), (mg, .inl (ca 3, 8400, .inl (upd bg (4200 * c_ + w) z))), (mw, .inl (ca 1, 2, .inl (fun k => nI (va_up wv c_ (w + 1) k))))] := hD
  exact k_vret hx hb hr hlk (()) (trivial) hP hD hS d_Mo_wait_47
theorem fl_nar (k : Nat) : vp_nar .boolean (fl k) = fl k := by
  unfold fl
  split
  · exact vp_nar_z1
  · exact vp_nar_z0
set_option maxHeartbeats 1000000 in
set_option maxRecDepth 100000 in
theorem lp_Mo_send {p : Program} {l : Launch} {e : Env} {s : State} {m : MethodId} {args : Array Value} {below : List Frame} {meth : Method} {c : Code} {Q : State → Prop} {D : va_G} {ca : Nat → ClassId} {A : Nat → Prop} {H0 : Heap} (mo mt my mg mw mf mr : Nat) (L fi c_ w N : Nat) (tape bs bg : Nat → Int32) (wv : Nat → Nat) (h1 : c_ < 2) (h2 : w + N ≤ 4096) (h3 : N ≤ 1024) (S0 : CallFix p m c b_Mo_send 5 s args gd_tbl "DownFramesModel") (hK : PW D ca s) (hA : ∀ q, H0.size ≤ q → A q) (kk : ∀  (H : Heap) (locs : List Loc) (ls : Array Slot), va_P D classes [(mo, .inr (3, [.int (nI 0), .int (nI L), .ref mt, .int (nI 0), .ref my, .ref mg, .ref mw, .ref mf, .ref mr, .int (nI fi)])), (mt, .inl (ca 0, 1024, .inl tape)), (my, .inl (ca 0, 8400, .inl (bl bs (4200 * c_ + w) N (fun k => bz (tape k))))), (mg, .inl (ca 3, 8400, .inl (bl bg (4200 * c_ + w) N fl))), (mw, .inl (ca 1, 2, .inl (fun k => nI (va_up wv c_ (w + N) k))))] H → va_D A [(mo, .inr (3, [.int (nI 0), .int (nI L), .ref mt, .int (nI 0), .ref my, .ref mg, .ref mw, .ref mf, .ref mr, .int (nI fi)])), (mt, .inl (ca 0, 1024, .inl tape)), (my, .inl (ca 0, 8400, .inl (bl bs (4200 * c_ + w) N (fun k => bz (tape k))))), (mg, .inl (ca 3, 8400, .inl (bl bg (4200 * c_ + w) N fl))), (mw, .inl (ca 1, 2, .inl (fun k => nI (va_up wv c_ (w + N) k))))] → va_S A H0 H locs → lv_has ls 5 [(0, .ref mo), (1, .int (nI c_))] → W p l e ({ frames := 1, cells := 0, slots := 0, locals := 23 } : Room) s m args below meth c H locs 0 0 Q (F0 m 125 ls [])) :
    ∀ (nf : Nat) (j : Nat) (H : Heap) (locs : List Loc) (ls : Array Slot), N - j < nf → (j ≤ N) → va_P D classes [(mo, .inr (3, [.int (nI 0), .int (nI L), .ref mt, .int (nI 0), .ref my, .ref mg, .ref mw, .ref mf, .ref mr, .int (nI fi)])), (mt, .inl (ca 0, 1024, .inl tape)), (my, .inl (ca 0, 8400, .inl (bl bs (4200 * c_ + w) j (fun k => bz (tape k))))), (mg, .inl (ca 3, 8400, .inl (bl bg (4200 * c_ + w) j fl))), (mw, .inl (ca 1, 2, .inl (fun k => nI (va_up wv c_ (w + j) k))))] H → va_D A [(mo, .inr (3, [.int (nI 0), .int (nI L), .ref mt, .int (nI 0), .ref my, .ref mg, .ref mw, .ref mf, .ref mr, .int (nI fi)])), (mt, .inl (ca 0, 1024, .inl tape)), (my, .inl (ca 0, 8400, .inl (bl bs (4200 * c_ + w) j (fun k => bz (tape k))))), (mg, .inl (ca 3, 8400, .inl (bl bg (4200 * c_ + w) j fl))), (mw, .inl (ca 1, 2, .inl (fun k => nI (va_up wv c_ (w + j) k))))] → va_S A H0 H locs → lv_has ls 5 [(4, .int (nI j)), (0, .ref mo), (1, .int (nI c_)), (2, .int (nI N))] → W p l e ({ frames := 1, cells := 0, slots := 0, locals := 23 } : Room) s m args below meth c H locs 0 0 Q (F0 m 91 ls []) := by
  have hx := S0.1
  have hb := S0.2.1
  intro nf
  induction nf with
  | zero =>
    intro j H locs ls hm
    exact absurd hm (Nat.not_lt_zero _)
  | succ nf ih =>
    intro j H locs ls hm hj hP hD hS hl
    refine lv_iload hx hb d_Mo_send_91 (lv_at hl 0 rfl) ?_
    refine lv_iload_n hx hb d_Mo_send_93 rfl (lv_at hl 3 rfl) ?_
    refine lz_icmp_ge (tgt := 125) hx hb (by omega) (by omega) d_Mo_send_94 (by decide) (fun h4 => ?_) (fun h4 => ?_)
    · have e9 : N = j := by omega
      subst e9
      exact kk H locs ls hP hD hS (lv_sub hl [1, 2] rfl)
    · refine lv_aload_n hx hb d_Mo_send_97 rfl (lv_at hl 1 rfl) ?_
      refine lv_iload_n hx hb d_Mo_send_98 rfl (lv_at hl 2 rfl) ?_
      refine lv_aload_n hx hb d_Mo_send_99 rfl (lv_at hl 1 rfl) ?_
      refine gf_Mo_7 (q0 := 0) S0 hK hP rfl rfl d_Mo_send_100 ?_
      refine lv_iload hx hb d_Mo_send_103 (lv_at hl 0 rfl) ?_
      refine lz_bald (i := j) hx hb hK.1 hP 1 0 rfl rfl (by omega) (by decide) d_Mo_send_105 ?_
      refine lv_iload hx hb d_Mo_send_106 (lv_at hl 0 rfl) ?_
      refine lz_cut (g := F0 m 116 ls [.int (fl j), .int (tape j), .int (nI c_), .ref mo]) ?_ (fun tail => ?_)
      · refine k_Vv (n := 3) (As := [.int (nI c_), .int (tape j), .int (fl j)]) (rest := []) (wc := [(mo, .inr (3, [.int (nI 0), .int (nI L), .ref mt, .int (nI 0), .ref my, .ref mg, .ref mw, .ref mf, .ref mr, .int (nI fi)])), (my, .inl (ca 0, 8400, .inl (bl bs (4200 * c_ + w) j (fun k => bz (tape k))))), (mg, .inl (ca 3, 8400, .inl (bl bg (4200 * c_ + w) j fl))), (mw, .inl (ca 1, 2, .inl (fun k => nI (va_up wv c_ (w + j) k))))]) (wr := [(mt, .inl (ca 0, 1024, .inl tape))]) (ci := 3) (q0 := 0) S0 rfl q_190 q_192 q_p6 q_4 rfl rfl q_193 (by decide +kernel) hK hP hD hS hA (c_Mo_wait l D ca H.size mo mt my mg mw mf mr L 0 fi c_ (w + j) (tape j) (fl j) (bl bs (4200 * c_ + w) j (fun k => bz (tape k))) (bl bg (4200 * c_ + w) j fl) (va_up wv c_ (w + j)) h1 (by omega) (up_self _ _ _) (fl_nar j)) [0, 2, 3, 4] [1] rfl rfl (by decide) (by decide) (by decide) ⟨Nat.le_of_ble_eq_true rfl, Nat.le_of_ble_eq_true rfl⟩ rfl hl.1 rfl (Nat.le_of_ble_eq_true rfl) ⟨Nat.le_of_ble_eq_true rfl, Nat.le_of_ble_eq_true rfl⟩ d_Mo_send_116 (fun u H locs hw hP hD hS => ?_)
        refine W.cs (cells' := 0) (slots' := 0) rfl rfl ?_
        have hP : va_P D classes [(mt, .inl (ca 0, 1024, .inl tape)), (mo, .inr (3, [.int (nI 0), .int (nI L), .ref mt, .int (nI 0), .ref my, .ref mg, .ref mw, .ref mf, .ref mr, .int (nI fi)])), (my, .inl (ca 0, 8400, .inl (upd (bl bs (4200 * c_ + w) j (fun k => bz (tape k))) (4200 * c_ + (w + j)) (bz (tape j))))), (mg, .inl (ca 3, 8400, .inl (upd (bl bg (4200 * c_ + w) j fl) (4200 * c_ + (w + j)) (fl j)))), (mw, .inl (ca 1, 2, .inl (fun k => nI (va_up (va_up wv c_ (w + j)) c_ (w + j + 1) k))))] H := hP
        have hD : va_D A [(mt, .inl (ca 0, 1024, .inl tape)), (mo, .inr (3, [.int (nI 0), .int (nI L), .ref mt, .int (nI 0), .ref my, .ref mg, .ref mw, .ref mf, .ref mr, .int (nI fi)])), (my, .inl (ca 0, 8400, .inl (upd (bl bs (4200 * c_ + w) j (fun k => bz (tape k))) (4200 * c_ + (w + j)) (bz (tape j))))), (mg, .inl (ca 3, 8400, .inl (upd (bl bg (4200 * c_ + w) j fl) (4200 * c_ + (w + j)) (fl j)))), (mw, .inl (ca 1, 2, .inl (fun k => nI (va_up (va_up wv c_ (w + j)) c_ (w + j + 1) k))))] := hD
        have e5 : upd (bl bs (4200 * c_ + w) j (fun k => bz (tape k))) (4200 * c_ + (w + j)) (bz (tape j)) = bl bs (4200 * c_ + w) (j + 1) (fun k => bz (tape k)) := by rw [← Nat.add_assoc (4200 * c_) w, show bz (tape j) = (fun k => bz (tape k)) j from rfl]; exact bl_s _ _ _ _
        have e6 : upd (bl bg (4200 * c_ + w) j fl) (4200 * c_ + (w + j)) (fl j) = bl bg (4200 * c_ + w) (j + 1) fl := by rw [← Nat.add_assoc (4200 * c_) w, show fl j = fl j from rfl]; exact bl_s _ _ _ _
        have e7 : va_up (va_up wv c_ (w + j)) c_ (w + j + 1) = va_up wv c_ (w + (j + 1)) := by rw [up_up, Nat.add_assoc w]
        rw [e5, e6, e7] at hP hD
        clear e5 e6 e7
        have hP : va_P D classes [(mt, .inl (ca 0, 1024, .inl tape)), (mo, .inr (3, [.int (nI 0), .int (nI L), .ref mt, .int (nI 0), .ref my, .ref mg, .ref mw, .ref mf, .ref mr, .int (nI fi)])), (my, .inl (ca 0, 8400, .inl (bl bs (4200 * c_ + w) (j + 1) (fun k => bz (tape k))))), (mg, .inl (ca 3, 8400, .inl (bl bg (4200 * c_ + w) (j + 1) fl))), (mw, .inl (ca 1, 2, .inl (fun k => nI (va_up wv c_ (w + (j + 1)) k))))] H := hP
        have hD : va_D A [(mt, .inl (ca 0, 1024, .inl tape)), (mo, .inr (3, [.int (nI 0), .int (nI L), .ref mt, .int (nI 0), .ref my, .ref mg, .ref mw, .ref mf, .ref mr, .int (nI fi)])), (my, .inl (ca 0, 8400, .inl (bl bs (4200 * c_ + w) (j + 1) (fun k => bz (tape k))))), (mg, .inl (ca 3, 8400, .inl (bl bg (4200 * c_ + w) (j + 1) fl))), (mw, .inl (ca 1, 2, .inl (fun k => nI (va_up wv c_ (w + (j + 1)) k))))] := hD
        have hP : va_P D classes [(mo, .inr (3, [.int (nI 0), .int (nI L), .ref mt, .int (nI 0), .ref my, .ref mg, .ref mw, .ref mf, .ref mr, .int (nI fi)])), (mt, .inl (ca 0, 1024, .inl tape)), (my, .inl (ca 0, 8400, .inl (bl bs (4200 * c_ + w) (j + 1) (fun k => bz (tape k))))), (mg, .inl (ca 3, 8400, .inl (bl bg (4200 * c_ + w) (j + 1) fl))), (mw, .inl (ca 1, 2, .inl (fun k => nI (va_up wv c_ (w + (j + 1)) k))))] H := hP.sub [1, 0, 2, 3, 4] rfl
        have hD : va_D A [(mo, .inr (3, [.int (nI 0), .int (nI L), .ref mt, .int (nI 0), .ref my, .ref mg, .ref mw, .ref mf, .ref mr, .int (nI fi)])), (mt, .inl (ca 0, 1024, .inl tape)), (my, .inl (ca 0, 8400, .inl (bl bs (4200 * c_ + w) (j + 1) (fun k => bz (tape k))))), (mg, .inl (ca 3, 8400, .inl (bl bg (4200 * c_ + w) (j + 1) fl))), (mw, .inl (ca 1, 2, .inl (fun k => nI (va_up wv c_ (w + (j + 1)) k))))] := hD.sub [1, 0, 2, 3, 4] (by decide) rfl
        refine lv_iinc (v := nI (j + 1)) (lv' := [(4, .int (nI (j + 1))), (0, .ref mo), (1, .int (nI c_)), (2, .int (nI N))]) hx hb d_Mo_send_119 hl (k := 0) rfl (nI_inc _) (by decide) rfl (fun ls hl => ?_)
        refine lv_goto (tgt := 91) hx hb d_Mo_send_122 (by decide) ?_
        exact ih (j + 1) H locs ls (by omega) (by omega) hP hD hS (lv_sub hl [0, 1, 2, 3] rfl)
      · refine lz_if_ne (tgt := 115) hx hb (by omega) d_Mo_send_108 (by decide) (fun h5 => ?_) (fun h5 => ?_)
        · refine lv_iconst (v := nI 0) hx hb d_Mo_send_115 (by decide) ?_
          refine lz_top (y := fl j) (by rw [show fl j = nI 0 from if_neg (by omega)]) ?_
          exact tail
        · refine lv_iconst (v := nI 1) hx hb d_Mo_send_111 (by decide) ?_
          refine lv_goto (tgt := 116) hx hb d_Mo_send_112 (by decide) ?_
          refine lz_top (y := fl j) (by rw [show fl j = nI 1 from if_pos h5]) ?_
          exact tail
def msR (tape : Nat → Int32) (n : Nat) (y : Int32) (bs bg : Nat → Int32) (wv : Nat → Nat) (r : Int32) (u : (Nat → Int32) × (Nat → Int32) × (Nat → Nat)) : Prop :=
  (∃ c_, c_ < 2 ∧ (y = nI c_ ∧ isP tape n ∧ wv c_ + n ≤ 4096) ∧ r = nI (wv c_ + n) ∧ u = (bl bs (4200 * c_ + wv c_) n (fun k => bz (tape k)), bl bg (4200 * c_ + wv c_) n fl, va_up wv c_ (wv c_ + n)))
  ∨ ((¬ (y = nI 0 ∧ isP tape n ∧ wv 0 + n ≤ 4096) ∧ ¬ (y = nI 1 ∧ isP tape n ∧ wv 1 + n ≤ 4096)) ∧ r = -1 ∧ u = (bs, bg, wv))
set_option maxHeartbeats 1000000 in
set_option maxRecDepth 100000 in
/-- the model: send -/
theorem c_Mo_send (l : Launch) (D : va_G) (ca : Nat → ClassId) (sz : Nat) (mo mt my mg mw mf mr : Nat) (L fi n : Nat) (y : Int32) (tape bs bg : Nat → Int32) (wv : Nat → Nat) (h1 : n ≤ 1024) (hwv : ∀ i, i < 2 → wv i ≤ 4096) : MetI l y_Mo_send b_Mo_send 5 (some .int) ({ frames := 1, cells := 0, slots := 0, locals := 23 } : Room) D ca [.ref mo, .int y] [(mo, .inr (3, [.int (nI 0), .int (nI L), .ref mt, .int (nI n), .ref my, .ref mg, .ref mw, .ref mf, .ref mr, .int (nI fi)])), (mt, .inl (ca 0, 1024, .inl tape)), (my, .inl (ca 0, 8400, .inl bs)), (mg, .inl (ca 3, 8400, .inl bg)), (mw, .inl (ca 1, 2, .inl (fun k => nI (wv k))))] sz (fun (r : Int32) (u : (Nat → Int32) × (Nat → Int32) × (Nat → Nat)) => msR tape n y bs bg wv r u) (fun u => [(mo, .inr (3, [.int (nI 0), .int (nI L), .ref mt, .int (nI 0), .ref my, .ref mg, .ref mw, .ref mf, .ref mr, .int (nI fi)])), (mt, .inl (ca 0, 1024, .inl tape)), (my, .inl (ca 0, 8400, .inl u.1)), (mg, .inl (ca 3, 8400, .inl u.2.1)), (mw, .inl (ca 1, 2, .inl (fun k => nI (u.2.2 k))))]) := by
  refine MetI.of (by decide) (Nat.le_of_ble_eq_true rfl) ?_
  intro p e s m below meth c A ls S0 hr hlk hK hP hD hA hl
  have hx := S0.1
  have hb := S0.2.1
  have hS : va_S A s.heap s.heap [] := va_S.rf
  have hP : va_P D classes [(mo, .inr (3, [.int (nI 0), .int (nI L), .ref mt, .int (nI n), .ref my, .ref mg, .ref mw, .ref mf, .ref mr, .int (nI fi)])), (mt, .inl (ca 0, 1024, .inl tape)), (my, .inl (ca 0, 8400, .inl bs)), (mg, .inl (ca 3, 8400, .inl bg)), (mw, .inl (ca 1, 2, .inl (fun k => nI (wv k))))] s.heap := hP
  have hD : va_D A [(mo, .inr (3, [.int (nI 0), .int (nI L), .ref mt, .int (nI n), .ref my, .ref mg, .ref mw, .ref mf, .ref mr, .int (nI fi)])), (mt, .inl (ca 0, 1024, .inl tape)), (my, .inl (ca 0, 8400, .inl bs)), (mg, .inl (ca 3, 8400, .inl bg)), (mw, .inl (ca 1, 2, .inl (fun k => nI (wv k))))] := hD
  have hl : lv_has ls 5 [(0, .ref mo), (1, .int y)] := hl
  have hu4 := ub_lt (tape 4)
  have hu5 := ub_lt (tape 5)
  have hq0 : qlen tape 0 = 7 + (ub (tape 4) * 256 + ub (tape 5)) := rfl
  obtain ⟨pz, hpz⟩ : ∃ z : Nat, (isP tape n ∧ z = 1) ∨ (¬ isP tape n ∧ z = 0) := by
    by_cases h : isP tape n
    · exact ⟨1, Or.inl ⟨h, rfl⟩⟩
    · exact ⟨0, Or.inr ⟨h, rfl⟩⟩
  refine lv_aload_n hx hb d_Mo_send_0 rfl (lv_at hl 0 rfl) ?_
  refine lv_iconst (v := nI 0) hx hb d_Mo_send_1 (by decide) ?_
  refine pf_Mo_34 (q0 := 0) S0 hK hP hD hS rfl rfl rfl (Nat.le_of_ble_eq_true rfl) d_Mo_send_2 (fun H locs hP hD hS => ?_)
  have hP : va_P D classes [(mo, .inr (3, [.int (nI 0), .int (nI L), .ref mt, .int (nI n), .ref my, .ref mg, .ref mw, .ref mf, .ref mr, .int (nI fi)])), (mt, .inl (ca 0, 1024, .inl tape)), (my, .inl (ca 0, 8400, .inl bs)), (mg, .inl (ca 3, 8400, .inl bg)), (mw, .inl (ca 1, 2, .inl (fun k => nI (wv k))))] H := hP
  have hD : va_D A [(mo, .inr (3, [.int (nI 0), .int (nI L), .ref mt, .int (nI n), .ref my, .ref mg, .ref mw, .ref mf, .ref mr, .int (nI fi)])), (mt, .inl (ca 0, 1024, .inl tape)), (my, .inl (ca 0, 8400, .inl bs)), (mg, .inl (ca 3, 8400, .inl bg)), (mw, .inl (ca 1, 2, .inl (fun k => nI (wv k))))] := hD
  refine lv_aload_n hx hb d_Mo_send_5 rfl (lv_at hl 0 rfl) ?_
  refine gf_Mo_37 (q0 := 0) S0 hK hP rfl rfl d_Mo_send_6 ?_
  refine lv_istore_n (lv' := [(2, .int (nI n)), (0, .ref mo), (1, .int y)]) hx hb d_Mo_send_9 rfl hl (by decide) rfl (fun ls hl => ?_)
  refine lv_aload_n hx hb d_Mo_send_10 rfl (lv_at hl 1 rfl) ?_
  refine lv_iconst (v := nI 0) hx hb d_Mo_send_11 (by decide) ?_
  refine pf_Mo_37 (q0 := 0) S0 hK hP hD hS rfl rfl rfl (Nat.le_of_ble_eq_true rfl) d_Mo_send_12 (fun H locs hP hD hS => ?_)
  have hP : va_P D classes [(mo, .inr (3, [.int (nI 0), .int (nI L), .ref mt, .int (nI 0), .ref my, .ref mg, .ref mw, .ref mf, .ref mr, .int (nI fi)])), (mt, .inl (ca 0, 1024, .inl tape)), (my, .inl (ca 0, 8400, .inl bs)), (mg, .inl (ca 3, 8400, .inl bg)), (mw, .inl (ca 1, 2, .inl (fun k => nI (wv k))))] H := hP
  have hD : va_D A [(mo, .inr (3, [.int (nI 0), .int (nI L), .ref mt, .int (nI 0), .ref my, .ref mg, .ref mw, .ref mf, .ref mr, .int (nI fi)])), (mt, .inl (ca 0, 1024, .inl tape)), (my, .inl (ca 0, 8400, .inl bs)), (mg, .inl (ca 3, 8400, .inl bg)), (mw, .inl (ca 1, 2, .inl (fun k => nI (wv k))))] := hD
  refine lz_cut (g := F0 m 58 ls [.int (nI pz)]) ?_ (fun tail => ?_)
  · refine lv_istore_n (lv' := [(3, .int (nI pz)), (2, .int (nI n)), (0, .ref mo), (1, .int y)]) hx hb d_Mo_send_58 rfl hl (by decide) rfl (fun ls hl => ?_)
    refine lv_iload_n hx hb d_Mo_send_59 rfl (lv_at hl 3 rfl) ?_
    rcases c_cases y with ⟨g1, g2, g3⟩ | ⟨g1, g4, g2, g3⟩ | hyc
    · refine lv_if_lt (tgt := 86) hx hb d_Mo_send_60 (by decide) (fun h9 => ?_) (fun h9 => ?_)
      · refine lv_iconst (v := (-1)) hx hb d_Mo_send_86 (by decide) ?_
        exact k_iret hx hb hr (rfl) hlk ((bs, bg, wv)) (Or.inr ⟨⟨fun h => g2 h.1, fun h => g3 h.1⟩, rfl, rfl⟩) hP hD hS d_Mo_send_87
      · exact absurd g1 h9
    · refine lv_if_lt (tgt := 86) hx hb d_Mo_send_60 (by decide) (fun h9 => ?_) (fun h9 => ?_)
      · exact absurd h9 g1
      · refine lv_iload_n hx hb d_Mo_send_63 rfl (lv_at hl 3 rfl) ?_
        refine lv_iconst (v := nI 1) hx hb d_Mo_send_64 (by decide) ?_
        refine lv_icmp_gt (tgt := 86) hx hb d_Mo_send_65 (by decide) (fun h8 => ?_) (fun h8 => ?_)
        · refine lv_iconst (v := (-1)) hx hb d_Mo_send_86 (by decide) ?_
          exact k_iret hx hb hr (rfl) hlk ((bs, bg, wv)) (Or.inr ⟨⟨fun h => g2 h.1, fun h => g3 h.1⟩, rfl, rfl⟩) hP hD hS d_Mo_send_87
        · have e1 : ¬ nI 1 < y → False := fun h => by
            have e2 := Int32.le_iff_toInt_le.mp g4
            have e3 := Int.not_lt.mp (fun q => h (Int32.lt_iff_toInt_lt.mpr q))
            have c1 : (nI 1).toInt = 1 := by decide +kernel
            have c2 : (nI 2).toInt = 2 := by decide +kernel
            omega
          exact (e1 h8).elim
    · obtain ⟨c_, hc2, rfl⟩ : ∃ c_, c_ < 2 ∧ y = nI c_ := by
        rcases hyc with e | e
        · exact ⟨0, by decide, e⟩
        · exact ⟨1, by decide, e⟩
      have hcw : wv c_ ≤ 4096 := hwv c_ hc2
      have hno : ∀ P : Prop, ¬ (isP tape n ∧ wv c_ + n ≤ 4096) → (¬ (nI c_ = nI 0 ∧ isP tape n ∧ wv 0 + n ≤ 4096) ∧ ¬ (nI c_ = nI 1 ∧ isP tape n ∧ wv 1 + n ≤ 4096)) := by
        intro _ hp
        refine ⟨fun h => hp ?_, fun h => hp ?_⟩
        · have e := nI_inj (by omega) (by decide) h.1; rw [e]; exact h.2
        · have e := nI_inj (by omega) (by decide) h.1; rw [e]; exact h.2
      refine lv_if_lt (tgt := 86) hx hb d_Mo_send_60 (by decide) (fun h9 => ?_) (fun h9 => ?_)
      · exact absurd h9 (nI_pos (by omega))
      · refine lv_iload_n hx hb d_Mo_send_63 rfl (lv_at hl 3 rfl) ?_
        refine lv_iconst (v := nI 1) hx hb d_Mo_send_64 (by decide) ?_
        refine lz_icmp_gt (tgt := 86) hx hb (by omega) (by omega) d_Mo_send_65 (by decide) (fun h8 => ?_) (fun h8 => ?_)
        · exfalso
          omega
        · refine lv_iload_n hx hb d_Mo_send_68 rfl (lv_at hl 0 rfl) ?_
          have hpl : pz < 2 ^ 31 := by rcases hpz with ⟨_, e⟩ | ⟨_, e⟩ <;> omega
          refine lz_if_eq (tgt := 86) hx hb (by omega) d_Mo_send_69 (by decide) (fun h7 => ?_) (fun h7 => ?_)
          · refine lv_iconst (v := (-1)) hx hb d_Mo_send_86 (by decide) ?_
            exact k_iret hx hb hr (rfl) hlk ((bs, bg, wv)) (Or.inr ⟨hno True (fun h => by rcases hpz with ⟨_, e⟩ | ⟨h2, e⟩; omega; exact h2 h.1), rfl, rfl⟩) hP hD hS d_Mo_send_87
          · have hp : isP tape n := by rcases hpz with ⟨h, e⟩ | ⟨h2, e⟩; exact h; omega
            refine lv_aload_n hx hb d_Mo_send_72 rfl (lv_at hl 2 rfl) ?_
            refine gf_Mo_20 (q0 := 0) S0 hK hP rfl rfl d_Mo_send_73 ?_
            refine lv_iload_n hx hb d_Mo_send_76 rfl (lv_at hl 3 rfl) ?_
            refine lz_iald (i := c_) hx hb hK.1 hP 4 1 rfl rfl (by omega) (by decide) d_Mo_send_77 ?_
            refine lv_iload_n hx hb d_Mo_send_78 rfl (lv_at hl 1 rfl) ?_
            refine lz_iadd hx hb d_Mo_send_79 ?_
            refine lv_sipush (v := nI 4096) hx hb d_Mo_send_80 (by decide) ?_
            refine lz_icmp_le (tgt := 88) hx hb (by omega) (by omega) d_Mo_send_83 (by decide) (fun h6 => ?_) (fun h6 => ?_)
            · refine lv_iconst (v := nI 0) hx hb d_Mo_send_88 (by decide) ?_
              refine lv_istore (lv' := [(4, .int (nI 0)), (3, .int (nI pz)), (2, .int (nI n)), (0, .ref mo), (1, .int (nI c_))]) hx hb d_Mo_send_89 hl (by decide) rfl (fun ls hl => ?_)
              have e0 : bs = bl bs (4200 * c_ + wv c_) 0 (fun k => bz (tape k)) := (bl_0 _ _ _).symm
              have e1 : bg = bl bg (4200 * c_ + wv c_) 0 fl := (bl_0 _ _ _).symm
              have e2 : wv = va_up wv c_ (wv c_ + 0) := (up_id _ _).symm
              have hP : va_P D classes [(mo, .inr (3, [.int (nI 0), .int (nI L), .ref mt, .int (nI 0), .ref my, .ref mg, .ref mw, .ref mf, .ref mr, .int (nI fi)])), (mt, .inl (ca 0, 1024, .inl tape)), (my, .inl (ca 0, 8400, .inl (bl bs (4200 * c_ + wv c_) 0 (fun k => bz (tape k))))), (mg, .inl (ca 3, 8400, .inl (bl bg (4200 * c_ + wv c_) 0 fl))), (mw, .inl (ca 1, 2, .inl (fun k => nI (va_up wv c_ (wv c_ + 0) k))))] H := by rw [← e0, ← e1, ← e2]; exact hP
              have hD : va_D A [(mo, .inr (3, [.int (nI 0), .int (nI L), .ref mt, .int (nI 0), .ref my, .ref mg, .ref mw, .ref mf, .ref mr, .int (nI fi)])), (mt, .inl (ca 0, 1024, .inl tape)), (my, .inl (ca 0, 8400, .inl (bl bs (4200 * c_ + wv c_) 0 (fun k => bz (tape k))))), (mg, .inl (ca 3, 8400, .inl (bl bg (4200 * c_ + wv c_) 0 fl))), (mw, .inl (ca 1, 2, .inl (fun k => nI (va_up wv c_ (wv c_ + 0) k))))] := by rw [← e0, ← e1, ← e2]; exact hD
              refine lp_Mo_send mo mt my mg mw mf mr L fi c_ (wv c_) n tape bs bg wv hc2 h6 h1 S0 hK hA (fun H locs ls hP hD hS hl => ?_) (n + 1) 0 _ _ ls (by omega) (by omega) hP hD hS (lv_sub hl [0, 3, 4, 2] rfl)
              refine lv_aload_n hx hb d_Mo_send_125 rfl (lv_at hl 0 rfl) ?_
              refine gf_Mo_20 (q0 := 0) S0 hK hP rfl rfl d_Mo_send_126 ?_
              refine lv_iload_n hx hb d_Mo_send_129 rfl (lv_at hl 1 rfl) ?_
              refine lz_iald (i := c_) hx hb hK.1 hP 4 1 rfl rfl (by omega) (by decide) d_Mo_send_130 ?_
              refine lz_top (y := nI (wv c_ + n)) (by rw [up_self]) ?_
              exact k_iret hx hb hr (rfl) hlk ((bl bs (4200 * c_ + wv c_) n (fun k => bz (tape k)), bl bg (4200 * c_ + wv c_) n fl, va_up wv c_ (wv c_ + n))) (Or.inl ⟨c_, hc2, ⟨rfl, hp, h6⟩, rfl, rfl⟩) hP hD hS d_Mo_send_131
            · refine lv_iconst (v := (-1)) hx hb d_Mo_send_86 (by decide) ?_
              exact k_iret hx hb hr (rfl) hlk ((bs, bg, wv)) (Or.inr ⟨hno True (fun h => absurd h.2 (by omega)), rfl, rfl⟩) hP hD hS d_Mo_send_87
  · refine lv_iload_n hx hb d_Mo_send_15 rfl (lv_at hl 0 rfl) ?_
    refine lv_bipush (v := nI 6) hx hb d_Mo_send_16 (by decide) ?_
    refine lz_icmp_le (tgt := 57) hx hb (by omega) (by omega) d_Mo_send_18 (by decide) (fun h4 => ?_) (fun h4 => ?_)
    · refine lv_iconst (v := nI 0) hx hb d_Mo_send_57 (by decide) ?_
      refine lz_top (y := nI pz) (by rcases hpz with ⟨h, e⟩ | ⟨_, e⟩; exact absurd h (fun h => absurd h.1 (by omega)); rw [e]) ?_
      exact tail
    · refine lv_iload_n hx hb d_Mo_send_21 rfl (lv_at hl 0 rfl) ?_
      refine lv_bipush (v := nI 7) hx hb d_Mo_send_22 (by decide) ?_
      refine lv_sipush (v := nI 256) hx hb d_Mo_send_24 (by decide) ?_
      refine lv_aload_n hx hb d_Mo_send_27 rfl (lv_at hl 1 rfl) ?_
      refine gf_Mo_7 (q0 := 0) S0 hK hP rfl rfl d_Mo_send_28 ?_
      refine lv_iconst (v := nI 4) hx hb d_Mo_send_31 (by decide) ?_
      refine lz_bald (i := 4) hx hb hK.1 hP 1 0 rfl rfl (by omega) (by decide) d_Mo_send_32 ?_
      refine lv_sipush (v := nI 255) hx hb d_Mo_send_33 (by decide) ?_
      refine lz_and255 hx hb d_Mo_send_36 ?_
      refine lz_imul hx hb d_Mo_send_37 ?_
      refine lz_iadd hx hb d_Mo_send_38 ?_
      refine lv_aload_n hx hb d_Mo_send_39 rfl (lv_at hl 1 rfl) ?_
      refine gf_Mo_7 (q0 := 0) S0 hK hP rfl rfl d_Mo_send_40 ?_
      refine lv_iconst (v := nI 5) hx hb d_Mo_send_43 (by decide) ?_
      refine lz_bald (i := 5) hx hb hK.1 hP 1 0 rfl rfl (by omega) (by decide) d_Mo_send_44 ?_
      refine lv_sipush (v := nI 255) hx hb d_Mo_send_45 (by decide) ?_
      refine lz_and255 hx hb d_Mo_send_48 ?_
      refine lz_iadd hx hb d_Mo_send_49 ?_
      refine lz_icmp_ne (tgt := 57) hx hb (by omega) (by omega) d_Mo_send_50 (by decide) (fun h5 => ?_) (fun h5 => ?_)
      · refine lv_iconst (v := nI 0) hx hb d_Mo_send_57 (by decide) ?_
        refine lz_top (y := nI pz) (by rcases hpz with ⟨h, e⟩ | ⟨_, e⟩; exact absurd h (fun h => h5 (by have := h.2; omega)); rw [e]) ?_
        exact tail
      · refine lv_iconst (v := nI 1) hx hb d_Mo_send_53 (by decide) ?_
        refine lv_goto (tgt := 58) hx hb d_Mo_send_54 (by decide) ?_
        refine lz_top (y := nI pz) (by rcases hpz with ⟨_, e⟩ | ⟨h, e⟩; rw [e]; exact absurd ⟨by omega, by omega⟩ h) ?_
        exact tail
end
section
set_option maxHeartbeats 1000000 in
set_option maxRecDepth 100000 in
/-- the model: add -/
theorem c_Mo_add (l : Launch) (D : va_G) (ca : Nat → ClassId) (sz : Nat) (mo mt my mg mw mf mr : Nat) (L n fi : Nat) (b : Int32) (mfr : Nat → Int32) (h1 : fi < 256) : MetV l y_Mo_add b_Mo_add 2 ({ frames := 0, cells := 0, slots := 0, locals := 0 } : Room) D ca [.ref mo, .int b] [(mo, .inr (3, [.int (nI 0), .int (nI L), .ref mt, .int (nI n), .ref my, .ref mg, .ref mw, .ref mf, .ref mr, .int (nI fi)])), (mr, .inl (ca 0, 256, .inl mfr))] sz (fun _ : Unit => True) (fun _ => [(mo, .inr (3, [.int (nI 0), .int (nI L), .ref mt, .int (nI n), .ref my, .ref mg, .ref mw, .ref mf, .ref mr, .int (nI (fi + 1))])), (mr, .inl (ca 0, 256, .inl (upd mfr fi (bz b))))]) := by
  refine MetV.of (by decide) (Nat.le_of_ble_eq_true rfl) ?_
  intro p e s m below meth c A ls S0 hr hlk hK hP hD hA hl hnm
  have hx := S0.1
  have hb := S0.2.1
  have hS : va_S A s.heap s.heap [] := va_S.rf
  have hP : va_P D classes [(mo, .inr (3, [.int (nI 0), .int (nI L), .ref mt, .int (nI n), .ref my, .ref mg, .ref mw, .ref mf, .ref mr, .int (nI fi)])), (mr, .inl (ca 0, 256, .inl mfr))] s.heap := hP
  have hD : va_D A [(mo, .inr (3, [.int (nI 0), .int (nI L), .ref mt, .int (nI n), .ref my, .ref mg, .ref mw, .ref mf, .ref mr, .int (nI fi)])), (mr, .inl (ca 0, 256, .inl mfr))] := hD
  have hl : lv_has ls 2 [(0, .ref mo), (1, .int b)] := hl
  refine lv_aload_n hx hb d_Mo_add_0 rfl (lv_at hl 0 rfl) ?_
  refine gf_Mo_27 (q0 := 0) S0 hK hP rfl rfl d_Mo_add_1 ?_
  refine lv_aload_n hx hb d_Mo_add_4 rfl (lv_at hl 0 rfl) ?_
  refine gf_Mo_44 (q0 := 0) S0 hK hP rfl rfl d_Mo_add_5 ?_
  refine lv_iload_n hx hb d_Mo_add_8 rfl (lv_at hl 1 rfl) ?_
  refine lz_i2b hx hb d_Mo_add_9 ?_
  refine lz_bast (i := fi) hx hb hK.1 hP hD hS 1 0 rfl rfl (by omega) (by decide) d_Mo_add_10 (fun H locs hP hD hS => ?_)
  rw [bz_bz] at hP hD
  have hP : va_P D classes [(mo, .inr (3, [.int (nI 0), .int (nI L), .ref mt, .int (nI n), .ref my, .ref mg, .ref mw, .ref mf, .ref mr, .int (nI fi)])), (mr, .inl (ca 0, 256, .inl (upd mfr fi (bz b))))] H := hP
  have hD : va_D A [(mo, .inr (3, [.int (nI 0), .int (nI L), .ref mt, .int (nI n), .ref my, .ref mg, .ref mw, .ref mf, .ref mr, .int (nI fi)])), (mr, .inl (ca 0, 256, .inl (upd mfr fi (bz b))))] := hD
  refine lv_aload_n hx hb d_Mo_add_11 rfl (lv_at hl 0 rfl) ?_
  refine lv_dup hx hb d_Mo_add_12 rfl ?_
  refine gf_Mo_44 (q0 := 0) S0 hK hP rfl rfl d_Mo_add_13 ?_
  refine lv_iconst (v := nI 1) hx hb d_Mo_add_16 (by decide) ?_
  refine lz_iadd hx hb d_Mo_add_17 ?_
  refine pf_Mo_44 (q0 := 0) S0 hK hP hD hS rfl rfl rfl (Nat.le_of_ble_eq_true rfl) d_Mo_add_18 (fun H locs hP hD hS => ?_)
  have hP : va_P D classes [(mo, .inr (3, [.int (nI 0), .int (nI L), .ref mt, .int (nI n), .ref my, .ref mg, .ref mw, .ref mf, .ref mr, .int (nI (fi + 1))])), (mr, .inl (ca 0, 256, .inl (upd mfr fi (bz b))))] H := hP
  have hD : va_D A [(mo, .inr (3, [.int (nI 0), .int (nI L), .ref mt, .int (nI n), .ref my, .ref mg, .ref mw, .ref mf, .ref mr, .int (nI (fi + 1))])), (mr, .inl (ca 0, 256, .inl (upd mfr fi (bz b))))] := hD
  exact k_vret hx hb hr hlk (()) (trivial) hP hD hS d_Mo_add_21
set_option maxHeartbeats 1000000 in
set_option maxRecDepth 100000 in
theorem lp_Mo_fills {p : Program} {l : Launch} {e : Env} {s : State} {m : MethodId} {args : Array Value} {below : List Frame} {meth : Method} {c : Code} {Q : State → Prop} {D : va_G} {ca : Nat → ClassId} {A : Nat → Prop} {H0 : Heap} (mo mt my mg mw mf mr : Nat) (L n fi c_ w N : Nat) (bs bg : Nat → Int32) (wv : Nat → Nat) (h1 : c_ < 2) (h2 : w + N ≤ 4200) (h3 : 7 ≤ N) (S0 : CallFix p m c b_Mo_fills 5 s args gd_tbl "DownFramesModel") (hK : PW D ca s) (hA : ∀ q, H0.size ≤ q → A q) (kk : ∀  (H : Heap) (locs : List Loc) (ls : Array Slot), va_P D classes [(mo, .inr (3, [.int (nI 0), .int (nI L), .ref mt, .int (nI n), .ref my, .ref mg, .ref mw, .ref mf, .ref mr, .int (nI fi)])), (my, .inl (ca 0, 8400, .inl (bl bs (4200 * c_ + w) N (eb N)))), (mg, .inl (ca 3, 8400, .inl (bl bg (4200 * c_ + w) N fl))), (mw, .inl (ca 1, 2, .inl (fun k => nI (va_up wv c_ (w + N) k))))] H → va_D A [(mo, .inr (3, [.int (nI 0), .int (nI L), .ref mt, .int (nI n), .ref my, .ref mg, .ref mw, .ref mf, .ref mr, .int (nI fi)])), (my, .inl (ca 0, 8400, .inl (bl bs (4200 * c_ + w) N (eb N)))), (mg, .inl (ca 3, 8400, .inl (bl bg (4200 * c_ + w) N fl))), (mw, .inl (ca 1, 2, .inl (fun k => nI (va_up wv c_ (w + N) k))))] → va_S A H0 H locs → lv_has ls 5 [(0, .ref mo)] → W p l e ({ frames := 1, cells := 0, slots := 0, locals := 23 } : Room) s m args below meth c H locs 0 0 Q (F0 m 80 ls [])) :
    ∀ (nf : Nat) (j : Nat) (H : Heap) (locs : List Loc) (ls : Array Slot), N - 6 - j < nf → (j ≤ N - 6) → va_P D classes [(mo, .inr (3, [.int (nI 0), .int (nI L), .ref mt, .int (nI n), .ref my, .ref mg, .ref mw, .ref mf, .ref mr, .int (nI fi)])), (my, .inl (ca 0, 8400, .inl (bl bs (4200 * c_ + w) (6 + j) (eb N)))), (mg, .inl (ca 3, 8400, .inl (bl bg (4200 * c_ + w) (6 + j) fl))), (mw, .inl (ca 1, 2, .inl (fun k => nI (va_up wv c_ (w + (6 + j)) k))))] H → va_D A [(mo, .inr (3, [.int (nI 0), .int (nI L), .ref mt, .int (nI n), .ref my, .ref mg, .ref mw, .ref mf, .ref mr, .int (nI fi)])), (my, .inl (ca 0, 8400, .inl (bl bs (4200 * c_ + w) (6 + j) (eb N)))), (mg, .inl (ca 3, 8400, .inl (bl bg (4200 * c_ + w) (6 + j) fl))), (mw, .inl (ca 1, 2, .inl (fun k => nI (va_up wv c_ (w + (6 + j)) k))))] → va_S A H0 H locs → lv_has ls 5 [(4, .int (nI (6 + j))), (0, .ref mo), (1, .int (nI c_)), (2, .int (nI N))] → W p l e ({ frames := 1, cells := 0, slots := 0, locals := 23 } : Room) s m args below meth c H locs 0 0 Q (F0 m 60 ls []) := by
  have hx := S0.1
  have hb := S0.2.1
  intro nf
  induction nf with
  | zero =>
    intro j H locs ls hm
    exact absurd hm (Nat.not_lt_zero _)
  | succ nf ih =>
    intro j H locs ls hm hj hP hD hS hl
    refine lv_iload hx hb d_Mo_fills_60 (lv_at hl 0 rfl) ?_
    refine lv_iload_n hx hb d_Mo_fills_62 rfl (lv_at hl 3 rfl) ?_
    refine lz_icmp_ge (tgt := 80) hx hb (by omega) (by omega) d_Mo_fills_63 (by decide) (fun h4 => ?_) (fun h4 => ?_)
    · have e9 : N - 6 = j := by omega
      subst e9
      have e8 : 6 + (N - 6) = N := by omega
      rw [e8] at hP hD
      exact kk H locs ls hP hD hS (lv_sub hl [1] rfl)
    · refine lv_aload_n hx hb d_Mo_fills_66 rfl (lv_at hl 1 rfl) ?_
      refine lv_iload_n hx hb d_Mo_fills_67 rfl (lv_at hl 2 rfl) ?_
      refine lv_bipush (v := nI 85) hx hb d_Mo_fills_68 (by decide) ?_
      refine lv_iconst (v := nI 0) hx hb d_Mo_fills_70 (by decide) ?_
      refine k_Vv (n := 3) (As := [.int (nI c_), .int (nI 85), .int (nI 0)]) (rest := []) (wc := [(mo, .inr (3, [.int (nI 0), .int (nI L), .ref mt, .int (nI n), .ref my, .ref mg, .ref mw, .ref mf, .ref mr, .int (nI fi)])), (my, .inl (ca 0, 8400, .inl (bl bs (4200 * c_ + w) (6 + j) (eb N)))), (mg, .inl (ca 3, 8400, .inl (bl bg (4200 * c_ + w) (6 + j) fl))), (mw, .inl (ca 1, 2, .inl (fun k => nI (va_up wv c_ (w + (6 + j)) k))))]) (wr := []) (ci := 3) (q0 := 0) S0 rfl q_190 q_192 q_p6 q_4 rfl rfl q_193 (by decide +kernel) hK hP hD hS hA (c_Mo_wait l D ca H.size mo mt my mg mw mf mr L n fi c_ (w + (6 + j)) (nI 85) (nI 0) (bl bs (4200 * c_ + w) (6 + j) (eb N)) (bl bg (4200 * c_ + w) (6 + j) fl) (va_up wv c_ (w + (6 + j))) h1 (by omega) (up_self _ _ _) (vp_nar_z0)) [0, 1, 2, 3] [] rfl rfl (by decide) (by decide) (by decide) ⟨Nat.le_of_ble_eq_true rfl, Nat.le_of_ble_eq_true rfl⟩ rfl hl.1 rfl (Nat.le_of_ble_eq_true rfl) ⟨Nat.le_of_ble_eq_true rfl, Nat.le_of_ble_eq_true rfl⟩ d_Mo_fills_71 (fun u H locs hw hP hD hS => ?_)
      refine W.cs (cells' := 0) (slots' := 0) rfl rfl ?_
      have hP : va_P D classes [(mo, .inr (3, [.int (nI 0), .int (nI L), .ref mt, .int (nI n), .ref my, .ref mg, .ref mw, .ref mf, .ref mr, .int (nI fi)])), (my, .inl (ca 0, 8400, .inl (upd (bl bs (4200 * c_ + w) (6 + j) (eb N)) (4200 * c_ + (w + (6 + j))) (bz (nI 85))))), (mg, .inl (ca 3, 8400, .inl (upd (bl bg (4200 * c_ + w) (6 + j) fl) (4200 * c_ + (w + (6 + j))) (nI 0)))), (mw, .inl (ca 1, 2, .inl (fun k => nI (va_up (va_up wv c_ (w + (6 + j))) c_ (w + (6 + j) + 1) k))))] H := hP
      have hD : va_D A [(mo, .inr (3, [.int (nI 0), .int (nI L), .ref mt, .int (nI n), .ref my, .ref mg, .ref mw, .ref mf, .ref mr, .int (nI fi)])), (my, .inl (ca 0, 8400, .inl (upd (bl bs (4200 * c_ + w) (6 + j) (eb N)) (4200 * c_ + (w + (6 + j))) (bz (nI 85))))), (mg, .inl (ca 3, 8400, .inl (upd (bl bg (4200 * c_ + w) (6 + j) fl) (4200 * c_ + (w + (6 + j))) (nI 0)))), (mw, .inl (ca 1, 2, .inl (fun k => nI (va_up (va_up wv c_ (w + (6 + j))) c_ (w + (6 + j) + 1) k))))] := hD
      have e5 : upd (bl bs (4200 * c_ + w) (6 + j) (eb N)) (4200 * c_ + (w + (6 + j))) (bz (nI 85)) = bl bs (4200 * c_ + w) (6 + j + 1) (eb N) := by rw [← Nat.add_assoc (4200 * c_) w, show bz (nI 85) = (eb N) (6 + j) from (ebv85 N j).symm]; exact bl_s _ _ _ _
      have e6 : upd (bl bg (4200 * c_ + w) (6 + j) fl) (4200 * c_ + (w + (6 + j))) (nI 0) = bl bg (4200 * c_ + w) (6 + j + 1) fl := by rw [← Nat.add_assoc (4200 * c_) w, show nI 0 = fl (6 + j) from (if_neg (by omega)).symm]; exact bl_s _ _ _ _
      have e7 : va_up (va_up wv c_ (w + (6 + j))) c_ (w + (6 + j) + 1) = va_up wv c_ (w + (6 + j + 1)) := by rw [up_up, Nat.add_assoc w]
      rw [e5, e6, e7] at hP hD
      clear e5 e6 e7
      have hP : va_P D classes [(mo, .inr (3, [.int (nI 0), .int (nI L), .ref mt, .int (nI n), .ref my, .ref mg, .ref mw, .ref mf, .ref mr, .int (nI fi)])), (my, .inl (ca 0, 8400, .inl (bl bs (4200 * c_ + w) (6 + j + 1) (eb N)))), (mg, .inl (ca 3, 8400, .inl (bl bg (4200 * c_ + w) (6 + j + 1) fl))), (mw, .inl (ca 1, 2, .inl (fun k => nI (va_up wv c_ (w + (6 + j + 1)) k))))] H := hP
      have hD : va_D A [(mo, .inr (3, [.int (nI 0), .int (nI L), .ref mt, .int (nI n), .ref my, .ref mg, .ref mw, .ref mf, .ref mr, .int (nI fi)])), (my, .inl (ca 0, 8400, .inl (bl bs (4200 * c_ + w) (6 + j + 1) (eb N)))), (mg, .inl (ca 3, 8400, .inl (bl bg (4200 * c_ + w) (6 + j + 1) fl))), (mw, .inl (ca 1, 2, .inl (fun k => nI (va_up wv c_ (w + (6 + j + 1)) k))))] := hD
      refine lv_iinc (v := nI (6 + j + 1)) (lv' := [(4, .int (nI (6 + j + 1))), (0, .ref mo), (1, .int (nI c_)), (2, .int (nI N))]) hx hb d_Mo_fills_74 hl (k := 0) rfl (nI_inc _) (by decide) rfl (fun ls hl => ?_)
      refine lv_goto (tgt := 60) hx hb d_Mo_fills_77 (by decide) ?_
      exact ih (j + 1) H locs ls (by omega) (by omega) hP hD hS (lv_sub hl [0, 1, 2, 3] rfl)
set_option maxHeartbeats 1000000 in
set_option maxRecDepth 100000 in
/-- the model: fills -/
theorem c_Mo_fills (l : Launch) (D : va_G) (ca : Nat → ClassId) (sz : Nat) (mo mt my mg mw mf mr : Nat) (L n fi c_ w N : Nat) (bs bg : Nat → Int32) (wv : Nat → Nat) (h1 : c_ < 2) (h2 : w + N ≤ 4200) (h3 : 7 ≤ N) (hw : wv c_ = w) : MetV l y_Mo_fills b_Mo_fills 5 ({ frames := 1, cells := 0, slots := 0, locals := 23 } : Room) D ca [.ref mo, .int (nI c_), .int (nI N)] [(mo, .inr (3, [.int (nI 0), .int (nI L), .ref mt, .int (nI n), .ref my, .ref mg, .ref mw, .ref mf, .ref mr, .int (nI fi)])), (my, .inl (ca 0, 8400, .inl bs)), (mg, .inl (ca 3, 8400, .inl bg)), (mw, .inl (ca 1, 2, .inl (fun k => nI (wv k))))] sz (fun _ : Unit => True) (fun _ => [(mo, .inr (3, [.int (nI 0), .int (nI L), .ref mt, .int (nI n), .ref my, .ref mg, .ref mw, .ref mf, .ref mr, .int (nI fi)])), (my, .inl (ca 0, 8400, .inl (bl bs (4200 * c_ + w) N (eb N)))), (mg, .inl (ca 3, 8400, .inl (bl bg (4200 * c_ + w) N fl))), (mw, .inl (ca 1, 2, .inl (fun k => nI (va_up wv c_ (w + N) k))))]) := by
  refine MetV.of (by decide) (Nat.le_of_ble_eq_true rfl) ?_
  intro p e s m below meth c A ls S0 hr hlk hK hP hD hA hl hnm
  have hx := S0.1
  have hb := S0.2.1
  have hS : va_S A s.heap s.heap [] := va_S.rf
  have hP : va_P D classes [(mo, .inr (3, [.int (nI 0), .int (nI L), .ref mt, .int (nI n), .ref my, .ref mg, .ref mw, .ref mf, .ref mr, .int (nI fi)])), (my, .inl (ca 0, 8400, .inl bs)), (mg, .inl (ca 3, 8400, .inl bg)), (mw, .inl (ca 1, 2, .inl (fun k => nI (wv k))))] s.heap := hP
  have hD : va_D A [(mo, .inr (3, [.int (nI 0), .int (nI L), .ref mt, .int (nI n), .ref my, .ref mg, .ref mw, .ref mf, .ref mr, .int (nI fi)])), (my, .inl (ca 0, 8400, .inl bs)), (mg, .inl (ca 3, 8400, .inl bg)), (mw, .inl (ca 1, 2, .inl (fun k => nI (wv k))))] := hD
  have hl : lv_has ls 5 [(0, .ref mo), (1, .int (nI c_)), (2, .int (nI N))] := hl
  have e0 : bs = bl bs (4200 * c_ + w) 0 (eb N) := (bl_0 _ _ _).symm
  have e1 : bg = bl bg (4200 * c_ + w) 0 fl := (bl_0 _ _ _).symm
  have e2 : wv = va_up wv c_ (w + 0) := by rw [Nat.add_zero, ← hw, up_id]
  have hP : va_P D classes [(mo, .inr (3, [.int (nI 0), .int (nI L), .ref mt, .int (nI n), .ref my, .ref mg, .ref mw, .ref mf, .ref mr, .int (nI fi)])), (my, .inl (ca 0, 8400, .inl (bl bs (4200 * c_ + w) 0 (eb N)))), (mg, .inl (ca 3, 8400, .inl (bl bg (4200 * c_ + w) 0 fl))), (mw, .inl (ca 1, 2, .inl (fun k => nI (va_up wv c_ (w + 0) k))))] s.heap := by rw [← e0, ← e1, ← e2]; exact hP
  have hD : va_D A [(mo, .inr (3, [.int (nI 0), .int (nI L), .ref mt, .int (nI n), .ref my, .ref mg, .ref mw, .ref mf, .ref mr, .int (nI fi)])), (my, .inl (ca 0, 8400, .inl (bl bs (4200 * c_ + w) 0 (eb N)))), (mg, .inl (ca 3, 8400, .inl (bl bg (4200 * c_ + w) 0 fl))), (mw, .inl (ca 1, 2, .inl (fun k => nI (va_up wv c_ (w + 0) k))))] := by rw [← e0, ← e1, ← e2]; exact hD
  refine lv_iload_n hx hb d_Mo_fills_0 rfl (lv_at hl 2 rfl) ?_
  refine lv_bipush (v := nI 7) hx hb d_Mo_fills_1 (by decide) ?_
  refine lz_isub hx hb (by omega) d_Mo_fills_3 ?_
  refine lv_istore_n (lv' := [(3, .int (nI (N - 7))), (0, .ref mo), (1, .int (nI c_)), (2, .int (nI N))]) hx hb d_Mo_fills_4 rfl hl (by decide) rfl (fun ls hl => ?_)
  refine lv_aload_n hx hb d_Mo_fills_5 rfl (lv_at hl 1 rfl) ?_
  refine lv_iload_n hx hb d_Mo_fills_6 rfl (lv_at hl 2 rfl) ?_
  refine lv_bipush (v := nI 7) hx hb d_Mo_fills_7 (by decide) ?_
  refine lv_iconst (v := nI 1) hx hb d_Mo_fills_9 (by decide) ?_
  refine k_Vv (n := 3) (As := [.int (nI c_), .int (nI 7), .int (nI 1)]) (rest := []) (wc := [(mo, .inr (3, [.int (nI 0), .int (nI L), .ref mt, .int (nI n), .ref my, .ref mg, .ref mw, .ref mf, .ref mr, .int (nI fi)])), (my, .inl (ca 0, 8400, .inl (bl bs (4200 * c_ + w) 0 (eb N)))), (mg, .inl (ca 3, 8400, .inl (bl bg (4200 * c_ + w) 0 fl))), (mw, .inl (ca 1, 2, .inl (fun k => nI (va_up wv c_ (w + 0) k))))]) (wr := []) (ci := 3) (q0 := 0) S0 rfl q_190 q_192 q_p6 q_4 rfl rfl q_193 (by decide +kernel) hK hP hD hS hA (c_Mo_wait l D ca s.heap.size mo mt my mg mw mf mr L n fi c_ (w + 0) (nI 7) (nI 1) (bl bs (4200 * c_ + w) 0 (eb N)) (bl bg (4200 * c_ + w) 0 fl) (va_up wv c_ (w + 0)) h1 (by omega) (up_self _ _ _) (vp_nar_z1)) [0, 1, 2, 3] [] rfl rfl (by decide) (by decide) (by decide) ⟨Nat.le_of_ble_eq_true rfl, Nat.le_of_ble_eq_true rfl⟩ rfl hl.1 rfl (Nat.le_of_ble_eq_true rfl) ⟨Nat.le_of_ble_eq_true rfl, Nat.le_of_ble_eq_true rfl⟩ d_Mo_fills_10 (fun u H locs hw hP hD hS => ?_)
  refine W.cs (cells' := 0) (slots' := 0) rfl rfl ?_
  have hP : va_P D classes [(mo, .inr (3, [.int (nI 0), .int (nI L), .ref mt, .int (nI n), .ref my, .ref mg, .ref mw, .ref mf, .ref mr, .int (nI fi)])), (my, .inl (ca 0, 8400, .inl (upd (bl bs (4200 * c_ + w) 0 (eb N)) (4200 * c_ + (w + 0)) (bz (nI 7))))), (mg, .inl (ca 3, 8400, .inl (upd (bl bg (4200 * c_ + w) 0 fl) (4200 * c_ + (w + 0)) (nI 1)))), (mw, .inl (ca 1, 2, .inl (fun k => nI (va_up (va_up wv c_ (w + 0)) c_ (w + 0 + 1) k))))] H := hP
  have hD : va_D A [(mo, .inr (3, [.int (nI 0), .int (nI L), .ref mt, .int (nI n), .ref my, .ref mg, .ref mw, .ref mf, .ref mr, .int (nI fi)])), (my, .inl (ca 0, 8400, .inl (upd (bl bs (4200 * c_ + w) 0 (eb N)) (4200 * c_ + (w + 0)) (bz (nI 7))))), (mg, .inl (ca 3, 8400, .inl (upd (bl bg (4200 * c_ + w) 0 fl) (4200 * c_ + (w + 0)) (nI 1)))), (mw, .inl (ca 1, 2, .inl (fun k => nI (va_up (va_up wv c_ (w + 0)) c_ (w + 0 + 1) k))))] := hD
  have e5 : upd (bl bs (4200 * c_ + w) 0 (eb N)) (4200 * c_ + (w + 0)) (bz (nI 7)) = bl bs (4200 * c_ + w) 1 (eb N) := by rw [← Nat.add_assoc (4200 * c_) w, show bz (nI 7) = (eb N) 0 from rfl]; exact bl_s _ _ _ _
  have e6 : upd (bl bg (4200 * c_ + w) 0 fl) (4200 * c_ + (w + 0)) (nI 1) = bl bg (4200 * c_ + w) 1 fl := by rw [← Nat.add_assoc (4200 * c_) w, show nI 1 = fl 0 from rfl]; exact bl_s _ _ _ _
  have e7 : va_up (va_up wv c_ (w + 0)) c_ (w + 0 + 1) = va_up wv c_ (w + 1) := by rw [up_up, Nat.add_assoc w]
  rw [e5, e6, e7] at hP hD
  clear e5 e6 e7
  have hP : va_P D classes [(mo, .inr (3, [.int (nI 0), .int (nI L), .ref mt, .int (nI n), .ref my, .ref mg, .ref mw, .ref mf, .ref mr, .int (nI fi)])), (my, .inl (ca 0, 8400, .inl (bl bs (4200 * c_ + w) 1 (eb N)))), (mg, .inl (ca 3, 8400, .inl (bl bg (4200 * c_ + w) 1 fl))), (mw, .inl (ca 1, 2, .inl (fun k => nI (va_up wv c_ (w + 1) k))))] H := hP
  have hD : va_D A [(mo, .inr (3, [.int (nI 0), .int (nI L), .ref mt, .int (nI n), .ref my, .ref mg, .ref mw, .ref mf, .ref mr, .int (nI fi)])), (my, .inl (ca 0, 8400, .inl (bl bs (4200 * c_ + w) 1 (eb N)))), (mg, .inl (ca 3, 8400, .inl (bl bg (4200 * c_ + w) 1 fl))), (mw, .inl (ca 1, 2, .inl (fun k => nI (va_up wv c_ (w + 1) k))))] := hD
  refine lv_aload_n hx hb d_Mo_fills_13 rfl (lv_at hl 1 rfl) ?_
  refine lv_iload_n hx hb d_Mo_fills_14 rfl (lv_at hl 2 rfl) ?_
  refine lv_sipush (v := nI 255) hx hb d_Mo_fills_15 (by decide) ?_
  refine lv_iconst (v := nI 0) hx hb d_Mo_fills_18 (by decide) ?_
  refine k_Vv (n := 3) (As := [.int (nI c_), .int (nI 255), .int (nI 0)]) (rest := []) (wc := [(mo, .inr (3, [.int (nI 0), .int (nI L), .ref mt, .int (nI n), .ref my, .ref mg, .ref mw, .ref mf, .ref mr, .int (nI fi)])), (my, .inl (ca 0, 8400, .inl (bl bs (4200 * c_ + w) 1 (eb N)))), (mg, .inl (ca 3, 8400, .inl (bl bg (4200 * c_ + w) 1 fl))), (mw, .inl (ca 1, 2, .inl (fun k => nI (va_up wv c_ (w + 1) k))))]) (wr := []) (ci := 3) (q0 := 0) S0 rfl q_190 q_192 q_p6 q_4 rfl rfl q_193 (by decide +kernel) hK hP hD hS hA (c_Mo_wait l D ca H.size mo mt my mg mw mf mr L n fi c_ (w + 1) (nI 255) (nI 0) (bl bs (4200 * c_ + w) 1 (eb N)) (bl bg (4200 * c_ + w) 1 fl) (va_up wv c_ (w + 1)) h1 (by omega) (up_self _ _ _) (vp_nar_z0)) [0, 1, 2, 3] [] rfl rfl (by decide) (by decide) (by decide) ⟨Nat.le_of_ble_eq_true rfl, Nat.le_of_ble_eq_true rfl⟩ rfl hl.1 rfl (Nat.le_of_ble_eq_true rfl) ⟨Nat.le_of_ble_eq_true rfl, Nat.le_of_ble_eq_true rfl⟩ d_Mo_fills_19 (fun u H locs hw hP hD hS => ?_)
  refine W.cs (cells' := 0) (slots' := 0) rfl rfl ?_
  have hP : va_P D classes [(mo, .inr (3, [.int (nI 0), .int (nI L), .ref mt, .int (nI n), .ref my, .ref mg, .ref mw, .ref mf, .ref mr, .int (nI fi)])), (my, .inl (ca 0, 8400, .inl (upd (bl bs (4200 * c_ + w) 1 (eb N)) (4200 * c_ + (w + 1)) (bz (nI 255))))), (mg, .inl (ca 3, 8400, .inl (upd (bl bg (4200 * c_ + w) 1 fl) (4200 * c_ + (w + 1)) (nI 0)))), (mw, .inl (ca 1, 2, .inl (fun k => nI (va_up (va_up wv c_ (w + 1)) c_ (w + 1 + 1) k))))] H := hP
  have hD : va_D A [(mo, .inr (3, [.int (nI 0), .int (nI L), .ref mt, .int (nI n), .ref my, .ref mg, .ref mw, .ref mf, .ref mr, .int (nI fi)])), (my, .inl (ca 0, 8400, .inl (upd (bl bs (4200 * c_ + w) 1 (eb N)) (4200 * c_ + (w + 1)) (bz (nI 255))))), (mg, .inl (ca 3, 8400, .inl (upd (bl bg (4200 * c_ + w) 1 fl) (4200 * c_ + (w + 1)) (nI 0)))), (mw, .inl (ca 1, 2, .inl (fun k => nI (va_up (va_up wv c_ (w + 1)) c_ (w + 1 + 1) k))))] := hD
  have e5 : upd (bl bs (4200 * c_ + w) 1 (eb N)) (4200 * c_ + (w + 1)) (bz (nI 255)) = bl bs (4200 * c_ + w) 2 (eb N) := by rw [← Nat.add_assoc (4200 * c_) w, show bz (nI 255) = (eb N) 1 from rfl]; exact bl_s _ _ _ _
  have e6 : upd (bl bg (4200 * c_ + w) 1 fl) (4200 * c_ + (w + 1)) (nI 0) = bl bg (4200 * c_ + w) 2 fl := by rw [← Nat.add_assoc (4200 * c_) w, show nI 0 = fl 1 from rfl]; exact bl_s _ _ _ _
  have e7 : va_up (va_up wv c_ (w + 1)) c_ (w + 1 + 1) = va_up wv c_ (w + 2) := by rw [up_up, Nat.add_assoc w]
  rw [e5, e6, e7] at hP hD
  clear e5 e6 e7
  have hP : va_P D classes [(mo, .inr (3, [.int (nI 0), .int (nI L), .ref mt, .int (nI n), .ref my, .ref mg, .ref mw, .ref mf, .ref mr, .int (nI fi)])), (my, .inl (ca 0, 8400, .inl (bl bs (4200 * c_ + w) 2 (eb N)))), (mg, .inl (ca 3, 8400, .inl (bl bg (4200 * c_ + w) 2 fl))), (mw, .inl (ca 1, 2, .inl (fun k => nI (va_up wv c_ (w + 2) k))))] H := hP
  have hD : va_D A [(mo, .inr (3, [.int (nI 0), .int (nI L), .ref mt, .int (nI n), .ref my, .ref mg, .ref mw, .ref mf, .ref mr, .int (nI fi)])), (my, .inl (ca 0, 8400, .inl (bl bs (4200 * c_ + w) 2 (eb N)))), (mg, .inl (ca 3, 8400, .inl (bl bg (4200 * c_ + w) 2 fl))), (mw, .inl (ca 1, 2, .inl (fun k => nI (va_up wv c_ (w + 2) k))))] := hD
  refine lv_aload_n hx hb d_Mo_fills_22 rfl (lv_at hl 1 rfl) ?_
  refine lv_iload_n hx hb d_Mo_fills_23 rfl (lv_at hl 2 rfl) ?_
  refine lv_sipush (v := nI 192) hx hb d_Mo_fills_24 (by decide) ?_
  refine lv_iconst (v := nI 0) hx hb d_Mo_fills_27 (by decide) ?_
  refine k_Vv (n := 3) (As := [.int (nI c_), .int (nI 192), .int (nI 0)]) (rest := []) (wc := [(mo, .inr (3, [.int (nI 0), .int (nI L), .ref mt, .int (nI n), .ref my, .ref mg, .ref mw, .ref mf, .ref mr, .int (nI fi)])), (my, .inl (ca 0, 8400, .inl (bl bs (4200 * c_ + w) 2 (eb N)))), (mg, .inl (ca 3, 8400, .inl (bl bg (4200 * c_ + w) 2 fl))), (mw, .inl (ca 1, 2, .inl (fun k => nI (va_up wv c_ (w + 2) k))))]) (wr := []) (ci := 3) (q0 := 0) S0 rfl q_190 q_192 q_p6 q_4 rfl rfl q_193 (by decide +kernel) hK hP hD hS hA (c_Mo_wait l D ca H.size mo mt my mg mw mf mr L n fi c_ (w + 2) (nI 192) (nI 0) (bl bs (4200 * c_ + w) 2 (eb N)) (bl bg (4200 * c_ + w) 2 fl) (va_up wv c_ (w + 2)) h1 (by omega) (up_self _ _ _) (vp_nar_z0)) [0, 1, 2, 3] [] rfl rfl (by decide) (by decide) (by decide) ⟨Nat.le_of_ble_eq_true rfl, Nat.le_of_ble_eq_true rfl⟩ rfl hl.1 rfl (Nat.le_of_ble_eq_true rfl) ⟨Nat.le_of_ble_eq_true rfl, Nat.le_of_ble_eq_true rfl⟩ d_Mo_fills_28 (fun u H locs hw hP hD hS => ?_)
  refine W.cs (cells' := 0) (slots' := 0) rfl rfl ?_
  have hP : va_P D classes [(mo, .inr (3, [.int (nI 0), .int (nI L), .ref mt, .int (nI n), .ref my, .ref mg, .ref mw, .ref mf, .ref mr, .int (nI fi)])), (my, .inl (ca 0, 8400, .inl (upd (bl bs (4200 * c_ + w) 2 (eb N)) (4200 * c_ + (w + 2)) (bz (nI 192))))), (mg, .inl (ca 3, 8400, .inl (upd (bl bg (4200 * c_ + w) 2 fl) (4200 * c_ + (w + 2)) (nI 0)))), (mw, .inl (ca 1, 2, .inl (fun k => nI (va_up (va_up wv c_ (w + 2)) c_ (w + 2 + 1) k))))] H := hP
  have hD : va_D A [(mo, .inr (3, [.int (nI 0), .int (nI L), .ref mt, .int (nI n), .ref my, .ref mg, .ref mw, .ref mf, .ref mr, .int (nI fi)])), (my, .inl (ca 0, 8400, .inl (upd (bl bs (4200 * c_ + w) 2 (eb N)) (4200 * c_ + (w + 2)) (bz (nI 192))))), (mg, .inl (ca 3, 8400, .inl (upd (bl bg (4200 * c_ + w) 2 fl) (4200 * c_ + (w + 2)) (nI 0)))), (mw, .inl (ca 1, 2, .inl (fun k => nI (va_up (va_up wv c_ (w + 2)) c_ (w + 2 + 1) k))))] := hD
  have e5 : upd (bl bs (4200 * c_ + w) 2 (eb N)) (4200 * c_ + (w + 2)) (bz (nI 192)) = bl bs (4200 * c_ + w) 3 (eb N) := by rw [← Nat.add_assoc (4200 * c_) w, show bz (nI 192) = (eb N) 2 from rfl]; exact bl_s _ _ _ _
  have e6 : upd (bl bg (4200 * c_ + w) 2 fl) (4200 * c_ + (w + 2)) (nI 0) = bl bg (4200 * c_ + w) 3 fl := by rw [← Nat.add_assoc (4200 * c_) w, show nI 0 = fl 2 from rfl]; exact bl_s _ _ _ _
  have e7 : va_up (va_up wv c_ (w + 2)) c_ (w + 2 + 1) = va_up wv c_ (w + 3) := by rw [up_up, Nat.add_assoc w]
  rw [e5, e6, e7] at hP hD
  clear e5 e6 e7
  have hP : va_P D classes [(mo, .inr (3, [.int (nI 0), .int (nI L), .ref mt, .int (nI n), .ref my, .ref mg, .ref mw, .ref mf, .ref mr, .int (nI fi)])), (my, .inl (ca 0, 8400, .inl (bl bs (4200 * c_ + w) 3 (eb N)))), (mg, .inl (ca 3, 8400, .inl (bl bg (4200 * c_ + w) 3 fl))), (mw, .inl (ca 1, 2, .inl (fun k => nI (va_up wv c_ (w + 3) k))))] H := hP
  have hD : va_D A [(mo, .inr (3, [.int (nI 0), .int (nI L), .ref mt, .int (nI n), .ref my, .ref mg, .ref mw, .ref mf, .ref mr, .int (nI fi)])), (my, .inl (ca 0, 8400, .inl (bl bs (4200 * c_ + w) 3 (eb N)))), (mg, .inl (ca 3, 8400, .inl (bl bg (4200 * c_ + w) 3 fl))), (mw, .inl (ca 1, 2, .inl (fun k => nI (va_up wv c_ (w + 3) k))))] := hD
  refine lv_aload_n hx hb d_Mo_fills_31 rfl (lv_at hl 1 rfl) ?_
  refine lv_iload_n hx hb d_Mo_fills_32 rfl (lv_at hl 2 rfl) ?_
  refine lv_iconst (v := nI 0) hx hb d_Mo_fills_33 (by decide) ?_
  refine lv_iconst (v := nI 0) hx hb d_Mo_fills_34 (by decide) ?_
  refine k_Vv (n := 3) (As := [.int (nI c_), .int (nI 0), .int (nI 0)]) (rest := []) (wc := [(mo, .inr (3, [.int (nI 0), .int (nI L), .ref mt, .int (nI n), .ref my, .ref mg, .ref mw, .ref mf, .ref mr, .int (nI fi)])), (my, .inl (ca 0, 8400, .inl (bl bs (4200 * c_ + w) 3 (eb N)))), (mg, .inl (ca 3, 8400, .inl (bl bg (4200 * c_ + w) 3 fl))), (mw, .inl (ca 1, 2, .inl (fun k => nI (va_up wv c_ (w + 3) k))))]) (wr := []) (ci := 3) (q0 := 0) S0 rfl q_190 q_192 q_p6 q_4 rfl rfl q_193 (by decide +kernel) hK hP hD hS hA (c_Mo_wait l D ca H.size mo mt my mg mw mf mr L n fi c_ (w + 3) (nI 0) (nI 0) (bl bs (4200 * c_ + w) 3 (eb N)) (bl bg (4200 * c_ + w) 3 fl) (va_up wv c_ (w + 3)) h1 (by omega) (up_self _ _ _) (vp_nar_z0)) [0, 1, 2, 3] [] rfl rfl (by decide) (by decide) (by decide) ⟨Nat.le_of_ble_eq_true rfl, Nat.le_of_ble_eq_true rfl⟩ rfl hl.1 rfl (Nat.le_of_ble_eq_true rfl) ⟨Nat.le_of_ble_eq_true rfl, Nat.le_of_ble_eq_true rfl⟩ d_Mo_fills_35 (fun u H locs hw hP hD hS => ?_)
  refine W.cs (cells' := 0) (slots' := 0) rfl rfl ?_
  have hP : va_P D classes [(mo, .inr (3, [.int (nI 0), .int (nI L), .ref mt, .int (nI n), .ref my, .ref mg, .ref mw, .ref mf, .ref mr, .int (nI fi)])), (my, .inl (ca 0, 8400, .inl (upd (bl bs (4200 * c_ + w) 3 (eb N)) (4200 * c_ + (w + 3)) (bz (nI 0))))), (mg, .inl (ca 3, 8400, .inl (upd (bl bg (4200 * c_ + w) 3 fl) (4200 * c_ + (w + 3)) (nI 0)))), (mw, .inl (ca 1, 2, .inl (fun k => nI (va_up (va_up wv c_ (w + 3)) c_ (w + 3 + 1) k))))] H := hP
  have hD : va_D A [(mo, .inr (3, [.int (nI 0), .int (nI L), .ref mt, .int (nI n), .ref my, .ref mg, .ref mw, .ref mf, .ref mr, .int (nI fi)])), (my, .inl (ca 0, 8400, .inl (upd (bl bs (4200 * c_ + w) 3 (eb N)) (4200 * c_ + (w + 3)) (bz (nI 0))))), (mg, .inl (ca 3, 8400, .inl (upd (bl bg (4200 * c_ + w) 3 fl) (4200 * c_ + (w + 3)) (nI 0)))), (mw, .inl (ca 1, 2, .inl (fun k => nI (va_up (va_up wv c_ (w + 3)) c_ (w + 3 + 1) k))))] := hD
  have e5 : upd (bl bs (4200 * c_ + w) 3 (eb N)) (4200 * c_ + (w + 3)) (bz (nI 0)) = bl bs (4200 * c_ + w) 4 (eb N) := by rw [← Nat.add_assoc (4200 * c_) w, show bz (nI 0) = (eb N) 3 from rfl]; exact bl_s _ _ _ _
  have e6 : upd (bl bg (4200 * c_ + w) 3 fl) (4200 * c_ + (w + 3)) (nI 0) = bl bg (4200 * c_ + w) 4 fl := by rw [← Nat.add_assoc (4200 * c_) w, show nI 0 = fl 3 from rfl]; exact bl_s _ _ _ _
  have e7 : va_up (va_up wv c_ (w + 3)) c_ (w + 3 + 1) = va_up wv c_ (w + 4) := by rw [up_up, Nat.add_assoc w]
  rw [e5, e6, e7] at hP hD
  clear e5 e6 e7
  have hP : va_P D classes [(mo, .inr (3, [.int (nI 0), .int (nI L), .ref mt, .int (nI n), .ref my, .ref mg, .ref mw, .ref mf, .ref mr, .int (nI fi)])), (my, .inl (ca 0, 8400, .inl (bl bs (4200 * c_ + w) 4 (eb N)))), (mg, .inl (ca 3, 8400, .inl (bl bg (4200 * c_ + w) 4 fl))), (mw, .inl (ca 1, 2, .inl (fun k => nI (va_up wv c_ (w + 4) k))))] H := hP
  have hD : va_D A [(mo, .inr (3, [.int (nI 0), .int (nI L), .ref mt, .int (nI n), .ref my, .ref mg, .ref mw, .ref mf, .ref mr, .int (nI fi)])), (my, .inl (ca 0, 8400, .inl (bl bs (4200 * c_ + w) 4 (eb N)))), (mg, .inl (ca 3, 8400, .inl (bl bg (4200 * c_ + w) 4 fl))), (mw, .inl (ca 1, 2, .inl (fun k => nI (va_up wv c_ (w + 4) k))))] := hD
  refine lv_aload_n hx hb d_Mo_fills_38 rfl (lv_at hl 1 rfl) ?_
  refine lv_iload_n hx hb d_Mo_fills_39 rfl (lv_at hl 2 rfl) ?_
  refine lv_iload_n hx hb d_Mo_fills_40 rfl (lv_at hl 0 rfl) ?_
  refine lv_sipush (v := nI 256) hx hb d_Mo_fills_41 (by decide) ?_
  refine lz_idiv hx hb (by omega) (by decide) (by decide) d_Mo_fills_44 ?_
  refine lv_iconst (v := nI 0) hx hb d_Mo_fills_45 (by decide) ?_
  refine k_Vv (n := 3) (As := [.int (nI c_), .int (nI ((N - 7) / 256)), .int (nI 0)]) (rest := []) (wc := [(mo, .inr (3, [.int (nI 0), .int (nI L), .ref mt, .int (nI n), .ref my, .ref mg, .ref mw, .ref mf, .ref mr, .int (nI fi)])), (my, .inl (ca 0, 8400, .inl (bl bs (4200 * c_ + w) 4 (eb N)))), (mg, .inl (ca 3, 8400, .inl (bl bg (4200 * c_ + w) 4 fl))), (mw, .inl (ca 1, 2, .inl (fun k => nI (va_up wv c_ (w + 4) k))))]) (wr := []) (ci := 3) (q0 := 0) S0 rfl q_190 q_192 q_p6 q_4 rfl rfl q_193 (by decide +kernel) hK hP hD hS hA (c_Mo_wait l D ca H.size mo mt my mg mw mf mr L n fi c_ (w + 4) (nI ((N - 7) / 256)) (nI 0) (bl bs (4200 * c_ + w) 4 (eb N)) (bl bg (4200 * c_ + w) 4 fl) (va_up wv c_ (w + 4)) h1 (by omega) (up_self _ _ _) (vp_nar_z0)) [0, 1, 2, 3] [] rfl rfl (by decide) (by decide) (by decide) ⟨Nat.le_of_ble_eq_true rfl, Nat.le_of_ble_eq_true rfl⟩ rfl hl.1 rfl (Nat.le_of_ble_eq_true rfl) ⟨Nat.le_of_ble_eq_true rfl, Nat.le_of_ble_eq_true rfl⟩ d_Mo_fills_46 (fun u H locs hw hP hD hS => ?_)
  refine W.cs (cells' := 0) (slots' := 0) rfl rfl ?_
  have hP : va_P D classes [(mo, .inr (3, [.int (nI 0), .int (nI L), .ref mt, .int (nI n), .ref my, .ref mg, .ref mw, .ref mf, .ref mr, .int (nI fi)])), (my, .inl (ca 0, 8400, .inl (upd (bl bs (4200 * c_ + w) 4 (eb N)) (4200 * c_ + (w + 4)) (bz (nI ((N - 7) / 256)))))), (mg, .inl (ca 3, 8400, .inl (upd (bl bg (4200 * c_ + w) 4 fl) (4200 * c_ + (w + 4)) (nI 0)))), (mw, .inl (ca 1, 2, .inl (fun k => nI (va_up (va_up wv c_ (w + 4)) c_ (w + 4 + 1) k))))] H := hP
  have hD : va_D A [(mo, .inr (3, [.int (nI 0), .int (nI L), .ref mt, .int (nI n), .ref my, .ref mg, .ref mw, .ref mf, .ref mr, .int (nI fi)])), (my, .inl (ca 0, 8400, .inl (upd (bl bs (4200 * c_ + w) 4 (eb N)) (4200 * c_ + (w + 4)) (bz (nI ((N - 7) / 256)))))), (mg, .inl (ca 3, 8400, .inl (upd (bl bg (4200 * c_ + w) 4 fl) (4200 * c_ + (w + 4)) (nI 0)))), (mw, .inl (ca 1, 2, .inl (fun k => nI (va_up (va_up wv c_ (w + 4)) c_ (w + 4 + 1) k))))] := hD
  have e5 : upd (bl bs (4200 * c_ + w) 4 (eb N)) (4200 * c_ + (w + 4)) (bz (nI ((N - 7) / 256))) = bl bs (4200 * c_ + w) 5 (eb N) := by rw [← Nat.add_assoc (4200 * c_) w, show bz (nI ((N - 7) / 256)) = (eb N) 4 from rfl]; exact bl_s _ _ _ _
  have e6 : upd (bl bg (4200 * c_ + w) 4 fl) (4200 * c_ + (w + 4)) (nI 0) = bl bg (4200 * c_ + w) 5 fl := by rw [← Nat.add_assoc (4200 * c_) w, show nI 0 = fl 4 from rfl]; exact bl_s _ _ _ _
  have e7 : va_up (va_up wv c_ (w + 4)) c_ (w + 4 + 1) = va_up wv c_ (w + 5) := by rw [up_up, Nat.add_assoc w]
  rw [e5, e6, e7] at hP hD
  clear e5 e6 e7
  have hP : va_P D classes [(mo, .inr (3, [.int (nI 0), .int (nI L), .ref mt, .int (nI n), .ref my, .ref mg, .ref mw, .ref mf, .ref mr, .int (nI fi)])), (my, .inl (ca 0, 8400, .inl (bl bs (4200 * c_ + w) 5 (eb N)))), (mg, .inl (ca 3, 8400, .inl (bl bg (4200 * c_ + w) 5 fl))), (mw, .inl (ca 1, 2, .inl (fun k => nI (va_up wv c_ (w + 5) k))))] H := hP
  have hD : va_D A [(mo, .inr (3, [.int (nI 0), .int (nI L), .ref mt, .int (nI n), .ref my, .ref mg, .ref mw, .ref mf, .ref mr, .int (nI fi)])), (my, .inl (ca 0, 8400, .inl (bl bs (4200 * c_ + w) 5 (eb N)))), (mg, .inl (ca 3, 8400, .inl (bl bg (4200 * c_ + w) 5 fl))), (mw, .inl (ca 1, 2, .inl (fun k => nI (va_up wv c_ (w + 5) k))))] := hD
  refine lv_aload_n hx hb d_Mo_fills_49 rfl (lv_at hl 1 rfl) ?_
  refine lv_iload_n hx hb d_Mo_fills_50 rfl (lv_at hl 2 rfl) ?_
  refine lv_iload_n hx hb d_Mo_fills_51 rfl (lv_at hl 0 rfl) ?_
  refine lv_iconst (v := nI 0) hx hb d_Mo_fills_52 (by decide) ?_
  refine k_Vv (n := 3) (As := [.int (nI c_), .int (nI (N - 7)), .int (nI 0)]) (rest := []) (wc := [(mo, .inr (3, [.int (nI 0), .int (nI L), .ref mt, .int (nI n), .ref my, .ref mg, .ref mw, .ref mf, .ref mr, .int (nI fi)])), (my, .inl (ca 0, 8400, .inl (bl bs (4200 * c_ + w) 5 (eb N)))), (mg, .inl (ca 3, 8400, .inl (bl bg (4200 * c_ + w) 5 fl))), (mw, .inl (ca 1, 2, .inl (fun k => nI (va_up wv c_ (w + 5) k))))]) (wr := []) (ci := 3) (q0 := 0) S0 rfl q_190 q_192 q_p6 q_4 rfl rfl q_193 (by decide +kernel) hK hP hD hS hA (c_Mo_wait l D ca H.size mo mt my mg mw mf mr L n fi c_ (w + 5) (nI (N - 7)) (nI 0) (bl bs (4200 * c_ + w) 5 (eb N)) (bl bg (4200 * c_ + w) 5 fl) (va_up wv c_ (w + 5)) h1 (by omega) (up_self _ _ _) (vp_nar_z0)) [0, 1, 2, 3] [] rfl rfl (by decide) (by decide) (by decide) ⟨Nat.le_of_ble_eq_true rfl, Nat.le_of_ble_eq_true rfl⟩ rfl hl.1 rfl (Nat.le_of_ble_eq_true rfl) ⟨Nat.le_of_ble_eq_true rfl, Nat.le_of_ble_eq_true rfl⟩ d_Mo_fills_53 (fun u H locs hw hP hD hS => ?_)
  refine W.cs (cells' := 0) (slots' := 0) rfl rfl ?_
  have hP : va_P D classes [(mo, .inr (3, [.int (nI 0), .int (nI L), .ref mt, .int (nI n), .ref my, .ref mg, .ref mw, .ref mf, .ref mr, .int (nI fi)])), (my, .inl (ca 0, 8400, .inl (upd (bl bs (4200 * c_ + w) 5 (eb N)) (4200 * c_ + (w + 5)) (bz (nI (N - 7)))))), (mg, .inl (ca 3, 8400, .inl (upd (bl bg (4200 * c_ + w) 5 fl) (4200 * c_ + (w + 5)) (nI 0)))), (mw, .inl (ca 1, 2, .inl (fun k => nI (va_up (va_up wv c_ (w + 5)) c_ (w + 5 + 1) k))))] H := hP
  have hD : va_D A [(mo, .inr (3, [.int (nI 0), .int (nI L), .ref mt, .int (nI n), .ref my, .ref mg, .ref mw, .ref mf, .ref mr, .int (nI fi)])), (my, .inl (ca 0, 8400, .inl (upd (bl bs (4200 * c_ + w) 5 (eb N)) (4200 * c_ + (w + 5)) (bz (nI (N - 7)))))), (mg, .inl (ca 3, 8400, .inl (upd (bl bg (4200 * c_ + w) 5 fl) (4200 * c_ + (w + 5)) (nI 0)))), (mw, .inl (ca 1, 2, .inl (fun k => nI (va_up (va_up wv c_ (w + 5)) c_ (w + 5 + 1) k))))] := hD
  have e5 : upd (bl bs (4200 * c_ + w) 5 (eb N)) (4200 * c_ + (w + 5)) (bz (nI (N - 7))) = bl bs (4200 * c_ + w) 6 (eb N) := by rw [← Nat.add_assoc (4200 * c_) w, show bz (nI (N - 7)) = (eb N) 5 from rfl]; exact bl_s _ _ _ _
  have e6 : upd (bl bg (4200 * c_ + w) 5 fl) (4200 * c_ + (w + 5)) (nI 0) = bl bg (4200 * c_ + w) 6 fl := by rw [← Nat.add_assoc (4200 * c_) w, show nI 0 = fl 5 from rfl]; exact bl_s _ _ _ _
  have e7 : va_up (va_up wv c_ (w + 5)) c_ (w + 5 + 1) = va_up wv c_ (w + 6) := by rw [up_up, Nat.add_assoc w]
  rw [e5, e6, e7] at hP hD
  clear e5 e6 e7
  have hP : va_P D classes [(mo, .inr (3, [.int (nI 0), .int (nI L), .ref mt, .int (nI n), .ref my, .ref mg, .ref mw, .ref mf, .ref mr, .int (nI fi)])), (my, .inl (ca 0, 8400, .inl (bl bs (4200 * c_ + w) 6 (eb N)))), (mg, .inl (ca 3, 8400, .inl (bl bg (4200 * c_ + w) 6 fl))), (mw, .inl (ca 1, 2, .inl (fun k => nI (va_up wv c_ (w + 6) k))))] H := hP
  have hD : va_D A [(mo, .inr (3, [.int (nI 0), .int (nI L), .ref mt, .int (nI n), .ref my, .ref mg, .ref mw, .ref mf, .ref mr, .int (nI fi)])), (my, .inl (ca 0, 8400, .inl (bl bs (4200 * c_ + w) 6 (eb N)))), (mg, .inl (ca 3, 8400, .inl (bl bg (4200 * c_ + w) 6 fl))), (mw, .inl (ca 1, 2, .inl (fun k => nI (va_up wv c_ (w + 6) k))))] := hD
  refine lv_bipush (v := nI 6) hx hb d_Mo_fills_56 (by decide) ?_
  refine lv_istore (lv' := [(4, .int (nI 6)), (3, .int (nI (N - 7))), (0, .ref mo), (1, .int (nI c_)), (2, .int (nI N))]) hx hb d_Mo_fills_58 hl (by decide) rfl (fun ls hl => ?_)
  refine lp_Mo_fills mo mt my mg mw mf mr L n fi c_ w N bs bg wv h1 h2 h3 S0 hK hA (fun H locs ls hP hD hS hl => ?_) (N + 1) 0 _ _ ls (by omega) (by omega) hP hD hS (lv_sub hl [0, 2, 3, 4] rfl)
  exact k_vret hx hb hr hlk (()) (trivial) hP hD hS d_Mo_fills_80
set_option maxHeartbeats 1000000 in
set_option maxRecDepth 100000 in
theorem lp_Mo_first {p : Program} {l : Launch} {e : Env} {s : State} {m : MethodId} {args : Array Value} {below : List Frame} {meth : Method} {c : Code} {Q : State → Prop} {D : va_G} {ca : Nat → ClassId} {A : Nat → Prop} {H0 : Heap} (mo mt my mg mw mf mr : Nat) (L n fi c_ F : Nat) (bg : Nat → Int32) (h1 : c_ < 2) (h2 : F ≤ 256) (S0 : CallFix p m c b_Mo_first 4 s args gd_tbl "DownFramesModel") (hK : PW D ca s) (hA : ∀ q, H0.size ≤ q → A q) (kk : ∀ (k : Nat) (H : Heap) (locs : List Loc) (ls : Array Slot), (isF (fun i => bg (4200 * c_ + i)) F k) → va_P D classes [(mo, .inr (3, [.int (nI 0), .int (nI L), .ref mt, .int (nI n), .ref my, .ref mg, .ref mw, .ref mf, .ref mr, .int (nI fi)])), (mg, .inl (ca 3, 8400, .inl bg))] H → va_D A [(mo, .inr (3, [.int (nI 0), .int (nI L), .ref mt, .int (nI n), .ref my, .ref mg, .ref mw, .ref mf, .ref mr, .int (nI fi)])), (mg, .inl (ca 3, 8400, .inl bg))] → va_S A H0 H locs → lv_has ls 4 [(3, .int (nI k)), (0, .ref mo), (2, .int (nI F))] → W p l e ({ frames := 0, cells := 0, slots := 0, locals := 0 } : Room) s m args below meth c H locs 0 0 Q (F0 m 28 ls [])) :
    ∀ (nf : Nat) (k : Nat) (H : Heap) (locs : List Loc) (ls : Array Slot), F - k < nf → (k ≤ F) → (∀ i, i < k → bg (4200 * c_ + i) = nI 0) → va_P D classes [(mo, .inr (3, [.int (nI 0), .int (nI L), .ref mt, .int (nI n), .ref my, .ref mg, .ref mw, .ref mf, .ref mr, .int (nI fi)])), (mg, .inl (ca 3, 8400, .inl bg))] H → va_D A [(mo, .inr (3, [.int (nI 0), .int (nI L), .ref mt, .int (nI n), .ref my, .ref mg, .ref mw, .ref mf, .ref mr, .int (nI fi)])), (mg, .inl (ca 3, 8400, .inl bg))] → va_S A H0 H locs → lv_has ls 4 [(3, .int (nI k)), (0, .ref mo), (1, .int (nI c_)), (2, .int (nI F))] → W p l e ({ frames := 0, cells := 0, slots := 0, locals := 0 } : Room) s m args below meth c H locs 0 0 Q (F0 m 2 ls []) := by
  have hx := S0.1
  have hb := S0.2.1
  intro nf
  induction nf with
  | zero =>
    intro k H locs ls hm
    exact absurd hm (Nat.not_lt_zero _)
  | succ nf ih =>
    intro k H locs ls hm hk hz hP hD hS hl
    refine lv_iload_n hx hb d_Mo_first_2 rfl (lv_at hl 0 rfl) ?_
    refine lv_iload_n hx hb d_Mo_first_3 rfl (lv_at hl 3 rfl) ?_
    refine lz_icmp_ge (tgt := 28) hx hb (by omega) (by omega) d_Mo_first_4 (by decide) (fun h4 => ?_) (fun h4 => ?_)
    · have e9 : F = k := by omega
      subst e9
      exact kk F H locs ls ⟨Nat.le_refl _, hz, fun h => absurd h (Nat.lt_irrefl _)⟩ hP hD hS (lv_sub hl [0, 1, 3] rfl)
    · refine lv_aload_n hx hb d_Mo_first_7 rfl (lv_at hl 1 rfl) ?_
      refine gf_Mo_16 (q0 := 0) S0 hK hP rfl rfl d_Mo_first_8 ?_
      refine lv_sipush (v := nI 4200) hx hb d_Mo_first_11 (by decide) ?_
      refine lv_iload_n hx hb d_Mo_first_14 rfl (lv_at hl 2 rfl) ?_
      refine lz_imul hx hb d_Mo_first_15 ?_
      refine lv_iload_n hx hb d_Mo_first_16 rfl (lv_at hl 0 rfl) ?_
      refine lz_iadd hx hb d_Mo_first_17 ?_
      refine lz_zald (i := (4200 * c_) + k) hx hb hK.1 hP 1 3 rfl rfl (by omega) (by decide) d_Mo_first_18 ?_
      refine lv_if_ne (tgt := 28) hx hb d_Mo_first_19 (by decide) (fun h5 => ?_) (fun h5 => ?_)
      · exact kk k H locs ls ⟨by omega, hz, fun _ => by rw [nI_0]; exact h5⟩ hP hD hS (lv_sub hl [0, 1, 3] rfl)
      · refine lv_iinc (v := nI (k + 1)) (lv' := [(3, .int (nI (k + 1))), (0, .ref mo), (1, .int (nI c_)), (2, .int (nI F))]) hx hb d_Mo_first_22 hl (k := 0) rfl (nI_inc _) (by decide) rfl (fun ls hl => ?_)
        refine lv_goto (tgt := 2) hx hb d_Mo_first_25 (by decide) ?_
        exact ih (k + 1) H locs ls (by omega) (by omega) (fun i hi => by
          by_cases e : i = k
          · rw [e, nI_0]; exact h5
          · exact hz i (by omega)) hP hD hS (lv_sub hl [0, 1, 2, 3] rfl)
set_option maxHeartbeats 1000000 in
set_option maxRecDepth 100000 in
/-- the model: first -/
theorem c_Mo_first (l : Launch) (D : va_G) (ca : Nat → ClassId) (sz : Nat) (mo mt my mg mw mf mr : Nat) (L n fi c_ F : Nat) (bg : Nat → Int32) (h1 : c_ < 2) (h2 : F ≤ 256) : MetI l y_Mo_first b_Mo_first 4 (some .int) ({ frames := 0, cells := 0, slots := 0, locals := 0 } : Room) D ca [.ref mo, .int (nI c_), .int (nI F)] [(mo, .inr (3, [.int (nI 0), .int (nI L), .ref mt, .int (nI n), .ref my, .ref mg, .ref mw, .ref mf, .ref mr, .int (nI fi)])), (mg, .inl (ca 3, 8400, .inl bg))] sz (fun (r : Int32) (_ : Unit) => ∃ k, isF (fun i => bg (4200 * c_ + i)) F k ∧ r = nI (if k < F then k else 2047)) (fun _ => [(mo, .inr (3, [.int (nI 0), .int (nI L), .ref mt, .int (nI n), .ref my, .ref mg, .ref mw, .ref mf, .ref mr, .int (nI fi)])), (mg, .inl (ca 3, 8400, .inl bg))]) := by
  refine MetI.of (by decide) (Nat.le_of_ble_eq_true rfl) ?_
  intro p e s m below meth c A ls S0 hr hlk hK hP hD hA hl
  have hx := S0.1
  have hb := S0.2.1
  have hS : va_S A s.heap s.heap [] := va_S.rf
  have hP : va_P D classes [(mo, .inr (3, [.int (nI 0), .int (nI L), .ref mt, .int (nI n), .ref my, .ref mg, .ref mw, .ref mf, .ref mr, .int (nI fi)])), (mg, .inl (ca 3, 8400, .inl bg))] s.heap := hP
  have hD : va_D A [(mo, .inr (3, [.int (nI 0), .int (nI L), .ref mt, .int (nI n), .ref my, .ref mg, .ref mw, .ref mf, .ref mr, .int (nI fi)])), (mg, .inl (ca 3, 8400, .inl bg))] := hD
  have hl : lv_has ls 4 [(0, .ref mo), (1, .int (nI c_)), (2, .int (nI F))] := hl
  refine lv_iconst (v := nI 0) hx hb d_Mo_first_0 (by decide) ?_
  refine lv_istore_n (lv' := [(3, .int (nI 0)), (0, .ref mo), (1, .int (nI c_)), (2, .int (nI F))]) hx hb d_Mo_first_1 rfl hl (by decide) rfl (fun ls hl => ?_)
  refine lp_Mo_first mo mt my mg mw mf mr L n fi c_ F bg h1 h2 S0 hK hA (fun k H locs ls hF hP hD hS hl => ?_) (F + 1) 0 _ _ ls (by omega) (by omega) (fun i hi => absurd hi (Nat.not_lt_zero i)) hP hD hS (lv_sub hl [0, 1, 2, 3] rfl)
  have hkF := hF.1
  refine lv_iload_n hx hb d_Mo_first_28 rfl (lv_at hl 0 rfl) ?_
  refine lv_iload_n hx hb d_Mo_first_29 rfl (lv_at hl 2 rfl) ?_
  refine lz_icmp_ge (tgt := 37) hx hb (by omega) (by omega) d_Mo_first_30 (by decide) (fun h4 => ?_) (fun h4 => ?_)
  · refine lv_sipush (v := nI 2047) hx hb d_Mo_first_37 (by decide) ?_
    exact k_iret hx hb hr (rfl) hlk (()) (⟨k, hF, by rw [if_neg (by omega)]⟩) hP hD hS d_Mo_first_40
  · refine lv_iload_n hx hb d_Mo_first_33 rfl (lv_at hl 0 rfl) ?_
    refine lv_goto (tgt := 40) hx hb d_Mo_first_34 (by decide) ?_
    exact k_iret hx hb hr (rfl) hlk (()) (⟨k, hF, by rw [if_pos h4]⟩) hP hD hS d_Mo_first_40
set_option maxHeartbeats 1000000 in
set_option maxRecDepth 100000 in
theorem lp_Mo_leave {p : Program} {l : Launch} {e : Env} {s : State} {m : MethodId} {args : Array Value} {below : List Frame} {meth : Method} {c : Code} {Q : State → Prop} {D : va_G} {ca : Nat → ClassId} {A : Nat → Prop} {H0 : Heap} (mo mt my mg mw mf mr : Nat) (L n fi c_ w F : Nat) (bs bg : Nat → Int32) (wv : Nat → Nat) (h1 : c_ < 2) (h2 : w ≤ 4200) (h3 : F ≤ w) (hB : ∀ k, bz (bs k) = bs k) (hZ : ∀ k, vp_nar .boolean (bg k) = bg k) (S0 : CallFix p m c b_Mo_leave 4 s args gd_tbl "DownFramesModel") (hK : PW D ca s) (hA : ∀ q, H0.size ≤ q → A q) (kk : ∀  (H : Heap) (locs : List Loc) (ls : Array Slot), va_P D classes [(mo, .inr (3, [.int (nI 0), .int (nI L), .ref mt, .int (nI n), .ref my, .ref mg, .ref mw, .ref mf, .ref mr, .int (nI fi)])), (my, .inl (ca 0, 8400, .inl (bl bs (4200 * c_) (w - F) (fun i => bs (4200 * c_ + (i + F)))))), (mg, .inl (ca 3, 8400, .inl (bl bg (4200 * c_) (w - F) (fun i => bg (4200 * c_ + (i + F)))))), (mw, .inl (ca 1, 2, .inl (fun k => nI (va_up wv c_ (w - F) k))))] H → va_D A [(mo, .inr (3, [.int (nI 0), .int (nI L), .ref mt, .int (nI n), .ref my, .ref mg, .ref mw, .ref mf, .ref mr, .int (nI fi)])), (my, .inl (ca 0, 8400, .inl (bl bs (4200 * c_) (w - F) (fun i => bs (4200 * c_ + (i + F)))))), (mg, .inl (ca 3, 8400, .inl (bl bg (4200 * c_) (w - F) (fun i => bg (4200 * c_ + (i + F)))))), (mw, .inl (ca 1, 2, .inl (fun k => nI (va_up wv c_ (w - F) k))))] → va_S A H0 H locs → lv_has ls 4 [(0, .ref mo)] → W p l e ({ frames := 0, cells := 0, slots := 0, locals := 0 } : Room) s m args below meth c H locs 0 0 Q (F0 m 66 ls [])) :
    ∀ (nf : Nat) (j : Nat) (H : Heap) (locs : List Loc) (ls : Array Slot), w - F - j < nf → (j ≤ w - F) → va_P D classes [(mo, .inr (3, [.int (nI 0), .int (nI L), .ref mt, .int (nI n), .ref my, .ref mg, .ref mw, .ref mf, .ref mr, .int (nI fi)])), (my, .inl (ca 0, 8400, .inl (bl bs (4200 * c_) j (fun i => bs (4200 * c_ + (i + F)))))), (mg, .inl (ca 3, 8400, .inl (bl bg (4200 * c_) j (fun i => bg (4200 * c_ + (i + F)))))), (mw, .inl (ca 1, 2, .inl (fun k => nI (va_up wv c_ (w - F) k))))] H → va_D A [(mo, .inr (3, [.int (nI 0), .int (nI L), .ref mt, .int (nI n), .ref my, .ref mg, .ref mw, .ref mf, .ref mr, .int (nI fi)])), (my, .inl (ca 0, 8400, .inl (bl bs (4200 * c_) j (fun i => bs (4200 * c_ + (i + F)))))), (mg, .inl (ca 3, 8400, .inl (bl bg (4200 * c_) j (fun i => bg (4200 * c_ + (i + F)))))), (mw, .inl (ca 1, 2, .inl (fun k => nI (va_up wv c_ (w - F) k))))] → va_S A H0 H locs → lv_has ls 4 [(3, .int (nI (4200 * c_ + j))), (0, .ref mo), (1, .int (nI c_)), (2, .int (nI F))] → W p l e ({ frames := 0, cells := 0, slots := 0, locals := 0 } : Room) s m args below meth c H locs 0 0 Q (F0 m 16 ls []) := by
  have hx := S0.1
  have hb := S0.2.1
  intro nf
  induction nf with
  | zero =>
    intro j H locs ls hm
    exact absurd hm (Nat.not_lt_zero _)
  | succ nf ih =>
    intro j H locs ls hm hj hP hD hS hl
    refine lv_iload_n hx hb d_Mo_leave_16 rfl (lv_at hl 0 rfl) ?_
    refine lv_sipush (v := nI 4200) hx hb d_Mo_leave_17 (by decide) ?_
    refine lv_iload_n hx hb d_Mo_leave_20 rfl (lv_at hl 2 rfl) ?_
    refine lz_imul hx hb d_Mo_leave_21 ?_
    refine lv_aload_n hx hb d_Mo_leave_22 rfl (lv_at hl 1 rfl) ?_
    refine gf_Mo_20 (q0 := 0) S0 hK hP rfl rfl d_Mo_leave_23 ?_
    refine lv_iload_n hx hb d_Mo_leave_26 rfl (lv_at hl 2 rfl) ?_
    refine lz_iald (i := c_) hx hb hK.1 hP 3 1 rfl rfl (by omega) (by decide) d_Mo_leave_27 ?_
    refine lz_top (y := nI (w - F)) (by rw [up_self]) ?_
    refine lz_iadd hx hb d_Mo_leave_28 ?_
    refine lz_icmp_ge (tgt := 66) hx hb (by omega) (by omega) d_Mo_leave_29 (by decide) (fun h4 => ?_) (fun h4 => ?_)
    · have e9 : w - F = j := by omega
      subst e9
      exact kk H locs ls hP hD hS (lv_sub hl [1] rfl)
    · refine lv_aload_n hx hb d_Mo_leave_32 rfl (lv_at hl 1 rfl) ?_
      refine gf_Mo_13 (q0 := 0) S0 hK hP rfl rfl d_Mo_leave_33 ?_
      refine lv_iload_n hx hb d_Mo_leave_36 rfl (lv_at hl 0 rfl) ?_
      refine lv_aload_n hx hb d_Mo_leave_37 rfl (lv_at hl 1 rfl) ?_
      refine gf_Mo_13 (q0 := 0) S0 hK hP rfl rfl d_Mo_leave_38 ?_
      refine lv_iload_n hx hb d_Mo_leave_41 rfl (lv_at hl 0 rfl) ?_
      refine lv_iload_n hx hb d_Mo_leave_42 rfl (lv_at hl 3 rfl) ?_
      refine lz_iadd hx hb d_Mo_leave_43 ?_
      refine lz_bald (i := (4200 * c_ + j) + F) hx hb hK.1 hP 1 0 rfl rfl (by omega) (by decide) d_Mo_leave_44 ?_
      refine lz_top (y := bs (4200 * c_ + (j + F))) (by rw [bl_out (by omega), Nat.add_assoc]) ?_
      refine lz_bast (i := 4200 * c_ + j) hx hb hK.1 hP hD hS 1 0 rfl rfl (by omega) (by decide) d_Mo_leave_45 (fun H locs hP hD hS => ?_)
      have hP : va_P D classes [(mo, .inr (3, [.int (nI 0), .int (nI L), .ref mt, .int (nI n), .ref my, .ref mg, .ref mw, .ref mf, .ref mr, .int (nI fi)])), (my, .inl (ca 0, 8400, .inl (upd (bl bs (4200 * c_) j (fun i => bs (4200 * c_ + (i + F)))) (4200 * c_ + j) (bz (bs (4200 * c_ + (j + F))))))), (mg, .inl (ca 3, 8400, .inl (bl bg (4200 * c_) j (fun i => bg (4200 * c_ + (i + F)))))), (mw, .inl (ca 1, 2, .inl (fun k => nI (va_up wv c_ (w - F) k))))] H := hP
      have hD : va_D A [(mo, .inr (3, [.int (nI 0), .int (nI L), .ref mt, .int (nI n), .ref my, .ref mg, .ref mw, .ref mf, .ref mr, .int (nI fi)])), (my, .inl (ca 0, 8400, .inl (upd (bl bs (4200 * c_) j (fun i => bs (4200 * c_ + (i + F)))) (4200 * c_ + j) (bz (bs (4200 * c_ + (j + F))))))), (mg, .inl (ca 3, 8400, .inl (bl bg (4200 * c_) j (fun i => bg (4200 * c_ + (i + F)))))), (mw, .inl (ca 1, 2, .inl (fun k => nI (va_up wv c_ (w - F) k))))] := hD
      have e9 : upd (bl bs (4200 * c_) j (fun i => bs (4200 * c_ + (i + F)))) (4200 * c_ + j) (bz (bs (4200 * c_ + (j + F)))) = bl bs (4200 * c_) (j + 1) (fun i => bs (4200 * c_ + (i + F))) := by rw [hB]; exact bl_s bs (fun i => bs (4200 * c_ + (i + F))) (4200 * c_) j
      rw [e9] at hP hD
      clear e9
      have hP : va_P D classes [(mo, .inr (3, [.int (nI 0), .int (nI L), .ref mt, .int (nI n), .ref my, .ref mg, .ref mw, .ref mf, .ref mr, .int (nI fi)])), (my, .inl (ca 0, 8400, .inl (bl bs (4200 * c_) (j + 1) (fun i => bs (4200 * c_ + (i + F)))))), (mg, .inl (ca 3, 8400, .inl (bl bg (4200 * c_) j (fun i => bg (4200 * c_ + (i + F)))))), (mw, .inl (ca 1, 2, .inl (fun k => nI (va_up wv c_ (w - F) k))))] H := hP
      have hD : va_D A [(mo, .inr (3, [.int (nI 0), .int (nI L), .ref mt, .int (nI n), .ref my, .ref mg, .ref mw, .ref mf, .ref mr, .int (nI fi)])), (my, .inl (ca 0, 8400, .inl (bl bs (4200 * c_) (j + 1) (fun i => bs (4200 * c_ + (i + F)))))), (mg, .inl (ca 3, 8400, .inl (bl bg (4200 * c_) j (fun i => bg (4200 * c_ + (i + F)))))), (mw, .inl (ca 1, 2, .inl (fun k => nI (va_up wv c_ (w - F) k))))] := hD
      refine lv_aload_n hx hb d_Mo_leave_46 rfl (lv_at hl 1 rfl) ?_
      refine gf_Mo_16 (q0 := 0) S0 hK hP rfl rfl d_Mo_leave_47 ?_
      refine lv_iload_n hx hb d_Mo_leave_50 rfl (lv_at hl 0 rfl) ?_
      refine lv_aload_n hx hb d_Mo_leave_51 rfl (lv_at hl 1 rfl) ?_
      refine gf_Mo_16 (q0 := 0) S0 hK hP rfl rfl d_Mo_leave_52 ?_
      refine lv_iload_n hx hb d_Mo_leave_55 rfl (lv_at hl 0 rfl) ?_
      refine lv_iload_n hx hb d_Mo_leave_56 rfl (lv_at hl 3 rfl) ?_
      refine lz_iadd hx hb d_Mo_leave_57 ?_
      refine lz_zald (i := (4200 * c_ + j) + F) hx hb hK.1 hP 2 3 rfl rfl (by omega) (by decide) d_Mo_leave_58 ?_
      refine lz_top (y := bg (4200 * c_ + (j + F))) (by rw [bl_out (by omega), Nat.add_assoc]) ?_
      refine lz_zast (i := 4200 * c_ + j) hx hb hK.1 hP hD hS 2 3 rfl rfl (by omega) (by decide) d_Mo_leave_59 (fun H locs hP hD hS => ?_)
      have hP : va_P D classes [(mo, .inr (3, [.int (nI 0), .int (nI L), .ref mt, .int (nI n), .ref my, .ref mg, .ref mw, .ref mf, .ref mr, .int (nI fi)])), (my, .inl (ca 0, 8400, .inl (bl bs (4200 * c_) (j + 1) (fun i => bs (4200 * c_ + (i + F)))))), (mg, .inl (ca 3, 8400, .inl (upd (bl bg (4200 * c_) j (fun i => bg (4200 * c_ + (i + F)))) (4200 * c_ + j) (vp_nar .boolean (bg (4200 * c_ + (j + F))))))), (mw, .inl (ca 1, 2, .inl (fun k => nI (va_up wv c_ (w - F) k))))] H := hP
      have hD : va_D A [(mo, .inr (3, [.int (nI 0), .int (nI L), .ref mt, .int (nI n), .ref my, .ref mg, .ref mw, .ref mf, .ref mr, .int (nI fi)])), (my, .inl (ca 0, 8400, .inl (bl bs (4200 * c_) (j + 1) (fun i => bs (4200 * c_ + (i + F)))))), (mg, .inl (ca 3, 8400, .inl (upd (bl bg (4200 * c_) j (fun i => bg (4200 * c_ + (i + F)))) (4200 * c_ + j) (vp_nar .boolean (bg (4200 * c_ + (j + F))))))), (mw, .inl (ca 1, 2, .inl (fun k => nI (va_up wv c_ (w - F) k))))] := hD
      have e9 : upd (bl bg (4200 * c_) j (fun i => bg (4200 * c_ + (i + F)))) (4200 * c_ + j) (vp_nar .boolean (bg (4200 * c_ + (j + F)))) = bl bg (4200 * c_) (j + 1) (fun i => bg (4200 * c_ + (i + F))) := by rw [hZ]; exact bl_s bg (fun i => bg (4200 * c_ + (i + F))) (4200 * c_) j
      rw [e9] at hP hD
      clear e9
      have hP : va_P D classes [(mo, .inr (3, [.int (nI 0), .int (nI L), .ref mt, .int (nI n), .ref my, .ref mg, .ref mw, .ref mf, .ref mr, .int (nI fi)])), (my, .inl (ca 0, 8400, .inl (bl bs (4200 * c_) (j + 1) (fun i => bs (4200 * c_ + (i + F)))))), (mg, .inl (ca 3, 8400, .inl (bl bg (4200 * c_) (j + 1) (fun i => bg (4200 * c_ + (i + F)))))), (mw, .inl (ca 1, 2, .inl (fun k => nI (va_up wv c_ (w - F) k))))] H := hP
      have hD : va_D A [(mo, .inr (3, [.int (nI 0), .int (nI L), .ref mt, .int (nI n), .ref my, .ref mg, .ref mw, .ref mf, .ref mr, .int (nI fi)])), (my, .inl (ca 0, 8400, .inl (bl bs (4200 * c_) (j + 1) (fun i => bs (4200 * c_ + (i + F)))))), (mg, .inl (ca 3, 8400, .inl (bl bg (4200 * c_) (j + 1) (fun i => bg (4200 * c_ + (i + F)))))), (mw, .inl (ca 1, 2, .inl (fun k => nI (va_up wv c_ (w - F) k))))] := hD
      refine lv_iinc (v := nI (4200 * c_ + j + 1)) (lv' := [(3, .int (nI (4200 * c_ + j + 1))), (0, .ref mo), (1, .int (nI c_)), (2, .int (nI F))]) hx hb d_Mo_leave_60 hl (k := 0) rfl (nI_inc _) (by decide) rfl (fun ls hl => ?_)
      refine lv_goto (tgt := 16) hx hb d_Mo_leave_63 (by decide) ?_
      exact ih (j + 1) H locs ls (by omega) (by omega) hP hD hS (lv_sub hl [0, 1, 2, 3] rfl)
set_option maxHeartbeats 1000000 in
set_option maxRecDepth 100000 in
/-- the model: leave -/
theorem c_Mo_leave (l : Launch) (D : va_G) (ca : Nat → ClassId) (sz : Nat) (mo mt my mg mw mf mr : Nat) (L n fi c_ w F : Nat) (bs bg : Nat → Int32) (wv : Nat → Nat) (h1 : c_ < 2) (h2 : w ≤ 4200) (h3 : F ≤ w) (hB : ∀ k, bz (bs k) = bs k) (hZ : ∀ k, vp_nar .boolean (bg k) = bg k) (hw : wv c_ = w) : MetV l y_Mo_leave b_Mo_leave 4 ({ frames := 0, cells := 0, slots := 0, locals := 0 } : Room) D ca [.ref mo, .int (nI c_), .int (nI F)] [(mo, .inr (3, [.int (nI 0), .int (nI L), .ref mt, .int (nI n), .ref my, .ref mg, .ref mw, .ref mf, .ref mr, .int (nI fi)])), (my, .inl (ca 0, 8400, .inl bs)), (mg, .inl (ca 3, 8400, .inl bg)), (mw, .inl (ca 1, 2, .inl (fun k => nI (wv k))))] sz (fun _ : Unit => True) (fun _ => [(mo, .inr (3, [.int (nI 0), .int (nI L), .ref mt, .int (nI n), .ref my, .ref mg, .ref mw, .ref mf, .ref mr, .int (nI fi)])), (my, .inl (ca 0, 8400, .inl (bl bs (4200 * c_) (w - F) (fun i => bs (4200 * c_ + (i + F)))))), (mg, .inl (ca 3, 8400, .inl (bl bg (4200 * c_) (w - F) (fun i => bg (4200 * c_ + (i + F)))))), (mw, .inl (ca 1, 2, .inl (fun k => nI (va_up wv c_ (w - F) k))))]) := by
  refine MetV.of (by decide) (Nat.le_of_ble_eq_true rfl) ?_
  intro p e s m below meth c A ls S0 hr hlk hK hP hD hA hl hnm
  have hx := S0.1
  have hb := S0.2.1
  have hS : va_S A s.heap s.heap [] := va_S.rf
  have hP : va_P D classes [(mo, .inr (3, [.int (nI 0), .int (nI L), .ref mt, .int (nI n), .ref my, .ref mg, .ref mw, .ref mf, .ref mr, .int (nI fi)])), (my, .inl (ca 0, 8400, .inl bs)), (mg, .inl (ca 3, 8400, .inl bg)), (mw, .inl (ca 1, 2, .inl (fun k => nI (wv k))))] s.heap := hP
  have hD : va_D A [(mo, .inr (3, [.int (nI 0), .int (nI L), .ref mt, .int (nI n), .ref my, .ref mg, .ref mw, .ref mf, .ref mr, .int (nI fi)])), (my, .inl (ca 0, 8400, .inl bs)), (mg, .inl (ca 3, 8400, .inl bg)), (mw, .inl (ca 1, 2, .inl (fun k => nI (wv k))))] := hD
  have hl : lv_has ls 4 [(0, .ref mo), (1, .int (nI c_)), (2, .int (nI F))] := hl
  refine lv_aload_n hx hb d_Mo_leave_0 rfl (lv_at hl 0 rfl) ?_
  refine gf_Mo_20 (q0 := 0) S0 hK hP rfl rfl d_Mo_leave_1 ?_
  refine lv_iload_n hx hb d_Mo_leave_4 rfl (lv_at hl 1 rfl) ?_
  refine lv_dup2_11 hx hb d_Mo_leave_5 rfl rfl ?_
  refine lz_iald (i := c_) hx hb hK.1 hP 3 1 rfl rfl (by omega) (by decide) d_Mo_leave_6 ?_
  refine lz_top (y := nI w) (by rw [hw]) ?_
  refine lv_iload_n hx hb d_Mo_leave_7 rfl (lv_at hl 2 rfl) ?_
  refine lz_isub hx hb (by omega) d_Mo_leave_8 ?_
  refine lz_iast (i := c_) hx hb hK.1 hP hD hS 3 1 rfl rfl (by omega) (by decide) d_Mo_leave_9 (fun H locs hP hD hS => ?_)
  have hP : va_P D classes [(mo, .inr (3, [.int (nI 0), .int (nI L), .ref mt, .int (nI n), .ref my, .ref mg, .ref mw, .ref mf, .ref mr, .int (nI fi)])), (my, .inl (ca 0, 8400, .inl bs)), (mg, .inl (ca 3, 8400, .inl bg)), (mw, .inl (ca 1, 2, .inl (upd (fun k => nI (wv k)) c_ (nI (w - F)))))] H := hP
  have hD : va_D A [(mo, .inr (3, [.int (nI 0), .int (nI L), .ref mt, .int (nI n), .ref my, .ref mg, .ref mw, .ref mf, .ref mr, .int (nI fi)])), (my, .inl (ca 0, 8400, .inl bs)), (mg, .inl (ca 3, 8400, .inl bg)), (mw, .inl (ca 1, 2, .inl (upd (fun k => nI (wv k)) c_ (nI (w - F)))))] := hD
  have e9 : upd (fun k => nI (wv k)) c_ (nI (w - F)) = fun k => nI (va_up wv c_ (w - F) k) := updN wv c_ (w - F)
  rw [e9] at hP hD
  clear e9
  have hP : va_P D classes [(mo, .inr (3, [.int (nI 0), .int (nI L), .ref mt, .int (nI n), .ref my, .ref mg, .ref mw, .ref mf, .ref mr, .int (nI fi)])), (my, .inl (ca 0, 8400, .inl bs)), (mg, .inl (ca 3, 8400, .inl bg)), (mw, .inl (ca 1, 2, .inl (fun k => nI (va_up wv c_ (w - F) k))))] H := hP
  have hD : va_D A [(mo, .inr (3, [.int (nI 0), .int (nI L), .ref mt, .int (nI n), .ref my, .ref mg, .ref mw, .ref mf, .ref mr, .int (nI fi)])), (my, .inl (ca 0, 8400, .inl bs)), (mg, .inl (ca 3, 8400, .inl bg)), (mw, .inl (ca 1, 2, .inl (fun k => nI (va_up wv c_ (w - F) k))))] := hD
  refine lv_sipush (v := nI 4200) hx hb d_Mo_leave_10 (by decide) ?_
  refine lv_iload_n hx hb d_Mo_leave_13 rfl (lv_at hl 1 rfl) ?_
  refine lz_imul hx hb d_Mo_leave_14 ?_
  refine lv_istore_n (lv' := [(3, .int (nI (4200 * c_))), (0, .ref mo), (1, .int (nI c_)), (2, .int (nI F))]) hx hb d_Mo_leave_15 rfl hl (by decide) rfl (fun ls hl => ?_)
  have e0 : bs = bl bs (4200 * c_) 0 (fun i => bs (4200 * c_ + (i + F))) := (bl_0 _ _ _).symm
  have e1 : bg = bl bg (4200 * c_) 0 (fun i => bg (4200 * c_ + (i + F))) := (bl_0 _ _ _).symm
  have hP : va_P D classes [(mo, .inr (3, [.int (nI 0), .int (nI L), .ref mt, .int (nI n), .ref my, .ref mg, .ref mw, .ref mf, .ref mr, .int (nI fi)])), (my, .inl (ca 0, 8400, .inl (bl bs (4200 * c_) 0 (fun i => bs (4200 * c_ + (i + F)))))), (mg, .inl (ca 3, 8400, .inl (bl bg (4200 * c_) 0 (fun i => bg (4200 * c_ + (i + F)))))), (mw, .inl (ca 1, 2, .inl (fun k => nI (va_up wv c_ (w - F) k))))] H := by rw [← e0, ← e1]; exact hP
  have hD : va_D A [(mo, .inr (3, [.int (nI 0), .int (nI L), .ref mt, .int (nI n), .ref my, .ref mg, .ref mw, .ref mf, .ref mr, .int (nI fi)])), (my, .inl (ca 0, 8400, .inl (bl bs (4200 * c_) 0 (fun i => bs (4200 * c_ + (i + F)))))), (mg, .inl (ca 3, 8400, .inl (bl bg (4200 * c_) 0 (fun i => bg (4200 * c_ + (i + F)))))), (mw, .inl (ca 1, 2, .inl (fun k => nI (va_up wv c_ (w - F) k))))] := by rw [← e0, ← e1]; exact hD
  refine lp_Mo_leave mo mt my mg mw mf mr L n fi c_ w F bs bg wv h1 h2 h3 hB hZ S0 hK hA (fun H locs ls hP hD hS hl => ?_) (w + 1) 0 _ _ ls (by omega) (by omega) hP hD hS (lv_sub hl [0, 1, 2, 3] rfl)
  exact k_vret hx hb hr hlk (()) (trivial) hP hD hS d_Mo_leave_66
set_option maxHeartbeats 1000000 in
set_option maxRecDepth 100000 in
/-- the model: byteAt -/
theorem c_Mo_byteAt (l : Launch) (D : va_G) (ca : Nat → ClassId) (sz : Nat) (mo mt my mg mw mf mr : Nat) (L n fi : Nat) (y : Int32) (mfr : Nat → Int32) (h1 : fi ≤ 256) : MetI l y_Mo_byteAt b_Mo_byteAt 2 (some .int) ({ frames := 0, cells := 0, slots := 0, locals := 0 } : Room) D ca [.ref mo, .int y] [(mo, .inr (3, [.int (nI 0), .int (nI L), .ref mt, .int (nI n), .ref my, .ref mg, .ref mw, .ref mf, .ref mr, .int (nI fi)])), (mr, .inl (ca 0, 256, .inl mfr))] sz (fun (r : Int32) (_ : Unit) => r = byR y fi mfr) (fun _ => [(mo, .inr (3, [.int (nI 0), .int (nI L), .ref mt, .int (nI n), .ref my, .ref mg, .ref mw, .ref mf, .ref mr, .int (nI fi)])), (mr, .inl (ca 0, 256, .inl mfr))]) := by
  refine MetI.of (by decide) (Nat.le_of_ble_eq_true rfl) ?_
  intro p e s m below meth c A ls S0 hr hlk hK hP hD hA hl
  have hx := S0.1
  have hb := S0.2.1
  have hS : va_S A s.heap s.heap [] := va_S.rf
  have hP : va_P D classes [(mo, .inr (3, [.int (nI 0), .int (nI L), .ref mt, .int (nI n), .ref my, .ref mg, .ref mw, .ref mf, .ref mr, .int (nI fi)])), (mr, .inl (ca 0, 256, .inl mfr))] s.heap := hP
  have hD : va_D A [(mo, .inr (3, [.int (nI 0), .int (nI L), .ref mt, .int (nI n), .ref my, .ref mg, .ref mw, .ref mf, .ref mr, .int (nI fi)])), (mr, .inl (ca 0, 256, .inl mfr))] := hD
  have hl : lv_has ls 2 [(0, .ref mo), (1, .int y)] := hl
  rcases pk_ix y (n := fi) (by omega) with g1 | g1 | ⟨j, g1, rfl⟩
  · refine lv_aload_n hx hb d_Mo_byteAt_0 rfl (lv_at hl 0 rfl) ?_
    refine lv_iconst (v := nI 0) hx hb d_Mo_byteAt_1 (by decide) ?_
    refine pf_Mo_34 (q0 := 0) S0 hK hP hD hS rfl rfl rfl (Nat.le_of_ble_eq_true rfl) d_Mo_byteAt_2 (fun H locs hP hD hS => ?_)
    have hP : va_P D classes [(mo, .inr (3, [.int (nI 0), .int (nI L), .ref mt, .int (nI n), .ref my, .ref mg, .ref mw, .ref mf, .ref mr, .int (nI fi)])), (mr, .inl (ca 0, 256, .inl mfr))] H := hP
    have hD : va_D A [(mo, .inr (3, [.int (nI 0), .int (nI L), .ref mt, .int (nI n), .ref my, .ref mg, .ref mw, .ref mf, .ref mr, .int (nI fi)])), (mr, .inl (ca 0, 256, .inl mfr))] := hD
    refine lv_iload_n hx hb d_Mo_byteAt_5 rfl (lv_at hl 1 rfl) ?_
    refine lv_if_lt (tgt := 30) hx hb d_Mo_byteAt_6 (by decide) (fun h9 => ?_) (fun h9 => ?_)
    · refine lv_iconst (v := (-1)) hx hb d_Mo_byteAt_30 (by decide) ?_
      exact k_iret hx hb hr (rfl) hlk (()) (by rw [byR_out _ (Or.inl g1)]) hP hD hS d_Mo_byteAt_31
    · exact absurd g1 h9
  · refine lv_aload_n hx hb d_Mo_byteAt_0 rfl (lv_at hl 0 rfl) ?_
    refine lv_iconst (v := nI 0) hx hb d_Mo_byteAt_1 (by decide) ?_
    refine pf_Mo_34 (q0 := 0) S0 hK hP hD hS rfl rfl rfl (Nat.le_of_ble_eq_true rfl) d_Mo_byteAt_2 (fun H locs hP hD hS => ?_)
    have hP : va_P D classes [(mo, .inr (3, [.int (nI 0), .int (nI L), .ref mt, .int (nI n), .ref my, .ref mg, .ref mw, .ref mf, .ref mr, .int (nI fi)])), (mr, .inl (ca 0, 256, .inl mfr))] H := hP
    have hD : va_D A [(mo, .inr (3, [.int (nI 0), .int (nI L), .ref mt, .int (nI n), .ref my, .ref mg, .ref mw, .ref mf, .ref mr, .int (nI fi)])), (mr, .inl (ca 0, 256, .inl mfr))] := hD
    refine lv_iload_n hx hb d_Mo_byteAt_5 rfl (lv_at hl 1 rfl) ?_
    refine lv_if_lt (tgt := 30) hx hb d_Mo_byteAt_6 (by decide) (fun h9 => ?_) (fun h9 => ?_)
    · refine lv_iconst (v := (-1)) hx hb d_Mo_byteAt_30 (by decide) ?_
      exact k_iret hx hb hr (rfl) hlk (()) (by rw [byR_out _ (Or.inl h9)]) hP hD hS d_Mo_byteAt_31
    · refine lv_iload_n hx hb d_Mo_byteAt_9 rfl (lv_at hl 1 rfl) ?_
      refine lv_aload_n hx hb d_Mo_byteAt_10 rfl (lv_at hl 0 rfl) ?_
      refine gf_Mo_44 (q0 := 0) S0 hK hP rfl rfl d_Mo_byteAt_11 ?_
      refine lv_icmp_ge (tgt := 30) hx hb d_Mo_byteAt_14 (by decide) (fun h8 => ?_) (fun h8 => ?_)
      · refine lv_iconst (v := (-1)) hx hb d_Mo_byteAt_30 (by decide) ?_
        exact k_iret hx hb hr (rfl) hlk (()) (by rw [byR_out _ (Or.inr g1)]) hP hD hS d_Mo_byteAt_31
      · exact absurd g1 h8
  · refine lv_aload_n hx hb d_Mo_byteAt_0 rfl (lv_at hl 0 rfl) ?_
    refine lv_iconst (v := nI 0) hx hb d_Mo_byteAt_1 (by decide) ?_
    refine pf_Mo_34 (q0 := 0) S0 hK hP hD hS rfl rfl rfl (Nat.le_of_ble_eq_true rfl) d_Mo_byteAt_2 (fun H locs hP hD hS => ?_)
    have hP : va_P D classes [(mo, .inr (3, [.int (nI 0), .int (nI L), .ref mt, .int (nI n), .ref my, .ref mg, .ref mw, .ref mf, .ref mr, .int (nI fi)])), (mr, .inl (ca 0, 256, .inl mfr))] H := hP
    have hD : va_D A [(mo, .inr (3, [.int (nI 0), .int (nI L), .ref mt, .int (nI n), .ref my, .ref mg, .ref mw, .ref mf, .ref mr, .int (nI fi)])), (mr, .inl (ca 0, 256, .inl mfr))] := hD
    refine lv_iload_n hx hb d_Mo_byteAt_5 rfl (lv_at hl 1 rfl) ?_
    refine lv_if_lt (tgt := 30) hx hb d_Mo_byteAt_6 (by decide) (fun h9 => ?_) (fun h9 => ?_)
    · exact absurd h9 (nI_pos (by omega))
    · refine lv_iload_n hx hb d_Mo_byteAt_9 rfl (lv_at hl 1 rfl) ?_
      refine lv_aload_n hx hb d_Mo_byteAt_10 rfl (lv_at hl 0 rfl) ?_
      refine gf_Mo_44 (q0 := 0) S0 hK hP rfl rfl d_Mo_byteAt_11 ?_
      refine lz_icmp_ge (tgt := 30) hx hb (by omega) (by omega) d_Mo_byteAt_14 (by decide) (fun h8 => ?_) (fun h8 => ?_)
      · exfalso
        omega
      · refine lv_aload_n hx hb d_Mo_byteAt_17 rfl (lv_at hl 0 rfl) ?_
        refine gf_Mo_27 (q0 := 0) S0 hK hP rfl rfl d_Mo_byteAt_18 ?_
        refine lv_iload_n hx hb d_Mo_byteAt_21 rfl (lv_at hl 1 rfl) ?_
        refine lz_bald (i := j) hx hb hK.1 hP 1 0 rfl rfl (by omega) (by decide) d_Mo_byteAt_22 ?_
        refine lv_sipush (v := nI 255) hx hb d_Mo_byteAt_23 (by decide) ?_
        refine lz_and255 hx hb d_Mo_byteAt_26 ?_
        refine lv_goto (tgt := 31) hx hb d_Mo_byteAt_27 (by decide) ?_
        exact k_iret hx hb hr (rfl) hlk (()) (by rw [byR_in _ g1 (by omega)]) hP hD hS d_Mo_byteAt_31
set_option maxHeartbeats 1000000 in
set_option maxRecDepth 100000 in
/-- the model: waiting -/
theorem c_Mo_waiting (l : Launch) (D : va_G) (ca : Nat → ClassId) (sz : Nat) (mo mt my mg mw mf mr : Nat) (L n fi : Nat) (y : Int32) (wv : Nat → Nat) : MetI l y_Mo_waiting b_Mo_waiting 2 (some .int) ({ frames := 0, cells := 0, slots := 0, locals := 0 } : Room) D ca [.ref mo, .int y] [(mo, .inr (3, [.int (nI 0), .int (nI L), .ref mt, .int (nI n), .ref my, .ref mg, .ref mw, .ref mf, .ref mr, .int (nI fi)])), (mw, .inl (ca 1, 2, .inl (fun k => nI (wv k))))] sz (fun (r : Int32) (_ : Unit) => r = wtR y (wv 0) (wv 1)) (fun _ => [(mo, .inr (3, [.int (nI 0), .int (nI L), .ref mt, .int (nI n), .ref my, .ref mg, .ref mw, .ref mf, .ref mr, .int (nI fi)])), (mw, .inl (ca 1, 2, .inl (fun k => nI (wv k))))]) := by
  refine MetI.of (by decide) (Nat.le_of_ble_eq_true rfl) ?_
  intro p e s m below meth c A ls S0 hr hlk hK hP hD hA hl
  have hx := S0.1
  have hb := S0.2.1
  have hS : va_S A s.heap s.heap [] := va_S.rf
  have hP : va_P D classes [(mo, .inr (3, [.int (nI 0), .int (nI L), .ref mt, .int (nI n), .ref my, .ref mg, .ref mw, .ref mf, .ref mr, .int (nI fi)])), (mw, .inl (ca 1, 2, .inl (fun k => nI (wv k))))] s.heap := hP
  have hD : va_D A [(mo, .inr (3, [.int (nI 0), .int (nI L), .ref mt, .int (nI n), .ref my, .ref mg, .ref mw, .ref mf, .ref mr, .int (nI fi)])), (mw, .inl (ca 1, 2, .inl (fun k => nI (wv k))))] := hD
  have hl : lv_has ls 2 [(0, .ref mo), (1, .int y)] := hl
  rcases c_cases y with ⟨g1, g2, g3⟩ | ⟨g1, g4, g2, g3⟩ | rfl | rfl
  · refine lv_aload_n hx hb d_Mo_waiting_0 rfl (lv_at hl 0 rfl) ?_
    refine lv_iconst (v := nI 0) hx hb d_Mo_waiting_1 (by decide) ?_
    refine pf_Mo_34 (q0 := 0) S0 hK hP hD hS rfl rfl rfl (Nat.le_of_ble_eq_true rfl) d_Mo_waiting_2 (fun H locs hP hD hS => ?_)
    have hP : va_P D classes [(mo, .inr (3, [.int (nI 0), .int (nI L), .ref mt, .int (nI n), .ref my, .ref mg, .ref mw, .ref mf, .ref mr, .int (nI fi)])), (mw, .inl (ca 1, 2, .inl (fun k => nI (wv k))))] H := hP
    have hD : va_D A [(mo, .inr (3, [.int (nI 0), .int (nI L), .ref mt, .int (nI n), .ref my, .ref mg, .ref mw, .ref mf, .ref mr, .int (nI fi)])), (mw, .inl (ca 1, 2, .inl (fun k => nI (wv k))))] := hD
    refine lv_iload_n hx hb d_Mo_waiting_5 rfl (lv_at hl 1 rfl) ?_
    refine lv_if_eq (tgt := 14) hx hb d_Mo_waiting_6 (by decide) (fun h9 => ?_) (fun h9 => ?_)
    · exact absurd (h9.trans nI_0.symm) g2
    · refine lv_iload_n hx hb d_Mo_waiting_9 rfl (lv_at hl 1 rfl) ?_
      refine lv_iconst (v := nI 1) hx hb d_Mo_waiting_10 (by decide) ?_
      refine lv_icmp_ne (tgt := 23) hx hb d_Mo_waiting_11 (by decide) (fun h8 => ?_) (fun h8 => ?_)
      · refine lv_iconst (v := (-1)) hx hb d_Mo_waiting_23 (by decide) ?_
        exact k_iret hx hb hr (rfl) hlk (()) (by unfold wtR; rw [if_neg g2, if_neg g3]) hP hD hS d_Mo_waiting_24
      · exact absurd h8 g3
  · refine lv_aload_n hx hb d_Mo_waiting_0 rfl (lv_at hl 0 rfl) ?_
    refine lv_iconst (v := nI 0) hx hb d_Mo_waiting_1 (by decide) ?_
    refine pf_Mo_34 (q0 := 0) S0 hK hP hD hS rfl rfl rfl (Nat.le_of_ble_eq_true rfl) d_Mo_waiting_2 (fun H locs hP hD hS => ?_)
    have hP : va_P D classes [(mo, .inr (3, [.int (nI 0), .int (nI L), .ref mt, .int (nI n), .ref my, .ref mg, .ref mw, .ref mf, .ref mr, .int (nI fi)])), (mw, .inl (ca 1, 2, .inl (fun k => nI (wv k))))] H := hP
    have hD : va_D A [(mo, .inr (3, [.int (nI 0), .int (nI L), .ref mt, .int (nI n), .ref my, .ref mg, .ref mw, .ref mf, .ref mr, .int (nI fi)])), (mw, .inl (ca 1, 2, .inl (fun k => nI (wv k))))] := hD
    refine lv_iload_n hx hb d_Mo_waiting_5 rfl (lv_at hl 1 rfl) ?_
    refine lv_if_eq (tgt := 14) hx hb d_Mo_waiting_6 (by decide) (fun h9 => ?_) (fun h9 => ?_)
    · exact absurd (h9.trans nI_0.symm) g2
    · refine lv_iload_n hx hb d_Mo_waiting_9 rfl (lv_at hl 1 rfl) ?_
      refine lv_iconst (v := nI 1) hx hb d_Mo_waiting_10 (by decide) ?_
      refine lv_icmp_ne (tgt := 23) hx hb d_Mo_waiting_11 (by decide) (fun h8 => ?_) (fun h8 => ?_)
      · refine lv_iconst (v := (-1)) hx hb d_Mo_waiting_23 (by decide) ?_
        exact k_iret hx hb hr (rfl) hlk (()) (by unfold wtR; rw [if_neg g2, if_neg g3]) hP hD hS d_Mo_waiting_24
      · exact absurd h8 g3
  · refine lv_aload_n hx hb d_Mo_waiting_0 rfl (lv_at hl 0 rfl) ?_
    refine lv_iconst (v := nI 0) hx hb d_Mo_waiting_1 (by decide) ?_
    refine pf_Mo_34 (q0 := 0) S0 hK hP hD hS rfl rfl rfl (Nat.le_of_ble_eq_true rfl) d_Mo_waiting_2 (fun H locs hP hD hS => ?_)
    have hP : va_P D classes [(mo, .inr (3, [.int (nI 0), .int (nI L), .ref mt, .int (nI n), .ref my, .ref mg, .ref mw, .ref mf, .ref mr, .int (nI fi)])), (mw, .inl (ca 1, 2, .inl (fun k => nI (wv k))))] H := hP
    have hD : va_D A [(mo, .inr (3, [.int (nI 0), .int (nI L), .ref mt, .int (nI n), .ref my, .ref mg, .ref mw, .ref mf, .ref mr, .int (nI fi)])), (mw, .inl (ca 1, 2, .inl (fun k => nI (wv k))))] := hD
    refine lv_iload_n hx hb d_Mo_waiting_5 rfl (lv_at hl 1 rfl) ?_
    refine lz_if_eq (tgt := 14) hx hb (by omega) d_Mo_waiting_6 (by decide) (fun h9 => ?_) (fun h9 => ?_)
    · refine lv_aload_n hx hb d_Mo_waiting_14 rfl (lv_at hl 0 rfl) ?_
      refine gf_Mo_20 (q0 := 0) S0 hK hP rfl rfl d_Mo_waiting_15 ?_
      refine lv_iload_n hx hb d_Mo_waiting_18 rfl (lv_at hl 1 rfl) ?_
      refine lz_iald (i := 0) hx hb hK.1 hP 1 1 rfl rfl (by omega) (by decide) d_Mo_waiting_19 ?_
      refine lv_goto (tgt := 24) hx hb d_Mo_waiting_20 (by decide) ?_
      exact k_iret hx hb hr (rfl) hlk (()) (rfl) hP hD hS d_Mo_waiting_24
    · exfalso
      omega
  · refine lv_aload_n hx hb d_Mo_waiting_0 rfl (lv_at hl 0 rfl) ?_
    refine lv_iconst (v := nI 0) hx hb d_Mo_waiting_1 (by decide) ?_
    refine pf_Mo_34 (q0 := 0) S0 hK hP hD hS rfl rfl rfl (Nat.le_of_ble_eq_true rfl) d_Mo_waiting_2 (fun H locs hP hD hS => ?_)
    have hP : va_P D classes [(mo, .inr (3, [.int (nI 0), .int (nI L), .ref mt, .int (nI n), .ref my, .ref mg, .ref mw, .ref mf, .ref mr, .int (nI fi)])), (mw, .inl (ca 1, 2, .inl (fun k => nI (wv k))))] H := hP
    have hD : va_D A [(mo, .inr (3, [.int (nI 0), .int (nI L), .ref mt, .int (nI n), .ref my, .ref mg, .ref mw, .ref mf, .ref mr, .int (nI fi)])), (mw, .inl (ca 1, 2, .inl (fun k => nI (wv k))))] := hD
    refine lv_iload_n hx hb d_Mo_waiting_5 rfl (lv_at hl 1 rfl) ?_
    refine lz_if_eq (tgt := 14) hx hb (by omega) d_Mo_waiting_6 (by decide) (fun h9 => ?_) (fun h9 => ?_)
    · exfalso
      omega
    · refine lv_iload_n hx hb d_Mo_waiting_9 rfl (lv_at hl 1 rfl) ?_
      refine lv_iconst (v := nI 1) hx hb d_Mo_waiting_10 (by decide) ?_
      refine lz_icmp_ne (tgt := 23) hx hb (by omega) (by omega) d_Mo_waiting_11 (by decide) (fun h8 => ?_) (fun h8 => ?_)
      · exfalso
        omega
      · refine lv_aload_n hx hb d_Mo_waiting_14 rfl (lv_at hl 0 rfl) ?_
        refine gf_Mo_20 (q0 := 0) S0 hK hP rfl rfl d_Mo_waiting_15 ?_
        refine lv_iload_n hx hb d_Mo_waiting_18 rfl (lv_at hl 1 rfl) ?_
        refine lz_iald (i := 1) hx hb hK.1 hP 1 1 rfl rfl (by omega) (by decide) d_Mo_waiting_19 ?_
        refine lv_goto (tgt := 24) hx hb d_Mo_waiting_20 (by decide) ?_
        exact k_iret hx hb hr (rfl) hlk (()) (by unfold wtR; rw [if_neg (by decide), if_pos rfl]) hP hD hS d_Mo_waiting_24
set_option maxHeartbeats 1000000 in
set_option maxRecDepth 100000 in
/-- the model: count -/
theorem c_Mo_count (l : Launch) (D : va_G) (ca : Nat → ClassId) (sz : Nat) (mo mt my mg mw mf mr : Nat) (L n fi : Nat) (y : Int32) (fs : Nat → Int32) : MetI l y_Mo_count b_Mo_count 2 (some .int) ({ frames := 0, cells := 0, slots := 0, locals := 0 } : Room) D ca [.ref mo, .int y] [(mo, .inr (3, [.int (nI 0), .int (nI L), .ref mt, .int (nI n), .ref my, .ref mg, .ref mw, .ref mf, .ref mr, .int (nI fi)])), (mf, .inl (ca 1, 4, .inl fs))] sz (fun (r : Int32) (_ : Unit) => r = cnR y (fs 0) (fs 1) (fs 2) (fs 3) n L) (fun _ => [(mo, .inr (3, [.int (nI 0), .int (nI L), .ref mt, .int (nI n), .ref my, .ref mg, .ref mw, .ref mf, .ref mr, .int (nI fi)])), (mf, .inl (ca 1, 4, .inl fs))]) := by
  refine MetI.of (by decide) (Nat.le_of_ble_eq_true rfl) ?_
  intro p e s m below meth c A ls S0 hr hlk hK hP hD hA hl
  have hx := S0.1
  have hb := S0.2.1
  have hS : va_S A s.heap s.heap [] := va_S.rf
  have hP : va_P D classes [(mo, .inr (3, [.int (nI 0), .int (nI L), .ref mt, .int (nI n), .ref my, .ref mg, .ref mw, .ref mf, .ref mr, .int (nI fi)])), (mf, .inl (ca 1, 4, .inl fs))] s.heap := hP
  have hD : va_D A [(mo, .inr (3, [.int (nI 0), .int (nI L), .ref mt, .int (nI n), .ref my, .ref mg, .ref mw, .ref mf, .ref mr, .int (nI fi)])), (mf, .inl (ca 1, 4, .inl fs))] := hD
  have hl : lv_has ls 2 [(0, .ref mo), (1, .int y)] := hl
  rcases cn_cases y with ⟨j, hj, rfl⟩ | ⟨-, hout, hne⟩
  · rcases (show j = 0 ∨ j = 1 ∨ j = 2 ∨ j = 3 ∨ j = 4 ∨ j = 5 by omega) with rfl | rfl | rfl | rfl | rfl | rfl
    · refine lv_aload_n hx hb d_Mo_count_0 rfl (lv_at hl 0 rfl) ?_
      refine lv_iconst (v := nI 0) hx hb d_Mo_count_1 (by decide) ?_
      refine pf_Mo_34 (q0 := 0) S0 hK hP hD hS rfl rfl rfl (Nat.le_of_ble_eq_true rfl) d_Mo_count_2 (fun H locs hP hD hS => ?_)
      have hP : va_P D classes [(mo, .inr (3, [.int (nI 0), .int (nI L), .ref mt, .int (nI n), .ref my, .ref mg, .ref mw, .ref mf, .ref mr, .int (nI fi)])), (mf, .inl (ca 1, 4, .inl fs))] H := hP
      have hD : va_D A [(mo, .inr (3, [.int (nI 0), .int (nI L), .ref mt, .int (nI n), .ref my, .ref mg, .ref mw, .ref mf, .ref mr, .int (nI fi)])), (mf, .inl (ca 1, 4, .inl fs))] := hD
      refine lv_iload_n hx hb d_Mo_count_5 rfl (lv_at hl 1 rfl) ?_
      refine lv_if_lt (tgt := 23) hx hb d_Mo_count_6 (by decide) (fun h9 => ?_) (fun h9 => ?_)
      · exact absurd h9 (by decide)
      · refine lv_iload_n hx hb d_Mo_count_9 rfl (lv_at hl 1 rfl) ?_
        refine lv_iconst (v := nI 4) hx hb d_Mo_count_10 (by decide) ?_
        refine lz_icmp_ge (tgt := 23) hx hb (by omega) (by omega) d_Mo_count_11 (by decide) (fun h8 => ?_) (fun h8 => ?_)
        · exfalso
          omega
        · refine lv_aload_n hx hb d_Mo_count_14 rfl (lv_at hl 0 rfl) ?_
          refine gf_Mo_24 (q0 := 0) S0 hK hP rfl rfl d_Mo_count_15 ?_
          refine lv_iload_n hx hb d_Mo_count_18 rfl (lv_at hl 1 rfl) ?_
          refine lz_iald (i := 0) hx hb hK.1 hP 1 1 rfl rfl (by omega) (by decide) d_Mo_count_19 ?_
          refine lv_goto (tgt := 48) hx hb d_Mo_count_20 (by decide) ?_
          exact k_iret hx hb hr (rfl) hlk (()) (rfl) hP hD hS d_Mo_count_48
    · refine lv_aload_n hx hb d_Mo_count_0 rfl (lv_at hl 0 rfl) ?_
      refine lv_iconst (v := nI 0) hx hb d_Mo_count_1 (by decide) ?_
      refine pf_Mo_34 (q0 := 0) S0 hK hP hD hS rfl rfl rfl (Nat.le_of_ble_eq_true rfl) d_Mo_count_2 (fun H locs hP hD hS => ?_)
      have hP : va_P D classes [(mo, .inr (3, [.int (nI 0), .int (nI L), .ref mt, .int (nI n), .ref my, .ref mg, .ref mw, .ref mf, .ref mr, .int (nI fi)])), (mf, .inl (ca 1, 4, .inl fs))] H := hP
      have hD : va_D A [(mo, .inr (3, [.int (nI 0), .int (nI L), .ref mt, .int (nI n), .ref my, .ref mg, .ref mw, .ref mf, .ref mr, .int (nI fi)])), (mf, .inl (ca 1, 4, .inl fs))] := hD
      refine lv_iload_n hx hb d_Mo_count_5 rfl (lv_at hl 1 rfl) ?_
      refine lv_if_lt (tgt := 23) hx hb d_Mo_count_6 (by decide) (fun h9 => ?_) (fun h9 => ?_)
      · exact absurd h9 (by decide)
      · refine lv_iload_n hx hb d_Mo_count_9 rfl (lv_at hl 1 rfl) ?_
        refine lv_iconst (v := nI 4) hx hb d_Mo_count_10 (by decide) ?_
        refine lz_icmp_ge (tgt := 23) hx hb (by omega) (by omega) d_Mo_count_11 (by decide) (fun h8 => ?_) (fun h8 => ?_)
        · exfalso
          omega
        · refine lv_aload_n hx hb d_Mo_count_14 rfl (lv_at hl 0 rfl) ?_
          refine gf_Mo_24 (q0 := 0) S0 hK hP rfl rfl d_Mo_count_15 ?_
          refine lv_iload_n hx hb d_Mo_count_18 rfl (lv_at hl 1 rfl) ?_
          refine lz_iald (i := 1) hx hb hK.1 hP 1 1 rfl rfl (by omega) (by decide) d_Mo_count_19 ?_
          refine lv_goto (tgt := 48) hx hb d_Mo_count_20 (by decide) ?_
          exact k_iret hx hb hr (rfl) hlk (()) (rfl) hP hD hS d_Mo_count_48
    · refine lv_aload_n hx hb d_Mo_count_0 rfl (lv_at hl 0 rfl) ?_
      refine lv_iconst (v := nI 0) hx hb d_Mo_count_1 (by decide) ?_
      refine pf_Mo_34 (q0 := 0) S0 hK hP hD hS rfl rfl rfl (Nat.le_of_ble_eq_true rfl) d_Mo_count_2 (fun H locs hP hD hS => ?_)
      have hP : va_P D classes [(mo, .inr (3, [.int (nI 0), .int (nI L), .ref mt, .int (nI n), .ref my, .ref mg, .ref mw, .ref mf, .ref mr, .int (nI fi)])), (mf, .inl (ca 1, 4, .inl fs))] H := hP
      have hD : va_D A [(mo, .inr (3, [.int (nI 0), .int (nI L), .ref mt, .int (nI n), .ref my, .ref mg, .ref mw, .ref mf, .ref mr, .int (nI fi)])), (mf, .inl (ca 1, 4, .inl fs))] := hD
      refine lv_iload_n hx hb d_Mo_count_5 rfl (lv_at hl 1 rfl) ?_
      refine lv_if_lt (tgt := 23) hx hb d_Mo_count_6 (by decide) (fun h9 => ?_) (fun h9 => ?_)
      · exact absurd h9 (by decide)
      · refine lv_iload_n hx hb d_Mo_count_9 rfl (lv_at hl 1 rfl) ?_
        refine lv_iconst (v := nI 4) hx hb d_Mo_count_10 (by decide) ?_
        refine lz_icmp_ge (tgt := 23) hx hb (by omega) (by omega) d_Mo_count_11 (by decide) (fun h8 => ?_) (fun h8 => ?_)
        · exfalso
          omega
        · refine lv_aload_n hx hb d_Mo_count_14 rfl (lv_at hl 0 rfl) ?_
          refine gf_Mo_24 (q0 := 0) S0 hK hP rfl rfl d_Mo_count_15 ?_
          refine lv_iload_n hx hb d_Mo_count_18 rfl (lv_at hl 1 rfl) ?_
          refine lz_iald (i := 2) hx hb hK.1 hP 1 1 rfl rfl (by omega) (by decide) d_Mo_count_19 ?_
          refine lv_goto (tgt := 48) hx hb d_Mo_count_20 (by decide) ?_
          exact k_iret hx hb hr (rfl) hlk (()) (rfl) hP hD hS d_Mo_count_48
    · refine lv_aload_n hx hb d_Mo_count_0 rfl (lv_at hl 0 rfl) ?_
      refine lv_iconst (v := nI 0) hx hb d_Mo_count_1 (by decide) ?_
      refine pf_Mo_34 (q0 := 0) S0 hK hP hD hS rfl rfl rfl (Nat.le_of_ble_eq_true rfl) d_Mo_count_2 (fun H locs hP hD hS => ?_)
      have hP : va_P D classes [(mo, .inr (3, [.int (nI 0), .int (nI L), .ref mt, .int (nI n), .ref my, .ref mg, .ref mw, .ref mf, .ref mr, .int (nI fi)])), (mf, .inl (ca 1, 4, .inl fs))] H := hP
      have hD : va_D A [(mo, .inr (3, [.int (nI 0), .int (nI L), .ref mt, .int (nI n), .ref my, .ref mg, .ref mw, .ref mf, .ref mr, .int (nI fi)])), (mf, .inl (ca 1, 4, .inl fs))] := hD
      refine lv_iload_n hx hb d_Mo_count_5 rfl (lv_at hl 1 rfl) ?_
      refine lv_if_lt (tgt := 23) hx hb d_Mo_count_6 (by decide) (fun h9 => ?_) (fun h9 => ?_)
      · exact absurd h9 (by decide)
      · refine lv_iload_n hx hb d_Mo_count_9 rfl (lv_at hl 1 rfl) ?_
        refine lv_iconst (v := nI 4) hx hb d_Mo_count_10 (by decide) ?_
        refine lz_icmp_ge (tgt := 23) hx hb (by omega) (by omega) d_Mo_count_11 (by decide) (fun h8 => ?_) (fun h8 => ?_)
        · exfalso
          omega
        · refine lv_aload_n hx hb d_Mo_count_14 rfl (lv_at hl 0 rfl) ?_
          refine gf_Mo_24 (q0 := 0) S0 hK hP rfl rfl d_Mo_count_15 ?_
          refine lv_iload_n hx hb d_Mo_count_18 rfl (lv_at hl 1 rfl) ?_
          refine lz_iald (i := 3) hx hb hK.1 hP 1 1 rfl rfl (by omega) (by decide) d_Mo_count_19 ?_
          refine lv_goto (tgt := 48) hx hb d_Mo_count_20 (by decide) ?_
          exact k_iret hx hb hr (rfl) hlk (()) (rfl) hP hD hS d_Mo_count_48
    · refine lv_aload_n hx hb d_Mo_count_0 rfl (lv_at hl 0 rfl) ?_
      refine lv_iconst (v := nI 0) hx hb d_Mo_count_1 (by decide) ?_
      refine pf_Mo_34 (q0 := 0) S0 hK hP hD hS rfl rfl rfl (Nat.le_of_ble_eq_true rfl) d_Mo_count_2 (fun H locs hP hD hS => ?_)
      have hP : va_P D classes [(mo, .inr (3, [.int (nI 0), .int (nI L), .ref mt, .int (nI n), .ref my, .ref mg, .ref mw, .ref mf, .ref mr, .int (nI fi)])), (mf, .inl (ca 1, 4, .inl fs))] H := hP
      have hD : va_D A [(mo, .inr (3, [.int (nI 0), .int (nI L), .ref mt, .int (nI n), .ref my, .ref mg, .ref mw, .ref mf, .ref mr, .int (nI fi)])), (mf, .inl (ca 1, 4, .inl fs))] := hD
      refine lv_iload_n hx hb d_Mo_count_5 rfl (lv_at hl 1 rfl) ?_
      refine lv_if_lt (tgt := 23) hx hb d_Mo_count_6 (by decide) (fun h9 => ?_) (fun h9 => ?_)
      · exact absurd h9 (by decide)
      · refine lv_iload_n hx hb d_Mo_count_9 rfl (lv_at hl 1 rfl) ?_
        refine lv_iconst (v := nI 4) hx hb d_Mo_count_10 (by decide) ?_
        refine lz_icmp_ge (tgt := 23) hx hb (by omega) (by omega) d_Mo_count_11 (by decide) (fun h8 => ?_) (fun h8 => ?_)
        · refine lv_iload_n hx hb d_Mo_count_23 rfl (lv_at hl 1 rfl) ?_
          refine lv_iconst (v := nI 4) hx hb d_Mo_count_24 (by decide) ?_
          refine lz_icmp_ne (tgt := 35) hx hb (by omega) (by omega) d_Mo_count_25 (by decide) (fun h7 => ?_) (fun h7 => ?_)
          · exfalso
            exact h7 rfl
          · refine lv_aload_n hx hb d_Mo_count_28 rfl (lv_at hl 0 rfl) ?_
            refine gf_Mo_37 (q0 := 0) S0 hK hP rfl rfl d_Mo_count_29 ?_
            refine lv_goto (tgt := 48) hx hb d_Mo_count_32 (by decide) ?_
            exact k_iret hx hb hr (rfl) hlk (()) (rfl) hP hD hS d_Mo_count_48
        · exfalso
          omega
    · refine lv_aload_n hx hb d_Mo_count_0 rfl (lv_at hl 0 rfl) ?_
      refine lv_iconst (v := nI 0) hx hb d_Mo_count_1 (by decide) ?_
      refine pf_Mo_34 (q0 := 0) S0 hK hP hD hS rfl rfl rfl (Nat.le_of_ble_eq_true rfl) d_Mo_count_2 (fun H locs hP hD hS => ?_)
      have hP : va_P D classes [(mo, .inr (3, [.int (nI 0), .int (nI L), .ref mt, .int (nI n), .ref my, .ref mg, .ref mw, .ref mf, .ref mr, .int (nI fi)])), (mf, .inl (ca 1, 4, .inl fs))] H := hP
      have hD : va_D A [(mo, .inr (3, [.int (nI 0), .int (nI L), .ref mt, .int (nI n), .ref my, .ref mg, .ref mw, .ref mf, .ref mr, .int (nI fi)])), (mf, .inl (ca 1, 4, .inl fs))] := hD
      refine lv_iload_n hx hb d_Mo_count_5 rfl (lv_at hl 1 rfl) ?_
      refine lv_if_lt (tgt := 23) hx hb d_Mo_count_6 (by decide) (fun h9 => ?_) (fun h9 => ?_)
      · exact absurd h9 (by decide)
      · refine lv_iload_n hx hb d_Mo_count_9 rfl (lv_at hl 1 rfl) ?_
        refine lv_iconst (v := nI 4) hx hb d_Mo_count_10 (by decide) ?_
        refine lz_icmp_ge (tgt := 23) hx hb (by omega) (by omega) d_Mo_count_11 (by decide) (fun h8 => ?_) (fun h8 => ?_)
        · refine lv_iload_n hx hb d_Mo_count_23 rfl (lv_at hl 1 rfl) ?_
          refine lv_iconst (v := nI 4) hx hb d_Mo_count_24 (by decide) ?_
          refine lz_icmp_ne (tgt := 35) hx hb (by omega) (by omega) d_Mo_count_25 (by decide) (fun h7 => ?_) (fun h7 => ?_)
          · refine lv_iload_n hx hb d_Mo_count_35 rfl (lv_at hl 1 rfl) ?_
            refine lv_iconst (v := nI 5) hx hb d_Mo_count_36 (by decide) ?_
            refine lz_icmp_ne (tgt := 47) hx hb (by omega) (by omega) d_Mo_count_37 (by decide) (fun h6 => ?_) (fun h6 => ?_)
            · exfalso
              exact h6 rfl
            · refine lv_aload_n hx hb d_Mo_count_40 rfl (lv_at hl 0 rfl) ?_
              refine gf_Mo_30 (q0 := 0) S0 hK hP rfl rfl d_Mo_count_41 ?_
              refine lv_goto (tgt := 48) hx hb d_Mo_count_44 (by decide) ?_
              exact k_iret hx hb hr (rfl) hlk (()) (rfl) hP hD hS d_Mo_count_48
          · exfalso
            omega
        · exfalso
          omega
  · refine lv_aload_n hx hb d_Mo_count_0 rfl (lv_at hl 0 rfl) ?_
    refine lv_iconst (v := nI 0) hx hb d_Mo_count_1 (by decide) ?_
    refine pf_Mo_34 (q0 := 0) S0 hK hP hD hS rfl rfl rfl (Nat.le_of_ble_eq_true rfl) d_Mo_count_2 (fun H locs hP hD hS => ?_)
    have hP : va_P D classes [(mo, .inr (3, [.int (nI 0), .int (nI L), .ref mt, .int (nI n), .ref my, .ref mg, .ref mw, .ref mf, .ref mr, .int (nI fi)])), (mf, .inl (ca 1, 4, .inl fs))] H := hP
    have hD : va_D A [(mo, .inr (3, [.int (nI 0), .int (nI L), .ref mt, .int (nI n), .ref my, .ref mg, .ref mw, .ref mf, .ref mr, .int (nI fi)])), (mf, .inl (ca 1, 4, .inl fs))] := hD
    refine lv_iload_n hx hb d_Mo_count_5 rfl (lv_at hl 1 rfl) ?_
    refine lz_cut (g := F0 m 23 ls []) ?_ (fun tail => ?_)
    · refine lv_iload_n hx hb d_Mo_count_23 rfl (lv_at hl 1 rfl) ?_
      refine lv_iconst (v := nI 4) hx hb d_Mo_count_24 (by decide) ?_
      refine lv_icmp_ne (tgt := 35) hx hb d_Mo_count_25 (by decide) (fun h7 => ?_) (fun h7 => ?_)
      · refine lv_iload_n hx hb d_Mo_count_35 rfl (lv_at hl 1 rfl) ?_
        refine lv_iconst (v := nI 5) hx hb d_Mo_count_36 (by decide) ?_
        refine lv_icmp_ne (tgt := 47) hx hb d_Mo_count_37 (by decide) (fun h6 => ?_) (fun h6 => ?_)
        · refine lv_iconst (v := (-1)) hx hb d_Mo_count_47 (by decide) ?_
          exact k_iret hx hb hr (rfl) hlk (()) ((cnR_out hne).symm) hP hD hS d_Mo_count_48
        · exact absurd h6 (hne 5 (by decide))
      · exact absurd h7 (hne 4 (by decide))
    · refine lv_if_lt (tgt := 23) hx hb d_Mo_count_6 (by decide) (fun h9 => ?_) (fun h9 => ?_)
      · exact tail
      · refine lv_iload_n hx hb d_Mo_count_9 rfl (lv_at hl 1 rfl) ?_
        refine lv_iconst (v := nI 4) hx hb d_Mo_count_10 (by decide) ?_
        refine lv_icmp_ge (tgt := 23) hx hb d_Mo_count_11 (by decide) (fun h8 => ?_) (fun h8 => ?_)
        · exact tail
        · exfalso
          rcases hout with h | h
          · exact h9 h
          · have e1 := Int32.le_iff_toInt_le.mp h
            have e2 := Int.not_le.mp (fun q => h8 (Int32.le_iff_toInt_le.mpr q))
            have c1 : (nI 4).toInt = 4 := by decide +kernel
            have c2 : (nI 6).toInt = 6 := by decide +kernel
            omega
end
section
theorem fbP_f {F cx fst k : Nat} {made cnt word : Int32} {fd : Nat → Int32} (h : k < F) : fbP F cx made cnt fst fd word (6 + k) = bz (fd k) := by
  unfold fbP
  rw [if_neg (by omega), if_neg (by omega), if_neg (by omega), if_neg (by omega), if_neg (by omega), if_neg (by omega), if_pos (by omega), Nat.add_sub_cancel_left]
theorem fbP_w {F cx fst k : Nat} {made cnt word : Int32} {fd : Nat → Int32} : fbP F cx made cnt fst fd word (6 + F + k) = bz (word >>> (nI (24 - 8 * k) &&& 31)) := by
  unfold fbP
  rw [if_neg (by omega), if_neg (by omega), if_neg (by omega), if_neg (by omega), if_neg (by omega), if_neg (by omega), if_neg (by omega), show 6 + F + k - 6 - F = k by omega]
theorem fbP_wi {F cx fst : Nat} {made cnt word : Int32} {fd : Nat → Int32} (k v : Nat) (hv : 24 - 8 * k = v) : bz (word >>> (nI v &&& 31)) = fbP F cx made cnt fst fd word (6 + F + k) := by
  subst hv
  exact fbP_w.symm
theorem fb_mod {g fd : Nat → Int32} {F cx fst : Nat} {made cnt word : Int32} : ∀ i, i < 12 + F → upd (upd (bl g 0 (10 + F) (fbP F cx made cnt fst fd word)) (10 + F) (bz (nI (crc (fbP F cx made cnt fst fd word) (10 + F) / 256)))) (11 + F) (bz (nI (crc (fbP F cx made cnt fst fd word) (10 + F)))) i = fb F cx made cnt fst fd word i := by
  intro i hi
  unfold fb
  by_cases h0 : i < 10 + F
  · rw [if_pos h0, upd_n (by omega), upd_n (by omega), bl_in (by omega) (by omega), Nat.sub_zero]
  rw [if_neg h0]
  by_cases h1 : i = 10 + F
  · rw [if_pos h1, upd_n (by omega), h1, upd_s]
  · rw [if_neg h1, show i = 11 + F by omega, upd_s]
set_option maxHeartbeats 1000000 in
set_option maxRecDepth 100000 in
theorem lp_mf_f {p : Program} {l : Launch} {e : Env} {s : State} {m : MethodId} {args : Array Value} {below : List Frame} {meth : Method} {c : Code} {Q : State → Prop} {D : va_G} {ca : Nat → ClassId} {A : Nat → Prop} {H0 : Heap} (mo mt my mg mw mf mr : Nat) (F L n fl_ c_ cx fst : Nat) (word : Int32) (fd bs bg fs mfr : Nat → Int32) (wv : Nat → Nat) (h1 : F + 12 = L) (h2 : L ≤ 256) (h3 : c_ < 3) (hfd : (c_ = 2 ∧ ∀ k, k < F → fd k = nI 85) ∨ (c_ < 2 ∧ ∀ k, k < F → fd k = bs (4200 * c_ + k))) (S0 : CallFix p m c b_Mo_frame 7 s args gd_tbl "DownFramesModel") (hK : PW D ca s) (hA : ∀ q, H0.size ≤ q → A q) (kk : ∀  (H : Heap) (locs : List Loc) (ls : Array Slot), va_P D classes [(mo, .inr (3, [.int (nI 0), .int (nI L), .ref mt, .int (nI n), .ref my, .ref mg, .ref mw, .ref mf, .ref mr, .int (nI (6 + F))])), (my, .inl (ca 0, 8400, .inl bs)), (mg, .inl (ca 3, 8400, .inl bg)), (mw, .inl (ca 1, 2, .inl (fun k => nI (wv k)))), (mf, .inl (ca 1, 4, .inl fs)), (mr, .inl (ca 0, 256, .inl (bl mfr 0 (6 + F) (fbP F cx (fs 0) (fs (1 + c_)) fst fd word))))] H → va_D A [(mo, .inr (3, [.int (nI 0), .int (nI L), .ref mt, .int (nI n), .ref my, .ref mg, .ref mw, .ref mf, .ref mr, .int (nI (6 + F))])), (my, .inl (ca 0, 8400, .inl bs)), (mg, .inl (ca 3, 8400, .inl bg)), (mw, .inl (ca 1, 2, .inl (fun k => nI (wv k)))), (mf, .inl (ca 1, 4, .inl fs)), (mr, .inl (ca 0, 256, .inl (bl mfr 0 (6 + F) (fbP F cx (fs 0) (fs (1 + c_)) fst fd word))))] → va_S A H0 H locs → lv_has ls 7 [(0, .ref mo), (1, .int word), (2, .int (nI c_)), (3, .int (nI cx)), (4, .int (nI F))] → W p l e ({ frames := 2, cells := 0, slots := 0, locals := 47 } : Room) s m args below meth c H locs 0 0 Q (F0 m 231 ls [])) :
    ∀ (nf : Nat) (k : Nat) (H : Heap) (locs : List Loc) (ls : Array Slot), F - k < nf → (k ≤ F) → va_P D classes [(mo, .inr (3, [.int (nI 0), .int (nI L), .ref mt, .int (nI n), .ref my, .ref mg, .ref mw, .ref mf, .ref mr, .int (nI (6 + k))])), (my, .inl (ca 0, 8400, .inl bs)), (mg, .inl (ca 3, 8400, .inl bg)), (mw, .inl (ca 1, 2, .inl (fun k => nI (wv k)))), (mf, .inl (ca 1, 4, .inl fs)), (mr, .inl (ca 0, 256, .inl (bl mfr 0 (6 + k) (fbP F cx (fs 0) (fs (1 + c_)) fst fd word))))] H → va_D A [(mo, .inr (3, [.int (nI 0), .int (nI L), .ref mt, .int (nI n), .ref my, .ref mg, .ref mw, .ref mf, .ref mr, .int (nI (6 + k))])), (my, .inl (ca 0, 8400, .inl bs)), (mg, .inl (ca 3, 8400, .inl bg)), (mw, .inl (ca 1, 2, .inl (fun k => nI (wv k)))), (mf, .inl (ca 1, 4, .inl fs)), (mr, .inl (ca 0, 256, .inl (bl mfr 0 (6 + k) (fbP F cx (fs 0) (fs (1 + c_)) fst fd word))))] → va_S A H0 H locs → lv_has ls 7 [(6, .int (nI k)), (0, .ref mo), (1, .int word), (2, .int (nI c_)), (3, .int (nI cx)), (4, .int (nI F))] → W p l e ({ frames := 2, cells := 0, slots := 0, locals := 47 } : Room) s m args below meth c H locs 0 0 Q (F0 m 191 ls []) := by
  have hx := S0.1
  have hb := S0.2.1
  intro nf
  induction nf with
  | zero =>
    intro k H locs ls hm
    exact absurd hm (Nat.not_lt_zero _)
  | succ nf ih =>
    intro k H locs ls hm hk hP hD hS hl
    refine lv_iload hx hb d_Mo_frame_191 (lv_at hl 0 rfl) ?_
    refine lv_iload hx hb d_Mo_frame_193 (lv_at hl 5 rfl) ?_
    refine lz_icmp_ge (tgt := 231) hx hb (by omega) (by omega) d_Mo_frame_195 (by decide) (fun h4 => ?_) (fun h4 => ?_)
    · have e9 : F = k := by omega
      subst e9
      exact kk H locs ls hP hD hS (lv_sub hl [1, 2, 3, 4, 5] rfl)
    · refine lv_aload_n hx hb d_Mo_frame_198 rfl (lv_at hl 1 rfl) ?_
      refine lv_iload_n hx hb d_Mo_frame_199 rfl (lv_at hl 3 rfl) ?_
      refine lv_iconst (v := nI 2) hx hb d_Mo_frame_200 (by decide) ?_
      refine lz_cut (g := F0 m 222 ls [.int (fd k), .ref mo]) ?_ (fun tail => ?_)
      · refine k_Vv (n := 1) (As := [.int (fd k)]) (rest := []) (wc := [(mo, .inr (3, [.int (nI 0), .int (nI L), .ref mt, .int (nI n), .ref my, .ref mg, .ref mw, .ref mf, .ref mr, .int (nI (6 + k))])), (mr, .inl (ca 0, 256, .inl (bl mfr 0 (6 + k) (fbP F cx (fs 0) (fs (1 + c_)) fst fd word))))]) (wr := [(my, .inl (ca 0, 8400, .inl bs)), (mg, .inl (ca 3, 8400, .inl bg)), (mw, .inl (ca 1, 2, .inl (fun k => nI (wv k)))), (mf, .inl (ca 1, 4, .inl fs))]) (ci := 3) (q0 := 0) S0 rfl q_206 q_208 q_p9 q_4 rfl rfl q_209 (by decide +kernel) hK hP hD hS hA (c_Mo_add l D ca H.size mo mt my mg mw mf mr L n (6 + k) (fd k) (bl mfr 0 (6 + k) (fbP F cx (fs 0) (fs (1 + c_)) fst fd word)) (by omega)) [0, 5] [1, 2, 3, 4] rfl rfl (by decide) (by decide) (by decide) ⟨Nat.le_of_ble_eq_true rfl, Nat.le_of_ble_eq_true rfl⟩ rfl hl.1 rfl (Nat.le_of_ble_eq_true rfl) ⟨Nat.le_of_ble_eq_true rfl, Nat.le_of_ble_eq_true rfl⟩ d_Mo_frame_222 (fun u H locs hw hP hD hS => ?_)
        refine W.cs (cells' := 0) (slots' := 0) rfl rfl ?_
        have hP : va_P D classes [(my, .inl (ca 0, 8400, .inl bs)), (mg, .inl (ca 3, 8400, .inl bg)), (mw, .inl (ca 1, 2, .inl (fun k => nI (wv k)))), (mf, .inl (ca 1, 4, .inl fs)), (mo, .inr (3, [.int (nI 0), .int (nI L), .ref mt, .int (nI n), .ref my, .ref mg, .ref mw, .ref mf, .ref mr, .int (nI (6 + k + 1))])), (mr, .inl (ca 0, 256, .inl (upd (bl mfr 0 (6 + k) (fbP F cx (fs 0) (fs (1 + c_)) fst fd word)) (6 + k) (bz (fd k)))))] H := hP
        have hD : va_D A [(my, .inl (ca 0, 8400, .inl bs)), (mg, .inl (ca 3, 8400, .inl bg)), (mw, .inl (ca 1, 2, .inl (fun k => nI (wv k)))), (mf, .inl (ca 1, 4, .inl fs)), (mo, .inr (3, [.int (nI 0), .int (nI L), .ref mt, .int (nI n), .ref my, .ref mg, .ref mw, .ref mf, .ref mr, .int (nI (6 + k + 1))])), (mr, .inl (ca 0, 256, .inl (upd (bl mfr 0 (6 + k) (fbP F cx (fs 0) (fs (1 + c_)) fst fd word)) (6 + k) (bz (fd k)))))] := hD
        have hP : va_P D classes [(mo, .inr (3, [.int (nI 0), .int (nI L), .ref mt, .int (nI n), .ref my, .ref mg, .ref mw, .ref mf, .ref mr, .int (nI (6 + k + 1))])), (my, .inl (ca 0, 8400, .inl bs)), (mg, .inl (ca 3, 8400, .inl bg)), (mw, .inl (ca 1, 2, .inl (fun k => nI (wv k)))), (mf, .inl (ca 1, 4, .inl fs)), (mr, .inl (ca 0, 256, .inl (upd (bl mfr 0 (6 + k) (fbP F cx (fs 0) (fs (1 + c_)) fst fd word)) (6 + k) (bz (fd k)))))] H := hP.sub [4, 0, 1, 2, 3, 5] rfl
        have hD : va_D A [(mo, .inr (3, [.int (nI 0), .int (nI L), .ref mt, .int (nI n), .ref my, .ref mg, .ref mw, .ref mf, .ref mr, .int (nI (6 + k + 1))])), (my, .inl (ca 0, 8400, .inl bs)), (mg, .inl (ca 3, 8400, .inl bg)), (mw, .inl (ca 1, 2, .inl (fun k => nI (wv k)))), (mf, .inl (ca 1, 4, .inl fs)), (mr, .inl (ca 0, 256, .inl (upd (bl mfr 0 (6 + k) (fbP F cx (fs 0) (fs (1 + c_)) fst fd word)) (6 + k) (bz (fd k)))))] := hD.sub [4, 0, 1, 2, 3, 5] (by decide) rfl
        have e9 : upd (bl mfr 0 (6 + k) (fbP F cx (fs 0) (fs (1 + c_)) fst fd word)) (6 + k) (bz (fd k)) = bl mfr 0 (6 + k + 1) (fbP F cx (fs 0) (fs (1 + c_)) fst fd word) := bl_z ((fbP_f (by omega)).symm)
        rw [e9] at hP hD
        clear e9
        have hP : va_P D classes [(mo, .inr (3, [.int (nI 0), .int (nI L), .ref mt, .int (nI n), .ref my, .ref mg, .ref mw, .ref mf, .ref mr, .int (nI (6 + k + 1))])), (my, .inl (ca 0, 8400, .inl bs)), (mg, .inl (ca 3, 8400, .inl bg)), (mw, .inl (ca 1, 2, .inl (fun k => nI (wv k)))), (mf, .inl (ca 1, 4, .inl fs)), (mr, .inl (ca 0, 256, .inl (bl mfr 0 (6 + k + 1) (fbP F cx (fs 0) (fs (1 + c_)) fst fd word))))] H := hP
        have hD : va_D A [(mo, .inr (3, [.int (nI 0), .int (nI L), .ref mt, .int (nI n), .ref my, .ref mg, .ref mw, .ref mf, .ref mr, .int (nI (6 + k + 1))])), (my, .inl (ca 0, 8400, .inl bs)), (mg, .inl (ca 3, 8400, .inl bg)), (mw, .inl (ca 1, 2, .inl (fun k => nI (wv k)))), (mf, .inl (ca 1, 4, .inl fs)), (mr, .inl (ca 0, 256, .inl (bl mfr 0 (6 + k + 1) (fbP F cx (fs 0) (fs (1 + c_)) fst fd word))))] := hD
        refine lv_iinc (v := nI (k + 1)) (lv' := [(6, .int (nI (k + 1))), (0, .ref mo), (1, .int word), (2, .int (nI c_)), (3, .int (nI cx)), (4, .int (nI F))]) hx hb d_Mo_frame_225 hl (k := 0) rfl (nI_inc _) (by decide) rfl (fun ls hl => ?_)
        refine lv_goto (tgt := 191) hx hb d_Mo_frame_228 (by decide) ?_
        exact ih (k + 1) H locs ls (by omega) (by omega) hP hD hS (lv_sub hl [0, 1, 2, 3, 4, 5] rfl)
      · refine lz_icmp_ne (tgt := 209) hx hb (by omega) (by omega) d_Mo_frame_201 (by decide) (fun h5 => ?_) (fun h5 => ?_)
        · have hk2 : fd k = bs (4200 * c_ + k) := by rcases hfd with ⟨e, _⟩ | ⟨_, e⟩; exact absurd e h5; exact e k (by omega)
          have hc2 : c_ < 2 := by omega
          refine lv_aload_n hx hb d_Mo_frame_209 rfl (lv_at hl 1 rfl) ?_
          refine gf_Mo_13 (q0 := 0) S0 hK hP rfl rfl d_Mo_frame_210 ?_
          refine lv_sipush (v := nI 4200) hx hb d_Mo_frame_213 (by decide) ?_
          refine lv_iload_n hx hb d_Mo_frame_216 rfl (lv_at hl 3 rfl) ?_
          refine lz_imul hx hb d_Mo_frame_217 ?_
          refine lv_iload hx hb d_Mo_frame_218 (lv_at hl 0 rfl) ?_
          refine lz_iadd hx hb d_Mo_frame_220 ?_
          refine lz_bald (i := (4200 * c_) + k) hx hb hK.1 hP 1 0 rfl rfl (by omega) (by decide) d_Mo_frame_221 ?_
          refine lz_top (y := fd k) (by rw [hk2]) ?_
          exact tail
        · have hk2 : fd k = nI 85 := by rcases hfd with ⟨_, e⟩ | ⟨e, _⟩; exact e k (by omega); omega
          refine lv_bipush (v := nI 85) hx hb d_Mo_frame_204 (by decide) ?_
          refine lv_goto (tgt := 222) hx hb d_Mo_frame_206 (by decide) ?_
          refine lz_top (y := fd k) (by rw [hk2]) ?_
          exact tail
set_option maxHeartbeats 1000000 in
set_option maxRecDepth 100000 in
theorem mf_mid {p : Program} {l : Launch} {e : Env} {s : State} {m : MethodId} {args : Array Value} {below : List Frame} {meth : Method} {c : Code} {Q : State → Prop} {D : va_G} {ca : Nat → ClassId} {A : Nat → Prop} {H0 : Heap} (mo mt my mg mw mf mr : Nat) (F L n fl_ c_ cx fst : Nat) (word : Int32) (fd bs bg fs mfr : Nat → Int32) (wv : Nat → Nat) (h1 : F + 12 = L) (h2 : L ≤ 256) (h3 : c_ < 3) (h4 : cx < 8) (h5 : fst < 2048) (hfd : (c_ = 2 ∧ ∀ k, k < F → fd k = nI 85) ∨ (c_ < 2 ∧ ∀ k, k < F → fd k = bs (4200 * c_ + k))) (S0 : CallFix p m c b_Mo_frame 7 s args gd_tbl "DownFramesModel") (hK : PW D ca s) (hA : ∀ q, H0.size ≤ q → A q) (kk : ∀ (mfr2 : Nat → Int32) (H : Heap) (locs : List Loc) (ls : Array Slot), (∀ i, i < 12 + F → mfr2 i = fb F cx (fs 0) (fs (1 + c_)) fst fd word i) → va_P D classes [(mo, .inr (3, [.int (nI 0), .int (nI L), .ref mt, .int (nI n), .ref my, .ref mg, .ref mw, .ref mf, .ref mr, .int (nI (12 + F))])), (my, .inl (ca 0, 8400, .inl bs)), (mg, .inl (ca 3, 8400, .inl bg)), (mw, .inl (ca 1, 2, .inl (fun k => nI (wv k)))), (mf, .inl (ca 1, 4, .inl fs)), (mr, .inl (ca 0, 256, .inl mfr2))] H → va_D A [(mo, .inr (3, [.int (nI 0), .int (nI L), .ref mt, .int (nI n), .ref my, .ref mg, .ref mw, .ref mf, .ref mr, .int (nI (12 + F))])), (my, .inl (ca 0, 8400, .inl bs)), (mg, .inl (ca 3, 8400, .inl bg)), (mw, .inl (ca 1, 2, .inl (fun k => nI (wv k)))), (mf, .inl (ca 1, 4, .inl fs)), (mr, .inl (ca 0, 256, .inl mfr2))] → va_S A H0 H locs → lv_has ls 7 [(0, .ref mo), (2, .int (nI c_)), (3, .int (nI cx)), (4, .int (nI F))] → W p l e ({ frames := 2, cells := 0, slots := 0, locals := 47 } : Room) s m args below meth c H locs 0 0 Q (F0 m 276 ls [])) (H : Heap) (locs : List Loc) (ls : Array Slot) (hP : va_P D classes [(mo, .inr (3, [.int (nI 0), .int (nI L), .ref mt, .int (nI n), .ref my, .ref mg, .ref mw, .ref mf, .ref mr, .int (nI fl_)])), (my, .inl (ca 0, 8400, .inl bs)), (mg, .inl (ca 3, 8400, .inl bg)), (mw, .inl (ca 1, 2, .inl (fun k => nI (wv k)))), (mf, .inl (ca 1, 4, .inl fs)), (mr, .inl (ca 0, 256, .inl mfr))] H) (hD : va_D A [(mo, .inr (3, [.int (nI 0), .int (nI L), .ref mt, .int (nI n), .ref my, .ref mg, .ref mw, .ref mf, .ref mr, .int (nI fl_)])), (my, .inl (ca 0, 8400, .inl bs)), (mg, .inl (ca 3, 8400, .inl bg)), (mw, .inl (ca 1, 2, .inl (fun k => nI (wv k)))), (mf, .inl (ca 1, 4, .inl fs)), (mr, .inl (ca 0, 256, .inl mfr))]) (hS : va_S A H0 H locs) (hl : lv_has ls 7 [(0, .ref mo), (1, .int word), (2, .int (nI c_)), (3, .int (nI cx)), (4, .int (nI F)), (5, .int (nI fst))]) : W p l e ({ frames := 2, cells := 0, slots := 0, locals := 47 } : Room) s m args below meth c H locs 0 0 Q (F0 m 123 ls []) := by
  have hx := S0.1
  have hb := S0.2.1
  refine lv_aload_n hx hb d_Mo_frame_123 rfl (lv_at hl 0 rfl) ?_
  refine lv_iconst (v := nI 0) hx hb d_Mo_frame_124 (by decide) ?_
  refine pf_Mo_44 (q0 := 0) S0 hK hP hD hS rfl rfl rfl (Nat.le_of_ble_eq_true rfl) d_Mo_frame_125 (fun H locs hP hD hS => ?_)
  have hP : va_P D classes [(mo, .inr (3, [.int (nI 0), .int (nI L), .ref mt, .int (nI n), .ref my, .ref mg, .ref mw, .ref mf, .ref mr, .int (nI 0)])), (my, .inl (ca 0, 8400, .inl bs)), (mg, .inl (ca 3, 8400, .inl bg)), (mw, .inl (ca 1, 2, .inl (fun k => nI (wv k)))), (mf, .inl (ca 1, 4, .inl fs)), (mr, .inl (ca 0, 256, .inl mfr))] H := hP
  have hD : va_D A [(mo, .inr (3, [.int (nI 0), .int (nI L), .ref mt, .int (nI n), .ref my, .ref mg, .ref mw, .ref mf, .ref mr, .int (nI 0)])), (my, .inl (ca 0, 8400, .inl bs)), (mg, .inl (ca 3, 8400, .inl bg)), (mw, .inl (ca 1, 2, .inl (fun k => nI (wv k)))), (mf, .inl (ca 1, 4, .inl fs)), (mr, .inl (ca 0, 256, .inl mfr))] := hD
  have e0 : mfr = bl mfr 0 0 (fbP F cx (fs 0) (fs (1 + c_)) fst fd word) := (bl_0 _ _ _).symm
  rw [e0] at hP hD
  have hP : va_P D classes [(mo, .inr (3, [.int (nI 0), .int (nI L), .ref mt, .int (nI n), .ref my, .ref mg, .ref mw, .ref mf, .ref mr, .int (nI 0)])), (my, .inl (ca 0, 8400, .inl bs)), (mg, .inl (ca 3, 8400, .inl bg)), (mw, .inl (ca 1, 2, .inl (fun k => nI (wv k)))), (mf, .inl (ca 1, 4, .inl fs)), (mr, .inl (ca 0, 256, .inl (bl mfr 0 0 (fbP F cx (fs 0) (fs (1 + c_)) fst fd word))))] H := hP
  have hD : va_D A [(mo, .inr (3, [.int (nI 0), .int (nI L), .ref mt, .int (nI n), .ref my, .ref mg, .ref mw, .ref mf, .ref mr, .int (nI 0)])), (my, .inl (ca 0, 8400, .inl bs)), (mg, .inl (ca 3, 8400, .inl bg)), (mw, .inl (ca 1, 2, .inl (fun k => nI (wv k)))), (mf, .inl (ca 1, 4, .inl fs)), (mr, .inl (ca 0, 256, .inl (bl mfr 0 0 (fbP F cx (fs 0) (fs (1 + c_)) fst fd word))))] := hD
  refine lv_aload_n hx hb d_Mo_frame_128 rfl (lv_at hl 0 rfl) ?_
  refine lv_bipush (v := nI 21) hx hb d_Mo_frame_129 (by decide) ?_
  refine k_Vv (n := 1) (As := [.int (nI 21)]) (rest := []) (wc := [(mo, .inr (3, [.int (nI 0), .int (nI L), .ref mt, .int (nI n), .ref my, .ref mg, .ref mw, .ref mf, .ref mr, .int (nI 0)])), (mr, .inl (ca 0, 256, .inl (bl mfr 0 0 (fbP F cx (fs 0) (fs (1 + c_)) fst fd word))))]) (wr := [(my, .inl (ca 0, 8400, .inl bs)), (mg, .inl (ca 3, 8400, .inl bg)), (mw, .inl (ca 1, 2, .inl (fun k => nI (wv k)))), (mf, .inl (ca 1, 4, .inl fs))]) (ci := 3) (q0 := 0) S0 rfl q_206 q_208 q_p9 q_4 rfl rfl q_209 (by decide +kernel) hK hP hD hS hA (c_Mo_add l D ca H.size mo mt my mg mw mf mr L n (0) (nI 21) (bl mfr 0 0 (fbP F cx (fs 0) (fs (1 + c_)) fst fd word)) (by omega)) [0, 5] [1, 2, 3, 4] rfl rfl (by decide) (by decide) (by decide) ⟨Nat.le_of_ble_eq_true rfl, Nat.le_of_ble_eq_true rfl⟩ rfl hl.1 rfl (Nat.le_of_ble_eq_true rfl) ⟨Nat.le_of_ble_eq_true rfl, Nat.le_of_ble_eq_true rfl⟩ d_Mo_frame_131 (fun u H locs hw hP hD hS => ?_)
  refine W.cs (cells' := 0) (slots' := 0) rfl rfl ?_
  have hP : va_P D classes [(my, .inl (ca 0, 8400, .inl bs)), (mg, .inl (ca 3, 8400, .inl bg)), (mw, .inl (ca 1, 2, .inl (fun k => nI (wv k)))), (mf, .inl (ca 1, 4, .inl fs)), (mo, .inr (3, [.int (nI 0), .int (nI L), .ref mt, .int (nI n), .ref my, .ref mg, .ref mw, .ref mf, .ref mr, .int (nI 1)])), (mr, .inl (ca 0, 256, .inl (upd (bl mfr 0 0 (fbP F cx (fs 0) (fs (1 + c_)) fst fd word)) (0) (bz (nI 21)))))] H := hP
  have hD : va_D A [(my, .inl (ca 0, 8400, .inl bs)), (mg, .inl (ca 3, 8400, .inl bg)), (mw, .inl (ca 1, 2, .inl (fun k => nI (wv k)))), (mf, .inl (ca 1, 4, .inl fs)), (mo, .inr (3, [.int (nI 0), .int (nI L), .ref mt, .int (nI n), .ref my, .ref mg, .ref mw, .ref mf, .ref mr, .int (nI 1)])), (mr, .inl (ca 0, 256, .inl (upd (bl mfr 0 0 (fbP F cx (fs 0) (fs (1 + c_)) fst fd word)) (0) (bz (nI 21)))))] := hD
  have hP : va_P D classes [(mo, .inr (3, [.int (nI 0), .int (nI L), .ref mt, .int (nI n), .ref my, .ref mg, .ref mw, .ref mf, .ref mr, .int (nI 1)])), (my, .inl (ca 0, 8400, .inl bs)), (mg, .inl (ca 3, 8400, .inl bg)), (mw, .inl (ca 1, 2, .inl (fun k => nI (wv k)))), (mf, .inl (ca 1, 4, .inl fs)), (mr, .inl (ca 0, 256, .inl (upd (bl mfr 0 0 (fbP F cx (fs 0) (fs (1 + c_)) fst fd word)) (0) (bz (nI 21)))))] H := hP.sub [4, 0, 1, 2, 3, 5] rfl
  have hD : va_D A [(mo, .inr (3, [.int (nI 0), .int (nI L), .ref mt, .int (nI n), .ref my, .ref mg, .ref mw, .ref mf, .ref mr, .int (nI 1)])), (my, .inl (ca 0, 8400, .inl bs)), (mg, .inl (ca 3, 8400, .inl bg)), (mw, .inl (ca 1, 2, .inl (fun k => nI (wv k)))), (mf, .inl (ca 1, 4, .inl fs)), (mr, .inl (ca 0, 256, .inl (upd (bl mfr 0 0 (fbP F cx (fs 0) (fs (1 + c_)) fst fd word)) (0) (bz (nI 21)))))] := hD.sub [4, 0, 1, 2, 3, 5] (by decide) rfl
  have e9 : upd (bl mfr 0 0 (fbP F cx (fs 0) (fs (1 + c_)) fst fd word)) (0) (bz (nI 21)) = bl mfr 0 1 (fbP F cx (fs 0) (fs (1 + c_)) fst fd word) := bl_z (rfl)
  rw [e9] at hP hD
  clear e9
  have hP : va_P D classes [(mo, .inr (3, [.int (nI 0), .int (nI L), .ref mt, .int (nI n), .ref my, .ref mg, .ref mw, .ref mf, .ref mr, .int (nI 1)])), (my, .inl (ca 0, 8400, .inl bs)), (mg, .inl (ca 3, 8400, .inl bg)), (mw, .inl (ca 1, 2, .inl (fun k => nI (wv k)))), (mf, .inl (ca 1, 4, .inl fs)), (mr, .inl (ca 0, 256, .inl (bl mfr 0 1 (fbP F cx (fs 0) (fs (1 + c_)) fst fd word))))] H := hP
  have hD : va_D A [(mo, .inr (3, [.int (nI 0), .int (nI L), .ref mt, .int (nI n), .ref my, .ref mg, .ref mw, .ref mf, .ref mr, .int (nI 1)])), (my, .inl (ca 0, 8400, .inl bs)), (mg, .inl (ca 3, 8400, .inl bg)), (mw, .inl (ca 1, 2, .inl (fun k => nI (wv k)))), (mf, .inl (ca 1, 4, .inl fs)), (mr, .inl (ca 0, 256, .inl (bl mfr 0 1 (fbP F cx (fs 0) (fs (1 + c_)) fst fd word))))] := hD
  refine lv_aload_n hx hb d_Mo_frame_134 rfl (lv_at hl 0 rfl) ?_
  refine lv_sipush (v := nI 160) hx hb d_Mo_frame_135 (by decide) ?_
  refine lv_iconst (v := nI 2) hx hb d_Mo_frame_138 (by decide) ?_
  refine lv_iload_n hx hb d_Mo_frame_139 rfl (lv_at hl 3 rfl) ?_
  refine lz_imul hx hb d_Mo_frame_140 ?_
  refine lz_iadd hx hb d_Mo_frame_141 ?_
  refine lv_iconst (v := nI 1) hx hb d_Mo_frame_142 (by decide) ?_
  refine lz_iadd hx hb d_Mo_frame_143 ?_
  refine k_Vv (n := 1) (As := [.int (nI ((160 + (2 * cx)) + 1))]) (rest := []) (wc := [(mo, .inr (3, [.int (nI 0), .int (nI L), .ref mt, .int (nI n), .ref my, .ref mg, .ref mw, .ref mf, .ref mr, .int (nI 1)])), (mr, .inl (ca 0, 256, .inl (bl mfr 0 1 (fbP F cx (fs 0) (fs (1 + c_)) fst fd word))))]) (wr := [(my, .inl (ca 0, 8400, .inl bs)), (mg, .inl (ca 3, 8400, .inl bg)), (mw, .inl (ca 1, 2, .inl (fun k => nI (wv k)))), (mf, .inl (ca 1, 4, .inl fs))]) (ci := 3) (q0 := 0) S0 rfl q_206 q_208 q_p9 q_4 rfl rfl q_209 (by decide +kernel) hK hP hD hS hA (c_Mo_add l D ca H.size mo mt my mg mw mf mr L n (1) (nI (160 + 2 * cx + 1)) (bl mfr 0 1 (fbP F cx (fs 0) (fs (1 + c_)) fst fd word)) (by omega)) [0, 5] [1, 2, 3, 4] rfl rfl (by decide) (by decide) (by decide) ⟨Nat.le_of_ble_eq_true rfl, Nat.le_of_ble_eq_true rfl⟩ rfl hl.1 rfl (Nat.le_of_ble_eq_true rfl) ⟨Nat.le_of_ble_eq_true rfl, Nat.le_of_ble_eq_true rfl⟩ d_Mo_frame_144 (fun u H locs hw hP hD hS => ?_)
  refine W.cs (cells' := 0) (slots' := 0) rfl rfl ?_
  have hP : va_P D classes [(my, .inl (ca 0, 8400, .inl bs)), (mg, .inl (ca 3, 8400, .inl bg)), (mw, .inl (ca 1, 2, .inl (fun k => nI (wv k)))), (mf, .inl (ca 1, 4, .inl fs)), (mo, .inr (3, [.int (nI 0), .int (nI L), .ref mt, .int (nI n), .ref my, .ref mg, .ref mw, .ref mf, .ref mr, .int (nI 2)])), (mr, .inl (ca 0, 256, .inl (upd (bl mfr 0 1 (fbP F cx (fs 0) (fs (1 + c_)) fst fd word)) (1) (bz (nI (160 + 2 * cx + 1))))))] H := hP
  have hD : va_D A [(my, .inl (ca 0, 8400, .inl bs)), (mg, .inl (ca 3, 8400, .inl bg)), (mw, .inl (ca 1, 2, .inl (fun k => nI (wv k)))), (mf, .inl (ca 1, 4, .inl fs)), (mo, .inr (3, [.int (nI 0), .int (nI L), .ref mt, .int (nI n), .ref my, .ref mg, .ref mw, .ref mf, .ref mr, .int (nI 2)])), (mr, .inl (ca 0, 256, .inl (upd (bl mfr 0 1 (fbP F cx (fs 0) (fs (1 + c_)) fst fd word)) (1) (bz (nI (160 + 2 * cx + 1))))))] := hD
  have hP : va_P D classes [(mo, .inr (3, [.int (nI 0), .int (nI L), .ref mt, .int (nI n), .ref my, .ref mg, .ref mw, .ref mf, .ref mr, .int (nI 2)])), (my, .inl (ca 0, 8400, .inl bs)), (mg, .inl (ca 3, 8400, .inl bg)), (mw, .inl (ca 1, 2, .inl (fun k => nI (wv k)))), (mf, .inl (ca 1, 4, .inl fs)), (mr, .inl (ca 0, 256, .inl (upd (bl mfr 0 1 (fbP F cx (fs 0) (fs (1 + c_)) fst fd word)) (1) (bz (nI (160 + 2 * cx + 1))))))] H := hP.sub [4, 0, 1, 2, 3, 5] rfl
  have hD : va_D A [(mo, .inr (3, [.int (nI 0), .int (nI L), .ref mt, .int (nI n), .ref my, .ref mg, .ref mw, .ref mf, .ref mr, .int (nI 2)])), (my, .inl (ca 0, 8400, .inl bs)), (mg, .inl (ca 3, 8400, .inl bg)), (mw, .inl (ca 1, 2, .inl (fun k => nI (wv k)))), (mf, .inl (ca 1, 4, .inl fs)), (mr, .inl (ca 0, 256, .inl (upd (bl mfr 0 1 (fbP F cx (fs 0) (fs (1 + c_)) fst fd word)) (1) (bz (nI (160 + 2 * cx + 1))))))] := hD.sub [4, 0, 1, 2, 3, 5] (by decide) rfl
  have e9 : upd (bl mfr 0 1 (fbP F cx (fs 0) (fs (1 + c_)) fst fd word)) (1) (bz (nI (160 + 2 * cx + 1))) = bl mfr 0 2 (fbP F cx (fs 0) (fs (1 + c_)) fst fd word) := bl_z (rfl)
  rw [e9] at hP hD
  clear e9
  have hP : va_P D classes [(mo, .inr (3, [.int (nI 0), .int (nI L), .ref mt, .int (nI n), .ref my, .ref mg, .ref mw, .ref mf, .ref mr, .int (nI 2)])), (my, .inl (ca 0, 8400, .inl bs)), (mg, .inl (ca 3, 8400, .inl bg)), (mw, .inl (ca 1, 2, .inl (fun k => nI (wv k)))), (mf, .inl (ca 1, 4, .inl fs)), (mr, .inl (ca 0, 256, .inl (bl mfr 0 2 (fbP F cx (fs 0) (fs (1 + c_)) fst fd word))))] H := hP
  have hD : va_D A [(mo, .inr (3, [.int (nI 0), .int (nI L), .ref mt, .int (nI n), .ref my, .ref mg, .ref mw, .ref mf, .ref mr, .int (nI 2)])), (my, .inl (ca 0, 8400, .inl bs)), (mg, .inl (ca 3, 8400, .inl bg)), (mw, .inl (ca 1, 2, .inl (fun k => nI (wv k)))), (mf, .inl (ca 1, 4, .inl fs)), (mr, .inl (ca 0, 256, .inl (bl mfr 0 2 (fbP F cx (fs 0) (fs (1 + c_)) fst fd word))))] := hD
  refine lv_aload_n hx hb d_Mo_frame_147 rfl (lv_at hl 0 rfl) ?_
  refine lv_aload_n hx hb d_Mo_frame_148 rfl (lv_at hl 0 rfl) ?_
  refine gf_Mo_24 (q0 := 0) S0 hK hP rfl rfl d_Mo_frame_149 ?_
  refine lv_iconst (v := nI 0) hx hb d_Mo_frame_152 (by decide) ?_
  refine lz_iald (i := 0) hx hb hK.1 hP 4 1 rfl rfl (by omega) (by decide) d_Mo_frame_153 ?_
  refine k_Vv (n := 1) (As := [.int (fs 0)]) (rest := []) (wc := [(mo, .inr (3, [.int (nI 0), .int (nI L), .ref mt, .int (nI n), .ref my, .ref mg, .ref mw, .ref mf, .ref mr, .int (nI 2)])), (mr, .inl (ca 0, 256, .inl (bl mfr 0 2 (fbP F cx (fs 0) (fs (1 + c_)) fst fd word))))]) (wr := [(my, .inl (ca 0, 8400, .inl bs)), (mg, .inl (ca 3, 8400, .inl bg)), (mw, .inl (ca 1, 2, .inl (fun k => nI (wv k)))), (mf, .inl (ca 1, 4, .inl fs))]) (ci := 3) (q0 := 0) S0 rfl q_206 q_208 q_p9 q_4 rfl rfl q_209 (by decide +kernel) hK hP hD hS hA (c_Mo_add l D ca H.size mo mt my mg mw mf mr L n (2) (fs 0) (bl mfr 0 2 (fbP F cx (fs 0) (fs (1 + c_)) fst fd word)) (by omega)) [0, 5] [1, 2, 3, 4] rfl rfl (by decide) (by decide) (by decide) ⟨Nat.le_of_ble_eq_true rfl, Nat.le_of_ble_eq_true rfl⟩ rfl hl.1 rfl (Nat.le_of_ble_eq_true rfl) ⟨Nat.le_of_ble_eq_true rfl, Nat.le_of_ble_eq_true rfl⟩ d_Mo_frame_154 (fun u H locs hw hP hD hS => ?_)
  refine W.cs (cells' := 0) (slots' := 0) rfl rfl ?_
  have hP : va_P D classes [(my, .inl (ca 0, 8400, .inl bs)), (mg, .inl (ca 3, 8400, .inl bg)), (mw, .inl (ca 1, 2, .inl (fun k => nI (wv k)))), (mf, .inl (ca 1, 4, .inl fs)), (mo, .inr (3, [.int (nI 0), .int (nI L), .ref mt, .int (nI n), .ref my, .ref mg, .ref mw, .ref mf, .ref mr, .int (nI 3)])), (mr, .inl (ca 0, 256, .inl (upd (bl mfr 0 2 (fbP F cx (fs 0) (fs (1 + c_)) fst fd word)) (2) (bz (fs 0)))))] H := hP
  have hD : va_D A [(my, .inl (ca 0, 8400, .inl bs)), (mg, .inl (ca 3, 8400, .inl bg)), (mw, .inl (ca 1, 2, .inl (fun k => nI (wv k)))), (mf, .inl (ca 1, 4, .inl fs)), (mo, .inr (3, [.int (nI 0), .int (nI L), .ref mt, .int (nI n), .ref my, .ref mg, .ref mw, .ref mf, .ref mr, .int (nI 3)])), (mr, .inl (ca 0, 256, .inl (upd (bl mfr 0 2 (fbP F cx (fs 0) (fs (1 + c_)) fst fd word)) (2) (bz (fs 0)))))] := hD
  have hP : va_P D classes [(mo, .inr (3, [.int (nI 0), .int (nI L), .ref mt, .int (nI n), .ref my, .ref mg, .ref mw, .ref mf, .ref mr, .int (nI 3)])), (my, .inl (ca 0, 8400, .inl bs)), (mg, .inl (ca 3, 8400, .inl bg)), (mw, .inl (ca 1, 2, .inl (fun k => nI (wv k)))), (mf, .inl (ca 1, 4, .inl fs)), (mr, .inl (ca 0, 256, .inl (upd (bl mfr 0 2 (fbP F cx (fs 0) (fs (1 + c_)) fst fd word)) (2) (bz (fs 0)))))] H := hP.sub [4, 0, 1, 2, 3, 5] rfl
  have hD : va_D A [(mo, .inr (3, [.int (nI 0), .int (nI L), .ref mt, .int (nI n), .ref my, .ref mg, .ref mw, .ref mf, .ref mr, .int (nI 3)])), (my, .inl (ca 0, 8400, .inl bs)), (mg, .inl (ca 3, 8400, .inl bg)), (mw, .inl (ca 1, 2, .inl (fun k => nI (wv k)))), (mf, .inl (ca 1, 4, .inl fs)), (mr, .inl (ca 0, 256, .inl (upd (bl mfr 0 2 (fbP F cx (fs 0) (fs (1 + c_)) fst fd word)) (2) (bz (fs 0)))))] := hD.sub [4, 0, 1, 2, 3, 5] (by decide) rfl
  have e9 : upd (bl mfr 0 2 (fbP F cx (fs 0) (fs (1 + c_)) fst fd word)) (2) (bz (fs 0)) = bl mfr 0 3 (fbP F cx (fs 0) (fs (1 + c_)) fst fd word) := bl_z (rfl)
  rw [e9] at hP hD
  clear e9
  have hP : va_P D classes [(mo, .inr (3, [.int (nI 0), .int (nI L), .ref mt, .int (nI n), .ref my, .ref mg, .ref mw, .ref mf, .ref mr, .int (nI 3)])), (my, .inl (ca 0, 8400, .inl bs)), (mg, .inl (ca 3, 8400, .inl bg)), (mw, .inl (ca 1, 2, .inl (fun k => nI (wv k)))), (mf, .inl (ca 1, 4, .inl fs)), (mr, .inl (ca 0, 256, .inl (bl mfr 0 3 (fbP F cx (fs 0) (fs (1 + c_)) fst fd word))))] H := hP
  have hD : va_D A [(mo, .inr (3, [.int (nI 0), .int (nI L), .ref mt, .int (nI n), .ref my, .ref mg, .ref mw, .ref mf, .ref mr, .int (nI 3)])), (my, .inl (ca 0, 8400, .inl bs)), (mg, .inl (ca 3, 8400, .inl bg)), (mw, .inl (ca 1, 2, .inl (fun k => nI (wv k)))), (mf, .inl (ca 1, 4, .inl fs)), (mr, .inl (ca 0, 256, .inl (bl mfr 0 3 (fbP F cx (fs 0) (fs (1 + c_)) fst fd word))))] := hD
  refine lv_aload_n hx hb d_Mo_frame_157 rfl (lv_at hl 0 rfl) ?_
  refine lv_aload_n hx hb d_Mo_frame_158 rfl (lv_at hl 0 rfl) ?_
  refine gf_Mo_24 (q0 := 0) S0 hK hP rfl rfl d_Mo_frame_159 ?_
  refine lv_iconst (v := nI 1) hx hb d_Mo_frame_162 (by decide) ?_
  refine lv_iload_n hx hb d_Mo_frame_163 rfl (lv_at hl 2 rfl) ?_
  refine lz_iadd hx hb d_Mo_frame_164 ?_
  refine lz_iald (i := 1 + c_) hx hb hK.1 hP 4 1 rfl rfl (by omega) (by decide) d_Mo_frame_165 ?_
  refine k_Vv (n := 1) (As := [.int (fs (1 + c_))]) (rest := []) (wc := [(mo, .inr (3, [.int (nI 0), .int (nI L), .ref mt, .int (nI n), .ref my, .ref mg, .ref mw, .ref mf, .ref mr, .int (nI 3)])), (mr, .inl (ca 0, 256, .inl (bl mfr 0 3 (fbP F cx (fs 0) (fs (1 + c_)) fst fd word))))]) (wr := [(my, .inl (ca 0, 8400, .inl bs)), (mg, .inl (ca 3, 8400, .inl bg)), (mw, .inl (ca 1, 2, .inl (fun k => nI (wv k)))), (mf, .inl (ca 1, 4, .inl fs))]) (ci := 3) (q0 := 0) S0 rfl q_206 q_208 q_p9 q_4 rfl rfl q_209 (by decide +kernel) hK hP hD hS hA (c_Mo_add l D ca H.size mo mt my mg mw mf mr L n (3) (fs (1 + c_)) (bl mfr 0 3 (fbP F cx (fs 0) (fs (1 + c_)) fst fd word)) (by omega)) [0, 5] [1, 2, 3, 4] rfl rfl (by decide) (by decide) (by decide) ⟨Nat.le_of_ble_eq_true rfl, Nat.le_of_ble_eq_true rfl⟩ rfl hl.1 rfl (Nat.le_of_ble_eq_true rfl) ⟨Nat.le_of_ble_eq_true rfl, Nat.le_of_ble_eq_true rfl⟩ d_Mo_frame_166 (fun u H locs hw hP hD hS => ?_)
  refine W.cs (cells' := 0) (slots' := 0) rfl rfl ?_
  have hP : va_P D classes [(my, .inl (ca 0, 8400, .inl bs)), (mg, .inl (ca 3, 8400, .inl bg)), (mw, .inl (ca 1, 2, .inl (fun k => nI (wv k)))), (mf, .inl (ca 1, 4, .inl fs)), (mo, .inr (3, [.int (nI 0), .int (nI L), .ref mt, .int (nI n), .ref my, .ref mg, .ref mw, .ref mf, .ref mr, .int (nI 4)])), (mr, .inl (ca 0, 256, .inl (upd (bl mfr 0 3 (fbP F cx (fs 0) (fs (1 + c_)) fst fd word)) (3) (bz (fs (1 + c_))))))] H := hP
  have hD : va_D A [(my, .inl (ca 0, 8400, .inl bs)), (mg, .inl (ca 3, 8400, .inl bg)), (mw, .inl (ca 1, 2, .inl (fun k => nI (wv k)))), (mf, .inl (ca 1, 4, .inl fs)), (mo, .inr (3, [.int (nI 0), .int (nI L), .ref mt, .int (nI n), .ref my, .ref mg, .ref mw, .ref mf, .ref mr, .int (nI 4)])), (mr, .inl (ca 0, 256, .inl (upd (bl mfr 0 3 (fbP F cx (fs 0) (fs (1 + c_)) fst fd word)) (3) (bz (fs (1 + c_))))))] := hD
  have hP : va_P D classes [(mo, .inr (3, [.int (nI 0), .int (nI L), .ref mt, .int (nI n), .ref my, .ref mg, .ref mw, .ref mf, .ref mr, .int (nI 4)])), (my, .inl (ca 0, 8400, .inl bs)), (mg, .inl (ca 3, 8400, .inl bg)), (mw, .inl (ca 1, 2, .inl (fun k => nI (wv k)))), (mf, .inl (ca 1, 4, .inl fs)), (mr, .inl (ca 0, 256, .inl (upd (bl mfr 0 3 (fbP F cx (fs 0) (fs (1 + c_)) fst fd word)) (3) (bz (fs (1 + c_))))))] H := hP.sub [4, 0, 1, 2, 3, 5] rfl
  have hD : va_D A [(mo, .inr (3, [.int (nI 0), .int (nI L), .ref mt, .int (nI n), .ref my, .ref mg, .ref mw, .ref mf, .ref mr, .int (nI 4)])), (my, .inl (ca 0, 8400, .inl bs)), (mg, .inl (ca 3, 8400, .inl bg)), (mw, .inl (ca 1, 2, .inl (fun k => nI (wv k)))), (mf, .inl (ca 1, 4, .inl fs)), (mr, .inl (ca 0, 256, .inl (upd (bl mfr 0 3 (fbP F cx (fs 0) (fs (1 + c_)) fst fd word)) (3) (bz (fs (1 + c_))))))] := hD.sub [4, 0, 1, 2, 3, 5] (by decide) rfl
  have e9 : upd (bl mfr 0 3 (fbP F cx (fs 0) (fs (1 + c_)) fst fd word)) (3) (bz (fs (1 + c_))) = bl mfr 0 4 (fbP F cx (fs 0) (fs (1 + c_)) fst fd word) := bl_z (rfl)
  rw [e9] at hP hD
  clear e9
  have hP : va_P D classes [(mo, .inr (3, [.int (nI 0), .int (nI L), .ref mt, .int (nI n), .ref my, .ref mg, .ref mw, .ref mf, .ref mr, .int (nI 4)])), (my, .inl (ca 0, 8400, .inl bs)), (mg, .inl (ca 3, 8400, .inl bg)), (mw, .inl (ca 1, 2, .inl (fun k => nI (wv k)))), (mf, .inl (ca 1, 4, .inl fs)), (mr, .inl (ca 0, 256, .inl (bl mfr 0 4 (fbP F cx (fs 0) (fs (1 + c_)) fst fd word))))] H := hP
  have hD : va_D A [(mo, .inr (3, [.int (nI 0), .int (nI L), .ref mt, .int (nI n), .ref my, .ref mg, .ref mw, .ref mf, .ref mr, .int (nI 4)])), (my, .inl (ca 0, 8400, .inl bs)), (mg, .inl (ca 3, 8400, .inl bg)), (mw, .inl (ca 1, 2, .inl (fun k => nI (wv k)))), (mf, .inl (ca 1, 4, .inl fs)), (mr, .inl (ca 0, 256, .inl (bl mfr 0 4 (fbP F cx (fs 0) (fs (1 + c_)) fst fd word))))] := hD
  refine lv_aload_n hx hb d_Mo_frame_169 rfl (lv_at hl 0 rfl) ?_
  refine lv_bipush (v := nI 24) hx hb d_Mo_frame_170 (by decide) ?_
  refine lv_iload hx hb d_Mo_frame_172 (lv_at hl 5 rfl) ?_
  refine lv_sipush (v := nI 256) hx hb d_Mo_frame_174 (by decide) ?_
  refine lz_idiv hx hb (by omega) (by decide) (by decide) d_Mo_frame_177 ?_
  refine lz_iadd hx hb d_Mo_frame_178 ?_
  refine k_Vv (n := 1) (As := [.int (nI (24 + (fst / 256)))]) (rest := []) (wc := [(mo, .inr (3, [.int (nI 0), .int (nI L), .ref mt, .int (nI n), .ref my, .ref mg, .ref mw, .ref mf, .ref mr, .int (nI 4)])), (mr, .inl (ca 0, 256, .inl (bl mfr 0 4 (fbP F cx (fs 0) (fs (1 + c_)) fst fd word))))]) (wr := [(my, .inl (ca 0, 8400, .inl bs)), (mg, .inl (ca 3, 8400, .inl bg)), (mw, .inl (ca 1, 2, .inl (fun k => nI (wv k)))), (mf, .inl (ca 1, 4, .inl fs))]) (ci := 3) (q0 := 0) S0 rfl q_206 q_208 q_p9 q_4 rfl rfl q_209 (by decide +kernel) hK hP hD hS hA (c_Mo_add l D ca H.size mo mt my mg mw mf mr L n (4) (nI (24 + fst / 256)) (bl mfr 0 4 (fbP F cx (fs 0) (fs (1 + c_)) fst fd word)) (by omega)) [0, 5] [1, 2, 3, 4] rfl rfl (by decide) (by decide) (by decide) ⟨Nat.le_of_ble_eq_true rfl, Nat.le_of_ble_eq_true rfl⟩ rfl hl.1 rfl (Nat.le_of_ble_eq_true rfl) ⟨Nat.le_of_ble_eq_true rfl, Nat.le_of_ble_eq_true rfl⟩ d_Mo_frame_179 (fun u H locs hw hP hD hS => ?_)
  refine W.cs (cells' := 0) (slots' := 0) rfl rfl ?_
  have hP : va_P D classes [(my, .inl (ca 0, 8400, .inl bs)), (mg, .inl (ca 3, 8400, .inl bg)), (mw, .inl (ca 1, 2, .inl (fun k => nI (wv k)))), (mf, .inl (ca 1, 4, .inl fs)), (mo, .inr (3, [.int (nI 0), .int (nI L), .ref mt, .int (nI n), .ref my, .ref mg, .ref mw, .ref mf, .ref mr, .int (nI 5)])), (mr, .inl (ca 0, 256, .inl (upd (bl mfr 0 4 (fbP F cx (fs 0) (fs (1 + c_)) fst fd word)) (4) (bz (nI (24 + fst / 256))))))] H := hP
  have hD : va_D A [(my, .inl (ca 0, 8400, .inl bs)), (mg, .inl (ca 3, 8400, .inl bg)), (mw, .inl (ca 1, 2, .inl (fun k => nI (wv k)))), (mf, .inl (ca 1, 4, .inl fs)), (mo, .inr (3, [.int (nI 0), .int (nI L), .ref mt, .int (nI n), .ref my, .ref mg, .ref mw, .ref mf, .ref mr, .int (nI 5)])), (mr, .inl (ca 0, 256, .inl (upd (bl mfr 0 4 (fbP F cx (fs 0) (fs (1 + c_)) fst fd word)) (4) (bz (nI (24 + fst / 256))))))] := hD
  have hP : va_P D classes [(mo, .inr (3, [.int (nI 0), .int (nI L), .ref mt, .int (nI n), .ref my, .ref mg, .ref mw, .ref mf, .ref mr, .int (nI 5)])), (my, .inl (ca 0, 8400, .inl bs)), (mg, .inl (ca 3, 8400, .inl bg)), (mw, .inl (ca 1, 2, .inl (fun k => nI (wv k)))), (mf, .inl (ca 1, 4, .inl fs)), (mr, .inl (ca 0, 256, .inl (upd (bl mfr 0 4 (fbP F cx (fs 0) (fs (1 + c_)) fst fd word)) (4) (bz (nI (24 + fst / 256))))))] H := hP.sub [4, 0, 1, 2, 3, 5] rfl
  have hD : va_D A [(mo, .inr (3, [.int (nI 0), .int (nI L), .ref mt, .int (nI n), .ref my, .ref mg, .ref mw, .ref mf, .ref mr, .int (nI 5)])), (my, .inl (ca 0, 8400, .inl bs)), (mg, .inl (ca 3, 8400, .inl bg)), (mw, .inl (ca 1, 2, .inl (fun k => nI (wv k)))), (mf, .inl (ca 1, 4, .inl fs)), (mr, .inl (ca 0, 256, .inl (upd (bl mfr 0 4 (fbP F cx (fs 0) (fs (1 + c_)) fst fd word)) (4) (bz (nI (24 + fst / 256))))))] := hD.sub [4, 0, 1, 2, 3, 5] (by decide) rfl
  have e9 : upd (bl mfr 0 4 (fbP F cx (fs 0) (fs (1 + c_)) fst fd word)) (4) (bz (nI (24 + fst / 256))) = bl mfr 0 5 (fbP F cx (fs 0) (fs (1 + c_)) fst fd word) := bl_z (rfl)
  rw [e9] at hP hD
  clear e9
  have hP : va_P D classes [(mo, .inr (3, [.int (nI 0), .int (nI L), .ref mt, .int (nI n), .ref my, .ref mg, .ref mw, .ref mf, .ref mr, .int (nI 5)])), (my, .inl (ca 0, 8400, .inl bs)), (mg, .inl (ca 3, 8400, .inl bg)), (mw, .inl (ca 1, 2, .inl (fun k => nI (wv k)))), (mf, .inl (ca 1, 4, .inl fs)), (mr, .inl (ca 0, 256, .inl (bl mfr 0 5 (fbP F cx (fs 0) (fs (1 + c_)) fst fd word))))] H := hP
  have hD : va_D A [(mo, .inr (3, [.int (nI 0), .int (nI L), .ref mt, .int (nI n), .ref my, .ref mg, .ref mw, .ref mf, .ref mr, .int (nI 5)])), (my, .inl (ca 0, 8400, .inl bs)), (mg, .inl (ca 3, 8400, .inl bg)), (mw, .inl (ca 1, 2, .inl (fun k => nI (wv k)))), (mf, .inl (ca 1, 4, .inl fs)), (mr, .inl (ca 0, 256, .inl (bl mfr 0 5 (fbP F cx (fs 0) (fs (1 + c_)) fst fd word))))] := hD
  refine lv_aload_n hx hb d_Mo_frame_182 rfl (lv_at hl 0 rfl) ?_
  refine lv_iload hx hb d_Mo_frame_183 (lv_at hl 5 rfl) ?_
  refine k_Vv (n := 1) (As := [.int (nI fst)]) (rest := []) (wc := [(mo, .inr (3, [.int (nI 0), .int (nI L), .ref mt, .int (nI n), .ref my, .ref mg, .ref mw, .ref mf, .ref mr, .int (nI 5)])), (mr, .inl (ca 0, 256, .inl (bl mfr 0 5 (fbP F cx (fs 0) (fs (1 + c_)) fst fd word))))]) (wr := [(my, .inl (ca 0, 8400, .inl bs)), (mg, .inl (ca 3, 8400, .inl bg)), (mw, .inl (ca 1, 2, .inl (fun k => nI (wv k)))), (mf, .inl (ca 1, 4, .inl fs))]) (ci := 3) (q0 := 0) S0 rfl q_206 q_208 q_p9 q_4 rfl rfl q_209 (by decide +kernel) hK hP hD hS hA (c_Mo_add l D ca H.size mo mt my mg mw mf mr L n (5) (nI fst) (bl mfr 0 5 (fbP F cx (fs 0) (fs (1 + c_)) fst fd word)) (by omega)) [0, 5] [1, 2, 3, 4] rfl rfl (by decide) (by decide) (by decide) ⟨Nat.le_of_ble_eq_true rfl, Nat.le_of_ble_eq_true rfl⟩ rfl hl.1 rfl (Nat.le_of_ble_eq_true rfl) ⟨Nat.le_of_ble_eq_true rfl, Nat.le_of_ble_eq_true rfl⟩ d_Mo_frame_185 (fun u H locs hw hP hD hS => ?_)
  refine W.cs (cells' := 0) (slots' := 0) rfl rfl ?_
  have hP : va_P D classes [(my, .inl (ca 0, 8400, .inl bs)), (mg, .inl (ca 3, 8400, .inl bg)), (mw, .inl (ca 1, 2, .inl (fun k => nI (wv k)))), (mf, .inl (ca 1, 4, .inl fs)), (mo, .inr (3, [.int (nI 0), .int (nI L), .ref mt, .int (nI n), .ref my, .ref mg, .ref mw, .ref mf, .ref mr, .int (nI 6)])), (mr, .inl (ca 0, 256, .inl (upd (bl mfr 0 5 (fbP F cx (fs 0) (fs (1 + c_)) fst fd word)) (5) (bz (nI fst)))))] H := hP
  have hD : va_D A [(my, .inl (ca 0, 8400, .inl bs)), (mg, .inl (ca 3, 8400, .inl bg)), (mw, .inl (ca 1, 2, .inl (fun k => nI (wv k)))), (mf, .inl (ca 1, 4, .inl fs)), (mo, .inr (3, [.int (nI 0), .int (nI L), .ref mt, .int (nI n), .ref my, .ref mg, .ref mw, .ref mf, .ref mr, .int (nI 6)])), (mr, .inl (ca 0, 256, .inl (upd (bl mfr 0 5 (fbP F cx (fs 0) (fs (1 + c_)) fst fd word)) (5) (bz (nI fst)))))] := hD
  have hP : va_P D classes [(mo, .inr (3, [.int (nI 0), .int (nI L), .ref mt, .int (nI n), .ref my, .ref mg, .ref mw, .ref mf, .ref mr, .int (nI 6)])), (my, .inl (ca 0, 8400, .inl bs)), (mg, .inl (ca 3, 8400, .inl bg)), (mw, .inl (ca 1, 2, .inl (fun k => nI (wv k)))), (mf, .inl (ca 1, 4, .inl fs)), (mr, .inl (ca 0, 256, .inl (upd (bl mfr 0 5 (fbP F cx (fs 0) (fs (1 + c_)) fst fd word)) (5) (bz (nI fst)))))] H := hP.sub [4, 0, 1, 2, 3, 5] rfl
  have hD : va_D A [(mo, .inr (3, [.int (nI 0), .int (nI L), .ref mt, .int (nI n), .ref my, .ref mg, .ref mw, .ref mf, .ref mr, .int (nI 6)])), (my, .inl (ca 0, 8400, .inl bs)), (mg, .inl (ca 3, 8400, .inl bg)), (mw, .inl (ca 1, 2, .inl (fun k => nI (wv k)))), (mf, .inl (ca 1, 4, .inl fs)), (mr, .inl (ca 0, 256, .inl (upd (bl mfr 0 5 (fbP F cx (fs 0) (fs (1 + c_)) fst fd word)) (5) (bz (nI fst)))))] := hD.sub [4, 0, 1, 2, 3, 5] (by decide) rfl
  have e9 : upd (bl mfr 0 5 (fbP F cx (fs 0) (fs (1 + c_)) fst fd word)) (5) (bz (nI fst)) = bl mfr 0 6 (fbP F cx (fs 0) (fs (1 + c_)) fst fd word) := bl_z (rfl)
  rw [e9] at hP hD
  clear e9
  have hP : va_P D classes [(mo, .inr (3, [.int (nI 0), .int (nI L), .ref mt, .int (nI n), .ref my, .ref mg, .ref mw, .ref mf, .ref mr, .int (nI 6)])), (my, .inl (ca 0, 8400, .inl bs)), (mg, .inl (ca 3, 8400, .inl bg)), (mw, .inl (ca 1, 2, .inl (fun k => nI (wv k)))), (mf, .inl (ca 1, 4, .inl fs)), (mr, .inl (ca 0, 256, .inl (bl mfr 0 6 (fbP F cx (fs 0) (fs (1 + c_)) fst fd word))))] H := hP
  have hD : va_D A [(mo, .inr (3, [.int (nI 0), .int (nI L), .ref mt, .int (nI n), .ref my, .ref mg, .ref mw, .ref mf, .ref mr, .int (nI 6)])), (my, .inl (ca 0, 8400, .inl bs)), (mg, .inl (ca 3, 8400, .inl bg)), (mw, .inl (ca 1, 2, .inl (fun k => nI (wv k)))), (mf, .inl (ca 1, 4, .inl fs)), (mr, .inl (ca 0, 256, .inl (bl mfr 0 6 (fbP F cx (fs 0) (fs (1 + c_)) fst fd word))))] := hD
  refine lv_iconst (v := nI 0) hx hb d_Mo_frame_188 (by decide) ?_
  refine lv_istore (lv' := [(6, .int (nI 0)), (0, .ref mo), (1, .int word), (2, .int (nI c_)), (3, .int (nI cx)), (4, .int (nI F)), (5, .int (nI fst))]) hx hb d_Mo_frame_189 hl (by decide) rfl (fun ls hl => ?_)
  refine lp_mf_f mo mt my mg mw mf mr F L n fl_ c_ cx fst word fd bs bg fs mfr wv h1 h2 h3 hfd S0 hK hA (fun H locs ls hP hD hS hl => ?_) (F + 1) 0 H locs ls (by omega) (by omega) hP hD hS (lv_sub hl [0, 1, 2, 3, 4, 5] rfl)
  have hP : va_P D classes [(mo, .inr (3, [.int (nI 0), .int (nI L), .ref mt, .int (nI n), .ref my, .ref mg, .ref mw, .ref mf, .ref mr, .int (nI (6 + F + 0))])), (my, .inl (ca 0, 8400, .inl bs)), (mg, .inl (ca 3, 8400, .inl bg)), (mw, .inl (ca 1, 2, .inl (fun k => nI (wv k)))), (mf, .inl (ca 1, 4, .inl fs)), (mr, .inl (ca 0, 256, .inl (bl mfr 0 (6 + F + 0) (fbP F cx (fs 0) (fs (1 + c_)) fst fd word))))] H := hP
  have hD : va_D A [(mo, .inr (3, [.int (nI 0), .int (nI L), .ref mt, .int (nI n), .ref my, .ref mg, .ref mw, .ref mf, .ref mr, .int (nI (6 + F + 0))])), (my, .inl (ca 0, 8400, .inl bs)), (mg, .inl (ca 3, 8400, .inl bg)), (mw, .inl (ca 1, 2, .inl (fun k => nI (wv k)))), (mf, .inl (ca 1, 4, .inl fs)), (mr, .inl (ca 0, 256, .inl (bl mfr 0 (6 + F + 0) (fbP F cx (fs 0) (fs (1 + c_)) fst fd word))))] := hD
  refine lv_bipush (v := nI 24) hx hb d_Mo_frame_231 (by decide) ?_
  refine lv_istore (lv' := [(6, .int (nI 24)), (0, .ref mo), (1, .int word), (2, .int (nI c_)), (3, .int (nI cx)), (4, .int (nI F))]) hx hb d_Mo_frame_233 hl (by decide) rfl (fun ls hl => ?_)
  refine lv_iload hx hb d_Mo_frame_235 (lv_at hl 0 rfl) ?_
  refine lv_if_lt (tgt := 254) hx hb d_Mo_frame_237 (by decide) (fun h9 => ?_) (fun h9 => ?_)
  · exact absurd h9 (by decide)
  · refine lv_aload_n hx hb d_Mo_frame_240 rfl (lv_at hl 1 rfl) ?_
    refine lv_iload_n hx hb d_Mo_frame_241 rfl (lv_at hl 2 rfl) ?_
    refine lv_iload hx hb d_Mo_frame_242 (lv_at hl 0 rfl) ?_
    refine lv_ishr hx hb d_Mo_frame_244 ?_
    refine k_Vv (n := 1) (As := [.int (word >>> (nI 24 &&& 31))]) (rest := []) (wc := [(mo, .inr (3, [.int (nI 0), .int (nI L), .ref mt, .int (nI n), .ref my, .ref mg, .ref mw, .ref mf, .ref mr, .int (nI (6 + F + 0))])), (mr, .inl (ca 0, 256, .inl (bl mfr 0 (6 + F + 0) (fbP F cx (fs 0) (fs (1 + c_)) fst fd word))))]) (wr := [(my, .inl (ca 0, 8400, .inl bs)), (mg, .inl (ca 3, 8400, .inl bg)), (mw, .inl (ca 1, 2, .inl (fun k => nI (wv k)))), (mf, .inl (ca 1, 4, .inl fs))]) (ci := 3) (q0 := 0) S0 rfl q_206 q_208 q_p9 q_4 rfl rfl q_209 (by decide +kernel) hK hP hD hS hA (c_Mo_add l D ca H.size mo mt my mg mw mf mr L n (6 + F + 0) (word >>> (nI 24 &&& 31)) (bl mfr 0 (6 + F + 0) (fbP F cx (fs 0) (fs (1 + c_)) fst fd word)) (by omega)) [0, 5] [1, 2, 3, 4] rfl rfl (by decide) (by decide) (by decide) ⟨Nat.le_of_ble_eq_true rfl, Nat.le_of_ble_eq_true rfl⟩ rfl hl.1 rfl (Nat.le_of_ble_eq_true rfl) ⟨Nat.le_of_ble_eq_true rfl, Nat.le_of_ble_eq_true rfl⟩ d_Mo_frame_245 (fun u H locs hw hP hD hS => ?_)
    refine W.cs (cells' := 0) (slots' := 0) rfl rfl ?_
    have hP : va_P D classes [(my, .inl (ca 0, 8400, .inl bs)), (mg, .inl (ca 3, 8400, .inl bg)), (mw, .inl (ca 1, 2, .inl (fun k => nI (wv k)))), (mf, .inl (ca 1, 4, .inl fs)), (mo, .inr (3, [.int (nI 0), .int (nI L), .ref mt, .int (nI n), .ref my, .ref mg, .ref mw, .ref mf, .ref mr, .int (nI (6 + F + 1))])), (mr, .inl (ca 0, 256, .inl (upd (bl mfr 0 (6 + F + 0) (fbP F cx (fs 0) (fs (1 + c_)) fst fd word)) (6 + F + 0) (bz (word >>> (nI 24 &&& 31))))))] H := hP
    have hD : va_D A [(my, .inl (ca 0, 8400, .inl bs)), (mg, .inl (ca 3, 8400, .inl bg)), (mw, .inl (ca 1, 2, .inl (fun k => nI (wv k)))), (mf, .inl (ca 1, 4, .inl fs)), (mo, .inr (3, [.int (nI 0), .int (nI L), .ref mt, .int (nI n), .ref my, .ref mg, .ref mw, .ref mf, .ref mr, .int (nI (6 + F + 1))])), (mr, .inl (ca 0, 256, .inl (upd (bl mfr 0 (6 + F + 0) (fbP F cx (fs 0) (fs (1 + c_)) fst fd word)) (6 + F + 0) (bz (word >>> (nI 24 &&& 31))))))] := hD
    have hP : va_P D classes [(mo, .inr (3, [.int (nI 0), .int (nI L), .ref mt, .int (nI n), .ref my, .ref mg, .ref mw, .ref mf, .ref mr, .int (nI (6 + F + 1))])), (my, .inl (ca 0, 8400, .inl bs)), (mg, .inl (ca 3, 8400, .inl bg)), (mw, .inl (ca 1, 2, .inl (fun k => nI (wv k)))), (mf, .inl (ca 1, 4, .inl fs)), (mr, .inl (ca 0, 256, .inl (upd (bl mfr 0 (6 + F + 0) (fbP F cx (fs 0) (fs (1 + c_)) fst fd word)) (6 + F + 0) (bz (word >>> (nI 24 &&& 31))))))] H := hP.sub [4, 0, 1, 2, 3, 5] rfl
    have hD : va_D A [(mo, .inr (3, [.int (nI 0), .int (nI L), .ref mt, .int (nI n), .ref my, .ref mg, .ref mw, .ref mf, .ref mr, .int (nI (6 + F + 1))])), (my, .inl (ca 0, 8400, .inl bs)), (mg, .inl (ca 3, 8400, .inl bg)), (mw, .inl (ca 1, 2, .inl (fun k => nI (wv k)))), (mf, .inl (ca 1, 4, .inl fs)), (mr, .inl (ca 0, 256, .inl (upd (bl mfr 0 (6 + F + 0) (fbP F cx (fs 0) (fs (1 + c_)) fst fd word)) (6 + F + 0) (bz (word >>> (nI 24 &&& 31))))))] := hD.sub [4, 0, 1, 2, 3, 5] (by decide) rfl
    have e9 : upd (bl mfr 0 (6 + F + 0) (fbP F cx (fs 0) (fs (1 + c_)) fst fd word)) (6 + F + 0) (bz (word >>> (nI 24 &&& 31))) = bl mfr 0 (6 + F + 1) (fbP F cx (fs 0) (fs (1 + c_)) fst fd word) := bl_z (fbP_wi 0 24 (by decide))
    rw [e9] at hP hD
    clear e9
    have hP : va_P D classes [(mo, .inr (3, [.int (nI 0), .int (nI L), .ref mt, .int (nI n), .ref my, .ref mg, .ref mw, .ref mf, .ref mr, .int (nI (6 + F + 1))])), (my, .inl (ca 0, 8400, .inl bs)), (mg, .inl (ca 3, 8400, .inl bg)), (mw, .inl (ca 1, 2, .inl (fun k => nI (wv k)))), (mf, .inl (ca 1, 4, .inl fs)), (mr, .inl (ca 0, 256, .inl (bl mfr 0 (6 + F + 1) (fbP F cx (fs 0) (fs (1 + c_)) fst fd word))))] H := hP
    have hD : va_D A [(mo, .inr (3, [.int (nI 0), .int (nI L), .ref mt, .int (nI n), .ref my, .ref mg, .ref mw, .ref mf, .ref mr, .int (nI (6 + F + 1))])), (my, .inl (ca 0, 8400, .inl bs)), (mg, .inl (ca 3, 8400, .inl bg)), (mw, .inl (ca 1, 2, .inl (fun k => nI (wv k)))), (mf, .inl (ca 1, 4, .inl fs)), (mr, .inl (ca 0, 256, .inl (bl mfr 0 (6 + F + 1) (fbP F cx (fs 0) (fs (1 + c_)) fst fd word))))] := hD
    refine lv_iinc (v := nI 16) (lv' := [(6, .int (nI 16)), (0, .ref mo), (1, .int word), (2, .int (nI c_)), (3, .int (nI cx)), (4, .int (nI F))]) hx hb d_Mo_frame_248 hl (k := 0) rfl (by decide) (by decide) rfl (fun ls hl => ?_)
    refine lv_goto (tgt := 235) hx hb d_Mo_frame_251 (by decide) ?_
    refine lv_iload hx hb d_Mo_frame_235 (lv_at hl 0 rfl) ?_
    refine lv_if_lt (tgt := 254) hx hb d_Mo_frame_237 (by decide) (fun h9 => ?_) (fun h9 => ?_)
    · exact absurd h9 (by decide)
    · refine lv_aload_n hx hb d_Mo_frame_240 rfl (lv_at hl 1 rfl) ?_
      refine lv_iload_n hx hb d_Mo_frame_241 rfl (lv_at hl 2 rfl) ?_
      refine lv_iload hx hb d_Mo_frame_242 (lv_at hl 0 rfl) ?_
      refine lv_ishr hx hb d_Mo_frame_244 ?_
      refine k_Vv (n := 1) (As := [.int (word >>> (nI 16 &&& 31))]) (rest := []) (wc := [(mo, .inr (3, [.int (nI 0), .int (nI L), .ref mt, .int (nI n), .ref my, .ref mg, .ref mw, .ref mf, .ref mr, .int (nI (6 + F + 1))])), (mr, .inl (ca 0, 256, .inl (bl mfr 0 (6 + F + 1) (fbP F cx (fs 0) (fs (1 + c_)) fst fd word))))]) (wr := [(my, .inl (ca 0, 8400, .inl bs)), (mg, .inl (ca 3, 8400, .inl bg)), (mw, .inl (ca 1, 2, .inl (fun k => nI (wv k)))), (mf, .inl (ca 1, 4, .inl fs))]) (ci := 3) (q0 := 0) S0 rfl q_206 q_208 q_p9 q_4 rfl rfl q_209 (by decide +kernel) hK hP hD hS hA (c_Mo_add l D ca H.size mo mt my mg mw mf mr L n (6 + F + 1) (word >>> (nI 16 &&& 31)) (bl mfr 0 (6 + F + 1) (fbP F cx (fs 0) (fs (1 + c_)) fst fd word)) (by omega)) [0, 5] [1, 2, 3, 4] rfl rfl (by decide) (by decide) (by decide) ⟨Nat.le_of_ble_eq_true rfl, Nat.le_of_ble_eq_true rfl⟩ rfl hl.1 rfl (Nat.le_of_ble_eq_true rfl) ⟨Nat.le_of_ble_eq_true rfl, Nat.le_of_ble_eq_true rfl⟩ d_Mo_frame_245 (fun u H locs hw hP hD hS => ?_)
      refine W.cs (cells' := 0) (slots' := 0) rfl rfl ?_
      have hP : va_P D classes [(my, .inl (ca 0, 8400, .inl bs)), (mg, .inl (ca 3, 8400, .inl bg)), (mw, .inl (ca 1, 2, .inl (fun k => nI (wv k)))), (mf, .inl (ca 1, 4, .inl fs)), (mo, .inr (3, [.int (nI 0), .int (nI L), .ref mt, .int (nI n), .ref my, .ref mg, .ref mw, .ref mf, .ref mr, .int (nI (6 + F + 2))])), (mr, .inl (ca 0, 256, .inl (upd (bl mfr 0 (6 + F + 1) (fbP F cx (fs 0) (fs (1 + c_)) fst fd word)) (6 + F + 1) (bz (word >>> (nI 16 &&& 31))))))] H := hP
      have hD : va_D A [(my, .inl (ca 0, 8400, .inl bs)), (mg, .inl (ca 3, 8400, .inl bg)), (mw, .inl (ca 1, 2, .inl (fun k => nI (wv k)))), (mf, .inl (ca 1, 4, .inl fs)), (mo, .inr (3, [.int (nI 0), .int (nI L), .ref mt, .int (nI n), .ref my, .ref mg, .ref mw, .ref mf, .ref mr, .int (nI (6 + F + 2))])), (mr, .inl (ca 0, 256, .inl (upd (bl mfr 0 (6 + F + 1) (fbP F cx (fs 0) (fs (1 + c_)) fst fd word)) (6 + F + 1) (bz (word >>> (nI 16 &&& 31))))))] := hD
      have hP : va_P D classes [(mo, .inr (3, [.int (nI 0), .int (nI L), .ref mt, .int (nI n), .ref my, .ref mg, .ref mw, .ref mf, .ref mr, .int (nI (6 + F + 2))])), (my, .inl (ca 0, 8400, .inl bs)), (mg, .inl (ca 3, 8400, .inl bg)), (mw, .inl (ca 1, 2, .inl (fun k => nI (wv k)))), (mf, .inl (ca 1, 4, .inl fs)), (mr, .inl (ca 0, 256, .inl (upd (bl mfr 0 (6 + F + 1) (fbP F cx (fs 0) (fs (1 + c_)) fst fd word)) (6 + F + 1) (bz (word >>> (nI 16 &&& 31))))))] H := hP.sub [4, 0, 1, 2, 3, 5] rfl
      have hD : va_D A [(mo, .inr (3, [.int (nI 0), .int (nI L), .ref mt, .int (nI n), .ref my, .ref mg, .ref mw, .ref mf, .ref mr, .int (nI (6 + F + 2))])), (my, .inl (ca 0, 8400, .inl bs)), (mg, .inl (ca 3, 8400, .inl bg)), (mw, .inl (ca 1, 2, .inl (fun k => nI (wv k)))), (mf, .inl (ca 1, 4, .inl fs)), (mr, .inl (ca 0, 256, .inl (upd (bl mfr 0 (6 + F + 1) (fbP F cx (fs 0) (fs (1 + c_)) fst fd word)) (6 + F + 1) (bz (word >>> (nI 16 &&& 31))))))] := hD.sub [4, 0, 1, 2, 3, 5] (by decide) rfl
      have e9 : upd (bl mfr 0 (6 + F + 1) (fbP F cx (fs 0) (fs (1 + c_)) fst fd word)) (6 + F + 1) (bz (word >>> (nI 16 &&& 31))) = bl mfr 0 (6 + F + 2) (fbP F cx (fs 0) (fs (1 + c_)) fst fd word) := bl_z (fbP_wi 1 16 (by decide))
      rw [e9] at hP hD
      clear e9
      have hP : va_P D classes [(mo, .inr (3, [.int (nI 0), .int (nI L), .ref mt, .int (nI n), .ref my, .ref mg, .ref mw, .ref mf, .ref mr, .int (nI (6 + F + 2))])), (my, .inl (ca 0, 8400, .inl bs)), (mg, .inl (ca 3, 8400, .inl bg)), (mw, .inl (ca 1, 2, .inl (fun k => nI (wv k)))), (mf, .inl (ca 1, 4, .inl fs)), (mr, .inl (ca 0, 256, .inl (bl mfr 0 (6 + F + 2) (fbP F cx (fs 0) (fs (1 + c_)) fst fd word))))] H := hP
      have hD : va_D A [(mo, .inr (3, [.int (nI 0), .int (nI L), .ref mt, .int (nI n), .ref my, .ref mg, .ref mw, .ref mf, .ref mr, .int (nI (6 + F + 2))])), (my, .inl (ca 0, 8400, .inl bs)), (mg, .inl (ca 3, 8400, .inl bg)), (mw, .inl (ca 1, 2, .inl (fun k => nI (wv k)))), (mf, .inl (ca 1, 4, .inl fs)), (mr, .inl (ca 0, 256, .inl (bl mfr 0 (6 + F + 2) (fbP F cx (fs 0) (fs (1 + c_)) fst fd word))))] := hD
      refine lv_iinc (v := nI 8) (lv' := [(6, .int (nI 8)), (0, .ref mo), (1, .int word), (2, .int (nI c_)), (3, .int (nI cx)), (4, .int (nI F))]) hx hb d_Mo_frame_248 hl (k := 0) rfl (by decide) (by decide) rfl (fun ls hl => ?_)
      refine lv_goto (tgt := 235) hx hb d_Mo_frame_251 (by decide) ?_
      refine lv_iload hx hb d_Mo_frame_235 (lv_at hl 0 rfl) ?_
      refine lv_if_lt (tgt := 254) hx hb d_Mo_frame_237 (by decide) (fun h9 => ?_) (fun h9 => ?_)
      · exact absurd h9 (by decide)
      · refine lv_aload_n hx hb d_Mo_frame_240 rfl (lv_at hl 1 rfl) ?_
        refine lv_iload_n hx hb d_Mo_frame_241 rfl (lv_at hl 2 rfl) ?_
        refine lv_iload hx hb d_Mo_frame_242 (lv_at hl 0 rfl) ?_
        refine lv_ishr hx hb d_Mo_frame_244 ?_
        refine k_Vv (n := 1) (As := [.int (word >>> (nI 8 &&& 31))]) (rest := []) (wc := [(mo, .inr (3, [.int (nI 0), .int (nI L), .ref mt, .int (nI n), .ref my, .ref mg, .ref mw, .ref mf, .ref mr, .int (nI (6 + F + 2))])), (mr, .inl (ca 0, 256, .inl (bl mfr 0 (6 + F + 2) (fbP F cx (fs 0) (fs (1 + c_)) fst fd word))))]) (wr := [(my, .inl (ca 0, 8400, .inl bs)), (mg, .inl (ca 3, 8400, .inl bg)), (mw, .inl (ca 1, 2, .inl (fun k => nI (wv k)))), (mf, .inl (ca 1, 4, .inl fs))]) (ci := 3) (q0 := 0) S0 rfl q_206 q_208 q_p9 q_4 rfl rfl q_209 (by decide +kernel) hK hP hD hS hA (c_Mo_add l D ca H.size mo mt my mg mw mf mr L n (6 + F + 2) (word >>> (nI 8 &&& 31)) (bl mfr 0 (6 + F + 2) (fbP F cx (fs 0) (fs (1 + c_)) fst fd word)) (by omega)) [0, 5] [1, 2, 3, 4] rfl rfl (by decide) (by decide) (by decide) ⟨Nat.le_of_ble_eq_true rfl, Nat.le_of_ble_eq_true rfl⟩ rfl hl.1 rfl (Nat.le_of_ble_eq_true rfl) ⟨Nat.le_of_ble_eq_true rfl, Nat.le_of_ble_eq_true rfl⟩ d_Mo_frame_245 (fun u H locs hw hP hD hS => ?_)
        refine W.cs (cells' := 0) (slots' := 0) rfl rfl ?_
        have hP : va_P D classes [(my, .inl (ca 0, 8400, .inl bs)), (mg, .inl (ca 3, 8400, .inl bg)), (mw, .inl (ca 1, 2, .inl (fun k => nI (wv k)))), (mf, .inl (ca 1, 4, .inl fs)), (mo, .inr (3, [.int (nI 0), .int (nI L), .ref mt, .int (nI n), .ref my, .ref mg, .ref mw, .ref mf, .ref mr, .int (nI (6 + F + 3))])), (mr, .inl (ca 0, 256, .inl (upd (bl mfr 0 (6 + F + 2) (fbP F cx (fs 0) (fs (1 + c_)) fst fd word)) (6 + F + 2) (bz (word >>> (nI 8 &&& 31))))))] H := hP
        have hD : va_D A [(my, .inl (ca 0, 8400, .inl bs)), (mg, .inl (ca 3, 8400, .inl bg)), (mw, .inl (ca 1, 2, .inl (fun k => nI (wv k)))), (mf, .inl (ca 1, 4, .inl fs)), (mo, .inr (3, [.int (nI 0), .int (nI L), .ref mt, .int (nI n), .ref my, .ref mg, .ref mw, .ref mf, .ref mr, .int (nI (6 + F + 3))])), (mr, .inl (ca 0, 256, .inl (upd (bl mfr 0 (6 + F + 2) (fbP F cx (fs 0) (fs (1 + c_)) fst fd word)) (6 + F + 2) (bz (word >>> (nI 8 &&& 31))))))] := hD
        have hP : va_P D classes [(mo, .inr (3, [.int (nI 0), .int (nI L), .ref mt, .int (nI n), .ref my, .ref mg, .ref mw, .ref mf, .ref mr, .int (nI (6 + F + 3))])), (my, .inl (ca 0, 8400, .inl bs)), (mg, .inl (ca 3, 8400, .inl bg)), (mw, .inl (ca 1, 2, .inl (fun k => nI (wv k)))), (mf, .inl (ca 1, 4, .inl fs)), (mr, .inl (ca 0, 256, .inl (upd (bl mfr 0 (6 + F + 2) (fbP F cx (fs 0) (fs (1 + c_)) fst fd word)) (6 + F + 2) (bz (word >>> (nI 8 &&& 31))))))] H := hP.sub [4, 0, 1, 2, 3, 5] rfl
        have hD : va_D A [(mo, .inr (3, [.int (nI 0), .int (nI L), .ref mt, .int (nI n), .ref my, .ref mg, .ref mw, .ref mf, .ref mr, .int (nI (6 + F + 3))])), (my, .inl (ca 0, 8400, .inl bs)), (mg, .inl (ca 3, 8400, .inl bg)), (mw, .inl (ca 1, 2, .inl (fun k => nI (wv k)))), (mf, .inl (ca 1, 4, .inl fs)), (mr, .inl (ca 0, 256, .inl (upd (bl mfr 0 (6 + F + 2) (fbP F cx (fs 0) (fs (1 + c_)) fst fd word)) (6 + F + 2) (bz (word >>> (nI 8 &&& 31))))))] := hD.sub [4, 0, 1, 2, 3, 5] (by decide) rfl
        have e9 : upd (bl mfr 0 (6 + F + 2) (fbP F cx (fs 0) (fs (1 + c_)) fst fd word)) (6 + F + 2) (bz (word >>> (nI 8 &&& 31))) = bl mfr 0 (6 + F + 3) (fbP F cx (fs 0) (fs (1 + c_)) fst fd word) := bl_z (fbP_wi 2 8 (by decide))
        rw [e9] at hP hD
        clear e9
        have hP : va_P D classes [(mo, .inr (3, [.int (nI 0), .int (nI L), .ref mt, .int (nI n), .ref my, .ref mg, .ref mw, .ref mf, .ref mr, .int (nI (6 + F + 3))])), (my, .inl (ca 0, 8400, .inl bs)), (mg, .inl (ca 3, 8400, .inl bg)), (mw, .inl (ca 1, 2, .inl (fun k => nI (wv k)))), (mf, .inl (ca 1, 4, .inl fs)), (mr, .inl (ca 0, 256, .inl (bl mfr 0 (6 + F + 3) (fbP F cx (fs 0) (fs (1 + c_)) fst fd word))))] H := hP
        have hD : va_D A [(mo, .inr (3, [.int (nI 0), .int (nI L), .ref mt, .int (nI n), .ref my, .ref mg, .ref mw, .ref mf, .ref mr, .int (nI (6 + F + 3))])), (my, .inl (ca 0, 8400, .inl bs)), (mg, .inl (ca 3, 8400, .inl bg)), (mw, .inl (ca 1, 2, .inl (fun k => nI (wv k)))), (mf, .inl (ca 1, 4, .inl fs)), (mr, .inl (ca 0, 256, .inl (bl mfr 0 (6 + F + 3) (fbP F cx (fs 0) (fs (1 + c_)) fst fd word))))] := hD
        refine lv_iinc (v := nI 0) (lv' := [(6, .int (nI 0)), (0, .ref mo), (1, .int word), (2, .int (nI c_)), (3, .int (nI cx)), (4, .int (nI F))]) hx hb d_Mo_frame_248 hl (k := 0) rfl (by decide) (by decide) rfl (fun ls hl => ?_)
        refine lv_goto (tgt := 235) hx hb d_Mo_frame_251 (by decide) ?_
        refine lv_iload hx hb d_Mo_frame_235 (lv_at hl 0 rfl) ?_
        refine lv_if_lt (tgt := 254) hx hb d_Mo_frame_237 (by decide) (fun h9 => ?_) (fun h9 => ?_)
        · exact absurd h9 (by decide)
        · refine lv_aload_n hx hb d_Mo_frame_240 rfl (lv_at hl 1 rfl) ?_
          refine lv_iload_n hx hb d_Mo_frame_241 rfl (lv_at hl 2 rfl) ?_
          refine lv_iload hx hb d_Mo_frame_242 (lv_at hl 0 rfl) ?_
          refine lv_ishr hx hb d_Mo_frame_244 ?_
          refine k_Vv (n := 1) (As := [.int (word >>> (nI 0 &&& 31))]) (rest := []) (wc := [(mo, .inr (3, [.int (nI 0), .int (nI L), .ref mt, .int (nI n), .ref my, .ref mg, .ref mw, .ref mf, .ref mr, .int (nI (6 + F + 3))])), (mr, .inl (ca 0, 256, .inl (bl mfr 0 (6 + F + 3) (fbP F cx (fs 0) (fs (1 + c_)) fst fd word))))]) (wr := [(my, .inl (ca 0, 8400, .inl bs)), (mg, .inl (ca 3, 8400, .inl bg)), (mw, .inl (ca 1, 2, .inl (fun k => nI (wv k)))), (mf, .inl (ca 1, 4, .inl fs))]) (ci := 3) (q0 := 0) S0 rfl q_206 q_208 q_p9 q_4 rfl rfl q_209 (by decide +kernel) hK hP hD hS hA (c_Mo_add l D ca H.size mo mt my mg mw mf mr L n (6 + F + 3) (word >>> (nI 0 &&& 31)) (bl mfr 0 (6 + F + 3) (fbP F cx (fs 0) (fs (1 + c_)) fst fd word)) (by omega)) [0, 5] [1, 2, 3, 4] rfl rfl (by decide) (by decide) (by decide) ⟨Nat.le_of_ble_eq_true rfl, Nat.le_of_ble_eq_true rfl⟩ rfl hl.1 rfl (Nat.le_of_ble_eq_true rfl) ⟨Nat.le_of_ble_eq_true rfl, Nat.le_of_ble_eq_true rfl⟩ d_Mo_frame_245 (fun u H locs hw hP hD hS => ?_)
          refine W.cs (cells' := 0) (slots' := 0) rfl rfl ?_
          have hP : va_P D classes [(my, .inl (ca 0, 8400, .inl bs)), (mg, .inl (ca 3, 8400, .inl bg)), (mw, .inl (ca 1, 2, .inl (fun k => nI (wv k)))), (mf, .inl (ca 1, 4, .inl fs)), (mo, .inr (3, [.int (nI 0), .int (nI L), .ref mt, .int (nI n), .ref my, .ref mg, .ref mw, .ref mf, .ref mr, .int (nI (6 + F + 4))])), (mr, .inl (ca 0, 256, .inl (upd (bl mfr 0 (6 + F + 3) (fbP F cx (fs 0) (fs (1 + c_)) fst fd word)) (6 + F + 3) (bz (word >>> (nI 0 &&& 31))))))] H := hP
          have hD : va_D A [(my, .inl (ca 0, 8400, .inl bs)), (mg, .inl (ca 3, 8400, .inl bg)), (mw, .inl (ca 1, 2, .inl (fun k => nI (wv k)))), (mf, .inl (ca 1, 4, .inl fs)), (mo, .inr (3, [.int (nI 0), .int (nI L), .ref mt, .int (nI n), .ref my, .ref mg, .ref mw, .ref mf, .ref mr, .int (nI (6 + F + 4))])), (mr, .inl (ca 0, 256, .inl (upd (bl mfr 0 (6 + F + 3) (fbP F cx (fs 0) (fs (1 + c_)) fst fd word)) (6 + F + 3) (bz (word >>> (nI 0 &&& 31))))))] := hD
          have hP : va_P D classes [(mo, .inr (3, [.int (nI 0), .int (nI L), .ref mt, .int (nI n), .ref my, .ref mg, .ref mw, .ref mf, .ref mr, .int (nI (6 + F + 4))])), (my, .inl (ca 0, 8400, .inl bs)), (mg, .inl (ca 3, 8400, .inl bg)), (mw, .inl (ca 1, 2, .inl (fun k => nI (wv k)))), (mf, .inl (ca 1, 4, .inl fs)), (mr, .inl (ca 0, 256, .inl (upd (bl mfr 0 (6 + F + 3) (fbP F cx (fs 0) (fs (1 + c_)) fst fd word)) (6 + F + 3) (bz (word >>> (nI 0 &&& 31))))))] H := hP.sub [4, 0, 1, 2, 3, 5] rfl
          have hD : va_D A [(mo, .inr (3, [.int (nI 0), .int (nI L), .ref mt, .int (nI n), .ref my, .ref mg, .ref mw, .ref mf, .ref mr, .int (nI (6 + F + 4))])), (my, .inl (ca 0, 8400, .inl bs)), (mg, .inl (ca 3, 8400, .inl bg)), (mw, .inl (ca 1, 2, .inl (fun k => nI (wv k)))), (mf, .inl (ca 1, 4, .inl fs)), (mr, .inl (ca 0, 256, .inl (upd (bl mfr 0 (6 + F + 3) (fbP F cx (fs 0) (fs (1 + c_)) fst fd word)) (6 + F + 3) (bz (word >>> (nI 0 &&& 31))))))] := hD.sub [4, 0, 1, 2, 3, 5] (by decide) rfl
          have e9 : upd (bl mfr 0 (6 + F + 3) (fbP F cx (fs 0) (fs (1 + c_)) fst fd word)) (6 + F + 3) (bz (word >>> (nI 0 &&& 31))) = bl mfr 0 (6 + F + 4) (fbP F cx (fs 0) (fs (1 + c_)) fst fd word) := bl_z (fbP_wi 3 0 (by decide))
          rw [e9] at hP hD
          clear e9
          have hP : va_P D classes [(mo, .inr (3, [.int (nI 0), .int (nI L), .ref mt, .int (nI n), .ref my, .ref mg, .ref mw, .ref mf, .ref mr, .int (nI (6 + F + 4))])), (my, .inl (ca 0, 8400, .inl bs)), (mg, .inl (ca 3, 8400, .inl bg)), (mw, .inl (ca 1, 2, .inl (fun k => nI (wv k)))), (mf, .inl (ca 1, 4, .inl fs)), (mr, .inl (ca 0, 256, .inl (bl mfr 0 (6 + F + 4) (fbP F cx (fs 0) (fs (1 + c_)) fst fd word))))] H := hP
          have hD : va_D A [(mo, .inr (3, [.int (nI 0), .int (nI L), .ref mt, .int (nI n), .ref my, .ref mg, .ref mw, .ref mf, .ref mr, .int (nI (6 + F + 4))])), (my, .inl (ca 0, 8400, .inl bs)), (mg, .inl (ca 3, 8400, .inl bg)), (mw, .inl (ca 1, 2, .inl (fun k => nI (wv k)))), (mf, .inl (ca 1, 4, .inl fs)), (mr, .inl (ca 0, 256, .inl (bl mfr 0 (6 + F + 4) (fbP F cx (fs 0) (fs (1 + c_)) fst fd word))))] := hD
          refine lv_iinc (v := (-8)) (lv' := [(6, .int (-8)), (0, .ref mo), (1, .int word), (2, .int (nI c_)), (3, .int (nI cx)), (4, .int (nI F))]) hx hb d_Mo_frame_248 hl (k := 0) rfl (by decide) (by decide) rfl (fun ls hl => ?_)
          refine lv_goto (tgt := 235) hx hb d_Mo_frame_251 (by decide) ?_
          refine lv_iload hx hb d_Mo_frame_235 (lv_at hl 0 rfl) ?_
          refine lv_if_lt (tgt := 254) hx hb d_Mo_frame_237 (by decide) (fun h9 => ?_) (fun h9 => ?_)
          · have e10 : 6 + F + 4 = 10 + F := by omega
            rw [e10] at hP hD
            have hP : va_P D classes [(mo, .inr (3, [.int (nI 0), .int (nI L), .ref mt, .int (nI n), .ref my, .ref mg, .ref mw, .ref mf, .ref mr, .int (nI (10 + F))])), (my, .inl (ca 0, 8400, .inl bs)), (mg, .inl (ca 3, 8400, .inl bg)), (mw, .inl (ca 1, 2, .inl (fun k => nI (wv k)))), (mf, .inl (ca 1, 4, .inl fs)), (mr, .inl (ca 0, 256, .inl (bl mfr 0 (10 + F) (fbP F cx (fs 0) (fs (1 + c_)) fst fd word))))] H := hP
            have hD : va_D A [(mo, .inr (3, [.int (nI 0), .int (nI L), .ref mt, .int (nI n), .ref my, .ref mg, .ref mw, .ref mf, .ref mr, .int (nI (10 + F))])), (my, .inl (ca 0, 8400, .inl bs)), (mg, .inl (ca 3, 8400, .inl bg)), (mw, .inl (ca 1, 2, .inl (fun k => nI (wv k)))), (mf, .inl (ca 1, 4, .inl fs)), (mr, .inl (ca 0, 256, .inl (bl mfr 0 (10 + F) (fbP F cx (fs 0) (fs (1 + c_)) fst fd word))))] := hD
            refine lv_aload_n hx hb d_Mo_frame_254 rfl (lv_at hl 1 rfl) ?_
            refine k_Vi (n := 0) (As := []) (rest := []) (wc := [(mo, .inr (3, [.int (nI 0), .int (nI L), .ref mt, .int (nI n), .ref my, .ref mg, .ref mw, .ref mf, .ref mr, .int (nI (10 + F))])), (mr, .inl (ca 0, 256, .inl (bl mfr 0 (10 + F) (fbP F cx (fs 0) (fs (1 + c_)) fst fd word))))]) (wr := [(my, .inl (ca 0, 8400, .inl bs)), (mg, .inl (ca 3, 8400, .inl bg)), (mw, .inl (ca 1, 2, .inl (fun k => nI (wv k)))), (mf, .inl (ca 1, 4, .inl fs))]) (ci := 3) (q0 := 0) S0 rfl q_210 q_212 q_p10 q_4 rfl rfl q_213 (by decide +kernel) hK hP hD hS hA (c_Mo_check l D ca H.size mo mt my mg mw mf mr L n (10 + F) (bl mfr 0 (10 + F) (fbP F cx (fs 0) (fs (1 + c_)) fst fd word)) (by omega)) [0, 5] [1, 2, 3, 4] rfl rfl (by decide) (by decide) (by decide) ⟨Nat.le_of_ble_eq_true rfl, Nat.le_of_ble_eq_true rfl⟩ rfl hl.1 rfl (Nat.le_of_ble_eq_true rfl) ⟨Nat.le_of_ble_eq_true rfl, Nat.le_of_ble_eq_true rfl⟩ d_Mo_frame_255 (fun r_1 u H locs hw hP hD hS => ?_)
            refine W.cs (cells' := 0) (slots' := 0) rfl rfl ?_
            have hP : va_P D classes [(my, .inl (ca 0, 8400, .inl bs)), (mg, .inl (ca 3, 8400, .inl bg)), (mw, .inl (ca 1, 2, .inl (fun k => nI (wv k)))), (mf, .inl (ca 1, 4, .inl fs)), (mo, .inr (3, [.int (nI 0), .int (nI L), .ref mt, .int (nI n), .ref my, .ref mg, .ref mw, .ref mf, .ref mr, .int (nI (10 + F))])), (mr, .inl (ca 0, 256, .inl (bl mfr 0 (10 + F) (fbP F cx (fs 0) (fs (1 + c_)) fst fd word))))] H := hP
            have hD : va_D A [(my, .inl (ca 0, 8400, .inl bs)), (mg, .inl (ca 3, 8400, .inl bg)), (mw, .inl (ca 1, 2, .inl (fun k => nI (wv k)))), (mf, .inl (ca 1, 4, .inl fs)), (mo, .inr (3, [.int (nI 0), .int (nI L), .ref mt, .int (nI n), .ref my, .ref mg, .ref mw, .ref mf, .ref mr, .int (nI (10 + F))])), (mr, .inl (ca 0, 256, .inl (bl mfr 0 (10 + F) (fbP F cx (fs 0) (fs (1 + c_)) fst fd word))))] := hD
            have hP : va_P D classes [(mo, .inr (3, [.int (nI 0), .int (nI L), .ref mt, .int (nI n), .ref my, .ref mg, .ref mw, .ref mf, .ref mr, .int (nI (10 + F))])), (my, .inl (ca 0, 8400, .inl bs)), (mg, .inl (ca 3, 8400, .inl bg)), (mw, .inl (ca 1, 2, .inl (fun k => nI (wv k)))), (mf, .inl (ca 1, 4, .inl fs)), (mr, .inl (ca 0, 256, .inl (bl mfr 0 (10 + F) (fbP F cx (fs 0) (fs (1 + c_)) fst fd word))))] H := hP.sub [4, 0, 1, 2, 3, 5] rfl
            have hD : va_D A [(mo, .inr (3, [.int (nI 0), .int (nI L), .ref mt, .int (nI n), .ref my, .ref mg, .ref mw, .ref mf, .ref mr, .int (nI (10 + F))])), (my, .inl (ca 0, 8400, .inl bs)), (mg, .inl (ca 3, 8400, .inl bg)), (mw, .inl (ca 1, 2, .inl (fun k => nI (wv k)))), (mf, .inl (ca 1, 4, .inl fs)), (mr, .inl (ca 0, 256, .inl (bl mfr 0 (10 + F) (fbP F cx (fs 0) (fs (1 + c_)) fst fd word))))] := hD.sub [4, 0, 1, 2, 3, 5] (by decide) rfl
            have hcr : crc (bl mfr 0 (10 + F) (fbP F cx (fs 0) (fs (1 + c_)) fst fd word)) (10 + F) = crc (fbP F cx (fs 0) (fs (1 + c_)) fst fd word) (10 + F) := crc_congr _ (fun i hi => by rw [bl_in (by omega) (by omega), Nat.sub_zero])
            rw [hcr] at hw
            subst hw
            have hv := (crc_lt (fbP F cx (fs 0) (fs (1 + c_)) fst fd word) (10 + F)).1
            refine lv_istore (lv' := [(6, .int (nI (crc (fbP F cx (fs 0) (fs (1 + c_)) fst fd word) (10 + F)))), (0, .ref mo), (1, .int word), (2, .int (nI c_)), (3, .int (nI cx)), (4, .int (nI F))]) hx hb d_Mo_frame_258 hl (by decide) rfl (fun ls hl => ?_)
            refine lv_aload_n hx hb d_Mo_frame_260 rfl (lv_at hl 1 rfl) ?_
            refine lv_iload hx hb d_Mo_frame_261 (lv_at hl 0 rfl) ?_
            refine lv_sipush (v := nI 256) hx hb d_Mo_frame_263 (by decide) ?_
            refine lz_idiv hx hb (by omega) (by decide) (by decide) d_Mo_frame_266 ?_
            refine k_Vv (n := 1) (As := [.int (nI ((crc (fbP F cx (fs 0) (fs (1 + c_)) fst fd word) (10 + F)) / 256))]) (rest := []) (wc := [(mo, .inr (3, [.int (nI 0), .int (nI L), .ref mt, .int (nI n), .ref my, .ref mg, .ref mw, .ref mf, .ref mr, .int (nI (10 + F))])), (mr, .inl (ca 0, 256, .inl (bl mfr 0 (10 + F) (fbP F cx (fs 0) (fs (1 + c_)) fst fd word))))]) (wr := [(my, .inl (ca 0, 8400, .inl bs)), (mg, .inl (ca 3, 8400, .inl bg)), (mw, .inl (ca 1, 2, .inl (fun k => nI (wv k)))), (mf, .inl (ca 1, 4, .inl fs))]) (ci := 3) (q0 := 0) S0 rfl q_206 q_208 q_p9 q_4 rfl rfl q_209 (by decide +kernel) hK hP hD hS hA (c_Mo_add l D ca H.size mo mt my mg mw mf mr L n (10 + F) (nI (crc (fbP F cx (fs 0) (fs (1 + c_)) fst fd word) (10 + F) / 256)) (bl mfr 0 (10 + F) (fbP F cx (fs 0) (fs (1 + c_)) fst fd word)) (by omega)) [0, 5] [1, 2, 3, 4] rfl rfl (by decide) (by decide) (by decide) ⟨Nat.le_of_ble_eq_true rfl, Nat.le_of_ble_eq_true rfl⟩ rfl hl.1 rfl (Nat.le_of_ble_eq_true rfl) ⟨Nat.le_of_ble_eq_true rfl, Nat.le_of_ble_eq_true rfl⟩ d_Mo_frame_267 (fun u H locs hw hP hD hS => ?_)
            refine W.cs (cells' := 0) (slots' := 0) rfl rfl ?_
            have hP : va_P D classes [(my, .inl (ca 0, 8400, .inl bs)), (mg, .inl (ca 3, 8400, .inl bg)), (mw, .inl (ca 1, 2, .inl (fun k => nI (wv k)))), (mf, .inl (ca 1, 4, .inl fs)), (mo, .inr (3, [.int (nI 0), .int (nI L), .ref mt, .int (nI n), .ref my, .ref mg, .ref mw, .ref mf, .ref mr, .int (nI (10 + F + 1))])), (mr, .inl (ca 0, 256, .inl (upd (bl mfr 0 (10 + F) (fbP F cx (fs 0) (fs (1 + c_)) fst fd word)) (10 + F) (bz (nI (crc (fbP F cx (fs 0) (fs (1 + c_)) fst fd word) (10 + F) / 256))))))] H := hP
            have hD : va_D A [(my, .inl (ca 0, 8400, .inl bs)), (mg, .inl (ca 3, 8400, .inl bg)), (mw, .inl (ca 1, 2, .inl (fun k => nI (wv k)))), (mf, .inl (ca 1, 4, .inl fs)), (mo, .inr (3, [.int (nI 0), .int (nI L), .ref mt, .int (nI n), .ref my, .ref mg, .ref mw, .ref mf, .ref mr, .int (nI (10 + F + 1))])), (mr, .inl (ca 0, 256, .inl (upd (bl mfr 0 (10 + F) (fbP F cx (fs 0) (fs (1 + c_)) fst fd word)) (10 + F) (bz (nI (crc (fbP F cx (fs 0) (fs (1 + c_)) fst fd word) (10 + F) / 256))))))] := hD
            have hP : va_P D classes [(mo, .inr (3, [.int (nI 0), .int (nI L), .ref mt, .int (nI n), .ref my, .ref mg, .ref mw, .ref mf, .ref mr, .int (nI (10 + F + 1))])), (my, .inl (ca 0, 8400, .inl bs)), (mg, .inl (ca 3, 8400, .inl bg)), (mw, .inl (ca 1, 2, .inl (fun k => nI (wv k)))), (mf, .inl (ca 1, 4, .inl fs)), (mr, .inl (ca 0, 256, .inl (upd (bl mfr 0 (10 + F) (fbP F cx (fs 0) (fs (1 + c_)) fst fd word)) (10 + F) (bz (nI (crc (fbP F cx (fs 0) (fs (1 + c_)) fst fd word) (10 + F) / 256))))))] H := hP.sub [4, 0, 1, 2, 3, 5] rfl
            have hD : va_D A [(mo, .inr (3, [.int (nI 0), .int (nI L), .ref mt, .int (nI n), .ref my, .ref mg, .ref mw, .ref mf, .ref mr, .int (nI (10 + F + 1))])), (my, .inl (ca 0, 8400, .inl bs)), (mg, .inl (ca 3, 8400, .inl bg)), (mw, .inl (ca 1, 2, .inl (fun k => nI (wv k)))), (mf, .inl (ca 1, 4, .inl fs)), (mr, .inl (ca 0, 256, .inl (upd (bl mfr 0 (10 + F) (fbP F cx (fs 0) (fs (1 + c_)) fst fd word)) (10 + F) (bz (nI (crc (fbP F cx (fs 0) (fs (1 + c_)) fst fd word) (10 + F) / 256))))))] := hD.sub [4, 0, 1, 2, 3, 5] (by decide) rfl
            have e11 : 10 + F + 1 = 11 + F := by omega
            rw [e11] at hP hD
            have hP : va_P D classes [(mo, .inr (3, [.int (nI 0), .int (nI L), .ref mt, .int (nI n), .ref my, .ref mg, .ref mw, .ref mf, .ref mr, .int (nI (11 + F))])), (my, .inl (ca 0, 8400, .inl bs)), (mg, .inl (ca 3, 8400, .inl bg)), (mw, .inl (ca 1, 2, .inl (fun k => nI (wv k)))), (mf, .inl (ca 1, 4, .inl fs)), (mr, .inl (ca 0, 256, .inl (upd (bl mfr 0 (10 + F) (fbP F cx (fs 0) (fs (1 + c_)) fst fd word)) (10 + F) (bz (nI (crc (fbP F cx (fs 0) (fs (1 + c_)) fst fd word) (10 + F) / 256))))))] H := hP
            have hD : va_D A [(mo, .inr (3, [.int (nI 0), .int (nI L), .ref mt, .int (nI n), .ref my, .ref mg, .ref mw, .ref mf, .ref mr, .int (nI (11 + F))])), (my, .inl (ca 0, 8400, .inl bs)), (mg, .inl (ca 3, 8400, .inl bg)), (mw, .inl (ca 1, 2, .inl (fun k => nI (wv k)))), (mf, .inl (ca 1, 4, .inl fs)), (mr, .inl (ca 0, 256, .inl (upd (bl mfr 0 (10 + F) (fbP F cx (fs 0) (fs (1 + c_)) fst fd word)) (10 + F) (bz (nI (crc (fbP F cx (fs 0) (fs (1 + c_)) fst fd word) (10 + F) / 256))))))] := hD
            refine lv_aload_n hx hb d_Mo_frame_270 rfl (lv_at hl 1 rfl) ?_
            refine lv_iload hx hb d_Mo_frame_271 (lv_at hl 0 rfl) ?_
            refine k_Vv (n := 1) (As := [.int (nI (crc (fbP F cx (fs 0) (fs (1 + c_)) fst fd word) (10 + F)))]) (rest := []) (wc := [(mo, .inr (3, [.int (nI 0), .int (nI L), .ref mt, .int (nI n), .ref my, .ref mg, .ref mw, .ref mf, .ref mr, .int (nI (11 + F))])), (mr, .inl (ca 0, 256, .inl (upd (bl mfr 0 (10 + F) (fbP F cx (fs 0) (fs (1 + c_)) fst fd word)) (10 + F) (bz (nI (crc (fbP F cx (fs 0) (fs (1 + c_)) fst fd word) (10 + F) / 256))))))]) (wr := [(my, .inl (ca 0, 8400, .inl bs)), (mg, .inl (ca 3, 8400, .inl bg)), (mw, .inl (ca 1, 2, .inl (fun k => nI (wv k)))), (mf, .inl (ca 1, 4, .inl fs))]) (ci := 3) (q0 := 0) S0 rfl q_206 q_208 q_p9 q_4 rfl rfl q_209 (by decide +kernel) hK hP hD hS hA (c_Mo_add l D ca H.size mo mt my mg mw mf mr L n (11 + F) (nI (crc (fbP F cx (fs 0) (fs (1 + c_)) fst fd word) (10 + F))) (upd (bl mfr 0 (10 + F) (fbP F cx (fs 0) (fs (1 + c_)) fst fd word)) (10 + F) (bz (nI (crc (fbP F cx (fs 0) (fs (1 + c_)) fst fd word) (10 + F) / 256)))) (by omega)) [0, 5] [1, 2, 3, 4] rfl rfl (by decide) (by decide) (by decide) ⟨Nat.le_of_ble_eq_true rfl, Nat.le_of_ble_eq_true rfl⟩ rfl hl.1 rfl (Nat.le_of_ble_eq_true rfl) ⟨Nat.le_of_ble_eq_true rfl, Nat.le_of_ble_eq_true rfl⟩ d_Mo_frame_273 (fun u H locs hw hP hD hS => ?_)
            refine W.cs (cells' := 0) (slots' := 0) rfl rfl ?_
            have hP : va_P D classes [(my, .inl (ca 0, 8400, .inl bs)), (mg, .inl (ca 3, 8400, .inl bg)), (mw, .inl (ca 1, 2, .inl (fun k => nI (wv k)))), (mf, .inl (ca 1, 4, .inl fs)), (mo, .inr (3, [.int (nI 0), .int (nI L), .ref mt, .int (nI n), .ref my, .ref mg, .ref mw, .ref mf, .ref mr, .int (nI (11 + F + 1))])), (mr, .inl (ca 0, 256, .inl (upd (upd (bl mfr 0 (10 + F) (fbP F cx (fs 0) (fs (1 + c_)) fst fd word)) (10 + F) (bz (nI (crc (fbP F cx (fs 0) (fs (1 + c_)) fst fd word) (10 + F) / 256)))) (11 + F) (bz (nI (crc (fbP F cx (fs 0) (fs (1 + c_)) fst fd word) (10 + F)))))))] H := hP
            have hD : va_D A [(my, .inl (ca 0, 8400, .inl bs)), (mg, .inl (ca 3, 8400, .inl bg)), (mw, .inl (ca 1, 2, .inl (fun k => nI (wv k)))), (mf, .inl (ca 1, 4, .inl fs)), (mo, .inr (3, [.int (nI 0), .int (nI L), .ref mt, .int (nI n), .ref my, .ref mg, .ref mw, .ref mf, .ref mr, .int (nI (11 + F + 1))])), (mr, .inl (ca 0, 256, .inl (upd (upd (bl mfr 0 (10 + F) (fbP F cx (fs 0) (fs (1 + c_)) fst fd word)) (10 + F) (bz (nI (crc (fbP F cx (fs 0) (fs (1 + c_)) fst fd word) (10 + F) / 256)))) (11 + F) (bz (nI (crc (fbP F cx (fs 0) (fs (1 + c_)) fst fd word) (10 + F)))))))] := hD
            have hP : va_P D classes [(mo, .inr (3, [.int (nI 0), .int (nI L), .ref mt, .int (nI n), .ref my, .ref mg, .ref mw, .ref mf, .ref mr, .int (nI (11 + F + 1))])), (my, .inl (ca 0, 8400, .inl bs)), (mg, .inl (ca 3, 8400, .inl bg)), (mw, .inl (ca 1, 2, .inl (fun k => nI (wv k)))), (mf, .inl (ca 1, 4, .inl fs)), (mr, .inl (ca 0, 256, .inl (upd (upd (bl mfr 0 (10 + F) (fbP F cx (fs 0) (fs (1 + c_)) fst fd word)) (10 + F) (bz (nI (crc (fbP F cx (fs 0) (fs (1 + c_)) fst fd word) (10 + F) / 256)))) (11 + F) (bz (nI (crc (fbP F cx (fs 0) (fs (1 + c_)) fst fd word) (10 + F)))))))] H := hP.sub [4, 0, 1, 2, 3, 5] rfl
            have hD : va_D A [(mo, .inr (3, [.int (nI 0), .int (nI L), .ref mt, .int (nI n), .ref my, .ref mg, .ref mw, .ref mf, .ref mr, .int (nI (11 + F + 1))])), (my, .inl (ca 0, 8400, .inl bs)), (mg, .inl (ca 3, 8400, .inl bg)), (mw, .inl (ca 1, 2, .inl (fun k => nI (wv k)))), (mf, .inl (ca 1, 4, .inl fs)), (mr, .inl (ca 0, 256, .inl (upd (upd (bl mfr 0 (10 + F) (fbP F cx (fs 0) (fs (1 + c_)) fst fd word)) (10 + F) (bz (nI (crc (fbP F cx (fs 0) (fs (1 + c_)) fst fd word) (10 + F) / 256)))) (11 + F) (bz (nI (crc (fbP F cx (fs 0) (fs (1 + c_)) fst fd word) (10 + F)))))))] := hD.sub [4, 0, 1, 2, 3, 5] (by decide) rfl
            have e12 : 11 + F + 1 = 12 + F := by omega
            rw [e12] at hP hD
            have hP : va_P D classes [(mo, .inr (3, [.int (nI 0), .int (nI L), .ref mt, .int (nI n), .ref my, .ref mg, .ref mw, .ref mf, .ref mr, .int (nI (12 + F))])), (my, .inl (ca 0, 8400, .inl bs)), (mg, .inl (ca 3, 8400, .inl bg)), (mw, .inl (ca 1, 2, .inl (fun k => nI (wv k)))), (mf, .inl (ca 1, 4, .inl fs)), (mr, .inl (ca 0, 256, .inl (upd (upd (bl mfr 0 (10 + F) (fbP F cx (fs 0) (fs (1 + c_)) fst fd word)) (10 + F) (bz (nI (crc (fbP F cx (fs 0) (fs (1 + c_)) fst fd word) (10 + F) / 256)))) (11 + F) (bz (nI (crc (fbP F cx (fs 0) (fs (1 + c_)) fst fd word) (10 + F)))))))] H := hP
            have hD : va_D A [(mo, .inr (3, [.int (nI 0), .int (nI L), .ref mt, .int (nI n), .ref my, .ref mg, .ref mw, .ref mf, .ref mr, .int (nI (12 + F))])), (my, .inl (ca 0, 8400, .inl bs)), (mg, .inl (ca 3, 8400, .inl bg)), (mw, .inl (ca 1, 2, .inl (fun k => nI (wv k)))), (mf, .inl (ca 1, 4, .inl fs)), (mr, .inl (ca 0, 256, .inl (upd (upd (bl mfr 0 (10 + F) (fbP F cx (fs 0) (fs (1 + c_)) fst fd word)) (10 + F) (bz (nI (crc (fbP F cx (fs 0) (fs (1 + c_)) fst fd word) (10 + F) / 256)))) (11 + F) (bz (nI (crc (fbP F cx (fs 0) (fs (1 + c_)) fst fd word) (10 + F)))))))] := hD
            exact kk _ H locs ls fb_mod hP hD hS (lv_sub hl [1, 3, 4, 5] rfl)
          · exact absurd (by decide) h9
set_option maxHeartbeats 1000000 in
set_option maxRecDepth 100000 in
theorem mf_end {p : Program} {l : Launch} {e : Env} {s : State} {m : MethodId} {args : Array Value} {below : List Frame} {meth : Method} {c : Code} {Q : State → Prop} {D : va_G} {ca : Nat → ClassId} {A : Nat → Prop} {H0 : Heap} (mo mt my mg mw mf mr : Nat) (F L n fl_ c_ cx fst : Nat) (word : Int32) (fd bs bg fs mfr : Nat → Int32) (wv : Nat → Nat) (h1 : F + 12 = L) (h2 : L ≤ 256) (h3 : c_ < 3) (S0 : CallFix p m c b_Mo_frame 7 s args gd_tbl "DownFramesModel") (hK : PW D ca s) (hA : ∀ q, H0.size ≤ q → A q) (kk : ∀  (H : Heap) (locs : List Loc) (ls : Array Slot), va_P D classes [(mo, .inr (3, [.int (nI 0), .int (nI L), .ref mt, .int (nI n), .ref my, .ref mg, .ref mw, .ref mf, .ref mr, .int (nI fl_)])), (my, .inl (ca 0, 8400, .inl bs)), (mg, .inl (ca 3, 8400, .inl bg)), (mw, .inl (ca 1, 2, .inl (fun k => nI (wv k)))), (mf, .inl (ca 1, 4, .inl (upd (upd fs 0 (fs 0 + nI 1)) (1 + c_) ((upd fs 0 (fs 0 + nI 1)) (1 + c_) + nI 1)))), (mr, .inl (ca 0, 256, .inl mfr))] H → va_D A [(mo, .inr (3, [.int (nI 0), .int (nI L), .ref mt, .int (nI n), .ref my, .ref mg, .ref mw, .ref mf, .ref mr, .int (nI fl_)])), (my, .inl (ca 0, 8400, .inl bs)), (mg, .inl (ca 3, 8400, .inl bg)), (mw, .inl (ca 1, 2, .inl (fun k => nI (wv k)))), (mf, .inl (ca 1, 4, .inl (upd (upd fs 0 (fs 0 + nI 1)) (1 + c_) ((upd fs 0 (fs 0 + nI 1)) (1 + c_) + nI 1)))), (mr, .inl (ca 0, 256, .inl mfr))] → va_S A H0 H locs → lv_has ls 7 [(3, .int (nI cx))] → W p l e ({ frames := 2, cells := 0, slots := 0, locals := 47 } : Room) s m args below meth c H locs 0 0 Q (F0 m 310 ls [])) (H : Heap) (locs : List Loc) (ls : Array Slot) (hP : va_P D classes [(mo, .inr (3, [.int (nI 0), .int (nI L), .ref mt, .int (nI n), .ref my, .ref mg, .ref mw, .ref mf, .ref mr, .int (nI fl_)])), (my, .inl (ca 0, 8400, .inl bs)), (mg, .inl (ca 3, 8400, .inl bg)), (mw, .inl (ca 1, 2, .inl (fun k => nI (wv k)))), (mf, .inl (ca 1, 4, .inl fs)), (mr, .inl (ca 0, 256, .inl mfr))] H) (hD : va_D A [(mo, .inr (3, [.int (nI 0), .int (nI L), .ref mt, .int (nI n), .ref my, .ref mg, .ref mw, .ref mf, .ref mr, .int (nI fl_)])), (my, .inl (ca 0, 8400, .inl bs)), (mg, .inl (ca 3, 8400, .inl bg)), (mw, .inl (ca 1, 2, .inl (fun k => nI (wv k)))), (mf, .inl (ca 1, 4, .inl fs)), (mr, .inl (ca 0, 256, .inl mfr))]) (hS : va_S A H0 H locs) (hl : lv_has ls 7 [(0, .ref mo), (2, .int (nI c_)), (3, .int (nI cx)), (4, .int (nI F))]) : W p l e ({ frames := 2, cells := 0, slots := 0, locals := 47 } : Room) s m args below meth c H locs 0 0 Q (F0 m 288 ls []) := by
  have hx := S0.1
  have hb := S0.2.1
  refine lv_aload_n hx hb d_Mo_frame_288 rfl (lv_at hl 0 rfl) ?_
  refine gf_Mo_24 (q0 := 0) S0 hK hP rfl rfl d_Mo_frame_289 ?_
  refine lv_iconst (v := nI 0) hx hb d_Mo_frame_292 (by decide) ?_
  refine lv_dup2_11 hx hb d_Mo_frame_293 rfl rfl ?_
  refine lz_iald (i := 0) hx hb hK.1 hP 4 1 rfl rfl (by omega) (by decide) d_Mo_frame_294 ?_
  refine lv_iconst (v := nI 1) hx hb d_Mo_frame_295 (by decide) ?_
  refine lv_iadd hx hb d_Mo_frame_296 ?_
  refine lz_iast (i := 0) hx hb hK.1 hP hD hS 4 1 rfl rfl (by omega) (by decide) d_Mo_frame_297 (fun H locs hP hD hS => ?_)
  have hP : va_P D classes [(mo, .inr (3, [.int (nI 0), .int (nI L), .ref mt, .int (nI n), .ref my, .ref mg, .ref mw, .ref mf, .ref mr, .int (nI fl_)])), (my, .inl (ca 0, 8400, .inl bs)), (mg, .inl (ca 3, 8400, .inl bg)), (mw, .inl (ca 1, 2, .inl (fun k => nI (wv k)))), (mf, .inl (ca 1, 4, .inl (upd fs 0 ((fs 0) + (nI 1))))), (mr, .inl (ca 0, 256, .inl mfr))] H := hP
  have hD : va_D A [(mo, .inr (3, [.int (nI 0), .int (nI L), .ref mt, .int (nI n), .ref my, .ref mg, .ref mw, .ref mf, .ref mr, .int (nI fl_)])), (my, .inl (ca 0, 8400, .inl bs)), (mg, .inl (ca 3, 8400, .inl bg)), (mw, .inl (ca 1, 2, .inl (fun k => nI (wv k)))), (mf, .inl (ca 1, 4, .inl (upd fs 0 ((fs 0) + (nI 1))))), (mr, .inl (ca 0, 256, .inl mfr))] := hD
  refine lv_aload_n hx hb d_Mo_frame_298 rfl (lv_at hl 0 rfl) ?_
  refine gf_Mo_24 (q0 := 0) S0 hK hP rfl rfl d_Mo_frame_299 ?_
  refine lv_iconst (v := nI 1) hx hb d_Mo_frame_302 (by decide) ?_
  refine lv_iload_n hx hb d_Mo_frame_303 rfl (lv_at hl 1 rfl) ?_
  refine lz_iadd hx hb d_Mo_frame_304 ?_
  refine lv_dup2_11 hx hb d_Mo_frame_305 rfl rfl ?_
  refine lz_iald (i := 1 + c_) hx hb hK.1 hP 4 1 rfl rfl (by omega) (by decide) d_Mo_frame_306 ?_
  refine lv_iconst (v := nI 1) hx hb d_Mo_frame_307 (by decide) ?_
  refine lv_iadd hx hb d_Mo_frame_308 ?_
  refine lz_iast (i := 1 + c_) hx hb hK.1 hP hD hS 4 1 rfl rfl (by omega) (by decide) d_Mo_frame_309 (fun H locs hP hD hS => ?_)
  have hP : va_P D classes [(mo, .inr (3, [.int (nI 0), .int (nI L), .ref mt, .int (nI n), .ref my, .ref mg, .ref mw, .ref mf, .ref mr, .int (nI fl_)])), (my, .inl (ca 0, 8400, .inl bs)), (mg, .inl (ca 3, 8400, .inl bg)), (mw, .inl (ca 1, 2, .inl (fun k => nI (wv k)))), (mf, .inl (ca 1, 4, .inl (upd (upd fs 0 ((fs 0) + (nI 1))) (1 + c_) (((upd fs 0 ((fs 0) + (nI 1))) (1 + c_)) + (nI 1))))), (mr, .inl (ca 0, 256, .inl mfr))] H := hP
  have hD : va_D A [(mo, .inr (3, [.int (nI 0), .int (nI L), .ref mt, .int (nI n), .ref my, .ref mg, .ref mw, .ref mf, .ref mr, .int (nI fl_)])), (my, .inl (ca 0, 8400, .inl bs)), (mg, .inl (ca 3, 8400, .inl bg)), (mw, .inl (ca 1, 2, .inl (fun k => nI (wv k)))), (mf, .inl (ca 1, 4, .inl (upd (upd fs 0 ((fs 0) + (nI 1))) (1 + c_) (((upd fs 0 ((fs 0) + (nI 1))) (1 + c_)) + (nI 1))))), (mr, .inl (ca 0, 256, .inl mfr))] := hD
  exact kk H locs ls hP hD hS (lv_sub hl [2] rfl)
set_option maxHeartbeats 1000000 in
set_option maxRecDepth 100000 in
theorem mf_103 {p : Program} {l : Launch} {e : Env} {s : State} {m : MethodId} {args : Array Value} {below : List Frame} {meth : Method} {c : Code} {Q : State → Prop} {D : va_G} {ca : Nat → ClassId} {A : Nat → Prop} {H0 : Heap} (mo mt my mg mw mf mr : Nat) (F L n fl_ c_ w : Nat) (word : Int32) (bs bg fs mfr : Nat → Int32) (wv : Nat → Nat) (h1 : F + 12 = L) (h2 : L ≤ 256) (h3 : c_ < 2) (hw0 : wv c_ = w) (h4 : F ≤ w) (h5 : w ≤ 4200) (hB : ∀ k, bz (bs k) = bs k) (hZ : ∀ k, vp_nar .boolean (bg k) = bg k) (S0 : CallFix p m c b_Mo_frame 7 s args gd_tbl "DownFramesModel") (hK : PW D ca s) (hA : ∀ q, H0.size ≤ q → A q) (kk : ∀ (mfr2 : Nat → Int32) (k : Nat) (H : Heap) (locs : List Loc) (ls : Array Slot), (isF (fun i => bg (4200 * c_ + i)) F k) → (∀ i, i < 12 + F → mfr2 i = fb F c_ (fs 0) (fs (1 + c_)) (if k < F then k else 2047) (fun i => bs (4200 * c_ + i)) word i) → va_P D classes [(mo, .inr (3, [.int (nI 0), .int (nI L), .ref mt, .int (nI n), .ref my, .ref mg, .ref mw, .ref mf, .ref mr, .int (nI (12 + F))])), (my, .inl (ca 0, 8400, .inl (bl bs (4200 * c_) (w - F) (fun i => bs (4200 * c_ + (i + F)))))), (mg, .inl (ca 3, 8400, .inl (bl bg (4200 * c_) (w - F) (fun i => bg (4200 * c_ + (i + F)))))), (mw, .inl (ca 1, 2, .inl (fun k => nI (va_up wv c_ (w - F) k)))), (mf, .inl (ca 1, 4, .inl (upd (upd fs 0 (fs 0 + nI 1)) (1 + c_) ((upd fs 0 (fs 0 + nI 1)) (1 + c_) + nI 1)))), (mr, .inl (ca 0, 256, .inl mfr2))] H → va_D A [(mo, .inr (3, [.int (nI 0), .int (nI L), .ref mt, .int (nI n), .ref my, .ref mg, .ref mw, .ref mf, .ref mr, .int (nI (12 + F))])), (my, .inl (ca 0, 8400, .inl (bl bs (4200 * c_) (w - F) (fun i => bs (4200 * c_ + (i + F)))))), (mg, .inl (ca 3, 8400, .inl (bl bg (4200 * c_) (w - F) (fun i => bg (4200 * c_ + (i + F)))))), (mw, .inl (ca 1, 2, .inl (fun k => nI (va_up wv c_ (w - F) k)))), (mf, .inl (ca 1, 4, .inl (upd (upd fs 0 (fs 0 + nI 1)) (1 + c_) ((upd fs 0 (fs 0 + nI 1)) (1 + c_) + nI 1)))), (mr, .inl (ca 0, 256, .inl mfr2))] → va_S A H0 H locs → lv_has ls 7 [(3, .int (nI c_))] → W p l e ({ frames := 2, cells := 0, slots := 0, locals := 47 } : Room) s m args below meth c H locs 0 0 Q (F0 m 310 ls [])) (H : Heap) (locs : List Loc) (ls : Array Slot) (hP : va_P D classes [(mo, .inr (3, [.int (nI 0), .int (nI L), .ref mt, .int (nI n), .ref my, .ref mg, .ref mw, .ref mf, .ref mr, .int (nI fl_)])), (my, .inl (ca 0, 8400, .inl bs)), (mg, .inl (ca 3, 8400, .inl bg)), (mw, .inl (ca 1, 2, .inl (fun k => nI (wv k)))), (mf, .inl (ca 1, 4, .inl fs)), (mr, .inl (ca 0, 256, .inl mfr))] H) (hD : va_D A [(mo, .inr (3, [.int (nI 0), .int (nI L), .ref mt, .int (nI n), .ref my, .ref mg, .ref mw, .ref mf, .ref mr, .int (nI fl_)])), (my, .inl (ca 0, 8400, .inl bs)), (mg, .inl (ca 3, 8400, .inl bg)), (mw, .inl (ca 1, 2, .inl (fun k => nI (wv k)))), (mf, .inl (ca 1, 4, .inl fs)), (mr, .inl (ca 0, 256, .inl mfr))]) (hS : va_S A H0 H locs) (hl : lv_has ls 7 [(0, .ref mo), (1, .int word), (2, .int (nI c_)), (3, .int (nI c_)), (4, .int (nI F))]) : W p l e ({ frames := 2, cells := 0, slots := 0, locals := 47 } : Room) s m args below meth c H locs 0 0 Q (F0 m 103 ls []) := by
  have hx := S0.1
  have hb := S0.2.1
  refine lv_iload_n hx hb d_Mo_frame_103 rfl (lv_at hl 2 rfl) ?_
  refine lv_iconst (v := nI 2) hx hb d_Mo_frame_104 (by decide) ?_
  refine lz_icmp_ne (tgt := 114) hx hb (by omega) (by omega) d_Mo_frame_105 (by decide) (fun h9 => ?_) (fun h9 => ?_)
  · refine lv_aload_n hx hb d_Mo_frame_114 rfl (lv_at hl 0 rfl) ?_
    refine lv_iload_n hx hb d_Mo_frame_115 rfl (lv_at hl 2 rfl) ?_
    refine lv_iload hx hb d_Mo_frame_116 (lv_at hl 4 rfl) ?_
    refine k_Vi (n := 2) (As := [.int (nI c_), .int (nI F)]) (rest := []) (wc := [(mo, .inr (3, [.int (nI 0), .int (nI L), .ref mt, .int (nI n), .ref my, .ref mg, .ref mw, .ref mf, .ref mr, .int (nI fl_)])), (mg, .inl (ca 3, 8400, .inl bg))]) (wr := [(my, .inl (ca 0, 8400, .inl bs)), (mw, .inl (ca 1, 2, .inl (fun k => nI (wv k)))), (mf, .inl (ca 1, 4, .inl fs)), (mr, .inl (ca 0, 256, .inl mfr))]) (ci := 3) (q0 := 0) S0 rfl q_202 q_204 q_p8 q_4 rfl rfl q_205 (by decide +kernel) hK hP hD hS hA (c_Mo_first l D ca H.size mo mt my mg mw mf mr L n fl_ c_ F bg h3 (by omega)) [0, 2] [1, 3, 4, 5] rfl rfl (by decide) (by decide) (by decide) ⟨Nat.le_of_ble_eq_true rfl, Nat.le_of_ble_eq_true rfl⟩ rfl hl.1 rfl (Nat.le_of_ble_eq_true rfl) ⟨Nat.le_of_ble_eq_true rfl, Nat.le_of_ble_eq_true rfl⟩ d_Mo_frame_118 (fun r_1 u H locs hw hP hD hS => ?_)
    refine W.cs (cells' := 0) (slots' := 0) rfl rfl ?_
    have hP : va_P D classes [(my, .inl (ca 0, 8400, .inl bs)), (mw, .inl (ca 1, 2, .inl (fun k => nI (wv k)))), (mf, .inl (ca 1, 4, .inl fs)), (mr, .inl (ca 0, 256, .inl mfr)), (mo, .inr (3, [.int (nI 0), .int (nI L), .ref mt, .int (nI n), .ref my, .ref mg, .ref mw, .ref mf, .ref mr, .int (nI fl_)])), (mg, .inl (ca 3, 8400, .inl bg))] H := hP
    have hD : va_D A [(my, .inl (ca 0, 8400, .inl bs)), (mw, .inl (ca 1, 2, .inl (fun k => nI (wv k)))), (mf, .inl (ca 1, 4, .inl fs)), (mr, .inl (ca 0, 256, .inl mfr)), (mo, .inr (3, [.int (nI 0), .int (nI L), .ref mt, .int (nI n), .ref my, .ref mg, .ref mw, .ref mf, .ref mr, .int (nI fl_)])), (mg, .inl (ca 3, 8400, .inl bg))] := hD
    have hP : va_P D classes [(mo, .inr (3, [.int (nI 0), .int (nI L), .ref mt, .int (nI n), .ref my, .ref mg, .ref mw, .ref mf, .ref mr, .int (nI fl_)])), (my, .inl (ca 0, 8400, .inl bs)), (mg, .inl (ca 3, 8400, .inl bg)), (mw, .inl (ca 1, 2, .inl (fun k => nI (wv k)))), (mf, .inl (ca 1, 4, .inl fs)), (mr, .inl (ca 0, 256, .inl mfr))] H := hP.sub [4, 0, 5, 1, 2, 3] rfl
    have hD : va_D A [(mo, .inr (3, [.int (nI 0), .int (nI L), .ref mt, .int (nI n), .ref my, .ref mg, .ref mw, .ref mf, .ref mr, .int (nI fl_)])), (my, .inl (ca 0, 8400, .inl bs)), (mg, .inl (ca 3, 8400, .inl bg)), (mw, .inl (ca 1, 2, .inl (fun k => nI (wv k)))), (mf, .inl (ca 1, 4, .inl fs)), (mr, .inl (ca 0, 256, .inl mfr))] := hD.sub [4, 0, 5, 1, 2, 3] (by decide) rfl
    obtain ⟨k, hk, rfl⟩ := hw
    obtain ⟨fst, hfst⟩ : ∃ z, z = if k < F then k else 2047 := ⟨_, rfl⟩
    have hf2 : fst < 2048 := by rw [hfst]; split <;> omega
    rw [← hfst]
    refine lv_istore (lv' := [(5, .int (nI fst)), (0, .ref mo), (1, .int word), (2, .int (nI c_)), (3, .int (nI c_)), (4, .int (nI F))]) hx hb d_Mo_frame_121 hl (by decide) rfl (fun ls hl => ?_)
    refine mf_mid mo mt my mg mw mf mr F L n fl_ c_ c_ fst word (fun i => bs (4200 * c_ + i)) bs bg fs mfr wv h1 h2 (by omega) (by omega) hf2 (Or.inr ⟨h3, fun _ _ => rfl⟩) S0 hK hA (fun mfr2 H locs ls hm hP hD hS hl => ?_) H locs ls hP hD hS (lv_sub hl [1, 2, 3, 4, 5, 0] rfl)
    refine lv_iload_n hx hb d_Mo_frame_276 rfl (lv_at hl 1 rfl) ?_
    refine lv_iconst (v := nI 2) hx hb d_Mo_frame_277 (by decide) ?_
    refine lz_icmp_ge (tgt := 288) hx hb (by omega) (by omega) d_Mo_frame_278 (by decide) (fun h8 => ?_) (fun h8 => ?_)
    · exfalso
      omega
    · refine lv_aload_n hx hb d_Mo_frame_281 rfl (lv_at hl 0 rfl) ?_
      refine lv_iload_n hx hb d_Mo_frame_282 rfl (lv_at hl 1 rfl) ?_
      refine lv_iload hx hb d_Mo_frame_283 (lv_at hl 3 rfl) ?_
      refine k_Vv (n := 2) (As := [.int (nI c_), .int (nI F)]) (rest := []) (wc := [(mo, .inr (3, [.int (nI 0), .int (nI L), .ref mt, .int (nI n), .ref my, .ref mg, .ref mw, .ref mf, .ref mr, .int (nI (12 + F))])), (my, .inl (ca 0, 8400, .inl bs)), (mg, .inl (ca 3, 8400, .inl bg)), (mw, .inl (ca 1, 2, .inl (fun k => nI (wv k))))]) (wr := [(mf, .inl (ca 1, 4, .inl fs)), (mr, .inl (ca 0, 256, .inl mfr2))]) (ci := 3) (q0 := 0) S0 rfl q_217 q_219 q_p11 q_4 rfl rfl q_220 (by decide +kernel) hK hP hD hS hA (c_Mo_leave l D ca H.size mo mt my mg mw mf mr L n (12 + F) c_ w F bs bg wv h3 h5 h4 hB hZ hw0) [0, 1, 2, 3] [4, 5] rfl rfl (by decide) (by decide) (by decide) ⟨Nat.le_of_ble_eq_true rfl, Nat.le_of_ble_eq_true rfl⟩ rfl hl.1 rfl (Nat.le_of_ble_eq_true rfl) ⟨Nat.le_of_ble_eq_true rfl, Nat.le_of_ble_eq_true rfl⟩ d_Mo_frame_285 (fun u H locs hw hP hD hS => ?_)
      refine W.cs (cells' := 0) (slots' := 0) rfl rfl ?_
      have hP : va_P D classes [(mf, .inl (ca 1, 4, .inl fs)), (mr, .inl (ca 0, 256, .inl mfr2)), (mo, .inr (3, [.int (nI 0), .int (nI L), .ref mt, .int (nI n), .ref my, .ref mg, .ref mw, .ref mf, .ref mr, .int (nI (12 + F))])), (my, .inl (ca 0, 8400, .inl (bl bs (4200 * c_) (w - F) (fun i => bs (4200 * c_ + (i + F)))))), (mg, .inl (ca 3, 8400, .inl (bl bg (4200 * c_) (w - F) (fun i => bg (4200 * c_ + (i + F)))))), (mw, .inl (ca 1, 2, .inl (fun k => nI (va_up wv c_ (w - F) k))))] H := hP
      have hD : va_D A [(mf, .inl (ca 1, 4, .inl fs)), (mr, .inl (ca 0, 256, .inl mfr2)), (mo, .inr (3, [.int (nI 0), .int (nI L), .ref mt, .int (nI n), .ref my, .ref mg, .ref mw, .ref mf, .ref mr, .int (nI (12 + F))])), (my, .inl (ca 0, 8400, .inl (bl bs (4200 * c_) (w - F) (fun i => bs (4200 * c_ + (i + F)))))), (mg, .inl (ca 3, 8400, .inl (bl bg (4200 * c_) (w - F) (fun i => bg (4200 * c_ + (i + F)))))), (mw, .inl (ca 1, 2, .inl (fun k => nI (va_up wv c_ (w - F) k))))] := hD
      have hP : va_P D classes [(mo, .inr (3, [.int (nI 0), .int (nI L), .ref mt, .int (nI n), .ref my, .ref mg, .ref mw, .ref mf, .ref mr, .int (nI (12 + F))])), (my, .inl (ca 0, 8400, .inl (bl bs (4200 * c_) (w - F) (fun i => bs (4200 * c_ + (i + F)))))), (mg, .inl (ca 3, 8400, .inl (bl bg (4200 * c_) (w - F) (fun i => bg (4200 * c_ + (i + F)))))), (mw, .inl (ca 1, 2, .inl (fun k => nI (va_up wv c_ (w - F) k)))), (mf, .inl (ca 1, 4, .inl fs)), (mr, .inl (ca 0, 256, .inl mfr2))] H := hP.sub [2, 3, 4, 5, 0, 1] rfl
      have hD : va_D A [(mo, .inr (3, [.int (nI 0), .int (nI L), .ref mt, .int (nI n), .ref my, .ref mg, .ref mw, .ref mf, .ref mr, .int (nI (12 + F))])), (my, .inl (ca 0, 8400, .inl (bl bs (4200 * c_) (w - F) (fun i => bs (4200 * c_ + (i + F)))))), (mg, .inl (ca 3, 8400, .inl (bl bg (4200 * c_) (w - F) (fun i => bg (4200 * c_ + (i + F)))))), (mw, .inl (ca 1, 2, .inl (fun k => nI (va_up wv c_ (w - F) k)))), (mf, .inl (ca 1, 4, .inl fs)), (mr, .inl (ca 0, 256, .inl mfr2))] := hD.sub [2, 3, 4, 5, 0, 1] (by decide) rfl
      refine mf_end mo mt my mg mw mf mr F L n (12 + F) c_ c_ fst word (fun i => bs (4200 * c_ + i)) (bl bs (4200 * c_) (w - F) (fun i => bs (4200 * c_ + (i + F)))) (bl bg (4200 * c_) (w - F) (fun i => bg (4200 * c_ + (i + F)))) fs mfr2 (va_up wv c_ (w - F)) h1 h2 (by omega) S0 hK hA (fun H locs ls hP hD hS hl => ?_) H locs ls hP hD hS (lv_sub hl [0, 1, 2, 3] rfl)
      exact kk mfr2 k H locs ls hk (by rw [← hfst]; exact hm) hP hD hS hl
  · exfalso
    omega
def bF (bs : Nat → Int32) (c_ w F : Nat) (e : Nat → Int32) : Nat → Int32 := if w < F then bl bs (4200 * c_ + w) (ne F w) e else bs
theorem bF_at (bs e : Nat → Int32) (c_ w F i : Nat) : bF bs c_ w F e (4200 * c_ + i) = if w < F then bl (fun i => bs (4200 * c_ + i)) w (ne F w) e i else bs (4200 * c_ + i) := by
  unfold bF
  by_cases h : w < F
  · rw [if_pos h, if_pos h]
    unfold bl
    by_cases h2 : w ≤ i ∧ i < w + ne F w
    · rw [if_pos h2, if_pos (by omega)]
      congr 1; omega
    · rw [if_neg h2, if_neg (by omega)]
  · rw [if_neg h, if_neg h]
theorem bF_q (bs : Nat → Int32) (c_ w F i : Nat) : bF bs c_ w F (eb (ne F w)) (4200 * c_ + i) = qx (fun i => bs (4200 * c_ + i)) w F i := by
  rw [bF_at]
  unfold qx
  split <;> rfl
theorem bF_g (bg : Nat → Int32) (c_ w F i : Nat) : bF bg c_ w F fl (4200 * c_ + i) = gx (fun i => bg (4200 * c_ + i)) w F i := by
  rw [bF_at]
  unfold gx
  split <;> rfl
theorem bl_fix {f : Nat → Int32} {P : Int32 → Prop} {a n : Nat} {g : Nat → Int32} (h1 : ∀ k, P (f k)) (h2 : ∀ k, P (g k)) : ∀ k, P (bl f a n g k) := by
  intro k
  unfold bl
  split
  · exact h2 _
  · exact h1 _
theorem bF_fix {f : Nat → Int32} {P : Int32 → Prop} {c_ w F : Nat} {g : Nat → Int32} (h1 : ∀ k, P (f k)) (h2 : ∀ k, P (g k)) : ∀ k, P (bF f c_ w F g k) := by
  unfold bF
  split
  · exact bl_fix h1 h2
  · exact h1
set_option maxHeartbeats 1000000 in
set_option maxRecDepth 100000 in
theorem mf_32 {p : Program} {l : Launch} {e : Env} {s : State} {m : MethodId} {args : Array Value} {below : List Frame} {meth : Method} {c : Code} {Q : State → Prop} {D : va_G} {ca : Nat → ClassId} {A : Nat → Prop} {H0 : Heap} (mo mt my mg mw mf mr : Nat) (F L n fl_ c_ w : Nat) (word : Int32) (bs bg fs mfr : Nat → Int32) (wv : Nat → Nat) (h1 : F + 12 = L) (h2 : L ≤ 256) (h3 : c_ < 2) (hw0 : wv c_ = w) (h5 : w ≤ 4096) (hB : ∀ k, bz (bs k) = bs k) (hZ : ∀ k, vp_nar .boolean (bg k) = bg k) (S0 : CallFix p m c b_Mo_frame 7 s args gd_tbl "DownFramesModel") (hK : PW D ca s) (hA : ∀ q, H0.size ≤ q → A q) (kk : ∀ (mfr2 : Nat → Int32) (k : Nat) (H : Heap) (locs : List Loc) (ls : Array Slot), (isF (gx (fun i => bg (4200 * c_ + i)) w F) F k) → (∀ i, i < 12 + F → mfr2 i = fb F c_ (fs 0) (fs (1 + c_)) (if k < F then k else 2047) (qx (fun i => bs (4200 * c_ + i)) w F) word i) → va_P D classes [(mo, .inr (3, [.int (nI 0), .int (nI L), .ref mt, .int (nI n), .ref my, .ref mg, .ref mw, .ref mf, .ref mr, .int (nI (12 + F))])), (my, .inl (ca 0, 8400, .inl (bl (bF bs c_ w F (eb (ne F w))) (4200 * c_) (wx w F - F) (fun i => (bF bs c_ w F (eb (ne F w))) (4200 * c_ + (i + F)))))), (mg, .inl (ca 3, 8400, .inl (bl (bF bg c_ w F fl) (4200 * c_) (wx w F - F) (fun i => (bF bg c_ w F fl) (4200 * c_ + (i + F)))))), (mw, .inl (ca 1, 2, .inl (fun k => nI (va_up wv c_ (wx w F - F) k)))), (mf, .inl (ca 1, 4, .inl (upd (upd fs 0 (fs 0 + nI 1)) (1 + c_) ((upd fs 0 (fs 0 + nI 1)) (1 + c_) + nI 1)))), (mr, .inl (ca 0, 256, .inl mfr2))] H → va_D A [(mo, .inr (3, [.int (nI 0), .int (nI L), .ref mt, .int (nI n), .ref my, .ref mg, .ref mw, .ref mf, .ref mr, .int (nI (12 + F))])), (my, .inl (ca 0, 8400, .inl (bl (bF bs c_ w F (eb (ne F w))) (4200 * c_) (wx w F - F) (fun i => (bF bs c_ w F (eb (ne F w))) (4200 * c_ + (i + F)))))), (mg, .inl (ca 3, 8400, .inl (bl (bF bg c_ w F fl) (4200 * c_) (wx w F - F) (fun i => (bF bg c_ w F fl) (4200 * c_ + (i + F)))))), (mw, .inl (ca 1, 2, .inl (fun k => nI (va_up wv c_ (wx w F - F) k)))), (mf, .inl (ca 1, 4, .inl (upd (upd fs 0 (fs 0 + nI 1)) (1 + c_) ((upd fs 0 (fs 0 + nI 1)) (1 + c_) + nI 1)))), (mr, .inl (ca 0, 256, .inl mfr2))] → va_S A H0 H locs → lv_has ls 7 [(3, .int (nI c_))] → W p l e ({ frames := 2, cells := 0, slots := 0, locals := 47 } : Room) s m args below meth c H locs 0 0 Q (F0 m 310 ls [])) (H : Heap) (locs : List Loc) (ls : Array Slot) (hP : va_P D classes [(mo, .inr (3, [.int (nI 0), .int (nI L), .ref mt, .int (nI n), .ref my, .ref mg, .ref mw, .ref mf, .ref mr, .int (nI fl_)])), (my, .inl (ca 0, 8400, .inl bs)), (mg, .inl (ca 3, 8400, .inl bg)), (mw, .inl (ca 1, 2, .inl (fun k => nI (wv k)))), (mf, .inl (ca 1, 4, .inl fs)), (mr, .inl (ca 0, 256, .inl mfr))] H) (hD : va_D A [(mo, .inr (3, [.int (nI 0), .int (nI L), .ref mt, .int (nI n), .ref my, .ref mg, .ref mw, .ref mf, .ref mr, .int (nI fl_)])), (my, .inl (ca 0, 8400, .inl bs)), (mg, .inl (ca 3, 8400, .inl bg)), (mw, .inl (ca 1, 2, .inl (fun k => nI (wv k)))), (mf, .inl (ca 1, 4, .inl fs)), (mr, .inl (ca 0, 256, .inl mfr))]) (hS : va_S A H0 H locs) (hl : lv_has ls 7 [(0, .ref mo), (1, .int word)]) : W p l e ({ frames := 2, cells := 0, slots := 0, locals := 47 } : Room) s m args below meth c H locs 0 0 Q (F0 m 32 ls [.int (nI c_)]) := by
  have hx := S0.1
  have hb := S0.2.1
  have hwx := wx_le w F
  have hwg := wx_ge w F
  refine lv_istore_n (lv' := [(2, .int (nI c_)), (0, .ref mo), (1, .int word)]) hx hb d_Mo_frame_32 rfl hl (by decide) rfl (fun ls hl => ?_)
  refine lv_iload_n hx hb d_Mo_frame_33 rfl (lv_at hl 0 rfl) ?_
  refine lv_iconst (v := nI 2) hx hb d_Mo_frame_34 (by decide) ?_
  refine lz_icmp_ne (tgt := 43) hx hb (by omega) (by omega) d_Mo_frame_35 (by decide) (fun h9 => ?_) (fun h9 => ?_)
  · refine lv_iload_n hx hb d_Mo_frame_43 rfl (lv_at hl 0 rfl) ?_
    refine lv_istore_n (lv' := [(3, .int (nI c_)), (2, .int (nI c_)), (0, .ref mo), (1, .int word)]) hx hb d_Mo_frame_44 rfl hl (by decide) rfl (fun ls hl => ?_)
    refine lv_aload_n hx hb d_Mo_frame_45 rfl (lv_at hl 2 rfl) ?_
    refine gf_Mo_30 (q0 := 0) S0 hK hP rfl rfl d_Mo_frame_46 ?_
    refine lv_bipush (v := nI 12) hx hb d_Mo_frame_49 (by decide) ?_
    refine lz_isub hx hb (by omega) d_Mo_frame_51 ?_
    refine lz_top (y := nI F) (by rw [show L - 12 = F by omega]) ?_
    refine lv_istore (lv' := [(4, .int (nI F)), (3, .int (nI c_)), (2, .int (nI c_)), (0, .ref mo), (1, .int word)]) hx hb d_Mo_frame_52 hl (by decide) rfl (fun ls hl => ?_)
    refine lv_iload_n hx hb d_Mo_frame_54 rfl (lv_at hl 2 rfl) ?_
    refine lv_iconst (v := nI 2) hx hb d_Mo_frame_55 (by decide) ?_
    refine lz_icmp_ge (tgt := 103) hx hb (by omega) (by omega) d_Mo_frame_56 (by decide) (fun h9 => ?_) (fun h9 => ?_)
    · exfalso
      omega
    · refine lv_aload_n hx hb d_Mo_frame_59 rfl (lv_at hl 3 rfl) ?_
      refine gf_Mo_20 (q0 := 0) S0 hK hP rfl rfl d_Mo_frame_60 ?_
      refine lv_iload_n hx hb d_Mo_frame_63 rfl (lv_at hl 2 rfl) ?_
      refine lz_iald (i := c_) hx hb hK.1 hP 3 1 rfl rfl (by omega) (by decide) d_Mo_frame_64 ?_
      refine lz_top (y := nI w) (by rw [hw0]) ?_
      refine lv_iload hx hb d_Mo_frame_65 (lv_at hl 0 rfl) ?_
      refine lz_icmp_ge (tgt := 103) hx hb (by omega) (by omega) d_Mo_frame_67 (by decide) (fun h8 => ?_) (fun h8 => ?_)
      · have eB : bF bs c_ w F (eb (ne F w)) = bs := if_neg (by omega)
        have eG : bF bg c_ w F fl = bg := if_neg (by omega)
        have eW : wx w F = w := if_neg (by omega)
        refine mf_103 mo mt my mg mw mf mr F L n fl_ c_ w word bs bg fs mfr wv h1 h2 h3 hw0 h8 (by omega) hB hZ S0 hK hA (fun mfr2 k H locs ls hk hm hP hD hS hl => ?_) H locs ls hP hD hS (lv_sub hl [3, 4, 2, 1, 0] rfl)
        rw [eB, eG, eW] at kk
        exact kk mfr2 k H locs ls (by rw [show gx (fun i => bg (4200 * c_ + i)) w F = fun i => bg (4200 * c_ + i) from if_neg (by omega)]; exact hk) (by rw [show qx (fun i => bs (4200 * c_ + i)) w F = fun i => bs (4200 * c_ + i) from if_neg (by omega)]; exact hm) hP hD hS hl
      · refine lv_aload_n hx hb d_Mo_frame_70 rfl (lv_at hl 3 rfl) ?_
        refine lv_iload_n hx hb d_Mo_frame_71 rfl (lv_at hl 2 rfl) ?_
        refine lv_iload hx hb d_Mo_frame_72 (lv_at hl 0 rfl) ?_
        refine lv_aload_n hx hb d_Mo_frame_74 rfl (lv_at hl 3 rfl) ?_
        refine gf_Mo_20 (q0 := 0) S0 hK hP rfl rfl d_Mo_frame_75 ?_
        refine lv_iload_n hx hb d_Mo_frame_78 rfl (lv_at hl 2 rfl) ?_
        refine lz_iald (i := c_) hx hb hK.1 hP 3 1 rfl rfl (by omega) (by decide) d_Mo_frame_79 ?_
        refine lz_top (y := nI w) (by rw [hw0]) ?_
        refine lz_isub hx hb (by omega) d_Mo_frame_80 ?_
        refine lv_bipush (v := nI 7) hx hb d_Mo_frame_81 (by decide) ?_
        refine lz_cut (g := F0 m 100 ls [.int (nI (ne F w)), .int (nI c_), .ref mo]) ?_ (fun tail => ?_)
        · have hne := ne_le F w
          have hn7 := ne_ge F w
          have eB : bF bs c_ w F (eb (ne F w)) = bl bs (4200 * c_ + w) (ne F w) (eb (ne F w)) := if_pos (by omega)
          have eG : bF bg c_ w F fl = bl bg (4200 * c_ + w) (ne F w) fl := if_pos (by omega)
          have eW : wx w F = w + ne F w := if_pos (by omega)
          refine k_Vv (n := 2) (As := [.int (nI c_), .int (nI (ne F w))]) (rest := []) (wc := [(mo, .inr (3, [.int (nI 0), .int (nI L), .ref mt, .int (nI n), .ref my, .ref mg, .ref mw, .ref mf, .ref mr, .int (nI fl_)])), (my, .inl (ca 0, 8400, .inl bs)), (mg, .inl (ca 3, 8400, .inl bg)), (mw, .inl (ca 1, 2, .inl (fun k => nI (wv k))))]) (wr := [(mf, .inl (ca 1, 4, .inl fs)), (mr, .inl (ca 0, 256, .inl mfr))]) (ci := 3) (q0 := 0) S0 rfl q_198 q_200 q_p7 q_4 rfl rfl q_201 (by decide +kernel) hK hP hD hS hA (c_Mo_fills l D ca H.size mo mt my mg mw mf mr L n fl_ c_ w (ne F w) bs bg wv h3 (by omega) hn7 hw0) [0, 1, 2, 3] [4, 5] rfl rfl (by decide) (by decide) (by decide) ⟨Nat.le_of_ble_eq_true rfl, Nat.le_of_ble_eq_true rfl⟩ rfl hl.1 rfl (Nat.le_of_ble_eq_true rfl) ⟨Nat.le_of_ble_eq_true rfl, Nat.le_of_ble_eq_true rfl⟩ d_Mo_frame_100 (fun u H locs hw hP hD hS => ?_)
          refine W.cs (cells' := 0) (slots' := 0) rfl rfl ?_
          have hP : va_P D classes [(mf, .inl (ca 1, 4, .inl fs)), (mr, .inl (ca 0, 256, .inl mfr)), (mo, .inr (3, [.int (nI 0), .int (nI L), .ref mt, .int (nI n), .ref my, .ref mg, .ref mw, .ref mf, .ref mr, .int (nI fl_)])), (my, .inl (ca 0, 8400, .inl (bl bs (4200 * c_ + w) (ne F w) (eb (ne F w))))), (mg, .inl (ca 3, 8400, .inl (bl bg (4200 * c_ + w) (ne F w) fl))), (mw, .inl (ca 1, 2, .inl (fun k => nI (va_up wv c_ (w + ne F w) k))))] H := hP
          have hD : va_D A [(mf, .inl (ca 1, 4, .inl fs)), (mr, .inl (ca 0, 256, .inl mfr)), (mo, .inr (3, [.int (nI 0), .int (nI L), .ref mt, .int (nI n), .ref my, .ref mg, .ref mw, .ref mf, .ref mr, .int (nI fl_)])), (my, .inl (ca 0, 8400, .inl (bl bs (4200 * c_ + w) (ne F w) (eb (ne F w))))), (mg, .inl (ca 3, 8400, .inl (bl bg (4200 * c_ + w) (ne F w) fl))), (mw, .inl (ca 1, 2, .inl (fun k => nI (va_up wv c_ (w + ne F w) k))))] := hD
          rw [← eB, ← eG, ← eW] at hP hD
          have hP : va_P D classes [(mf, .inl (ca 1, 4, .inl fs)), (mr, .inl (ca 0, 256, .inl mfr)), (mo, .inr (3, [.int (nI 0), .int (nI L), .ref mt, .int (nI n), .ref my, .ref mg, .ref mw, .ref mf, .ref mr, .int (nI fl_)])), (my, .inl (ca 0, 8400, .inl (bF bs c_ w F (eb (ne F w))))), (mg, .inl (ca 3, 8400, .inl (bF bg c_ w F fl))), (mw, .inl (ca 1, 2, .inl (fun k => nI (va_up wv c_ (wx w F) k))))] H := hP
          have hD : va_D A [(mf, .inl (ca 1, 4, .inl fs)), (mr, .inl (ca 0, 256, .inl mfr)), (mo, .inr (3, [.int (nI 0), .int (nI L), .ref mt, .int (nI n), .ref my, .ref mg, .ref mw, .ref mf, .ref mr, .int (nI fl_)])), (my, .inl (ca 0, 8400, .inl (bF bs c_ w F (eb (ne F w))))), (mg, .inl (ca 3, 8400, .inl (bF bg c_ w F fl))), (mw, .inl (ca 1, 2, .inl (fun k => nI (va_up wv c_ (wx w F) k))))] := hD
          have hP : va_P D classes [(mo, .inr (3, [.int (nI 0), .int (nI L), .ref mt, .int (nI n), .ref my, .ref mg, .ref mw, .ref mf, .ref mr, .int (nI fl_)])), (my, .inl (ca 0, 8400, .inl (bF bs c_ w F (eb (ne F w))))), (mg, .inl (ca 3, 8400, .inl (bF bg c_ w F fl))), (mw, .inl (ca 1, 2, .inl (fun k => nI (va_up wv c_ (wx w F) k)))), (mf, .inl (ca 1, 4, .inl fs)), (mr, .inl (ca 0, 256, .inl mfr))] H := hP.sub [2, 3, 4, 5, 0, 1] rfl
          have hD : va_D A [(mo, .inr (3, [.int (nI 0), .int (nI L), .ref mt, .int (nI n), .ref my, .ref mg, .ref mw, .ref mf, .ref mr, .int (nI fl_)])), (my, .inl (ca 0, 8400, .inl (bF bs c_ w F (eb (ne F w))))), (mg, .inl (ca 3, 8400, .inl (bF bg c_ w F fl))), (mw, .inl (ca 1, 2, .inl (fun k => nI (va_up wv c_ (wx w F) k)))), (mf, .inl (ca 1, 4, .inl fs)), (mr, .inl (ca 0, 256, .inl mfr))] := hD.sub [2, 3, 4, 5, 0, 1] (by decide) rfl
          refine mf_103 mo mt my mg mw mf mr F L n fl_ c_ (wx w F) word (bF bs c_ w F (eb (ne F w))) (bF bg c_ w F fl) fs mfr (va_up wv c_ (wx w F)) h1 h2 h3 (up_self _ _ _) hwg.1 (by omega) (bF_fix (P := fun x => bz x = x) hB (fun k => bz_bz _)) (bF_fix (P := fun x => vp_nar .boolean x = x) hZ fl_nar) S0 hK hA (fun mfr2 k H locs ls hk hm hP hD hS hl => ?_) H locs ls hP hD hS (lv_sub hl [3, 4, 2, 1, 0] rfl)
          rw [up_up] at hP hD
          have hgx : (fun i => bF bg c_ w F fl (4200 * c_ + i)) = gx (fun i => bg (4200 * c_ + i)) w F := funext (fun i => bF_g bg c_ w F i)
          have hqx : (fun i => bF bs c_ w F (eb (ne F w)) (4200 * c_ + i)) = qx (fun i => bs (4200 * c_ + i)) w F := funext (fun i => bF_q bs c_ w F i)
          exact kk mfr2 k H locs ls (by rw [← hgx]; exact hk) (by rw [← hqx]; exact hm) hP hD hS hl
        · refine lz_icmp_le (tgt := 98) hx hb (by omega) (by omega) d_Mo_frame_83 (by decide) (fun h7 => ?_) (fun h7 => ?_)
          · refine lv_bipush (v := nI 7) hx hb d_Mo_frame_98 (by decide) ?_
            refine lz_top (y := nI (ne F w)) (by rw [show ne F w = 7 from if_neg (by omega)]) ?_
            exact tail
          · refine lv_iload hx hb d_Mo_frame_86 (lv_at hl 0 rfl) ?_
            refine lv_aload_n hx hb d_Mo_frame_88 rfl (lv_at hl 3 rfl) ?_
            refine gf_Mo_20 (q0 := 0) S0 hK hP rfl rfl d_Mo_frame_89 ?_
            refine lv_iload_n hx hb d_Mo_frame_92 rfl (lv_at hl 2 rfl) ?_
            refine lz_iald (i := c_) hx hb hK.1 hP 3 1 rfl rfl (by omega) (by decide) d_Mo_frame_93 ?_
            refine lz_top (y := nI w) (by rw [hw0]) ?_
            refine lz_isub hx hb (by omega) d_Mo_frame_94 ?_
            refine lv_goto (tgt := 100) hx hb d_Mo_frame_95 (by decide) ?_
            refine lz_top (y := nI (ne F w)) (by rw [show ne F w = F - w from if_pos (by omega)]) ?_
            exact tail
  · exfalso
    omega
def mfR (F L : Nat) (word : Int32) (bs bg fs : Nat → Int32) (wv : Nat → Nat) (r : Int32) (u : (Nat → Int32) × (Nat → Int32) × (Nat → Nat) × (Nat → Int32) × (Nat → Int32)) : Prop :=
  (∃ c_, c_ < 2 ∧ ((c_ = 0 ∧ 0 < wv 0) ∨ (c_ = 1 ∧ wv 0 = 0 ∧ 0 < wv 1)) ∧ r = nI c_ ∧ (∃ k, isF (gx (fun i => bg (4200 * c_ + i)) (wv c_) F) F k ∧ ∀ i, i < L → u.2.2.2.2 i = fb F c_ (fs 0) (fs (1 + c_)) (if k < F then k else 2047) (qx (fun i => bs (4200 * c_ + i)) (wv c_) F) word i)
    ∧ u.1 = bl (bF bs c_ (wv c_) F (eb (ne F (wv c_)))) (4200 * c_) (wx (wv c_) F - F) (fun i => bF bs c_ (wv c_) F (eb (ne F (wv c_))) (4200 * c_ + (i + F)))
    ∧ u.2.1 = bl (bF bg c_ (wv c_) F fl) (4200 * c_) (wx (wv c_) F - F) (fun i => bF bg c_ (wv c_) F fl (4200 * c_ + (i + F)))
    ∧ u.2.2.1 = va_up wv c_ (wx (wv c_) F - F) ∧ u.2.2.2.1 = upd (upd fs 0 (fs 0 + nI 1)) (1 + c_) ((upd fs 0 (fs 0 + nI 1)) (1 + c_) + nI 1))
  ∨ (wv 0 = 0 ∧ wv 1 = 0 ∧ r = nI 7 ∧ (∀ i, i < L → u.2.2.2.2 i = fb F 7 (fs 0) (fs 3) 2046 (fun _ => nI 85) word i) ∧ u.1 = bs ∧ u.2.1 = bg ∧ u.2.2.1 = wv ∧ u.2.2.2.1 = upd (upd fs 0 (fs 0 + nI 1)) 3 ((upd fs 0 (fs 0 + nI 1)) 3 + nI 1))
set_option maxHeartbeats 1000000 in
set_option maxRecDepth 100000 in
/-- the model: frame -/
theorem c_Mo_frame (l : Launch) (D : va_G) (ca : Nat → ClassId) (sz : Nat) (mo mt my mg mw mf mr : Nat) (F L n fl_ : Nat) (word : Int32) (bs bg fs mfr : Nat → Int32) (wv : Nat → Nat) (h1 : F + 12 = L) (h2 : L ≤ 256) (hwv : ∀ i, i < 2 → wv i ≤ 4096) (hB : ∀ k, bz (bs k) = bs k) (hZ : ∀ k, vp_nar .boolean (bg k) = bg k) : MetI l y_Mo_frame b_Mo_frame 7 (some .int) ({ frames := 2, cells := 0, slots := 0, locals := 47 } : Room) D ca [.ref mo, .int word] [(mo, .inr (3, [.int (nI 0), .int (nI L), .ref mt, .int (nI n), .ref my, .ref mg, .ref mw, .ref mf, .ref mr, .int (nI fl_)])), (my, .inl (ca 0, 8400, .inl bs)), (mg, .inl (ca 3, 8400, .inl bg)), (mw, .inl (ca 1, 2, .inl (fun k => nI (wv k)))), (mf, .inl (ca 1, 4, .inl fs)), (mr, .inl (ca 0, 256, .inl mfr))] sz (fun (r : Int32) (u : (Nat → Int32) × (Nat → Int32) × (Nat → Nat) × (Nat → Int32) × (Nat → Int32)) => mfR F L word bs bg fs wv r u) (fun u => [(mo, .inr (3, [.int (nI 0), .int (nI L), .ref mt, .int (nI n), .ref my, .ref mg, .ref mw, .ref mf, .ref mr, .int (nI (12 + F))])), (my, .inl (ca 0, 8400, .inl u.1)), (mg, .inl (ca 3, 8400, .inl u.2.1)), (mw, .inl (ca 1, 2, .inl (fun k => nI (u.2.2.1 k)))), (mf, .inl (ca 1, 4, .inl u.2.2.2.1)), (mr, .inl (ca 0, 256, .inl u.2.2.2.2))]) := by
  refine MetI.of (by decide) (Nat.le_of_ble_eq_true rfl) ?_
  intro p e s m below meth c A ls S0 hr hlk hK hP hD hA hl
  have hx := S0.1
  have hb := S0.2.1
  have hS : va_S A s.heap s.heap [] := va_S.rf
  have hP : va_P D classes [(mo, .inr (3, [.int (nI 0), .int (nI L), .ref mt, .int (nI n), .ref my, .ref mg, .ref mw, .ref mf, .ref mr, .int (nI fl_)])), (my, .inl (ca 0, 8400, .inl bs)), (mg, .inl (ca 3, 8400, .inl bg)), (mw, .inl (ca 1, 2, .inl (fun k => nI (wv k)))), (mf, .inl (ca 1, 4, .inl fs)), (mr, .inl (ca 0, 256, .inl mfr))] s.heap := hP
  have hD : va_D A [(mo, .inr (3, [.int (nI 0), .int (nI L), .ref mt, .int (nI n), .ref my, .ref mg, .ref mw, .ref mf, .ref mr, .int (nI fl_)])), (my, .inl (ca 0, 8400, .inl bs)), (mg, .inl (ca 3, 8400, .inl bg)), (mw, .inl (ca 1, 2, .inl (fun k => nI (wv k)))), (mf, .inl (ca 1, 4, .inl fs)), (mr, .inl (ca 0, 256, .inl mfr))] := hD
  have hl : lv_has ls 7 [(0, .ref mo), (1, .int word)] := hl
  have hw0 := hwv 0 (by decide)
  have hw1 := hwv 1 (by decide)
  refine lv_aload_n hx hb d_Mo_frame_0 rfl (lv_at hl 0 rfl) ?_
  refine lv_iconst (v := nI 0) hx hb d_Mo_frame_1 (by decide) ?_
  refine pf_Mo_34 (q0 := 0) S0 hK hP hD hS rfl rfl rfl (Nat.le_of_ble_eq_true rfl) d_Mo_frame_2 (fun H locs hP hD hS => ?_)
  have hP : va_P D classes [(mo, .inr (3, [.int (nI 0), .int (nI L), .ref mt, .int (nI n), .ref my, .ref mg, .ref mw, .ref mf, .ref mr, .int (nI fl_)])), (my, .inl (ca 0, 8400, .inl bs)), (mg, .inl (ca 3, 8400, .inl bg)), (mw, .inl (ca 1, 2, .inl (fun k => nI (wv k)))), (mf, .inl (ca 1, 4, .inl fs)), (mr, .inl (ca 0, 256, .inl mfr))] H := hP
  have hD : va_D A [(mo, .inr (3, [.int (nI 0), .int (nI L), .ref mt, .int (nI n), .ref my, .ref mg, .ref mw, .ref mf, .ref mr, .int (nI fl_)])), (my, .inl (ca 0, 8400, .inl bs)), (mg, .inl (ca 3, 8400, .inl bg)), (mw, .inl (ca 1, 2, .inl (fun k => nI (wv k)))), (mf, .inl (ca 1, 4, .inl fs)), (mr, .inl (ca 0, 256, .inl mfr))] := hD
  refine lv_aload_n hx hb d_Mo_frame_5 rfl (lv_at hl 0 rfl) ?_
  refine gf_Mo_20 (q0 := 0) S0 hK hP rfl rfl d_Mo_frame_6 ?_
  refine lv_iconst (v := nI 0) hx hb d_Mo_frame_9 (by decide) ?_
  refine lz_iald (i := 0) hx hb hK.1 hP 3 1 rfl rfl (by omega) (by decide) d_Mo_frame_10 ?_
  rcases nx_cases (wv 0) (wv 1) with ⟨hz, -⟩ | ⟨hz, hz1, -⟩ | ⟨hz, hz1, -⟩
  · refine lz_if_le (tgt := 18) hx hb (by omega) d_Mo_frame_11 (by decide) (fun h9 => ?_) (fun h9 => ?_)
    · exfalso
      omega
    · refine lv_iconst (v := nI 0) hx hb d_Mo_frame_14 (by decide) ?_
      refine lv_goto (tgt := 32) hx hb d_Mo_frame_15 (by decide) ?_
      refine mf_32 mo mt my mg mw mf mr F L n fl_ 0 (wv 0) word bs bg fs mfr wv h1 h2 (by decide) rfl hw0 hB hZ S0 hK hA (fun mfr2 k H locs ls hk hm hP hD hS hl => ?_) H locs ls hP hD hS (lv_sub hl [0, 1] rfl)
      refine lv_iload_n hx hb d_Mo_frame_310 rfl (lv_at hl 0 rfl) ?_
      exact k_iret hx hb hr (rfl) hlk ((_, _, _, _, mfr2)) (Or.inl ⟨0, by decide, Or.inl ⟨rfl, hz⟩, rfl, ⟨k, hk, fun i hi => hm i (by omega)⟩, rfl, rfl, rfl, rfl⟩) hP hD hS d_Mo_frame_311
  · refine lz_if_le (tgt := 18) hx hb (by omega) d_Mo_frame_11 (by decide) (fun h9 => ?_) (fun h9 => ?_)
    · refine lv_aload_n hx hb d_Mo_frame_18 rfl (lv_at hl 0 rfl) ?_
      refine gf_Mo_20 (q0 := 0) S0 hK hP rfl rfl d_Mo_frame_19 ?_
      refine lv_iconst (v := nI 1) hx hb d_Mo_frame_22 (by decide) ?_
      refine lz_iald (i := 1) hx hb hK.1 hP 3 1 rfl rfl (by omega) (by decide) d_Mo_frame_23 ?_
      refine lz_if_le (tgt := 31) hx hb (by omega) d_Mo_frame_24 (by decide) (fun h8 => ?_) (fun h8 => ?_)
      · exfalso
        omega
      · refine lv_iconst (v := nI 1) hx hb d_Mo_frame_27 (by decide) ?_
        refine lv_goto (tgt := 32) hx hb d_Mo_frame_28 (by decide) ?_
        refine mf_32 mo mt my mg mw mf mr F L n fl_ 1 (wv 1) word bs bg fs mfr wv h1 h2 (by decide) rfl hw1 hB hZ S0 hK hA (fun mfr2 k H locs ls hk hm hP hD hS hl => ?_) H locs ls hP hD hS (lv_sub hl [0, 1] rfl)
        refine lv_iload_n hx hb d_Mo_frame_310 rfl (lv_at hl 0 rfl) ?_
        exact k_iret hx hb hr (rfl) hlk ((_, _, _, _, mfr2)) (Or.inl ⟨1, by decide, Or.inr ⟨rfl, hz, hz1⟩, rfl, ⟨k, hk, fun i hi => hm i (by omega)⟩, rfl, rfl, rfl, rfl⟩) hP hD hS d_Mo_frame_311
    · exfalso
      omega
  · refine lz_if_le (tgt := 18) hx hb (by omega) d_Mo_frame_11 (by decide) (fun h9 => ?_) (fun h9 => ?_)
    · refine lv_aload_n hx hb d_Mo_frame_18 rfl (lv_at hl 0 rfl) ?_
      refine gf_Mo_20 (q0 := 0) S0 hK hP rfl rfl d_Mo_frame_19 ?_
      refine lv_iconst (v := nI 1) hx hb d_Mo_frame_22 (by decide) ?_
      refine lz_iald (i := 1) hx hb hK.1 hP 3 1 rfl rfl (by omega) (by decide) d_Mo_frame_23 ?_
      refine lz_if_le (tgt := 31) hx hb (by omega) d_Mo_frame_24 (by decide) (fun h8 => ?_) (fun h8 => ?_)
      · refine lv_iconst (v := nI 2) hx hb d_Mo_frame_31 (by decide) ?_
        refine lv_istore_n (lv' := [(2, .int (nI 2)), (0, .ref mo), (1, .int word)]) hx hb d_Mo_frame_32 rfl hl (by decide) rfl (fun ls hl => ?_)
        refine lv_iload_n hx hb d_Mo_frame_33 rfl (lv_at hl 0 rfl) ?_
        refine lv_iconst (v := nI 2) hx hb d_Mo_frame_34 (by decide) ?_
        refine lz_icmp_ne (tgt := 43) hx hb (by omega) (by omega) d_Mo_frame_35 (by decide) (fun h7 => ?_) (fun h7 => ?_)
        · exfalso
          exact h7 rfl
        · refine lv_bipush (v := nI 7) hx hb d_Mo_frame_38 (by decide) ?_
          refine lv_goto (tgt := 44) hx hb d_Mo_frame_40 (by decide) ?_
          refine lv_istore_n (lv' := [(3, .int (nI 7)), (2, .int (nI 2)), (0, .ref mo), (1, .int word)]) hx hb d_Mo_frame_44 rfl hl (by decide) rfl (fun ls hl => ?_)
          refine lv_aload_n hx hb d_Mo_frame_45 rfl (lv_at hl 2 rfl) ?_
          refine gf_Mo_30 (q0 := 0) S0 hK hP rfl rfl d_Mo_frame_46 ?_
          refine lv_bipush (v := nI 12) hx hb d_Mo_frame_49 (by decide) ?_
          refine lz_isub hx hb (by omega) d_Mo_frame_51 ?_
          refine lz_top (y := nI F) (by rw [show L - 12 = F by omega]) ?_
          refine lv_istore (lv' := [(4, .int (nI F)), (3, .int (nI 7)), (2, .int (nI 2)), (0, .ref mo), (1, .int word)]) hx hb d_Mo_frame_52 hl (by decide) rfl (fun ls hl => ?_)
          refine lv_iload_n hx hb d_Mo_frame_54 rfl (lv_at hl 2 rfl) ?_
          refine lv_iconst (v := nI 2) hx hb d_Mo_frame_55 (by decide) ?_
          refine lz_icmp_ge (tgt := 103) hx hb (by omega) (by omega) d_Mo_frame_56 (by decide) (fun h7 => ?_) (fun h7 => ?_)
          · refine lv_iload_n hx hb d_Mo_frame_103 rfl (lv_at hl 2 rfl) ?_
            refine lv_iconst (v := nI 2) hx hb d_Mo_frame_104 (by decide) ?_
            refine lz_icmp_ne (tgt := 114) hx hb (by omega) (by omega) d_Mo_frame_105 (by decide) (fun h6 => ?_) (fun h6 => ?_)
            · exfalso
              exact h6 rfl
            · refine lv_sipush (v := nI 2046) hx hb d_Mo_frame_108 (by decide) ?_
              refine lv_goto (tgt := 121) hx hb d_Mo_frame_111 (by decide) ?_
              refine lv_istore (lv' := [(5, .int (nI 2046)), (4, .int (nI F)), (3, .int (nI 7)), (2, .int (nI 2)), (0, .ref mo), (1, .int word)]) hx hb d_Mo_frame_121 hl (by decide) rfl (fun ls hl => ?_)
              refine mf_mid mo mt my mg mw mf mr F L n fl_ 2 7 2046 word (fun _ => nI 85) bs bg fs mfr wv h1 h2 (by decide) (by decide) (by decide) (Or.inl ⟨rfl, fun _ _ => rfl⟩) S0 hK hA (fun mfr2 H locs ls hm hP hD hS hl => ?_) H locs ls hP hD hS (lv_sub hl [4, 5, 3, 2, 1, 0] rfl)
              refine lv_iload_n hx hb d_Mo_frame_276 rfl (lv_at hl 1 rfl) ?_
              refine lv_iconst (v := nI 2) hx hb d_Mo_frame_277 (by decide) ?_
              refine lz_icmp_ge (tgt := 288) hx hb (by omega) (by omega) d_Mo_frame_278 (by decide) (fun h5 => ?_) (fun h5 => ?_)
              · refine mf_end mo mt my mg mw mf mr F L n (12 + F) 2 7 2046 word (fun _ => nI 85) bs bg fs mfr2 wv h1 h2 (by decide) S0 hK hA (fun H locs ls hP hD hS hl => ?_) H locs ls hP hD hS (lv_sub hl [0, 1, 2, 3] rfl)
                refine lv_iload_n hx hb d_Mo_frame_310 rfl (lv_at hl 0 rfl) ?_
                exact k_iret hx hb hr (rfl) hlk ((bs, bg, wv, _, mfr2)) (Or.inr ⟨hz, hz1, rfl, fun i hi => hm i (by omega), rfl, rfl, rfl, rfl⟩) hP hD hS d_Mo_frame_311
              · exfalso
                omega
          · exfalso
            omega
      · exfalso
        omega
    · exfalso
      omega
end
section
theorem lz_aast {p : Program} {l : Launch} {e : Env} {R : Room} {s : State} {m : MethodId} {args : Array Value} {below : List Frame} {meth : Method} {c : Code} {H : Heap} {locs : List Loc} {cells slots : Nat} {Q : State → Prop} {cc : ByteArray} {pc : Nat} {ls : Array Slot} {rest : List Value} {D : va_G} {cl : List vw_C} {ts : List (ClassId × FieldType)} {ws : va_W} {A : Nat → Prop} {H0 : Heap} {a : Nat} (hexec : p.tables.exec = Jvm.exec) (hb : c.code = cc) (hK : va_K D cl ts s) (hP : va_P D cl ws H) (hD : va_D A ws) (hS : va_S A H0 H locs) (q0 t0 qk ci : Nat) {cA : ClassId} {r : vw_C} {n v i : Nat} {vs : List Value} {f : Nat → Option Nat} (ha : ws[q0]? = some (a, .inl (cA, n, .inr (.inr (.inr (.inr f)))))) (ht : ts[t0]? = some (cA, .object r.1)) (hv : ws[qk]? = some (v, .inr (ci, vs))) (hc : cl[ci]? = some r) (hi : i < n) (hn : n < 2 ^ 31) (hdg : decode cc pc = .ok (.aastore, 1))
    (k : ∀ (H1 : Heap) (locs1 : List Loc), va_P D cl (ws.set q0 (a, .inl (cA, n, .inr (.inr (.inr (.inr (va_up f i (some v)))))))) H1 → va_D A (ws.set q0 (a, .inl (cA, n, .inr (.inr (.inr (.inr (va_up f i (some v)))))))) → va_S A H0 H1 locs1 → W p l e R s m args below meth c H1 locs1 cells slots Q (F0 m (pc + 1) ls rest)) : W p l e R s m args below meth c H locs cells slots Q (F0 m pc ls (.ref v :: .int (nI i) :: .ref a :: rest)) := va_astq hexec hb hK hP hD hS q0 t0 qk ci ha ht hv hc (vp_in_nI hi hn) hdg (fun H1 locs1 h1 h2 h3 => by
  rw [nI_clamp (Nat.lt_trans hi hn)] at h1 h2
  exact k H1 locs1 h1 h2 h3)
set_option maxHeartbeats 1000000 in
set_option maxRecDepth 100000 in
/-- Channel() -/
theorem c_Ch_init (l : Launch) (D : va_G) (ca : Nat → ClassId) (sz : Nat) (o : Nat) : MetV l y_Ch_init b_Ch_init 1 ({ frames := 1, cells := 1, slots := 4096, locals := 12 } : Room) D ca [.ref o] [(o, .inr (0, [.null, .int (nI 0), .int (nI 0), .int (nI 0)]))] sz (fun _ : Nat => True) (fun r => [(o, .inr (0, [.ref r, .int (nI 0), .int (nI 0), .int (nI 0)])), (r, .inl (ca 0, 4096, .inl (fun _ => nI 0)))]) := by
  refine MetV.of (by decide) (Nat.le_of_ble_eq_true rfl) ?_
  intro p e s m below meth c A ls S0 hr hlk hK hP hD hA hl hnm
  have hx := S0.1
  have hb := S0.2.1
  have hS : va_S A s.heap s.heap [] := va_S.rf
  have hP : va_P D classes [(o, .inr (0, [.null, .int (nI 0), .int (nI 0), .int (nI 0)]))] s.heap := hP
  have hD : va_D A [(o, .inr (0, [.null, .int (nI 0), .int (nI 0), .int (nI 0)]))] := hD
  have hl : lv_has ls 1 [(0, .ref o)] := hl
  refine lv_aload_n hx hb d_Ch_init_0 rfl (lv_at hl 0 rfl) ?_
  refine W.objInit hx hb S0.2.2.2.1 (S0.2.2.2.2 _ q_26) (S0.2.2.2.2 _ q_12) (S0.2.2.2.2 _ q_13) rfl (by rw [S0.2.2.1]; exact hl.1) rfl d_Ch_init_1 (Nat.le_of_ble_eq_true rfl) (Nat.le_of_ble_eq_true rfl) ?_
  refine W.eq (g2 := F0 m 4 ls []) rfl ?_
  refine lv_aload_n hx hb d_Ch_init_4 rfl (lv_at hl 0 rfl) ?_
  refine lv_sipush (v := nI 4096) hx hb d_Ch_init_5 (by decide) ?_
  refine lz_newa (atype := .byte) hx hb hA (S0.2.2.2.2 _ q_42) rfl rfl (by decide) hK.1 hP hD hS 0 rfl (by decide) (Nat.le_of_ble_eq_true rfl) ((Nat.le_of_ble_eq_true rfl)) d_Ch_init_8 (fun r H hP hD hS => ?_)
  refine W.cs (cells' := 1) (slots' := 4096) rfl rfl ?_
  have hP : va_P D classes [(o, .inr (0, [.null, .int (nI 0), .int (nI 0), .int (nI 0)])), (r, .inl (ca 0, 4096, .inl (fun _ => nI 0)))] H := hP
  have hD : va_D A [(o, .inr (0, [.null, .int (nI 0), .int (nI 0), .int (nI 0)])), (r, .inl (ca 0, 4096, .inl (fun _ => nI 0)))] := hD
  refine pf_Ch_11 (q0 := 0) S0 hnm hK hP hD hS rfl rfl rfl (Nat.le_of_ble_eq_true rfl) d_Ch_init_10 (fun H locs hP hD hS => ?_)
  have hP : va_P D classes [(o, .inr (0, [.ref r, .int (nI 0), .int (nI 0), .int (nI 0)])), (r, .inl (ca 0, 4096, .inl (fun _ => nI 0)))] H := hP
  have hD : va_D A [(o, .inr (0, [.ref r, .int (nI 0), .int (nI 0), .int (nI 0)])), (r, .inl (ca 0, 4096, .inl (fun _ => nI 0)))] := hD
  exact k_vret hx hb hr hlk (r) (trivial) hP hD hS d_Ch_init_13
set_option maxHeartbeats 1000000 in
set_option maxRecDepth 100000 in
/-- Maker(L) -/
theorem c_Mk_init (l : Launch) (D : va_G) (ca : Nat → ClassId) (sz : Nat) (mk L : Nat) (h1 : 64 ≤ L) (h2 : L ≤ 256) : MetV l y_Mk_init b_Mk_init 2 ({ frames := 2, cells := 7, slots := 8461, locals := 32 } : Room) D ca [.ref mk, .int (nI L)] [(mk, .inr (1, [.null, .null, .int (nI 0), .null]))] sz (fun _ : Nat × Nat × Nat × Nat × Nat × Nat × Nat => True) (fun u => [(mk, .inr (1, [.ref u.1, .ref u.2.1, .int (nI 0), .ref u.2.2.1])), (u.1, .inl (ca 0, L, .inl (fun _ => nI 0))), (u.2.1, .inl (ca 2, 2, .inr (.inr (.inr (.inr (chf u.2.2.2.1 u.2.2.2.2.2.1)))))), (u.2.2.1, .inl (ca 1, 3, .inl (fun _ => nI 0))), (u.2.2.2.1, .inr (0, [.ref u.2.2.2.2.1, .int (nI 0), .int (nI 0), .int (nI 0)])), (u.2.2.2.2.1, .inl (ca 0, 4096, .inl (fun _ => nI 0))), (u.2.2.2.2.2.1, .inr (0, [.ref u.2.2.2.2.2.2, .int (nI 0), .int (nI 0), .int (nI 0)])), (u.2.2.2.2.2.2, .inl (ca 0, 4096, .inl (fun _ => nI 0)))]) := by
  refine MetV.of (by decide) (Nat.le_of_ble_eq_true rfl) ?_
  intro p e s m below meth c A ls S0 hr hlk hK hP hD hA hl hnm
  have hx := S0.1
  have hb := S0.2.1
  have hS : va_S A s.heap s.heap [] := va_S.rf
  have hP : va_P D classes [(mk, .inr (1, [.null, .null, .int (nI 0), .null]))] s.heap := hP
  have hD : va_D A [(mk, .inr (1, [.null, .null, .int (nI 0), .null]))] := hD
  have hl : lv_has ls 2 [(0, .ref mk), (1, .int (nI L))] := hl
  refine lv_aload_n hx hb d_Mk_init_0 rfl (lv_at hl 0 rfl) ?_
  refine W.objInit hx hb S0.2.2.2.1 (S0.2.2.2.2 _ q_19) (S0.2.2.2.2 _ q_12) (S0.2.2.2.2 _ q_13) rfl (by rw [S0.2.2.1]; exact hl.1) rfl d_Mk_init_1 (Nat.le_of_ble_eq_true rfl) (Nat.le_of_ble_eq_true rfl) ?_
  refine W.eq (g2 := F0 m 4 ls []) rfl ?_
  refine lv_aload_n hx hb d_Mk_init_4 rfl (lv_at hl 0 rfl) ?_
  refine lv_iconst (v := nI 2) hx hb d_Mk_init_5 (by decide) ?_
  refine lz_newq hx hb hA S0.2.2.2.1 (S0.2.2.2.2 _ q_20) hK.2.2.2.2.2.2.2.2 hK.1 hP hD hS 2 rfl (by decide) (Nat.le_of_ble_eq_true rfl) (Nat.le_of_ble_eq_true rfl) d_Mk_init_6 (fun ch H hP hD hS => ?_)
  refine W.cs (cells' := 1) (slots' := 2) rfl rfl ?_
  have hP : va_P D classes [(mk, .inr (1, [.null, .null, .int (nI 0), .null])), (ch, .inl (ca 2, 2, .inr (.inr (.inr (.inr (fun _ => none))))))] H := hP
  have hD : va_D A [(mk, .inr (1, [.null, .null, .int (nI 0), .null])), (ch, .inl (ca 2, 2, .inr (.inr (.inr (.inr (fun _ => none))))))] := hD
  refine lv_dup hx hb d_Mk_init_9 rfl ?_
  refine lv_iconst (v := nI 0) hx hb d_Mk_init_10 (by decide) ?_
  refine va_new (ci := 0) (fs := [.null, .int (nI 0), .int (nI 0), .int (nI 0)]) (C := R_Ch) (T := F_Ch) (N := 4) hx hb S0.2.2.2.2 i_Ch t_Ch t_Ch_ok S0.2.2.2.1 (S0.2.2.2.2 _ q_20) (S0.2.2.2.2 _ q_22) (S0.2.2.2.2 _ q_3) hK.1 hP hD hS hA rfl (fun j hj => by rcases (show j = 0 ∨ j = 1 ∨ j = 2 ∨ j = 3 by omega) with rfl | rfl | rfl | rfl <;> rfl) (Nat.le_of_ble_eq_true rfl) (Nat.le_of_ble_eq_true rfl) d_Mk_init_11 (fun c0 H hP hD hS => ?_)
  refine W.cs (cells' := 2) (slots' := 6) rfl rfl ?_
  have hP : va_P D classes [(mk, .inr (1, [.null, .null, .int (nI 0), .null])), (ch, .inl (ca 2, 2, .inr (.inr (.inr (.inr (fun _ => none)))))), (c0, .inr (0, [.null, .int (nI 0), .int (nI 0), .int (nI 0)]))] H := hP
  have hD : va_D A [(mk, .inr (1, [.null, .null, .int (nI 0), .null])), (ch, .inl (ca 2, 2, .inr (.inr (.inr (.inr (fun _ => none)))))), (c0, .inr (0, [.null, .int (nI 0), .int (nI 0), .int (nI 0)]))] := hD
  refine lv_dup hx hb d_Mk_init_14 rfl ?_
  refine k_INv (n := 0) (As := []) (rest := [.ref c0, .int (nI 0), .ref ch, .ref ch, .ref mk]) (wc := [(c0, .inr (0, [.null, .int (nI 0), .int (nI 0), .int (nI 0)]))]) (wr := [(mk, .inr (1, [.null, .null, .int (nI 0), .null])), (ch, .inl (ca 2, 2, .inr (.inr (.inr (.inr (fun _ => none))))))]) S0 rfl hK.2.1 q_24 q_3 q_25 (by decide +kernel) hK hP hD hS hA (c_Ch_init l D ca H.size c0) [2] [0, 1] rfl rfl (by decide) (by decide) (by decide) ⟨Nat.le_of_ble_eq_true rfl, Nat.le_of_ble_eq_true rfl⟩ rfl hl.1 rfl (Nat.le_of_ble_eq_true rfl) ⟨Nat.le_of_ble_eq_true rfl, Nat.le_of_ble_eq_true rfl⟩ d_Mk_init_15 (fun r0 H locs hw hP hD hS => ?_)
  refine W.cs (cells' := 3) (slots' := 4102) rfl rfl ?_
  have hP : va_P D classes [(mk, .inr (1, [.null, .null, .int (nI 0), .null])), (ch, .inl (ca 2, 2, .inr (.inr (.inr (.inr (fun _ => none)))))), (c0, .inr (0, [.ref r0, .int (nI 0), .int (nI 0), .int (nI 0)])), (r0, .inl (ca 0, 4096, .inl (fun _ => nI 0)))] H := hP
  have hD : va_D A [(mk, .inr (1, [.null, .null, .int (nI 0), .null])), (ch, .inl (ca 2, 2, .inr (.inr (.inr (.inr (fun _ => none)))))), (c0, .inr (0, [.ref r0, .int (nI 0), .int (nI 0), .int (nI 0)])), (r0, .inl (ca 0, 4096, .inl (fun _ => nI 0)))] := hD
  refine lz_aast (i := 0) hx hb hK.1 hP hD hS 1 2 2 0 rfl rfl rfl rfl (by decide) (by decide) d_Mk_init_18 (fun H locs hP hD hS => ?_)
  have hP : va_P D classes [(mk, .inr (1, [.null, .null, .int (nI 0), .null])), (ch, .inl (ca 2, 2, .inr (.inr (.inr (.inr (va_up (fun _ => none) 0 (some c0))))))), (c0, .inr (0, [.ref r0, .int (nI 0), .int (nI 0), .int (nI 0)])), (r0, .inl (ca 0, 4096, .inl (fun _ => nI 0)))] H := hP
  have hD : va_D A [(mk, .inr (1, [.null, .null, .int (nI 0), .null])), (ch, .inl (ca 2, 2, .inr (.inr (.inr (.inr (va_up (fun _ => none) 0 (some c0))))))), (c0, .inr (0, [.ref r0, .int (nI 0), .int (nI 0), .int (nI 0)])), (r0, .inl (ca 0, 4096, .inl (fun _ => nI 0)))] := hD
  refine lv_dup hx hb d_Mk_init_19 rfl ?_
  refine lv_iconst (v := nI 1) hx hb d_Mk_init_20 (by decide) ?_
  refine va_new (ci := 0) (fs := [.null, .int (nI 0), .int (nI 0), .int (nI 0)]) (C := R_Ch) (T := F_Ch) (N := 4) hx hb S0.2.2.2.2 i_Ch t_Ch t_Ch_ok S0.2.2.2.1 (S0.2.2.2.2 _ q_20) (S0.2.2.2.2 _ q_22) (S0.2.2.2.2 _ q_3) hK.1 hP hD hS hA rfl (fun j hj => by rcases (show j = 0 ∨ j = 1 ∨ j = 2 ∨ j = 3 by omega) with rfl | rfl | rfl | rfl <;> rfl) (Nat.le_of_ble_eq_true rfl) (Nat.le_of_ble_eq_true rfl) d_Mk_init_21 (fun c1 H hP hD hS => ?_)
  refine W.cs (cells' := 4) (slots' := 4106) rfl rfl ?_
  have hP : va_P D classes [(mk, .inr (1, [.null, .null, .int (nI 0), .null])), (ch, .inl (ca 2, 2, .inr (.inr (.inr (.inr (va_up (fun _ => none) 0 (some c0))))))), (c0, .inr (0, [.ref r0, .int (nI 0), .int (nI 0), .int (nI 0)])), (r0, .inl (ca 0, 4096, .inl (fun _ => nI 0))), (c1, .inr (0, [.null, .int (nI 0), .int (nI 0), .int (nI 0)]))] H := hP
  have hD : va_D A [(mk, .inr (1, [.null, .null, .int (nI 0), .null])), (ch, .inl (ca 2, 2, .inr (.inr (.inr (.inr (va_up (fun _ => none) 0 (some c0))))))), (c0, .inr (0, [.ref r0, .int (nI 0), .int (nI 0), .int (nI 0)])), (r0, .inl (ca 0, 4096, .inl (fun _ => nI 0))), (c1, .inr (0, [.null, .int (nI 0), .int (nI 0), .int (nI 0)]))] := hD
  refine lv_dup hx hb d_Mk_init_24 rfl ?_
  refine k_INv (n := 0) (As := []) (rest := [.ref c1, .int (nI 1), .ref ch, .ref ch, .ref mk]) (wc := [(c1, .inr (0, [.null, .int (nI 0), .int (nI 0), .int (nI 0)]))]) (wr := [(mk, .inr (1, [.null, .null, .int (nI 0), .null])), (ch, .inl (ca 2, 2, .inr (.inr (.inr (.inr (va_up (fun _ => none) 0 (some c0))))))), (c0, .inr (0, [.ref r0, .int (nI 0), .int (nI 0), .int (nI 0)])), (r0, .inl (ca 0, 4096, .inl (fun _ => nI 0)))]) S0 rfl hK.2.1 q_24 q_3 q_25 (by decide +kernel) hK hP hD hS hA (c_Ch_init l D ca H.size c1) [4] [0, 1, 2, 3] rfl rfl (by decide) (by decide) (by decide) ⟨Nat.le_of_ble_eq_true rfl, Nat.le_of_ble_eq_true rfl⟩ rfl hl.1 rfl (Nat.le_of_ble_eq_true rfl) ⟨Nat.le_of_ble_eq_true rfl, Nat.le_of_ble_eq_true rfl⟩ d_Mk_init_25 (fun r1 H locs hw hP hD hS => ?_)
  refine W.cs (cells' := 5) (slots' := 8202) rfl rfl ?_
  have hP : va_P D classes [(mk, .inr (1, [.null, .null, .int (nI 0), .null])), (ch, .inl (ca 2, 2, .inr (.inr (.inr (.inr (va_up (fun _ => none) 0 (some c0))))))), (c0, .inr (0, [.ref r0, .int (nI 0), .int (nI 0), .int (nI 0)])), (r0, .inl (ca 0, 4096, .inl (fun _ => nI 0))), (c1, .inr (0, [.ref r1, .int (nI 0), .int (nI 0), .int (nI 0)])), (r1, .inl (ca 0, 4096, .inl (fun _ => nI 0)))] H := hP
  have hD : va_D A [(mk, .inr (1, [.null, .null, .int (nI 0), .null])), (ch, .inl (ca 2, 2, .inr (.inr (.inr (.inr (va_up (fun _ => none) 0 (some c0))))))), (c0, .inr (0, [.ref r0, .int (nI 0), .int (nI 0), .int (nI 0)])), (r0, .inl (ca 0, 4096, .inl (fun _ => nI 0))), (c1, .inr (0, [.ref r1, .int (nI 0), .int (nI 0), .int (nI 0)])), (r1, .inl (ca 0, 4096, .inl (fun _ => nI 0)))] := hD
  refine lz_aast (i := 1) hx hb hK.1 hP hD hS 1 2 4 0 rfl rfl rfl rfl (by decide) (by decide) d_Mk_init_28 (fun H locs hP hD hS => ?_)
  have hP : va_P D classes [(mk, .inr (1, [.null, .null, .int (nI 0), .null])), (ch, .inl (ca 2, 2, .inr (.inr (.inr (.inr (va_up (va_up (fun _ => none) 0 (some c0)) 1 (some c1))))))), (c0, .inr (0, [.ref r0, .int (nI 0), .int (nI 0), .int (nI 0)])), (r0, .inl (ca 0, 4096, .inl (fun _ => nI 0))), (c1, .inr (0, [.ref r1, .int (nI 0), .int (nI 0), .int (nI 0)])), (r1, .inl (ca 0, 4096, .inl (fun _ => nI 0)))] H := hP
  have hD : va_D A [(mk, .inr (1, [.null, .null, .int (nI 0), .null])), (ch, .inl (ca 2, 2, .inr (.inr (.inr (.inr (va_up (va_up (fun _ => none) 0 (some c0)) 1 (some c1))))))), (c0, .inr (0, [.ref r0, .int (nI 0), .int (nI 0), .int (nI 0)])), (r0, .inl (ca 0, 4096, .inl (fun _ => nI 0))), (c1, .inr (0, [.ref r1, .int (nI 0), .int (nI 0), .int (nI 0)])), (r1, .inl (ca 0, 4096, .inl (fun _ => nI 0)))] := hD
  refine pf_Mk_12 (q0 := 0) S0 hnm hK hP hD hS rfl rfl rfl (Nat.le_of_ble_eq_true rfl) d_Mk_init_29 (fun H locs hP hD hS => ?_)
  have hP : va_P D classes [(mk, .inr (1, [.null, .ref ch, .int (nI 0), .null])), (ch, .inl (ca 2, 2, .inr (.inr (.inr (.inr (va_up (va_up (fun _ => none) 0 (some c0)) 1 (some c1))))))), (c0, .inr (0, [.ref r0, .int (nI 0), .int (nI 0), .int (nI 0)])), (r0, .inl (ca 0, 4096, .inl (fun _ => nI 0))), (c1, .inr (0, [.ref r1, .int (nI 0), .int (nI 0), .int (nI 0)])), (r1, .inl (ca 0, 4096, .inl (fun _ => nI 0)))] H := hP
  have hD : va_D A [(mk, .inr (1, [.null, .ref ch, .int (nI 0), .null])), (ch, .inl (ca 2, 2, .inr (.inr (.inr (.inr (va_up (va_up (fun _ => none) 0 (some c0)) 1 (some c1))))))), (c0, .inr (0, [.ref r0, .int (nI 0), .int (nI 0), .int (nI 0)])), (r0, .inl (ca 0, 4096, .inl (fun _ => nI 0))), (c1, .inr (0, [.ref r1, .int (nI 0), .int (nI 0), .int (nI 0)])), (r1, .inl (ca 0, 4096, .inl (fun _ => nI 0)))] := hD
  refine lv_aload_n hx hb d_Mk_init_32 rfl (lv_at hl 0 rfl) ?_
  refine lv_iconst (v := nI 3) hx hb d_Mk_init_33 (by decide) ?_
  refine lz_newa (atype := .int) hx hb hA (S0.2.2.2.2 _ q_60) rfl rfl (by decide) hK.1 hP hD hS 1 rfl (by decide) (Nat.le_of_ble_eq_true rfl) ((Nat.le_of_ble_eq_true rfl)) d_Mk_init_34 (fun cn H hP hD hS => ?_)
  refine W.cs (cells' := 6) (slots' := 8205) rfl rfl ?_
  have hP : va_P D classes [(mk, .inr (1, [.null, .ref ch, .int (nI 0), .null])), (ch, .inl (ca 2, 2, .inr (.inr (.inr (.inr (va_up (va_up (fun _ => none) 0 (some c0)) 1 (some c1))))))), (c0, .inr (0, [.ref r0, .int (nI 0), .int (nI 0), .int (nI 0)])), (r0, .inl (ca 0, 4096, .inl (fun _ => nI 0))), (c1, .inr (0, [.ref r1, .int (nI 0), .int (nI 0), .int (nI 0)])), (r1, .inl (ca 0, 4096, .inl (fun _ => nI 0))), (cn, .inl (ca 1, 3, .inl (fun _ => nI 0)))] H := hP
  have hD : va_D A [(mk, .inr (1, [.null, .ref ch, .int (nI 0), .null])), (ch, .inl (ca 2, 2, .inr (.inr (.inr (.inr (va_up (va_up (fun _ => none) 0 (some c0)) 1 (some c1))))))), (c0, .inr (0, [.ref r0, .int (nI 0), .int (nI 0), .int (nI 0)])), (r0, .inl (ca 0, 4096, .inl (fun _ => nI 0))), (c1, .inr (0, [.ref r1, .int (nI 0), .int (nI 0), .int (nI 0)])), (r1, .inl (ca 0, 4096, .inl (fun _ => nI 0))), (cn, .inl (ca 1, 3, .inl (fun _ => nI 0)))] := hD
  refine pf_Mk_18 (q0 := 0) S0 hnm hK hP hD hS rfl rfl rfl (Nat.le_of_ble_eq_true rfl) d_Mk_init_36 (fun H locs hP hD hS => ?_)
  have hP : va_P D classes [(mk, .inr (1, [.null, .ref ch, .int (nI 0), .ref cn])), (ch, .inl (ca 2, 2, .inr (.inr (.inr (.inr (va_up (va_up (fun _ => none) 0 (some c0)) 1 (some c1))))))), (c0, .inr (0, [.ref r0, .int (nI 0), .int (nI 0), .int (nI 0)])), (r0, .inl (ca 0, 4096, .inl (fun _ => nI 0))), (c1, .inr (0, [.ref r1, .int (nI 0), .int (nI 0), .int (nI 0)])), (r1, .inl (ca 0, 4096, .inl (fun _ => nI 0))), (cn, .inl (ca 1, 3, .inl (fun _ => nI 0)))] H := hP
  have hD : va_D A [(mk, .inr (1, [.null, .ref ch, .int (nI 0), .ref cn])), (ch, .inl (ca 2, 2, .inr (.inr (.inr (.inr (va_up (va_up (fun _ => none) 0 (some c0)) 1 (some c1))))))), (c0, .inr (0, [.ref r0, .int (nI 0), .int (nI 0), .int (nI 0)])), (r0, .inl (ca 0, 4096, .inl (fun _ => nI 0))), (c1, .inr (0, [.ref r1, .int (nI 0), .int (nI 0), .int (nI 0)])), (r1, .inl (ca 0, 4096, .inl (fun _ => nI 0))), (cn, .inl (ca 1, 3, .inl (fun _ => nI 0)))] := hD
  refine lv_aload_n hx hb d_Mk_init_39 rfl (lv_at hl 0 rfl) ?_
  refine lv_iload_n hx hb d_Mk_init_40 rfl (lv_at hl 1 rfl) ?_
  refine lz_newa (atype := .byte) hx hb hA (S0.2.2.2.2 _ q_42) rfl rfl (by decide) hK.1 hP hD hS 0 rfl (by omega) (Nat.le_of_ble_eq_true rfl) (by show 8205 + L ≤ 8461; omega) d_Mk_init_41 (fun fr H hP hD hS => ?_)
  refine W.widen (k := 7) (n := 8461) (Nat.le_refl _) (by omega) ?_
  have hP : va_P D classes [(mk, .inr (1, [.null, .ref ch, .int (nI 0), .ref cn])), (ch, .inl (ca 2, 2, .inr (.inr (.inr (.inr (va_up (va_up (fun _ => none) 0 (some c0)) 1 (some c1))))))), (c0, .inr (0, [.ref r0, .int (nI 0), .int (nI 0), .int (nI 0)])), (r0, .inl (ca 0, 4096, .inl (fun _ => nI 0))), (c1, .inr (0, [.ref r1, .int (nI 0), .int (nI 0), .int (nI 0)])), (r1, .inl (ca 0, 4096, .inl (fun _ => nI 0))), (cn, .inl (ca 1, 3, .inl (fun _ => nI 0))), (fr, .inl (ca 0, L, .inl (fun _ => nI 0)))] H := hP
  have hD : va_D A [(mk, .inr (1, [.null, .ref ch, .int (nI 0), .ref cn])), (ch, .inl (ca 2, 2, .inr (.inr (.inr (.inr (va_up (va_up (fun _ => none) 0 (some c0)) 1 (some c1))))))), (c0, .inr (0, [.ref r0, .int (nI 0), .int (nI 0), .int (nI 0)])), (r0, .inl (ca 0, 4096, .inl (fun _ => nI 0))), (c1, .inr (0, [.ref r1, .int (nI 0), .int (nI 0), .int (nI 0)])), (r1, .inl (ca 0, 4096, .inl (fun _ => nI 0))), (cn, .inl (ca 1, 3, .inl (fun _ => nI 0))), (fr, .inl (ca 0, L, .inl (fun _ => nI 0)))] := hD
  refine pf_Mk_22 (q0 := 0) S0 hnm hK hP hD hS rfl rfl rfl (Nat.le_of_ble_eq_true rfl) d_Mk_init_43 (fun H locs hP hD hS => ?_)
  have hP : va_P D classes [(mk, .inr (1, [.ref fr, .ref ch, .int (nI 0), .ref cn])), (ch, .inl (ca 2, 2, .inr (.inr (.inr (.inr (va_up (va_up (fun _ => none) 0 (some c0)) 1 (some c1))))))), (c0, .inr (0, [.ref r0, .int (nI 0), .int (nI 0), .int (nI 0)])), (r0, .inl (ca 0, 4096, .inl (fun _ => nI 0))), (c1, .inr (0, [.ref r1, .int (nI 0), .int (nI 0), .int (nI 0)])), (r1, .inl (ca 0, 4096, .inl (fun _ => nI 0))), (cn, .inl (ca 1, 3, .inl (fun _ => nI 0))), (fr, .inl (ca 0, L, .inl (fun _ => nI 0)))] H := hP
  have hD : va_D A [(mk, .inr (1, [.ref fr, .ref ch, .int (nI 0), .ref cn])), (ch, .inl (ca 2, 2, .inr (.inr (.inr (.inr (va_up (va_up (fun _ => none) 0 (some c0)) 1 (some c1))))))), (c0, .inr (0, [.ref r0, .int (nI 0), .int (nI 0), .int (nI 0)])), (r0, .inl (ca 0, 4096, .inl (fun _ => nI 0))), (c1, .inr (0, [.ref r1, .int (nI 0), .int (nI 0), .int (nI 0)])), (r1, .inl (ca 0, 4096, .inl (fun _ => nI 0))), (cn, .inl (ca 1, 3, .inl (fun _ => nI 0))), (fr, .inl (ca 0, L, .inl (fun _ => nI 0)))] := hD
  have hP : va_P D classes [(mk, .inr (1, [.ref fr, .ref ch, .int (nI 0), .ref cn])), (fr, .inl (ca 0, L, .inl (fun _ => nI 0))), (ch, .inl (ca 2, 2, .inr (.inr (.inr (.inr (va_up (va_up (fun _ => none) 0 (some c0)) 1 (some c1))))))), (cn, .inl (ca 1, 3, .inl (fun _ => nI 0))), (c0, .inr (0, [.ref r0, .int (nI 0), .int (nI 0), .int (nI 0)])), (r0, .inl (ca 0, 4096, .inl (fun _ => nI 0))), (c1, .inr (0, [.ref r1, .int (nI 0), .int (nI 0), .int (nI 0)])), (r1, .inl (ca 0, 4096, .inl (fun _ => nI 0)))] H := hP.sub [0, 7, 1, 6, 2, 3, 4, 5] rfl
  have hD : va_D A [(mk, .inr (1, [.ref fr, .ref ch, .int (nI 0), .ref cn])), (fr, .inl (ca 0, L, .inl (fun _ => nI 0))), (ch, .inl (ca 2, 2, .inr (.inr (.inr (.inr (va_up (va_up (fun _ => none) 0 (some c0)) 1 (some c1))))))), (cn, .inl (ca 1, 3, .inl (fun _ => nI 0))), (c0, .inr (0, [.ref r0, .int (nI 0), .int (nI 0), .int (nI 0)])), (r0, .inl (ca 0, 4096, .inl (fun _ => nI 0))), (c1, .inr (0, [.ref r1, .int (nI 0), .int (nI 0), .int (nI 0)])), (r1, .inl (ca 0, 4096, .inl (fun _ => nI 0)))] := hD.sub [0, 7, 1, 6, 2, 3, 4, 5] (by decide) rfl
  exact k_vret hx hb hr hlk ((fr, ch, cn, c0, r0, c1, r1)) (trivial) hP hD hS d_Mk_init_46
def clL (x : Int32) : Nat := if nI 64 ≤ x then (if x ≤ nI 256 then x.toNatClampNeg else 256) else 64
theorem clL_mid {x : Int32} (h1 : nI 64 ≤ x) (h2 : x ≤ nI 256) : x = nI (clL x) ∧ 64 ≤ clL x ∧ clL x ≤ 256 := by
  have a := Int32.le_iff_toInt_le.mp h1
  have b := Int32.le_iff_toInt_le.mp h2
  have c1 : (nI 64).toInt = 64 := by decide +kernel
  have c2 : (nI 256).toInt = 256 := by decide +kernel
  have e : x = nI x.toInt.toNat := by
    apply Int32.toInt_inj.mp
    rw [nI_toInt (by omega)]
    omega
  have e2 : clL x = x.toInt.toNat := by
    unfold clL
    rw [if_pos h1, if_pos h2]
    rfl
  rw [e2]
  exact ⟨e, by omega, by omega⟩
theorem clL_in (x : Int32) : 64 ≤ clL x ∧ clL x ≤ 256 := by
  by_cases h1 : nI 64 ≤ x
  · by_cases h2 : x ≤ nI 256
    · exact (clL_mid h1 h2).2
    · unfold clL; rw [if_pos h1, if_neg h2]; decide
  · unfold clL; rw [if_neg h1]; decide
set_option maxHeartbeats 1000000 in
set_option maxRecDepth 100000 in
/-- DownFrames(y) -/
theorem c_Fr_init (l : Launch) (D : va_G) (ca : Nat → ClassId) (sz : Nat) (x : Nat) (y : Int32) : MetV l y_Fr_init b_Fr_init 2 ({ frames := 3, cells := 9, slots := 9489, locals := 53 } : Room) D ca [.ref x, .int y] [(x, .inr (2, [.null, .int (nI 0), .null]))] sz (fun _ : Nat × Nat × Nat × Nat × Nat × Nat × Nat × Nat × Nat => True) (fun u => [(x, .inr (2, [.ref u.1, .int (nI 0), .ref u.2.1])), (u.1, .inl (ca 0, 1024, .inl (fun _ => nI 0))), (u.2.1, .inr (1, [.ref u.2.2.1, .ref u.2.2.2.1, .int (nI 0), .ref u.2.2.2.2.1])), (u.2.2.1, .inl (ca 0, (clL y), .inl (fun _ => nI 0))), (u.2.2.2.1, .inl (ca 2, 2, .inr (.inr (.inr (.inr (chf u.2.2.2.2.2.1 u.2.2.2.2.2.2.2.1)))))), (u.2.2.2.2.1, .inl (ca 1, 3, .inl (fun _ => nI 0))), (u.2.2.2.2.2.1, .inr (0, [.ref u.2.2.2.2.2.2.1, .int (nI 0), .int (nI 0), .int (nI 0)])), (u.2.2.2.2.2.2.1, .inl (ca 0, 4096, .inl (fun _ => nI 0))), (u.2.2.2.2.2.2.2.1, .inr (0, [.ref u.2.2.2.2.2.2.2.2, .int (nI 0), .int (nI 0), .int (nI 0)])), (u.2.2.2.2.2.2.2.2, .inl (ca 0, 4096, .inl (fun _ => nI 0)))]) := by
  refine MetV.of (by decide) (Nat.le_of_ble_eq_true rfl) ?_
  intro p e s m below meth c A ls S0 hr hlk hK hP hD hA hl hnm
  have hx := S0.1
  have hb := S0.2.1
  have hS : va_S A s.heap s.heap [] := va_S.rf
  have hP : va_P D classes [(x, .inr (2, [.null, .int (nI 0), .null]))] s.heap := hP
  have hD : va_D A [(x, .inr (2, [.null, .int (nI 0), .null]))] := hD
  have hl : lv_has ls 2 [(0, .ref x), (1, .int y)] := hl
  refine lv_aload_n hx hb d_Fr_init_0 rfl (lv_at hl 0 rfl) ?_
  refine W.objInit hx hb S0.2.2.2.1 (S0.2.2.2.2 _ q_11) (S0.2.2.2.2 _ q_12) (S0.2.2.2.2 _ q_13) rfl (by rw [S0.2.2.1]; exact hl.1) rfl d_Fr_init_1 (Nat.le_of_ble_eq_true rfl) (Nat.le_of_ble_eq_true rfl) ?_
  refine W.eq (g2 := F0 m 4 ls []) rfl ?_
  refine lv_aload_n hx hb d_Fr_init_4 rfl (lv_at hl 0 rfl) ?_
  refine lv_sipush (v := nI 1024) hx hb d_Fr_init_5 (by decide) ?_
  refine lz_newa (atype := .byte) hx hb hA (S0.2.2.2.2 _ q_42) rfl rfl (by decide) hK.1 hP hD hS 0 rfl (by decide) (Nat.le_of_ble_eq_true rfl) ((Nat.le_of_ble_eq_true rfl)) d_Fr_init_8 (fun tp H hP hD hS => ?_)
  refine W.cs (cells' := 1) (slots' := 1024) rfl rfl ?_
  have hP : va_P D classes [(x, .inr (2, [.null, .int (nI 0), .null])), (tp, .inl (ca 0, 1024, .inl (fun _ => nI 0)))] H := hP
  have hD : va_D A [(x, .inr (2, [.null, .int (nI 0), .null])), (tp, .inl (ca 0, 1024, .inl (fun _ => nI 0)))] := hD
  refine pf_Fr_9 (q0 := 0) S0 hnm hK hP hD hS rfl rfl rfl (Nat.le_of_ble_eq_true rfl) d_Fr_init_10 (fun H locs hP hD hS => ?_)
  have hP : va_P D classes [(x, .inr (2, [.ref tp, .int (nI 0), .null])), (tp, .inl (ca 0, 1024, .inl (fun _ => nI 0)))] H := hP
  have hD : va_D A [(x, .inr (2, [.ref tp, .int (nI 0), .null])), (tp, .inl (ca 0, 1024, .inl (fun _ => nI 0)))] := hD
  refine lv_aload_n hx hb d_Fr_init_13 rfl (lv_at hl 0 rfl) ?_
  refine va_new (ci := 1) (fs := [.null, .null, .int (nI 0), .null]) (C := R_Mk) (T := F_Mk) (N := 4) hx hb S0.2.2.2.2 i_Mk t_Mk t_Mk_ok S0.2.2.2.1 (S0.2.2.2.2 _ q_14) (S0.2.2.2.2 _ q_15) (S0.2.2.2.2 _ q_2) hK.1 hP hD hS hA rfl (fun j hj => by rcases (show j = 0 ∨ j = 1 ∨ j = 2 ∨ j = 3 by omega) with rfl | rfl | rfl | rfl <;> rfl) (Nat.le_of_ble_eq_true rfl) (Nat.le_of_ble_eq_true rfl) d_Fr_init_14 (fun mk H hP hD hS => ?_)
  refine W.cs (cells' := 2) (slots' := 1028) rfl rfl ?_
  have hP : va_P D classes [(x, .inr (2, [.ref tp, .int (nI 0), .null])), (tp, .inl (ca 0, 1024, .inl (fun _ => nI 0))), (mk, .inr (1, [.null, .null, .int (nI 0), .null]))] H := hP
  have hD : va_D A [(x, .inr (2, [.ref tp, .int (nI 0), .null])), (tp, .inl (ca 0, 1024, .inl (fun _ => nI 0))), (mk, .inr (1, [.null, .null, .int (nI 0), .null]))] := hD
  refine lv_dup hx hb d_Fr_init_17 rfl ?_
  refine lv_iload_n hx hb d_Fr_init_18 rfl (lv_at hl 1 rfl) ?_
  refine lv_bipush (v := nI 64) hx hb d_Fr_init_19 (by decide) ?_
  refine lz_cut (g := F0 m 43 ls [.int (nI (clL y)), .ref mk, .ref mk, .ref x]) ?_ (fun tail => ?_)
  · refine k_Iv (n := 1) (As := [.int (nI (clL y))]) (rest := [.ref mk, .ref x]) (wc := [(mk, .inr (1, [.null, .null, .int (nI 0), .null]))]) (wr := [(x, .inr (2, [.ref tp, .int (nI 0), .null])), (tp, .inl (ca 0, 1024, .inl (fun _ => nI 0)))]) S0 rfl q_16 q_17 q_2 q_18 (by decide +kernel) hK hP hD hS hA (c_Mk_init l D ca H.size mk (clL y) (clL_in y).1 (clL_in y).2) [2] [0, 1] rfl rfl (by decide) (by decide) (by decide) ⟨Nat.le_of_ble_eq_true rfl, Nat.le_of_ble_eq_true rfl⟩ rfl hl.1 rfl (Nat.le_of_ble_eq_true rfl) ⟨Nat.le_of_ble_eq_true rfl, Nat.le_of_ble_eq_true rfl⟩ d_Fr_init_43 (fun u H locs hw hP hD hS => ?_)
    refine W.cs (cells' := 9) (slots' := 9489) rfl rfl ?_
    obtain ⟨fr, ch, cn, c0, r0, c1, r1⟩ := u
    have hP : va_P D classes [(x, .inr (2, [.ref tp, .int (nI 0), .null])), (tp, .inl (ca 0, 1024, .inl (fun _ => nI 0))), (mk, .inr (1, [.ref fr, .ref ch, .int (nI 0), .ref cn])), (fr, .inl (ca 0, (clL y), .inl (fun _ => nI 0))), (ch, .inl (ca 2, 2, .inr (.inr (.inr (.inr (chf c0 c1)))))), (cn, .inl (ca 1, 3, .inl (fun _ => nI 0))), (c0, .inr (0, [.ref r0, .int (nI 0), .int (nI 0), .int (nI 0)])), (r0, .inl (ca 0, 4096, .inl (fun _ => nI 0))), (c1, .inr (0, [.ref r1, .int (nI 0), .int (nI 0), .int (nI 0)])), (r1, .inl (ca 0, 4096, .inl (fun _ => nI 0)))] H := hP
    have hD : va_D A [(x, .inr (2, [.ref tp, .int (nI 0), .null])), (tp, .inl (ca 0, 1024, .inl (fun _ => nI 0))), (mk, .inr (1, [.ref fr, .ref ch, .int (nI 0), .ref cn])), (fr, .inl (ca 0, (clL y), .inl (fun _ => nI 0))), (ch, .inl (ca 2, 2, .inr (.inr (.inr (.inr (chf c0 c1)))))), (cn, .inl (ca 1, 3, .inl (fun _ => nI 0))), (c0, .inr (0, [.ref r0, .int (nI 0), .int (nI 0), .int (nI 0)])), (r0, .inl (ca 0, 4096, .inl (fun _ => nI 0))), (c1, .inr (0, [.ref r1, .int (nI 0), .int (nI 0), .int (nI 0)])), (r1, .inl (ca 0, 4096, .inl (fun _ => nI 0)))] := hD
    refine pf_Fr_18 (q0 := 0) S0 hnm hK hP hD hS rfl rfl rfl (Nat.le_of_ble_eq_true rfl) d_Fr_init_46 (fun H locs hP hD hS => ?_)
    have hP : va_P D classes [(x, .inr (2, [.ref tp, .int (nI 0), .ref mk])), (tp, .inl (ca 0, 1024, .inl (fun _ => nI 0))), (mk, .inr (1, [.ref fr, .ref ch, .int (nI 0), .ref cn])), (fr, .inl (ca 0, (clL y), .inl (fun _ => nI 0))), (ch, .inl (ca 2, 2, .inr (.inr (.inr (.inr (chf c0 c1)))))), (cn, .inl (ca 1, 3, .inl (fun _ => nI 0))), (c0, .inr (0, [.ref r0, .int (nI 0), .int (nI 0), .int (nI 0)])), (r0, .inl (ca 0, 4096, .inl (fun _ => nI 0))), (c1, .inr (0, [.ref r1, .int (nI 0), .int (nI 0), .int (nI 0)])), (r1, .inl (ca 0, 4096, .inl (fun _ => nI 0)))] H := hP
    have hD : va_D A [(x, .inr (2, [.ref tp, .int (nI 0), .ref mk])), (tp, .inl (ca 0, 1024, .inl (fun _ => nI 0))), (mk, .inr (1, [.ref fr, .ref ch, .int (nI 0), .ref cn])), (fr, .inl (ca 0, (clL y), .inl (fun _ => nI 0))), (ch, .inl (ca 2, 2, .inr (.inr (.inr (.inr (chf c0 c1)))))), (cn, .inl (ca 1, 3, .inl (fun _ => nI 0))), (c0, .inr (0, [.ref r0, .int (nI 0), .int (nI 0), .int (nI 0)])), (r0, .inl (ca 0, 4096, .inl (fun _ => nI 0))), (c1, .inr (0, [.ref r1, .int (nI 0), .int (nI 0), .int (nI 0)])), (r1, .inl (ca 0, 4096, .inl (fun _ => nI 0)))] := hD
    exact k_vret hx hb hr hlk ((tp, mk, fr, ch, cn, c0, r0, c1, r1)) (trivial) hP hD hS d_Fr_init_49
  · refine lv_icmp_ge (tgt := 29) hx hb d_Fr_init_21 (by decide) (fun h9 => ?_) (fun h9 => ?_)
    · refine lv_iload_n hx hb d_Fr_init_29 rfl (lv_at hl 1 rfl) ?_
      refine lv_sipush (v := nI 256) hx hb d_Fr_init_30 (by decide) ?_
      refine lv_icmp_le (tgt := 42) hx hb d_Fr_init_33 (by decide) (fun h8 => ?_) (fun h8 => ?_)
      · refine lv_iload_n hx hb d_Fr_init_42 rfl (lv_at hl 1 rfl) ?_
        refine lz_top (y := nI (clL y)) ((clL_mid h9 h8).1) ?_
        exact tail
      · refine lv_sipush (v := nI 256) hx hb d_Fr_init_36 (by decide) ?_
        refine lv_goto (tgt := 43) hx hb d_Fr_init_39 (by decide) ?_
        refine lz_top (y := nI (clL y)) (by rw [show clL y = 256 by unfold clL; rw [if_pos h9, if_neg h8]]) ?_
        exact tail
    · refine lv_bipush (v := nI 64) hx hb d_Fr_init_24 (by decide) ?_
      refine lv_goto (tgt := 43) hx hb d_Fr_init_26 (by decide) ?_
      refine lz_top (y := nI (clL y)) (by rw [show clL y = 64 from if_neg h9]) ?_
      exact tail
set_option maxHeartbeats 1000000 in
set_option maxRecDepth 100000 in
/-- the model: its making -/
theorem c_Mo_init (l : Launch) (D : va_G) (ca : Nat → ClassId) (sz : Nat) (mo : Nat) (y : Int32) : MetV l y_Mo_init b_Mo_init 2 ({ frames := 1, cells := 6, slots := 18086, locals := 12 } : Room) D ca [.ref mo, .int y] [(mo, .inr (3, [.int (nI 0), .int (nI 0), .null, .int (nI 0), .null, .null, .null, .null, .null, .int (nI 0)]))] sz (fun _ : Nat × Nat × Nat × Nat × Nat × Nat => True) (fun u => [(mo, .inr (3, [.int (nI 0), .int (nI (clL y)), .ref u.1, .int (nI 0), .ref u.2.1, .ref u.2.2.1, .ref u.2.2.2.1, .ref u.2.2.2.2.1, .ref u.2.2.2.2.2, .int (nI 0)])), (u.1, .inl (ca 0, 1024, .inl (fun _ => nI 0))), (u.2.1, .inl (ca 0, 8400, .inl (fun _ => nI 0))), (u.2.2.1, .inl (ca 3, 8400, .inl (fun _ => nI 0))), (u.2.2.2.1, .inl (ca 1, 2, .inl (fun k => nI ((fun _ => 0) k)))), (u.2.2.2.2.1, .inl (ca 1, 4, .inl (fun _ => nI 0))), (u.2.2.2.2.2, .inl (ca 0, 256, .inl (fun _ => nI 0)))]) := by
  refine MetV.of (by decide) (Nat.le_of_ble_eq_true rfl) ?_
  intro p e s m below meth c A ls S0 hr hlk hK hP hD hA hl hnm
  have hx := S0.1
  have hb := S0.2.1
  have hS : va_S A s.heap s.heap [] := va_S.rf
  have hP : va_P D classes [(mo, .inr (3, [.int (nI 0), .int (nI 0), .null, .int (nI 0), .null, .null, .null, .null, .null, .int (nI 0)]))] s.heap := hP
  have hD : va_D A [(mo, .inr (3, [.int (nI 0), .int (nI 0), .null, .int (nI 0), .null, .null, .null, .null, .null, .int (nI 0)]))] := hD
  have hl : lv_has ls 2 [(0, .ref mo), (1, .int y)] := hl
  refine lv_aload_n hx hb d_Mo_init_0 rfl (lv_at hl 0 rfl) ?_
  refine W.objInit hx hb S0.2.2.2.1 (S0.2.2.2.2 _ q_149) (S0.2.2.2.2 _ q_12) (S0.2.2.2.2 _ q_13) rfl (by rw [S0.2.2.1]; exact hl.1) rfl d_Mo_init_1 (Nat.le_of_ble_eq_true rfl) (Nat.le_of_ble_eq_true rfl) ?_
  refine W.eq (g2 := F0 m 4 ls []) rfl ?_
  refine lv_aload_n hx hb d_Mo_init_4 rfl (lv_at hl 0 rfl) ?_
  refine lv_sipush (v := nI 1024) hx hb d_Mo_init_5 (by decide) ?_
  refine lz_newa (atype := .byte) hx hb hA (S0.2.2.2.2 _ q_42) rfl rfl (by decide) hK.1 hP hD hS 0 rfl (by decide) (Nat.le_of_ble_eq_true rfl) ((Nat.le_of_ble_eq_true rfl)) d_Mo_init_8 (fun mt H hP hD hS => ?_)
  refine W.cs (cells' := 1) (slots' := 1024) rfl rfl ?_
  have hP : va_P D classes [(mo, .inr (3, [.int (nI 0), .int (nI 0), .null, .int (nI 0), .null, .null, .null, .null, .null, .int (nI 0)])), (mt, .inl (ca 0, 1024, .inl (fun _ => nI 0)))] H := hP
  have hD : va_D A [(mo, .inr (3, [.int (nI 0), .int (nI 0), .null, .int (nI 0), .null, .null, .null, .null, .null, .int (nI 0)])), (mt, .inl (ca 0, 1024, .inl (fun _ => nI 0)))] := hD
  refine pf_Mo_7 (q0 := 0) S0 hnm hK hP hD hS rfl rfl rfl (Nat.le_of_ble_eq_true rfl) d_Mo_init_10 (fun H locs hP hD hS => ?_)
  have hP : va_P D classes [(mo, .inr (3, [.int (nI 0), .int (nI 0), .ref mt, .int (nI 0), .null, .null, .null, .null, .null, .int (nI 0)])), (mt, .inl (ca 0, 1024, .inl (fun _ => nI 0)))] H := hP
  have hD : va_D A [(mo, .inr (3, [.int (nI 0), .int (nI 0), .ref mt, .int (nI 0), .null, .null, .null, .null, .null, .int (nI 0)])), (mt, .inl (ca 0, 1024, .inl (fun _ => nI 0)))] := hD
  refine lv_aload_n hx hb d_Mo_init_13 rfl (lv_at hl 0 rfl) ?_
  refine lv_sipush (v := nI 8400) hx hb d_Mo_init_14 (by decide) ?_
  refine lz_newa (atype := .byte) hx hb hA (S0.2.2.2.2 _ q_42) rfl rfl (by decide) hK.1 hP hD hS 0 rfl (by decide) (Nat.le_of_ble_eq_true rfl) ((Nat.le_of_ble_eq_true rfl)) d_Mo_init_17 (fun my H hP hD hS => ?_)
  refine W.cs (cells' := 2) (slots' := 9424) rfl rfl ?_
  have hP : va_P D classes [(mo, .inr (3, [.int (nI 0), .int (nI 0), .ref mt, .int (nI 0), .null, .null, .null, .null, .null, .int (nI 0)])), (mt, .inl (ca 0, 1024, .inl (fun _ => nI 0))), (my, .inl (ca 0, 8400, .inl (fun _ => nI 0)))] H := hP
  have hD : va_D A [(mo, .inr (3, [.int (nI 0), .int (nI 0), .ref mt, .int (nI 0), .null, .null, .null, .null, .null, .int (nI 0)])), (mt, .inl (ca 0, 1024, .inl (fun _ => nI 0))), (my, .inl (ca 0, 8400, .inl (fun _ => nI 0)))] := hD
  refine pf_Mo_13 (q0 := 0) S0 hnm hK hP hD hS rfl rfl rfl (Nat.le_of_ble_eq_true rfl) d_Mo_init_19 (fun H locs hP hD hS => ?_)
  have hP : va_P D classes [(mo, .inr (3, [.int (nI 0), .int (nI 0), .ref mt, .int (nI 0), .ref my, .null, .null, .null, .null, .int (nI 0)])), (mt, .inl (ca 0, 1024, .inl (fun _ => nI 0))), (my, .inl (ca 0, 8400, .inl (fun _ => nI 0)))] H := hP
  have hD : va_D A [(mo, .inr (3, [.int (nI 0), .int (nI 0), .ref mt, .int (nI 0), .ref my, .null, .null, .null, .null, .int (nI 0)])), (mt, .inl (ca 0, 1024, .inl (fun _ => nI 0))), (my, .inl (ca 0, 8400, .inl (fun _ => nI 0)))] := hD
  refine lv_aload_n hx hb d_Mo_init_22 rfl (lv_at hl 0 rfl) ?_
  refine lv_sipush (v := nI 8400) hx hb d_Mo_init_23 (by decide) ?_
  refine lz_newa (atype := .boolean) hx hb hA (S0.2.2.2.2 _ q_181) rfl rfl (by decide) hK.1 hP hD hS 3 rfl (by decide) (Nat.le_of_ble_eq_true rfl) ((Nat.le_of_ble_eq_true rfl)) d_Mo_init_26 (fun mg H hP hD hS => ?_)
  refine W.cs (cells' := 3) (slots' := 17824) rfl rfl ?_
  have hP : va_P D classes [(mo, .inr (3, [.int (nI 0), .int (nI 0), .ref mt, .int (nI 0), .ref my, .null, .null, .null, .null, .int (nI 0)])), (mt, .inl (ca 0, 1024, .inl (fun _ => nI 0))), (my, .inl (ca 0, 8400, .inl (fun _ => nI 0))), (mg, .inl (ca 3, 8400, .inl (fun _ => nI 0)))] H := hP
  have hD : va_D A [(mo, .inr (3, [.int (nI 0), .int (nI 0), .ref mt, .int (nI 0), .ref my, .null, .null, .null, .null, .int (nI 0)])), (mt, .inl (ca 0, 1024, .inl (fun _ => nI 0))), (my, .inl (ca 0, 8400, .inl (fun _ => nI 0))), (mg, .inl (ca 3, 8400, .inl (fun _ => nI 0)))] := hD
  refine pf_Mo_16 (q0 := 0) S0 hnm hK hP hD hS rfl rfl rfl (Nat.le_of_ble_eq_true rfl) d_Mo_init_28 (fun H locs hP hD hS => ?_)
  have hP : va_P D classes [(mo, .inr (3, [.int (nI 0), .int (nI 0), .ref mt, .int (nI 0), .ref my, .ref mg, .null, .null, .null, .int (nI 0)])), (mt, .inl (ca 0, 1024, .inl (fun _ => nI 0))), (my, .inl (ca 0, 8400, .inl (fun _ => nI 0))), (mg, .inl (ca 3, 8400, .inl (fun _ => nI 0)))] H := hP
  have hD : va_D A [(mo, .inr (3, [.int (nI 0), .int (nI 0), .ref mt, .int (nI 0), .ref my, .ref mg, .null, .null, .null, .int (nI 0)])), (mt, .inl (ca 0, 1024, .inl (fun _ => nI 0))), (my, .inl (ca 0, 8400, .inl (fun _ => nI 0))), (mg, .inl (ca 3, 8400, .inl (fun _ => nI 0)))] := hD
  refine lv_aload_n hx hb d_Mo_init_31 rfl (lv_at hl 0 rfl) ?_
  refine lv_iconst (v := nI 2) hx hb d_Mo_init_32 (by decide) ?_
  refine lz_newa (atype := .int) hx hb hA (S0.2.2.2.2 _ q_60) rfl rfl (by decide) hK.1 hP hD hS 1 rfl (by decide) (Nat.le_of_ble_eq_true rfl) ((Nat.le_of_ble_eq_true rfl)) d_Mo_init_33 (fun mw H hP hD hS => ?_)
  refine W.cs (cells' := 4) (slots' := 17826) rfl rfl ?_
  have hP : va_P D classes [(mo, .inr (3, [.int (nI 0), .int (nI 0), .ref mt, .int (nI 0), .ref my, .ref mg, .null, .null, .null, .int (nI 0)])), (mt, .inl (ca 0, 1024, .inl (fun _ => nI 0))), (my, .inl (ca 0, 8400, .inl (fun _ => nI 0))), (mg, .inl (ca 3, 8400, .inl (fun _ => nI 0))), (mw, .inl (ca 1, 2, .inl (fun _ => nI 0)))] H := hP
  have hD : va_D A [(mo, .inr (3, [.int (nI 0), .int (nI 0), .ref mt, .int (nI 0), .ref my, .ref mg, .null, .null, .null, .int (nI 0)])), (mt, .inl (ca 0, 1024, .inl (fun _ => nI 0))), (my, .inl (ca 0, 8400, .inl (fun _ => nI 0))), (mg, .inl (ca 3, 8400, .inl (fun _ => nI 0))), (mw, .inl (ca 1, 2, .inl (fun _ => nI 0)))] := hD
  refine pf_Mo_20 (q0 := 0) S0 hnm hK hP hD hS rfl rfl rfl (Nat.le_of_ble_eq_true rfl) d_Mo_init_35 (fun H locs hP hD hS => ?_)
  have hP : va_P D classes [(mo, .inr (3, [.int (nI 0), .int (nI 0), .ref mt, .int (nI 0), .ref my, .ref mg, .ref mw, .null, .null, .int (nI 0)])), (mt, .inl (ca 0, 1024, .inl (fun _ => nI 0))), (my, .inl (ca 0, 8400, .inl (fun _ => nI 0))), (mg, .inl (ca 3, 8400, .inl (fun _ => nI 0))), (mw, .inl (ca 1, 2, .inl (fun _ => nI 0)))] H := hP
  have hD : va_D A [(mo, .inr (3, [.int (nI 0), .int (nI 0), .ref mt, .int (nI 0), .ref my, .ref mg, .ref mw, .null, .null, .int (nI 0)])), (mt, .inl (ca 0, 1024, .inl (fun _ => nI 0))), (my, .inl (ca 0, 8400, .inl (fun _ => nI 0))), (mg, .inl (ca 3, 8400, .inl (fun _ => nI 0))), (mw, .inl (ca 1, 2, .inl (fun _ => nI 0)))] := hD
  refine lv_aload_n hx hb d_Mo_init_38 rfl (lv_at hl 0 rfl) ?_
  refine lv_iconst (v := nI 4) hx hb d_Mo_init_39 (by decide) ?_
  refine lz_newa (atype := .int) hx hb hA (S0.2.2.2.2 _ q_60) rfl rfl (by decide) hK.1 hP hD hS 1 rfl (by decide) (Nat.le_of_ble_eq_true rfl) ((Nat.le_of_ble_eq_true rfl)) d_Mo_init_40 (fun mf H hP hD hS => ?_)
  refine W.cs (cells' := 5) (slots' := 17830) rfl rfl ?_
  have hP : va_P D classes [(mo, .inr (3, [.int (nI 0), .int (nI 0), .ref mt, .int (nI 0), .ref my, .ref mg, .ref mw, .null, .null, .int (nI 0)])), (mt, .inl (ca 0, 1024, .inl (fun _ => nI 0))), (my, .inl (ca 0, 8400, .inl (fun _ => nI 0))), (mg, .inl (ca 3, 8400, .inl (fun _ => nI 0))), (mw, .inl (ca 1, 2, .inl (fun _ => nI 0))), (mf, .inl (ca 1, 4, .inl (fun _ => nI 0)))] H := hP
  have hD : va_D A [(mo, .inr (3, [.int (nI 0), .int (nI 0), .ref mt, .int (nI 0), .ref my, .ref mg, .ref mw, .null, .null, .int (nI 0)])), (mt, .inl (ca 0, 1024, .inl (fun _ => nI 0))), (my, .inl (ca 0, 8400, .inl (fun _ => nI 0))), (mg, .inl (ca 3, 8400, .inl (fun _ => nI 0))), (mw, .inl (ca 1, 2, .inl (fun _ => nI 0))), (mf, .inl (ca 1, 4, .inl (fun _ => nI 0)))] := hD
  refine pf_Mo_24 (q0 := 0) S0 hnm hK hP hD hS rfl rfl rfl (Nat.le_of_ble_eq_true rfl) d_Mo_init_42 (fun H locs hP hD hS => ?_)
  have hP : va_P D classes [(mo, .inr (3, [.int (nI 0), .int (nI 0), .ref mt, .int (nI 0), .ref my, .ref mg, .ref mw, .ref mf, .null, .int (nI 0)])), (mt, .inl (ca 0, 1024, .inl (fun _ => nI 0))), (my, .inl (ca 0, 8400, .inl (fun _ => nI 0))), (mg, .inl (ca 3, 8400, .inl (fun _ => nI 0))), (mw, .inl (ca 1, 2, .inl (fun _ => nI 0))), (mf, .inl (ca 1, 4, .inl (fun _ => nI 0)))] H := hP
  have hD : va_D A [(mo, .inr (3, [.int (nI 0), .int (nI 0), .ref mt, .int (nI 0), .ref my, .ref mg, .ref mw, .ref mf, .null, .int (nI 0)])), (mt, .inl (ca 0, 1024, .inl (fun _ => nI 0))), (my, .inl (ca 0, 8400, .inl (fun _ => nI 0))), (mg, .inl (ca 3, 8400, .inl (fun _ => nI 0))), (mw, .inl (ca 1, 2, .inl (fun _ => nI 0))), (mf, .inl (ca 1, 4, .inl (fun _ => nI 0)))] := hD
  refine lv_aload_n hx hb d_Mo_init_45 rfl (lv_at hl 0 rfl) ?_
  refine lv_sipush (v := nI 256) hx hb d_Mo_init_46 (by decide) ?_
  refine lz_newa (atype := .byte) hx hb hA (S0.2.2.2.2 _ q_42) rfl rfl (by decide) hK.1 hP hD hS 0 rfl (by decide) (Nat.le_of_ble_eq_true rfl) ((Nat.le_of_ble_eq_true rfl)) d_Mo_init_49 (fun mr H hP hD hS => ?_)
  refine W.cs (cells' := 6) (slots' := 18086) rfl rfl ?_
  have hP : va_P D classes [(mo, .inr (3, [.int (nI 0), .int (nI 0), .ref mt, .int (nI 0), .ref my, .ref mg, .ref mw, .ref mf, .null, .int (nI 0)])), (mt, .inl (ca 0, 1024, .inl (fun _ => nI 0))), (my, .inl (ca 0, 8400, .inl (fun _ => nI 0))), (mg, .inl (ca 3, 8400, .inl (fun _ => nI 0))), (mw, .inl (ca 1, 2, .inl (fun _ => nI 0))), (mf, .inl (ca 1, 4, .inl (fun _ => nI 0))), (mr, .inl (ca 0, 256, .inl (fun _ => nI 0)))] H := hP
  have hD : va_D A [(mo, .inr (3, [.int (nI 0), .int (nI 0), .ref mt, .int (nI 0), .ref my, .ref mg, .ref mw, .ref mf, .null, .int (nI 0)])), (mt, .inl (ca 0, 1024, .inl (fun _ => nI 0))), (my, .inl (ca 0, 8400, .inl (fun _ => nI 0))), (mg, .inl (ca 3, 8400, .inl (fun _ => nI 0))), (mw, .inl (ca 1, 2, .inl (fun _ => nI 0))), (mf, .inl (ca 1, 4, .inl (fun _ => nI 0))), (mr, .inl (ca 0, 256, .inl (fun _ => nI 0)))] := hD
  refine pf_Mo_27 (q0 := 0) S0 hnm hK hP hD hS rfl rfl rfl (Nat.le_of_ble_eq_true rfl) d_Mo_init_51 (fun H locs hP hD hS => ?_)
  have hP : va_P D classes [(mo, .inr (3, [.int (nI 0), .int (nI 0), .ref mt, .int (nI 0), .ref my, .ref mg, .ref mw, .ref mf, .ref mr, .int (nI 0)])), (mt, .inl (ca 0, 1024, .inl (fun _ => nI 0))), (my, .inl (ca 0, 8400, .inl (fun _ => nI 0))), (mg, .inl (ca 3, 8400, .inl (fun _ => nI 0))), (mw, .inl (ca 1, 2, .inl (fun _ => nI 0))), (mf, .inl (ca 1, 4, .inl (fun _ => nI 0))), (mr, .inl (ca 0, 256, .inl (fun _ => nI 0)))] H := hP
  have hD : va_D A [(mo, .inr (3, [.int (nI 0), .int (nI 0), .ref mt, .int (nI 0), .ref my, .ref mg, .ref mw, .ref mf, .ref mr, .int (nI 0)])), (mt, .inl (ca 0, 1024, .inl (fun _ => nI 0))), (my, .inl (ca 0, 8400, .inl (fun _ => nI 0))), (mg, .inl (ca 3, 8400, .inl (fun _ => nI 0))), (mw, .inl (ca 1, 2, .inl (fun _ => nI 0))), (mf, .inl (ca 1, 4, .inl (fun _ => nI 0))), (mr, .inl (ca 0, 256, .inl (fun _ => nI 0)))] := hD
  refine lv_aload_n hx hb d_Mo_init_54 rfl (lv_at hl 0 rfl) ?_
  refine lv_iload_n hx hb d_Mo_init_55 rfl (lv_at hl 1 rfl) ?_
  refine lv_bipush (v := nI 64) hx hb d_Mo_init_56 (by decide) ?_
  refine lz_cut (g := F0 m 80 ls [.int (nI (clL y)), .ref mo]) ?_ (fun tail => ?_)
  · refine pf_Mo_30 (q0 := 0) S0 hnm hK hP hD hS rfl rfl rfl (Nat.le_of_ble_eq_true rfl) d_Mo_init_80 (fun H locs hP hD hS => ?_)
    have hP : va_P D classes [(mo, .inr (3, [.int (nI 0), .int (nI (clL y)), .ref mt, .int (nI 0), .ref my, .ref mg, .ref mw, .ref mf, .ref mr, .int (nI 0)])), (mt, .inl (ca 0, 1024, .inl (fun _ => nI 0))), (my, .inl (ca 0, 8400, .inl (fun _ => nI 0))), (mg, .inl (ca 3, 8400, .inl (fun _ => nI 0))), (mw, .inl (ca 1, 2, .inl (fun _ => nI 0))), (mf, .inl (ca 1, 4, .inl (fun _ => nI 0))), (mr, .inl (ca 0, 256, .inl (fun _ => nI 0)))] H := hP
    have hD : va_D A [(mo, .inr (3, [.int (nI 0), .int (nI (clL y)), .ref mt, .int (nI 0), .ref my, .ref mg, .ref mw, .ref mf, .ref mr, .int (nI 0)])), (mt, .inl (ca 0, 1024, .inl (fun _ => nI 0))), (my, .inl (ca 0, 8400, .inl (fun _ => nI 0))), (mg, .inl (ca 3, 8400, .inl (fun _ => nI 0))), (mw, .inl (ca 1, 2, .inl (fun _ => nI 0))), (mf, .inl (ca 1, 4, .inl (fun _ => nI 0))), (mr, .inl (ca 0, 256, .inl (fun _ => nI 0)))] := hD
    have hP : va_P D classes [(mo, .inr (3, [.int (nI 0), .int (nI (clL y)), .ref mt, .int (nI 0), .ref my, .ref mg, .ref mw, .ref mf, .ref mr, .int (nI 0)])), (mt, .inl (ca 0, 1024, .inl (fun _ => nI 0))), (my, .inl (ca 0, 8400, .inl (fun _ => nI 0))), (mg, .inl (ca 3, 8400, .inl (fun _ => nI 0))), (mw, .inl (ca 1, 2, .inl (fun k => nI ((fun _ => 0) k)))), (mf, .inl (ca 1, 4, .inl (fun _ => nI 0))), (mr, .inl (ca 0, 256, .inl (fun _ => nI 0)))] H := hP
    have hD : va_D A [(mo, .inr (3, [.int (nI 0), .int (nI (clL y)), .ref mt, .int (nI 0), .ref my, .ref mg, .ref mw, .ref mf, .ref mr, .int (nI 0)])), (mt, .inl (ca 0, 1024, .inl (fun _ => nI 0))), (my, .inl (ca 0, 8400, .inl (fun _ => nI 0))), (mg, .inl (ca 3, 8400, .inl (fun _ => nI 0))), (mw, .inl (ca 1, 2, .inl (fun k => nI ((fun _ => 0) k)))), (mf, .inl (ca 1, 4, .inl (fun _ => nI 0))), (mr, .inl (ca 0, 256, .inl (fun _ => nI 0)))] := hD
    exact k_vret hx hb hr hlk ((mt, my, mg, mw, mf, mr)) (trivial) hP hD hS d_Mo_init_83
  · refine lv_icmp_ge (tgt := 66) hx hb d_Mo_init_58 (by decide) (fun h9 => ?_) (fun h9 => ?_)
    · refine lv_iload_n hx hb d_Mo_init_66 rfl (lv_at hl 1 rfl) ?_
      refine lv_sipush (v := nI 256) hx hb d_Mo_init_67 (by decide) ?_
      refine lv_icmp_le (tgt := 79) hx hb d_Mo_init_70 (by decide) (fun h8 => ?_) (fun h8 => ?_)
      · refine lv_iload_n hx hb d_Mo_init_79 rfl (lv_at hl 1 rfl) ?_
        refine lz_top (y := nI (clL y)) ((clL_mid h9 h8).1) ?_
        exact tail
      · refine lv_sipush (v := nI 256) hx hb d_Mo_init_73 (by decide) ?_
        refine lv_goto (tgt := 80) hx hb d_Mo_init_76 (by decide) ?_
        refine lz_top (y := nI (clL y)) (by rw [show clL y = 256 by unfold clL; rw [if_pos h9, if_neg h8]]) ?_
        exact tail
    · refine lv_bipush (v := nI 64) hx hb d_Mo_init_61 (by decide) ?_
      refine lv_goto (tgt := 80) hx hb d_Mo_init_63 (by decide) ?_
      refine lz_top (y := nI (clL y)) (by rw [show clL y = 64 from if_neg h9]) ?_
      exact tail
end
section
/-! what holds between the class and its model, at the head of the law's loop -/
abbrev qc (bs : Nat → Int32) (j : Nat) : Nat → Int32 := fun k => bs (4200 * j + k)
def Rel (LL F i n : Nat) (frame counts : Nat → Int32) (x0 x1 : cst) (bs bg fs mfr : Nat → Int32) (wv : Nat → Nat) (fl_ : Nat) : Prop :=
  n ≤ 1024 ∧ (F + 12 = LL ∧ 64 ≤ LL ∧ LL ≤ 256) ∧ (∀ j, j < 2 → wv j ≤ 4096) ∧ chOK (qc bs 0) (qc bg 0) (wv 0) x0 ∧ chOK (qc bs 1) (qc bg 1) (wv 1) x1 ∧ (∀ k, bz (bs k) = bs k) ∧ (∀ k, vp_nar .boolean (bg k) = bg k) ∧ (counts 0 = fs 1 ∧ counts 1 = fs 2 ∧ counts 2 = fs 3) ∧ ∃ mN, fs 0 = nI mN ∧ mN ≤ i ∧ ((mN = 0 ∧ fl_ = 0) ∨ (0 < mN ∧ fl_ = LL ∧ ∀ k, k < LL → frame k = mfr k))
theorem gv_le (n : Nat) (y : Int32) (h : n ≤ 1024) : n + gv n y ≤ 1024 := by
  unfold gv
  split <;> omega
theorem Rel.give {LL F i n : Nat} {frame counts bs bg fs mfr : Nat → Int32} {x0 x1 : cst} {wv : Nat → Nat} {fl_ : Nat} (h : Rel LL F i n frame counts x0 x1 bs bg fs mfr wv fl_) (y : Int32) : Rel LL F i (n + gv n y) frame counts x0 x1 bs bg fs mfr wv fl_ := ⟨gv_le n y h.1, h.2⟩
theorem Rel.mono {LL F i j n : Nat} {frame counts bs bg fs mfr : Nat → Int32} {x0 x1 : cst} {wv : Nat → Nat} {fl_ : Nat} (h : Rel LL F i n frame counts x0 x1 bs bg fs mfr wv fl_) (hij : i ≤ j) : Rel LL F j n frame counts x0 x1 bs bg fs mfr wv fl_ := by
  obtain ⟨h1, h2, h3, h4, h5, h6, h7, h8, mN, h9, h10, h11⟩ := h
  exact ⟨h1, h2, h3, h4, h5, h6, h7, h8, mN, h9, by omega, h11⟩
theorem chOK_congr {q g q' g' : Nat → Int32} {w : Nat} {x : cst} (h : chOK q g w x) (hq : ∀ k, k < w → q k = q' k) (hg : ∀ k, k < w → g k = g' k) : chOK q' g' w x := ⟨h.1, RV_congr h.2.1 hq, PK_congr h.2.2 hq hg⟩
theorem bl_off (f g : Nat → Int32) (a w n k : Nat) : bl f (a + w) n g (a + k) = bl (fun k => f (a + k)) w n g k := by
  unfold bl
  by_cases h : w ≤ k ∧ k < w + n
  · rw [if_pos h, if_pos (by omega)]
    congr 1; omega
  · rw [if_neg h, if_neg (by omega)]
theorem isP_le {t : Nat → Int32} {n : Nat} (h : isP t n) : 7 ≤ n := h.1
theorem Rel.send {LL F i n : Nat} {tape frame counts bs bg fs mfr : Nat → Int32} {x0 x1 : cst} {wv : Nat → Nat} {fl_ : Nat} (h : Rel LL F i n frame counts x0 x1 bs bg fs mfr wv fl_) {y r r' : Int32} {u : (cst × Nat) × (cst × Nat)} {u' : (Nat → Int32) × (Nat → Int32) × (Nat → Nat)}
    (hs : sdR tape n y (qc bs 0) (qc bg 0) (qc bs 1) (qc bg 1) (wv 0) (wv 1) x0 x1 r u) (hm : msR tape n y bs bg wv r' u') : r = r' ∧ u.1.2 = u'.2.2 0 ∧ u.2.2 = u'.2.2 1 ∧ Rel LL F i 0 frame counts u.1.1 u.2.1 u'.1 u'.2.1 fs mfr u'.2.2 fl_ := by
  obtain ⟨h1, h2, h3, h4, h5, h6, h7, h8, h9⟩ := h
  have w0 := h3 0 (by decide)
  have w1 := h3 1 (by decide)
  obtain ⟨⟨a1, b1⟩, ⟨a2, b2⟩⟩ := u
  rcases hm with ⟨c_, hc, ⟨e1, e2, e3⟩, e4, rfl⟩ | ⟨⟨e1, e2⟩, e4, rfl⟩
  · have hB : ∀ k, bz (bl bs (4200 * c_ + wv c_) n (fun k => bz (tape k)) k) = bl bs (4200 * c_ + wv c_) n (fun k => bz (tape k)) k := bl_fix (P := fun x => bz x = x) h6 (fun k => bz_bz _)
    have hZ : ∀ k, vp_nar .boolean (bl bg (4200 * c_ + wv c_) n fl k) = bl bg (4200 * c_ + wv c_) n fl k := bl_fix (P := fun x => vp_nar .boolean x = x) h7 fl_nar
    rcases (show c_ = 0 ∨ c_ = 1 by omega) with rfl | rfl
    · rcases hs with ⟨_, f2, f3, f4, f5⟩ | ⟨⟨f1, _⟩, _⟩ | ⟨⟨f1, _⟩, _⟩
      · dsimp only at f3 f4 f5
        cases f5
        subst f4
        refine ⟨f2.trans e4.symm, (up_self wv 0 _).symm, rfl, by omega, h2, fun j hj => ?_, ?_, ?_, hB, hZ, h8, h9⟩
        · rcases (show j = 0 ∨ j = 1 by omega) with rfl | rfl
          · show va_up wv 0 (wv 0 + n) 0 ≤ 4096
            rw [up_self]; exact e3
          · exact w1
        · show chOK _ _ (va_up wv 0 (wv 0 + n) 0) _
          rw [up_self]
          exact chOK_congr f3 (fun k _ => (bl_off bs _ (4200 * 0) (wv 0) n k).symm) (fun k _ => (bl_off bg _ (4200 * 0) (wv 0) n k).symm)
        · show chOK _ _ (wv 1) _
          exact chOK_congr h5 (fun k hk => by show bs (4200 * 1 + k) = bl bs (4200 * 0 + wv 0) n (fun k => bz (tape k)) (4200 * 1 + k); rw [bl_out (by omega)]) (fun k hk => by show bg (4200 * 1 + k) = bl bg (4200 * 0 + wv 0) n fl (4200 * 1 + k); rw [bl_out (by omega)])
      · exact absurd (e1.symm.trans f1) nI01
      · exact absurd ⟨e1, e2, e3⟩ f1
    · rcases hs with ⟨⟨f1, _⟩, _⟩ | ⟨_, f2, f3, f4, f5⟩ | ⟨⟨_, f1⟩, _⟩
      · exact absurd (f1.symm.trans e1) nI01
      · dsimp only at f3 f4 f5
        cases f5
        subst f4
        refine ⟨f2.trans e4.symm, rfl, (up_self wv 1 _).symm, by omega, h2, fun j hj => ?_, ?_, ?_, hB, hZ, h8, h9⟩
        · rcases (show j = 0 ∨ j = 1 by omega) with rfl | rfl
          · exact w0
          · show va_up wv 1 (wv 1 + n) 1 ≤ 4096
            rw [up_self]; exact e3
        · show chOK _ _ (wv 0) _
          exact chOK_congr h4 (fun k hk => by show bs (4200 * 0 + k) = bl bs (4200 * 1 + wv 1) n (fun k => bz (tape k)) (4200 * 0 + k); rw [bl_out (by omega)]) (fun k hk => by show bg (4200 * 0 + k) = bl bg (4200 * 1 + wv 1) n fl (4200 * 0 + k); rw [bl_out (by omega)])
        · show chOK _ _ (va_up wv 1 (wv 1 + n) 1) _
          rw [up_self]
          exact chOK_congr f3 (fun k _ => (bl_off bs _ (4200 * 1) (wv 1) n k).symm) (fun k _ => (bl_off bg _ (4200 * 1) (wv 1) n k).symm)
      · exact absurd ⟨e1, e2, e3⟩ f1
  · rcases hs with ⟨f1, _⟩ | ⟨f1, _⟩ | ⟨_, f2, f3⟩
    · exact absurd f1 e1
    · exact absurd f1 e2
    · cases f3
      exact ⟨f2.trans e4.symm, rfl, rfl, by omega, h2, h3, h4, h5, h6, h7, h8, h9⟩
theorem fr_same {F L c_ : Nat} {cnt cnt' made word : Int32} {q g f f' : Nat → Int32} {w : Nat} (hc : cnt = cnt') (h : ∃ k, isF (gx g w F) F k ∧ ∀ i, i < L → f i = fb F c_ made cnt (if k < F then k else 2047) (qx q w F) word i) (h' : ∃ k, isF (gx g w F) F k ∧ ∀ i, i < L → f' i = fb F c_ made cnt' (if k < F then k else 2047) (qx q w F) word i) : ∀ i, i < L → f i = f' i := by
  obtain ⟨k, a, b⟩ := h
  obtain ⟨k', a', b'⟩ := h'
  obtain rfl := isF_one a a' (fun _ _ => rfl)
  subst hc
  exact fun i hi => (b i hi).trans (b' i hi).symm
theorem bF_out {f e : Nat → Int32} {c_ w F k : Nat} (h : k < 4200 * c_ + w ∨ 4200 * c_ + w + ne F w ≤ k) : bF f c_ w F e k = f k := by
  unfold bF
  split
  · exact bl_out h
  · rfl
theorem Rel.frame {LL F i n : Nat} {frame counts bs bg fs mfr : Nat → Int32} {x0 x1 : cst} {wv : Nat → Nat} {fl_ : Nat} (h : Rel LL F i n frame counts x0 x1 bs bg fs mfr wv fl_) {word r r' : Int32} {u : (Nat → Int32) × (Nat → Int32) × (cst × Nat) × (cst × Nat)} {u' : (Nat → Int32) × (Nat → Int32) × (Nat → Nat) × (Nat → Int32) × (Nat → Int32)}
    (hs : mkR F LL (fs 0) counts word (qc bs 0) (qc bg 0) (qc bs 1) (qc bg 1) (wv 0) (wv 1) x0 x1 r u) (hm : mfR F LL word bs bg fs wv r' u') : r = r' ∧ u.2.2.1.2 = u'.2.2.1 0 ∧ u.2.2.2.2 = u'.2.2.1 1 ∧ u'.2.2.2.1 0 = fs 0 + nI 1 ∧ Rel LL F (i + 1) n u.1 u.2.1 u.2.2.1.1 u.2.2.2.1 u'.1 u'.2.1 u'.2.2.2.1 u'.2.2.2.2 u'.2.2.1 (12 + F) := by
  obtain ⟨h1, h2, h3, h4, h5, h6, h7, ⟨k0, k1, k2⟩, mN, hmN, hmi, -⟩ := h
  have w0 := h3 0 (by decide)
  have w1 := h3 1 (by decide)
  obtain ⟨ufr, ucn, ⟨a1, b1⟩, ⟨a2, b2⟩⟩ := u
  obtain ⟨ubs, ubg, uwv, ufs, umf⟩ := u'
  have hinc : fs 0 + nI 1 = nI (mN + 1) := by rw [hmN, nI_add]
  rcases hm with ⟨c_, hc, hsel, e1, e2, e3, e4, e5, e6⟩ | ⟨z0, z1, e1, e2, e3, e4, e5, e6⟩
  · dsimp only at e2 e3 e4 e5 e6
    subst e3; subst e4; subst e5; subst e6
    have hne := ne_le F (wv c_)
    have hwl := wx_le (wv c_) F
    have hwc := h3 c_ hc
    have hB : ∀ k, bz (bF bs c_ (wv c_) F (eb (ne F (wv c_))) k) = bF bs c_ (wv c_) F (eb (ne F (wv c_))) k := bF_fix (P := fun x => bz x = x) h6 (fun k => bz_bz _)
    have hZ : ∀ k, vp_nar .boolean (bF bg c_ (wv c_) F fl k) = bF bg c_ (wv c_) F fl k := bF_fix (P := fun x => vp_nar .boolean x = x) h7 fl_nar
    have hB2 : ∀ k, bz (bl (bF bs c_ (wv c_) F (eb (ne F (wv c_)))) (4200 * c_) (wx (wv c_) F - F) (fun i => bF bs c_ (wv c_) F (eb (ne F (wv c_))) (4200 * c_ + (i + F))) k) = bl (bF bs c_ (wv c_) F (eb (ne F (wv c_)))) (4200 * c_) (wx (wv c_) F - F) (fun i => bF bs c_ (wv c_) F (eb (ne F (wv c_))) (4200 * c_ + (i + F))) k := bl_fix (P := fun x => bz x = x) hB (fun k => hB _)
    have hZ2 : ∀ k, vp_nar .boolean (bl (bF bg c_ (wv c_) F fl) (4200 * c_) (wx (wv c_) F - F) (fun i => bF bg c_ (wv c_) F fl (4200 * c_ + (i + F))) k) = bl (bF bg c_ (wv c_) F fl) (4200 * c_) (wx (wv c_) F - F) (fun i => bF bg c_ (wv c_) F fl (4200 * c_ + (i + F))) k := bl_fix (P := fun x => vp_nar .boolean x = x) hZ (fun k => hZ _)
    have hwF : wx (wv c_) F - F ≤ 4096 := by omega
    have hq : ∀ k, k < wx (wv c_) F - F → qx (qc bs c_) (wv c_) F (k + F) = bl (bF bs c_ (wv c_) F (eb (ne F (wv c_)))) (4200 * c_) (wx (wv c_) F - F) (fun i => bF bs c_ (wv c_) F (eb (ne F (wv c_))) (4200 * c_ + (i + F))) (4200 * c_ + k) := by
      intro k hk
      rw [bl_in (by omega) (by omega), Nat.add_sub_cancel_left]
      exact (bF_q bs c_ (wv c_) F (k + F)).symm
    have hg : ∀ k, k < wx (wv c_) F - F → gx (qc bg c_) (wv c_) F (k + F) = bl (bF bg c_ (wv c_) F fl) (4200 * c_) (wx (wv c_) F - F) (fun i => bF bg c_ (wv c_) F fl (4200 * c_ + (i + F))) (4200 * c_ + k) := by
      intro k hk
      rw [bl_in (by omega) (by omega), Nat.add_sub_cancel_left]
      exact (bF_g bg c_ (wv c_) F (k + F)).symm
    have ho : ∀ (f e : Nat → Int32) (d k : Nat), d < 2 → d ≠ c_ → k < 4096 → (wv c_ < F → True) → bl (bF f c_ (wv c_) F e) (4200 * c_) (wx (wv c_) F - F) (fun i => bF f c_ (wv c_) F e (4200 * c_ + (i + F))) (4200 * d + k) = f (4200 * d + k) := by
      intro f e d k hd hdc hk _
      by_cases hwf : wv c_ < F
      · rw [bl_out (by omega), bF_out (by omega)]
      · rw [bl_out (by omega)]
        unfold bF
        rw [if_neg hwf]
    rcases (show c_ = 0 ∨ c_ = 1 by omega) with rfl | rfl
    · rcases hs with ⟨f1, f2, f3, f4, f5, f6, f7⟩ | ⟨f1, _⟩ | ⟨f1, _⟩
      · dsimp only at f3 f4 f5 f6 f7
        cases f7
        subst f6; subst f4
        refine ⟨f2.trans e1.symm, (up_self wv 0 _).symm, rfl, rfl, h1, h2, fun j hj => ?_, ?_, ?_, hB2, hZ2, ⟨?_, ?_, ?_⟩, mN + 1, hinc, by omega, Or.inr ⟨by omega, by omega, ?_⟩⟩
        · rcases (show j = 0 ∨ j = 1 by omega) with rfl | rfl
          · show va_up wv 0 (wx (wv 0) F - F) 0 ≤ 4096
            rw [up_self]; exact hwF
          · exact w1
        · show chOK _ _ (va_up wv 0 (wx (wv 0) F - F) 0) _
          rw [up_self]
          exact chOK_congr f5 hq hg
        · show chOK _ _ (wv 1) _
          exact chOK_congr h5 (fun k hk => (ho bs _ 1 k (by decide) (by decide) (by omega) (fun _ => trivial)).symm) (fun k hk => (ho bg _ 1 k (by decide) (by decide) (by omega) (fun _ => trivial)).symm)
        · show counts 0 + nI 1 = fs 1 + nI 1
          rw [k0]
        · exact k1
        · exact k2
        · exact fr_same k0 f3 e2
      · rcases hsel with ⟨_, z⟩ | ⟨z, _⟩ <;> omega
      · rcases hsel with ⟨_, z⟩ | ⟨z, _⟩ <;> omega
    · have hs0 : wv 0 = 0 ∧ 0 < wv 1 := by rcases hsel with ⟨z, _⟩ | ⟨_, z⟩; omega; exact z
      rcases hs with ⟨f1, _⟩ | ⟨_, f1, f2, f3, f4, f5, f6, f7⟩ | ⟨_, f1, _⟩
      · omega
      · dsimp only at f3 f4 f5 f6 f7
        cases f7
        subst f6; subst f4
        refine ⟨f2.trans e1.symm, rfl, (up_self wv 1 _).symm, rfl, h1, h2, fun j hj => ?_, ?_, ?_, hB2, hZ2, ⟨?_, ?_, ?_⟩, mN + 1, hinc, by omega, Or.inr ⟨by omega, by omega, ?_⟩⟩
        · rcases (show j = 0 ∨ j = 1 by omega) with rfl | rfl
          · exact w0
          · show va_up wv 1 (wx (wv 1) F - F) 1 ≤ 4096
            rw [up_self]; exact hwF
        · show chOK _ _ (wv 0) _
          exact chOK_congr h4 (fun k hk => (ho bs _ 0 k (by decide) (by decide) (by omega) (fun _ => trivial)).symm) (fun k hk => (ho bg _ 0 k (by decide) (by decide) (by omega) (fun _ => trivial)).symm)
        · show chOK _ _ (va_up wv 1 (wx (wv 1) F - F) 1) _
          rw [up_self]
          exact chOK_congr f5 hq hg
        · exact k0
        · show counts 1 + nI 1 = fs 2 + nI 1
          rw [k1]
        · exact k2
        · exact fr_same k1 f3 e2
      · omega
  · dsimp only at e2 e3 e4 e5 e6
    subst e3; subst e4; subst e5; subst e6
    rcases hs with ⟨f1, _⟩ | ⟨_, f1, _⟩ | ⟨_, _, f2, f3, f4, f5, f6⟩
    · omega
    · omega
    · dsimp only at f3 f4 f5 f6
      cases f5
      cases f6
      subst f4
      refine ⟨f2.trans e1.symm, rfl, rfl, rfl, h1, h2, h3, h4, h5, h6, h7, ⟨k0, k1, ?_⟩, mN + 1, hinc, by omega, Or.inr ⟨by omega, by omega, fun k hk => ?_⟩⟩
      · show counts 2 + nI 1 = fs 3 + nI 1
        rw [k2]
      · show ufr k = umf k
        rw [f3 k hk, e2 k hk, k2]
theorem Rel.byte {LL F i n : Nat} {frame counts bs bg fs mfr : Nat → Int32} {x0 x1 : cst} {wv : Nat → Nat} {fl_ : Nat} (h : Rel LL F i n frame counts x0 x1 bs bg fs mfr wv fl_) (hi : i < 2 ^ 31) (y : Int32) : (if fs 0 = 0 then -1 else byR y LL frame) = byR y fl_ mfr := by
  obtain ⟨h1, ⟨g1, g2, g3⟩, h3, h4, h5, h6, h7, h8, mN, h9, h10, h11⟩ := h
  rcases h11 with ⟨rfl, rfl⟩ | ⟨a, rfl, c⟩
  · rw [if_pos (h9.trans nI_0)]
    symm
    apply byR_out
    by_cases hy : y < 0
    · exact Or.inl hy
    · right
      obtain ⟨j, hj, rfl⟩ := nI_of hy
      exact nI_le (Nat.zero_le j) hj
  · rw [if_neg (by rw [h9]; exact nI_ne0 a (by omega))]
    rcases pk_ix y (n := fl_) (by omega) with q | q | ⟨j, hj, rfl⟩
    · rw [byR_out _ (Or.inl q), byR_out _ (Or.inl q)]
    · rw [byR_out _ (Or.inr q), byR_out _ (Or.inr q)]
    · rw [byR_in _ hj (by omega), byR_in _ hj (by omega), c j hj]
end
section
/-! THE CLAIM OUT OF ONE WALK OF THE LAW'S BODY. Your part is whole_start (and what it stands on); all else here is the same for every law, but numbers. -/
def R_law : String := "DownFramesLaw"
def lw_P (b : Addr) (xs : List Int32) (args : Array Value) (s : State) : Prop := args = #[.ref b] ∧ s.IntsAt b xs ∧ xs.length ≤ 2049 ∧ (Jvm.Cond.and given_1 narrow_1).before args s = true
def lw_Q (_ : Array Value) (s : State) (o : Outcome) (t : State) : Prop := o = .returned (some (.int 1)) ∧ Framed s o t [] 600000 7302250
def lw_Z (below : List Frame) (a : Array Value) (s : State) : State → Prop := fun t => ∃ o, t.status = .running ∧ Ended t below o ∧ lw_Q a s o t
/-- the law's own end, with 1 on the stack, nothing written that was there before, its room as the claim has it -/
theorem lw_ret {p : Program} {l : Launch} {e : Env} {s : State} {m : MethodId} {below : List Frame} {meth : Method} {c : Code} {b : Nat} (hx : p.tables.exec = Jvm.exec) (hb : c.code = code) (hr : meth.sig.returnType = ret) (hlocks : meth.locks = false) {pc : Nat} {H : Heap} {ls : Array Slot} (hdg : decode code pc = .ok (.ireturn, 1)) : W p l e room_1 s m #[Value.ref b] below meth c H [] 600000 7302250 (lw_Z below #[Value.ref b] s) (F0 m pc ls [.int 1]) := by
  intro T hT X
  obtain ⟨fs, hret, hrun, hended, hW, hframe⟩ := X.leave (v := some (.int 1)) (hlocks := hlocks) (fun h => by rw [hr] at h; cases h)
  have hmeth' : T.vm.method? m = some meth := X.method'
  refine ⟨T.setFrames fs, ?_, .returned (some (.int 1)), hrun, hended, rfl, ⟨_, rfl⟩, hW, hframe⟩
  jvm_step X.here [X.here.top, hx, hb, hdg, hmeth', hr, ret, narrow_b1]
  (try refine ⟨rfl, ?_⟩); (try refine ⟨rfl, ?_⟩)
  first | (intro acts; rw [hret _ acts rfl rfl rfl]) | rw [hret _ _ rfl rfl rfl]
  exact Steps.refl _
/-- what holds at the law's entry: the machine, the code, the tables' words (any of lw_tbl by 'hts w (by decide +kernel)'), the script of L ints xs at the cell b, what the Statement gives of the start (any of its parts by flat_of_before) -/
def lw_At (p : Program) (s : State) (m : MethodId) (meth : Method) (c : Code) (b L : Nat) (xs : Nat → Int32) : Prop :=
  p.tables.exec = Jvm.exec ∧ c.code = code ∧ meth.sig.returnType = ret ∧ c.maxLocals = 4 ∧ s.vm.findClass R_law = some m.cls ∧ (∀ w ∈ lw_tbl, w.before #[Value.ref b] s = true) ∧ va_X b L xs s s.heap ∧ b < s.heap.size ∧ meth.locks = false ∧ (Jvm.Cond.and given_1 narrow_1).before #[Value.ref b] s = true
end
section
set_option maxHeartbeats 1000000 in
set_option maxRecDepth 100000 in
theorem c_law_cell (l : Launch) (b L : Nat) (xs : Nat → Int32) (hL : L < 2 ^ 31) : Met l y_law_cell (wd y_law_cell b_law_cell 2 (some .int)) ({ frames := 0, cells := 0, slots := 0, locals := 0 } : Room) (va_Pc [.ref b, .int (nI 0)] (fun U => va_X b L xs U U.heap)) (va_Qi (fun (r : Int32) (_ : Unit) => r = if 0 < L then xs 0 else 0) (fun _ _ => True) (fun _ => False)) 0 0 (fun _ => False) := by
  refine Met.ofW (cc := b_law_cell) (maxL := 2) (ret := some .int) (by decide) rfl ?_
  intro p e s m args below meth c s₁ B hml hv
  obtain ⟨rfl, hX⟩ := hv
  have hx := B.exec
  have hb := B.bytes
  have hr := B.returns
  have hlk := B.notSynchronized
  have hbl : b < s.heap.size := by
    obtain ⟨scr, h1, _⟩ := hX
    exact (Array.getElem?_eq_some_iff.mp h1).1
  have hbA : ¬ (fun _ : Nat => False) b := id
  have hS : va_S (fun _ => False) s.heap s.heap [] := va_S.rf
  have hl := lv_entry ([.ref b, .int (nI 0)]) (n := 2) (Nat.le_of_ble_eq_true rfl)
  rw [lg_entry_eq]
  generalize (lg_sl ([.ref b, .int (nI 0)]) ++ List.replicate (2 - (lg_sl ([.ref b, .int (nI 0)])).length) Slot.unset).toArray = ls at hl ⊢
  have hl : lv_has ls 2 [(0, .ref b), (1, .int (nI 0))] := hl
  refine lv_iload_n hx hb d_law_cell_0 rfl (lv_at hl 1 rfl) ?_
  refine lv_aload_n hx hb d_law_cell_1 rfl (lv_at hl 0 rfl) ?_
  refine va_slen hx hb hX hbl hbA hS d_law_cell_2 ?_
  refine lz_top (y := nI L) rfl ?_
  refine lz_icmp_ge (tgt := 12) hx hb (by omega) (by omega) d_law_cell_3 (by decide) (fun h4 => ?_) (fun h4 => ?_)
  · refine lv_iconst (v := nI 0) hx hb d_law_cell_12 (by decide) ?_
    exact W.iret hx hb hr (fun t ht hW => ⟨⟨_, (), rfl, by rw [if_neg (by omega)]; rfl, trivial⟩, hS.F ht⟩) hS.2.2 d_law_cell_13 hlk
  · refine lv_aload_n hx hb d_law_cell_6 rfl (lv_at hl 0 rfl) ?_
    refine lv_iload_n hx hb d_law_cell_7 rfl (lv_at hl 1 rfl) ?_
    refine va_sld hx hb hX hbl hbA hS (vp_in_nI (n := 0) (by omega) (by omega)) d_law_cell_8 ?_
    refine lz_top (y := xs 0) (by rw [nI_clamp (by omega)]) ?_
    refine lv_goto (tgt := 13) hx hb d_law_cell_9 (by decide) ?_
    exact W.iret hx hb hr (fun t ht hW => ⟨⟨_, (), rfl, by rw [if_pos h4], trivial⟩, hS.F ht⟩) hS.2.2 d_law_cell_13 hlk
theorem k_cell {p : Program} {l : Launch} {e : Env} {R : Room} {s : State} {m : MethodId} {args : Array Value} {below : List Frame} {meth : Method} {c : Code} {H : Heap} {locs : List Loc} {cells slots : Nat} {Q : State → Prop} {cc : ByteArray} {pc nL : Nat} {ls : Array Slot} {rest : List Value} {D : va_G} {ws : va_W} {A0 : Nat → Prop} {H0 : Heap} {b L : Nat} {xs : Nat → Int32} (S0 : CallFix p m c cc nL s args gd_tbl "DownFramesLaw") (hX : va_X b L xs s H0) (hbl : b < H0.size) (hbA : ¬ A0 b) (hS : va_S A0 H0 H locs) (hP : va_P D classes ws H) (hL : L < 2 ^ 31) (hRm : 0 + 1 ≤ R.frames ∧ 8 + (2 + 11) + 0 ≤ R.locals) (hsize : ls.size = nL) (hrm : (rest.map fun v => v.category).sum ≤ 8) (hf : cells + 0 ≤ R.cells ∧ slots + 0 ≤ R.slots) (hdg : decode cc pc = .ok (.invokestatic 9, 3))
    (k : ∀ (H1 : Heap) (locs1 : List Loc), va_P D classes ws H1 → va_S A0 H0 H1 locs1 → W p l e R s m args below meth c H1 locs1 cells slots Q (F0 m (pc + 3) ls (.int (if 0 < L then xs 0 else 0) :: rest))) : W p l e R s m args below meth c H locs cells slots Q (F0 m pc ls (.int (nI 0) :: .ref b :: rest)) := by
  have hXH : va_X b L xs s H := hX.kept (hS.2.1 b hbl hbA)
  refine va_calli (va_runS (As := [.ref b, .int (nI 0)]) (rest := rest) S0 (c_law_cell l b L xs hL) ⟨callB_of 2 S0.2.2.2.2 (gd_in q_143) rfl rfl rfl (S0.2.2.2.2 _ q_0) (S0.2.2.2.2 _ q_141) (by decide +kernel) hRm, S0.2.2.2.2 _ q_142⟩ ⟨fun a U g mk q => ⟨q.1, va_X.moved (u := U) (U := U.calling g mk a) (Vm.Alike.refl U.vm) q.2⟩, fun U hU hW => ⟨rfl, by show va_X b L xs U U.heap; rw [hU]; exact va_X.moved hW.alike hXH⟩⟩ rfl rfl hsize rfl (lv_room hrm) hdg hf) hS (fun q _ h => h.elim) (fun q h => h.elim) (fun r u t H1 locs1 ht hvm hw hB hz hk hS1 => ?_)
  subst hw
  exact k H1 locs1 (hP.kept (fun k q hq => hk q.1 (hP k q hq).lt id)) hS1
theorem arr_start {args : Array Value} {s : State} {ty : FieldType} (h : (Cond.arrayClass ty).before args s = true) (hn : ∀ C, ty ≠ .object C) : ∃ cA : ClassId, ArrOfT s cA ty ∧ va_RA s cA ty := by
  obtain ⟨cA, kA, comp, h1, h2, h3⟩ := Cond.arrayClass_spec h
  refine ⟨cA, fun n z => ⟨fun k h => (by cases h), kA, h2, comp, h3⟩, ?_⟩
  cases ty with
  | object C => exact absurd rfl (hn C)
  | _ => exact h1
set_option maxRecDepth 100000 in
theorem pw_start {args : Array Value} {s : State} (hts0 : ∀ w ∈ lw_tbl, w.before args s = true) : ∃ (D : va_G) (ca : Nat → ClassId), PW D ca s := by
  have hts : ∀ w ∈ gd_tbl, w.before args s = true := fun w h => hts0 w (gd_sub w h)
  obtain ⟨c0, i0, h0⟩ := u_known (C := R_Ch) (T := F_Ch) (N := 4) (n := 4) hts i_Ch (hts _ q_22)
  obtain ⟨c1, i1, h1⟩ := u_known (C := R_Mk) (T := F_Mk) (N := 4) (n := 4) hts i_Mk (hts _ q_15)
  obtain ⟨c2, i2, h2⟩ := u_known (C := R_Fr) (T := F_Fr) (N := 3) (n := 3) hts i_Fr (hts _ q_7)
  obtain ⟨c3, i3, h3⟩ := u_known (C := R_Mo) (T := F_Mo) (N := 10) (n := 10) hts i_Mo (hts _ q_145)
  obtain ⟨a0, g0⟩ := arr_start (ty := .byte) (hts _ q_42) (fun C h => by cases h)
  obtain ⟨a1, g1⟩ := arr_start (ty := .int) (hts _ q_60) (fun C h => by cases h)
  obtain ⟨a3, g3⟩ := arr_start (ty := .boolean) (hts _ q_181) (fun C h => by cases h)
  have hao := hts0 (.arrayOver (.object "DownFrames$Channel")) (List.mem_append_right _ (List.mem_of_getElem? (i := 21) rfl))
  obtain ⟨comp, a2, kA, f1, -, f3, f4, f5⟩ := Cond.arrayOver_spec hao
  refine ⟨(fun k => if k = 0 then c0 else if k = 1 then c1 else if k = 2 then c2 else c3, fun k => if k = 0 then i0 else if k = 1 then i1 else if k = 2 then i2 else i3), fun k => if k = 0 then a0 else if k = 1 then a1 else if k = 2 then a2 else a3, ⟨?_, ?_⟩, ?_⟩
  · intro k q hq
    match k, hq with
    | 0, hq => cases hq; exact h0
    | 1, hq => cases hq; exact h1
    | 2, hq => cases hq; exact h2
    | 3, hq => cases hq; exact h3
    | k + 4, hq => simp [classes] at hq
  · intro k q hq
    match k, hq with
    | 0, hq => cases hq; exact g0
    | 1, hq => cases hq; exact g1
    | 2, hq => cases hq; exact ⟨fun n z => ⟨fun k h => (by cases h), kA, f3, comp, f4⟩, kA, comp, f3, f4, f1, f5⟩
    | 3, hq => cases hq; exact g3
    | k + 4, hq => simp at hq
  · exact ⟨va_Nw.of rfl (hts0 _ (List.mem_append_right _ (List.mem_of_getElem? (i := 23) rfl))), va_Nw.of rfl (hts0 _ (List.mem_append_right _ (List.mem_of_getElem? (i := 30) rfl))), va_Nw.of rfl (hts0 _ (List.mem_append_right _ (List.mem_of_getElem? (i := 31) rfl))), va_Nw.of rfl (hts0 _ (List.mem_append_right _ (List.mem_of_getElem? (i := 44) rfl))), va_Nw.of rfl (hts0 _ (List.mem_append_right _ (List.mem_of_getElem? (i := 46) rfl))), va_Nw.of rfl (hts0 _ (List.mem_append_right _ (List.mem_of_getElem? (i := 48) rfl))), va_Nw.of rfl (hts0 _ (List.mem_append_right _ (List.mem_of_getElem? (i := 50) rfl))), va_AO.of hao⟩
end
section
set_option maxHeartbeats 1000000 in
set_option maxRecDepth 100000 in
theorem law_0 {p : Program} {l : Launch} {e : Env} {s : State} {m : MethodId} {below : List Frame} {meth : Method} {c : Code} {D : va_G} {ca : Nat → ClassId} {b L : Nat} {xs : Nat → Int32} (x tp mk fr ch cn c0 r0 c1 r1 mo mt my mg mw mf mr LL F : Nat) (hL : L ≤ 2049) (C0 : lw_At p s m meth c b L xs) (hK : PW D ca s) (i0 : Nat) (h4 : i0 + 4 ≤ L) (n fi0 le0 fi1 le1 fl_ : Nat) (tape frame counts ring0 ring1 bs bg fs mfr : Nat → Int32) (wv : Nat → Nat)
    (ih : ∀ (i : Nat) (n fi0 le0 fi1 le1 fl_ : Nat) (tape frame counts ring0 ring1 bs bg fs mfr : Nat → Int32) (wv : Nat → Nat) (H : Heap) (locs : List Loc) (ls : Array Slot), i = i0 + 4 → Rel LL F i n frame counts (ring0, fi0, le0) (ring1, fi1, le1) bs bg fs mfr wv fl_ → va_P D classes [(x, .inr (2, [.ref tp, .int (nI n), .ref mk])), (tp, .inl (ca 0, 1024, .inl tape)), (mk, .inr (1, [.ref fr, .ref ch, .int (fs 0), .ref cn])), (fr, .inl (ca 0, LL, .inl frame)), (ch, .inl (ca 2, 2, .inr (.inr (.inr (.inr (chf c0 c1)))))), (cn, .inl (ca 1, 3, .inl counts)), (c0, .inr (0, [.ref r0, .int (nI fi0), .int (nI (wv 0)), .int (nI le0)])), (r0, .inl (ca 0, 4096, .inl ring0)), (c1, .inr (0, [.ref r1, .int (nI fi1), .int (nI (wv 1)), .int (nI le1)])), (r1, .inl (ca 0, 4096, .inl ring1)), (mo, .inr (3, [.int (nI 0), .int (nI LL), .ref mt, .int (nI n), .ref my, .ref mg, .ref mw, .ref mf, .ref mr, .int (nI fl_)])), (mt, .inl (ca 0, 1024, .inl tape)), (my, .inl (ca 0, 8400, .inl bs)), (mg, .inl (ca 3, 8400, .inl bg)), (mw, .inl (ca 1, 2, .inl (fun k => nI (wv k)))), (mf, .inl (ca 1, 4, .inl fs)), (mr, .inl (ca 0, 256, .inl mfr))] H → va_D (fun q : Nat => s.heap.size ≤ q) [(x, .inr (2, [.ref tp, .int (nI n), .ref mk])), (tp, .inl (ca 0, 1024, .inl tape)), (mk, .inr (1, [.ref fr, .ref ch, .int (fs 0), .ref cn])), (fr, .inl (ca 0, LL, .inl frame)), (ch, .inl (ca 2, 2, .inr (.inr (.inr (.inr (chf c0 c1)))))), (cn, .inl (ca 1, 3, .inl counts)), (c0, .inr (0, [.ref r0, .int (nI fi0), .int (nI (wv 0)), .int (nI le0)])), (r0, .inl (ca 0, 4096, .inl ring0)), (c1, .inr (0, [.ref r1, .int (nI fi1), .int (nI (wv 1)), .int (nI le1)])), (r1, .inl (ca 0, 4096, .inl ring1)), (mo, .inr (3, [.int (nI 0), .int (nI LL), .ref mt, .int (nI n), .ref my, .ref mg, .ref mw, .ref mf, .ref mr, .int (nI fl_)])), (mt, .inl (ca 0, 1024, .inl tape)), (my, .inl (ca 0, 8400, .inl bs)), (mg, .inl (ca 3, 8400, .inl bg)), (mw, .inl (ca 1, 2, .inl (fun k => nI (wv k)))), (mf, .inl (ca 1, 4, .inl fs)), (mr, .inl (ca 0, 256, .inl mfr))] → va_S (fun q : Nat => s.heap.size ≤ q) s.heap H locs → lv_has ls 4 [(0, .ref b), (1, .ref x), (2, .ref mo), (3, .int (nI i))] → W p l e room_1 s m #[Value.ref b] below meth c H locs 600000 7302250 (lw_Z below #[Value.ref b] s) (F0 m 28 ls [])) (H : Heap) (locs : List Loc) (ls : Array Slot) (hR : Rel LL F i0 n frame counts (ring0, fi0, le0) (ring1, fi1, le1) bs bg fs mfr wv fl_) (hP : va_P D classes [(x, .inr (2, [.ref tp, .int (nI n), .ref mk])), (tp, .inl (ca 0, 1024, .inl tape)), (mk, .inr (1, [.ref fr, .ref ch, .int (fs 0), .ref cn])), (fr, .inl (ca 0, LL, .inl frame)), (ch, .inl (ca 2, 2, .inr (.inr (.inr (.inr (chf c0 c1)))))), (cn, .inl (ca 1, 3, .inl counts)), (c0, .inr (0, [.ref r0, .int (nI fi0), .int (nI (wv 0)), .int (nI le0)])), (r0, .inl (ca 0, 4096, .inl ring0)), (c1, .inr (0, [.ref r1, .int (nI fi1), .int (nI (wv 1)), .int (nI le1)])), (r1, .inl (ca 0, 4096, .inl ring1)), (mo, .inr (3, [.int (nI 0), .int (nI LL), .ref mt, .int (nI n), .ref my, .ref mg, .ref mw, .ref mf, .ref mr, .int (nI fl_)])), (mt, .inl (ca 0, 1024, .inl tape)), (my, .inl (ca 0, 8400, .inl bs)), (mg, .inl (ca 3, 8400, .inl bg)), (mw, .inl (ca 1, 2, .inl (fun k => nI (wv k)))), (mf, .inl (ca 1, 4, .inl fs)), (mr, .inl (ca 0, 256, .inl mfr))] H) (hD : va_D (fun q : Nat => s.heap.size ≤ q) [(x, .inr (2, [.ref tp, .int (nI n), .ref mk])), (tp, .inl (ca 0, 1024, .inl tape)), (mk, .inr (1, [.ref fr, .ref ch, .int (fs 0), .ref cn])), (fr, .inl (ca 0, LL, .inl frame)), (ch, .inl (ca 2, 2, .inr (.inr (.inr (.inr (chf c0 c1)))))), (cn, .inl (ca 1, 3, .inl counts)), (c0, .inr (0, [.ref r0, .int (nI fi0), .int (nI (wv 0)), .int (nI le0)])), (r0, .inl (ca 0, 4096, .inl ring0)), (c1, .inr (0, [.ref r1, .int (nI fi1), .int (nI (wv 1)), .int (nI le1)])), (r1, .inl (ca 0, 4096, .inl ring1)), (mo, .inr (3, [.int (nI 0), .int (nI LL), .ref mt, .int (nI n), .ref my, .ref mg, .ref mw, .ref mf, .ref mr, .int (nI fl_)])), (mt, .inl (ca 0, 1024, .inl tape)), (my, .inl (ca 0, 8400, .inl bs)), (mg, .inl (ca 3, 8400, .inl bg)), (mw, .inl (ca 1, 2, .inl (fun k => nI (wv k)))), (mf, .inl (ca 1, 4, .inl fs)), (mr, .inl (ca 0, 256, .inl mfr))]) (hS : va_S (fun q : Nat => s.heap.size ≤ q) s.heap H locs) (hl : lv_has ls 4 [(0, .ref b), (1, .ref x), (2, .ref mo), (3, .int (nI i0))]) : W p l e room_1 s m #[Value.ref b] below meth c H locs 600000 7302250 (lw_Z below #[Value.ref b] s) (F0 m 80 ls []) := by
  obtain ⟨hx, hb, hr, hml, hown, hts, hX, hbl, hlocks, hgv⟩ := C0
  have S0 : CallFix p m c b_law_law 4 s #[Value.ref b] gd_tbl "DownFramesLaw" := ⟨hx, hb, hml, hown, fun w h => hts w (gd_sub w h)⟩
  have hA : ∀ q : Nat, s.heap.size ≤ q → (fun q : Nat => s.heap.size ≤ q) q := fun _ h => h
  have hbA : ¬ (fun q : Nat => s.heap.size ≤ q) b := Nat.not_le.mpr hbl
  obtain ⟨k1, ⟨k2, k3, k4⟩, k5, k6, k7, k8, k9, ⟨k10, k11, k12⟩, -⟩ := id hR
  have k13 := k5 0 (by decide)
  have k14 := k5 1 (by decide)
  refine lv_aload_n hx hb d_law_law_80 rfl (lv_at hl 1 rfl) ?_
  refine lv_aload_n hx hb d_law_law_81 rfl (lv_at hl 0 rfl) ?_
  refine lv_iload_n hx hb d_law_law_82 rfl (lv_at hl 3 rfl) ?_
  refine lv_iconst (v := nI 1) hx hb d_law_law_83 (by decide) ?_
  refine lz_iadd hx hb d_law_law_84 ?_
  refine va_sld hx hb hX hbl hbA hS (vp_in_nI (n := i0 + 1) (by omega) (by omega)) d_law_law_85 ?_
  refine lz_top (y := xs (i0 + 1)) (by rw [nI_clamp (by omega)]) ?_
  refine lv_i2l hx hb d_law_law_86 rfl ?_
  refine lv_bipush (v := nI 32) hx hb d_law_law_87 (by decide) ?_
  refine lv_lshl hx hb d_law_law_89 rfl ?_
  refine lv_aload_n hx hb d_law_law_90 rfl (lv_at hl 0 rfl) ?_
  refine lv_iload_n hx hb d_law_law_91 rfl (lv_at hl 3 rfl) ?_
  refine lv_iconst (v := nI 2) hx hb d_law_law_92 (by decide) ?_
  refine lz_iadd hx hb d_law_law_93 ?_
  refine va_sld hx hb hX hbl hbA hS (vp_in_nI (n := i0 + 2) (by omega) (by omega)) d_law_law_94 ?_
  refine lz_top (y := xs (i0 + 2)) (by rw [nI_clamp (by omega)]) ?_
  refine lv_i2l hx hb d_law_law_95 rfl ?_
  refine lv_ldc2 (v := 4294967295) hx hb S0.2.2.2.1 (S0.2.2.2.2 _ q_233) d_law_law_96 ?_
  refine lv_land hx hb d_law_law_99 ?_
  refine lv_lor hx hb d_law_law_100 ?_
  refine lv_aload_n hx hb d_law_law_101 rfl (lv_at hl 0 rfl) ?_
  refine lv_iload_n hx hb d_law_law_102 rfl (lv_at hl 3 rfl) ?_
  refine lv_iconst (v := nI 3) hx hb d_law_law_103 (by decide) ?_
  refine lz_iadd hx hb d_law_law_104 ?_
  refine va_sld hx hb hX hbl hbA hS (vp_in_nI (n := i0 + 3) (by omega) (by omega)) d_law_law_105 ?_
  refine lz_top (y := xs (i0 + 3)) (by rw [nI_clamp (by omega)]) ?_
  refine k_Vi (n := 2) (As := [.long ((((xs (i0 + 1)).toInt64) <<< ((nI 32).toInt64 &&& 63)) ||| (((xs (i0 + 2)).toInt64) &&& 4294967295)), .int (xs (i0 + 3))]) (rest := []) (wc := [(x, .inr (2, [.ref tp, .int (nI n), .ref mk])), (tp, .inl (ca 0, 1024, .inl tape))]) (wr := [(mk, .inr (1, [.ref fr, .ref ch, .int (fs 0), .ref cn])), (fr, .inl (ca 0, LL, .inl frame)), (ch, .inl (ca 2, 2, .inr (.inr (.inr (.inr (chf c0 c1)))))), (cn, .inl (ca 1, 3, .inl counts)), (c0, .inr (0, [.ref r0, .int (nI fi0), .int (nI (wv 0)), .int (nI le0)])), (r0, .inl (ca 0, 4096, .inl ring0)), (c1, .inr (0, [.ref r1, .int (nI fi1), .int (nI (wv 1)), .int (nI le1)])), (r1, .inl (ca 0, 4096, .inl ring1)), (mo, .inr (3, [.int (nI 0), .int (nI LL), .ref mt, .int (nI n), .ref my, .ref mg, .ref mw, .ref mf, .ref mr, .int (nI fl_)])), (mt, .inl (ca 0, 1024, .inl tape)), (my, .inl (ca 0, 8400, .inl bs)), (mg, .inl (ca 3, 8400, .inl bg)), (mw, .inl (ca 1, 2, .inl (fun k => nI (wv k)))), (mf, .inl (ca 1, 4, .inl fs)), (mr, .inl (ca 0, 256, .inl mfr))]) (ci := 2) (q0 := 0) S0 rfl q_71 q_72 q_73 q_1 rfl rfl q_74 (by decide +kernel) hK hP hD hS hA (c_Fr_give l D ca H.size x tp mk n ((((xs (i0 + 1)).toInt64) <<< ((nI 32).toInt64 &&& 63)) ||| (((xs (i0 + 2)).toInt64) &&& 4294967295)) (xs (i0 + 3)) tape k1) [0, 1] [2, 3, 4, 5, 6, 7, 8, 9, 10, 11, 12, 13, 14, 15, 16] rfl rfl (by decide) (by decide) (by decide) ⟨Nat.le_of_ble_eq_true rfl, Nat.le_of_ble_eq_true rfl⟩ rfl hl.1 rfl (Nat.le_of_ble_eq_true rfl) ⟨Nat.le_of_ble_eq_true rfl, Nat.le_of_ble_eq_true rfl⟩ d_law_law_106 (fun r_1 u H locs hw hP hD hS => ?_)
  refine W.cs (cells' := 600000) (slots' := 7302250) rfl rfl ?_
  obtain ⟨e1, rfl⟩ := hw
  have hP : va_P D classes [(mk, .inr (1, [.ref fr, .ref ch, .int (fs 0), .ref cn])), (fr, .inl (ca 0, LL, .inl frame)), (ch, .inl (ca 2, 2, .inr (.inr (.inr (.inr (chf c0 c1)))))), (cn, .inl (ca 1, 3, .inl counts)), (c0, .inr (0, [.ref r0, .int (nI fi0), .int (nI (wv 0)), .int (nI le0)])), (r0, .inl (ca 0, 4096, .inl ring0)), (c1, .inr (0, [.ref r1, .int (nI fi1), .int (nI (wv 1)), .int (nI le1)])), (r1, .inl (ca 0, 4096, .inl ring1)), (mo, .inr (3, [.int (nI 0), .int (nI LL), .ref mt, .int (nI n), .ref my, .ref mg, .ref mw, .ref mf, .ref mr, .int (nI fl_)])), (mt, .inl (ca 0, 1024, .inl tape)), (my, .inl (ca 0, 8400, .inl bs)), (mg, .inl (ca 3, 8400, .inl bg)), (mw, .inl (ca 1, 2, .inl (fun k => nI (wv k)))), (mf, .inl (ca 1, 4, .inl fs)), (mr, .inl (ca 0, 256, .inl mfr)), (x, .inr (2, [.ref tp, .int (nI (n + gv n (xs (i0 + 3)))), .ref mk])), (tp, .inl (ca 0, 1024, .inl (bl tape n (gv n (xs (i0 + 3))) (gb ((((xs (i0 + 1)).toInt64) <<< ((nI 32).toInt64 &&& 63)) ||| (((xs (i0 + 2)).toInt64) &&& 4294967295))))))] H := hP
  have hD : va_D (fun q : Nat => s.heap.size ≤ q) [(mk, .inr (1, [.ref fr, .ref ch, .int (fs 0), .ref cn])), (fr, .inl (ca 0, LL, .inl frame)), (ch, .inl (ca 2, 2, .inr (.inr (.inr (.inr (chf c0 c1)))))), (cn, .inl (ca 1, 3, .inl counts)), (c0, .inr (0, [.ref r0, .int (nI fi0), .int (nI (wv 0)), .int (nI le0)])), (r0, .inl (ca 0, 4096, .inl ring0)), (c1, .inr (0, [.ref r1, .int (nI fi1), .int (nI (wv 1)), .int (nI le1)])), (r1, .inl (ca 0, 4096, .inl ring1)), (mo, .inr (3, [.int (nI 0), .int (nI LL), .ref mt, .int (nI n), .ref my, .ref mg, .ref mw, .ref mf, .ref mr, .int (nI fl_)])), (mt, .inl (ca 0, 1024, .inl tape)), (my, .inl (ca 0, 8400, .inl bs)), (mg, .inl (ca 3, 8400, .inl bg)), (mw, .inl (ca 1, 2, .inl (fun k => nI (wv k)))), (mf, .inl (ca 1, 4, .inl fs)), (mr, .inl (ca 0, 256, .inl mfr)), (x, .inr (2, [.ref tp, .int (nI (n + gv n (xs (i0 + 3)))), .ref mk])), (tp, .inl (ca 0, 1024, .inl (bl tape n (gv n (xs (i0 + 3))) (gb ((((xs (i0 + 1)).toInt64) <<< ((nI 32).toInt64 &&& 63)) ||| (((xs (i0 + 2)).toInt64) &&& 4294967295))))))] := hD
  refine lv_aload_n hx hb d_law_law_109 rfl (lv_at hl 2 rfl) ?_
  refine lv_aload_n hx hb d_law_law_110 rfl (lv_at hl 0 rfl) ?_
  refine lv_iload_n hx hb d_law_law_111 rfl (lv_at hl 3 rfl) ?_
  refine lv_iconst (v := nI 1) hx hb d_law_law_112 (by decide) ?_
  refine lz_iadd hx hb d_law_law_113 ?_
  refine va_sld hx hb hX hbl hbA hS (vp_in_nI (n := i0 + 1) (by omega) (by omega)) d_law_law_114 ?_
  refine lz_top (y := xs (i0 + 1)) (by rw [nI_clamp (by omega)]) ?_
  refine lv_i2l hx hb d_law_law_115 rfl ?_
  refine lv_bipush (v := nI 32) hx hb d_law_law_116 (by decide) ?_
  refine lv_lshl hx hb d_law_law_118 rfl ?_
  refine lv_aload_n hx hb d_law_law_119 rfl (lv_at hl 0 rfl) ?_
  refine lv_iload_n hx hb d_law_law_120 rfl (lv_at hl 3 rfl) ?_
  refine lv_iconst (v := nI 2) hx hb d_law_law_121 (by decide) ?_
  refine lz_iadd hx hb d_law_law_122 ?_
  refine va_sld hx hb hX hbl hbA hS (vp_in_nI (n := i0 + 2) (by omega) (by omega)) d_law_law_123 ?_
  refine lz_top (y := xs (i0 + 2)) (by rw [nI_clamp (by omega)]) ?_
  refine lv_i2l hx hb d_law_law_124 rfl ?_
  refine lv_ldc2 (v := 4294967295) hx hb S0.2.2.2.1 (S0.2.2.2.2 _ q_233) d_law_law_125 ?_
  refine lv_land hx hb d_law_law_128 ?_
  refine lv_lor hx hb d_law_law_129 ?_
  refine lv_aload_n hx hb d_law_law_130 rfl (lv_at hl 0 rfl) ?_
  refine lv_iload_n hx hb d_law_law_131 rfl (lv_at hl 3 rfl) ?_
  refine lv_iconst (v := nI 3) hx hb d_law_law_132 (by decide) ?_
  refine lz_iadd hx hb d_law_law_133 ?_
  refine va_sld hx hb hX hbl hbA hS (vp_in_nI (n := i0 + 3) (by omega) (by omega)) d_law_law_134 ?_
  refine lz_top (y := xs (i0 + 3)) (by rw [nI_clamp (by omega)]) ?_
  refine k_Vi (n := 2) (As := [.long ((((xs (i0 + 1)).toInt64) <<< ((nI 32).toInt64 &&& 63)) ||| (((xs (i0 + 2)).toInt64) &&& 4294967295)), .int (xs (i0 + 3))]) (rest := [.int r_1]) (wc := [(mo, .inr (3, [.int (nI 0), .int (nI LL), .ref mt, .int (nI n), .ref my, .ref mg, .ref mw, .ref mf, .ref mr, .int (nI fl_)])), (mt, .inl (ca 0, 1024, .inl tape))]) (wr := [(mk, .inr (1, [.ref fr, .ref ch, .int (fs 0), .ref cn])), (fr, .inl (ca 0, LL, .inl frame)), (ch, .inl (ca 2, 2, .inr (.inr (.inr (.inr (chf c0 c1)))))), (cn, .inl (ca 1, 3, .inl counts)), (c0, .inr (0, [.ref r0, .int (nI fi0), .int (nI (wv 0)), .int (nI le0)])), (r0, .inl (ca 0, 4096, .inl ring0)), (c1, .inr (0, [.ref r1, .int (nI fi1), .int (nI (wv 1)), .int (nI le1)])), (r1, .inl (ca 0, 4096, .inl ring1)), (my, .inl (ca 0, 8400, .inl bs)), (mg, .inl (ca 3, 8400, .inl bg)), (mw, .inl (ca 1, 2, .inl (fun k => nI (wv k)))), (mf, .inl (ca 1, 4, .inl fs)), (mr, .inl (ca 0, 256, .inl mfr)), (x, .inr (2, [.ref tp, .int (nI (n + gv n (xs (i0 + 3)))), .ref mk])), (tp, .inl (ca 0, 1024, .inl (bl tape n (gv n (xs (i0 + 3))) (gb ((((xs (i0 + 1)).toInt64) <<< ((nI 32).toInt64 &&& 63)) ||| (((xs (i0 + 2)).toInt64) &&& 4294967295))))))]) (ci := 3) (q0 := 0) S0 rfl q_182 q_183 q_184 q_4 rfl rfl q_185 (by decide +kernel) hK hP hD hS hA (c_Mo_give l D ca H.size mo mt my mg mw mf mr LL fl_ n ((((xs (i0 + 1)).toInt64) <<< ((nI 32).toInt64 &&& 63)) ||| (((xs (i0 + 2)).toInt64) &&& 4294967295)) (xs (i0 + 3)) tape k1) [8, 9] [0, 1, 2, 3, 4, 5, 6, 7, 10, 11, 12, 13, 14, 15, 16] rfl rfl (by decide) (by decide) (by decide) ⟨Nat.le_of_ble_eq_true rfl, Nat.le_of_ble_eq_true rfl⟩ rfl hl.1 rfl (Nat.le_of_ble_eq_true rfl) ⟨Nat.le_of_ble_eq_true rfl, Nat.le_of_ble_eq_true rfl⟩ d_law_law_135 (fun r_2 u H locs hw hP hD hS => ?_)
  refine W.cs (cells' := 600000) (slots' := 7302250) rfl rfl ?_
  obtain ⟨e2, rfl⟩ := hw
  have hP : va_P D classes [(mk, .inr (1, [.ref fr, .ref ch, .int (fs 0), .ref cn])), (fr, .inl (ca 0, LL, .inl frame)), (ch, .inl (ca 2, 2, .inr (.inr (.inr (.inr (chf c0 c1)))))), (cn, .inl (ca 1, 3, .inl counts)), (c0, .inr (0, [.ref r0, .int (nI fi0), .int (nI (wv 0)), .int (nI le0)])), (r0, .inl (ca 0, 4096, .inl ring0)), (c1, .inr (0, [.ref r1, .int (nI fi1), .int (nI (wv 1)), .int (nI le1)])), (r1, .inl (ca 0, 4096, .inl ring1)), (my, .inl (ca 0, 8400, .inl bs)), (mg, .inl (ca 3, 8400, .inl bg)), (mw, .inl (ca 1, 2, .inl (fun k => nI (wv k)))), (mf, .inl (ca 1, 4, .inl fs)), (mr, .inl (ca 0, 256, .inl mfr)), (x, .inr (2, [.ref tp, .int (nI (n + gv n (xs (i0 + 3)))), .ref mk])), (tp, .inl (ca 0, 1024, .inl (bl tape n (gv n (xs (i0 + 3))) (gb ((((xs (i0 + 1)).toInt64) <<< ((nI 32).toInt64 &&& 63)) ||| (((xs (i0 + 2)).toInt64) &&& 4294967295)))))), (mo, .inr (3, [.int (nI 0), .int (nI LL), .ref mt, .int (nI (n + gv n (xs (i0 + 3)))), .ref my, .ref mg, .ref mw, .ref mf, .ref mr, .int (nI fl_)])), (mt, .inl (ca 0, 1024, .inl (bl tape n (gv n (xs (i0 + 3))) (gb ((((xs (i0 + 1)).toInt64) <<< ((nI 32).toInt64 &&& 63)) ||| (((xs (i0 + 2)).toInt64) &&& 4294967295))))))] H := hP
  have hD : va_D (fun q : Nat => s.heap.size ≤ q) [(mk, .inr (1, [.ref fr, .ref ch, .int (fs 0), .ref cn])), (fr, .inl (ca 0, LL, .inl frame)), (ch, .inl (ca 2, 2, .inr (.inr (.inr (.inr (chf c0 c1)))))), (cn, .inl (ca 1, 3, .inl counts)), (c0, .inr (0, [.ref r0, .int (nI fi0), .int (nI (wv 0)), .int (nI le0)])), (r0, .inl (ca 0, 4096, .inl ring0)), (c1, .inr (0, [.ref r1, .int (nI fi1), .int (nI (wv 1)), .int (nI le1)])), (r1, .inl (ca 0, 4096, .inl ring1)), (my, .inl (ca 0, 8400, .inl bs)), (mg, .inl (ca 3, 8400, .inl bg)), (mw, .inl (ca 1, 2, .inl (fun k => nI (wv k)))), (mf, .inl (ca 1, 4, .inl fs)), (mr, .inl (ca 0, 256, .inl mfr)), (x, .inr (2, [.ref tp, .int (nI (n + gv n (xs (i0 + 3)))), .ref mk])), (tp, .inl (ca 0, 1024, .inl (bl tape n (gv n (xs (i0 + 3))) (gb ((((xs (i0 + 1)).toInt64) <<< ((nI 32).toInt64 &&& 63)) ||| (((xs (i0 + 2)).toInt64) &&& 4294967295)))))), (mo, .inr (3, [.int (nI 0), .int (nI LL), .ref mt, .int (nI (n + gv n (xs (i0 + 3)))), .ref my, .ref mg, .ref mw, .ref mf, .ref mr, .int (nI fl_)])), (mt, .inl (ca 0, 1024, .inl (bl tape n (gv n (xs (i0 + 3))) (gb ((((xs (i0 + 1)).toInt64) <<< ((nI 32).toInt64 &&& 63)) ||| (((xs (i0 + 2)).toInt64) &&& 4294967295))))))] := hD
  refine lv_icmp_eq (tgt := 258) hx hb d_law_law_138 (by decide) (fun h9 => ?_) (fun h9 => ?_)
  · refine lv_iinc (v := nI (i0 + 4)) (lv' := [(3, .int (nI (i0 + 4))), (0, .ref b), (1, .ref x), (2, .ref mo)]) hx hb d_law_law_258 hl (k := 3) rfl (nI_inc4 _) (by decide) rfl (fun ls hl => ?_)
    refine lv_goto (tgt := 28) hx hb d_law_law_261 (by decide) ?_
    exact ih (i0 + 4) (n + gv n (xs (i0 + 3))) fi0 le0 fi1 le1 fl_ (bl tape n (gv n (xs (i0 + 3))) (gb ((((xs (i0 + 1)).toInt64) <<< ((nI 32).toInt64 &&& 63)) ||| (((xs (i0 + 2)).toInt64) &&& 4294967295)))) frame counts ring0 ring1 bs bg fs mfr wv H locs ls rfl ((hR.give _).mono (by omega)) (hP.sub [13, 14, 0, 1, 2, 3, 4, 5, 6, 7, 15, 16, 8, 9, 10, 11, 12] rfl) (hD.sub [13, 14, 0, 1, 2, 3, 4, 5, 6, 7, 15, 16, 8, 9, 10, 11, 12] (by decide) rfl) hS (lv_sub hl [1, 2, 3, 0] rfl)
  · exact absurd (e1.trans e2.symm) h9
set_option maxHeartbeats 1000000 in
set_option maxRecDepth 100000 in
theorem law_1 {p : Program} {l : Launch} {e : Env} {s : State} {m : MethodId} {below : List Frame} {meth : Method} {c : Code} {D : va_G} {ca : Nat → ClassId} {b L : Nat} {xs : Nat → Int32} (x tp mk fr ch cn c0 r0 c1 r1 mo mt my mg mw mf mr LL F : Nat) (hL : L ≤ 2049) (C0 : lw_At p s m meth c b L xs) (hK : PW D ca s) (i0 : Nat) (h4 : i0 + 4 ≤ L) (n fi0 le0 fi1 le1 fl_ : Nat) (tape frame counts ring0 ring1 bs bg fs mfr : Nat → Int32) (wv : Nat → Nat)
    (ih : ∀ (i : Nat) (n fi0 le0 fi1 le1 fl_ : Nat) (tape frame counts ring0 ring1 bs bg fs mfr : Nat → Int32) (wv : Nat → Nat) (H : Heap) (locs : List Loc) (ls : Array Slot), i = i0 + 4 → Rel LL F i n frame counts (ring0, fi0, le0) (ring1, fi1, le1) bs bg fs mfr wv fl_ → va_P D classes [(x, .inr (2, [.ref tp, .int (nI n), .ref mk])), (tp, .inl (ca 0, 1024, .inl tape)), (mk, .inr (1, [.ref fr, .ref ch, .int (fs 0), .ref cn])), (fr, .inl (ca 0, LL, .inl frame)), (ch, .inl (ca 2, 2, .inr (.inr (.inr (.inr (chf c0 c1)))))), (cn, .inl (ca 1, 3, .inl counts)), (c0, .inr (0, [.ref r0, .int (nI fi0), .int (nI (wv 0)), .int (nI le0)])), (r0, .inl (ca 0, 4096, .inl ring0)), (c1, .inr (0, [.ref r1, .int (nI fi1), .int (nI (wv 1)), .int (nI le1)])), (r1, .inl (ca 0, 4096, .inl ring1)), (mo, .inr (3, [.int (nI 0), .int (nI LL), .ref mt, .int (nI n), .ref my, .ref mg, .ref mw, .ref mf, .ref mr, .int (nI fl_)])), (mt, .inl (ca 0, 1024, .inl tape)), (my, .inl (ca 0, 8400, .inl bs)), (mg, .inl (ca 3, 8400, .inl bg)), (mw, .inl (ca 1, 2, .inl (fun k => nI (wv k)))), (mf, .inl (ca 1, 4, .inl fs)), (mr, .inl (ca 0, 256, .inl mfr))] H → va_D (fun q : Nat => s.heap.size ≤ q) [(x, .inr (2, [.ref tp, .int (nI n), .ref mk])), (tp, .inl (ca 0, 1024, .inl tape)), (mk, .inr (1, [.ref fr, .ref ch, .int (fs 0), .ref cn])), (fr, .inl (ca 0, LL, .inl frame)), (ch, .inl (ca 2, 2, .inr (.inr (.inr (.inr (chf c0 c1)))))), (cn, .inl (ca 1, 3, .inl counts)), (c0, .inr (0, [.ref r0, .int (nI fi0), .int (nI (wv 0)), .int (nI le0)])), (r0, .inl (ca 0, 4096, .inl ring0)), (c1, .inr (0, [.ref r1, .int (nI fi1), .int (nI (wv 1)), .int (nI le1)])), (r1, .inl (ca 0, 4096, .inl ring1)), (mo, .inr (3, [.int (nI 0), .int (nI LL), .ref mt, .int (nI n), .ref my, .ref mg, .ref mw, .ref mf, .ref mr, .int (nI fl_)])), (mt, .inl (ca 0, 1024, .inl tape)), (my, .inl (ca 0, 8400, .inl bs)), (mg, .inl (ca 3, 8400, .inl bg)), (mw, .inl (ca 1, 2, .inl (fun k => nI (wv k)))), (mf, .inl (ca 1, 4, .inl fs)), (mr, .inl (ca 0, 256, .inl mfr))] → va_S (fun q : Nat => s.heap.size ≤ q) s.heap H locs → lv_has ls 4 [(0, .ref b), (1, .ref x), (2, .ref mo), (3, .int (nI i))] → W p l e room_1 s m #[Value.ref b] below meth c H locs 600000 7302250 (lw_Z below #[Value.ref b] s) (F0 m 28 ls [])) (H : Heap) (locs : List Loc) (ls : Array Slot) (hR : Rel LL F i0 n frame counts (ring0, fi0, le0) (ring1, fi1, le1) bs bg fs mfr wv fl_) (hP : va_P D classes [(x, .inr (2, [.ref tp, .int (nI n), .ref mk])), (tp, .inl (ca 0, 1024, .inl tape)), (mk, .inr (1, [.ref fr, .ref ch, .int (fs 0), .ref cn])), (fr, .inl (ca 0, LL, .inl frame)), (ch, .inl (ca 2, 2, .inr (.inr (.inr (.inr (chf c0 c1)))))), (cn, .inl (ca 1, 3, .inl counts)), (c0, .inr (0, [.ref r0, .int (nI fi0), .int (nI (wv 0)), .int (nI le0)])), (r0, .inl (ca 0, 4096, .inl ring0)), (c1, .inr (0, [.ref r1, .int (nI fi1), .int (nI (wv 1)), .int (nI le1)])), (r1, .inl (ca 0, 4096, .inl ring1)), (mo, .inr (3, [.int (nI 0), .int (nI LL), .ref mt, .int (nI n), .ref my, .ref mg, .ref mw, .ref mf, .ref mr, .int (nI fl_)])), (mt, .inl (ca 0, 1024, .inl tape)), (my, .inl (ca 0, 8400, .inl bs)), (mg, .inl (ca 3, 8400, .inl bg)), (mw, .inl (ca 1, 2, .inl (fun k => nI (wv k)))), (mf, .inl (ca 1, 4, .inl fs)), (mr, .inl (ca 0, 256, .inl mfr))] H) (hD : va_D (fun q : Nat => s.heap.size ≤ q) [(x, .inr (2, [.ref tp, .int (nI n), .ref mk])), (tp, .inl (ca 0, 1024, .inl tape)), (mk, .inr (1, [.ref fr, .ref ch, .int (fs 0), .ref cn])), (fr, .inl (ca 0, LL, .inl frame)), (ch, .inl (ca 2, 2, .inr (.inr (.inr (.inr (chf c0 c1)))))), (cn, .inl (ca 1, 3, .inl counts)), (c0, .inr (0, [.ref r0, .int (nI fi0), .int (nI (wv 0)), .int (nI le0)])), (r0, .inl (ca 0, 4096, .inl ring0)), (c1, .inr (0, [.ref r1, .int (nI fi1), .int (nI (wv 1)), .int (nI le1)])), (r1, .inl (ca 0, 4096, .inl ring1)), (mo, .inr (3, [.int (nI 0), .int (nI LL), .ref mt, .int (nI n), .ref my, .ref mg, .ref mw, .ref mf, .ref mr, .int (nI fl_)])), (mt, .inl (ca 0, 1024, .inl tape)), (my, .inl (ca 0, 8400, .inl bs)), (mg, .inl (ca 3, 8400, .inl bg)), (mw, .inl (ca 1, 2, .inl (fun k => nI (wv k)))), (mf, .inl (ca 1, 4, .inl fs)), (mr, .inl (ca 0, 256, .inl mfr))]) (hS : va_S (fun q : Nat => s.heap.size ≤ q) s.heap H locs) (hl : lv_has ls 4 [(0, .ref b), (1, .ref x), (2, .ref mo), (3, .int (nI i0))]) : W p l e room_1 s m #[Value.ref b] below meth c H locs 600000 7302250 (lw_Z below #[Value.ref b] s) (F0 m 143 ls []) := by
  obtain ⟨hx, hb, hr, hml, hown, hts, hX, hbl, hlocks, hgv⟩ := C0
  have S0 : CallFix p m c b_law_law 4 s #[Value.ref b] gd_tbl "DownFramesLaw" := ⟨hx, hb, hml, hown, fun w h => hts w (gd_sub w h)⟩
  have hA : ∀ q : Nat, s.heap.size ≤ q → (fun q : Nat => s.heap.size ≤ q) q := fun _ h => h
  have hbA : ¬ (fun q : Nat => s.heap.size ≤ q) b := Nat.not_le.mpr hbl
  obtain ⟨k1, ⟨k2, k3, k4⟩, k5, k6, k7, k8, k9, ⟨k10, k11, k12⟩, -⟩ := id hR
  have k13 := k5 0 (by decide)
  have k14 := k5 1 (by decide)
  refine lv_aload_n hx hb d_law_law_143 rfl (lv_at hl 1 rfl) ?_
  refine lv_aload_n hx hb d_law_law_144 rfl (lv_at hl 0 rfl) ?_
  refine lv_iload_n hx hb d_law_law_145 rfl (lv_at hl 3 rfl) ?_
  refine lv_iconst (v := nI 1) hx hb d_law_law_146 (by decide) ?_
  refine lz_iadd hx hb d_law_law_147 ?_
  refine va_sld hx hb hX hbl hbA hS (vp_in_nI (n := i0 + 1) (by omega) (by omega)) d_law_law_148 ?_
  refine lz_top (y := xs (i0 + 1)) (by rw [nI_clamp (by omega)]) ?_
  refine k_Vi (n := 1) (As := [.int (xs (i0 + 1))]) (rest := []) (wc := [(x, .inr (2, [.ref tp, .int (nI n), .ref mk])), (tp, .inl (ca 0, 1024, .inl tape)), (mk, .inr (1, [.ref fr, .ref ch, .int (fs 0), .ref cn])), (fr, .inl (ca 0, LL, .inl frame)), (ch, .inl (ca 2, 2, .inr (.inr (.inr (.inr (chf c0 c1)))))), (cn, .inl (ca 1, 3, .inl counts)), (c0, .inr (0, [.ref r0, .int (nI fi0), .int (nI (wv 0)), .int (nI le0)])), (r0, .inl (ca 0, 4096, .inl ring0)), (c1, .inr (0, [.ref r1, .int (nI fi1), .int (nI (wv 1)), .int (nI le1)])), (r1, .inl (ca 0, 4096, .inl ring1))]) (wr := [(mo, .inr (3, [.int (nI 0), .int (nI LL), .ref mt, .int (nI n), .ref my, .ref mg, .ref mw, .ref mf, .ref mr, .int (nI fl_)])), (mt, .inl (ca 0, 1024, .inl tape)), (my, .inl (ca 0, 8400, .inl bs)), (mg, .inl (ca 3, 8400, .inl bg)), (mw, .inl (ca 1, 2, .inl (fun k => nI (wv k)))), (mf, .inl (ca 1, 4, .inl fs)), (mr, .inl (ca 0, 256, .inl mfr))]) (ci := 2) (q0 := 0) S0 rfl q_75 q_76 q_77 q_1 rfl rfl q_78 (by decide +kernel) hK hP hD hS hA (c_Fr_send l D ca H.size x tp mk fr ch cn c0 r0 c1 r1 LL n fi0 (wv 0) le0 fi1 (wv 1) le1 (fs 0) (xs (i0 + 1)) tape frame counts ring0 ring1 (qc bs 0) (qc bg 0) (qc bs 1) (qc bg 1) k1 k13 k14 k6 k7) [0, 1, 2, 3, 4, 5, 6, 7, 8, 9] [10, 11, 12, 13, 14, 15, 16] rfl rfl (by decide) (by decide) (by decide) ⟨Nat.le_of_ble_eq_true rfl, Nat.le_of_ble_eq_true rfl⟩ rfl hl.1 rfl (Nat.le_of_ble_eq_true rfl) ⟨Nat.le_of_ble_eq_true rfl, Nat.le_of_ble_eq_true rfl⟩ d_law_law_149 (fun r_1 u H locs hw1 hP hD hS => ?_)
  refine W.cs (cells' := 600000) (slots' := 7302250) rfl rfl ?_
  obtain ⟨⟨⟨ring2, fi2, le2⟩, w2⟩, ⟨⟨ring3, fi3, le3⟩, w3⟩⟩ := u
  have hP : va_P D classes [(mo, .inr (3, [.int (nI 0), .int (nI LL), .ref mt, .int (nI n), .ref my, .ref mg, .ref mw, .ref mf, .ref mr, .int (nI fl_)])), (mt, .inl (ca 0, 1024, .inl tape)), (my, .inl (ca 0, 8400, .inl bs)), (mg, .inl (ca 3, 8400, .inl bg)), (mw, .inl (ca 1, 2, .inl (fun k => nI (wv k)))), (mf, .inl (ca 1, 4, .inl fs)), (mr, .inl (ca 0, 256, .inl mfr)), (x, .inr (2, [.ref tp, .int (nI 0), .ref mk])), (tp, .inl (ca 0, 1024, .inl tape)), (mk, .inr (1, [.ref fr, .ref ch, .int (fs 0), .ref cn])), (fr, .inl (ca 0, LL, .inl frame)), (ch, .inl (ca 2, 2, .inr (.inr (.inr (.inr (chf c0 c1)))))), (cn, .inl (ca 1, 3, .inl counts)), (c0, .inr (0, [.ref r0, .int (nI fi2), .int (nI w2), .int (nI le2)])), (r0, .inl (ca 0, 4096, .inl ring2)), (c1, .inr (0, [.ref r1, .int (nI fi3), .int (nI w3), .int (nI le3)])), (r1, .inl (ca 0, 4096, .inl ring3))] H := hP
  have hD : va_D (fun q : Nat => s.heap.size ≤ q) [(mo, .inr (3, [.int (nI 0), .int (nI LL), .ref mt, .int (nI n), .ref my, .ref mg, .ref mw, .ref mf, .ref mr, .int (nI fl_)])), (mt, .inl (ca 0, 1024, .inl tape)), (my, .inl (ca 0, 8400, .inl bs)), (mg, .inl (ca 3, 8400, .inl bg)), (mw, .inl (ca 1, 2, .inl (fun k => nI (wv k)))), (mf, .inl (ca 1, 4, .inl fs)), (mr, .inl (ca 0, 256, .inl mfr)), (x, .inr (2, [.ref tp, .int (nI 0), .ref mk])), (tp, .inl (ca 0, 1024, .inl tape)), (mk, .inr (1, [.ref fr, .ref ch, .int (fs 0), .ref cn])), (fr, .inl (ca 0, LL, .inl frame)), (ch, .inl (ca 2, 2, .inr (.inr (.inr (.inr (chf c0 c1)))))), (cn, .inl (ca 1, 3, .inl counts)), (c0, .inr (0, [.ref r0, .int (nI fi2), .int (nI w2), .int (nI le2)])), (r0, .inl (ca 0, 4096, .inl ring2)), (c1, .inr (0, [.ref r1, .int (nI fi3), .int (nI w3), .int (nI le3)])), (r1, .inl (ca 0, 4096, .inl ring3))] := hD
  refine lv_aload_n hx hb d_law_law_152 rfl (lv_at hl 2 rfl) ?_
  refine lv_aload_n hx hb d_law_law_153 rfl (lv_at hl 0 rfl) ?_
  refine lv_iload_n hx hb d_law_law_154 rfl (lv_at hl 3 rfl) ?_
  refine lv_iconst (v := nI 1) hx hb d_law_law_155 (by decide) ?_
  refine lz_iadd hx hb d_law_law_156 ?_
  refine va_sld hx hb hX hbl hbA hS (vp_in_nI (n := i0 + 1) (by omega) (by omega)) d_law_law_157 ?_
  refine lz_top (y := xs (i0 + 1)) (by rw [nI_clamp (by omega)]) ?_
  refine k_Vi (n := 1) (As := [.int (xs (i0 + 1))]) (rest := [.int r_1]) (wc := [(mo, .inr (3, [.int (nI 0), .int (nI LL), .ref mt, .int (nI n), .ref my, .ref mg, .ref mw, .ref mf, .ref mr, .int (nI fl_)])), (mt, .inl (ca 0, 1024, .inl tape)), (my, .inl (ca 0, 8400, .inl bs)), (mg, .inl (ca 3, 8400, .inl bg)), (mw, .inl (ca 1, 2, .inl (fun k => nI (wv k))))]) (wr := [(mf, .inl (ca 1, 4, .inl fs)), (mr, .inl (ca 0, 256, .inl mfr)), (x, .inr (2, [.ref tp, .int (nI 0), .ref mk])), (tp, .inl (ca 0, 1024, .inl tape)), (mk, .inr (1, [.ref fr, .ref ch, .int (fs 0), .ref cn])), (fr, .inl (ca 0, LL, .inl frame)), (ch, .inl (ca 2, 2, .inr (.inr (.inr (.inr (chf c0 c1)))))), (cn, .inl (ca 1, 3, .inl counts)), (c0, .inr (0, [.ref r0, .int (nI fi2), .int (nI w2), .int (nI le2)])), (r0, .inl (ca 0, 4096, .inl ring2)), (c1, .inr (0, [.ref r1, .int (nI fi3), .int (nI w3), .int (nI le3)])), (r1, .inl (ca 0, 4096, .inl ring3))]) (ci := 3) (q0 := 0) S0 rfl q_186 q_187 q_188 q_4 rfl rfl q_189 (by decide +kernel) hK hP hD hS hA (c_Mo_send l D ca H.size mo mt my mg mw mf mr LL fl_ n (xs (i0 + 1)) tape bs bg wv k1 k5) [0, 1, 2, 3, 4] [5, 6, 7, 8, 9, 10, 11, 12, 13, 14, 15, 16] rfl rfl (by decide) (by decide) (by decide) ⟨Nat.le_of_ble_eq_true rfl, Nat.le_of_ble_eq_true rfl⟩ rfl hl.1 rfl (Nat.le_of_ble_eq_true rfl) ⟨Nat.le_of_ble_eq_true rfl, Nat.le_of_ble_eq_true rfl⟩ d_law_law_158 (fun r_2 u2 H locs hw2 hP hD hS => ?_)
  refine W.cs (cells' := 600000) (slots' := 7302250) rfl rfl ?_
  obtain ⟨bs2, bg2, wv2⟩ := u2
  have hP : va_P D classes [(mf, .inl (ca 1, 4, .inl fs)), (mr, .inl (ca 0, 256, .inl mfr)), (x, .inr (2, [.ref tp, .int (nI 0), .ref mk])), (tp, .inl (ca 0, 1024, .inl tape)), (mk, .inr (1, [.ref fr, .ref ch, .int (fs 0), .ref cn])), (fr, .inl (ca 0, LL, .inl frame)), (ch, .inl (ca 2, 2, .inr (.inr (.inr (.inr (chf c0 c1)))))), (cn, .inl (ca 1, 3, .inl counts)), (c0, .inr (0, [.ref r0, .int (nI fi2), .int (nI w2), .int (nI le2)])), (r0, .inl (ca 0, 4096, .inl ring2)), (c1, .inr (0, [.ref r1, .int (nI fi3), .int (nI w3), .int (nI le3)])), (r1, .inl (ca 0, 4096, .inl ring3)), (mo, .inr (3, [.int (nI 0), .int (nI LL), .ref mt, .int (nI 0), .ref my, .ref mg, .ref mw, .ref mf, .ref mr, .int (nI fl_)])), (mt, .inl (ca 0, 1024, .inl tape)), (my, .inl (ca 0, 8400, .inl bs2)), (mg, .inl (ca 3, 8400, .inl bg2)), (mw, .inl (ca 1, 2, .inl (fun k => nI (wv2 k))))] H := hP
  have hD : va_D (fun q : Nat => s.heap.size ≤ q) [(mf, .inl (ca 1, 4, .inl fs)), (mr, .inl (ca 0, 256, .inl mfr)), (x, .inr (2, [.ref tp, .int (nI 0), .ref mk])), (tp, .inl (ca 0, 1024, .inl tape)), (mk, .inr (1, [.ref fr, .ref ch, .int (fs 0), .ref cn])), (fr, .inl (ca 0, LL, .inl frame)), (ch, .inl (ca 2, 2, .inr (.inr (.inr (.inr (chf c0 c1)))))), (cn, .inl (ca 1, 3, .inl counts)), (c0, .inr (0, [.ref r0, .int (nI fi2), .int (nI w2), .int (nI le2)])), (r0, .inl (ca 0, 4096, .inl ring2)), (c1, .inr (0, [.ref r1, .int (nI fi3), .int (nI w3), .int (nI le3)])), (r1, .inl (ca 0, 4096, .inl ring3)), (mo, .inr (3, [.int (nI 0), .int (nI LL), .ref mt, .int (nI 0), .ref my, .ref mg, .ref mw, .ref mf, .ref mr, .int (nI fl_)])), (mt, .inl (ca 0, 1024, .inl tape)), (my, .inl (ca 0, 8400, .inl bs2)), (mg, .inl (ca 3, 8400, .inl bg2)), (mw, .inl (ca 1, 2, .inl (fun k => nI (wv2 k))))] := hD
  obtain ⟨e1, e2, e3, hR2⟩ := hR.send hw1 hw2
  dsimp only at e2 e3 hR2
  subst e2
  subst e3
  have hP : va_P D classes [(mf, .inl (ca 1, 4, .inl fs)), (mr, .inl (ca 0, 256, .inl mfr)), (x, .inr (2, [.ref tp, .int (nI 0), .ref mk])), (tp, .inl (ca 0, 1024, .inl tape)), (mk, .inr (1, [.ref fr, .ref ch, .int (fs 0), .ref cn])), (fr, .inl (ca 0, LL, .inl frame)), (ch, .inl (ca 2, 2, .inr (.inr (.inr (.inr (chf c0 c1)))))), (cn, .inl (ca 1, 3, .inl counts)), (c0, .inr (0, [.ref r0, .int (nI fi2), .int (nI (wv2 0)), .int (nI le2)])), (r0, .inl (ca 0, 4096, .inl ring2)), (c1, .inr (0, [.ref r1, .int (nI fi3), .int (nI (wv2 1)), .int (nI le3)])), (r1, .inl (ca 0, 4096, .inl ring3)), (mo, .inr (3, [.int (nI 0), .int (nI LL), .ref mt, .int (nI 0), .ref my, .ref mg, .ref mw, .ref mf, .ref mr, .int (nI fl_)])), (mt, .inl (ca 0, 1024, .inl tape)), (my, .inl (ca 0, 8400, .inl bs2)), (mg, .inl (ca 3, 8400, .inl bg2)), (mw, .inl (ca 1, 2, .inl (fun k => nI (wv2 k))))] H := hP
  have hD : va_D (fun q : Nat => s.heap.size ≤ q) [(mf, .inl (ca 1, 4, .inl fs)), (mr, .inl (ca 0, 256, .inl mfr)), (x, .inr (2, [.ref tp, .int (nI 0), .ref mk])), (tp, .inl (ca 0, 1024, .inl tape)), (mk, .inr (1, [.ref fr, .ref ch, .int (fs 0), .ref cn])), (fr, .inl (ca 0, LL, .inl frame)), (ch, .inl (ca 2, 2, .inr (.inr (.inr (.inr (chf c0 c1)))))), (cn, .inl (ca 1, 3, .inl counts)), (c0, .inr (0, [.ref r0, .int (nI fi2), .int (nI (wv2 0)), .int (nI le2)])), (r0, .inl (ca 0, 4096, .inl ring2)), (c1, .inr (0, [.ref r1, .int (nI fi3), .int (nI (wv2 1)), .int (nI le3)])), (r1, .inl (ca 0, 4096, .inl ring3)), (mo, .inr (3, [.int (nI 0), .int (nI LL), .ref mt, .int (nI 0), .ref my, .ref mg, .ref mw, .ref mf, .ref mr, .int (nI fl_)])), (mt, .inl (ca 0, 1024, .inl tape)), (my, .inl (ca 0, 8400, .inl bs2)), (mg, .inl (ca 3, 8400, .inl bg2)), (mw, .inl (ca 1, 2, .inl (fun k => nI (wv2 k))))] := hD
  refine lv_icmp_eq (tgt := 258) hx hb d_law_law_161 (by decide) (fun h9 => ?_) (fun h9 => ?_)
  · refine lv_iinc (v := nI (i0 + 4)) (lv' := [(3, .int (nI (i0 + 4))), (0, .ref b), (1, .ref x), (2, .ref mo)]) hx hb d_law_law_258 hl (k := 3) rfl (nI_inc4 _) (by decide) rfl (fun ls hl => ?_)
    refine lv_goto (tgt := 28) hx hb d_law_law_261 (by decide) ?_
    exact ih (i0 + 4) 0 fi2 le2 fi3 le3 fl_ tape frame counts ring2 ring3 bs2 bg2 fs mfr wv2 H locs ls rfl (hR2.mono (by omega)) (hP.sub [2, 3, 4, 5, 6, 7, 8, 9, 10, 11, 12, 13, 14, 15, 16, 0, 1] rfl) (hD.sub [2, 3, 4, 5, 6, 7, 8, 9, 10, 11, 12, 13, 14, 15, 16, 0, 1] (by decide) rfl) hS (lv_sub hl [1, 2, 3, 0] rfl)
  · exact absurd (e1) h9
set_option maxHeartbeats 1000000 in
set_option maxRecDepth 100000 in
theorem law_2 {p : Program} {l : Launch} {e : Env} {s : State} {m : MethodId} {below : List Frame} {meth : Method} {c : Code} {D : va_G} {ca : Nat → ClassId} {b L : Nat} {xs : Nat → Int32} (x tp mk fr ch cn c0 r0 c1 r1 mo mt my mg mw mf mr LL F : Nat) (hL : L ≤ 2049) (C0 : lw_At p s m meth c b L xs) (hK : PW D ca s) (i0 : Nat) (h4 : i0 + 4 ≤ L) (n fi0 le0 fi1 le1 fl_ : Nat) (tape frame counts ring0 ring1 bs bg fs mfr : Nat → Int32) (wv : Nat → Nat)
    (ih : ∀ (i : Nat) (n fi0 le0 fi1 le1 fl_ : Nat) (tape frame counts ring0 ring1 bs bg fs mfr : Nat → Int32) (wv : Nat → Nat) (H : Heap) (locs : List Loc) (ls : Array Slot), i = i0 + 4 → Rel LL F i n frame counts (ring0, fi0, le0) (ring1, fi1, le1) bs bg fs mfr wv fl_ → va_P D classes [(x, .inr (2, [.ref tp, .int (nI n), .ref mk])), (tp, .inl (ca 0, 1024, .inl tape)), (mk, .inr (1, [.ref fr, .ref ch, .int (fs 0), .ref cn])), (fr, .inl (ca 0, LL, .inl frame)), (ch, .inl (ca 2, 2, .inr (.inr (.inr (.inr (chf c0 c1)))))), (cn, .inl (ca 1, 3, .inl counts)), (c0, .inr (0, [.ref r0, .int (nI fi0), .int (nI (wv 0)), .int (nI le0)])), (r0, .inl (ca 0, 4096, .inl ring0)), (c1, .inr (0, [.ref r1, .int (nI fi1), .int (nI (wv 1)), .int (nI le1)])), (r1, .inl (ca 0, 4096, .inl ring1)), (mo, .inr (3, [.int (nI 0), .int (nI LL), .ref mt, .int (nI n), .ref my, .ref mg, .ref mw, .ref mf, .ref mr, .int (nI fl_)])), (mt, .inl (ca 0, 1024, .inl tape)), (my, .inl (ca 0, 8400, .inl bs)), (mg, .inl (ca 3, 8400, .inl bg)), (mw, .inl (ca 1, 2, .inl (fun k => nI (wv k)))), (mf, .inl (ca 1, 4, .inl fs)), (mr, .inl (ca 0, 256, .inl mfr))] H → va_D (fun q : Nat => s.heap.size ≤ q) [(x, .inr (2, [.ref tp, .int (nI n), .ref mk])), (tp, .inl (ca 0, 1024, .inl tape)), (mk, .inr (1, [.ref fr, .ref ch, .int (fs 0), .ref cn])), (fr, .inl (ca 0, LL, .inl frame)), (ch, .inl (ca 2, 2, .inr (.inr (.inr (.inr (chf c0 c1)))))), (cn, .inl (ca 1, 3, .inl counts)), (c0, .inr (0, [.ref r0, .int (nI fi0), .int (nI (wv 0)), .int (nI le0)])), (r0, .inl (ca 0, 4096, .inl ring0)), (c1, .inr (0, [.ref r1, .int (nI fi1), .int (nI (wv 1)), .int (nI le1)])), (r1, .inl (ca 0, 4096, .inl ring1)), (mo, .inr (3, [.int (nI 0), .int (nI LL), .ref mt, .int (nI n), .ref my, .ref mg, .ref mw, .ref mf, .ref mr, .int (nI fl_)])), (mt, .inl (ca 0, 1024, .inl tape)), (my, .inl (ca 0, 8400, .inl bs)), (mg, .inl (ca 3, 8400, .inl bg)), (mw, .inl (ca 1, 2, .inl (fun k => nI (wv k)))), (mf, .inl (ca 1, 4, .inl fs)), (mr, .inl (ca 0, 256, .inl mfr))] → va_S (fun q : Nat => s.heap.size ≤ q) s.heap H locs → lv_has ls 4 [(0, .ref b), (1, .ref x), (2, .ref mo), (3, .int (nI i))] → W p l e room_1 s m #[Value.ref b] below meth c H locs 600000 7302250 (lw_Z below #[Value.ref b] s) (F0 m 28 ls [])) (H : Heap) (locs : List Loc) (ls : Array Slot) (hR : Rel LL F i0 n frame counts (ring0, fi0, le0) (ring1, fi1, le1) bs bg fs mfr wv fl_) (hP : va_P D classes [(x, .inr (2, [.ref tp, .int (nI n), .ref mk])), (tp, .inl (ca 0, 1024, .inl tape)), (mk, .inr (1, [.ref fr, .ref ch, .int (fs 0), .ref cn])), (fr, .inl (ca 0, LL, .inl frame)), (ch, .inl (ca 2, 2, .inr (.inr (.inr (.inr (chf c0 c1)))))), (cn, .inl (ca 1, 3, .inl counts)), (c0, .inr (0, [.ref r0, .int (nI fi0), .int (nI (wv 0)), .int (nI le0)])), (r0, .inl (ca 0, 4096, .inl ring0)), (c1, .inr (0, [.ref r1, .int (nI fi1), .int (nI (wv 1)), .int (nI le1)])), (r1, .inl (ca 0, 4096, .inl ring1)), (mo, .inr (3, [.int (nI 0), .int (nI LL), .ref mt, .int (nI n), .ref my, .ref mg, .ref mw, .ref mf, .ref mr, .int (nI fl_)])), (mt, .inl (ca 0, 1024, .inl tape)), (my, .inl (ca 0, 8400, .inl bs)), (mg, .inl (ca 3, 8400, .inl bg)), (mw, .inl (ca 1, 2, .inl (fun k => nI (wv k)))), (mf, .inl (ca 1, 4, .inl fs)), (mr, .inl (ca 0, 256, .inl mfr))] H) (hD : va_D (fun q : Nat => s.heap.size ≤ q) [(x, .inr (2, [.ref tp, .int (nI n), .ref mk])), (tp, .inl (ca 0, 1024, .inl tape)), (mk, .inr (1, [.ref fr, .ref ch, .int (fs 0), .ref cn])), (fr, .inl (ca 0, LL, .inl frame)), (ch, .inl (ca 2, 2, .inr (.inr (.inr (.inr (chf c0 c1)))))), (cn, .inl (ca 1, 3, .inl counts)), (c0, .inr (0, [.ref r0, .int (nI fi0), .int (nI (wv 0)), .int (nI le0)])), (r0, .inl (ca 0, 4096, .inl ring0)), (c1, .inr (0, [.ref r1, .int (nI fi1), .int (nI (wv 1)), .int (nI le1)])), (r1, .inl (ca 0, 4096, .inl ring1)), (mo, .inr (3, [.int (nI 0), .int (nI LL), .ref mt, .int (nI n), .ref my, .ref mg, .ref mw, .ref mf, .ref mr, .int (nI fl_)])), (mt, .inl (ca 0, 1024, .inl tape)), (my, .inl (ca 0, 8400, .inl bs)), (mg, .inl (ca 3, 8400, .inl bg)), (mw, .inl (ca 1, 2, .inl (fun k => nI (wv k)))), (mf, .inl (ca 1, 4, .inl fs)), (mr, .inl (ca 0, 256, .inl mfr))]) (hS : va_S (fun q : Nat => s.heap.size ≤ q) s.heap H locs) (hl : lv_has ls 4 [(0, .ref b), (1, .ref x), (2, .ref mo), (3, .int (nI i0))]) : W p l e room_1 s m #[Value.ref b] below meth c H locs 600000 7302250 (lw_Z below #[Value.ref b] s) (F0 m 166 ls []) := by
  obtain ⟨hx, hb, hr, hml, hown, hts, hX, hbl, hlocks, hgv⟩ := C0
  have S0 : CallFix p m c b_law_law 4 s #[Value.ref b] gd_tbl "DownFramesLaw" := ⟨hx, hb, hml, hown, fun w h => hts w (gd_sub w h)⟩
  have hA : ∀ q : Nat, s.heap.size ≤ q → (fun q : Nat => s.heap.size ≤ q) q := fun _ h => h
  have hbA : ¬ (fun q : Nat => s.heap.size ≤ q) b := Nat.not_le.mpr hbl
  obtain ⟨k1, ⟨k2, k3, k4⟩, k5, k6, k7, k8, k9, ⟨k10, k11, k12⟩, -⟩ := id hR
  have k13 := k5 0 (by decide)
  have k14 := k5 1 (by decide)
  refine lv_aload_n hx hb d_law_law_166 rfl (lv_at hl 1 rfl) ?_
  refine lv_aload_n hx hb d_law_law_167 rfl (lv_at hl 0 rfl) ?_
  refine lv_iload_n hx hb d_law_law_168 rfl (lv_at hl 3 rfl) ?_
  refine lv_iconst (v := nI 1) hx hb d_law_law_169 (by decide) ?_
  refine lz_iadd hx hb d_law_law_170 ?_
  refine va_sld hx hb hX hbl hbA hS (vp_in_nI (n := i0 + 1) (by omega) (by omega)) d_law_law_171 ?_
  refine lz_top (y := xs (i0 + 1)) (by rw [nI_clamp (by omega)]) ?_
  refine k_Vi (n := 1) (As := [.int (xs (i0 + 1))]) (rest := []) (wc := [(x, .inr (2, [.ref tp, .int (nI n), .ref mk])), (tp, .inl (ca 0, 1024, .inl tape)), (mk, .inr (1, [.ref fr, .ref ch, .int (fs 0), .ref cn])), (fr, .inl (ca 0, LL, .inl frame)), (ch, .inl (ca 2, 2, .inr (.inr (.inr (.inr (chf c0 c1)))))), (cn, .inl (ca 1, 3, .inl counts)), (c0, .inr (0, [.ref r0, .int (nI fi0), .int (nI (wv 0)), .int (nI le0)])), (r0, .inl (ca 0, 4096, .inl ring0)), (c1, .inr (0, [.ref r1, .int (nI fi1), .int (nI (wv 1)), .int (nI le1)])), (r1, .inl (ca 0, 4096, .inl ring1))]) (wr := [(mo, .inr (3, [.int (nI 0), .int (nI LL), .ref mt, .int (nI n), .ref my, .ref mg, .ref mw, .ref mf, .ref mr, .int (nI fl_)])), (mt, .inl (ca 0, 1024, .inl tape)), (my, .inl (ca 0, 8400, .inl bs)), (mg, .inl (ca 3, 8400, .inl bg)), (mw, .inl (ca 1, 2, .inl (fun k => nI (wv k)))), (mf, .inl (ca 1, 4, .inl fs)), (mr, .inl (ca 0, 256, .inl mfr))]) (ci := 2) (q0 := 0) S0 rfl q_95 q_96 q_97 q_1 rfl rfl q_98 (by decide +kernel) hK hP hD hS hA (c_Fr_frame l D ca H.size x tp mk fr ch cn c0 r0 c1 r1 F LL n fi0 (wv 0) le0 fi1 (wv 1) le1 (fs 0) (xs (i0 + 1)) tape frame counts ring0 ring1 (qc bs 0) (qc bg 0) (qc bs 1) (qc bg 1) k2 k3 k4 k13 k14 k6 k7) [0, 1, 2, 3, 4, 5, 6, 7, 8, 9] [10, 11, 12, 13, 14, 15, 16] rfl rfl (by decide) (by decide) (by decide) ⟨Nat.le_of_ble_eq_true rfl, Nat.le_of_ble_eq_true rfl⟩ rfl hl.1 rfl (Nat.le_of_ble_eq_true rfl) ⟨Nat.le_of_ble_eq_true rfl, Nat.le_of_ble_eq_true rfl⟩ d_law_law_172 (fun r_1 u H locs hw1 hP hD hS => ?_)
  refine W.cs (cells' := 600000) (slots' := 7302250) rfl rfl ?_
  obtain ⟨frame2, counts2, ⟨⟨ring2, fi2, le2⟩, w2⟩, ⟨⟨ring3, fi3, le3⟩, w3⟩⟩ := u
  have hP : va_P D classes [(mo, .inr (3, [.int (nI 0), .int (nI LL), .ref mt, .int (nI n), .ref my, .ref mg, .ref mw, .ref mf, .ref mr, .int (nI fl_)])), (mt, .inl (ca 0, 1024, .inl tape)), (my, .inl (ca 0, 8400, .inl bs)), (mg, .inl (ca 3, 8400, .inl bg)), (mw, .inl (ca 1, 2, .inl (fun k => nI (wv k)))), (mf, .inl (ca 1, 4, .inl fs)), (mr, .inl (ca 0, 256, .inl mfr)), (x, .inr (2, [.ref tp, .int (nI n), .ref mk])), (tp, .inl (ca 0, 1024, .inl tape)), (mk, .inr (1, [.ref fr, .ref ch, .int (fs 0 + nI 1), .ref cn])), (fr, .inl (ca 0, LL, .inl frame2)), (ch, .inl (ca 2, 2, .inr (.inr (.inr (.inr (chf c0 c1)))))), (cn, .inl (ca 1, 3, .inl counts2)), (c0, .inr (0, [.ref r0, .int (nI fi2), .int (nI w2), .int (nI le2)])), (r0, .inl (ca 0, 4096, .inl ring2)), (c1, .inr (0, [.ref r1, .int (nI fi3), .int (nI w3), .int (nI le3)])), (r1, .inl (ca 0, 4096, .inl ring3))] H := hP
  have hD : va_D (fun q : Nat => s.heap.size ≤ q) [(mo, .inr (3, [.int (nI 0), .int (nI LL), .ref mt, .int (nI n), .ref my, .ref mg, .ref mw, .ref mf, .ref mr, .int (nI fl_)])), (mt, .inl (ca 0, 1024, .inl tape)), (my, .inl (ca 0, 8400, .inl bs)), (mg, .inl (ca 3, 8400, .inl bg)), (mw, .inl (ca 1, 2, .inl (fun k => nI (wv k)))), (mf, .inl (ca 1, 4, .inl fs)), (mr, .inl (ca 0, 256, .inl mfr)), (x, .inr (2, [.ref tp, .int (nI n), .ref mk])), (tp, .inl (ca 0, 1024, .inl tape)), (mk, .inr (1, [.ref fr, .ref ch, .int (fs 0 + nI 1), .ref cn])), (fr, .inl (ca 0, LL, .inl frame2)), (ch, .inl (ca 2, 2, .inr (.inr (.inr (.inr (chf c0 c1)))))), (cn, .inl (ca 1, 3, .inl counts2)), (c0, .inr (0, [.ref r0, .int (nI fi2), .int (nI w2), .int (nI le2)])), (r0, .inl (ca 0, 4096, .inl ring2)), (c1, .inr (0, [.ref r1, .int (nI fi3), .int (nI w3), .int (nI le3)])), (r1, .inl (ca 0, 4096, .inl ring3))] := hD
  refine lv_aload_n hx hb d_law_law_175 rfl (lv_at hl 2 rfl) ?_
  refine lv_aload_n hx hb d_law_law_176 rfl (lv_at hl 0 rfl) ?_
  refine lv_iload_n hx hb d_law_law_177 rfl (lv_at hl 3 rfl) ?_
  refine lv_iconst (v := nI 1) hx hb d_law_law_178 (by decide) ?_
  refine lz_iadd hx hb d_law_law_179 ?_
  refine va_sld hx hb hX hbl hbA hS (vp_in_nI (n := i0 + 1) (by omega) (by omega)) d_law_law_180 ?_
  refine lz_top (y := xs (i0 + 1)) (by rw [nI_clamp (by omega)]) ?_
  refine k_Vi (n := 1) (As := [.int (xs (i0 + 1))]) (rest := [.int r_1]) (wc := [(mo, .inr (3, [.int (nI 0), .int (nI LL), .ref mt, .int (nI n), .ref my, .ref mg, .ref mw, .ref mf, .ref mr, .int (nI fl_)])), (my, .inl (ca 0, 8400, .inl bs)), (mg, .inl (ca 3, 8400, .inl bg)), (mw, .inl (ca 1, 2, .inl (fun k => nI (wv k)))), (mf, .inl (ca 1, 4, .inl fs)), (mr, .inl (ca 0, 256, .inl mfr))]) (wr := [(mt, .inl (ca 0, 1024, .inl tape)), (x, .inr (2, [.ref tp, .int (nI n), .ref mk])), (tp, .inl (ca 0, 1024, .inl tape)), (mk, .inr (1, [.ref fr, .ref ch, .int (fs 0 + nI 1), .ref cn])), (fr, .inl (ca 0, LL, .inl frame2)), (ch, .inl (ca 2, 2, .inr (.inr (.inr (.inr (chf c0 c1)))))), (cn, .inl (ca 1, 3, .inl counts2)), (c0, .inr (0, [.ref r0, .int (nI fi2), .int (nI w2), .int (nI le2)])), (r0, .inl (ca 0, 4096, .inl ring2)), (c1, .inr (0, [.ref r1, .int (nI fi3), .int (nI w3), .int (nI le3)])), (r1, .inl (ca 0, 4096, .inl ring3))]) (ci := 3) (q0 := 0) S0 rfl q_194 q_195 q_196 q_4 rfl rfl q_197 (by decide +kernel) hK hP hD hS hA (c_Mo_frame l D ca H.size mo mt my mg mw mf mr F LL n fl_ (xs (i0 + 1)) bs bg fs mfr wv k2 k4 k5 k8 k9) [0, 2, 3, 4, 5, 6] [1, 7, 8, 9, 10, 11, 12, 13, 14, 15, 16] rfl rfl (by decide) (by decide) (by decide) ⟨Nat.le_of_ble_eq_true rfl, Nat.le_of_ble_eq_true rfl⟩ rfl hl.1 rfl (Nat.le_of_ble_eq_true rfl) ⟨Nat.le_of_ble_eq_true rfl, Nat.le_of_ble_eq_true rfl⟩ d_law_law_181 (fun r_2 u2 H locs hw2 hP hD hS => ?_)
  refine W.cs (cells' := 600000) (slots' := 7302250) rfl rfl ?_
  obtain ⟨bs2, bg2, wv2, fs2, mfr2⟩ := u2
  have hP : va_P D classes [(mt, .inl (ca 0, 1024, .inl tape)), (x, .inr (2, [.ref tp, .int (nI n), .ref mk])), (tp, .inl (ca 0, 1024, .inl tape)), (mk, .inr (1, [.ref fr, .ref ch, .int (fs 0 + nI 1), .ref cn])), (fr, .inl (ca 0, LL, .inl frame2)), (ch, .inl (ca 2, 2, .inr (.inr (.inr (.inr (chf c0 c1)))))), (cn, .inl (ca 1, 3, .inl counts2)), (c0, .inr (0, [.ref r0, .int (nI fi2), .int (nI w2), .int (nI le2)])), (r0, .inl (ca 0, 4096, .inl ring2)), (c1, .inr (0, [.ref r1, .int (nI fi3), .int (nI w3), .int (nI le3)])), (r1, .inl (ca 0, 4096, .inl ring3)), (mo, .inr (3, [.int (nI 0), .int (nI LL), .ref mt, .int (nI n), .ref my, .ref mg, .ref mw, .ref mf, .ref mr, .int (nI (12 + F))])), (my, .inl (ca 0, 8400, .inl bs2)), (mg, .inl (ca 3, 8400, .inl bg2)), (mw, .inl (ca 1, 2, .inl (fun k => nI (wv2 k)))), (mf, .inl (ca 1, 4, .inl fs2)), (mr, .inl (ca 0, 256, .inl mfr2))] H := hP
  have hD : va_D (fun q : Nat => s.heap.size ≤ q) [(mt, .inl (ca 0, 1024, .inl tape)), (x, .inr (2, [.ref tp, .int (nI n), .ref mk])), (tp, .inl (ca 0, 1024, .inl tape)), (mk, .inr (1, [.ref fr, .ref ch, .int (fs 0 + nI 1), .ref cn])), (fr, .inl (ca 0, LL, .inl frame2)), (ch, .inl (ca 2, 2, .inr (.inr (.inr (.inr (chf c0 c1)))))), (cn, .inl (ca 1, 3, .inl counts2)), (c0, .inr (0, [.ref r0, .int (nI fi2), .int (nI w2), .int (nI le2)])), (r0, .inl (ca 0, 4096, .inl ring2)), (c1, .inr (0, [.ref r1, .int (nI fi3), .int (nI w3), .int (nI le3)])), (r1, .inl (ca 0, 4096, .inl ring3)), (mo, .inr (3, [.int (nI 0), .int (nI LL), .ref mt, .int (nI n), .ref my, .ref mg, .ref mw, .ref mf, .ref mr, .int (nI (12 + F))])), (my, .inl (ca 0, 8400, .inl bs2)), (mg, .inl (ca 3, 8400, .inl bg2)), (mw, .inl (ca 1, 2, .inl (fun k => nI (wv2 k)))), (mf, .inl (ca 1, 4, .inl fs2)), (mr, .inl (ca 0, 256, .inl mfr2))] := hD
  obtain ⟨e1, e2, e3, e4, hR2⟩ := hR.frame hw1 hw2
  dsimp only at e2 e3 e4 hR2
  subst e2
  subst e3
  rw [← e4] at hP hD
  have hP : va_P D classes [(mt, .inl (ca 0, 1024, .inl tape)), (x, .inr (2, [.ref tp, .int (nI n), .ref mk])), (tp, .inl (ca 0, 1024, .inl tape)), (mk, .inr (1, [.ref fr, .ref ch, .int (fs2 0), .ref cn])), (fr, .inl (ca 0, LL, .inl frame2)), (ch, .inl (ca 2, 2, .inr (.inr (.inr (.inr (chf c0 c1)))))), (cn, .inl (ca 1, 3, .inl counts2)), (c0, .inr (0, [.ref r0, .int (nI fi2), .int (nI (wv2 0)), .int (nI le2)])), (r0, .inl (ca 0, 4096, .inl ring2)), (c1, .inr (0, [.ref r1, .int (nI fi3), .int (nI (wv2 1)), .int (nI le3)])), (r1, .inl (ca 0, 4096, .inl ring3)), (mo, .inr (3, [.int (nI 0), .int (nI LL), .ref mt, .int (nI n), .ref my, .ref mg, .ref mw, .ref mf, .ref mr, .int (nI (12 + F))])), (my, .inl (ca 0, 8400, .inl bs2)), (mg, .inl (ca 3, 8400, .inl bg2)), (mw, .inl (ca 1, 2, .inl (fun k => nI (wv2 k)))), (mf, .inl (ca 1, 4, .inl fs2)), (mr, .inl (ca 0, 256, .inl mfr2))] H := hP
  have hD : va_D (fun q : Nat => s.heap.size ≤ q) [(mt, .inl (ca 0, 1024, .inl tape)), (x, .inr (2, [.ref tp, .int (nI n), .ref mk])), (tp, .inl (ca 0, 1024, .inl tape)), (mk, .inr (1, [.ref fr, .ref ch, .int (fs2 0), .ref cn])), (fr, .inl (ca 0, LL, .inl frame2)), (ch, .inl (ca 2, 2, .inr (.inr (.inr (.inr (chf c0 c1)))))), (cn, .inl (ca 1, 3, .inl counts2)), (c0, .inr (0, [.ref r0, .int (nI fi2), .int (nI (wv2 0)), .int (nI le2)])), (r0, .inl (ca 0, 4096, .inl ring2)), (c1, .inr (0, [.ref r1, .int (nI fi3), .int (nI (wv2 1)), .int (nI le3)])), (r1, .inl (ca 0, 4096, .inl ring3)), (mo, .inr (3, [.int (nI 0), .int (nI LL), .ref mt, .int (nI n), .ref my, .ref mg, .ref mw, .ref mf, .ref mr, .int (nI (12 + F))])), (my, .inl (ca 0, 8400, .inl bs2)), (mg, .inl (ca 3, 8400, .inl bg2)), (mw, .inl (ca 1, 2, .inl (fun k => nI (wv2 k)))), (mf, .inl (ca 1, 4, .inl fs2)), (mr, .inl (ca 0, 256, .inl mfr2))] := hD
  refine lv_icmp_eq (tgt := 258) hx hb d_law_law_184 (by decide) (fun h9 => ?_) (fun h9 => ?_)
  · refine lv_iinc (v := nI (i0 + 4)) (lv' := [(3, .int (nI (i0 + 4))), (0, .ref b), (1, .ref x), (2, .ref mo)]) hx hb d_law_law_258 hl (k := 3) rfl (nI_inc4 _) (by decide) rfl (fun ls hl => ?_)
    refine lv_goto (tgt := 28) hx hb d_law_law_261 (by decide) ?_
    exact ih (i0 + 4) n fi2 le2 fi3 le3 (12 + F) tape frame2 counts2 ring2 ring3 bs2 bg2 fs2 mfr2 wv2 H locs ls rfl (hR2.mono (by omega)) (hP.sub [1, 2, 3, 4, 5, 6, 7, 8, 9, 10, 11, 0, 12, 13, 14, 15, 16] rfl) (hD.sub [1, 2, 3, 4, 5, 6, 7, 8, 9, 10, 11, 0, 12, 13, 14, 15, 16] (by decide) rfl) hS (lv_sub hl [1, 2, 3, 0] rfl)
  · exact absurd (e1) h9
set_option maxHeartbeats 1000000 in
set_option maxRecDepth 100000 in
theorem law_3 {p : Program} {l : Launch} {e : Env} {s : State} {m : MethodId} {below : List Frame} {meth : Method} {c : Code} {D : va_G} {ca : Nat → ClassId} {b L : Nat} {xs : Nat → Int32} (x tp mk fr ch cn c0 r0 c1 r1 mo mt my mg mw mf mr LL F : Nat) (hL : L ≤ 2049) (C0 : lw_At p s m meth c b L xs) (hK : PW D ca s) (i0 : Nat) (h4 : i0 + 4 ≤ L) (n fi0 le0 fi1 le1 fl_ : Nat) (tape frame counts ring0 ring1 bs bg fs mfr : Nat → Int32) (wv : Nat → Nat)
    (ih : ∀ (i : Nat) (n fi0 le0 fi1 le1 fl_ : Nat) (tape frame counts ring0 ring1 bs bg fs mfr : Nat → Int32) (wv : Nat → Nat) (H : Heap) (locs : List Loc) (ls : Array Slot), i = i0 + 4 → Rel LL F i n frame counts (ring0, fi0, le0) (ring1, fi1, le1) bs bg fs mfr wv fl_ → va_P D classes [(x, .inr (2, [.ref tp, .int (nI n), .ref mk])), (tp, .inl (ca 0, 1024, .inl tape)), (mk, .inr (1, [.ref fr, .ref ch, .int (fs 0), .ref cn])), (fr, .inl (ca 0, LL, .inl frame)), (ch, .inl (ca 2, 2, .inr (.inr (.inr (.inr (chf c0 c1)))))), (cn, .inl (ca 1, 3, .inl counts)), (c0, .inr (0, [.ref r0, .int (nI fi0), .int (nI (wv 0)), .int (nI le0)])), (r0, .inl (ca 0, 4096, .inl ring0)), (c1, .inr (0, [.ref r1, .int (nI fi1), .int (nI (wv 1)), .int (nI le1)])), (r1, .inl (ca 0, 4096, .inl ring1)), (mo, .inr (3, [.int (nI 0), .int (nI LL), .ref mt, .int (nI n), .ref my, .ref mg, .ref mw, .ref mf, .ref mr, .int (nI fl_)])), (mt, .inl (ca 0, 1024, .inl tape)), (my, .inl (ca 0, 8400, .inl bs)), (mg, .inl (ca 3, 8400, .inl bg)), (mw, .inl (ca 1, 2, .inl (fun k => nI (wv k)))), (mf, .inl (ca 1, 4, .inl fs)), (mr, .inl (ca 0, 256, .inl mfr))] H → va_D (fun q : Nat => s.heap.size ≤ q) [(x, .inr (2, [.ref tp, .int (nI n), .ref mk])), (tp, .inl (ca 0, 1024, .inl tape)), (mk, .inr (1, [.ref fr, .ref ch, .int (fs 0), .ref cn])), (fr, .inl (ca 0, LL, .inl frame)), (ch, .inl (ca 2, 2, .inr (.inr (.inr (.inr (chf c0 c1)))))), (cn, .inl (ca 1, 3, .inl counts)), (c0, .inr (0, [.ref r0, .int (nI fi0), .int (nI (wv 0)), .int (nI le0)])), (r0, .inl (ca 0, 4096, .inl ring0)), (c1, .inr (0, [.ref r1, .int (nI fi1), .int (nI (wv 1)), .int (nI le1)])), (r1, .inl (ca 0, 4096, .inl ring1)), (mo, .inr (3, [.int (nI 0), .int (nI LL), .ref mt, .int (nI n), .ref my, .ref mg, .ref mw, .ref mf, .ref mr, .int (nI fl_)])), (mt, .inl (ca 0, 1024, .inl tape)), (my, .inl (ca 0, 8400, .inl bs)), (mg, .inl (ca 3, 8400, .inl bg)), (mw, .inl (ca 1, 2, .inl (fun k => nI (wv k)))), (mf, .inl (ca 1, 4, .inl fs)), (mr, .inl (ca 0, 256, .inl mfr))] → va_S (fun q : Nat => s.heap.size ≤ q) s.heap H locs → lv_has ls 4 [(0, .ref b), (1, .ref x), (2, .ref mo), (3, .int (nI i))] → W p l e room_1 s m #[Value.ref b] below meth c H locs 600000 7302250 (lw_Z below #[Value.ref b] s) (F0 m 28 ls [])) (H : Heap) (locs : List Loc) (ls : Array Slot) (hR : Rel LL F i0 n frame counts (ring0, fi0, le0) (ring1, fi1, le1) bs bg fs mfr wv fl_) (hP : va_P D classes [(x, .inr (2, [.ref tp, .int (nI n), .ref mk])), (tp, .inl (ca 0, 1024, .inl tape)), (mk, .inr (1, [.ref fr, .ref ch, .int (fs 0), .ref cn])), (fr, .inl (ca 0, LL, .inl frame)), (ch, .inl (ca 2, 2, .inr (.inr (.inr (.inr (chf c0 c1)))))), (cn, .inl (ca 1, 3, .inl counts)), (c0, .inr (0, [.ref r0, .int (nI fi0), .int (nI (wv 0)), .int (nI le0)])), (r0, .inl (ca 0, 4096, .inl ring0)), (c1, .inr (0, [.ref r1, .int (nI fi1), .int (nI (wv 1)), .int (nI le1)])), (r1, .inl (ca 0, 4096, .inl ring1)), (mo, .inr (3, [.int (nI 0), .int (nI LL), .ref mt, .int (nI n), .ref my, .ref mg, .ref mw, .ref mf, .ref mr, .int (nI fl_)])), (mt, .inl (ca 0, 1024, .inl tape)), (my, .inl (ca 0, 8400, .inl bs)), (mg, .inl (ca 3, 8400, .inl bg)), (mw, .inl (ca 1, 2, .inl (fun k => nI (wv k)))), (mf, .inl (ca 1, 4, .inl fs)), (mr, .inl (ca 0, 256, .inl mfr))] H) (hD : va_D (fun q : Nat => s.heap.size ≤ q) [(x, .inr (2, [.ref tp, .int (nI n), .ref mk])), (tp, .inl (ca 0, 1024, .inl tape)), (mk, .inr (1, [.ref fr, .ref ch, .int (fs 0), .ref cn])), (fr, .inl (ca 0, LL, .inl frame)), (ch, .inl (ca 2, 2, .inr (.inr (.inr (.inr (chf c0 c1)))))), (cn, .inl (ca 1, 3, .inl counts)), (c0, .inr (0, [.ref r0, .int (nI fi0), .int (nI (wv 0)), .int (nI le0)])), (r0, .inl (ca 0, 4096, .inl ring0)), (c1, .inr (0, [.ref r1, .int (nI fi1), .int (nI (wv 1)), .int (nI le1)])), (r1, .inl (ca 0, 4096, .inl ring1)), (mo, .inr (3, [.int (nI 0), .int (nI LL), .ref mt, .int (nI n), .ref my, .ref mg, .ref mw, .ref mf, .ref mr, .int (nI fl_)])), (mt, .inl (ca 0, 1024, .inl tape)), (my, .inl (ca 0, 8400, .inl bs)), (mg, .inl (ca 3, 8400, .inl bg)), (mw, .inl (ca 1, 2, .inl (fun k => nI (wv k)))), (mf, .inl (ca 1, 4, .inl fs)), (mr, .inl (ca 0, 256, .inl mfr))]) (hS : va_S (fun q : Nat => s.heap.size ≤ q) s.heap H locs) (hl : lv_has ls 4 [(0, .ref b), (1, .ref x), (2, .ref mo), (3, .int (nI i0))]) : W p l e room_1 s m #[Value.ref b] below meth c H locs 600000 7302250 (lw_Z below #[Value.ref b] s) (F0 m 189 ls []) := by
  obtain ⟨hx, hb, hr, hml, hown, hts, hX, hbl, hlocks, hgv⟩ := C0
  have S0 : CallFix p m c b_law_law 4 s #[Value.ref b] gd_tbl "DownFramesLaw" := ⟨hx, hb, hml, hown, fun w h => hts w (gd_sub w h)⟩
  have hA : ∀ q : Nat, s.heap.size ≤ q → (fun q : Nat => s.heap.size ≤ q) q := fun _ h => h
  have hbA : ¬ (fun q : Nat => s.heap.size ≤ q) b := Nat.not_le.mpr hbl
  obtain ⟨k1, ⟨k2, k3, k4⟩, k5, k6, k7, k8, k9, ⟨k10, k11, k12⟩, -⟩ := id hR
  have k13 := k5 0 (by decide)
  have k14 := k5 1 (by decide)
  have hfl : fl_ ≤ 256 := by obtain ⟨-, -, -, -, -, -, -, -, mN, -, -, g⟩ := id hR; rcases g with ⟨-, g⟩ | ⟨-, g, -⟩ <;> omega
  refine lv_aload_n hx hb d_law_law_189 rfl (lv_at hl 1 rfl) ?_
  refine lv_aload_n hx hb d_law_law_190 rfl (lv_at hl 0 rfl) ?_
  refine lv_iload_n hx hb d_law_law_191 rfl (lv_at hl 3 rfl) ?_
  refine lv_iconst (v := nI 1) hx hb d_law_law_192 (by decide) ?_
  refine lz_iadd hx hb d_law_law_193 ?_
  refine va_sld hx hb hX hbl hbA hS (vp_in_nI (n := i0 + 1) (by omega) (by omega)) d_law_law_194 ?_
  refine lz_top (y := xs (i0 + 1)) (by rw [nI_clamp (by omega)]) ?_
  refine k_Vi (n := 1) (As := [.int (xs (i0 + 1))]) (rest := []) (wc := [(x, .inr (2, [.ref tp, .int (nI n), .ref mk])), (mk, .inr (1, [.ref fr, .ref ch, .int (fs 0), .ref cn])), (fr, .inl (ca 0, LL, .inl frame))]) (wr := [(tp, .inl (ca 0, 1024, .inl tape)), (ch, .inl (ca 2, 2, .inr (.inr (.inr (.inr (chf c0 c1)))))), (cn, .inl (ca 1, 3, .inl counts)), (c0, .inr (0, [.ref r0, .int (nI fi0), .int (nI (wv 0)), .int (nI le0)])), (r0, .inl (ca 0, 4096, .inl ring0)), (c1, .inr (0, [.ref r1, .int (nI fi1), .int (nI (wv 1)), .int (nI le1)])), (r1, .inl (ca 0, 4096, .inl ring1)), (mo, .inr (3, [.int (nI 0), .int (nI LL), .ref mt, .int (nI n), .ref my, .ref mg, .ref mw, .ref mf, .ref mr, .int (nI fl_)])), (mt, .inl (ca 0, 1024, .inl tape)), (my, .inl (ca 0, 8400, .inl bs)), (mg, .inl (ca 3, 8400, .inl bg)), (mw, .inl (ca 1, 2, .inl (fun k => nI (wv k)))), (mf, .inl (ca 1, 4, .inl fs)), (mr, .inl (ca 0, 256, .inl mfr))]) (ci := 2) (q0 := 0) S0 rfl q_129 q_130 q_131 q_1 rfl rfl q_132 (by decide +kernel) hK hP hD hS hA (c_Fr_byteAt l D ca H.size x tp mk fr ch cn LL n (fs 0) (xs (i0 + 1)) frame k4) [0, 2, 3] [1, 4, 5, 6, 7, 8, 9, 10, 11, 12, 13, 14, 15, 16] rfl rfl (by decide) (by decide) (by decide) ⟨Nat.le_of_ble_eq_true rfl, Nat.le_of_ble_eq_true rfl⟩ rfl hl.1 rfl (Nat.le_of_ble_eq_true rfl) ⟨Nat.le_of_ble_eq_true rfl, Nat.le_of_ble_eq_true rfl⟩ d_law_law_195 (fun r_1 u H locs hw1 hP hD hS => ?_)
  refine W.cs (cells' := 600000) (slots' := 7302250) rfl rfl ?_
  have hP : va_P D classes [(tp, .inl (ca 0, 1024, .inl tape)), (ch, .inl (ca 2, 2, .inr (.inr (.inr (.inr (chf c0 c1)))))), (cn, .inl (ca 1, 3, .inl counts)), (c0, .inr (0, [.ref r0, .int (nI fi0), .int (nI (wv 0)), .int (nI le0)])), (r0, .inl (ca 0, 4096, .inl ring0)), (c1, .inr (0, [.ref r1, .int (nI fi1), .int (nI (wv 1)), .int (nI le1)])), (r1, .inl (ca 0, 4096, .inl ring1)), (mo, .inr (3, [.int (nI 0), .int (nI LL), .ref mt, .int (nI n), .ref my, .ref mg, .ref mw, .ref mf, .ref mr, .int (nI fl_)])), (mt, .inl (ca 0, 1024, .inl tape)), (my, .inl (ca 0, 8400, .inl bs)), (mg, .inl (ca 3, 8400, .inl bg)), (mw, .inl (ca 1, 2, .inl (fun k => nI (wv k)))), (mf, .inl (ca 1, 4, .inl fs)), (mr, .inl (ca 0, 256, .inl mfr)), (x, .inr (2, [.ref tp, .int (nI n), .ref mk])), (mk, .inr (1, [.ref fr, .ref ch, .int (fs 0), .ref cn])), (fr, .inl (ca 0, LL, .inl frame))] H := hP
  have hD : va_D (fun q : Nat => s.heap.size ≤ q) [(tp, .inl (ca 0, 1024, .inl tape)), (ch, .inl (ca 2, 2, .inr (.inr (.inr (.inr (chf c0 c1)))))), (cn, .inl (ca 1, 3, .inl counts)), (c0, .inr (0, [.ref r0, .int (nI fi0), .int (nI (wv 0)), .int (nI le0)])), (r0, .inl (ca 0, 4096, .inl ring0)), (c1, .inr (0, [.ref r1, .int (nI fi1), .int (nI (wv 1)), .int (nI le1)])), (r1, .inl (ca 0, 4096, .inl ring1)), (mo, .inr (3, [.int (nI 0), .int (nI LL), .ref mt, .int (nI n), .ref my, .ref mg, .ref mw, .ref mf, .ref mr, .int (nI fl_)])), (mt, .inl (ca 0, 1024, .inl tape)), (my, .inl (ca 0, 8400, .inl bs)), (mg, .inl (ca 3, 8400, .inl bg)), (mw, .inl (ca 1, 2, .inl (fun k => nI (wv k)))), (mf, .inl (ca 1, 4, .inl fs)), (mr, .inl (ca 0, 256, .inl mfr)), (x, .inr (2, [.ref tp, .int (nI n), .ref mk])), (mk, .inr (1, [.ref fr, .ref ch, .int (fs 0), .ref cn])), (fr, .inl (ca 0, LL, .inl frame))] := hD
  have hP : va_P D classes [(x, .inr (2, [.ref tp, .int (nI n), .ref mk])), (tp, .inl (ca 0, 1024, .inl tape)), (mk, .inr (1, [.ref fr, .ref ch, .int (fs 0), .ref cn])), (fr, .inl (ca 0, LL, .inl frame)), (ch, .inl (ca 2, 2, .inr (.inr (.inr (.inr (chf c0 c1)))))), (cn, .inl (ca 1, 3, .inl counts)), (c0, .inr (0, [.ref r0, .int (nI fi0), .int (nI (wv 0)), .int (nI le0)])), (r0, .inl (ca 0, 4096, .inl ring0)), (c1, .inr (0, [.ref r1, .int (nI fi1), .int (nI (wv 1)), .int (nI le1)])), (r1, .inl (ca 0, 4096, .inl ring1)), (mo, .inr (3, [.int (nI 0), .int (nI LL), .ref mt, .int (nI n), .ref my, .ref mg, .ref mw, .ref mf, .ref mr, .int (nI fl_)])), (mt, .inl (ca 0, 1024, .inl tape)), (my, .inl (ca 0, 8400, .inl bs)), (mg, .inl (ca 3, 8400, .inl bg)), (mw, .inl (ca 1, 2, .inl (fun k => nI (wv k)))), (mf, .inl (ca 1, 4, .inl fs)), (mr, .inl (ca 0, 256, .inl mfr))] H := hP.sub [14, 0, 15, 16, 1, 2, 3, 4, 5, 6, 7, 8, 9, 10, 11, 12, 13] rfl
  have hD : va_D (fun q : Nat => s.heap.size ≤ q) [(x, .inr (2, [.ref tp, .int (nI n), .ref mk])), (tp, .inl (ca 0, 1024, .inl tape)), (mk, .inr (1, [.ref fr, .ref ch, .int (fs 0), .ref cn])), (fr, .inl (ca 0, LL, .inl frame)), (ch, .inl (ca 2, 2, .inr (.inr (.inr (.inr (chf c0 c1)))))), (cn, .inl (ca 1, 3, .inl counts)), (c0, .inr (0, [.ref r0, .int (nI fi0), .int (nI (wv 0)), .int (nI le0)])), (r0, .inl (ca 0, 4096, .inl ring0)), (c1, .inr (0, [.ref r1, .int (nI fi1), .int (nI (wv 1)), .int (nI le1)])), (r1, .inl (ca 0, 4096, .inl ring1)), (mo, .inr (3, [.int (nI 0), .int (nI LL), .ref mt, .int (nI n), .ref my, .ref mg, .ref mw, .ref mf, .ref mr, .int (nI fl_)])), (mt, .inl (ca 0, 1024, .inl tape)), (my, .inl (ca 0, 8400, .inl bs)), (mg, .inl (ca 3, 8400, .inl bg)), (mw, .inl (ca 1, 2, .inl (fun k => nI (wv k)))), (mf, .inl (ca 1, 4, .inl fs)), (mr, .inl (ca 0, 256, .inl mfr))] := hD.sub [14, 0, 15, 16, 1, 2, 3, 4, 5, 6, 7, 8, 9, 10, 11, 12, 13] (by decide) rfl
  refine lv_aload_n hx hb d_law_law_198 rfl (lv_at hl 2 rfl) ?_
  refine lv_aload_n hx hb d_law_law_199 rfl (lv_at hl 0 rfl) ?_
  refine lv_iload_n hx hb d_law_law_200 rfl (lv_at hl 3 rfl) ?_
  refine lv_iconst (v := nI 1) hx hb d_law_law_201 (by decide) ?_
  refine lz_iadd hx hb d_law_law_202 ?_
  refine va_sld hx hb hX hbl hbA hS (vp_in_nI (n := i0 + 1) (by omega) (by omega)) d_law_law_203 ?_
  refine lz_top (y := xs (i0 + 1)) (by rw [nI_clamp (by omega)]) ?_
  refine k_Vi (n := 1) (As := [.int (xs (i0 + 1))]) (rest := [.int r_1]) (wc := [(mo, .inr (3, [.int (nI 0), .int (nI LL), .ref mt, .int (nI n), .ref my, .ref mg, .ref mw, .ref mf, .ref mr, .int (nI fl_)])), (mr, .inl (ca 0, 256, .inl mfr))]) (wr := [(x, .inr (2, [.ref tp, .int (nI n), .ref mk])), (tp, .inl (ca 0, 1024, .inl tape)), (mk, .inr (1, [.ref fr, .ref ch, .int (fs 0), .ref cn])), (fr, .inl (ca 0, LL, .inl frame)), (ch, .inl (ca 2, 2, .inr (.inr (.inr (.inr (chf c0 c1)))))), (cn, .inl (ca 1, 3, .inl counts)), (c0, .inr (0, [.ref r0, .int (nI fi0), .int (nI (wv 0)), .int (nI le0)])), (r0, .inl (ca 0, 4096, .inl ring0)), (c1, .inr (0, [.ref r1, .int (nI fi1), .int (nI (wv 1)), .int (nI le1)])), (r1, .inl (ca 0, 4096, .inl ring1)), (mt, .inl (ca 0, 1024, .inl tape)), (my, .inl (ca 0, 8400, .inl bs)), (mg, .inl (ca 3, 8400, .inl bg)), (mw, .inl (ca 1, 2, .inl (fun k => nI (wv k)))), (mf, .inl (ca 1, 4, .inl fs))]) (ci := 3) (q0 := 0) S0 rfl q_221 q_222 q_223 q_4 rfl rfl q_224 (by decide +kernel) hK hP hD hS hA (c_Mo_byteAt l D ca H.size mo mt my mg mw mf mr LL n fl_ (xs (i0 + 1)) mfr hfl) [10, 16] [0, 1, 2, 3, 4, 5, 6, 7, 8, 9, 11, 12, 13, 14, 15] rfl rfl (by decide) (by decide) (by decide) ⟨Nat.le_of_ble_eq_true rfl, Nat.le_of_ble_eq_true rfl⟩ rfl hl.1 rfl (Nat.le_of_ble_eq_true rfl) ⟨Nat.le_of_ble_eq_true rfl, Nat.le_of_ble_eq_true rfl⟩ d_law_law_204 (fun r_2 u2 H locs hw2 hP hD hS => ?_)
  refine W.cs (cells' := 600000) (slots' := 7302250) rfl rfl ?_
  have hP : va_P D classes [(x, .inr (2, [.ref tp, .int (nI n), .ref mk])), (tp, .inl (ca 0, 1024, .inl tape)), (mk, .inr (1, [.ref fr, .ref ch, .int (fs 0), .ref cn])), (fr, .inl (ca 0, LL, .inl frame)), (ch, .inl (ca 2, 2, .inr (.inr (.inr (.inr (chf c0 c1)))))), (cn, .inl (ca 1, 3, .inl counts)), (c0, .inr (0, [.ref r0, .int (nI fi0), .int (nI (wv 0)), .int (nI le0)])), (r0, .inl (ca 0, 4096, .inl ring0)), (c1, .inr (0, [.ref r1, .int (nI fi1), .int (nI (wv 1)), .int (nI le1)])), (r1, .inl (ca 0, 4096, .inl ring1)), (mt, .inl (ca 0, 1024, .inl tape)), (my, .inl (ca 0, 8400, .inl bs)), (mg, .inl (ca 3, 8400, .inl bg)), (mw, .inl (ca 1, 2, .inl (fun k => nI (wv k)))), (mf, .inl (ca 1, 4, .inl fs)), (mo, .inr (3, [.int (nI 0), .int (nI LL), .ref mt, .int (nI n), .ref my, .ref mg, .ref mw, .ref mf, .ref mr, .int (nI fl_)])), (mr, .inl (ca 0, 256, .inl mfr))] H := hP
  have hD : va_D (fun q : Nat => s.heap.size ≤ q) [(x, .inr (2, [.ref tp, .int (nI n), .ref mk])), (tp, .inl (ca 0, 1024, .inl tape)), (mk, .inr (1, [.ref fr, .ref ch, .int (fs 0), .ref cn])), (fr, .inl (ca 0, LL, .inl frame)), (ch, .inl (ca 2, 2, .inr (.inr (.inr (.inr (chf c0 c1)))))), (cn, .inl (ca 1, 3, .inl counts)), (c0, .inr (0, [.ref r0, .int (nI fi0), .int (nI (wv 0)), .int (nI le0)])), (r0, .inl (ca 0, 4096, .inl ring0)), (c1, .inr (0, [.ref r1, .int (nI fi1), .int (nI (wv 1)), .int (nI le1)])), (r1, .inl (ca 0, 4096, .inl ring1)), (mt, .inl (ca 0, 1024, .inl tape)), (my, .inl (ca 0, 8400, .inl bs)), (mg, .inl (ca 3, 8400, .inl bg)), (mw, .inl (ca 1, 2, .inl (fun k => nI (wv k)))), (mf, .inl (ca 1, 4, .inl fs)), (mo, .inr (3, [.int (nI 0), .int (nI LL), .ref mt, .int (nI n), .ref my, .ref mg, .ref mw, .ref mf, .ref mr, .int (nI fl_)])), (mr, .inl (ca 0, 256, .inl mfr))] := hD
  have hP : va_P D classes [(x, .inr (2, [.ref tp, .int (nI n), .ref mk])), (tp, .inl (ca 0, 1024, .inl tape)), (mk, .inr (1, [.ref fr, .ref ch, .int (fs 0), .ref cn])), (fr, .inl (ca 0, LL, .inl frame)), (ch, .inl (ca 2, 2, .inr (.inr (.inr (.inr (chf c0 c1)))))), (cn, .inl (ca 1, 3, .inl counts)), (c0, .inr (0, [.ref r0, .int (nI fi0), .int (nI (wv 0)), .int (nI le0)])), (r0, .inl (ca 0, 4096, .inl ring0)), (c1, .inr (0, [.ref r1, .int (nI fi1), .int (nI (wv 1)), .int (nI le1)])), (r1, .inl (ca 0, 4096, .inl ring1)), (mo, .inr (3, [.int (nI 0), .int (nI LL), .ref mt, .int (nI n), .ref my, .ref mg, .ref mw, .ref mf, .ref mr, .int (nI fl_)])), (mt, .inl (ca 0, 1024, .inl tape)), (my, .inl (ca 0, 8400, .inl bs)), (mg, .inl (ca 3, 8400, .inl bg)), (mw, .inl (ca 1, 2, .inl (fun k => nI (wv k)))), (mf, .inl (ca 1, 4, .inl fs)), (mr, .inl (ca 0, 256, .inl mfr))] H := hP.sub [0, 1, 2, 3, 4, 5, 6, 7, 8, 9, 15, 10, 11, 12, 13, 14, 16] rfl
  have hD : va_D (fun q : Nat => s.heap.size ≤ q) [(x, .inr (2, [.ref tp, .int (nI n), .ref mk])), (tp, .inl (ca 0, 1024, .inl tape)), (mk, .inr (1, [.ref fr, .ref ch, .int (fs 0), .ref cn])), (fr, .inl (ca 0, LL, .inl frame)), (ch, .inl (ca 2, 2, .inr (.inr (.inr (.inr (chf c0 c1)))))), (cn, .inl (ca 1, 3, .inl counts)), (c0, .inr (0, [.ref r0, .int (nI fi0), .int (nI (wv 0)), .int (nI le0)])), (r0, .inl (ca 0, 4096, .inl ring0)), (c1, .inr (0, [.ref r1, .int (nI fi1), .int (nI (wv 1)), .int (nI le1)])), (r1, .inl (ca 0, 4096, .inl ring1)), (mo, .inr (3, [.int (nI 0), .int (nI LL), .ref mt, .int (nI n), .ref my, .ref mg, .ref mw, .ref mf, .ref mr, .int (nI fl_)])), (mt, .inl (ca 0, 1024, .inl tape)), (my, .inl (ca 0, 8400, .inl bs)), (mg, .inl (ca 3, 8400, .inl bg)), (mw, .inl (ca 1, 2, .inl (fun k => nI (wv k)))), (mf, .inl (ca 1, 4, .inl fs)), (mr, .inl (ca 0, 256, .inl mfr))] := hD.sub [0, 1, 2, 3, 4, 5, 6, 7, 8, 9, 15, 10, 11, 12, 13, 14, 16] (by decide) rfl
  refine lv_icmp_eq (tgt := 258) hx hb d_law_law_207 (by decide) (fun h9 => ?_) (fun h9 => ?_)
  · refine lv_iinc (v := nI (i0 + 4)) (lv' := [(3, .int (nI (i0 + 4))), (0, .ref b), (1, .ref x), (2, .ref mo)]) hx hb d_law_law_258 hl (k := 3) rfl (nI_inc4 _) (by decide) rfl (fun ls hl => ?_)
    refine lv_goto (tgt := 28) hx hb d_law_law_261 (by decide) ?_
    exact ih (i0 + 4) n fi0 le0 fi1 le1 fl_ tape frame counts ring0 ring1 bs bg fs mfr wv H locs ls rfl (hR.mono (by omega)) hP hD hS (lv_sub hl [1, 2, 3, 0] rfl)
  · exact absurd (hw1.trans ((hR.byte (by omega) _).trans hw2.symm)) h9
set_option maxHeartbeats 1000000 in
set_option maxRecDepth 100000 in
theorem law_4 {p : Program} {l : Launch} {e : Env} {s : State} {m : MethodId} {below : List Frame} {meth : Method} {c : Code} {D : va_G} {ca : Nat → ClassId} {b L : Nat} {xs : Nat → Int32} (x tp mk fr ch cn c0 r0 c1 r1 mo mt my mg mw mf mr LL F : Nat) (hL : L ≤ 2049) (C0 : lw_At p s m meth c b L xs) (hK : PW D ca s) (i0 : Nat) (h4 : i0 + 4 ≤ L) (n fi0 le0 fi1 le1 fl_ : Nat) (tape frame counts ring0 ring1 bs bg fs mfr : Nat → Int32) (wv : Nat → Nat)
    (ih : ∀ (i : Nat) (n fi0 le0 fi1 le1 fl_ : Nat) (tape frame counts ring0 ring1 bs bg fs mfr : Nat → Int32) (wv : Nat → Nat) (H : Heap) (locs : List Loc) (ls : Array Slot), i = i0 + 4 → Rel LL F i n frame counts (ring0, fi0, le0) (ring1, fi1, le1) bs bg fs mfr wv fl_ → va_P D classes [(x, .inr (2, [.ref tp, .int (nI n), .ref mk])), (tp, .inl (ca 0, 1024, .inl tape)), (mk, .inr (1, [.ref fr, .ref ch, .int (fs 0), .ref cn])), (fr, .inl (ca 0, LL, .inl frame)), (ch, .inl (ca 2, 2, .inr (.inr (.inr (.inr (chf c0 c1)))))), (cn, .inl (ca 1, 3, .inl counts)), (c0, .inr (0, [.ref r0, .int (nI fi0), .int (nI (wv 0)), .int (nI le0)])), (r0, .inl (ca 0, 4096, .inl ring0)), (c1, .inr (0, [.ref r1, .int (nI fi1), .int (nI (wv 1)), .int (nI le1)])), (r1, .inl (ca 0, 4096, .inl ring1)), (mo, .inr (3, [.int (nI 0), .int (nI LL), .ref mt, .int (nI n), .ref my, .ref mg, .ref mw, .ref mf, .ref mr, .int (nI fl_)])), (mt, .inl (ca 0, 1024, .inl tape)), (my, .inl (ca 0, 8400, .inl bs)), (mg, .inl (ca 3, 8400, .inl bg)), (mw, .inl (ca 1, 2, .inl (fun k => nI (wv k)))), (mf, .inl (ca 1, 4, .inl fs)), (mr, .inl (ca 0, 256, .inl mfr))] H → va_D (fun q : Nat => s.heap.size ≤ q) [(x, .inr (2, [.ref tp, .int (nI n), .ref mk])), (tp, .inl (ca 0, 1024, .inl tape)), (mk, .inr (1, [.ref fr, .ref ch, .int (fs 0), .ref cn])), (fr, .inl (ca 0, LL, .inl frame)), (ch, .inl (ca 2, 2, .inr (.inr (.inr (.inr (chf c0 c1)))))), (cn, .inl (ca 1, 3, .inl counts)), (c0, .inr (0, [.ref r0, .int (nI fi0), .int (nI (wv 0)), .int (nI le0)])), (r0, .inl (ca 0, 4096, .inl ring0)), (c1, .inr (0, [.ref r1, .int (nI fi1), .int (nI (wv 1)), .int (nI le1)])), (r1, .inl (ca 0, 4096, .inl ring1)), (mo, .inr (3, [.int (nI 0), .int (nI LL), .ref mt, .int (nI n), .ref my, .ref mg, .ref mw, .ref mf, .ref mr, .int (nI fl_)])), (mt, .inl (ca 0, 1024, .inl tape)), (my, .inl (ca 0, 8400, .inl bs)), (mg, .inl (ca 3, 8400, .inl bg)), (mw, .inl (ca 1, 2, .inl (fun k => nI (wv k)))), (mf, .inl (ca 1, 4, .inl fs)), (mr, .inl (ca 0, 256, .inl mfr))] → va_S (fun q : Nat => s.heap.size ≤ q) s.heap H locs → lv_has ls 4 [(0, .ref b), (1, .ref x), (2, .ref mo), (3, .int (nI i))] → W p l e room_1 s m #[Value.ref b] below meth c H locs 600000 7302250 (lw_Z below #[Value.ref b] s) (F0 m 28 ls [])) (H : Heap) (locs : List Loc) (ls : Array Slot) (hR : Rel LL F i0 n frame counts (ring0, fi0, le0) (ring1, fi1, le1) bs bg fs mfr wv fl_) (hP : va_P D classes [(x, .inr (2, [.ref tp, .int (nI n), .ref mk])), (tp, .inl (ca 0, 1024, .inl tape)), (mk, .inr (1, [.ref fr, .ref ch, .int (fs 0), .ref cn])), (fr, .inl (ca 0, LL, .inl frame)), (ch, .inl (ca 2, 2, .inr (.inr (.inr (.inr (chf c0 c1)))))), (cn, .inl (ca 1, 3, .inl counts)), (c0, .inr (0, [.ref r0, .int (nI fi0), .int (nI (wv 0)), .int (nI le0)])), (r0, .inl (ca 0, 4096, .inl ring0)), (c1, .inr (0, [.ref r1, .int (nI fi1), .int (nI (wv 1)), .int (nI le1)])), (r1, .inl (ca 0, 4096, .inl ring1)), (mo, .inr (3, [.int (nI 0), .int (nI LL), .ref mt, .int (nI n), .ref my, .ref mg, .ref mw, .ref mf, .ref mr, .int (nI fl_)])), (mt, .inl (ca 0, 1024, .inl tape)), (my, .inl (ca 0, 8400, .inl bs)), (mg, .inl (ca 3, 8400, .inl bg)), (mw, .inl (ca 1, 2, .inl (fun k => nI (wv k)))), (mf, .inl (ca 1, 4, .inl fs)), (mr, .inl (ca 0, 256, .inl mfr))] H) (hD : va_D (fun q : Nat => s.heap.size ≤ q) [(x, .inr (2, [.ref tp, .int (nI n), .ref mk])), (tp, .inl (ca 0, 1024, .inl tape)), (mk, .inr (1, [.ref fr, .ref ch, .int (fs 0), .ref cn])), (fr, .inl (ca 0, LL, .inl frame)), (ch, .inl (ca 2, 2, .inr (.inr (.inr (.inr (chf c0 c1)))))), (cn, .inl (ca 1, 3, .inl counts)), (c0, .inr (0, [.ref r0, .int (nI fi0), .int (nI (wv 0)), .int (nI le0)])), (r0, .inl (ca 0, 4096, .inl ring0)), (c1, .inr (0, [.ref r1, .int (nI fi1), .int (nI (wv 1)), .int (nI le1)])), (r1, .inl (ca 0, 4096, .inl ring1)), (mo, .inr (3, [.int (nI 0), .int (nI LL), .ref mt, .int (nI n), .ref my, .ref mg, .ref mw, .ref mf, .ref mr, .int (nI fl_)])), (mt, .inl (ca 0, 1024, .inl tape)), (my, .inl (ca 0, 8400, .inl bs)), (mg, .inl (ca 3, 8400, .inl bg)), (mw, .inl (ca 1, 2, .inl (fun k => nI (wv k)))), (mf, .inl (ca 1, 4, .inl fs)), (mr, .inl (ca 0, 256, .inl mfr))]) (hS : va_S (fun q : Nat => s.heap.size ≤ q) s.heap H locs) (hl : lv_has ls 4 [(0, .ref b), (1, .ref x), (2, .ref mo), (3, .int (nI i0))]) : W p l e room_1 s m #[Value.ref b] below meth c H locs 600000 7302250 (lw_Z below #[Value.ref b] s) (F0 m 212 ls []) := by
  obtain ⟨hx, hb, hr, hml, hown, hts, hX, hbl, hlocks, hgv⟩ := C0
  have S0 : CallFix p m c b_law_law 4 s #[Value.ref b] gd_tbl "DownFramesLaw" := ⟨hx, hb, hml, hown, fun w h => hts w (gd_sub w h)⟩
  have hA : ∀ q : Nat, s.heap.size ≤ q → (fun q : Nat => s.heap.size ≤ q) q := fun _ h => h
  have hbA : ¬ (fun q : Nat => s.heap.size ≤ q) b := Nat.not_le.mpr hbl
  obtain ⟨k1, ⟨k2, k3, k4⟩, k5, k6, k7, k8, k9, ⟨k10, k11, k12⟩, -⟩ := id hR
  have k13 := k5 0 (by decide)
  have k14 := k5 1 (by decide)
  refine lv_aload_n hx hb d_law_law_212 rfl (lv_at hl 1 rfl) ?_
  refine lv_aload_n hx hb d_law_law_213 rfl (lv_at hl 0 rfl) ?_
  refine lv_iload_n hx hb d_law_law_214 rfl (lv_at hl 3 rfl) ?_
  refine lv_iconst (v := nI 1) hx hb d_law_law_215 (by decide) ?_
  refine lz_iadd hx hb d_law_law_216 ?_
  refine va_sld hx hb hX hbl hbA hS (vp_in_nI (n := i0 + 1) (by omega) (by omega)) d_law_law_217 ?_
  refine lz_top (y := xs (i0 + 1)) (by rw [nI_clamp (by omega)]) ?_
  refine k_Vi (n := 1) (As := [.int (xs (i0 + 1))]) (rest := []) (wc := [(x, .inr (2, [.ref tp, .int (nI n), .ref mk])), (mk, .inr (1, [.ref fr, .ref ch, .int (fs 0), .ref cn])), (ch, .inl (ca 2, 2, .inr (.inr (.inr (.inr (chf c0 c1)))))), (c0, .inr (0, [.ref r0, .int (nI fi0), .int (nI (wv 0)), .int (nI le0)])), (c1, .inr (0, [.ref r1, .int (nI fi1), .int (nI (wv 1)), .int (nI le1)]))]) (wr := [(tp, .inl (ca 0, 1024, .inl tape)), (fr, .inl (ca 0, LL, .inl frame)), (cn, .inl (ca 1, 3, .inl counts)), (r0, .inl (ca 0, 4096, .inl ring0)), (r1, .inl (ca 0, 4096, .inl ring1)), (mo, .inr (3, [.int (nI 0), .int (nI LL), .ref mt, .int (nI n), .ref my, .ref mg, .ref mw, .ref mf, .ref mr, .int (nI fl_)])), (mt, .inl (ca 0, 1024, .inl tape)), (my, .inl (ca 0, 8400, .inl bs)), (mg, .inl (ca 3, 8400, .inl bg)), (mw, .inl (ca 1, 2, .inl (fun k => nI (wv k)))), (mf, .inl (ca 1, 4, .inl fs)), (mr, .inl (ca 0, 256, .inl mfr))]) (ci := 2) (q0 := 0) S0 rfl q_133 q_134 q_135 q_1 rfl rfl q_136 (by decide +kernel) hK hP hD hS hA (c_Fr_waiting l D ca H.size x tp mk fr ch cn c0 r0 c1 r1 n fi0 (wv 0) le0 fi1 (wv 1) le1 (fs 0) (xs (i0 + 1))) [0, 2, 4, 6, 8] [1, 3, 5, 7, 9, 10, 11, 12, 13, 14, 15, 16] rfl rfl (by decide) (by decide) (by decide) ⟨Nat.le_of_ble_eq_true rfl, Nat.le_of_ble_eq_true rfl⟩ rfl hl.1 rfl (Nat.le_of_ble_eq_true rfl) ⟨Nat.le_of_ble_eq_true rfl, Nat.le_of_ble_eq_true rfl⟩ d_law_law_218 (fun r_1 u H locs hw1 hP hD hS => ?_)
  refine W.cs (cells' := 600000) (slots' := 7302250) rfl rfl ?_
  have hP : va_P D classes [(tp, .inl (ca 0, 1024, .inl tape)), (fr, .inl (ca 0, LL, .inl frame)), (cn, .inl (ca 1, 3, .inl counts)), (r0, .inl (ca 0, 4096, .inl ring0)), (r1, .inl (ca 0, 4096, .inl ring1)), (mo, .inr (3, [.int (nI 0), .int (nI LL), .ref mt, .int (nI n), .ref my, .ref mg, .ref mw, .ref mf, .ref mr, .int (nI fl_)])), (mt, .inl (ca 0, 1024, .inl tape)), (my, .inl (ca 0, 8400, .inl bs)), (mg, .inl (ca 3, 8400, .inl bg)), (mw, .inl (ca 1, 2, .inl (fun k => nI (wv k)))), (mf, .inl (ca 1, 4, .inl fs)), (mr, .inl (ca 0, 256, .inl mfr)), (x, .inr (2, [.ref tp, .int (nI n), .ref mk])), (mk, .inr (1, [.ref fr, .ref ch, .int (fs 0), .ref cn])), (ch, .inl (ca 2, 2, .inr (.inr (.inr (.inr (chf c0 c1)))))), (c0, .inr (0, [.ref r0, .int (nI fi0), .int (nI (wv 0)), .int (nI le0)])), (c1, .inr (0, [.ref r1, .int (nI fi1), .int (nI (wv 1)), .int (nI le1)]))] H := hP
  have hD : va_D (fun q : Nat => s.heap.size ≤ q) [(tp, .inl (ca 0, 1024, .inl tape)), (fr, .inl (ca 0, LL, .inl frame)), (cn, .inl (ca 1, 3, .inl counts)), (r0, .inl (ca 0, 4096, .inl ring0)), (r1, .inl (ca 0, 4096, .inl ring1)), (mo, .inr (3, [.int (nI 0), .int (nI LL), .ref mt, .int (nI n), .ref my, .ref mg, .ref mw, .ref mf, .ref mr, .int (nI fl_)])), (mt, .inl (ca 0, 1024, .inl tape)), (my, .inl (ca 0, 8400, .inl bs)), (mg, .inl (ca 3, 8400, .inl bg)), (mw, .inl (ca 1, 2, .inl (fun k => nI (wv k)))), (mf, .inl (ca 1, 4, .inl fs)), (mr, .inl (ca 0, 256, .inl mfr)), (x, .inr (2, [.ref tp, .int (nI n), .ref mk])), (mk, .inr (1, [.ref fr, .ref ch, .int (fs 0), .ref cn])), (ch, .inl (ca 2, 2, .inr (.inr (.inr (.inr (chf c0 c1)))))), (c0, .inr (0, [.ref r0, .int (nI fi0), .int (nI (wv 0)), .int (nI le0)])), (c1, .inr (0, [.ref r1, .int (nI fi1), .int (nI (wv 1)), .int (nI le1)]))] := hD
  have hP : va_P D classes [(x, .inr (2, [.ref tp, .int (nI n), .ref mk])), (tp, .inl (ca 0, 1024, .inl tape)), (mk, .inr (1, [.ref fr, .ref ch, .int (fs 0), .ref cn])), (fr, .inl (ca 0, LL, .inl frame)), (ch, .inl (ca 2, 2, .inr (.inr (.inr (.inr (chf c0 c1)))))), (cn, .inl (ca 1, 3, .inl counts)), (c0, .inr (0, [.ref r0, .int (nI fi0), .int (nI (wv 0)), .int (nI le0)])), (r0, .inl (ca 0, 4096, .inl ring0)), (c1, .inr (0, [.ref r1, .int (nI fi1), .int (nI (wv 1)), .int (nI le1)])), (r1, .inl (ca 0, 4096, .inl ring1)), (mo, .inr (3, [.int (nI 0), .int (nI LL), .ref mt, .int (nI n), .ref my, .ref mg, .ref mw, .ref mf, .ref mr, .int (nI fl_)])), (mt, .inl (ca 0, 1024, .inl tape)), (my, .inl (ca 0, 8400, .inl bs)), (mg, .inl (ca 3, 8400, .inl bg)), (mw, .inl (ca 1, 2, .inl (fun k => nI (wv k)))), (mf, .inl (ca 1, 4, .inl fs)), (mr, .inl (ca 0, 256, .inl mfr))] H := hP.sub [12, 0, 13, 1, 14, 2, 15, 3, 16, 4, 5, 6, 7, 8, 9, 10, 11] rfl
  have hD : va_D (fun q : Nat => s.heap.size ≤ q) [(x, .inr (2, [.ref tp, .int (nI n), .ref mk])), (tp, .inl (ca 0, 1024, .inl tape)), (mk, .inr (1, [.ref fr, .ref ch, .int (fs 0), .ref cn])), (fr, .inl (ca 0, LL, .inl frame)), (ch, .inl (ca 2, 2, .inr (.inr (.inr (.inr (chf c0 c1)))))), (cn, .inl (ca 1, 3, .inl counts)), (c0, .inr (0, [.ref r0, .int (nI fi0), .int (nI (wv 0)), .int (nI le0)])), (r0, .inl (ca 0, 4096, .inl ring0)), (c1, .inr (0, [.ref r1, .int (nI fi1), .int (nI (wv 1)), .int (nI le1)])), (r1, .inl (ca 0, 4096, .inl ring1)), (mo, .inr (3, [.int (nI 0), .int (nI LL), .ref mt, .int (nI n), .ref my, .ref mg, .ref mw, .ref mf, .ref mr, .int (nI fl_)])), (mt, .inl (ca 0, 1024, .inl tape)), (my, .inl (ca 0, 8400, .inl bs)), (mg, .inl (ca 3, 8400, .inl bg)), (mw, .inl (ca 1, 2, .inl (fun k => nI (wv k)))), (mf, .inl (ca 1, 4, .inl fs)), (mr, .inl (ca 0, 256, .inl mfr))] := hD.sub [12, 0, 13, 1, 14, 2, 15, 3, 16, 4, 5, 6, 7, 8, 9, 10, 11] (by decide) rfl
  refine lv_aload_n hx hb d_law_law_221 rfl (lv_at hl 2 rfl) ?_
  refine lv_aload_n hx hb d_law_law_222 rfl (lv_at hl 0 rfl) ?_
  refine lv_iload_n hx hb d_law_law_223 rfl (lv_at hl 3 rfl) ?_
  refine lv_iconst (v := nI 1) hx hb d_law_law_224 (by decide) ?_
  refine lz_iadd hx hb d_law_law_225 ?_
  refine va_sld hx hb hX hbl hbA hS (vp_in_nI (n := i0 + 1) (by omega) (by omega)) d_law_law_226 ?_
  refine lz_top (y := xs (i0 + 1)) (by rw [nI_clamp (by omega)]) ?_
  refine k_Vi (n := 1) (As := [.int (xs (i0 + 1))]) (rest := [.int r_1]) (wc := [(mo, .inr (3, [.int (nI 0), .int (nI LL), .ref mt, .int (nI n), .ref my, .ref mg, .ref mw, .ref mf, .ref mr, .int (nI fl_)])), (mw, .inl (ca 1, 2, .inl (fun k => nI (wv k))))]) (wr := [(x, .inr (2, [.ref tp, .int (nI n), .ref mk])), (tp, .inl (ca 0, 1024, .inl tape)), (mk, .inr (1, [.ref fr, .ref ch, .int (fs 0), .ref cn])), (fr, .inl (ca 0, LL, .inl frame)), (ch, .inl (ca 2, 2, .inr (.inr (.inr (.inr (chf c0 c1)))))), (cn, .inl (ca 1, 3, .inl counts)), (c0, .inr (0, [.ref r0, .int (nI fi0), .int (nI (wv 0)), .int (nI le0)])), (r0, .inl (ca 0, 4096, .inl ring0)), (c1, .inr (0, [.ref r1, .int (nI fi1), .int (nI (wv 1)), .int (nI le1)])), (r1, .inl (ca 0, 4096, .inl ring1)), (mt, .inl (ca 0, 1024, .inl tape)), (my, .inl (ca 0, 8400, .inl bs)), (mg, .inl (ca 3, 8400, .inl bg)), (mf, .inl (ca 1, 4, .inl fs)), (mr, .inl (ca 0, 256, .inl mfr))]) (ci := 3) (q0 := 0) S0 rfl q_225 q_226 q_227 q_4 rfl rfl q_228 (by decide +kernel) hK hP hD hS hA (c_Mo_waiting l D ca H.size mo mt my mg mw mf mr LL n fl_ (xs (i0 + 1)) wv) [10, 14] [0, 1, 2, 3, 4, 5, 6, 7, 8, 9, 11, 12, 13, 15, 16] rfl rfl (by decide) (by decide) (by decide) ⟨Nat.le_of_ble_eq_true rfl, Nat.le_of_ble_eq_true rfl⟩ rfl hl.1 rfl (Nat.le_of_ble_eq_true rfl) ⟨Nat.le_of_ble_eq_true rfl, Nat.le_of_ble_eq_true rfl⟩ d_law_law_227 (fun r_2 u2 H locs hw2 hP hD hS => ?_)
  refine W.cs (cells' := 600000) (slots' := 7302250) rfl rfl ?_
  have hP : va_P D classes [(x, .inr (2, [.ref tp, .int (nI n), .ref mk])), (tp, .inl (ca 0, 1024, .inl tape)), (mk, .inr (1, [.ref fr, .ref ch, .int (fs 0), .ref cn])), (fr, .inl (ca 0, LL, .inl frame)), (ch, .inl (ca 2, 2, .inr (.inr (.inr (.inr (chf c0 c1)))))), (cn, .inl (ca 1, 3, .inl counts)), (c0, .inr (0, [.ref r0, .int (nI fi0), .int (nI (wv 0)), .int (nI le0)])), (r0, .inl (ca 0, 4096, .inl ring0)), (c1, .inr (0, [.ref r1, .int (nI fi1), .int (nI (wv 1)), .int (nI le1)])), (r1, .inl (ca 0, 4096, .inl ring1)), (mt, .inl (ca 0, 1024, .inl tape)), (my, .inl (ca 0, 8400, .inl bs)), (mg, .inl (ca 3, 8400, .inl bg)), (mf, .inl (ca 1, 4, .inl fs)), (mr, .inl (ca 0, 256, .inl mfr)), (mo, .inr (3, [.int (nI 0), .int (nI LL), .ref mt, .int (nI n), .ref my, .ref mg, .ref mw, .ref mf, .ref mr, .int (nI fl_)])), (mw, .inl (ca 1, 2, .inl (fun k => nI (wv k))))] H := hP
  have hD : va_D (fun q : Nat => s.heap.size ≤ q) [(x, .inr (2, [.ref tp, .int (nI n), .ref mk])), (tp, .inl (ca 0, 1024, .inl tape)), (mk, .inr (1, [.ref fr, .ref ch, .int (fs 0), .ref cn])), (fr, .inl (ca 0, LL, .inl frame)), (ch, .inl (ca 2, 2, .inr (.inr (.inr (.inr (chf c0 c1)))))), (cn, .inl (ca 1, 3, .inl counts)), (c0, .inr (0, [.ref r0, .int (nI fi0), .int (nI (wv 0)), .int (nI le0)])), (r0, .inl (ca 0, 4096, .inl ring0)), (c1, .inr (0, [.ref r1, .int (nI fi1), .int (nI (wv 1)), .int (nI le1)])), (r1, .inl (ca 0, 4096, .inl ring1)), (mt, .inl (ca 0, 1024, .inl tape)), (my, .inl (ca 0, 8400, .inl bs)), (mg, .inl (ca 3, 8400, .inl bg)), (mf, .inl (ca 1, 4, .inl fs)), (mr, .inl (ca 0, 256, .inl mfr)), (mo, .inr (3, [.int (nI 0), .int (nI LL), .ref mt, .int (nI n), .ref my, .ref mg, .ref mw, .ref mf, .ref mr, .int (nI fl_)])), (mw, .inl (ca 1, 2, .inl (fun k => nI (wv k))))] := hD
  have hP : va_P D classes [(x, .inr (2, [.ref tp, .int (nI n), .ref mk])), (tp, .inl (ca 0, 1024, .inl tape)), (mk, .inr (1, [.ref fr, .ref ch, .int (fs 0), .ref cn])), (fr, .inl (ca 0, LL, .inl frame)), (ch, .inl (ca 2, 2, .inr (.inr (.inr (.inr (chf c0 c1)))))), (cn, .inl (ca 1, 3, .inl counts)), (c0, .inr (0, [.ref r0, .int (nI fi0), .int (nI (wv 0)), .int (nI le0)])), (r0, .inl (ca 0, 4096, .inl ring0)), (c1, .inr (0, [.ref r1, .int (nI fi1), .int (nI (wv 1)), .int (nI le1)])), (r1, .inl (ca 0, 4096, .inl ring1)), (mo, .inr (3, [.int (nI 0), .int (nI LL), .ref mt, .int (nI n), .ref my, .ref mg, .ref mw, .ref mf, .ref mr, .int (nI fl_)])), (mt, .inl (ca 0, 1024, .inl tape)), (my, .inl (ca 0, 8400, .inl bs)), (mg, .inl (ca 3, 8400, .inl bg)), (mw, .inl (ca 1, 2, .inl (fun k => nI (wv k)))), (mf, .inl (ca 1, 4, .inl fs)), (mr, .inl (ca 0, 256, .inl mfr))] H := hP.sub [0, 1, 2, 3, 4, 5, 6, 7, 8, 9, 15, 10, 11, 12, 16, 13, 14] rfl
  have hD : va_D (fun q : Nat => s.heap.size ≤ q) [(x, .inr (2, [.ref tp, .int (nI n), .ref mk])), (tp, .inl (ca 0, 1024, .inl tape)), (mk, .inr (1, [.ref fr, .ref ch, .int (fs 0), .ref cn])), (fr, .inl (ca 0, LL, .inl frame)), (ch, .inl (ca 2, 2, .inr (.inr (.inr (.inr (chf c0 c1)))))), (cn, .inl (ca 1, 3, .inl counts)), (c0, .inr (0, [.ref r0, .int (nI fi0), .int (nI (wv 0)), .int (nI le0)])), (r0, .inl (ca 0, 4096, .inl ring0)), (c1, .inr (0, [.ref r1, .int (nI fi1), .int (nI (wv 1)), .int (nI le1)])), (r1, .inl (ca 0, 4096, .inl ring1)), (mo, .inr (3, [.int (nI 0), .int (nI LL), .ref mt, .int (nI n), .ref my, .ref mg, .ref mw, .ref mf, .ref mr, .int (nI fl_)])), (mt, .inl (ca 0, 1024, .inl tape)), (my, .inl (ca 0, 8400, .inl bs)), (mg, .inl (ca 3, 8400, .inl bg)), (mw, .inl (ca 1, 2, .inl (fun k => nI (wv k)))), (mf, .inl (ca 1, 4, .inl fs)), (mr, .inl (ca 0, 256, .inl mfr))] := hD.sub [0, 1, 2, 3, 4, 5, 6, 7, 8, 9, 15, 10, 11, 12, 16, 13, 14] (by decide) rfl
  refine lv_icmp_eq (tgt := 258) hx hb d_law_law_230 (by decide) (fun h9 => ?_) (fun h9 => ?_)
  · refine lv_iinc (v := nI (i0 + 4)) (lv' := [(3, .int (nI (i0 + 4))), (0, .ref b), (1, .ref x), (2, .ref mo)]) hx hb d_law_law_258 hl (k := 3) rfl (nI_inc4 _) (by decide) rfl (fun ls hl => ?_)
    refine lv_goto (tgt := 28) hx hb d_law_law_261 (by decide) ?_
    exact ih (i0 + 4) n fi0 le0 fi1 le1 fl_ tape frame counts ring0 ring1 bs bg fs mfr wv H locs ls rfl (hR.mono (by omega)) hP hD hS (lv_sub hl [1, 2, 3, 0] rfl)
  · exact absurd (hw1.trans hw2.symm) h9
set_option maxHeartbeats 1000000 in
set_option maxRecDepth 100000 in
theorem law_5 {p : Program} {l : Launch} {e : Env} {s : State} {m : MethodId} {below : List Frame} {meth : Method} {c : Code} {D : va_G} {ca : Nat → ClassId} {b L : Nat} {xs : Nat → Int32} (x tp mk fr ch cn c0 r0 c1 r1 mo mt my mg mw mf mr LL F : Nat) (hL : L ≤ 2049) (C0 : lw_At p s m meth c b L xs) (hK : PW D ca s) (i0 : Nat) (h4 : i0 + 4 ≤ L) (n fi0 le0 fi1 le1 fl_ : Nat) (tape frame counts ring0 ring1 bs bg fs mfr : Nat → Int32) (wv : Nat → Nat)
    (ih : ∀ (i : Nat) (n fi0 le0 fi1 le1 fl_ : Nat) (tape frame counts ring0 ring1 bs bg fs mfr : Nat → Int32) (wv : Nat → Nat) (H : Heap) (locs : List Loc) (ls : Array Slot), i = i0 + 4 → Rel LL F i n frame counts (ring0, fi0, le0) (ring1, fi1, le1) bs bg fs mfr wv fl_ → va_P D classes [(x, .inr (2, [.ref tp, .int (nI n), .ref mk])), (tp, .inl (ca 0, 1024, .inl tape)), (mk, .inr (1, [.ref fr, .ref ch, .int (fs 0), .ref cn])), (fr, .inl (ca 0, LL, .inl frame)), (ch, .inl (ca 2, 2, .inr (.inr (.inr (.inr (chf c0 c1)))))), (cn, .inl (ca 1, 3, .inl counts)), (c0, .inr (0, [.ref r0, .int (nI fi0), .int (nI (wv 0)), .int (nI le0)])), (r0, .inl (ca 0, 4096, .inl ring0)), (c1, .inr (0, [.ref r1, .int (nI fi1), .int (nI (wv 1)), .int (nI le1)])), (r1, .inl (ca 0, 4096, .inl ring1)), (mo, .inr (3, [.int (nI 0), .int (nI LL), .ref mt, .int (nI n), .ref my, .ref mg, .ref mw, .ref mf, .ref mr, .int (nI fl_)])), (mt, .inl (ca 0, 1024, .inl tape)), (my, .inl (ca 0, 8400, .inl bs)), (mg, .inl (ca 3, 8400, .inl bg)), (mw, .inl (ca 1, 2, .inl (fun k => nI (wv k)))), (mf, .inl (ca 1, 4, .inl fs)), (mr, .inl (ca 0, 256, .inl mfr))] H → va_D (fun q : Nat => s.heap.size ≤ q) [(x, .inr (2, [.ref tp, .int (nI n), .ref mk])), (tp, .inl (ca 0, 1024, .inl tape)), (mk, .inr (1, [.ref fr, .ref ch, .int (fs 0), .ref cn])), (fr, .inl (ca 0, LL, .inl frame)), (ch, .inl (ca 2, 2, .inr (.inr (.inr (.inr (chf c0 c1)))))), (cn, .inl (ca 1, 3, .inl counts)), (c0, .inr (0, [.ref r0, .int (nI fi0), .int (nI (wv 0)), .int (nI le0)])), (r0, .inl (ca 0, 4096, .inl ring0)), (c1, .inr (0, [.ref r1, .int (nI fi1), .int (nI (wv 1)), .int (nI le1)])), (r1, .inl (ca 0, 4096, .inl ring1)), (mo, .inr (3, [.int (nI 0), .int (nI LL), .ref mt, .int (nI n), .ref my, .ref mg, .ref mw, .ref mf, .ref mr, .int (nI fl_)])), (mt, .inl (ca 0, 1024, .inl tape)), (my, .inl (ca 0, 8400, .inl bs)), (mg, .inl (ca 3, 8400, .inl bg)), (mw, .inl (ca 1, 2, .inl (fun k => nI (wv k)))), (mf, .inl (ca 1, 4, .inl fs)), (mr, .inl (ca 0, 256, .inl mfr))] → va_S (fun q : Nat => s.heap.size ≤ q) s.heap H locs → lv_has ls 4 [(0, .ref b), (1, .ref x), (2, .ref mo), (3, .int (nI i))] → W p l e room_1 s m #[Value.ref b] below meth c H locs 600000 7302250 (lw_Z below #[Value.ref b] s) (F0 m 28 ls [])) (H : Heap) (locs : List Loc) (ls : Array Slot) (hR : Rel LL F i0 n frame counts (ring0, fi0, le0) (ring1, fi1, le1) bs bg fs mfr wv fl_) (hP : va_P D classes [(x, .inr (2, [.ref tp, .int (nI n), .ref mk])), (tp, .inl (ca 0, 1024, .inl tape)), (mk, .inr (1, [.ref fr, .ref ch, .int (fs 0), .ref cn])), (fr, .inl (ca 0, LL, .inl frame)), (ch, .inl (ca 2, 2, .inr (.inr (.inr (.inr (chf c0 c1)))))), (cn, .inl (ca 1, 3, .inl counts)), (c0, .inr (0, [.ref r0, .int (nI fi0), .int (nI (wv 0)), .int (nI le0)])), (r0, .inl (ca 0, 4096, .inl ring0)), (c1, .inr (0, [.ref r1, .int (nI fi1), .int (nI (wv 1)), .int (nI le1)])), (r1, .inl (ca 0, 4096, .inl ring1)), (mo, .inr (3, [.int (nI 0), .int (nI LL), .ref mt, .int (nI n), .ref my, .ref mg, .ref mw, .ref mf, .ref mr, .int (nI fl_)])), (mt, .inl (ca 0, 1024, .inl tape)), (my, .inl (ca 0, 8400, .inl bs)), (mg, .inl (ca 3, 8400, .inl bg)), (mw, .inl (ca 1, 2, .inl (fun k => nI (wv k)))), (mf, .inl (ca 1, 4, .inl fs)), (mr, .inl (ca 0, 256, .inl mfr))] H) (hD : va_D (fun q : Nat => s.heap.size ≤ q) [(x, .inr (2, [.ref tp, .int (nI n), .ref mk])), (tp, .inl (ca 0, 1024, .inl tape)), (mk, .inr (1, [.ref fr, .ref ch, .int (fs 0), .ref cn])), (fr, .inl (ca 0, LL, .inl frame)), (ch, .inl (ca 2, 2, .inr (.inr (.inr (.inr (chf c0 c1)))))), (cn, .inl (ca 1, 3, .inl counts)), (c0, .inr (0, [.ref r0, .int (nI fi0), .int (nI (wv 0)), .int (nI le0)])), (r0, .inl (ca 0, 4096, .inl ring0)), (c1, .inr (0, [.ref r1, .int (nI fi1), .int (nI (wv 1)), .int (nI le1)])), (r1, .inl (ca 0, 4096, .inl ring1)), (mo, .inr (3, [.int (nI 0), .int (nI LL), .ref mt, .int (nI n), .ref my, .ref mg, .ref mw, .ref mf, .ref mr, .int (nI fl_)])), (mt, .inl (ca 0, 1024, .inl tape)), (my, .inl (ca 0, 8400, .inl bs)), (mg, .inl (ca 3, 8400, .inl bg)), (mw, .inl (ca 1, 2, .inl (fun k => nI (wv k)))), (mf, .inl (ca 1, 4, .inl fs)), (mr, .inl (ca 0, 256, .inl mfr))]) (hS : va_S (fun q : Nat => s.heap.size ≤ q) s.heap H locs) (hl : lv_has ls 4 [(0, .ref b), (1, .ref x), (2, .ref mo), (3, .int (nI i0))]) : W p l e room_1 s m #[Value.ref b] below meth c H locs 600000 7302250 (lw_Z below #[Value.ref b] s) (F0 m 235 ls []) := by
  obtain ⟨hx, hb, hr, hml, hown, hts, hX, hbl, hlocks, hgv⟩ := C0
  have S0 : CallFix p m c b_law_law 4 s #[Value.ref b] gd_tbl "DownFramesLaw" := ⟨hx, hb, hml, hown, fun w h => hts w (gd_sub w h)⟩
  have hA : ∀ q : Nat, s.heap.size ≤ q → (fun q : Nat => s.heap.size ≤ q) q := fun _ h => h
  have hbA : ¬ (fun q : Nat => s.heap.size ≤ q) b := Nat.not_le.mpr hbl
  obtain ⟨k1, ⟨k2, k3, k4⟩, k5, k6, k7, k8, k9, ⟨k10, k11, k12⟩, -⟩ := id hR
  have k13 := k5 0 (by decide)
  have k14 := k5 1 (by decide)
  refine lv_aload_n hx hb d_law_law_235 rfl (lv_at hl 1 rfl) ?_
  refine lv_aload_n hx hb d_law_law_236 rfl (lv_at hl 0 rfl) ?_
  refine lv_iload_n hx hb d_law_law_237 rfl (lv_at hl 3 rfl) ?_
  refine lv_iconst (v := nI 1) hx hb d_law_law_238 (by decide) ?_
  refine lz_iadd hx hb d_law_law_239 ?_
  refine va_sld hx hb hX hbl hbA hS (vp_in_nI (n := i0 + 1) (by omega) (by omega)) d_law_law_240 ?_
  refine lz_top (y := xs (i0 + 1)) (by rw [nI_clamp (by omega)]) ?_
  refine k_Vi (n := 1) (As := [.int (xs (i0 + 1))]) (rest := []) (wc := [(x, .inr (2, [.ref tp, .int (nI n), .ref mk])), (mk, .inr (1, [.ref fr, .ref ch, .int (fs 0), .ref cn])), (fr, .inl (ca 0, LL, .inl frame)), (cn, .inl (ca 1, 3, .inl counts))]) (wr := [(tp, .inl (ca 0, 1024, .inl tape)), (ch, .inl (ca 2, 2, .inr (.inr (.inr (.inr (chf c0 c1)))))), (c0, .inr (0, [.ref r0, .int (nI fi0), .int (nI (wv 0)), .int (nI le0)])), (r0, .inl (ca 0, 4096, .inl ring0)), (c1, .inr (0, [.ref r1, .int (nI fi1), .int (nI (wv 1)), .int (nI le1)])), (r1, .inl (ca 0, 4096, .inl ring1)), (mo, .inr (3, [.int (nI 0), .int (nI LL), .ref mt, .int (nI n), .ref my, .ref mg, .ref mw, .ref mf, .ref mr, .int (nI fl_)])), (mt, .inl (ca 0, 1024, .inl tape)), (my, .inl (ca 0, 8400, .inl bs)), (mg, .inl (ca 3, 8400, .inl bg)), (mw, .inl (ca 1, 2, .inl (fun k => nI (wv k)))), (mf, .inl (ca 1, 4, .inl fs)), (mr, .inl (ca 0, 256, .inl mfr))]) (ci := 2) (q0 := 0) S0 rfl q_137 q_138 q_139 q_1 rfl rfl q_140 (by decide +kernel) hK hP hD hS hA (c_Fr_count l D ca H.size x tp mk fr ch cn LL n (fs 0) (xs (i0 + 1)) frame counts) [0, 2, 3, 5] [1, 4, 6, 7, 8, 9, 10, 11, 12, 13, 14, 15, 16] rfl rfl (by decide) (by decide) (by decide) ⟨Nat.le_of_ble_eq_true rfl, Nat.le_of_ble_eq_true rfl⟩ rfl hl.1 rfl (Nat.le_of_ble_eq_true rfl) ⟨Nat.le_of_ble_eq_true rfl, Nat.le_of_ble_eq_true rfl⟩ d_law_law_241 (fun r_1 u H locs hw1 hP hD hS => ?_)
  refine W.cs (cells' := 600000) (slots' := 7302250) rfl rfl ?_
  have hP : va_P D classes [(tp, .inl (ca 0, 1024, .inl tape)), (ch, .inl (ca 2, 2, .inr (.inr (.inr (.inr (chf c0 c1)))))), (c0, .inr (0, [.ref r0, .int (nI fi0), .int (nI (wv 0)), .int (nI le0)])), (r0, .inl (ca 0, 4096, .inl ring0)), (c1, .inr (0, [.ref r1, .int (nI fi1), .int (nI (wv 1)), .int (nI le1)])), (r1, .inl (ca 0, 4096, .inl ring1)), (mo, .inr (3, [.int (nI 0), .int (nI LL), .ref mt, .int (nI n), .ref my, .ref mg, .ref mw, .ref mf, .ref mr, .int (nI fl_)])), (mt, .inl (ca 0, 1024, .inl tape)), (my, .inl (ca 0, 8400, .inl bs)), (mg, .inl (ca 3, 8400, .inl bg)), (mw, .inl (ca 1, 2, .inl (fun k => nI (wv k)))), (mf, .inl (ca 1, 4, .inl fs)), (mr, .inl (ca 0, 256, .inl mfr)), (x, .inr (2, [.ref tp, .int (nI n), .ref mk])), (mk, .inr (1, [.ref fr, .ref ch, .int (fs 0), .ref cn])), (fr, .inl (ca 0, LL, .inl frame)), (cn, .inl (ca 1, 3, .inl counts))] H := hP
  have hD : va_D (fun q : Nat => s.heap.size ≤ q) [(tp, .inl (ca 0, 1024, .inl tape)), (ch, .inl (ca 2, 2, .inr (.inr (.inr (.inr (chf c0 c1)))))), (c0, .inr (0, [.ref r0, .int (nI fi0), .int (nI (wv 0)), .int (nI le0)])), (r0, .inl (ca 0, 4096, .inl ring0)), (c1, .inr (0, [.ref r1, .int (nI fi1), .int (nI (wv 1)), .int (nI le1)])), (r1, .inl (ca 0, 4096, .inl ring1)), (mo, .inr (3, [.int (nI 0), .int (nI LL), .ref mt, .int (nI n), .ref my, .ref mg, .ref mw, .ref mf, .ref mr, .int (nI fl_)])), (mt, .inl (ca 0, 1024, .inl tape)), (my, .inl (ca 0, 8400, .inl bs)), (mg, .inl (ca 3, 8400, .inl bg)), (mw, .inl (ca 1, 2, .inl (fun k => nI (wv k)))), (mf, .inl (ca 1, 4, .inl fs)), (mr, .inl (ca 0, 256, .inl mfr)), (x, .inr (2, [.ref tp, .int (nI n), .ref mk])), (mk, .inr (1, [.ref fr, .ref ch, .int (fs 0), .ref cn])), (fr, .inl (ca 0, LL, .inl frame)), (cn, .inl (ca 1, 3, .inl counts))] := hD
  have hP : va_P D classes [(x, .inr (2, [.ref tp, .int (nI n), .ref mk])), (tp, .inl (ca 0, 1024, .inl tape)), (mk, .inr (1, [.ref fr, .ref ch, .int (fs 0), .ref cn])), (fr, .inl (ca 0, LL, .inl frame)), (ch, .inl (ca 2, 2, .inr (.inr (.inr (.inr (chf c0 c1)))))), (cn, .inl (ca 1, 3, .inl counts)), (c0, .inr (0, [.ref r0, .int (nI fi0), .int (nI (wv 0)), .int (nI le0)])), (r0, .inl (ca 0, 4096, .inl ring0)), (c1, .inr (0, [.ref r1, .int (nI fi1), .int (nI (wv 1)), .int (nI le1)])), (r1, .inl (ca 0, 4096, .inl ring1)), (mo, .inr (3, [.int (nI 0), .int (nI LL), .ref mt, .int (nI n), .ref my, .ref mg, .ref mw, .ref mf, .ref mr, .int (nI fl_)])), (mt, .inl (ca 0, 1024, .inl tape)), (my, .inl (ca 0, 8400, .inl bs)), (mg, .inl (ca 3, 8400, .inl bg)), (mw, .inl (ca 1, 2, .inl (fun k => nI (wv k)))), (mf, .inl (ca 1, 4, .inl fs)), (mr, .inl (ca 0, 256, .inl mfr))] H := hP.sub [13, 0, 14, 15, 1, 16, 2, 3, 4, 5, 6, 7, 8, 9, 10, 11, 12] rfl
  have hD : va_D (fun q : Nat => s.heap.size ≤ q) [(x, .inr (2, [.ref tp, .int (nI n), .ref mk])), (tp, .inl (ca 0, 1024, .inl tape)), (mk, .inr (1, [.ref fr, .ref ch, .int (fs 0), .ref cn])), (fr, .inl (ca 0, LL, .inl frame)), (ch, .inl (ca 2, 2, .inr (.inr (.inr (.inr (chf c0 c1)))))), (cn, .inl (ca 1, 3, .inl counts)), (c0, .inr (0, [.ref r0, .int (nI fi0), .int (nI (wv 0)), .int (nI le0)])), (r0, .inl (ca 0, 4096, .inl ring0)), (c1, .inr (0, [.ref r1, .int (nI fi1), .int (nI (wv 1)), .int (nI le1)])), (r1, .inl (ca 0, 4096, .inl ring1)), (mo, .inr (3, [.int (nI 0), .int (nI LL), .ref mt, .int (nI n), .ref my, .ref mg, .ref mw, .ref mf, .ref mr, .int (nI fl_)])), (mt, .inl (ca 0, 1024, .inl tape)), (my, .inl (ca 0, 8400, .inl bs)), (mg, .inl (ca 3, 8400, .inl bg)), (mw, .inl (ca 1, 2, .inl (fun k => nI (wv k)))), (mf, .inl (ca 1, 4, .inl fs)), (mr, .inl (ca 0, 256, .inl mfr))] := hD.sub [13, 0, 14, 15, 1, 16, 2, 3, 4, 5, 6, 7, 8, 9, 10, 11, 12] (by decide) rfl
  refine lv_aload_n hx hb d_law_law_244 rfl (lv_at hl 2 rfl) ?_
  refine lv_aload_n hx hb d_law_law_245 rfl (lv_at hl 0 rfl) ?_
  refine lv_iload_n hx hb d_law_law_246 rfl (lv_at hl 3 rfl) ?_
  refine lv_iconst (v := nI 1) hx hb d_law_law_247 (by decide) ?_
  refine lz_iadd hx hb d_law_law_248 ?_
  refine va_sld hx hb hX hbl hbA hS (vp_in_nI (n := i0 + 1) (by omega) (by omega)) d_law_law_249 ?_
  refine lz_top (y := xs (i0 + 1)) (by rw [nI_clamp (by omega)]) ?_
  refine k_Vi (n := 1) (As := [.int (xs (i0 + 1))]) (rest := [.int r_1]) (wc := [(mo, .inr (3, [.int (nI 0), .int (nI LL), .ref mt, .int (nI n), .ref my, .ref mg, .ref mw, .ref mf, .ref mr, .int (nI fl_)])), (mf, .inl (ca 1, 4, .inl fs))]) (wr := [(x, .inr (2, [.ref tp, .int (nI n), .ref mk])), (tp, .inl (ca 0, 1024, .inl tape)), (mk, .inr (1, [.ref fr, .ref ch, .int (fs 0), .ref cn])), (fr, .inl (ca 0, LL, .inl frame)), (ch, .inl (ca 2, 2, .inr (.inr (.inr (.inr (chf c0 c1)))))), (cn, .inl (ca 1, 3, .inl counts)), (c0, .inr (0, [.ref r0, .int (nI fi0), .int (nI (wv 0)), .int (nI le0)])), (r0, .inl (ca 0, 4096, .inl ring0)), (c1, .inr (0, [.ref r1, .int (nI fi1), .int (nI (wv 1)), .int (nI le1)])), (r1, .inl (ca 0, 4096, .inl ring1)), (mt, .inl (ca 0, 1024, .inl tape)), (my, .inl (ca 0, 8400, .inl bs)), (mg, .inl (ca 3, 8400, .inl bg)), (mw, .inl (ca 1, 2, .inl (fun k => nI (wv k)))), (mr, .inl (ca 0, 256, .inl mfr))]) (ci := 3) (q0 := 0) S0 rfl q_229 q_230 q_231 q_4 rfl rfl q_232 (by decide +kernel) hK hP hD hS hA (c_Mo_count l D ca H.size mo mt my mg mw mf mr LL n fl_ (xs (i0 + 1)) fs) [10, 15] [0, 1, 2, 3, 4, 5, 6, 7, 8, 9, 11, 12, 13, 14, 16] rfl rfl (by decide) (by decide) (by decide) ⟨Nat.le_of_ble_eq_true rfl, Nat.le_of_ble_eq_true rfl⟩ rfl hl.1 rfl (Nat.le_of_ble_eq_true rfl) ⟨Nat.le_of_ble_eq_true rfl, Nat.le_of_ble_eq_true rfl⟩ d_law_law_250 (fun r_2 u2 H locs hw2 hP hD hS => ?_)
  refine W.cs (cells' := 600000) (slots' := 7302250) rfl rfl ?_
  have hP : va_P D classes [(x, .inr (2, [.ref tp, .int (nI n), .ref mk])), (tp, .inl (ca 0, 1024, .inl tape)), (mk, .inr (1, [.ref fr, .ref ch, .int (fs 0), .ref cn])), (fr, .inl (ca 0, LL, .inl frame)), (ch, .inl (ca 2, 2, .inr (.inr (.inr (.inr (chf c0 c1)))))), (cn, .inl (ca 1, 3, .inl counts)), (c0, .inr (0, [.ref r0, .int (nI fi0), .int (nI (wv 0)), .int (nI le0)])), (r0, .inl (ca 0, 4096, .inl ring0)), (c1, .inr (0, [.ref r1, .int (nI fi1), .int (nI (wv 1)), .int (nI le1)])), (r1, .inl (ca 0, 4096, .inl ring1)), (mt, .inl (ca 0, 1024, .inl tape)), (my, .inl (ca 0, 8400, .inl bs)), (mg, .inl (ca 3, 8400, .inl bg)), (mw, .inl (ca 1, 2, .inl (fun k => nI (wv k)))), (mr, .inl (ca 0, 256, .inl mfr)), (mo, .inr (3, [.int (nI 0), .int (nI LL), .ref mt, .int (nI n), .ref my, .ref mg, .ref mw, .ref mf, .ref mr, .int (nI fl_)])), (mf, .inl (ca 1, 4, .inl fs))] H := hP
  have hD : va_D (fun q : Nat => s.heap.size ≤ q) [(x, .inr (2, [.ref tp, .int (nI n), .ref mk])), (tp, .inl (ca 0, 1024, .inl tape)), (mk, .inr (1, [.ref fr, .ref ch, .int (fs 0), .ref cn])), (fr, .inl (ca 0, LL, .inl frame)), (ch, .inl (ca 2, 2, .inr (.inr (.inr (.inr (chf c0 c1)))))), (cn, .inl (ca 1, 3, .inl counts)), (c0, .inr (0, [.ref r0, .int (nI fi0), .int (nI (wv 0)), .int (nI le0)])), (r0, .inl (ca 0, 4096, .inl ring0)), (c1, .inr (0, [.ref r1, .int (nI fi1), .int (nI (wv 1)), .int (nI le1)])), (r1, .inl (ca 0, 4096, .inl ring1)), (mt, .inl (ca 0, 1024, .inl tape)), (my, .inl (ca 0, 8400, .inl bs)), (mg, .inl (ca 3, 8400, .inl bg)), (mw, .inl (ca 1, 2, .inl (fun k => nI (wv k)))), (mr, .inl (ca 0, 256, .inl mfr)), (mo, .inr (3, [.int (nI 0), .int (nI LL), .ref mt, .int (nI n), .ref my, .ref mg, .ref mw, .ref mf, .ref mr, .int (nI fl_)])), (mf, .inl (ca 1, 4, .inl fs))] := hD
  have hP : va_P D classes [(x, .inr (2, [.ref tp, .int (nI n), .ref mk])), (tp, .inl (ca 0, 1024, .inl tape)), (mk, .inr (1, [.ref fr, .ref ch, .int (fs 0), .ref cn])), (fr, .inl (ca 0, LL, .inl frame)), (ch, .inl (ca 2, 2, .inr (.inr (.inr (.inr (chf c0 c1)))))), (cn, .inl (ca 1, 3, .inl counts)), (c0, .inr (0, [.ref r0, .int (nI fi0), .int (nI (wv 0)), .int (nI le0)])), (r0, .inl (ca 0, 4096, .inl ring0)), (c1, .inr (0, [.ref r1, .int (nI fi1), .int (nI (wv 1)), .int (nI le1)])), (r1, .inl (ca 0, 4096, .inl ring1)), (mo, .inr (3, [.int (nI 0), .int (nI LL), .ref mt, .int (nI n), .ref my, .ref mg, .ref mw, .ref mf, .ref mr, .int (nI fl_)])), (mt, .inl (ca 0, 1024, .inl tape)), (my, .inl (ca 0, 8400, .inl bs)), (mg, .inl (ca 3, 8400, .inl bg)), (mw, .inl (ca 1, 2, .inl (fun k => nI (wv k)))), (mf, .inl (ca 1, 4, .inl fs)), (mr, .inl (ca 0, 256, .inl mfr))] H := hP.sub [0, 1, 2, 3, 4, 5, 6, 7, 8, 9, 15, 10, 11, 12, 13, 16, 14] rfl
  have hD : va_D (fun q : Nat => s.heap.size ≤ q) [(x, .inr (2, [.ref tp, .int (nI n), .ref mk])), (tp, .inl (ca 0, 1024, .inl tape)), (mk, .inr (1, [.ref fr, .ref ch, .int (fs 0), .ref cn])), (fr, .inl (ca 0, LL, .inl frame)), (ch, .inl (ca 2, 2, .inr (.inr (.inr (.inr (chf c0 c1)))))), (cn, .inl (ca 1, 3, .inl counts)), (c0, .inr (0, [.ref r0, .int (nI fi0), .int (nI (wv 0)), .int (nI le0)])), (r0, .inl (ca 0, 4096, .inl ring0)), (c1, .inr (0, [.ref r1, .int (nI fi1), .int (nI (wv 1)), .int (nI le1)])), (r1, .inl (ca 0, 4096, .inl ring1)), (mo, .inr (3, [.int (nI 0), .int (nI LL), .ref mt, .int (nI n), .ref my, .ref mg, .ref mw, .ref mf, .ref mr, .int (nI fl_)])), (mt, .inl (ca 0, 1024, .inl tape)), (my, .inl (ca 0, 8400, .inl bs)), (mg, .inl (ca 3, 8400, .inl bg)), (mw, .inl (ca 1, 2, .inl (fun k => nI (wv k)))), (mf, .inl (ca 1, 4, .inl fs)), (mr, .inl (ca 0, 256, .inl mfr))] := hD.sub [0, 1, 2, 3, 4, 5, 6, 7, 8, 9, 15, 10, 11, 12, 13, 16, 14] (by decide) rfl
  refine lv_icmp_eq (tgt := 258) hx hb d_law_law_253 (by decide) (fun h9 => ?_) (fun h9 => ?_)
  · refine lv_iinc (v := nI (i0 + 4)) (lv' := [(3, .int (nI (i0 + 4))), (0, .ref b), (1, .ref x), (2, .ref mo)]) hx hb d_law_law_258 hl (k := 3) rfl (nI_inc4 _) (by decide) rfl (fun ls hl => ?_)
    refine lv_goto (tgt := 28) hx hb d_law_law_261 (by decide) ?_
    exact ih (i0 + 4) n fi0 le0 fi1 le1 fl_ tape frame counts ring0 ring1 bs bg fs mfr wv H locs ls rfl (hR.mono (by omega)) hP hD hS (lv_sub hl [1, 2, 3, 0] rfl)
  · exact absurd (hw1.trans (by rw [k10, k11, k12]; exact hw2.symm)) h9
set_option maxHeartbeats 1000000 in
set_option maxRecDepth 100000 in
theorem law_loop {p : Program} {l : Launch} {e : Env} {s : State} {m : MethodId} {below : List Frame} {meth : Method} {c : Code} {D : va_G} {ca : Nat → ClassId} {b L : Nat} {xs : Nat → Int32} (x tp mk fr ch cn c0 r0 c1 r1 mo mt my mg mw mf mr LL F : Nat) (hL : L ≤ 2049) (C0 : lw_At p s m meth c b L xs) (hK : PW D ca s) :
    ∀ (nf i : Nat) (n fi0 le0 fi1 le1 fl_ : Nat) (tape frame counts ring0 ring1 bs bg fs mfr : Nat → Int32) (wv : Nat → Nat) (H : Heap) (locs : List Loc) (ls : Array Slot), L - i < nf → i ≤ 2053 → 1 ≤ i → Rel LL F i n frame counts (ring0, fi0, le0) (ring1, fi1, le1) bs bg fs mfr wv fl_ → va_P D classes [(x, .inr (2, [.ref tp, .int (nI n), .ref mk])), (tp, .inl (ca 0, 1024, .inl tape)), (mk, .inr (1, [.ref fr, .ref ch, .int (fs 0), .ref cn])), (fr, .inl (ca 0, LL, .inl frame)), (ch, .inl (ca 2, 2, .inr (.inr (.inr (.inr (chf c0 c1)))))), (cn, .inl (ca 1, 3, .inl counts)), (c0, .inr (0, [.ref r0, .int (nI fi0), .int (nI (wv 0)), .int (nI le0)])), (r0, .inl (ca 0, 4096, .inl ring0)), (c1, .inr (0, [.ref r1, .int (nI fi1), .int (nI (wv 1)), .int (nI le1)])), (r1, .inl (ca 0, 4096, .inl ring1)), (mo, .inr (3, [.int (nI 0), .int (nI LL), .ref mt, .int (nI n), .ref my, .ref mg, .ref mw, .ref mf, .ref mr, .int (nI fl_)])), (mt, .inl (ca 0, 1024, .inl tape)), (my, .inl (ca 0, 8400, .inl bs)), (mg, .inl (ca 3, 8400, .inl bg)), (mw, .inl (ca 1, 2, .inl (fun k => nI (wv k)))), (mf, .inl (ca 1, 4, .inl fs)), (mr, .inl (ca 0, 256, .inl mfr))] H → va_D (fun q : Nat => s.heap.size ≤ q) [(x, .inr (2, [.ref tp, .int (nI n), .ref mk])), (tp, .inl (ca 0, 1024, .inl tape)), (mk, .inr (1, [.ref fr, .ref ch, .int (fs 0), .ref cn])), (fr, .inl (ca 0, LL, .inl frame)), (ch, .inl (ca 2, 2, .inr (.inr (.inr (.inr (chf c0 c1)))))), (cn, .inl (ca 1, 3, .inl counts)), (c0, .inr (0, [.ref r0, .int (nI fi0), .int (nI (wv 0)), .int (nI le0)])), (r0, .inl (ca 0, 4096, .inl ring0)), (c1, .inr (0, [.ref r1, .int (nI fi1), .int (nI (wv 1)), .int (nI le1)])), (r1, .inl (ca 0, 4096, .inl ring1)), (mo, .inr (3, [.int (nI 0), .int (nI LL), .ref mt, .int (nI n), .ref my, .ref mg, .ref mw, .ref mf, .ref mr, .int (nI fl_)])), (mt, .inl (ca 0, 1024, .inl tape)), (my, .inl (ca 0, 8400, .inl bs)), (mg, .inl (ca 3, 8400, .inl bg)), (mw, .inl (ca 1, 2, .inl (fun k => nI (wv k)))), (mf, .inl (ca 1, 4, .inl fs)), (mr, .inl (ca 0, 256, .inl mfr))] → va_S (fun q : Nat => s.heap.size ≤ q) s.heap H locs → lv_has ls 4 [(0, .ref b), (1, .ref x), (2, .ref mo), (3, .int (nI i))] → W p l e room_1 s m #[Value.ref b] below meth c H locs 600000 7302250 (lw_Z below #[Value.ref b] s) (F0 m 28 ls []) := by
  have C1 := C0
  obtain ⟨hx, hb, hr, hml, hown, hts, hX, hbl, hlocks, hgv⟩ := C0
  have S0 : CallFix p m c b_law_law 4 s #[Value.ref b] gd_tbl "DownFramesLaw" := ⟨hx, hb, hml, hown, fun w h => hts w (gd_sub w h)⟩
  have hA : ∀ q : Nat, s.heap.size ≤ q → (fun q : Nat => s.heap.size ≤ q) q := fun _ h => h
  have hbA : ¬ (fun q : Nat => s.heap.size ≤ q) b := Nat.not_le.mpr hbl
  intro nf
  induction nf with
  | zero =>
    intro i n fi0 le0 fi1 le1 fl_ tape frame counts ring0 ring1 bs bg fs mfr wv H locs ls hm
    exact absurd hm (Nat.not_lt_zero _)
  | succ nf ih =>
    intro i n fi0 le0 fi1 le1 fl_ tape frame counts ring0 ring1 bs bg fs mfr wv H locs ls hm hi0 hi1 hR hP hD hS hl
    refine lv_iload_n hx hb d_law_law_28 rfl (lv_at hl 3 rfl) ?_
    refine lv_aload_n hx hb d_law_law_29 rfl (lv_at hl 0 rfl) ?_
    refine va_slen hx hb hX hbl hbA hS d_law_law_30 ?_
    refine lz_top (y := nI L) rfl ?_
    refine lv_iconst (v := nI 4) hx hb d_law_law_31 (by decide) ?_
    rcases Nat.lt_or_ge L 4 with hL4 | hL4
    · refine lv_isub hx hb d_law_law_32 ?_
      refine lv_icmp_gt (tgt := 264) hx hb d_law_law_33 (by decide) (fun h9 => ?_) (fun h9 => ?_)
      · refine lv_iconst (v := nI 1) hx hb d_law_law_264 (by decide) ?_
        refine lz_top (y := 1) (by decide) ?_
        refine va_forget (fun q hq => hS.2.2 q hq) ?_
        exact lw_ret hx hb hr hlocks d_law_law_265
      · exfalso
        have e1 := Int32.lt_iff_toInt_lt.mp (pk_sneg (a := L) (b := 4) (by decide) hL4)
        have e2 := nI_toInt (n := i) (by omega)
        have e3 : (0 : Int32).toInt = 0 := by decide +kernel
        exact h9 (Int32.lt_iff_toInt_lt.mpr (by omega))
    · refine lz_isub hx hb (hL4) d_law_law_32 ?_
      refine lz_icmp_gt (tgt := 264) hx hb (by omega) (by omega) d_law_law_33 (by decide) (fun h9 => ?_) (fun h9 => ?_)
      · refine lv_iconst (v := nI 1) hx hb d_law_law_264 (by decide) ?_
        refine lz_top (y := 1) (by decide) ?_
        refine va_forget (fun q hq => hS.2.2 q hq) ?_
        exact lw_ret hx hb hr hlocks d_law_law_265
      · refine lv_aload_n hx hb d_law_law_36 rfl (lv_at hl 0 rfl) ?_
        refine lv_iload_n hx hb d_law_law_37 rfl (lv_at hl 3 rfl) ?_
        refine va_sld hx hb hX hbl hbA hS (vp_in_nI (n := i) (by omega) (by omega)) d_law_law_38 ?_
        refine lz_top (y := xs i) (by rw [nI_clamp (by omega)]) ?_
        refine lv_bipush (v := nI 7) hx hb d_law_law_39 (by decide) ?_
        refine lv_iand hx hb d_law_law_41 ?_
        obtain ⟨v, hv, ev⟩ := pk_andE (xs i) (m := nI 7) 3 (by decide)
        refine lz_top (y := nI v) (ev) ?_
        have ihb : ∀ (j : Nat) (n fi0 le0 fi1 le1 fl_ : Nat) (tape frame counts ring0 ring1 bs bg fs mfr : Nat → Int32) (wv : Nat → Nat) (H : Heap) (locs : List Loc) (ls : Array Slot), j = i + 4 → Rel LL F j n frame counts (ring0, fi0, le0) (ring1, fi1, le1) bs bg fs mfr wv fl_ → va_P D classes [(x, .inr (2, [.ref tp, .int (nI n), .ref mk])), (tp, .inl (ca 0, 1024, .inl tape)), (mk, .inr (1, [.ref fr, .ref ch, .int (fs 0), .ref cn])), (fr, .inl (ca 0, LL, .inl frame)), (ch, .inl (ca 2, 2, .inr (.inr (.inr (.inr (chf c0 c1)))))), (cn, .inl (ca 1, 3, .inl counts)), (c0, .inr (0, [.ref r0, .int (nI fi0), .int (nI (wv 0)), .int (nI le0)])), (r0, .inl (ca 0, 4096, .inl ring0)), (c1, .inr (0, [.ref r1, .int (nI fi1), .int (nI (wv 1)), .int (nI le1)])), (r1, .inl (ca 0, 4096, .inl ring1)), (mo, .inr (3, [.int (nI 0), .int (nI LL), .ref mt, .int (nI n), .ref my, .ref mg, .ref mw, .ref mf, .ref mr, .int (nI fl_)])), (mt, .inl (ca 0, 1024, .inl tape)), (my, .inl (ca 0, 8400, .inl bs)), (mg, .inl (ca 3, 8400, .inl bg)), (mw, .inl (ca 1, 2, .inl (fun k => nI (wv k)))), (mf, .inl (ca 1, 4, .inl fs)), (mr, .inl (ca 0, 256, .inl mfr))] H → va_D (fun q : Nat => s.heap.size ≤ q) [(x, .inr (2, [.ref tp, .int (nI n), .ref mk])), (tp, .inl (ca 0, 1024, .inl tape)), (mk, .inr (1, [.ref fr, .ref ch, .int (fs 0), .ref cn])), (fr, .inl (ca 0, LL, .inl frame)), (ch, .inl (ca 2, 2, .inr (.inr (.inr (.inr (chf c0 c1)))))), (cn, .inl (ca 1, 3, .inl counts)), (c0, .inr (0, [.ref r0, .int (nI fi0), .int (nI (wv 0)), .int (nI le0)])), (r0, .inl (ca 0, 4096, .inl ring0)), (c1, .inr (0, [.ref r1, .int (nI fi1), .int (nI (wv 1)), .int (nI le1)])), (r1, .inl (ca 0, 4096, .inl ring1)), (mo, .inr (3, [.int (nI 0), .int (nI LL), .ref mt, .int (nI n), .ref my, .ref mg, .ref mw, .ref mf, .ref mr, .int (nI fl_)])), (mt, .inl (ca 0, 1024, .inl tape)), (my, .inl (ca 0, 8400, .inl bs)), (mg, .inl (ca 3, 8400, .inl bg)), (mw, .inl (ca 1, 2, .inl (fun k => nI (wv k)))), (mf, .inl (ca 1, 4, .inl fs)), (mr, .inl (ca 0, 256, .inl mfr))] → va_S (fun q : Nat => s.heap.size ≤ q) s.heap H locs → lv_has ls 4 [(0, .ref b), (1, .ref x), (2, .ref mo), (3, .int (nI j))] → W p l e room_1 s m #[Value.ref b] below meth c H locs 600000 7302250 (lw_Z below #[Value.ref b] s) (F0 m 28 ls []) := fun j n fi0 le0 fi1 le1 fl_ tape frame counts ring0 ring1 bs bg fs mfr wv H locs ls ej hR hP hD hS hl => ih j n fi0 le0 fi1 le1 fl_ tape frame counts ring0 ring1 bs bg fs mfr wv H locs ls (by omega) (by omega) (by omega) hR hP hD hS hl
        rcases (show v = 0 ∨ v = 1 ∨ v = 2 ∨ v = 3 ∨ v = 4 ∨ v = 5 ∨ v = 6 ∨ v = 7 by omega) with rfl | rfl | rfl | rfl | rfl | rfl | rfl | rfl
        · refine lv_tableIn (tgt := 80) hx hb d_law_law_42 (by decide) (by decide) rfl (by decide) ?_
          exact law_0 x tp mk fr ch cn c0 r0 c1 r1 mo mt my mg mw mf mr LL F hL C1 hK i (by omega) n fi0 le0 fi1 le1 fl_ tape frame counts ring0 ring1 bs bg fs mfr wv ihb H locs ls hR hP hD hS hl
        · refine lv_tableIn (tgt := 143) hx hb d_law_law_42 (by decide) (by decide) rfl (by decide) ?_
          exact law_1 x tp mk fr ch cn c0 r0 c1 r1 mo mt my mg mw mf mr LL F hL C1 hK i (by omega) n fi0 le0 fi1 le1 fl_ tape frame counts ring0 ring1 bs bg fs mfr wv ihb H locs ls hR hP hD hS hl
        · refine lv_tableIn (tgt := 166) hx hb d_law_law_42 (by decide) (by decide) rfl (by decide) ?_
          exact law_2 x tp mk fr ch cn c0 r0 c1 r1 mo mt my mg mw mf mr LL F hL C1 hK i (by omega) n fi0 le0 fi1 le1 fl_ tape frame counts ring0 ring1 bs bg fs mfr wv ihb H locs ls hR hP hD hS hl
        · refine lv_tableIn (tgt := 189) hx hb d_law_law_42 (by decide) (by decide) rfl (by decide) ?_
          exact law_3 x tp mk fr ch cn c0 r0 c1 r1 mo mt my mg mw mf mr LL F hL C1 hK i (by omega) n fi0 le0 fi1 le1 fl_ tape frame counts ring0 ring1 bs bg fs mfr wv ihb H locs ls hR hP hD hS hl
        · refine lv_tableIn (tgt := 212) hx hb d_law_law_42 (by decide) (by decide) rfl (by decide) ?_
          exact law_4 x tp mk fr ch cn c0 r0 c1 r1 mo mt my mg mw mf mr LL F hL C1 hK i (by omega) n fi0 le0 fi1 le1 fl_ tape frame counts ring0 ring1 bs bg fs mfr wv ihb H locs ls hR hP hD hS hl
        · refine lv_tableIn (tgt := 235) hx hb d_law_law_42 (by decide) (by decide) rfl (by decide) ?_
          exact law_5 x tp mk fr ch cn c0 r0 c1 r1 mo mt my mg mw mf mr LL F hL C1 hK i (by omega) n fi0 le0 fi1 le1 fl_ tape frame counts ring0 ring1 bs bg fs mfr wv ihb H locs ls hR hP hD hS hl
        · have hout : (nI 6).toInt < 0 ∨ 5 < (nI 6).toInt := Or.inr (by decide +kernel)
          refine lv_tableOut (tgt := 258) hx hb d_law_law_42 hout (by decide) ?_
          refine lv_iinc (v := nI (i + 4)) (lv' := [(3, .int (nI (i + 4))), (0, .ref b), (1, .ref x), (2, .ref mo)]) hx hb d_law_law_258 hl (k := 3) rfl (nI_inc4 _) (by decide) rfl (fun ls hl => ?_)
          refine lv_goto (tgt := 28) hx hb d_law_law_261 (by decide) ?_
          exact ihb (i + 4) n fi0 le0 fi1 le1 fl_ tape frame counts ring0 ring1 bs bg fs mfr wv H locs ls rfl (hR.mono (by omega)) hP hD hS (lv_sub hl [1, 2, 3, 0] rfl)
        · have hout : (nI 7).toInt < 0 ∨ 5 < (nI 7).toInt := Or.inr (by decide +kernel)
          refine lv_tableOut (tgt := 258) hx hb d_law_law_42 hout (by decide) ?_
          refine lv_iinc (v := nI (i + 4)) (lv' := [(3, .int (nI (i + 4))), (0, .ref b), (1, .ref x), (2, .ref mo)]) hx hb d_law_law_258 hl (k := 3) rfl (nI_inc4 _) (by decide) rfl (fun ls hl => ?_)
          refine lv_goto (tgt := 28) hx hb d_law_law_261 (by decide) ?_
          exact ihb (i + 4) n fi0 le0 fi1 le1 fl_ tape frame counts ring0 ring1 bs bg fs mfr wv H locs ls rfl (hR.mono (by omega)) hP hD hS (lv_sub hl [1, 2, 3, 0] rfl)
end
section
set_option maxHeartbeats 1000000 in
set_option maxRecDepth 100000 in
/-- THE LAW, from its entry -/
theorem whole_start {p : Program} {e : Env} {s : State} {m : MethodId} {below : List Frame} {meth : Method} {c : Code} (l : Launch) {b L : Nat} {xs : Nat → Int32} (hL : L ≤ 2049) (C0 : lw_At p s m meth c b L xs) : W p l e room_1 s m #[Value.ref b] below meth c s.heap [] 0 0 (lw_Z below #[Value.ref b] s) (entryFrame m ([Value.ref b] : List Value).toArray 4) := by
  have C1 := C0
  obtain ⟨hx, hb, hr, hml, hown, hts, hX, hbl, hlocks, hgv⟩ := C0
  have S0 : CallFix p m c b_law_law 4 s #[Value.ref b] gd_tbl "DownFramesLaw" := ⟨hx, hb, hml, hown, fun w h => hts w (gd_sub w h)⟩
  have hA : ∀ q : Nat, s.heap.size ≤ q → (fun q : Nat => s.heap.size ≤ q) q := fun _ h => h
  have hbA : ¬ (fun q : Nat => s.heap.size ≤ q) b := Nat.not_le.mpr hbl
  obtain ⟨D, ca, hK⟩ := pw_start hts
  have hS : va_S (fun q : Nat => s.heap.size ≤ q) s.heap s.heap [] := va_S.rf
  have hP : va_P D classes [] s.heap := fun k q h => by simp at h
  have hD : va_D (fun q : Nat => s.heap.size ≤ q) [] := ⟨fun i j p q h => by simp at h, fun k q h => by simp at h⟩
  have hl := lv_entry ([.ref b]) (n := 4) (Nat.le_of_ble_eq_true rfl)
  rw [lg_entry_eq]
  generalize (lg_sl ([.ref b]) ++ List.replicate (4 - (lg_sl ([.ref b])).length) Slot.unset).toArray = ls at hl ⊢
  have hl : lv_has ls 4 [(0, .ref b)] := hl
  refine va_new (ci := 2) (fs := [.null, .int (nI 0), .null]) (C := R_Fr) (T := F_Fr) (N := 3) hx hb S0.2.2.2.2 i_Fr t_Fr t_Fr_ok S0.2.2.2.1 (S0.2.2.2.2 _ q_6) (S0.2.2.2.2 _ q_7) (S0.2.2.2.2 _ q_1) hK.1 hP hD hS hA rfl (fun j hj => by rcases (show j = 0 ∨ j = 1 ∨ j = 2 by omega) with rfl | rfl | rfl <;> rfl) (Nat.le_of_ble_eq_true rfl) (Nat.le_of_ble_eq_true rfl) d_law_law_0 (fun x H hP hD hS => ?_)
  refine W.cs (cells' := 1) (slots' := 3) rfl rfl ?_
  have hP : va_P D classes [(x, .inr (2, [.null, .int (nI 0), .null]))] H := hP
  have hD : va_D (fun q : Nat => s.heap.size ≤ q) [(x, .inr (2, [.null, .int (nI 0), .null]))] := hD
  refine lv_dup hx hb d_law_law_3 rfl ?_
  refine lv_aload_n hx hb d_law_law_4 rfl (lv_at hl 0 rfl) ?_
  refine lv_iconst (v := nI 0) hx hb d_law_law_5 (by decide) ?_
  refine k_cell S0 hX hbl hbA hS hP (by omega) ⟨Nat.le_of_ble_eq_true rfl, Nat.le_of_ble_eq_true rfl⟩ hl.1 (Nat.le_of_ble_eq_true rfl) ⟨Nat.le_of_ble_eq_true rfl, Nat.le_of_ble_eq_true rfl⟩ d_law_law_6 (fun H locs hP hS => ?_)
  have hP : va_P D classes [(x, .inr (2, [.null, .int (nI 0), .null]))] H := hP
  have hD : va_D (fun q : Nat => s.heap.size ≤ q) [(x, .inr (2, [.null, .int (nI 0), .null]))] := hD
  refine lv_topi (fun y0 ey0 => ?_)
  refine k_Iv (n := 1) (As := [.int y0]) (rest := [.ref x]) (wc := [(x, .inr (2, [.null, .int (nI 0), .null]))]) (wr := []) S0 rfl q_8 q_9 q_1 q_10 (by decide +kernel) hK hP hD hS hA (c_Fr_init l D ca H.size x y0) [0] [] rfl rfl (by decide) (by decide) (by decide) ⟨Nat.le_of_ble_eq_true rfl, Nat.le_of_ble_eq_true rfl⟩ rfl hl.1 rfl (Nat.le_of_ble_eq_true rfl) ⟨Nat.le_of_ble_eq_true rfl, Nat.le_of_ble_eq_true rfl⟩ d_law_law_9 (fun u H locs hw hP hD hS => ?_)
  refine W.cs (cells' := 10) (slots' := 9492) rfl rfl ?_
  obtain ⟨tp, mk, fr, ch, cn, c0, r0, c1, r1⟩ := u
  have hP : va_P D classes [(x, .inr (2, [.ref tp, .int (nI 0), .ref mk])), (tp, .inl (ca 0, 1024, .inl (fun _ => nI 0))), (mk, .inr (1, [.ref fr, .ref ch, .int (nI 0), .ref cn])), (fr, .inl (ca 0, (clL y0), .inl (fun _ => nI 0))), (ch, .inl (ca 2, 2, .inr (.inr (.inr (.inr (chf c0 c1)))))), (cn, .inl (ca 1, 3, .inl (fun _ => nI 0))), (c0, .inr (0, [.ref r0, .int (nI 0), .int (nI 0), .int (nI 0)])), (r0, .inl (ca 0, 4096, .inl (fun _ => nI 0))), (c1, .inr (0, [.ref r1, .int (nI 0), .int (nI 0), .int (nI 0)])), (r1, .inl (ca 0, 4096, .inl (fun _ => nI 0)))] H := hP
  have hD : va_D (fun q : Nat => s.heap.size ≤ q) [(x, .inr (2, [.ref tp, .int (nI 0), .ref mk])), (tp, .inl (ca 0, 1024, .inl (fun _ => nI 0))), (mk, .inr (1, [.ref fr, .ref ch, .int (nI 0), .ref cn])), (fr, .inl (ca 0, (clL y0), .inl (fun _ => nI 0))), (ch, .inl (ca 2, 2, .inr (.inr (.inr (.inr (chf c0 c1)))))), (cn, .inl (ca 1, 3, .inl (fun _ => nI 0))), (c0, .inr (0, [.ref r0, .int (nI 0), .int (nI 0), .int (nI 0)])), (r0, .inl (ca 0, 4096, .inl (fun _ => nI 0))), (c1, .inr (0, [.ref r1, .int (nI 0), .int (nI 0), .int (nI 0)])), (r1, .inl (ca 0, 4096, .inl (fun _ => nI 0)))] := hD
  refine lv_astore_n (lv' := [(1, .ref x), (0, .ref b)]) hx hb d_law_law_12 rfl hl (by decide) rfl (fun ls hl => ?_)
  refine va_new (ci := 3) (fs := [.int (nI 0), .int (nI 0), .null, .int (nI 0), .null, .null, .null, .null, .null, .int (nI 0)]) (C := R_Mo) (T := F_Mo) (N := 10) hx hb S0.2.2.2.2 i_Mo t_Mo t_Mo_ok S0.2.2.2.1 (S0.2.2.2.2 _ q_144) (S0.2.2.2.2 _ q_145) (S0.2.2.2.2 _ q_4) hK.1 hP hD hS hA rfl (fun j hj => by rcases (show j = 0 ∨ j = 1 ∨ j = 2 ∨ j = 3 ∨ j = 4 ∨ j = 5 ∨ j = 6 ∨ j = 7 ∨ j = 8 ∨ j = 9 by omega) with rfl | rfl | rfl | rfl | rfl | rfl | rfl | rfl | rfl | rfl <;> rfl) (Nat.le_of_ble_eq_true rfl) (Nat.le_of_ble_eq_true rfl) d_law_law_13 (fun mo H hP hD hS => ?_)
  refine W.cs (cells' := 11) (slots' := 9502) rfl rfl ?_
  have hP : va_P D classes [(x, .inr (2, [.ref tp, .int (nI 0), .ref mk])), (tp, .inl (ca 0, 1024, .inl (fun _ => nI 0))), (mk, .inr (1, [.ref fr, .ref ch, .int (nI 0), .ref cn])), (fr, .inl (ca 0, (clL y0), .inl (fun _ => nI 0))), (ch, .inl (ca 2, 2, .inr (.inr (.inr (.inr (chf c0 c1)))))), (cn, .inl (ca 1, 3, .inl (fun _ => nI 0))), (c0, .inr (0, [.ref r0, .int (nI 0), .int (nI 0), .int (nI 0)])), (r0, .inl (ca 0, 4096, .inl (fun _ => nI 0))), (c1, .inr (0, [.ref r1, .int (nI 0), .int (nI 0), .int (nI 0)])), (r1, .inl (ca 0, 4096, .inl (fun _ => nI 0))), (mo, .inr (3, [.int (nI 0), .int (nI 0), .null, .int (nI 0), .null, .null, .null, .null, .null, .int (nI 0)]))] H := hP
  have hD : va_D (fun q : Nat => s.heap.size ≤ q) [(x, .inr (2, [.ref tp, .int (nI 0), .ref mk])), (tp, .inl (ca 0, 1024, .inl (fun _ => nI 0))), (mk, .inr (1, [.ref fr, .ref ch, .int (nI 0), .ref cn])), (fr, .inl (ca 0, (clL y0), .inl (fun _ => nI 0))), (ch, .inl (ca 2, 2, .inr (.inr (.inr (.inr (chf c0 c1)))))), (cn, .inl (ca 1, 3, .inl (fun _ => nI 0))), (c0, .inr (0, [.ref r0, .int (nI 0), .int (nI 0), .int (nI 0)])), (r0, .inl (ca 0, 4096, .inl (fun _ => nI 0))), (c1, .inr (0, [.ref r1, .int (nI 0), .int (nI 0), .int (nI 0)])), (r1, .inl (ca 0, 4096, .inl (fun _ => nI 0))), (mo, .inr (3, [.int (nI 0), .int (nI 0), .null, .int (nI 0), .null, .null, .null, .null, .null, .int (nI 0)]))] := hD
  refine lv_dup hx hb d_law_law_16 rfl ?_
  refine lv_aload_n hx hb d_law_law_17 rfl (lv_at hl 1 rfl) ?_
  refine lv_iconst (v := nI 0) hx hb d_law_law_18 (by decide) ?_
  refine k_cell S0 hX hbl hbA hS hP (by omega) ⟨Nat.le_of_ble_eq_true rfl, Nat.le_of_ble_eq_true rfl⟩ hl.1 (Nat.le_of_ble_eq_true rfl) ⟨Nat.le_of_ble_eq_true rfl, Nat.le_of_ble_eq_true rfl⟩ d_law_law_19 (fun H locs hP hS => ?_)
  have hP : va_P D classes [(x, .inr (2, [.ref tp, .int (nI 0), .ref mk])), (tp, .inl (ca 0, 1024, .inl (fun _ => nI 0))), (mk, .inr (1, [.ref fr, .ref ch, .int (nI 0), .ref cn])), (fr, .inl (ca 0, (clL y0), .inl (fun _ => nI 0))), (ch, .inl (ca 2, 2, .inr (.inr (.inr (.inr (chf c0 c1)))))), (cn, .inl (ca 1, 3, .inl (fun _ => nI 0))), (c0, .inr (0, [.ref r0, .int (nI 0), .int (nI 0), .int (nI 0)])), (r0, .inl (ca 0, 4096, .inl (fun _ => nI 0))), (c1, .inr (0, [.ref r1, .int (nI 0), .int (nI 0), .int (nI 0)])), (r1, .inl (ca 0, 4096, .inl (fun _ => nI 0))), (mo, .inr (3, [.int (nI 0), .int (nI 0), .null, .int (nI 0), .null, .null, .null, .null, .null, .int (nI 0)]))] H := hP
  have hD : va_D (fun q : Nat => s.heap.size ≤ q) [(x, .inr (2, [.ref tp, .int (nI 0), .ref mk])), (tp, .inl (ca 0, 1024, .inl (fun _ => nI 0))), (mk, .inr (1, [.ref fr, .ref ch, .int (nI 0), .ref cn])), (fr, .inl (ca 0, (clL y0), .inl (fun _ => nI 0))), (ch, .inl (ca 2, 2, .inr (.inr (.inr (.inr (chf c0 c1)))))), (cn, .inl (ca 1, 3, .inl (fun _ => nI 0))), (c0, .inr (0, [.ref r0, .int (nI 0), .int (nI 0), .int (nI 0)])), (r0, .inl (ca 0, 4096, .inl (fun _ => nI 0))), (c1, .inr (0, [.ref r1, .int (nI 0), .int (nI 0), .int (nI 0)])), (r1, .inl (ca 0, 4096, .inl (fun _ => nI 0))), (mo, .inr (3, [.int (nI 0), .int (nI 0), .null, .int (nI 0), .null, .null, .null, .null, .null, .int (nI 0)]))] := hD
  refine lz_top (y := y0) (ey0.symm) ?_
  refine k_Iv (n := 1) (As := [.int y0]) (rest := [.ref mo]) (wc := [(mo, .inr (3, [.int (nI 0), .int (nI 0), .null, .int (nI 0), .null, .null, .null, .null, .null, .int (nI 0)]))]) (wr := [(x, .inr (2, [.ref tp, .int (nI 0), .ref mk])), (tp, .inl (ca 0, 1024, .inl (fun _ => nI 0))), (mk, .inr (1, [.ref fr, .ref ch, .int (nI 0), .ref cn])), (fr, .inl (ca 0, (clL y0), .inl (fun _ => nI 0))), (ch, .inl (ca 2, 2, .inr (.inr (.inr (.inr (chf c0 c1)))))), (cn, .inl (ca 1, 3, .inl (fun _ => nI 0))), (c0, .inr (0, [.ref r0, .int (nI 0), .int (nI 0), .int (nI 0)])), (r0, .inl (ca 0, 4096, .inl (fun _ => nI 0))), (c1, .inr (0, [.ref r1, .int (nI 0), .int (nI 0), .int (nI 0)])), (r1, .inl (ca 0, 4096, .inl (fun _ => nI 0)))]) S0 rfl q_146 q_147 q_4 q_148 (by decide +kernel) hK hP hD hS hA (c_Mo_init l D ca H.size mo y0) [10] [0, 1, 2, 3, 4, 5, 6, 7, 8, 9] rfl rfl (by decide) (by decide) (by decide) ⟨Nat.le_of_ble_eq_true rfl, Nat.le_of_ble_eq_true rfl⟩ rfl hl.1 rfl (Nat.le_of_ble_eq_true rfl) ⟨Nat.le_of_ble_eq_true rfl, Nat.le_of_ble_eq_true rfl⟩ d_law_law_22 (fun u H locs hw hP hD hS => ?_)
  refine W.cs (cells' := 17) (slots' := 27588) rfl rfl ?_
  obtain ⟨mt, my, mg, mw, mf, mr⟩ := u
  have hP : va_P D classes [(x, .inr (2, [.ref tp, .int (nI 0), .ref mk])), (tp, .inl (ca 0, 1024, .inl (fun _ => nI 0))), (mk, .inr (1, [.ref fr, .ref ch, .int (nI 0), .ref cn])), (fr, .inl (ca 0, (clL y0), .inl (fun _ => nI 0))), (ch, .inl (ca 2, 2, .inr (.inr (.inr (.inr (chf c0 c1)))))), (cn, .inl (ca 1, 3, .inl (fun _ => nI 0))), (c0, .inr (0, [.ref r0, .int (nI 0), .int (nI 0), .int (nI 0)])), (r0, .inl (ca 0, 4096, .inl (fun _ => nI 0))), (c1, .inr (0, [.ref r1, .int (nI 0), .int (nI 0), .int (nI 0)])), (r1, .inl (ca 0, 4096, .inl (fun _ => nI 0))), (mo, .inr (3, [.int (nI 0), .int (nI (clL y0)), .ref mt, .int (nI 0), .ref my, .ref mg, .ref mw, .ref mf, .ref mr, .int (nI 0)])), (mt, .inl (ca 0, 1024, .inl (fun _ => nI 0))), (my, .inl (ca 0, 8400, .inl (fun _ => nI 0))), (mg, .inl (ca 3, 8400, .inl (fun _ => nI 0))), (mw, .inl (ca 1, 2, .inl (fun k => nI ((fun _ => 0) k)))), (mf, .inl (ca 1, 4, .inl (fun _ => nI 0))), (mr, .inl (ca 0, 256, .inl (fun _ => nI 0)))] H := hP
  have hD : va_D (fun q : Nat => s.heap.size ≤ q) [(x, .inr (2, [.ref tp, .int (nI 0), .ref mk])), (tp, .inl (ca 0, 1024, .inl (fun _ => nI 0))), (mk, .inr (1, [.ref fr, .ref ch, .int (nI 0), .ref cn])), (fr, .inl (ca 0, (clL y0), .inl (fun _ => nI 0))), (ch, .inl (ca 2, 2, .inr (.inr (.inr (.inr (chf c0 c1)))))), (cn, .inl (ca 1, 3, .inl (fun _ => nI 0))), (c0, .inr (0, [.ref r0, .int (nI 0), .int (nI 0), .int (nI 0)])), (r0, .inl (ca 0, 4096, .inl (fun _ => nI 0))), (c1, .inr (0, [.ref r1, .int (nI 0), .int (nI 0), .int (nI 0)])), (r1, .inl (ca 0, 4096, .inl (fun _ => nI 0))), (mo, .inr (3, [.int (nI 0), .int (nI (clL y0)), .ref mt, .int (nI 0), .ref my, .ref mg, .ref mw, .ref mf, .ref mr, .int (nI 0)])), (mt, .inl (ca 0, 1024, .inl (fun _ => nI 0))), (my, .inl (ca 0, 8400, .inl (fun _ => nI 0))), (mg, .inl (ca 3, 8400, .inl (fun _ => nI 0))), (mw, .inl (ca 1, 2, .inl (fun k => nI ((fun _ => 0) k)))), (mf, .inl (ca 1, 4, .inl (fun _ => nI 0))), (mr, .inl (ca 0, 256, .inl (fun _ => nI 0)))] := hD
  refine lv_astore_n (lv' := [(2, .ref mo), (1, .ref x), (0, .ref b)]) hx hb d_law_law_25 rfl hl (by decide) rfl (fun ls hl => ?_)
  refine lv_iconst (v := nI 1) hx hb d_law_law_26 (by decide) ?_
  refine lv_istore_n (lv' := [(3, .int (nI 1)), (2, .ref mo), (1, .ref x), (0, .ref b)]) hx hb d_law_law_27 rfl hl (by decide) rfl (fun ls hl => ?_)
  refine W.widen (k := 600000) (n := 7302250) (Nat.le_of_ble_eq_true rfl) (Nat.le_of_ble_eq_true rfl) ?_
  have hcl := clL_in y0
  have hR : Rel (clL y0) (clL y0 - 12) 1 0 (fun _ => nI 0) (fun _ => nI 0) ((fun _ => nI 0), 0, 0) ((fun _ => nI 0), 0, 0) (fun _ => nI 0) (fun _ => nI 0) (fun _ => nI 0) (fun _ => nI 0) (fun _ => 0) 0 := ⟨by omega, ⟨by omega, hcl.1, hcl.2⟩, fun _ _ => Nat.zero_le _, ⟨by decide, fun k h => absurd h (Nat.not_lt_zero k), PK_0 _ _⟩, ⟨by decide, fun k h => absurd h (Nat.not_lt_zero k), PK_0 _ _⟩, fun _ => (by decide : bz (nI 0) = nI 0), fun _ => vp_nar_z0, ⟨rfl, rfl, rfl⟩, 0, rfl, by omega, Or.inl ⟨rfl, rfl⟩⟩
  exact law_loop x tp mk fr ch cn c0 r0 c1 r1 mo mt my mg mw mf mr (clL y0) (clL y0 - 12) hL C1 hK (L + 1) 1 0 0 0 0 0 0 (fun _ => nI 0) (fun _ => nI 0) (fun _ => nI 0) (fun _ => nI 0) (fun _ => nI 0) (fun _ => nI 0) (fun _ => nI 0) (fun _ => nI 0) (fun _ => nI 0) (fun _ => 0) H locs ls (by omega) (by omega) (by omega) hR hP hD hS (lv_sub hl [3, 2, 1, 0] rfl)
end
section
set_option maxHeartbeats 4000000 in
theorem lw_walk (l : Launch) (b : Addr) (xs : List Int32) : MetFree l x (headSpec (Jvm.Cond.code x code maxLocals ret :: tables_1) room_1) (lw_P b xs) (fun _ _ _ _ _ => True) lw_Q := by
  refine MetFree.of_bodyS (code := code) (maxLocals := maxLocals) (ret := ret) (by decide) ?_ ?_
  · intro args s m h hn
    obtain ⟨meth, c, h1, h2, h3, h4, h5, h6, -, -⟩ := Cond.code_spec hn (atoms_spec (ws := Jvm.Cond.code x code maxLocals ret :: tables_1) h _ List.mem_cons_self)
    exact ⟨meth, c, h1, h2, h3, h4, h5, h6⟩
  · intro p e s m args below meth c s₁ B hml0 hP _
    obtain ⟨rfl, hx, hbd, hgv⟩ := hP
    obtain ⟨scr, harrAt, hlist, hof, hsmall⟩ := hx
    obtain ⟨hcb, hkn, -, -⟩ := State.arrayAt?_spec harrAt
    have hown : s.vm.findClass R_law = some m.cls := findClass_of_methodNamed B.named
    have hts0 : ∀ c ∈ (Jvm.Cond.code x code maxLocals ret :: tables_1), c.before #[Value.ref b] s = true := atoms_spec (ws := Jvm.Cond.code x code maxLocals ret :: tables_1) B.pre
    have hts : ∀ w ∈ lw_tbl, w.before #[Value.ref b] s = true := k2_hts_sels lw_privs (fun w hw => hts0 w (List.mem_cons_of_mem _ hw)) lw_privs_ok
    have hml : c.maxLocals = 4 := B.maxLocals_eq (hts0 _ List.mem_cons_self)
    have X₀ : Stand p l e room_1 s m #[Value.ref b] below meth c s₁ [] 0 0 := Stand.of_body B
    have hh0 : s₁.heap = s.heap := by rw [B.state]; rfl
    have hsz : scr.slots.size = xs.length := by rw [← Array.length_toList, hlist, List.length_map]
    have hval : ∀ j : Nat, j < xs.length → scr.slots[j]? = some (.int (xs.getD j 0)) := fun j hj => by
      rw [← Array.getElem?_toList, hlist]
      simp [hj]
    have hbl : b < s.heap.size := (Array.getElem?_eq_some_iff.mp hcb).1
    have hX : va_X b xs.length (fun j => xs.getD j 0) s s.heap := ⟨scr, hcb, hof, hkn, hsz, hval⟩
    have K : W p l e room_1 s m #[Value.ref b] below meth c s₁.heap [] 0 0 (lw_Z below #[Value.ref b] s) (entryFrame m ([Value.ref b] : List Value).toArray 4) := by
      rw [hh0]
      exact whole_start l hbd ⟨B.exec, B.bytes, B.returns, hml, hown, hts, hX, hbl, B.notSynchronized, hgv⟩
    obtain ⟨t, a1, o, b1, b2, b3⟩ := K s₁ rfl X₀
    exact ⟨t, o, a1, b1, b2, b3⟩
theorem lw_pre_spec {args : Array Value} {s : State} (h : (Jvm.Cond.and given_1 narrow_1).before args s = true) (hr : rest_1_c.before args s = true) : ∃ (b : Addr) (xs : List Int32), lw_P b xs args s := by
  have hs := flat_of_before _ h
  have hq := flat_of_before _ hr
  have hc : (Cond.count 1).before args s = true := hs _ (by decide +kernel)
  have harr : (Cond.arrayOf (.arg 0) .int).before args s = true := hs _ (by decide +kernel)
  have hle : (Cond.le (.length (.arg 0)) (.int 2049)).before args s = true := hs _ (by decide +kernel)
  have hlen : (Cond.isInt (.length (.arg 0))).before args s = true := hq _ (by decide +kernel)
  have hall : (Cond.all (.arg 0) (.isInt (.elem (.arg 0) (.index 0)))).before args s = true := hq _ (by decide +kernel)
  obtain ⟨b, xs, hb, hx⟩ := State.ints_of_pre rfl harr hlen hall
  have hsm : xs.length < 2 ^ 31 := hx.choose_spec.2.2.2
  have hev : (Term.length (.arg 0)).eval args s none [] s = some (.int xs.length.toInt32) := hx.length_eval hb
  have hv := Cond.le_ints hev (show (Term.int 2049).eval args s none [] s = some (.int 2049) from rfl)
  have hd : xs.length.toInt32 ≤ 2049 := by
    simpa [Cond.before, Cond.holds, hv] using hle
  have hN : xs.length ≤ 2049 := (Int32.ofNat_le_ofNat hsm (by decide)).mp (show Int32.ofNat xs.length ≤ Int32.ofNat 2049 from hd)
  exact ⟨b, xs, Cond.one_arg hc (show args[0]? = some (.ref b) from hb), hx, hN, h⟩
theorem lw_comes (l : Launch) : Comes l x (Jvm.Cond.code x code maxLocals ret :: tables_1) room_1 (fun tb e args s => Calls_1 tb e args s ∧ rest_1 tb e args s ∧ Pre_1 tb e args s)
    (fun _ _ args s o t => lw_Q args s o t) := by
  intro p e ha hc hk s m args below hf hfit hheap happ hpre
  obtain ⟨b, xs, hP⟩ := lw_pre_spec hpre.2.2 hpre.2.1
  obtain ⟨k, o, h1, h2, h3, hQ⟩ := lw_walk l b xs p e ha hc hk s m args below hf ((Spec.applies_iff_loose hf).mp happ).1 hP trivial
  exact ⟨k, o, h1, h2, h3, hQ⟩
theorem lw_frame {s t : State} {o : Outcome} {args : Array Value} (h : Framed s o t [] 600000 7302250) :
    Framed s o t (fieldLocs frame_1_writes args s ++ arrayLocs frame_1_arrays args s ++ staticLocs frame_1_statics s) 600000 7302250 := h
theorem lw_limb (L : Cond) (hL : ∀ (args : Array Value) (s t : State), L.after args s (.returned (some (.int 1))) t = true) :
    ArmFor flags0 classFile x code maxLocals ret World_1 tables_1 room_1 Calls_1 rest_1 Pre_1
      (fun tb e a s o t => postC L tb e a s o t ∧ Framed s o t (fieldLocs frame_1_writes a s ++ arrayLocs frame_1_arrays a s ++ staticLocs frame_1_statics s) 600000 7302250) := by
  intro l _ _ _ p e ha hc hk s m args below hf hfit hheap happ hpre
  obtain ⟨k, o, h1, h2, h3, rfl, hF⟩ := lw_comes l p e ha hc hk s m args below hf hfit hheap happ hpre
  exact ⟨k, _, h1, h2, h3, hL args s _, lw_frame hF⟩
theorem i_vc : Claimed_1_1 ∧ Claimed_1_2 := ⟨lw_limb limb_1_1 (fun args s t => by simp [limb_1_1, Cond.after, Cond.holds, Cond.value]), lw_limb limb_1_2 (fun args s t => Cond.after_iff.mpr (by
  first | (rw [show limb_1_2 = Cond.eq .result (.int 1) from rfl, Cond.eq_ints (x := 1) (y := 1) rfl rfl]; simp; done) | (simp [limb_1_2, Cond.value, Term.eval]; done)))⟩
end
