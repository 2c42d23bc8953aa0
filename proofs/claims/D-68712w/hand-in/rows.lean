section
-- ===== PART A: goes FIRST, ahead of the names: the tables' words, and 'selects' of the private methods out of them =====
/-- a private method of a class that the tables say can be made, by its rows of tables_1 -/
def lw_okq (q : MethodName × Nat) : Prop := (q.1.cls ≠ "java/lang/invoke/MethodHandle" ∧ q.1.cls ≠ "java/lang/invoke/VarHandle") ∧ Cond.instantiable q.1.cls q.2 ∈ tables_1 ∧ Cond.privateMethod q.1 ∈ tables_1 ∧ Cond.instanceMethod q.1 ∈ tables_1
theorem lw_p0 : lw_okq (⟨"FrameGate$Gate", "control", "([BI)I"⟩, 8) := ⟨⟨by decide +kernel, by decide +kernel⟩, List.mem_of_getElem? (i := 40) (by decide +kernel), List.mem_of_getElem? (i := 124) (by decide +kernel), List.mem_of_getElem? (i := 125) (by decide +kernel)⟩
theorem lw_p1 : lw_okq (⟨"FrameGate$Gate", "more", "()V"⟩, 8) := ⟨⟨by decide +kernel, by decide +kernel⟩, List.mem_of_getElem? (i := 40) (by decide +kernel), List.mem_of_getElem? (i := 128) (by decide +kernel), List.mem_of_getElem? (i := 129) (by decide +kernel)⟩
theorem lw_p2 : lw_okq (⟨"FrameGate$Gate", "opens", "()V"⟩, 8) := ⟨⟨by decide +kernel, by decide +kernel⟩, List.mem_of_getElem? (i := 40) (by decide +kernel), List.mem_of_getElem? (i := 132) (by decide +kernel), List.mem_of_getElem? (i := 133) (by decide +kernel)⟩
theorem lw_p3 : lw_okq (⟨"FrameGate$Gate", "beside", "([BI)I"⟩, 8) := ⟨⟨by decide +kernel, by decide +kernel⟩, List.mem_of_getElem? (i := 40) (by decide +kernel), List.mem_of_getElem? (i := 136) (by decide +kernel), List.mem_of_getElem? (i := 137) (by decide +kernel)⟩
theorem lw_p4 : lw_okq (⟨"FrameGate$Gate", "body", "([BI)V"⟩, 8) := ⟨⟨by decide +kernel, by decide +kernel⟩, List.mem_of_getElem? (i := 40) (by decide +kernel), List.mem_of_getElem? (i := 144) (by decide +kernel), List.mem_of_getElem? (i := 145) (by decide +kernel)⟩
theorem lw_p5 : lw_okq (⟨"FrameGate$Gate", "inOrder", "([BI)I"⟩, 8) := ⟨⟨by decide +kernel, by decide +kernel⟩, List.mem_of_getElem? (i := 40) (by decide +kernel), List.mem_of_getElem? (i := 155) (by decide +kernel), List.mem_of_getElem? (i := 156) (by decide +kernel)⟩
theorem lw_p6 : lw_okq (⟨"FrameGateModel", "check", "(I)I"⟩, 15) := ⟨⟨by decide +kernel, by decide +kernel⟩, List.mem_of_getElem? (i := 192) (by decide +kernel), List.mem_of_getElem? (i := 252) (by decide +kernel), List.mem_of_getElem? (i := 253) (by decide +kernel)⟩
theorem lw_p7 : lw_okq (⟨"FrameGateModel", "valid", "(I)I"⟩, 15) := ⟨⟨by decide +kernel, by decide +kernel⟩, List.mem_of_getElem? (i := 192) (by decide +kernel), List.mem_of_getElem? (i := 267) (by decide +kernel), List.mem_of_getElem? (i := 268) (by decide +kernel)⟩
theorem lw_p8 : lw_okq (⟨"FrameGateModel", "bits", "(II)I"⟩, 15) := ⟨⟨by decide +kernel, by decide +kernel⟩, List.mem_of_getElem? (i := 192) (by decide +kernel), List.mem_of_getElem? (i := 271) (by decide +kernel), List.mem_of_getElem? (i := 272) (by decide +kernel)⟩
theorem lw_p9 : lw_okq (⟨"FrameGateModel", "refuses", "()I"⟩, 15) := ⟨⟨by decide +kernel, by decide +kernel⟩, List.mem_of_getElem? (i := 192) (by decide +kernel), List.mem_of_getElem? (i := 275) (by decide +kernel), List.mem_of_getElem? (i := 276) (by decide +kernel)⟩
theorem lw_p10 : lw_okq (⟨"FrameGateModel", "controls", "(I)I"⟩, 15) := ⟨⟨by decide +kernel, by decide +kernel⟩, List.mem_of_getElem? (i := 192) (by decide +kernel), List.mem_of_getElem? (i := 279) (by decide +kernel), List.mem_of_getElem? (i := 280) (by decide +kernel)⟩
theorem lw_p11 : lw_okq (⟨"FrameGateModel", "inOrder", "(I)I"⟩, 15) := ⟨⟨by decide +kernel, by decide +kernel⟩, List.mem_of_getElem? (i := 192) (by decide +kernel), List.mem_of_getElem? (i := 284) (by decide +kernel), List.mem_of_getElem? (i := 285) (by decide +kernel)⟩
theorem lw_p12 : lw_okq (⟨"FrameGateModel", "comes", "(I)V"⟩, 15) := ⟨⟨by decide +kernel, by decide +kernel⟩, List.mem_of_getElem? (i := 192) (by decide +kernel), List.mem_of_getElem? (i := 288) (by decide +kernel), List.mem_of_getElem? (i := 289) (by decide +kernel)⟩
def lw_privs_1 : List (MethodName × Nat) := [(⟨"FrameGate$Gate", "control", "([BI)I"⟩, 8), (⟨"FrameGate$Gate", "more", "()V"⟩, 8), (⟨"FrameGate$Gate", "opens", "()V"⟩, 8), (⟨"FrameGate$Gate", "beside", "([BI)I"⟩, 8), (⟨"FrameGate$Gate", "body", "([BI)V"⟩, 8), (⟨"FrameGate$Gate", "inOrder", "([BI)I"⟩, 8), (⟨"FrameGateModel", "check", "(I)I"⟩, 15), (⟨"FrameGateModel", "valid", "(I)I"⟩, 15), (⟨"FrameGateModel", "bits", "(II)I"⟩, 15), (⟨"FrameGateModel", "refuses", "()I"⟩, 15), (⟨"FrameGateModel", "controls", "(I)I"⟩, 15), (⟨"FrameGateModel", "inOrder", "(I)I"⟩, 15), (⟨"FrameGateModel", "comes", "(I)V"⟩, 15)]
theorem lw_r1 : ∀ q ∈ lw_privs_1, lw_okq q := List.forall_mem_cons.mpr ⟨lw_p0, List.forall_mem_cons.mpr ⟨lw_p1, List.forall_mem_cons.mpr ⟨lw_p2, List.forall_mem_cons.mpr ⟨lw_p3, List.forall_mem_cons.mpr ⟨lw_p4, List.forall_mem_cons.mpr ⟨lw_p5, List.forall_mem_cons.mpr ⟨lw_p6, List.forall_mem_cons.mpr ⟨lw_p7, List.forall_mem_cons.mpr ⟨lw_p8, List.forall_mem_cons.mpr ⟨lw_p9, List.forall_mem_cons.mpr ⟨lw_p10, List.forall_mem_cons.mpr ⟨lw_p11, List.forall_mem_cons.mpr ⟨lw_p12, fun _ h => absurd h List.not_mem_nil⟩⟩⟩⟩⟩⟩⟩⟩⟩⟩⟩⟩⟩
def lw_privs : List (MethodName × Nat) := lw_privs_1
def lw_tbl : List Cond := k2_sels lw_privs ++ tables_1
theorem lw_privs_ok : ∀ q ∈ lw_privs, lw_okq q := lw_r1
-- NAMES: classes, their fields (declaring class, name, descriptor, final), types
def R_law : String := "FrameGateLaw"
def R_K : String := "FrameGate$Check"
def R_Q : String := "FrameGate$Queue"
def F_Q : u_T := fun k => match k with
  | 0 => ("FrameGate$Queue", "rows", "[[B", true)
  | 1 => ("FrameGate$Queue", "sizes", "[I", true)
  | 2 => ("FrameGate$Queue", "first", "I", false)
  | _ => ("FrameGate$Queue", "count", "I", false)
def t_Q : Nat → FieldType := fun k => match k with
  | 0 => .array (.array .byte)
  | 1 => .array .int
  | 2 => .int
  | _ => .int
theorem n_Q : ∀ a, a < 4 → ∀ b, b < 4 → a ≠ b → (F_Q a).2.1 ≠ (F_Q b).2.1 := by decide +kernel
theorem t_Q_ok : ∀ k, k < 4 → parseFieldDescriptor (F_Q k).2.2.1 = some (t_Q k) := by decide +kernel
def R_G : String := "FrameGate$Gate"
def F_G : u_T := fun k => match k with
  | 0 => ("FrameGate$Gate", "queue", "LFrameGate$Queue;", true)
  | 1 => ("FrameGate$Gate", "state", "I", false)
  | 2 => ("FrameGate$Gate", "next", "I", false)
  | 3 => ("FrameGate$Gate", "beside", "I", false)
  | 4 => ("FrameGate$Gate", "waits", "Z", false)
  | 5 => ("FrameGate$Gate", "again", "Z", false)
  | 6 => ("FrameGate$Gate", "refused", "I", false)
  | _ => ("FrameGate$Gate", "accepted", "I", false)
def t_G : Nat → FieldType := fun k => match k with
  | 0 => .object "FrameGate$Queue"
  | 1 => .int
  | 2 => .int
  | 3 => .int
  | 4 => .boolean
  | 5 => .boolean
  | 6 => .int
  | _ => .int
theorem n_G : ∀ a, a < 8 → ∀ b, b < 8 → a ≠ b → (F_G a).2.1 ≠ (F_G b).2.1 := by decide +kernel
theorem t_G_ok : ∀ k, k < 8 → parseFieldDescriptor (F_G k).2.2.1 = some (t_G k) := by decide +kernel
def R_X : String := "FrameGate"
def F_X : u_T := fun k => match k with
  | 0 => ("FrameGate", "tape", "[B", true)
  | 1 => ("FrameGate", "size", "I", false)
  | 2 => ("FrameGate", "taken", "[B", true)
  | 3 => ("FrameGate", "takes", "I", false)
  | 4 => ("FrameGate", "queue", "LFrameGate$Queue;", true)
  | _ => ("FrameGate", "gate", "LFrameGate$Gate;", true)
def t_X : Nat → FieldType := fun k => match k with
  | 0 => .array .byte
  | 1 => .int
  | 2 => .array .byte
  | 3 => .int
  | 4 => .object "FrameGate$Queue"
  | _ => .object "FrameGate$Gate"
theorem n_X : ∀ a, a < 6 → ∀ b, b < 6 → a ≠ b → (F_X a).2.1 ≠ (F_X b).2.1 := by decide +kernel
theorem t_X_ok : ∀ k, k < 6 → parseFieldDescriptor (F_X k).2.2.1 = some (t_X k) := by decide +kernel
def R_M : String := "FrameGateModel"
def F_M : u_T := fun k => match k with
  | 0 => ("FrameGateModel", "thrown", "I", false)
  | 1 => ("FrameGateModel", "tape", "[B", true)
  | 2 => ("FrameGateModel", "many", "I", false)
  | 3 => ("FrameGateModel", "packets", "I", false)
  | 4 => ("FrameGateModel", "queue", "[B", true)
  | 5 => ("FrameGateModel", "lengths", "[I", true)
  | 6 => ("FrameGateModel", "taken", "[B", true)
  | 7 => ("FrameGateModel", "takenLength", "I", false)
  | 8 => ("FrameGateModel", "state", "I", false)
  | 9 => ("FrameGateModel", "next", "I", false)
  | 10 => ("FrameGateModel", "beside", "I", false)
  | 11 => ("FrameGateModel", "waits", "Z", false)
  | 12 => ("FrameGateModel", "again", "Z", false)
  | 13 => ("FrameGateModel", "refused", "I", false)
  | _ => ("FrameGateModel", "accepted", "I", false)
def t_M : Nat → FieldType := fun k => match k with
  | 0 => .int
  | 1 => .array .byte
  | 2 => .int
  | 3 => .int
  | 4 => .array .byte
  | 5 => .array .int
  | 6 => .array .byte
  | 7 => .int
  | 8 => .int
  | 9 => .int
  | 10 => .int
  | 11 => .boolean
  | 12 => .boolean
  | 13 => .int
  | _ => .int
theorem n_M : ∀ a, a < 15 → ∀ b, b < 15 → a ≠ b → (F_M a).2.1 ≠ (F_M b).2.1 := by decide +kernel
theorem t_M_ok : ∀ k, k < 15 → parseFieldDescriptor (F_M k).2.2.1 = some (t_M k) := by decide +kernel
/-- the classes whose objects the worlds hold: 0 Queue, 1 Gate, 2 FrameGate, 3 FrameGateModel -/
abbrev fgC : List vw_C := [(R_Q, F_Q, 4), (R_G, F_G, 8), (R_X, F_X, 6), (R_M, F_M, 15)]
/-- the array classes: of bytes, of ints, of byte arrays -/
abbrev tysA (cB cI cG : ClassId) : List (ClassId × FieldType) := [(cB, .byte), (cI, .int), (cG, .array .byte)]
-- methods: names, bytes
def y_Xinit : MethodName := ⟨R_X, "<init>", "()V"⟩
abbrev b_Xinit : ByteArray := prog_1_method_1_code
def y_Qinit : MethodName := ⟨R_Q, "<init>", "()V"⟩
abbrev b_Qinit : ByteArray := prog_4_method_1_code
def y_Ginit : MethodName := ⟨R_G, "<init>", "(LFrameGate$Queue;)V"⟩
abbrev b_Ginit : ByteArray := prog_3_method_1_code
def y_X_give : MethodName := ⟨R_X, "give", "(JI)Z"⟩
abbrev b_X_give : ByteArray := prog_1_method_2_code
def y_X_seal : MethodName := ⟨R_X, "seal", "()Z"⟩
abbrev b_X_seal : ByteArray := prog_1_method_3_code
def y_K_of : MethodName := ⟨R_K, "of", "([BII)I"⟩
abbrev b_K_of : ByteArray := prog_2_method_2_code
def y_X_length : MethodName := ⟨R_X, "length", "()I"⟩
abbrev b_X_length : ByteArray := prog_1_method_4_code
def y_X_frame : MethodName := ⟨R_X, "frame", "()I"⟩
abbrev b_X_frame : ByteArray := prog_1_method_5_code
def y_G_frame : MethodName := ⟨R_G, "frame", "([BI)I"⟩
abbrev b_G_frame : ByteArray := prog_3_method_2_code
def y_G_lengthOf : MethodName := ⟨R_G, "lengthOf", "([BI)I"⟩
abbrev b_G_lengthOf : ByteArray := prog_3_method_3_code
def y_G_control : MethodName := ⟨R_G, "control", "([BI)I"⟩
abbrev b_G_control : ByteArray := prog_3_method_9_code
def y_G_more : MethodName := ⟨R_G, "more", "()V"⟩
abbrev b_G_more : ByteArray := prog_3_method_6_code
def y_G_opens : MethodName := ⟨R_G, "opens", "()V"⟩
abbrev b_G_opens : ByteArray := prog_3_method_8_code
def y_G_beside : MethodName := ⟨R_G, "beside", "([BI)I"⟩
abbrev b_G_beside : ByteArray := prog_3_method_7_code
def y_Q_isFull : MethodName := ⟨R_Q, "isFull", "()Z"⟩
abbrev b_Q_isFull : ByteArray := prog_4_method_2_code
def y_G_body : MethodName := ⟨R_G, "body", "([BI)V"⟩
abbrev b_G_body : ByteArray := prog_3_method_4_code
def y_Q_put : MethodName := ⟨R_Q, "put", "([BII)V"⟩
abbrev b_Q_put : ByteArray := prog_4_method_3_code
def y_G_inOrder : MethodName := ⟨R_G, "inOrder", "([BI)I"⟩
abbrev b_G_inOrder : ByteArray := prog_3_method_5_code
def y_X_take : MethodName := ⟨R_X, "take", "()I"⟩
abbrev b_X_take : ByteArray := prog_1_method_6_code
def y_Q_take : MethodName := ⟨R_Q, "take", "([B)I"⟩
abbrev b_Q_take : ByteArray := prog_4_method_4_code
def y_X_byteAt : MethodName := ⟨R_X, "byteAt", "(I)I"⟩
abbrev b_X_byteAt : ByteArray := prog_1_method_7_code
def y_X_release : MethodName := ⟨R_X, "release", "()Z"⟩
abbrev b_X_release : ByteArray := prog_1_method_8_code
def y_G_release : MethodName := ⟨R_G, "release", "()Z"⟩
abbrev b_G_release : ByteArray := prog_3_method_10_code
def y_X_word : MethodName := ⟨R_X, "word", "()I"⟩
abbrev b_X_word : ByteArray := prog_1_method_9_code
def y_G_word : MethodName := ⟨R_G, "word", "()I"⟩
abbrev b_G_word : ByteArray := prog_3_method_11_code
def y_X_about : MethodName := ⟨R_X, "about", "(I)I"⟩
abbrev b_X_about : ByteArray := prog_1_method_10_code
def y_Minit : MethodName := ⟨R_M, "<init>", "()V"⟩
abbrev b_Minit : ByteArray := prog_6_method_1_code
def y_M_give : MethodName := ⟨R_M, "give", "(JI)Z"⟩
abbrev b_M_give : ByteArray := prog_6_method_3_code
def y_M_seal : MethodName := ⟨R_M, "seal", "()Z"⟩
abbrev b_M_seal : ByteArray := prog_6_method_5_code
def y_M_check : MethodName := ⟨R_M, "check", "(I)I"⟩
abbrev b_M_check : ByteArray := prog_6_method_4_code
def y_M_length : MethodName := ⟨R_M, "length", "()I"⟩
abbrev b_M_length : ByteArray := prog_6_method_6_code
def y_M_frame : MethodName := ⟨R_M, "frame", "()I"⟩
abbrev b_M_frame : ByteArray := prog_6_method_13_code
def y_M_valid : MethodName := ⟨R_M, "valid", "(I)I"⟩
abbrev b_M_valid : ByteArray := prog_6_method_8_code
def y_M_bits : MethodName := ⟨R_M, "bits", "(II)I"⟩
abbrev b_M_bits : ByteArray := prog_6_method_7_code
def y_M_refuses : MethodName := ⟨R_M, "refuses", "()I"⟩
abbrev b_M_refuses : ByteArray := prog_6_method_9_code
def y_M_controls : MethodName := ⟨R_M, "controls", "(I)I"⟩
abbrev b_M_controls : ByteArray := prog_6_method_11_code
def y_M_inOrder : MethodName := ⟨R_M, "inOrder", "(I)I"⟩
abbrev b_M_inOrder : ByteArray := prog_6_method_12_code
def y_M_comes : MethodName := ⟨R_M, "comes", "(I)V"⟩
abbrev b_M_comes : ByteArray := prog_6_method_10_code
def y_M_take : MethodName := ⟨R_M, "take", "()I"⟩
abbrev b_M_take : ByteArray := prog_6_method_14_code
def y_M_byteAt : MethodName := ⟨R_M, "byteAt", "(I)I"⟩
abbrev b_M_byteAt : ByteArray := prog_6_method_15_code
def y_M_release : MethodName := ⟨R_M, "release", "()Z"⟩
abbrev b_M_release : ByteArray := prog_6_method_16_code
def y_M_word : MethodName := ⟨R_M, "word", "()I"⟩
abbrev b_M_word : ByteArray := prog_6_method_17_code
def y_M_about : MethodName := ⟨R_M, "about", "(I)I"⟩
abbrev b_M_about : ByteArray := prog_6_method_18_code
/-- ONE list of words for every method: the good words of the tables -/
def w_all : List Cond := lw_tbl.filter goodWord
theorem w_good : ∀ w ∈ w_all, (w.onTables && w.keeps) = true ∨ ∃ ty, w = .arrayClass ty := fun w h => good_of_word (List.mem_filter.mp h).2
theorem w_sub : ∀ w ∈ w_all, w ∈ lw_tbl := fun w h => (List.mem_filter.mp h).1
theorem w_at {w : Cond} (i : Nat) (h : lw_tbl[i]? = some w) (hg : goodWord w = true) : w ∈ w_all := List.mem_filter.mpr ⟨List.mem_of_getElem? h, hg⟩
theorem w_in {w : Cond} (h : w ∈ lw_tbl) (hg : goodWord w = true) : w ∈ w_all := List.mem_filter.mpr ⟨h, hg⟩
theorem i_Q : ∀ w ∈ u_ws R_Q F_Q 4, w ∈ w_all := by decide +kernel
theorem i_G : ∀ w ∈ u_ws R_G F_G 8, w ∈ w_all := by decide +kernel
theorem i_X : ∀ w ∈ u_ws R_X F_X 6, w ∈ w_all := by decide +kernel
theorem i_M : ∀ w ∈ u_ws R_M F_M 15, w ∈ w_all := by decide +kernel
-- the words by their places
theorem m_0 : Cond.initialized R_law ∈ w_all := w_at 13 (by decide +kernel) rfl
theorem m_1 : Cond.initialized R_X ∈ w_all := w_at 14 (by decide +kernel) rfl
theorem m_2 : Cond.initialized R_Q ∈ w_all := w_at 15 (by decide +kernel) rfl
theorem m_3 : Cond.initialized R_G ∈ w_all := w_at 16 (by decide +kernel) rfl
theorem m_4 : Cond.initialized R_M ∈ w_all := w_at 17 (by decide +kernel) rfl
theorem m_5 : Cond.initialized R_K ∈ w_all := w_at 18 (by decide +kernel) rfl
theorem m_6 : Cond.initialized "java/lang/System" ∈ w_all := w_at 19 (by decide +kernel) rfl
theorem m_7 : Cond.classLink R_law 7 R_X ∈ w_all := w_at 20 (by decide +kernel) rfl
theorem m_8 : Cond.instantiable R_X 6 ∈ w_all := w_at 21 (by decide +kernel) rfl
theorem m_9 : Cond.methodLink R_law 9 y_Xinit ∈ w_all := w_at 22 (by decide +kernel) rfl
theorem m_10 : Cond.instanceMethod y_Xinit ∈ w_all := w_at 23 (by decide +kernel) rfl
theorem m_11 : Cond.code y_Xinit prog_1_method_1_code 1 none ∈ w_all := w_at 24 rfl rfl
theorem m_12 : Cond.methodLink R_X 1 objectInit ∈ w_all := w_at 25 (by decide +kernel) rfl
theorem m_13 : Cond.instanceMethod objectInit ∈ w_all := w_at 26 (by decide +kernel) rfl
theorem m_14 : Cond.code objectInit ⟨#[0xb1]⟩ 1 none ∈ w_all := w_at 27 rfl rfl
theorem m_15 : Cond.classLink R_X 13 R_Q ∈ w_all := w_at 28 (by decide +kernel) rfl
theorem m_16 : Cond.instantiable R_Q 4 ∈ w_all := w_at 29 (by decide +kernel) rfl
theorem l_17 : Cond.methodLinkNest R_X 18 y_Qinit R_X ∈ lw_tbl := List.mem_of_getElem? (i := 30) (by decide +kernel)
theorem m_18 : Cond.instanceMethod y_Qinit ∈ w_all := w_at 31 (by decide +kernel) rfl
theorem m_19 : Cond.code y_Qinit prog_4_method_1_code 1 none ∈ w_all := w_at 32 rfl rfl
theorem m_20 : Cond.methodLink R_Q 3 objectInit ∈ w_all := w_at 33 (by decide +kernel) rfl
theorem m_21 : Cond.classLink R_Q 11 "[[B" ∈ w_all := w_at 34 (by decide +kernel) rfl
theorem l_22 : Cond.arrayOver (.array .byte) ∈ lw_tbl := List.mem_of_getElem? (i := 35) (by decide +kernel)
theorem m_23 : Cond.fieldLink R_Q 13 R_Q "rows" "[[B" ∈ w_all := w_at 36 (by decide +kernel) rfl
theorem m_24 : Cond.fieldLink R_Q 16 R_Q "sizes" "[I" ∈ w_all := w_at 37 (by decide +kernel) rfl
theorem m_25 : Cond.fieldLink R_Q 24 R_Q "first" "I" ∈ w_all := w_at 38 (by decide +kernel) rfl
theorem m_26 : Cond.fieldLink R_Q 20 R_Q "count" "I" ∈ w_all := w_at 39 (by decide +kernel) rfl
theorem l_27 : Cond.fieldLinkNest R_X 67 R_Q "count" "I" R_X ∈ lw_tbl := List.mem_of_getElem? (i := 40) (by decide +kernel)
theorem m_37 : Cond.arrayClass .byte ∈ w_all := w_at 50 (by decide +kernel) rfl
theorem m_38 : Cond.arrayClass .int ∈ w_all := w_at 51 (by decide +kernel) rfl
theorem m_39 : Cond.classLink R_X 23 R_G ∈ w_all := w_at 52 (by decide +kernel) rfl
theorem m_40 : Cond.instantiable R_G 8 ∈ w_all := w_at 53 (by decide +kernel) rfl
theorem m_41 : Cond.methodLink R_X 25 y_Ginit ∈ w_all := w_at 54 (by decide +kernel) rfl
theorem m_42 : Cond.instanceMethod y_Ginit ∈ w_all := w_at 55 (by decide +kernel) rfl
theorem m_43 : Cond.code y_Ginit prog_3_method_1_code 2 none ∈ w_all := w_at 56 rfl rfl
theorem m_44 : Cond.methodLink R_G 3 objectInit ∈ w_all := w_at 57 (by decide +kernel) rfl
theorem m_45 : Cond.fieldLink R_G 15 R_G "queue" "LFrameGate$Queue;" ∈ w_all := w_at 58 (by decide +kernel) rfl
theorem m_46 : Cond.fieldLink R_G 11 R_G "state" "I" ∈ w_all := w_at 59 (by decide +kernel) rfl
theorem l_47 : Cond.fieldLinkNest R_X 61 R_G "state" "I" R_X ∈ lw_tbl := List.mem_of_getElem? (i := 60) (by decide +kernel)
theorem m_48 : Cond.fieldLink R_G 50 R_G "next" "I" ∈ w_all := w_at 61 (by decide +kernel) rfl
theorem l_49 : Cond.fieldLinkNest R_X 64 R_G "next" "I" R_X ∈ lw_tbl := List.mem_of_getElem? (i := 62) (by decide +kernel)
theorem m_50 : Cond.fieldLink R_G 68 R_G "beside" "I" ∈ w_all := w_at 63 (by decide +kernel) rfl
theorem m_51 : Cond.fieldLink R_G 61 R_G "waits" "Z" ∈ w_all := w_at 64 (by decide +kernel) rfl
theorem m_52 : Cond.fieldLink R_G 57 R_G "again" "Z" ∈ w_all := w_at 65 (by decide +kernel) rfl
theorem m_53 : Cond.fieldLink R_G 32 R_G "refused" "I" ∈ w_all := w_at 66 (by decide +kernel) rfl
theorem l_54 : Cond.fieldLinkNest R_X 70 R_G "refused" "I" R_X ∈ lw_tbl := List.mem_of_getElem? (i := 67) (by decide +kernel)
theorem m_55 : Cond.fieldLink R_G 35 R_G "accepted" "I" ∈ w_all := w_at 68 (by decide +kernel) rfl
theorem l_56 : Cond.fieldLinkNest R_X 73 R_G "accepted" "I" R_X ∈ lw_tbl := List.mem_of_getElem? (i := 69) (by decide +kernel)
theorem m_74 : Cond.fieldLink R_X 9 R_X "tape" "[B" ∈ w_all := w_at 87 (by decide +kernel) rfl
theorem m_75 : Cond.fieldLink R_X 32 R_X "size" "I" ∈ w_all := w_at 88 (by decide +kernel) rfl
theorem m_76 : Cond.fieldLink R_X 15 R_X "taken" "[B" ∈ w_all := w_at 89 (by decide +kernel) rfl
theorem m_77 : Cond.fieldLink R_X 50 R_X "takes" "I" ∈ w_all := w_at 90 (by decide +kernel) rfl
theorem m_78 : Cond.fieldLink R_X 19 R_X "queue" "LFrameGate$Queue;" ∈ w_all := w_at 91 (by decide +kernel) rfl
theorem m_79 : Cond.fieldLink R_X 28 R_X "gate" "LFrameGate$Gate;" ∈ w_all := w_at 92 (by decide +kernel) rfl
theorem m_93 : Cond.methodLink R_law 15 y_X_give ∈ w_all := w_at 106 (by decide +kernel) rfl
theorem m_94 : Cond.instanceMethod y_X_give ∈ w_all := w_at 107 (by decide +kernel) rfl
theorem m_95 : Cond.selects R_X y_X_give y_X_give ∈ w_all := w_at 108 (by decide +kernel) rfl
theorem m_96 : Cond.code y_X_give prog_1_method_2_code 5 (some .boolean) ∈ w_all := w_at 109 rfl rfl
theorem m_97 : Cond.methodLink R_law 20 y_X_seal ∈ w_all := w_at 110 (by decide +kernel) rfl
theorem m_98 : Cond.instanceMethod y_X_seal ∈ w_all := w_at 111 (by decide +kernel) rfl
theorem m_99 : Cond.selects R_X y_X_seal y_X_seal ∈ w_all := w_at 112 (by decide +kernel) rfl
theorem m_100 : Cond.code y_X_seal prog_1_method_3_code 2 (some .boolean) ∈ w_all := w_at 113 rfl rfl
theorem m_101 : Cond.methodLink R_X 36 y_K_of ∈ w_all := w_at 114 (by decide +kernel) rfl
theorem m_102 : Cond.static y_K_of ∈ w_all := w_at 115 (by decide +kernel) rfl
theorem m_103 : Cond.code y_K_of prog_2_method_2_code 6 (some .int) ∈ w_all := w_at 116 rfl rfl
theorem m_104 : Cond.constant R_K 7 65535 ∈ w_all := w_at 117 (by decide +kernel) rfl
theorem m_105 : Cond.constant R_K 8 32768 ∈ w_all := w_at 118 (by decide +kernel) rfl
theorem m_106 : Cond.constant R_K 9 69665 ∈ w_all := w_at 119 (by decide +kernel) rfl
theorem m_107 : Cond.methodLink R_law 25 y_X_length ∈ w_all := w_at 120 (by decide +kernel) rfl
theorem m_108 : Cond.instanceMethod y_X_length ∈ w_all := w_at 121 (by decide +kernel) rfl
theorem m_109 : Cond.selects R_X y_X_length y_X_length ∈ w_all := w_at 122 (by decide +kernel) rfl
theorem m_110 : Cond.code y_X_length prog_1_method_4_code 1 (some .int) ∈ w_all := w_at 123 rfl rfl
theorem m_111 : Cond.methodLink R_law 30 y_X_frame ∈ w_all := w_at 124 (by decide +kernel) rfl
theorem m_112 : Cond.instanceMethod y_X_frame ∈ w_all := w_at 125 (by decide +kernel) rfl
theorem m_113 : Cond.selects R_X y_X_frame y_X_frame ∈ w_all := w_at 126 (by decide +kernel) rfl
theorem m_114 : Cond.code y_X_frame prog_1_method_5_code 2 (some .int) ∈ w_all := w_at 127 rfl rfl
theorem m_115 : Cond.methodLink R_X 42 y_G_frame ∈ w_all := w_at 128 (by decide +kernel) rfl
theorem m_116 : Cond.instanceMethod y_G_frame ∈ w_all := w_at 129 (by decide +kernel) rfl
theorem m_117 : Cond.selects R_G y_G_frame y_G_frame ∈ w_all := w_at 130 (by decide +kernel) rfl
theorem m_118 : Cond.code y_G_frame prog_3_method_2_code 7 (some .int) ∈ w_all := w_at 131 rfl rfl
theorem m_119 : Cond.methodLink R_G 19 y_G_lengthOf ∈ w_all := w_at 132 (by decide +kernel) rfl
theorem m_120 : Cond.static y_G_lengthOf ∈ w_all := w_at 133 (by decide +kernel) rfl
theorem m_121 : Cond.code y_G_lengthOf prog_3_method_3_code 5 (some .int) ∈ w_all := w_at 134 rfl rfl
theorem m_122 : Cond.methodLink R_G 38 y_K_of ∈ w_all := w_at 135 (by decide +kernel) rfl
theorem m_123 : Cond.methodLink R_G 23 y_G_control ∈ w_all := w_at 136 (by decide +kernel) rfl
theorem m_125 : Cond.instanceMethod y_G_control ∈ w_all := w_at 138 (by decide +kernel) rfl
theorem m_126 : Cond.code y_G_control prog_3_method_9_code 4 (some .int) ∈ w_all := w_at 139 rfl rfl
theorem m_127 : Cond.methodLink R_G 70 y_G_more ∈ w_all := w_at 140 (by decide +kernel) rfl
theorem m_129 : Cond.instanceMethod y_G_more ∈ w_all := w_at 142 (by decide +kernel) rfl
theorem m_130 : Cond.code y_G_more prog_3_method_6_code 1 none ∈ w_all := w_at 143 rfl rfl
theorem m_131 : Cond.methodLink R_G 73 y_G_opens ∈ w_all := w_at 144 (by decide +kernel) rfl
theorem m_133 : Cond.instanceMethod y_G_opens ∈ w_all := w_at 146 (by decide +kernel) rfl
theorem m_134 : Cond.code y_G_opens prog_3_method_8_code 1 none ∈ w_all := w_at 147 rfl rfl
theorem m_135 : Cond.methodLink R_G 26 y_G_beside ∈ w_all := w_at 148 (by decide +kernel) rfl
theorem m_137 : Cond.instanceMethod y_G_beside ∈ w_all := w_at 150 (by decide +kernel) rfl
theorem m_138 : Cond.code y_G_beside prog_3_method_7_code 3 (some .int) ∈ w_all := w_at 151 rfl rfl
theorem m_139 : Cond.methodLink R_G 53 y_Q_isFull ∈ w_all := w_at 152 (by decide +kernel) rfl
theorem m_140 : Cond.instanceMethod y_Q_isFull ∈ w_all := w_at 153 (by decide +kernel) rfl
theorem m_141 : Cond.selects R_Q y_Q_isFull y_Q_isFull ∈ w_all := w_at 154 (by decide +kernel) rfl
theorem m_142 : Cond.code y_Q_isFull prog_4_method_2_code 1 (some .boolean) ∈ w_all := w_at 155 rfl rfl
theorem m_143 : Cond.methodLink R_G 64 y_G_body ∈ w_all := w_at 156 (by decide +kernel) rfl
theorem m_145 : Cond.instanceMethod y_G_body ∈ w_all := w_at 158 (by decide +kernel) rfl
theorem m_146 : Cond.code y_G_body prog_3_method_4_code 3 none ∈ w_all := w_at 159 rfl rfl
theorem m_147 : Cond.methodLink R_G 44 y_Q_put ∈ w_all := w_at 160 (by decide +kernel) rfl
theorem m_148 : Cond.instanceMethod y_Q_put ∈ w_all := w_at 161 (by decide +kernel) rfl
theorem m_149 : Cond.selects R_Q y_Q_put y_Q_put ∈ w_all := w_at 162 (by decide +kernel) rfl
theorem m_150 : Cond.code y_Q_put prog_4_method_3_code 5 none ∈ w_all := w_at 163 rfl rfl
theorem m_151 : Cond.methodLink R_Q 27 arraycopyName ∈ w_all := w_at 164 (by decide +kernel) rfl
theorem m_152 : Cond.static arraycopyName ∈ w_all := w_at 165 (by decide +kernel) rfl
theorem m_153 : Cond.native arraycopyName ∈ w_all := w_at 166 (by decide +kernel) rfl
theorem m_154 : Cond.methodLink R_G 29 y_G_inOrder ∈ w_all := w_at 167 (by decide +kernel) rfl
theorem m_156 : Cond.instanceMethod y_G_inOrder ∈ w_all := w_at 169 (by decide +kernel) rfl
theorem m_157 : Cond.code y_G_inOrder prog_3_method_5_code 4 (some .int) ∈ w_all := w_at 170 rfl rfl
theorem m_158 : Cond.methodLink R_law 34 y_X_take ∈ w_all := w_at 171 (by decide +kernel) rfl
theorem m_159 : Cond.instanceMethod y_X_take ∈ w_all := w_at 172 (by decide +kernel) rfl
theorem m_160 : Cond.selects R_X y_X_take y_X_take ∈ w_all := w_at 173 (by decide +kernel) rfl
theorem m_161 : Cond.code y_X_take prog_1_method_6_code 2 (some .int) ∈ w_all := w_at 174 rfl rfl
theorem m_162 : Cond.methodLink R_X 46 y_Q_take ∈ w_all := w_at 175 (by decide +kernel) rfl
theorem m_163 : Cond.instanceMethod y_Q_take ∈ w_all := w_at 176 (by decide +kernel) rfl
theorem m_164 : Cond.selects R_Q y_Q_take y_Q_take ∈ w_all := w_at 177 (by decide +kernel) rfl
theorem m_165 : Cond.code y_Q_take prog_4_method_4_code 3 (some .int) ∈ w_all := w_at 178 rfl rfl
theorem m_166 : Cond.methodLink R_law 38 y_X_byteAt ∈ w_all := w_at 179 (by decide +kernel) rfl
theorem m_167 : Cond.instanceMethod y_X_byteAt ∈ w_all := w_at 180 (by decide +kernel) rfl
theorem m_168 : Cond.selects R_X y_X_byteAt y_X_byteAt ∈ w_all := w_at 181 (by decide +kernel) rfl
theorem m_169 : Cond.code y_X_byteAt prog_1_method_7_code 2 (some .int) ∈ w_all := w_at 182 rfl rfl
theorem m_170 : Cond.methodLink R_law 43 y_X_release ∈ w_all := w_at 183 (by decide +kernel) rfl
theorem m_171 : Cond.instanceMethod y_X_release ∈ w_all := w_at 184 (by decide +kernel) rfl
theorem m_172 : Cond.selects R_X y_X_release y_X_release ∈ w_all := w_at 185 (by decide +kernel) rfl
theorem m_173 : Cond.code y_X_release prog_1_method_8_code 1 (some .boolean) ∈ w_all := w_at 186 rfl rfl
theorem m_174 : Cond.methodLink R_X 53 y_G_release ∈ w_all := w_at 187 (by decide +kernel) rfl
theorem m_175 : Cond.instanceMethod y_G_release ∈ w_all := w_at 188 (by decide +kernel) rfl
theorem m_176 : Cond.selects R_G y_G_release y_G_release ∈ w_all := w_at 189 (by decide +kernel) rfl
theorem m_177 : Cond.code y_G_release prog_3_method_10_code 2 (some .boolean) ∈ w_all := w_at 190 rfl rfl
theorem m_178 : Cond.methodLink R_law 47 y_X_word ∈ w_all := w_at 191 (by decide +kernel) rfl
theorem m_179 : Cond.instanceMethod y_X_word ∈ w_all := w_at 192 (by decide +kernel) rfl
theorem m_180 : Cond.selects R_X y_X_word y_X_word ∈ w_all := w_at 193 (by decide +kernel) rfl
theorem m_181 : Cond.code y_X_word prog_1_method_9_code 1 (some .int) ∈ w_all := w_at 194 rfl rfl
theorem m_182 : Cond.methodLink R_X 57 y_G_word ∈ w_all := w_at 195 (by decide +kernel) rfl
theorem m_183 : Cond.instanceMethod y_G_word ∈ w_all := w_at 196 (by decide +kernel) rfl
theorem m_184 : Cond.selects R_G y_G_word y_G_word ∈ w_all := w_at 197 (by decide +kernel) rfl
theorem m_185 : Cond.code y_G_word prog_3_method_11_code 2 (some .int) ∈ w_all := w_at 198 rfl rfl
theorem m_186 : Cond.constant R_G 76 16777216 ∈ w_all := w_at 199 (by decide +kernel) rfl
theorem m_187 : Cond.methodLink R_law 51 y_X_about ∈ w_all := w_at 200 (by decide +kernel) rfl
theorem m_188 : Cond.instanceMethod y_X_about ∈ w_all := w_at 201 (by decide +kernel) rfl
theorem m_189 : Cond.selects R_X y_X_about y_X_about ∈ w_all := w_at 202 (by decide +kernel) rfl
theorem m_190 : Cond.code y_X_about prog_1_method_10_code 2 (some .int) ∈ w_all := w_at 203 rfl rfl
theorem m_191 : Cond.classLink R_law 10 R_M ∈ w_all := w_at 204 (by decide +kernel) rfl
theorem m_192 : Cond.instantiable R_M 15 ∈ w_all := w_at 205 (by decide +kernel) rfl
theorem m_193 : Cond.methodLink R_law 12 y_Minit ∈ w_all := w_at 206 (by decide +kernel) rfl
theorem m_194 : Cond.instanceMethod y_Minit ∈ w_all := w_at 207 (by decide +kernel) rfl
theorem m_195 : Cond.code y_Minit prog_6_method_1_code 1 none ∈ w_all := w_at 208 rfl rfl
theorem m_196 : Cond.methodLink R_M 1 objectInit ∈ w_all := w_at 209 (by decide +kernel) rfl
theorem m_197 : Cond.fieldLink R_M 27 R_M "thrown" "I" ∈ w_all := w_at 210 (by decide +kernel) rfl
theorem m_198 : Cond.fieldLink R_M 7 R_M "tape" "[B" ∈ w_all := w_at 211 (by decide +kernel) rfl
theorem m_199 : Cond.fieldLink R_M 30 R_M "many" "I" ∈ w_all := w_at 212 (by decide +kernel) rfl
theorem m_200 : Cond.fieldLink R_M 47 R_M "packets" "I" ∈ w_all := w_at 213 (by decide +kernel) rfl
theorem m_201 : Cond.fieldLink R_M 13 R_M "queue" "[B" ∈ w_all := w_at 214 (by decide +kernel) rfl
theorem m_202 : Cond.fieldLink R_M 16 R_M "lengths" "[I" ∈ w_all := w_at 215 (by decide +kernel) rfl
theorem m_203 : Cond.fieldLink R_M 20 R_M "taken" "[B" ∈ w_all := w_at 216 (by decide +kernel) rfl
theorem m_204 : Cond.fieldLink R_M 84 R_M "takenLength" "I" ∈ w_all := w_at 217 (by decide +kernel) rfl
theorem m_205 : Cond.fieldLink R_M 23 R_M "state" "I" ∈ w_all := w_at 218 (by decide +kernel) rfl
theorem m_206 : Cond.fieldLink R_M 68 R_M "next" "I" ∈ w_all := w_at 219 (by decide +kernel) rfl
theorem m_207 : Cond.fieldLink R_M 58 R_M "beside" "I" ∈ w_all := w_at 220 (by decide +kernel) rfl
theorem m_208 : Cond.fieldLink R_M 65 R_M "waits" "Z" ∈ w_all := w_at 221 (by decide +kernel) rfl
theorem m_209 : Cond.fieldLink R_M 61 R_M "again" "Z" ∈ w_all := w_at 222 (by decide +kernel) rfl
theorem m_210 : Cond.fieldLink R_M 44 R_M "refused" "I" ∈ w_all := w_at 223 (by decide +kernel) rfl
theorem m_211 : Cond.fieldLink R_M 50 R_M "accepted" "I" ∈ w_all := w_at 224 (by decide +kernel) rfl
theorem m_243 : Cond.methodLink R_law 19 y_M_give ∈ w_all := w_at 256 (by decide +kernel) rfl
theorem m_244 : Cond.instanceMethod y_M_give ∈ w_all := w_at 257 (by decide +kernel) rfl
theorem m_245 : Cond.selects R_M y_M_give y_M_give ∈ w_all := w_at 258 (by decide +kernel) rfl
theorem m_246 : Cond.code y_M_give prog_6_method_3_code 5 (some .boolean) ∈ w_all := w_at 259 rfl rfl
theorem m_247 : Cond.methodLink R_law 24 y_M_seal ∈ w_all := w_at 260 (by decide +kernel) rfl
theorem m_248 : Cond.instanceMethod y_M_seal ∈ w_all := w_at 261 (by decide +kernel) rfl
theorem m_249 : Cond.selects R_M y_M_seal y_M_seal ∈ w_all := w_at 262 (by decide +kernel) rfl
theorem m_250 : Cond.code y_M_seal prog_6_method_5_code 2 (some .boolean) ∈ w_all := w_at 263 rfl rfl
theorem m_251 : Cond.methodLink R_M 36 y_M_check ∈ w_all := w_at 264 (by decide +kernel) rfl
theorem m_253 : Cond.instanceMethod y_M_check ∈ w_all := w_at 266 (by decide +kernel) rfl
theorem m_254 : Cond.code y_M_check prog_6_method_4_code 5 (some .int) ∈ w_all := w_at 267 rfl rfl
theorem m_255 : Cond.constant R_M 33 65535 ∈ w_all := w_at 268 (by decide +kernel) rfl
theorem m_256 : Cond.constant R_M 34 65536 ∈ w_all := w_at 269 (by decide +kernel) rfl
theorem m_257 : Cond.constant R_M 35 69665 ∈ w_all := w_at 270 (by decide +kernel) rfl
theorem m_258 : Cond.methodLink R_law 29 y_M_length ∈ w_all := w_at 271 (by decide +kernel) rfl
theorem m_259 : Cond.instanceMethod y_M_length ∈ w_all := w_at 272 (by decide +kernel) rfl
theorem m_260 : Cond.selects R_M y_M_length y_M_length ∈ w_all := w_at 273 (by decide +kernel) rfl
theorem m_261 : Cond.code y_M_length prog_6_method_6_code 1 (some .int) ∈ w_all := w_at 274 rfl rfl
theorem m_262 : Cond.methodLink R_law 33 y_M_frame ∈ w_all := w_at 275 (by decide +kernel) rfl
theorem m_263 : Cond.instanceMethod y_M_frame ∈ w_all := w_at 276 (by decide +kernel) rfl
theorem m_264 : Cond.selects R_M y_M_frame y_M_frame ∈ w_all := w_at 277 (by decide +kernel) rfl
theorem m_265 : Cond.code y_M_frame prog_6_method_13_code 3 (some .int) ∈ w_all := w_at 278 rfl rfl
theorem m_266 : Cond.methodLink R_M 75 y_M_valid ∈ w_all := w_at 279 (by decide +kernel) rfl
theorem m_268 : Cond.instanceMethod y_M_valid ∈ w_all := w_at 281 (by decide +kernel) rfl
theorem m_269 : Cond.code y_M_valid prog_6_method_8_code 5 (some .int) ∈ w_all := w_at 282 rfl rfl
theorem m_270 : Cond.methodLink R_M 40 y_M_bits ∈ w_all := w_at 283 (by decide +kernel) rfl
theorem m_272 : Cond.instanceMethod y_M_bits ∈ w_all := w_at 285 (by decide +kernel) rfl
theorem m_273 : Cond.code y_M_bits prog_6_method_7_code 5 (some .int) ∈ w_all := w_at 286 rfl rfl
theorem m_274 : Cond.methodLink R_M 54 y_M_refuses ∈ w_all := w_at 287 (by decide +kernel) rfl
theorem m_276 : Cond.instanceMethod y_M_refuses ∈ w_all := w_at 289 (by decide +kernel) rfl
theorem m_277 : Cond.code y_M_refuses prog_6_method_9_code 1 (some .int) ∈ w_all := w_at 290 rfl rfl
theorem m_278 : Cond.methodLink R_M 78 y_M_controls ∈ w_all := w_at 291 (by decide +kernel) rfl
theorem m_280 : Cond.instanceMethod y_M_controls ∈ w_all := w_at 293 (by decide +kernel) rfl
theorem m_281 : Cond.code y_M_controls prog_6_method_11_code 4 (some .int) ∈ w_all := w_at 294 rfl rfl
theorem m_282 : Cond.constant R_M 53 33280 ∈ w_all := w_at 295 (by decide +kernel) rfl
theorem m_283 : Cond.methodLink R_M 81 y_M_inOrder ∈ w_all := w_at 296 (by decide +kernel) rfl
theorem m_285 : Cond.instanceMethod y_M_inOrder ∈ w_all := w_at 298 (by decide +kernel) rfl
theorem m_286 : Cond.code y_M_inOrder prog_6_method_12_code 3 (some .int) ∈ w_all := w_at 299 rfl rfl
theorem m_287 : Cond.methodLink R_M 71 y_M_comes ∈ w_all := w_at 300 (by decide +kernel) rfl
theorem m_289 : Cond.instanceMethod y_M_comes ∈ w_all := w_at 302 (by decide +kernel) rfl
theorem m_290 : Cond.code y_M_comes prog_6_method_10_code 3 none ∈ w_all := w_at 303 rfl rfl
theorem m_291 : Cond.methodLink R_law 37 y_M_take ∈ w_all := w_at 304 (by decide +kernel) rfl
theorem m_292 : Cond.instanceMethod y_M_take ∈ w_all := w_at 305 (by decide +kernel) rfl
theorem m_293 : Cond.selects R_M y_M_take y_M_take ∈ w_all := w_at 306 (by decide +kernel) rfl
theorem m_294 : Cond.code y_M_take prog_6_method_14_code 2 (some .int) ∈ w_all := w_at 307 rfl rfl
theorem m_295 : Cond.methodLink R_law 42 y_M_byteAt ∈ w_all := w_at 308 (by decide +kernel) rfl
theorem m_296 : Cond.instanceMethod y_M_byteAt ∈ w_all := w_at 309 (by decide +kernel) rfl
theorem m_297 : Cond.selects R_M y_M_byteAt y_M_byteAt ∈ w_all := w_at 310 (by decide +kernel) rfl
theorem m_298 : Cond.code y_M_byteAt prog_6_method_15_code 2 (some .int) ∈ w_all := w_at 311 rfl rfl
theorem m_299 : Cond.methodLink R_law 46 y_M_release ∈ w_all := w_at 312 (by decide +kernel) rfl
theorem m_300 : Cond.instanceMethod y_M_release ∈ w_all := w_at 313 (by decide +kernel) rfl
theorem m_301 : Cond.selects R_M y_M_release y_M_release ∈ w_all := w_at 314 (by decide +kernel) rfl
theorem m_302 : Cond.code y_M_release prog_6_method_16_code 2 (some .boolean) ∈ w_all := w_at 315 rfl rfl
theorem m_303 : Cond.methodLink R_law 50 y_M_word ∈ w_all := w_at 316 (by decide +kernel) rfl
theorem m_304 : Cond.instanceMethod y_M_word ∈ w_all := w_at 317 (by decide +kernel) rfl
theorem m_305 : Cond.selects R_M y_M_word y_M_word ∈ w_all := w_at 318 (by decide +kernel) rfl
theorem m_306 : Cond.code y_M_word prog_6_method_17_code 2 (some .int) ∈ w_all := w_at 319 rfl rfl
theorem m_307 : Cond.methodLink R_law 54 y_M_about ∈ w_all := w_at 320 (by decide +kernel) rfl
theorem m_308 : Cond.instanceMethod y_M_about ∈ w_all := w_at 321 (by decide +kernel) rfl
theorem m_309 : Cond.selects R_M y_M_about y_M_about ∈ w_all := w_at 322 (by decide +kernel) rfl
theorem m_310 : Cond.code y_M_about prog_6_method_18_code 2 (some .int) ∈ w_all := w_at 323 rfl rfl
theorem m_311 : Cond.constantLong R_law 13 4294967295 ∈ w_all := w_at 324 (by decide +kernel) rfl
theorem m_s0 : Cond.selects R_G y_G_control y_G_control ∈ w_all := w_at 0 (by decide +kernel) rfl
theorem m_s1 : Cond.selects R_G y_G_more y_G_more ∈ w_all := w_at 1 (by decide +kernel) rfl
theorem m_s2 : Cond.selects R_G y_G_opens y_G_opens ∈ w_all := w_at 2 (by decide +kernel) rfl
theorem m_s3 : Cond.selects R_G y_G_beside y_G_beside ∈ w_all := w_at 3 (by decide +kernel) rfl
theorem m_s4 : Cond.selects R_G y_G_body y_G_body ∈ w_all := w_at 4 (by decide +kernel) rfl
theorem m_s5 : Cond.selects R_G y_G_inOrder y_G_inOrder ∈ w_all := w_at 5 (by decide +kernel) rfl
theorem m_s6 : Cond.selects R_M y_M_check y_M_check ∈ w_all := w_at 6 (by decide +kernel) rfl
theorem m_s7 : Cond.selects R_M y_M_valid y_M_valid ∈ w_all := w_at 7 (by decide +kernel) rfl
theorem m_s8 : Cond.selects R_M y_M_bits y_M_bits ∈ w_all := w_at 8 (by decide +kernel) rfl
theorem m_s9 : Cond.selects R_M y_M_refuses y_M_refuses ∈ w_all := w_at 9 (by decide +kernel) rfl
theorem m_s10 : Cond.selects R_M y_M_controls y_M_controls ∈ w_all := w_at 10 (by decide +kernel) rfl
theorem m_s11 : Cond.selects R_M y_M_inOrder y_M_inOrder ∈ w_all := w_at 11 (by decide +kernel) rfl
theorem m_s12 : Cond.selects R_M y_M_comes y_M_comes ∈ w_all := w_at 12 (by decide +kernel) rfl
end
section
/-! ===== PURE: numbers, bytes, the check, bits, what a frame does, the queue. No program here. ===== -/
-- nx_and, nx_xor began as rows of kit/laws/BITS.to-paste
theorem nx_and (a b : Nat) : nI a &&& nI b = nI (a &&& b) := by
  apply Int32.toBitVec_inj.1
  show BitVec.ofNat 32 a &&& BitVec.ofNat 32 b = BitVec.ofNat 32 (a &&& b)
  apply BitVec.eq_of_getLsbD_eq
  intro i hi
  simp [hi]
theorem nx_xor (a b : Nat) : nI a ^^^ nI b = nI (a ^^^ b) := by
  apply Int32.toBitVec_inj.1
  show BitVec.ofNat 32 a ^^^ BitVec.ofNat 32 b = BitVec.ofNat 32 (a ^^^ b)
  apply BitVec.eq_of_getLsbD_eq
  intro i hi
  simp [hi]
theorem nx_or (a b : Nat) : nI a ||| nI b = nI (a ||| b) := by
  apply Int32.toBitVec_inj.1
  show BitVec.ofNat 32 a ||| BitVec.ofNat 32 b = BitVec.ofNat 32 (a ||| b)
  apply BitVec.eq_of_getLsbD_eq
  intro i hi
  simp [hi]
theorem fg_sl : ∀ n, n < 32 → ((nI n &&& 31).toBitVec.smod 32).toNat = n := by decide +kernel
theorem fg_shl {a : Nat} (k : Nat) (hk : k < 32) (h : a * 2 ^ k < 2 ^ 32) : nI a <<< (nI k &&& 31) = nI (a * 2 ^ k) := pk_shlN _ k (fg_sl k hk) h
theorem fg_shr {a : Nat} (k : Nat) (hk : k < 32) (h : a < 2 ^ 31) : nI a >>> (nI k &&& 31) = nI (a / 2 ^ k) := pk_shrN h _ k (fg_sl k hk)
/-- the byte behind an int -/
def bN (x : Int32) : Nat := x.toBitVec.toNat % 256
theorem bN_lt (x : Int32) : bN x < 256 := Nat.mod_lt _ (by decide)
theorem bN_and (x : Int32) : x &&& nI 255 = nI (bN x) := pk_and x 8 (by decide)
theorem bN_mask (x : Int32) (k : Nat) (hk : k < 256) : x &&& nI k = nI (bN x &&& k) := by
  have e : k &&& 255 = k := (Nat.and_two_pow_sub_one_eq_mod k 8).trans (Nat.mod_eq_of_lt hk)
  have e2 : nI 255 &&& nI k = nI k := by rw [nx_and, Nat.and_comm, e]
  have e3 : x &&& (nI 255 &&& nI k) = (x &&& nI 255) &&& nI k := (Int32.and_assoc x (nI 255) (nI k)).symm
  rw [e2, bN_and, nx_and] at e3
  exact e3
theorem a_204 : ∀ b, b < 256 → (b &&& 204 = 0 ↔ b / 64 = 0 ∧ b / 4 % 4 = 0) := by decide +kernel
theorem a_252 : ∀ b, b < 256 → (b &&& 252 = 0 ↔ b / 4 = 0) := by decide +kernel
theorem a_3 : ∀ b, b < 256 → b &&& 3 = b % 4 := by decide +kernel
theorem a_32 : ∀ b, b < 256 → (b &&& 32 = 0 ↔ b / 32 % 2 = 0) := by decide +kernel
theorem a_16 : ∀ b, b < 256 → (b &&& 16 = 0 ↔ b / 16 % 2 = 0) := by decide +kernel
/-- an array that holds bytes -/
def BF (f : Nat → Int32) : Prop := ∀ j, (f j).toInt8.toInt32 = f j
theorem BF.fit {f : Nat → Int32} (h : BF f) (j : Nat) : fits .byte (.int (f j)) = true := by
  have := pk_fb (f j)
  rwa [h j] at this
theorem BF.nar {f : Nat → Int32} (h : BF f) (j : Nat) : vp_nar .byte (f j) = f j := (vp_nar_byte _).trans (h j)
theorem BF.zero {f : Nat → Int32} (h : BF f) (j : Nat) : f j = 0 ↔ bN (f j) = 0 := by
  have h1 := sc_eq (h j) (n := 0) (by decide)
  rw [show (nI 0).toInt8.toInt32 = 0 from by decide, show (255 : Int32) = nI 255 from by decide, bN_and] at h1
  rw [h1]
  exact nI_eq (by have := bN_lt (f j); omega) (by decide)
theorem BF.z0 : BF (fun _ => 0) := fun _ => (by decide : (0 : Int32).toInt8.toInt32 = 0)
theorem BF.upd {f : Nat → Int32} (h : BF f) (k : Nat) (x : Int32) : BF (upd f k (vp_nar .byte x)) := by
  intro j
  by_cases e : j = k
  · subst e
    rw [pk_us, vp_nar_byte]
    simp
  · rw [pk_un e]
    exact h j
theorem BF.cpy {f g : Nat → Int32} (hf : BF f) (hg : BF g) (a b n : Nat) : BF (va_cpy f g a b n) := by
  intro j
  unfold va_cpy
  split
  · exact hf _
  · exact hg _
/-! the check -/
def cst (c : Nat) : Nat := if c < 32768 then c * 2 else (c * 2) ^^^ 69665
def cit (c : Nat) : Nat → Nat
  | 0 => c
  | j + 1 => cst (cit c j)
def crc (t : Nat → Int32) : Nat → Nat
  | 0 => 65535
  | k + 1 => cit (crc t k ^^^ (bN (t k) * 256)) 8
theorem x_lt {a b n : Nat} (ha : a < 2 ^ n) (hb : b < 2 ^ n) : a ^^^ b < 2 ^ n := Nat.xor_lt_two_pow ha hb
theorem x_div (a b n : Nat) : (a ^^^ b) / 2 ^ n = a / 2 ^ n ^^^ b / 2 ^ n := by
  rw [← Nat.shiftRight_eq_div_pow, ← Nat.shiftRight_eq_div_pow, ← Nat.shiftRight_eq_div_pow, Nat.shiftRight_xor_distrib]
theorem x_mul2 (a b : Nat) : (a ^^^ b) * 2 = a * 2 ^^^ b * 2 := by
  have h := Nat.shiftLeft_xor_distrib (a := a) (b := b) (i := 1)
  simp only [Nat.shiftLeft_eq, Nat.pow_one] at h
  exact h
theorem x_zero {a b : Nat} : a ^^^ b = 0 ↔ a = b := by
  constructor
  · intro h
    have h1 : (a ^^^ b) ^^^ b = 0 ^^^ b := by rw [h]
    rwa [Nat.xor_assoc, Nat.xor_self, Nat.xor_zero, Nat.zero_xor] at h1
  · intro h
    rw [h, Nat.xor_self]
theorem cst_lt {c : Nat} (h : c < 65536) : cst c < 65536 := by
  unfold cst
  split
  · omega
  · have e : (c * 2 ^^^ 69665) / 2 ^ 16 = 0 := by
      rw [x_div]
      have e1 : c * 2 / 2 ^ 16 = 1 := by omega
      rw [e1]
      rfl
    omega
theorem cit_lt {c : Nat} (h : c < 65536) : ∀ j, cit c j < 65536
  | 0 => h
  | j + 1 => cst_lt (cit_lt h j)
theorem crc_lt (t : Nat → Int32) : ∀ k, crc t k < 65536
  | 0 => (by decide : (65535 : Nat) < 65536)
  | k + 1 => cit_lt (x_lt (n := 16) (crc_lt t k) (by have := bN_lt (t k); omega)) 8
theorem cst_xor {a b : Nat} (ha : a < 65536) (hb : b < 65536) : cst (a ^^^ b) = cst a ^^^ cst b := by
  have hd := x_div a b 15
  have hx := x_lt (n := 16) ha hb
  unfold cst
  by_cases h1 : a < 32768 <;> by_cases h2 : b < 32768
  · have e1 : a / 2 ^ 15 = 0 := by omega
    have e2 : b / 2 ^ 15 = 0 := by omega
    rw [e1, e2, Nat.xor_self] at hd
    rw [if_pos h1, if_pos h2, if_pos (by omega), x_mul2]
  · have e1 : a / 2 ^ 15 = 0 := by omega
    have e2 : b / 2 ^ 15 = 1 := by omega
    rw [e1, e2] at hd
    have hd : (a ^^^ b) / 2 ^ 15 = 1 := hd
    rw [if_pos h1, if_neg h2, if_neg (by omega), x_mul2, Nat.xor_assoc]
  · have e1 : a / 2 ^ 15 = 1 := by omega
    have e2 : b / 2 ^ 15 = 0 := by omega
    rw [e1, e2] at hd
    have hd : (a ^^^ b) / 2 ^ 15 = 1 := hd
    rw [if_neg h1, if_pos h2, if_neg (by omega), x_mul2, Nat.xor_assoc, Nat.xor_comm (b * 2), ← Nat.xor_assoc]
  · have e1 : a / 2 ^ 15 = 1 := by omega
    have e2 : b / 2 ^ 15 = 1 := by omega
    rw [e1, e2, Nat.xor_self] at hd
    rw [if_neg h1, if_neg h2, if_pos (by omega), x_mul2]
    have e : ∀ x y z : Nat, x ^^^ y = (x ^^^ z) ^^^ (y ^^^ z) := by
      intro x y z
      rw [Nat.xor_assoc, ← Nat.xor_assoc z y z, Nat.xor_comm z y, Nat.xor_assoc y z z, Nat.xor_self, Nat.xor_zero]
    exact e _ _ _
theorem cit_xor {a b : Nat} (ha : a < 65536) (hb : b < 65536) : ∀ j, cit (a ^^^ b) j = cit a j ^^^ cit b j
  | 0 => rfl
  | j + 1 => by
    show cst (cit (a ^^^ b) j) = _
    rw [cit_xor ha hb j, cst_xor (cit_lt ha j) (cit_lt hb j)]
    rfl
theorem cst_zero {c : Nat} : cst c = 0 ↔ c = 0 := by
  unfold cst
  split
  · omega
  · rw [x_zero]
    omega
theorem cit_zero {c : Nat} : ∀ j, cit c j = 0 ↔ c = 0
  | 0 => Iff.rfl
  | j + 1 => by
    show cst (cit c j) = 0 ↔ _
    rw [cst_zero]
    exact cit_zero j
theorem cit_b {b : Nat} (h : b < 256) : cit b 8 = b * 256 := by
  have s : ∀ c, c < 32768 → cst c = c * 2 := fun c hc => if_pos hc
  show cst (cst (cst (cst (cst (cst (cst (cst b))))))) = _
  rw [s b (by omega), s (b * 2) (by omega), s (b * 2 * 2) (by omega), s (b * 2 * 2 * 2) (by omega), s (b * 2 * 2 * 2 * 2) (by omega), s (b * 2 * 2 * 2 * 2 * 2) (by omega), s (b * 2 * 2 * 2 * 2 * 2 * 2) (by omega), s (b * 2 * 2 * 2 * 2 * 2 * 2 * 2) (by omega)]
  omega
theorem or_add (a : Nat) {b : Nat} (h : b < 256) : a * 256 ||| b = a * 256 + b := by
  have e := Nat.two_pow_add_eq_or_of_lt (i := 8) (b := b) h a
  rw [Nat.mul_comm (2 ^ 8) a] at e
  exact e.symm
theorem xor_add (a : Nat) {b : Nat} (h : b < 256) : a * 256 ^^^ b = a * 256 + b := by
  have e : 2 ^ 8 * a ^^^ b = 2 ^ 8 * a + b := by
    apply Nat.eq_of_testBit_eq
    intro i
    rw [Nat.testBit_xor, Nat.testBit_two_pow_mul_add a (i := 8) h, Nat.testBit_two_pow_mul]
    by_cases hi : i < 8
    · rw [if_pos hi, decide_eq_false (by omega)]
      simp
    · rw [if_neg hi, decide_eq_true (by omega), Nat.testBit_lt_two_pow (x := b) (i := i) (Nat.lt_of_lt_of_le h (Nat.pow_le_pow_right (by decide : 2 > 0) (show 8 ≤ i by omega)))]
      simp
  rw [Nat.mul_comm (2 ^ 8) a] at e
  exact e
/-- the check of all is zero just if the last two bytes are the check of the others -/
theorem crc_tail (t : Nat → Int32) (k : Nat) : crc t (k + 2) = 0 ↔ crc t k = bN (t k) * 256 + bN (t (k + 1)) := by
  have ha := bN_lt (t k)
  have hb := bN_lt (t (k + 1))
  have hx : crc t k ^^^ (bN (t k) * 256) < 65536 := x_lt (n := 16) (crc_lt t k) (by omega)
  show cit (cit (crc t k ^^^ (bN (t k) * 256)) 8 ^^^ (bN (t (k + 1)) * 256)) 8 = 0 ↔ _
  rw [← cit_b hb, ← cit_xor hx (by omega) 8, cit_zero, cit_zero, Nat.xor_assoc, x_zero, xor_add _ hb]
/-! bits -/
def bitN (t : Nat → Int32) (k : Nat) : Nat := bN (t (k / 8)) / 2 ^ (7 - k % 8) % 2
def bts (t : Nat → Int32) (F : Nat) : Nat → Nat
  | 0 => 0
  | n + 1 => 2 * bts t F n + bitN t (F + n)
theorem bts_lt (t : Nat → Int32) (F : Nat) : ∀ n, bts t F n < 2 ^ n
  | 0 => (by decide : (0 : Nat) < 2 ^ 0)
  | n + 1 => by
    have h := bts_lt t F n
    have h2 : bitN t (F + n) < 2 := Nat.mod_lt _ (by decide)
    show 2 * bts t F n + bitN t (F + n) < _
    rw [Nat.pow_succ]
    omega
theorem shr_bit (x : Int32) (k : Nat) (hk : k < 8) : (x >>> (nI k &&& 31)) &&& nI 1 = nI (bN x / 2 ^ k % 2) := by
  rw [pk_and _ 1 (by decide)]
  congr 1
  have e1 : (x >>> (nI k &&& 31)).toBitVec.getLsbD 0 = x.toBitVec.getLsbD k := by
    rw [Int32.toBitVec_shiftRight]
    show (x.toBitVec.sshiftRight ((nI k &&& 31).toBitVec.smod 32).toNat).getLsbD 0 = _
    rw [fg_sl k (by omega), BitVec.getLsbD_sshiftRight]
    have : k < 32 := by omega
    simp [this]
  have e2 := Nat.toNat_testBit (x >>> (nI k &&& 31)).toBitVec.toNat 0
  have e3 := Nat.toNat_testBit (x.toBitVec.toNat % 2 ^ 8) k
  rw [Nat.testBit_mod_two_pow, decide_eq_true hk, Bool.true_and] at e3
  have e4 : (x >>> (nI k &&& 31)).toBitVec.toNat.testBit 0 = x.toBitVec.toNat.testBit k := e1
  rw [e4, e3] at e2
  simpa [bN] using e2.symm
theorem bit_at (t : Nat → Int32) (a : Nat) {i : Nat} (hi : i < 8) : bitN t (8 * a + i) = bN (t a) / 2 ^ (7 - i) % 2 := by
  unfold bitN
  rw [show (8 * a + i) / 8 = a by omega, show (8 * a + i) % 8 = i by omega]
/-- LENGTH as the frame says it -/
def fL (t : Nat → Int32) : Nat := bN (t 2) % 4 * 256 + bN (t 3)
theorem b_22_10 (t : Nat → Int32) : bts t 22 10 = fL t := by
  have h2 := bN_lt (t 2)
  have h3 := bN_lt (t 3)
  simp only [bts, bitN, fL]
  simp
  omega
theorem b_0_2 (t : Nat → Int32) : bts t 0 2 = bN (t 0) / 64 := by
  have h2 := bN_lt (t 0)
  simp only [bts, bitN]
  simp
  omega
theorem b_4_2 (t : Nat → Int32) : bts t 4 2 = bN (t 0) / 4 % 4 := by
  simp only [bts, bitN]
  simp
  omega
theorem b_6_10 (t : Nat → Int32) : bts t 6 10 = bN (t 0) % 4 * 256 + bN (t 1) := by
  have h2 := bN_lt (t 1)
  simp only [bts, bitN]
  simp
  omega
theorem b_16_6 (t : Nat → Int32) : bts t 16 6 = bN (t 2) / 4 := by
  have h2 := bN_lt (t 2)
  simp only [bts, bitN]
  simp
  omega
theorem b_2_2 (t : Nat → Int32) : bts t 2 2 = bN (t 0) / 16 % 4 := by
  simp only [bts, bitN]
  simp
  omega
theorem b_2_1 (t : Nat → Int32) : bts t 2 1 = bN (t 0) / 32 % 2 := by
  simp only [bts, bitN]
  simp
theorem b_32_8 (t : Nat → Int32) : bts t 32 8 = bN (t 4) := by
  have h2 := bN_lt (t 4)
  simp only [bts, bitN]
  simp
  omega
theorem b_56_8 (t : Nat → Int32) : bts t 56 8 = bN (t 7) := by
  have h2 := bN_lt (t 7)
  simp only [bts, bitN]
  simp
  omega
theorem b_two (t : Nat → Int32) (a : Nat) : bts t (8 * a) 16 = bN (t a) * 256 + bN (t (a + 1)) := by
  have h1 := bN_lt (t a)
  have h2 := bN_lt (t (a + 1))
  have e : ∀ i, i < 8 → bitN t (8 * a + (8 + i)) = bN (t (a + 1)) / 2 ^ (7 - i) % 2 := fun i hi => by
    rw [show 8 * a + (8 + i) = 8 * (a + 1) + i by omega]
    exact bit_at t (a + 1) hi
  simp only [bts]
  rw [bit_at t a (i := 0) (by omega), bit_at t a (i := 1) (by omega), bit_at t a (i := 2) (by omega), bit_at t a (i := 3) (by omega), bit_at t a (i := 4) (by omega), bit_at t a (i := 5) (by omega), bit_at t a (i := 6) (by omega), bit_at t a (i := 7) (by omega), e 0 (by omega), e 1 (by omega), e 2 (by omega), e 3 (by omega), e 4 (by omega), e 5 (by omega), e 6 (by omega), e 7 (by omega)]
  simp
  omega
theorem b_40_16 (t : Nat → Int32) : bts t 40 16 = bN (t 5) * 256 + bN (t 6) := b_two t 5
/-! what a frame does. The gate: (state, next, beside, waits, again, refused, accepted) -/
abbrev GS : Type := Nat × Nat × Nat × Nat × Nat × Nat × Nat
/-- the frame's head and check are right, but for CONTROL without BYPASS -/
abbrev fOK (t : Nat → Int32) (n : Nat) : Prop := 8 ≤ n ∧ bN (t 0) / 64 = 0 ∧ bN (t 0) / 4 % 4 = 0 ∧ bN (t 0) % 4 * 256 + bN (t 1) = 346 ∧ bN (t 2) / 4 = 0 ∧ 7 ≤ fL t ∧ fL t + 1 ≤ n ∧ crc t (fL t + 1) = 0
/-- a control frame of k bytes -/
def ctl (t : Nat → Int32) (k : Nat) (g : GS) : Nat × GS :=
  if k = 1 ∧ bN (t 5) = 0 then (3, (1, g.2.1, (g.2.2.1 + 1) % 4, 0, 0, g.2.2.2.2.2.1, g.2.2.2.2.2.2))
  else if k = 3 ∧ bN (t 5) = 130 ∧ bN (t 6) = 0 then
    (if g.1 = 3 then (4, (g.1, g.2.1, (g.2.2.1 + 1) % 4, g.2.2.2.1, g.2.2.2.2.1, g.2.2.2.2.2.1, g.2.2.2.2.2.2))
     else (4, (1, bN (t 7), (g.2.2.1 + 1) % 4, 0, 0, g.2.2.2.2.2.1, g.2.2.2.2.2.2)))
  else (0, g)
/-- how far ahead -/
def fd (t : Nat → Int32) (nx : Nat) : Nat := (bN (t 4) + 256 - nx) % 256
/-- a frame in order, c packets wait -/
def ino (t : Nat → Int32) (c : Nat) (g : GS) : Nat × GS :=
  if fd t g.2.1 = 0 ∧ g.1 = 1 then
    (if c = 8 then (5, (2, g.2.1, g.2.2.1, 1, 1, g.2.2.2.2.2.1, g.2.2.2.2.2.2))
     else (1, (g.1, (g.2.1 + 1) % 256, g.2.2.1, g.2.2.2.1, 0, g.2.2.2.2.2.1, g.2.2.2.2.2.2)))
  else if 0 < fd t g.2.1 ∧ fd t g.2.1 < 10 then
    (if g.1 = 1 then (5, (g.1, g.2.1, g.2.2.1, g.2.2.2.1, 1, g.2.2.2.2.2.1, g.2.2.2.2.2.2)) else (5, g))
  else if 10 ≤ fd t g.2.1 ∧ fd t g.2.1 < 246 then (5, (3, g.2.1, g.2.2.1, g.2.2.2.1, g.2.2.2.2.1, g.2.2.2.2.2.1, g.2.2.2.2.2.2))
  else (5, g)
/-- a frame beside the order -/
def bes (c : Nat) (g : GS) : Nat × GS := if c = 8 then (0, g) else (2, (g.1, g.2.1, (g.2.2.1 + 1) % 4, g.2.2.2.1, g.2.2.2.2.1, g.2.2.2.2.2.1, g.2.2.2.2.2.2))
/-- the two counts -/
def fin (u : Nat × GS) : Nat × GS := (u.1, (u.2.1, u.2.2.1, u.2.2.2.1, u.2.2.2.2.1, u.2.2.2.2.2.1, u.2.2.2.2.2.2.1 + (if u.1 = 0 then 1 else 0), u.2.2.2.2.2.2.2 + (if u.1 = 1 ∨ u.1 = 2 then 1 else 0)))
/-- before the two counts -/
def fr0 (t : Nat → Int32) (n c : Nat) (g : GS) : Nat × GS :=
  if ¬ fOK t n ∨ bN (t 0) / 16 % 4 = 1 then (0, g)
  else if bN (t 0) / 16 % 4 = 3 then ctl t (fL t - 6) g
  else if bN (t 0) / 32 % 2 = 0 then ino t c g
  else bes c g
def fr (t : Nat → Int32) (n c : Nat) (g : GS) : Nat × GS := fin (fr0 t n c g)
/-- the gate's numbers are in their ranges -/
def gOK (g : GS) : Prop := g.1 < 4 ∧ g.2.1 < 256 ∧ g.2.2.1 < 4 ∧ g.2.2.2.1 < 2 ∧ g.2.2.2.2.1 < 2
theorem gOK_ctl {t : Nat → Int32} {k : Nat} {g : GS} (h : gOK g) : gOK (ctl t k g).2 := by
  obtain ⟨h1, h2, h3, h4, h5⟩ := h
  have h7 := bN_lt (t 7)
  unfold ctl
  repeat' split
  all_goals (simp only [gOK]; omega)
theorem gOK_ino {t : Nat → Int32} {c : Nat} {g : GS} (h : gOK g) : gOK (ino t c g).2 := by
  obtain ⟨h1, h2, h3, h4, h5⟩ := h
  unfold ino
  repeat' split
  all_goals (simp only [gOK]; omega)
theorem gOK_bes {c : Nat} {g : GS} (h : gOK g) : gOK (bes c g).2 := by
  obtain ⟨h1, h2, h3, h4, h5⟩ := h
  unfold bes
  repeat' split
  all_goals (simp only [gOK]; omega)
theorem gOK_fr {t : Nat → Int32} {n c : Nat} {g : GS} (h : gOK g) : gOK (fr t n c g).2 := by
  have h0 : gOK (fr0 t n c g).2 := by
    unfold fr0
    split
    · exact h
    · split
      · exact gOK_ctl h
      · split
        · exact gOK_ino h
        · exact gOK_bes h
  exact h0
/-! the queue: rows R and sizes S of a ring that begins at f, against rows at 256 * i of q, their lengths ln -/
def QR (f c : Nat) (R : Nat → Nat → Int32) (S q ln : Nat → Int32) : Prop := f < 8 ∧ c ≤ 8 ∧ ∀ i, i < c → ∃ k, k ≤ 252 ∧ S ((f + i) % 8) = nI k ∧ ln i = nI k ∧ ∀ j, j < k → R ((f + i) % 8) j = q (256 * i + j)
theorem QR_0 {R : Nat → Nat → Int32} {S q ln : Nat → Int32} : QR 0 0 R S q ln := ⟨by omega, by omega, fun i h => absurd h (Nat.not_lt_zero i)⟩
theorem QR_put {f c k : Nat} {R : Nat → Nat → Int32} {S q ln t : Nat → Int32} (h : QR f c R S q ln) (hc : c < 8) (hk : k ≤ 252) :
    QR f (c + 1) (va_up R ((f + c) % 8) (va_cpy t (R ((f + c) % 8)) 5 0 k)) (upd S ((f + c) % 8) (nI k)) (va_cpy t q 5 (256 * c) k) (upd ln c (nI k)) := by
  obtain ⟨h1, h2, h3⟩ := h
  refine ⟨h1, by omega, fun i hi => ?_⟩
  by_cases e : i = c
  · subst e
    refine ⟨k, hk, pk_us, pk_us, fun j hj => ?_⟩
    rw [va_up_self, pk_cpy_in (Nat.zero_le j) (by omega), pk_cpy_in (by omega) (by omega)]
    congr 1
    omega
  · obtain ⟨k', g1, g2, g3, g4⟩ := h3 i (by omega)
    have hne : (f + i) % 8 ≠ (f + c) % 8 := by omega
    refine ⟨k', g1, by rw [pk_un hne]; exact g2, by rw [pk_un (by omega)]; exact g3, fun j hj => ?_⟩
    rw [va_up_ne _ _ hne, pk_cpy_out (Or.inl (by omega))]
    exact g4 j hj
theorem QR_take {f c : Nat} {R : Nat → Nat → Int32} {S q ln : Nat → Int32} (h : QR f c R S q ln) (hc : 0 < c) :
    QR ((f + 1) % 8) (c - 1) R S (va_cpy q q 256 0 (256 * (c - 1))) (va_cpy ln ln 1 0 (c - 1)) := by
  obtain ⟨h1, h2, h3⟩ := h
  refine ⟨by omega, by omega, fun i hi => ?_⟩
  obtain ⟨k, g1, g2, g3, g4⟩ := h3 (i + 1) (by omega)
  have e : ((f + 1) % 8 + i) % 8 = (f + (i + 1)) % 8 := by omega
  rw [e]
  refine ⟨k, g1, g2, ?_, fun j hj => ?_⟩
  · rw [pk_cpy_in (Nat.zero_le i) (by omega), show 1 + (i - 0) = i + 1 by omega]
    exact g3
  · rw [pk_cpy_in (Nat.zero_le _) (by omega), show 256 + (256 * i + j - 0) = 256 * (i + 1) + j by omega]
    exact g4 j hj
end
section
/-! ===== ROWS of my own: arithmetic and branches by the naturals behind, joins, calls over worlds, arrays ===== -/
section FGR
variable {p : Program} {l : Launch} {e : Env} {R : Room} {s : State} {m : MethodId} {args : Array Value} {below : List Frame} {meth : Method} {c : Code} {H : Heap} {locs : List Loc} {cells slots : Nat} {Q : State → Prop}
variable {cc : ByteArray} {pc : Nat} {ls : Array Slot} {rest : List Value}
theorem fg_nm {x y : Int32} (h : x = y) (k : W p l e R s m args below meth c H locs cells slots Q (F0 m pc ls (.int y :: rest))) : W p l e R s m args below meth c H locs cells slots Q (F0 m pc ls (.int x :: rest)) := by
  subst h; exact k
theorem fg_nm2 {x y : Int32} {v : Value} (h : x = y) (k : W p l e R s m args below meth c H locs cells slots Q (F0 m pc ls (v :: .int y :: rest))) : W p l e R s m args below meth c H locs cells slots Q (F0 m pc ls (v :: .int x :: rest)) := by
  subst h; exact k
theorem fg_cut {g : JFrame} (g' : JFrame) (h : W p l e R s m args below meth c H locs cells slots Q g') (k : W p l e R s m args below meth c H locs cells slots Q g' → W p l e R s m args below meth c H locs cells slots Q g) : W p l e R s m args below meth c H locs cells slots Q g := k h
theorem fg_cutH {g : JFrame} {α : Type} (P : α → Heap → List Loc → Prop) (G : α → JFrame) (h : ∀ (x : α) (H1 : Heap) (locs1 : List Loc), P x H1 locs1 → W p l e R s m args below meth c H1 locs1 cells slots Q (G x))
    (k : (∀ (x : α) (H1 : Heap) (locs1 : List Loc), P x H1 locs1 → W p l e R s m args below meth c H1 locs1 cells slots Q (G x)) → W p l e R s m args below meth c H locs cells slots Q g) : W p l e R s m args below meth c H locs cells slots Q g := k h
theorem fg_iadd (hx : p.tables.exec = Jvm.exec) (hb : c.code = cc) {a b : Nat} (hdg : decode cc pc = .ok (.iadd, 1)) (k : W p l e R s m args below meth c H locs cells slots Q (F0 m (pc + 1) ls (.int (nI (a + b)) :: rest))) : W p l e R s m args below meth c H locs cells slots Q (F0 m pc ls (.int (nI b) :: .int (nI a) :: rest)) := lv_iadd hx hb hdg (fg_nm (nI_add a b) k)
theorem fg_isub (hx : p.tables.exec = Jvm.exec) (hb : c.code = cc) {a b : Nat} (hdg : decode cc pc = .ok (.isub, 1)) (h : b ≤ a) (k : W p l e R s m args below meth c H locs cells slots Q (F0 m (pc + 1) ls (.int (nI (a - b)) :: rest))) : W p l e R s m args below meth c H locs cells slots Q (F0 m pc ls (.int (nI b) :: .int (nI a) :: rest)) := lv_isub hx hb hdg (fg_nm (pk_sub h) k)
theorem fg_imul (hx : p.tables.exec = Jvm.exec) (hb : c.code = cc) {a b : Nat} (hdg : decode cc pc = .ok (.imul, 1)) (k : W p l e R s m args below meth c H locs cells slots Q (F0 m (pc + 1) ls (.int (nI (a * b)) :: rest))) : W p l e R s m args below meth c H locs cells slots Q (F0 m pc ls (.int (nI b) :: .int (nI a) :: rest)) := lv_imul hx hb hdg (fg_nm (pk_mul a b) k)
theorem fg_idiv (hx : p.tables.exec = Jvm.exec) (hb : c.code = cc) {a b : Nat} (hdg : decode cc pc = .ok (.idiv, 1)) (ha : a < 2 ^ 31) (h0 : 0 < b) (hb2 : b < 2 ^ 31) (k : W p l e R s m args below meth c H locs cells slots Q (F0 m (pc + 1) ls (.int (nI (a / b)) :: rest))) : W p l e R s m args below meth c H locs cells slots Q (F0 m pc ls (.int (nI b) :: .int (nI a) :: rest)) := lv_idiv hx hb hdg (nI_ne0 h0 hb2) (fg_nm (pk_div ha h0 hb2) k)
theorem fg_irem (hx : p.tables.exec = Jvm.exec) (hb : c.code = cc) {a b : Nat} (hdg : decode cc pc = .ok (.irem, 1)) (ha : a < 2 ^ 31) (h0 : 0 < b) (hb2 : b < 2 ^ 31) (k : W p l e R s m args below meth c H locs cells slots Q (F0 m (pc + 1) ls (.int (nI (a % b)) :: rest))) : W p l e R s m args below meth c H locs cells slots Q (F0 m pc ls (.int (nI b) :: .int (nI a) :: rest)) := lv_irem hx hb hdg (nI_ne0 h0 hb2) (fg_nm (pk_rem ha h0 hb2) k)
theorem fg_iand (hx : p.tables.exec = Jvm.exec) (hb : c.code = cc) {a b : Nat} (hdg : decode cc pc = .ok (.iand, 1)) (k : W p l e R s m args below meth c H locs cells slots Q (F0 m (pc + 1) ls (.int (nI (a &&& b)) :: rest))) : W p l e R s m args below meth c H locs cells slots Q (F0 m pc ls (.int (nI b) :: .int (nI a) :: rest)) := lv_iand hx hb hdg (fg_nm (nx_and a b) k)
theorem fg_ior (hx : p.tables.exec = Jvm.exec) (hb : c.code = cc) {a b : Nat} (hdg : decode cc pc = .ok (.ior, 1)) (k : W p l e R s m args below meth c H locs cells slots Q (F0 m (pc + 1) ls (.int (nI (a ||| b)) :: rest))) : W p l e R s m args below meth c H locs cells slots Q (F0 m pc ls (.int (nI b) :: .int (nI a) :: rest)) := lv_ior hx hb hdg (fg_nm (nx_or a b) k)
theorem fg_ixor (hx : p.tables.exec = Jvm.exec) (hb : c.code = cc) {a b : Nat} (hdg : decode cc pc = .ok (.ixor, 1)) (k : W p l e R s m args below meth c H locs cells slots Q (F0 m (pc + 1) ls (.int (nI (a ^^^ b)) :: rest))) : W p l e R s m args below meth c H locs cells slots Q (F0 m pc ls (.int (nI b) :: .int (nI a) :: rest)) := lv_ixor hx hb hdg (fg_nm (nx_xor a b) k)
theorem fg_ishl (hx : p.tables.exec = Jvm.exec) (hb : c.code = cc) {a b : Nat} (hdg : decode cc pc = .ok (.ishl, 1)) (h1 : b < 32) (h2 : a * 2 ^ b < 2 ^ 32) (k : W p l e R s m args below meth c H locs cells slots Q (F0 m (pc + 1) ls (.int (nI (a * 2 ^ b)) :: rest))) : W p l e R s m args below meth c H locs cells slots Q (F0 m pc ls (.int (nI b) :: .int (nI a) :: rest)) := lv_ishl hx hb hdg (fg_nm (fg_shl b h1 h2) k)
theorem fg_ishr (hx : p.tables.exec = Jvm.exec) (hb : c.code = cc) {a b : Nat} (hdg : decode cc pc = .ok (.ishr, 1)) (h1 : b < 32) (h2 : a < 2 ^ 31) (k : W p l e R s m args below meth c H locs cells slots Q (F0 m (pc + 1) ls (.int (nI (a / 2 ^ b)) :: rest))) : W p l e R s m args below meth c H locs cells slots Q (F0 m pc ls (.int (nI b) :: .int (nI a) :: rest)) := lv_ishr hx hb hdg (fg_nm (fg_shr b h1 h2) k)
/-- a byte under a mask -/
theorem fg_iandB (hx : p.tables.exec = Jvm.exec) (hb : c.code = cc) {x : Int32} {b : Nat} (hdg : decode cc pc = .ok (.iand, 1)) (h : b < 256) (k : W p l e R s m args below meth c H locs cells slots Q (F0 m (pc + 1) ls (.int (nI (bN x &&& b)) :: rest))) : W p l e R s m args below meth c H locs cells slots Q (F0 m pc ls (.int (nI b) :: .int x :: rest)) := lv_iand hx hb hdg (fg_nm (bN_mask x b h) k)
theorem fg_iand255 (hx : p.tables.exec = Jvm.exec) (hb : c.code = cc) {x : Int32} (hdg : decode cc pc = .ok (.iand, 1)) (k : W p l e R s m args below meth c H locs cells slots Q (F0 m (pc + 1) ls (.int (nI (bN x)) :: rest))) : W p l e R s m args below meth c H locs cells slots Q (F0 m pc ls (.int (nI 255) :: .int x :: rest)) := lv_iand hx hb hdg (fg_nm (bN_and x) k)
/-! branches -/
theorem fg_cmp_eq (hx : p.tables.exec = Jvm.exec) (hb : c.code = cc) {a b : Nat} {off : Int} {tgt : Nat} (hdg : decode cc pc = .ok (.if_icmp .eq off, 3)) (ht : (pc : Int) + off = (tgt : Int)) (ha : a < 2 ^ 31) (hb2 : b < 2 ^ 31)
    (kt : a = b → W p l e R s m args below meth c H locs cells slots Q (F0 m tgt ls rest)) (kf : ¬ a = b → W p l e R s m args below meth c H locs cells slots Q (F0 m (pc + 3) ls rest)) : W p l e R s m args below meth c H locs cells slots Q (F0 m pc ls (.int (nI b) :: .int (nI a) :: rest)) := lv_icmp_eq hx hb hdg ht (fun h => kt ((nI_eq ha hb2).mp h)) (fun h => kf (fun q => h ((nI_eq ha hb2).mpr q)))
theorem fg_cmp_ne (hx : p.tables.exec = Jvm.exec) (hb : c.code = cc) {a b : Nat} {off : Int} {tgt : Nat} (hdg : decode cc pc = .ok (.if_icmp .ne off, 3)) (ht : (pc : Int) + off = (tgt : Int)) (ha : a < 2 ^ 31) (hb2 : b < 2 ^ 31)
    (kt : ¬ a = b → W p l e R s m args below meth c H locs cells slots Q (F0 m tgt ls rest)) (kf : a = b → W p l e R s m args below meth c H locs cells slots Q (F0 m (pc + 3) ls rest)) : W p l e R s m args below meth c H locs cells slots Q (F0 m pc ls (.int (nI b) :: .int (nI a) :: rest)) := lv_icmp_ne hx hb hdg ht (fun h => kt (fun q => h ((nI_eq ha hb2).mpr q))) (fun h => kf ((nI_eq ha hb2).mp h))
theorem fg_cmp_lt (hx : p.tables.exec = Jvm.exec) (hb : c.code = cc) {a b : Nat} {off : Int} {tgt : Nat} (hdg : decode cc pc = .ok (.if_icmp .lt off, 3)) (ht : (pc : Int) + off = (tgt : Int)) (ha : a < 2 ^ 31) (hb2 : b < 2 ^ 31)
    (kt : a < b → W p l e R s m args below meth c H locs cells slots Q (F0 m tgt ls rest)) (kf : ¬ a < b → W p l e R s m args below meth c H locs cells slots Q (F0 m (pc + 3) ls rest)) : W p l e R s m args below meth c H locs cells slots Q (F0 m pc ls (.int (nI b) :: .int (nI a) :: rest)) := lv_icmp_lt hx hb hdg ht (fun h => kt ((nI_ltI ha hb2).mp h)) (fun h => kf (fun q => h ((nI_ltI ha hb2).mpr q)))
theorem fg_cmp_ge (hx : p.tables.exec = Jvm.exec) (hb : c.code = cc) {a b : Nat} {off : Int} {tgt : Nat} (hdg : decode cc pc = .ok (.if_icmp .ge off, 3)) (ht : (pc : Int) + off = (tgt : Int)) (ha : a < 2 ^ 31) (hb2 : b < 2 ^ 31)
    (kt : b ≤ a → W p l e R s m args below meth c H locs cells slots Q (F0 m tgt ls rest)) (kf : ¬ b ≤ a → W p l e R s m args below meth c H locs cells slots Q (F0 m (pc + 3) ls rest)) : W p l e R s m args below meth c H locs cells slots Q (F0 m pc ls (.int (nI b) :: .int (nI a) :: rest)) := lv_icmp_ge hx hb hdg ht (fun h => kt ((nI_leI hb2 ha).mp h)) (fun h => kf (fun q => h ((nI_leI hb2 ha).mpr q)))
theorem fg_cmp_gt (hx : p.tables.exec = Jvm.exec) (hb : c.code = cc) {a b : Nat} {off : Int} {tgt : Nat} (hdg : decode cc pc = .ok (.if_icmp .gt off, 3)) (ht : (pc : Int) + off = (tgt : Int)) (ha : a < 2 ^ 31) (hb2 : b < 2 ^ 31)
    (kt : b < a → W p l e R s m args below meth c H locs cells slots Q (F0 m tgt ls rest)) (kf : ¬ b < a → W p l e R s m args below meth c H locs cells slots Q (F0 m (pc + 3) ls rest)) : W p l e R s m args below meth c H locs cells slots Q (F0 m pc ls (.int (nI b) :: .int (nI a) :: rest)) := lv_icmp_gt hx hb hdg ht (fun h => kt ((nI_ltI hb2 ha).mp h)) (fun h => kf (fun q => h ((nI_ltI hb2 ha).mpr q)))
theorem fg_cmp_le (hx : p.tables.exec = Jvm.exec) (hb : c.code = cc) {a b : Nat} {off : Int} {tgt : Nat} (hdg : decode cc pc = .ok (.if_icmp .le off, 3)) (ht : (pc : Int) + off = (tgt : Int)) (ha : a < 2 ^ 31) (hb2 : b < 2 ^ 31)
    (kt : a ≤ b → W p l e R s m args below meth c H locs cells slots Q (F0 m tgt ls rest)) (kf : ¬ a ≤ b → W p l e R s m args below meth c H locs cells slots Q (F0 m (pc + 3) ls rest)) : W p l e R s m args below meth c H locs cells slots Q (F0 m pc ls (.int (nI b) :: .int (nI a) :: rest)) := lv_icmp_le hx hb hdg ht (fun h => kt ((nI_leI ha hb2).mp h)) (fun h => kf (fun q => h ((nI_leI ha hb2).mpr q)))
theorem fg_if_eq (hx : p.tables.exec = Jvm.exec) (hb : c.code = cc) {a : Nat} {off : Int} {tgt : Nat} (hdg : decode cc pc = .ok (.ifCond .eq off, 3)) (ht : (pc : Int) + off = (tgt : Int)) (ha : a < 2 ^ 31)
    (kt : a = 0 → W p l e R s m args below meth c H locs cells slots Q (F0 m tgt ls rest)) (kf : ¬ a = 0 → W p l e R s m args below meth c H locs cells slots Q (F0 m (pc + 3) ls rest)) : W p l e R s m args below meth c H locs cells slots Q (F0 m pc ls (.int (nI a) :: rest)) := lv_if_eq hx hb hdg ht (fun h => kt ((nI_eq ha (by decide)).mp (h.trans nI_0.symm))) (fun h => kf (fun q => h (by rw [q]; exact nI_0)))
theorem fg_if_ne (hx : p.tables.exec = Jvm.exec) (hb : c.code = cc) {a : Nat} {off : Int} {tgt : Nat} (hdg : decode cc pc = .ok (.ifCond .ne off, 3)) (ht : (pc : Int) + off = (tgt : Int)) (ha : a < 2 ^ 31)
    (kt : ¬ a = 0 → W p l e R s m args below meth c H locs cells slots Q (F0 m tgt ls rest)) (kf : a = 0 → W p l e R s m args below meth c H locs cells slots Q (F0 m (pc + 3) ls rest)) : W p l e R s m args below meth c H locs cells slots Q (F0 m pc ls (.int (nI a) :: rest)) := lv_if_ne hx hb hdg ht (fun h => kt (fun q => h (by rw [q]; exact nI_0))) (fun h => kf ((nI_eq ha (by decide)).mp (h.trans nI_0.symm)))
theorem fg_if_le (hx : p.tables.exec = Jvm.exec) (hb : c.code = cc) {a : Nat} {off : Int} {tgt : Nat} (hdg : decode cc pc = .ok (.ifCond .le off, 3)) (ht : (pc : Int) + off = (tgt : Int)) (ha : a < 2 ^ 31)
    (kt : a = 0 → W p l e R s m args below meth c H locs cells slots Q (F0 m tgt ls rest)) (kf : 0 < a → W p l e R s m args below meth c H locs cells slots Q (F0 m (pc + 3) ls rest)) : W p l e R s m args below meth c H locs cells slots Q (F0 m pc ls (.int (nI a) :: rest)) := lv_if_le hx hb hdg ht (fun h => kt (by
    have h2 : nI a ≤ nI 0 := h
    have := (nI_leI ha (by decide)).mp h2
    omega)) (fun h => kf (by
    rcases Nat.eq_zero_or_pos a with q | q
    · exact absurd (by rw [q]; exact nI_le (a := 0) (b := 0) (Nat.le_refl 0) (by decide)) h
    · exact q))
/-- a truth on the stack -/
theorem fg_ifb_eq (hx : p.tables.exec = Jvm.exec) (hb : c.code = cc) {C : Prop} [Decidable C] {off : Int} {tgt : Nat} (hdg : decode cc pc = .ok (.ifCond .eq off, 3)) (ht : (pc : Int) + off = (tgt : Int))
    (kt : ¬ C → W p l e R s m args below meth c H locs cells slots Q (F0 m tgt ls rest)) (kf : C → W p l e R s m args below meth c H locs cells slots Q (F0 m (pc + 3) ls rest)) : W p l e R s m args below meth c H locs cells slots Q (F0 m pc ls (.int (nI (if C then 1 else 0)) :: rest)) :=
  fg_if_eq hx hb hdg ht (by split <;> omega) (fun h => kt (fun q => by rw [if_pos q] at h; omega)) (fun h => kf (by
    by_cases q : C
    · exact q
    · rw [if_neg q] at h; exact absurd rfl h))
theorem fg_ifb_ne (hx : p.tables.exec = Jvm.exec) (hb : c.code = cc) {C : Prop} [Decidable C] {off : Int} {tgt : Nat} (hdg : decode cc pc = .ok (.ifCond .ne off, 3)) (ht : (pc : Int) + off = (tgt : Int))
    (kt : C → W p l e R s m args below meth c H locs cells slots Q (F0 m tgt ls rest)) (kf : ¬ C → W p l e R s m args below meth c H locs cells slots Q (F0 m (pc + 3) ls rest)) : W p l e R s m args below meth c H locs cells slots Q (F0 m pc ls (.int (nI (if C then 1 else 0)) :: rest)) :=
  fg_if_ne hx hb hdg ht (by split <;> omega) (fun h => kt (by
    by_cases q : C
    · exact q
    · rw [if_neg q] at h; exact absurd rfl h)) (fun h => kf (fun q => by rw [if_pos q] at h; omega))
theorem fg_iinc (hx : p.tables.exec = Jvm.exec) (hb : c.code = cc) {i nL k a n : Nat} {lv lv' : List (Nat × Value)} (hdg : decode cc pc = .ok (.iinc i n, 3)) (h : lv_has ls nL lv) (hk : lv[k]? = some (i, .int (nI a))) (hn : i < nL) (hl : (i, Value.int (nI (a + n))) :: lv.filter (fun q => !(q.1 == i) && !(q.1 + 1 == i && q.2.category == 2)) = lv')
    (kk : ∀ ls' : Array Slot, lv_has ls' nL lv' → W p l e R s m args below meth c H locs cells slots Q (F0 m (pc + 3) ls' rest)) : W p l e R s m args below meth c H locs cells slots Q (F0 m pc ls rest) :=
  lv_iinc hx hb hdg h hk (by rw [← nI_add]; rfl) hn hl kk
/-! arrays by a natural index -/
variable {D : va_G} {cl : List vw_C} {A : Nat → Prop} {a : Nat} {tys : List (ClassId × FieldType)} {ws : va_W} {H0 : Heap}
theorem fg_bald (hx : p.tables.exec = Jvm.exec) (hb : c.code = cc) (hK : va_K D cl tys s) (hP : va_P D cl ws H) (q0 t0 : Nat) {cA : ClassId} {n : Nat} {f : Nat → Int32} (ha : ws[q0]? = some (a, .inl (cA, n, .inl f))) (ht : tys[t0]? = some (cA, .byte)) {i : Nat} (hin : i < n) (hn : n < 2 ^ 31) (hdg : decode cc pc = .ok (.baload, 1))
    (kk : W p l e R s m args below meth c H locs cells slots Q (F0 m (pc + 1) ls (.int (f i) :: rest))) : W p l e R s m args below meth c H locs cells slots Q (F0 m pc ls (.int (nI i) :: .ref a :: rest)) :=
  va_bald hx hb hK hP q0 t0 ha ht (vp_in_nI hin hn) hdg (by rw [nI_clamp (by omega)]; exact kk)
theorem fg_iald (hx : p.tables.exec = Jvm.exec) (hb : c.code = cc) (hK : va_K D cl tys s) (hP : va_P D cl ws H) (q0 t0 : Nat) {cA : ClassId} {n : Nat} {f : Nat → Int32} (ha : ws[q0]? = some (a, .inl (cA, n, .inl f))) (ht : tys[t0]? = some (cA, .int)) {i : Nat} (hin : i < n) (hn : n < 2 ^ 31) (hdg : decode cc pc = .ok (.iaload, 1))
    (kk : W p l e R s m args below meth c H locs cells slots Q (F0 m (pc + 1) ls (.int (f i) :: rest))) : W p l e R s m args below meth c H locs cells slots Q (F0 m pc ls (.int (nI i) :: .ref a :: rest)) :=
  va_iald hx hb hK hP q0 t0 ha ht (vp_in_nI hin hn) hdg (by rw [nI_clamp (by omega)]; exact kk)
theorem fg_bast (hx : p.tables.exec = Jvm.exec) (hb : c.code = cc) (hK : va_K D cl tys s) (hP : va_P D cl ws H) (hD : va_D A ws) (hS : va_S A H0 H locs) (q0 t0 : Nat) {cA : ClassId} {n : Nat} {f : Nat → Int32} (ha : ws[q0]? = some (a, .inl (cA, n, .inl f))) (ht : tys[t0]? = some (cA, .byte)) {i : Nat} {x y : Int32} (hin : i < n) (hn : n < 2 ^ 31) (hxy : vp_nar .byte x = y) (hdg : decode cc pc = .ok (.bastore, 1))
    (kk : ∀ (H1 : Heap) (locs1 : List Loc), va_P D cl (ws.set q0 (a, .inl (cA, n, .inl (upd f i y)))) H1 → va_D A (ws.set q0 (a, .inl (cA, n, .inl (upd f i y)))) → va_S A H0 H1 locs1 → W p l e R s m args below meth c H1 locs1 cells slots Q (F0 m (pc + 1) ls rest)) : W p l e R s m args below meth c H locs cells slots Q (F0 m pc ls (.int x :: .int (nI i) :: .ref a :: rest)) := by
  subst hxy
  refine va_bast hx hb hK hP hD hS q0 t0 ha ht (vp_in_nI hin hn) hdg ?_
  rw [nI_clamp (by omega)]
  exact kk
theorem fg_iast (hx : p.tables.exec = Jvm.exec) (hb : c.code = cc) (hK : va_K D cl tys s) (hP : va_P D cl ws H) (hD : va_D A ws) (hS : va_S A H0 H locs) (q0 t0 : Nat) {cA : ClassId} {n : Nat} {f : Nat → Int32} (ha : ws[q0]? = some (a, .inl (cA, n, .inl f))) (ht : tys[t0]? = some (cA, .int)) {i : Nat} {x : Int32} (hin : i < n) (hn : n < 2 ^ 31) (hdg : decode cc pc = .ok (.iastore, 1))
    (kk : ∀ (H1 : Heap) (locs1 : List Loc), va_P D cl (ws.set q0 (a, .inl (cA, n, .inl (upd f i x)))) H1 → va_D A (ws.set q0 (a, .inl (cA, n, .inl (upd f i x)))) → va_S A H0 H1 locs1 → W p l e R s m args below meth c H1 locs1 cells slots Q (F0 m (pc + 1) ls rest)) : W p l e R s m args below meth c H locs cells slots Q (F0 m pc ls (.int x :: .int (nI i) :: .ref a :: rest)) := by
  refine va_iast hx hb hK hP hD hS q0 t0 ha ht (vp_in_nI hin hn) hdg ?_
  rw [nI_clamp (by omega)]
  exact kk
/-- a row out of an array of byte arrays -/
theorem fg_aald (hx : p.tables.exec = Jvm.exec) (hb : c.code = cc) (hK : va_K D cl tys s) (hP : va_P D cl ws H) (q0 t0 : Nat) {cA : ClassId} {n : Nat} {r : Nat → Nat} (ha : ws[q0]? = some (a, .inl (cA, n, .inr (.inr (.inr (.inr (fun k => some (r k)))))))) (ht : tys[t0]? = some (cA, .array .byte)) {i : Nat} (hin : i < n) (hn : n < 2 ^ 31) (hdg : decode cc pc = .ok (.aaload, 1))
    (kk : W p l e R s m args below meth c H locs cells slots Q (F0 m (pc + 1) ls (.ref (r i) :: rest))) : W p l e R s m args below meth c H locs cells slots Q (F0 m pc ls (.int (nI i) :: .ref a :: rest)) := by
  have hc : (nI i).toNatClampNeg = i := nI_clamp (by omega)
  refine W.aald (v := .ref (r i)) (ty := .array .byte) hx hb (hP q0 _ ha) ((hK.2 t0 _ ht).1 n (fun j => va_rf (some (r j)))) rfl (fun q => by cases q) (by show ¬ (nI i < 0 ∨ (arrV _ _ _).slots.size ≤ _); rw [arrV_size]; exact vp_in_nI hin hn) (by show (arrV _ _ _).slots[_]? = _; rw [hc, arrV_read _ _ hin]; rfl) rfl rfl hdg kk
/-- System.arraycopy between two byte arrays of the world -/
theorem fg_copy (hx : p.tables.exec = Jvm.exec) (hb : c.code = cc) (hml : c.maxLocals = ls.size) {own : String} {index : Nat} (hown : s.vm.findClass own = some m.cls) (hlink : (Cond.methodLink own index arraycopyName).before args s = true) (hnat : (Cond.native arraycopyName).before args s = true) (hstat : (Cond.static arraycopyName).before args s = true) (hini : (Cond.initialized "java/lang/System").before args s = true)
    (hK : va_K D cl tys s) (hP : va_P D cl ws H) (hD : va_D A ws) (hS : va_S A H0 H locs) (q0 q1 t0 : Nat) {a0 : Nat} {c0 : ClassId} {n0 n1 : Nat} {f g : Nat → Int32} (ha0 : ws[q0]? = some (a0, .inl (c0, n0, .inl f))) (ha1 : ws[q1]? = some (a, .inl (c0, n1, .inl g))) (ht0 : tys[t0]? = some (c0, .byte))
    {sp dp n : Nat} (hn : sp + n < 2 ^ 31 ∧ dp + n < 2 ^ 31) (h4 : sp + n ≤ n0) (h5 : dp + n ≤ n1) (hfit : BF f)
    (hframes : 1 ≤ R.frames) (hlocals : (rest.map fun v => v.category).sum + (nativeFrameWords "java/lang/System" "arraycopy" 5 + 11) ≤ R.locals) (hdg : decode cc pc = .ok (.invokestatic index, 3))
    (kk : ∀ (H1 : Heap) (locs1 : List Loc), va_P D cl (ws.set q1 (a, .inl (c0, n1, .inl (va_cpy f g sp dp n)))) H1 → va_D A (ws.set q1 (a, .inl (c0, n1, .inl (va_cpy f g sp dp n)))) → va_S A H0 H1 locs1 → W p l e R s m args below meth c H1 locs1 cells slots Q (F0 m (pc + 3) ls rest)) : W p l e R s m args below meth c H locs cells slots Q (F0 m pc ls (.int (nI n) :: .int (nI dp) :: .ref a :: .int (nI sp) :: .ref a0 :: rest)) := by
  have e1 : (nI sp).toNatClampNeg = sp := nI_clamp (by omega)
  have e2 : (nI dp).toNatClampNeg = dp := nI_clamp (by omega)
  have e3 : (nI n).toNatClampNeg = n := nI_clamp (by omega)
  refine va_copyi hx hb hml hown hlink hnat hstat hini hK hP hD hS q0 q1 t0 t0 ha0 ha1 ht0 ht0 rfl (nI_pos (by omega)) (nI_pos (by omega)) (nI_pos (by omega)) (by rw [e1, e3]; exact h4) (by rw [e2, e3]; exact h5) (fun i _ => hfit.fit _) hframes hlocals hdg ?_
  rw [e1, e2, e3]
  exact kk
/-! calls over worlds -/
end FGR
def fgPre (D : va_G) (tys : List (ClassId × FieldType)) (wc : va_W) (sz : Nat) (U : State) : Prop := U.heap.size = sz ∧ va_P D fgC wc U.heap ∧ va_K D fgC tys U ∧ va_D (fun _ => True) wc
def fgPost (D : va_G) (wc w1 : va_W) (sz : Nat) (t : State) : Prop := va_P D fgC w1 t.heap ∧ va_D (va_A wc sz) w1
theorem fg_blind {av : List Value} {D : va_G} {tys : List (ClassId × FieldType)} {wc : va_W} {sz : Nat} : FrameBlind (va_Pc av (fgPre D tys wc sz)) := fun a U g mk q => ⟨q.1, q.2.1, q.2.2.1, va_K.moved (u := U) (U := U.calling g mk a) (Vm.Alike.refl U.vm) q.2.2.2.1, q.2.2.2.2⟩
section FGC
variable {p : Program} {l : Launch} {e : Env} {R : Room} {s : State} {m : MethodId} {args : Array Value} {below : List Frame} {meth : Method} {c : Code} {H : Heap} {locs : List Loc} {cells slots : Nat} {Q : State → Prop}
variable {cc : ByteArray} {pc : Nat} {ls : Array Slot} {rest st0 : List Value} {D : va_G} {A : Nat → Prop} {tys : List (ClassId × FieldType)} {ws wc wr : va_W} {H0 : Heap} {a : Array Value} {mc ms : Nat}
theorem fg_preS {As : List Value} (hK : va_K D fgC tys s) (hP : va_P D fgC wc H) (hD : va_D A wc) : PreS s H (va_Pc As (fgPre D tys wc H.size)) As :=
  ⟨fg_blind, fun U hU hW => ⟨rfl, by rw [hU], by rw [hU]; exact hP, va_K.moved hW.alike hK, hD.weaken (fun _ _ _ _ => trivial)⟩⟩
theorem fg_preV {As : List Value} {C : String} {b : Nat} (hK : va_K D fgC tys s) (hP : va_P D fgC wc H) (hD : va_D A wc) (hr : ∃ cell : Cell, H[b]? = some cell ∧ cell.vm.isStatics = false ∧ s.vm.findClass C = some cell.cls) : PreV s H C b (va_Pc (.ref b :: As) (fgPre D tys wc H.size)) As :=
  ⟨fg_blind, hr, fun U hU hW => ⟨rfl, by rw [hU], by rw [hU]; exact hP, va_K.moved hW.alike hK, hD.weaken (fun _ _ _ _ => trivial)⟩⟩
theorem fg_calli {S : Type} {post : Int32 → S → Prop} (w1 : S → va_W)
    (hr : va_Run p l e R s m args below meth c H locs cells slots mc ms (F0 m pc ls st0) rest (va_Qi post (fun u t => fgPost D wc (w1 u) H.size t) (va_A wc H.size) a) (va_A wc H.size))
    (hP : va_P D fgC ws H) (hD : va_D A ws) (hS : va_S A H0 H locs) (hA : ∀ q, H0.size ≤ q → A q)
    (isC isR : List Nat) (hC : isC.map (fun i => ws[i]?) = wc.map some) (hR : isR.map (fun i => ws[i]?) = wr.map some) (hn : va_nd isR = true) (hdis : ∀ i ∈ isR, i ∉ isC)
    (kk : ∀ (r : Int32) (u : S) (H1 : Heap) (locs1 : List Loc), post r u → va_P D fgC (wr ++ w1 u) H1 → va_D A (wr ++ w1 u) → va_S A H0 H1 locs1 → W p l e R s m args below meth c H1 locs1 (cells + mc) (slots + ms) Q (F0 m (pc + 3) ls (.int r :: rest))) : W p l e R s m args below meth c H locs cells slots Q (F0 m pc ls st0) := by
  have hFc := va_free hD hS hA isC hC
  refine va_calli hr hS (fun q _ h => hFc q h) hFc (fun r u t H1 locs1 ht hvm hw hB hz1 hk1 hS1 => ?_)
  obtain ⟨hP1, hD1⟩ := hB
  rw [ht] at hP1
  obtain ⟨hP2, hD2⟩ := va_join (w1 := w1 u) hP hD isC isR hC hR hn hdis hk1 hFc hP1 hD1
  exact kk r u H1 locs1 hw hP2 hD2 hS1
theorem fg_callv {S : Type} {post : S → Prop} (w1 : S → va_W)
    (hr : va_Run p l e R s m args below meth c H locs cells slots mc ms (F0 m pc ls st0) rest (va_Qv post (fun u t => fgPost D wc (w1 u) H.size t) (va_A wc H.size) a) (va_A wc H.size))
    (hP : va_P D fgC ws H) (hD : va_D A ws) (hS : va_S A H0 H locs) (hA : ∀ q, H0.size ≤ q → A q)
    (isC isR : List Nat) (hC : isC.map (fun i => ws[i]?) = wc.map some) (hR : isR.map (fun i => ws[i]?) = wr.map some) (hn : va_nd isR = true) (hdis : ∀ i ∈ isR, i ∉ isC)
    (kk : ∀ (u : S) (H1 : Heap) (locs1 : List Loc), post u → va_P D fgC (wr ++ w1 u) H1 → va_D A (wr ++ w1 u) → va_S A H0 H1 locs1 → W p l e R s m args below meth c H1 locs1 (cells + mc) (slots + ms) Q (F0 m (pc + 3) ls rest)) : W p l e R s m args below meth c H locs cells slots Q (F0 m pc ls st0) := by
  have hFc := va_free hD hS hA isC hC
  refine va_callv hr hS (fun q _ h => hFc q h) hFc (fun u t H1 locs1 ht hvm hw hB hz1 hk1 hS1 => ?_)
  obtain ⟨hP1, hD1⟩ := hB
  rw [ht] at hP1
  obtain ⟨hP2, hD2⟩ := va_join (w1 := w1 u) hP hD isC isR hC hR hn hdis hk1 hFc hP1 hD1
  exact kk u H1 locs1 hw hP2 hD2 hS1
end FGC
/-! the words at a call -/
theorem fg_gV {own C : String} {idx n : Nat} {y : MethodName} {b : ByteArray} {ret : Option FieldType} (h1 : Cond.methodLink own idx y ∈ w_all) (h2 : Cond.instanceMethod y ∈ w_all) (h3 : Cond.selects C y y ∈ w_all) (h4 : Cond.initialized C ∈ w_all) (h5 : Cond.code y b n ret ∈ w_all) : GoodIn w_all (wsV own idx C y (Cond.code y b n ret :: w_all)) := by
  intro w hw
  have h : w ∈ w_all := by
    unfold wsV at hw
    simp only [List.cons_append, List.nil_append, List.mem_cons] at hw
    rcases hw with rfl | rfl | rfl | rfl | rfl | h <;> assumption
  exact ⟨h, w_good w h⟩
theorem fg_gS {own : String} {idx n : Nat} {y : MethodName} {b : ByteArray} {ret : Option FieldType} (h1 : Cond.methodLink own idx y ∈ w_all) (h2 : Cond.static y ∈ w_all) (h4 : Cond.initialized y.cls ∈ w_all) (h5 : Cond.code y b n ret ∈ w_all) : GoodIn w_all (va_wsS own idx y (Cond.code y b n ret :: w_all)) := by
  intro w hw
  have h : w ∈ w_all := by
    unfold va_wsS at hw
    simp only [List.cons_append, List.nil_append, List.mem_cons] at hw
    rcases hw with rfl | rfl | rfl | rfl | h <;> assumption
  exact ⟨h, w_good w h⟩
theorem fg_gI {n : Nat} {y : MethodName} {b : ByteArray} {ret : Option FieldType} (h5 : Cond.code y b n ret ∈ w_all) : GoodIn w_all (Cond.code y b n ret :: w_all) := by
  intro w hw
  have h : w ∈ w_all := by
    simp only [List.mem_cons] at hw
    rcases hw with rfl | h <;> assumption
  exact ⟨h, w_good w h⟩
/-! the eight rows of the ring in a world -/
def rwL (cB : ClassId) (r : Nat → Nat) (Rr : Nat → Nat → Int32) : va_W := (List.range 8).map (fun k => (r k, .inl (cB, 252, .inl (Rr k))))
theorem rwL_get {cB : ClassId} {r : Nat → Nat} {Rr : Nat → Nat → Int32} {X Y : va_W} {k : Nat} (hk : k < 8) : (X ++ rwL cB r Rr ++ Y)[X.length + k]? = some (r k, .inl (cB, 252, .inl (Rr k))) := by
  have hl : (rwL cB r Rr).length = 8 := by simp [rwL]
  rw [List.append_assoc, List.getElem?_append_right (by omega), List.getElem?_append_left (by omega)]
  simp [rwL, hk]
theorem rwL_set {cB : ClassId} {r : Nat → Nat} {Rr : Nat → Nat → Int32} {X Y : va_W} {k : Nat} {g : Nat → Int32} (hk : k < 8) : (X ++ rwL cB r Rr ++ Y).set (X.length + k) (r k, .inl (cB, 252, .inl g)) = X ++ rwL cB r (va_up Rr k g) ++ Y := by
  have hl : (rwL cB r Rr).length = 8 := by simp [rwL]
  have e : (rwL cB r Rr).set k (r k, .inl (cB, 252, .inl g)) = rwL cB r (va_up Rr k g) := by
    apply List.ext_getElem?
    intro i
    by_cases hi : i < 8
    · by_cases hik : i = k
      · subst hik
        rw [List.getElem?_set_self (by omega)]
        simp [rwL, hi, va_up_self]
      · rw [List.getElem?_set_ne (by omega)]
        simp [rwL, hi, va_up_ne _ _ hik]
    · rw [List.getElem?_eq_none (by simp [rwL]; omega), List.getElem?_eq_none (by simp [rwL]; omega)]
  rw [List.append_assoc, List.set_append_right _ _ (by omega), Nat.add_sub_cancel_left, List.set_append_left _ _ (by omega), e, ← List.append_assoc]
theorem fg_nZ {n : Nat} (h : n < 2) : narrow .boolean (.int (nI n)) = .int (nI n) := by
  rcases (show n = 0 ∨ n = 1 by omega) with rfl | rfl <;> rfl
theorem fg_fZ {n : Nat} (h : n < 2) : fits .boolean (.int (nI n)) = true := by
  rcases (show n = 0 ∨ n = 1 by omega) with rfl | rfl <;> rfl
section FGL
variable {p : Program} {l : Launch} {e : Env} {R : Room} {s : State} {m : MethodId} {args : Array Value} {below : List Frame} {meth : Method} {c : Code} {cells slots : Nat} {Q : State → Prop}
/-- a loop: d falls -/
theorem fg_loop {pc : Nat} {ls : Array Slot} {H : Heap} {locs : List Loc} (I : Nat → Array Slot → Heap → List Loc → Prop)
    (step : ∀ d : Nat, (∀ d' : Nat, d' < d → ∀ (ls : Array Slot) (H : Heap) (locs : List Loc), I d' ls H locs → W p l e R s m args below meth c H locs cells slots Q (F0 m pc ls [])) → ∀ (ls : Array Slot) (H : Heap) (locs : List Loc), I d ls H locs → W p l e R s m args below meth c H locs cells slots Q (F0 m pc ls []))
    (d : Nat) (h : I d ls H locs) : W p l e R s m args below meth c H locs cells slots Q (F0 m pc ls []) := by
  have key : ∀ d : Nat, ∀ (ls : Array Slot) (H : Heap) (locs : List Loc), I d ls H locs → W p l e R s m args below meth c H locs cells slots Q (F0 m pc ls []) := by
    intro d
    induction d using Nat.strongRecOn with
    | ind d ih => exact step d ih
  exact key d _ _ _ h
end FGL
end
section
theorem d_Xinit_0 : decode b_Xinit 0 = .ok (.aload_n 0, 1) := by decide +kernel
theorem d_Xinit_1 : decode b_Xinit 1 = .ok (.invokespecial 1, 3) := by decide +kernel
theorem d_Xinit_4 : decode b_Xinit 4 = .ok (.aload_n 0, 1) := by decide +kernel
theorem d_Xinit_5 : decode b_Xinit 5 = .ok (.sipush 259, 3) := by decide +kernel
theorem d_Xinit_8 : decode b_Xinit 8 = .ok (.newarray .byte, 2) := by decide +kernel
theorem d_Xinit_10 : decode b_Xinit 10 = .ok (.putfield 9, 3) := by decide +kernel
theorem d_Xinit_13 : decode b_Xinit 13 = .ok (.aload_n 0, 1) := by decide +kernel
theorem d_Xinit_14 : decode b_Xinit 14 = .ok (.sipush 252, 3) := by decide +kernel
theorem d_Xinit_17 : decode b_Xinit 17 = .ok (.newarray .byte, 2) := by decide +kernel
theorem d_Xinit_19 : decode b_Xinit 19 = .ok (.putfield 15, 3) := by decide +kernel
theorem d_Xinit_22 : decode b_Xinit 22 = .ok (.aload_n 0, 1) := by decide +kernel
theorem d_Xinit_23 : decode b_Xinit 23 = .ok (.new 13, 3) := by decide +kernel
theorem d_Xinit_26 : decode b_Xinit 26 = .ok (.dup, 1) := by decide +kernel
theorem d_Xinit_27 : decode b_Xinit 27 = .ok (.invokespecial 18, 3) := by decide +kernel
theorem d_Xinit_30 : decode b_Xinit 30 = .ok (.putfield 19, 3) := by decide +kernel
theorem d_Xinit_33 : decode b_Xinit 33 = .ok (.aload_n 0, 1) := by decide +kernel
theorem d_Xinit_34 : decode b_Xinit 34 = .ok (.new 23, 3) := by decide +kernel
theorem d_Xinit_37 : decode b_Xinit 37 = .ok (.dup, 1) := by decide +kernel
theorem d_Xinit_38 : decode b_Xinit 38 = .ok (.aload_n 0, 1) := by decide +kernel
theorem d_Xinit_39 : decode b_Xinit 39 = .ok (.getfield 19, 3) := by decide +kernel
theorem d_Xinit_42 : decode b_Xinit 42 = .ok (.invokespecial 25, 3) := by decide +kernel
theorem d_Xinit_45 : decode b_Xinit 45 = .ok (.putfield 28, 3) := by decide +kernel
theorem d_Xinit_48 : decode b_Xinit 48 = .ok (.return_, 1) := by decide +kernel
theorem d_X_give_0 : decode b_X_give 0 = .ok (.iload_n 3, 1) := by decide +kernel
theorem d_X_give_1 : decode b_X_give 1 = .ok (.iconst 1, 1) := by decide +kernel
theorem d_X_give_2 : decode b_X_give 2 = .ok (.if_icmp .lt 21, 3) := by decide +kernel
theorem d_X_give_5 : decode b_X_give 5 = .ok (.iload_n 3, 1) := by decide +kernel
theorem d_X_give_6 : decode b_X_give 6 = .ok (.bipush 8, 2) := by decide +kernel
theorem d_X_give_8 : decode b_X_give 8 = .ok (.if_icmp .gt 15, 3) := by decide +kernel
theorem d_X_give_11 : decode b_X_give 11 = .ok (.aload_n 0, 1) := by decide +kernel
theorem d_X_give_12 : decode b_X_give 12 = .ok (.getfield 32, 3) := by decide +kernel
theorem d_X_give_15 : decode b_X_give 15 = .ok (.iload_n 3, 1) := by decide +kernel
theorem d_X_give_16 : decode b_X_give 16 = .ok (.iadd, 1) := by decide +kernel
theorem d_X_give_17 : decode b_X_give 17 = .ok (.sipush 259, 3) := by decide +kernel
theorem d_X_give_20 : decode b_X_give 20 = .ok (.if_icmp .le 5, 3) := by decide +kernel
theorem d_X_give_23 : decode b_X_give 23 = .ok (.iconst 0, 1) := by decide +kernel
theorem d_X_give_24 : decode b_X_give 24 = .ok (.ireturn, 1) := by decide +kernel
theorem d_X_give_25 : decode b_X_give 25 = .ok (.iconst 0, 1) := by decide +kernel
theorem d_X_give_26 : decode b_X_give 26 = .ok (.istore 4, 2) := by decide +kernel
theorem d_X_give_28 : decode b_X_give 28 = .ok (.iload 4, 2) := by decide +kernel
theorem d_X_give_30 : decode b_X_give 30 = .ok (.iload_n 3, 1) := by decide +kernel
theorem d_X_give_31 : decode b_X_give 31 = .ok (.if_icmp .ge 37, 3) := by decide +kernel
theorem d_X_give_34 : decode b_X_give 34 = .ok (.aload_n 0, 1) := by decide +kernel
theorem d_X_give_35 : decode b_X_give 35 = .ok (.getfield 9, 3) := by decide +kernel
theorem d_X_give_38 : decode b_X_give 38 = .ok (.aload_n 0, 1) := by decide +kernel
theorem d_X_give_39 : decode b_X_give 39 = .ok (.dup, 1) := by decide +kernel
theorem d_X_give_40 : decode b_X_give 40 = .ok (.getfield 32, 3) := by decide +kernel
theorem d_X_give_43 : decode b_X_give 43 = .ok (.dup_x1, 1) := by decide +kernel
theorem d_X_give_44 : decode b_X_give 44 = .ok (.iconst 1, 1) := by decide +kernel
theorem d_X_give_45 : decode b_X_give 45 = .ok (.iadd, 1) := by decide +kernel
theorem d_X_give_46 : decode b_X_give 46 = .ok (.putfield 32, 3) := by decide +kernel
theorem d_X_give_49 : decode b_X_give 49 = .ok (.lload_n 1, 1) := by decide +kernel
theorem d_X_give_50 : decode b_X_give 50 = .ok (.bipush 56, 2) := by decide +kernel
theorem d_X_give_52 : decode b_X_give 52 = .ok (.bipush 8, 2) := by decide +kernel
theorem d_X_give_54 : decode b_X_give 54 = .ok (.iload 4, 2) := by decide +kernel
theorem d_X_give_56 : decode b_X_give 56 = .ok (.imul, 1) := by decide +kernel
theorem d_X_give_57 : decode b_X_give 57 = .ok (.isub, 1) := by decide +kernel
theorem d_X_give_58 : decode b_X_give 58 = .ok (.lshr, 1) := by decide +kernel
theorem d_X_give_59 : decode b_X_give 59 = .ok (.l2i, 1) := by decide +kernel
theorem d_X_give_60 : decode b_X_give 60 = .ok (.i2b, 1) := by decide +kernel
theorem d_X_give_61 : decode b_X_give 61 = .ok (.bastore, 1) := by decide +kernel
theorem d_X_give_62 : decode b_X_give 62 = .ok (.iinc 4 1, 3) := by decide +kernel
theorem d_X_give_65 : decode b_X_give 65 = .ok (.goto (-37), 3) := by decide +kernel
theorem d_X_give_68 : decode b_X_give 68 = .ok (.iconst 1, 1) := by decide +kernel
theorem d_X_give_69 : decode b_X_give 69 = .ok (.ireturn, 1) := by decide +kernel
theorem d_X_seal_0 : decode b_X_seal 0 = .ok (.aload_n 0, 1) := by decide +kernel
theorem d_X_seal_1 : decode b_X_seal 1 = .ok (.getfield 32, 3) := by decide +kernel
theorem d_X_seal_4 : decode b_X_seal 4 = .ok (.iconst 2, 1) := by decide +kernel
theorem d_X_seal_5 : decode b_X_seal 5 = .ok (.iadd, 1) := by decide +kernel
theorem d_X_seal_6 : decode b_X_seal 6 = .ok (.sipush 259, 3) := by decide +kernel
theorem d_X_seal_9 : decode b_X_seal 9 = .ok (.if_icmp .le 5, 3) := by decide +kernel
theorem d_X_seal_12 : decode b_X_seal 12 = .ok (.iconst 0, 1) := by decide +kernel
theorem d_X_seal_13 : decode b_X_seal 13 = .ok (.ireturn, 1) := by decide +kernel
theorem d_X_seal_14 : decode b_X_seal 14 = .ok (.aload_n 0, 1) := by decide +kernel
theorem d_X_seal_15 : decode b_X_seal 15 = .ok (.getfield 9, 3) := by decide +kernel
theorem d_X_seal_18 : decode b_X_seal 18 = .ok (.iconst 0, 1) := by decide +kernel
theorem d_X_seal_19 : decode b_X_seal 19 = .ok (.aload_n 0, 1) := by decide +kernel
theorem d_X_seal_20 : decode b_X_seal 20 = .ok (.getfield 32, 3) := by decide +kernel
theorem d_X_seal_23 : decode b_X_seal 23 = .ok (.invokestatic 36, 3) := by decide +kernel
theorem d_X_seal_26 : decode b_X_seal 26 = .ok (.istore_n 1, 1) := by decide +kernel
theorem d_X_seal_27 : decode b_X_seal 27 = .ok (.aload_n 0, 1) := by decide +kernel
theorem d_X_seal_28 : decode b_X_seal 28 = .ok (.getfield 9, 3) := by decide +kernel
theorem d_X_seal_31 : decode b_X_seal 31 = .ok (.aload_n 0, 1) := by decide +kernel
theorem d_X_seal_32 : decode b_X_seal 32 = .ok (.dup, 1) := by decide +kernel
theorem d_X_seal_33 : decode b_X_seal 33 = .ok (.getfield 32, 3) := by decide +kernel
theorem d_X_seal_36 : decode b_X_seal 36 = .ok (.dup_x1, 1) := by decide +kernel
theorem d_X_seal_37 : decode b_X_seal 37 = .ok (.iconst 1, 1) := by decide +kernel
theorem d_X_seal_38 : decode b_X_seal 38 = .ok (.iadd, 1) := by decide +kernel
theorem d_X_seal_39 : decode b_X_seal 39 = .ok (.putfield 32, 3) := by decide +kernel
theorem d_X_seal_42 : decode b_X_seal 42 = .ok (.iload_n 1, 1) := by decide +kernel
theorem d_X_seal_43 : decode b_X_seal 43 = .ok (.bipush 8, 2) := by decide +kernel
theorem d_X_seal_45 : decode b_X_seal 45 = .ok (.ishr, 1) := by decide +kernel
theorem d_X_seal_46 : decode b_X_seal 46 = .ok (.i2b, 1) := by decide +kernel
theorem d_X_seal_47 : decode b_X_seal 47 = .ok (.bastore, 1) := by decide +kernel
theorem d_X_seal_48 : decode b_X_seal 48 = .ok (.aload_n 0, 1) := by decide +kernel
theorem d_X_seal_49 : decode b_X_seal 49 = .ok (.getfield 9, 3) := by decide +kernel
theorem d_X_seal_52 : decode b_X_seal 52 = .ok (.aload_n 0, 1) := by decide +kernel
theorem d_X_seal_53 : decode b_X_seal 53 = .ok (.dup, 1) := by decide +kernel
theorem d_X_seal_54 : decode b_X_seal 54 = .ok (.getfield 32, 3) := by decide +kernel
theorem d_X_seal_57 : decode b_X_seal 57 = .ok (.dup_x1, 1) := by decide +kernel
theorem d_X_seal_58 : decode b_X_seal 58 = .ok (.iconst 1, 1) := by decide +kernel
theorem d_X_seal_59 : decode b_X_seal 59 = .ok (.iadd, 1) := by decide +kernel
theorem d_X_seal_60 : decode b_X_seal 60 = .ok (.putfield 32, 3) := by decide +kernel
theorem d_X_seal_63 : decode b_X_seal 63 = .ok (.iload_n 1, 1) := by decide +kernel
theorem d_X_seal_64 : decode b_X_seal 64 = .ok (.i2b, 1) := by decide +kernel
theorem d_X_seal_65 : decode b_X_seal 65 = .ok (.bastore, 1) := by decide +kernel
theorem d_X_seal_66 : decode b_X_seal 66 = .ok (.iconst 1, 1) := by decide +kernel
theorem d_X_seal_67 : decode b_X_seal 67 = .ok (.ireturn, 1) := by decide +kernel
theorem d_X_length_0 : decode b_X_length 0 = .ok (.aload_n 0, 1) := by decide +kernel
theorem d_X_length_1 : decode b_X_length 1 = .ok (.getfield 32, 3) := by decide +kernel
theorem d_X_length_4 : decode b_X_length 4 = .ok (.ireturn, 1) := by decide +kernel
theorem d_X_frame_0 : decode b_X_frame 0 = .ok (.aload_n 0, 1) := by decide +kernel
theorem d_X_frame_1 : decode b_X_frame 1 = .ok (.getfield 32, 3) := by decide +kernel
theorem d_X_frame_4 : decode b_X_frame 4 = .ok (.istore_n 1, 1) := by decide +kernel
theorem d_X_frame_5 : decode b_X_frame 5 = .ok (.aload_n 0, 1) := by decide +kernel
theorem d_X_frame_6 : decode b_X_frame 6 = .ok (.iconst 0, 1) := by decide +kernel
theorem d_X_frame_7 : decode b_X_frame 7 = .ok (.putfield 32, 3) := by decide +kernel
theorem d_X_frame_10 : decode b_X_frame 10 = .ok (.aload_n 0, 1) := by decide +kernel
theorem d_X_frame_11 : decode b_X_frame 11 = .ok (.getfield 28, 3) := by decide +kernel
theorem d_X_frame_14 : decode b_X_frame 14 = .ok (.aload_n 0, 1) := by decide +kernel
theorem d_X_frame_15 : decode b_X_frame 15 = .ok (.getfield 9, 3) := by decide +kernel
theorem d_X_frame_18 : decode b_X_frame 18 = .ok (.iload_n 1, 1) := by decide +kernel
theorem d_X_frame_19 : decode b_X_frame 19 = .ok (.invokevirtual 42, 3) := by decide +kernel
theorem d_X_frame_22 : decode b_X_frame 22 = .ok (.ireturn, 1) := by decide +kernel
theorem d_X_take_0 : decode b_X_take 0 = .ok (.aload_n 0, 1) := by decide +kernel
theorem d_X_take_1 : decode b_X_take 1 = .ok (.getfield 19, 3) := by decide +kernel
theorem d_X_take_4 : decode b_X_take 4 = .ok (.aload_n 0, 1) := by decide +kernel
theorem d_X_take_5 : decode b_X_take 5 = .ok (.getfield 15, 3) := by decide +kernel
theorem d_X_take_8 : decode b_X_take 8 = .ok (.invokevirtual 46, 3) := by decide +kernel
theorem d_X_take_11 : decode b_X_take 11 = .ok (.istore_n 1, 1) := by decide +kernel
theorem d_X_take_12 : decode b_X_take 12 = .ok (.aload_n 0, 1) := by decide +kernel
theorem d_X_take_13 : decode b_X_take 13 = .ok (.iload_n 1, 1) := by decide +kernel
theorem d_X_take_14 : decode b_X_take 14 = .ok (.iconst (-1), 1) := by decide +kernel
theorem d_X_take_15 : decode b_X_take 15 = .ok (.if_icmp .ne 10, 3) := by decide +kernel
theorem d_X_take_18 : decode b_X_take 18 = .ok (.aload_n 0, 1) := by decide +kernel
theorem d_X_take_19 : decode b_X_take 19 = .ok (.getfield 50, 3) := by decide +kernel
theorem d_X_take_22 : decode b_X_take 22 = .ok (.goto 4, 3) := by decide +kernel
theorem d_X_take_25 : decode b_X_take 25 = .ok (.iload_n 1, 1) := by decide +kernel
theorem d_X_take_26 : decode b_X_take 26 = .ok (.putfield 50, 3) := by decide +kernel
theorem d_X_take_29 : decode b_X_take 29 = .ok (.iload_n 1, 1) := by decide +kernel
theorem d_X_take_30 : decode b_X_take 30 = .ok (.ireturn, 1) := by decide +kernel
theorem d_X_byteAt_0 : decode b_X_byteAt 0 = .ok (.iload_n 1, 1) := by decide +kernel
theorem d_X_byteAt_1 : decode b_X_byteAt 1 = .ok (.ifCond .lt 11, 3) := by decide +kernel
theorem d_X_byteAt_4 : decode b_X_byteAt 4 = .ok (.iload_n 1, 1) := by decide +kernel
theorem d_X_byteAt_5 : decode b_X_byteAt 5 = .ok (.aload_n 0, 1) := by decide +kernel
theorem d_X_byteAt_6 : decode b_X_byteAt 6 = .ok (.getfield 50, 3) := by decide +kernel
theorem d_X_byteAt_9 : decode b_X_byteAt 9 = .ok (.if_icmp .lt 7, 3) := by decide +kernel
theorem d_X_byteAt_12 : decode b_X_byteAt 12 = .ok (.iconst (-1), 1) := by decide +kernel
theorem d_X_byteAt_13 : decode b_X_byteAt 13 = .ok (.goto 13, 3) := by decide +kernel
theorem d_X_byteAt_16 : decode b_X_byteAt 16 = .ok (.aload_n 0, 1) := by decide +kernel
theorem d_X_byteAt_17 : decode b_X_byteAt 17 = .ok (.getfield 15, 3) := by decide +kernel
theorem d_X_byteAt_20 : decode b_X_byteAt 20 = .ok (.iload_n 1, 1) := by decide +kernel
theorem d_X_byteAt_21 : decode b_X_byteAt 21 = .ok (.baload, 1) := by decide +kernel
theorem d_X_byteAt_22 : decode b_X_byteAt 22 = .ok (.sipush 255, 3) := by decide +kernel
theorem d_X_byteAt_25 : decode b_X_byteAt 25 = .ok (.iand, 1) := by decide +kernel
theorem d_X_byteAt_26 : decode b_X_byteAt 26 = .ok (.ireturn, 1) := by decide +kernel
theorem d_X_release_0 : decode b_X_release 0 = .ok (.aload_n 0, 1) := by decide +kernel
theorem d_X_release_1 : decode b_X_release 1 = .ok (.getfield 28, 3) := by decide +kernel
theorem d_X_release_4 : decode b_X_release 4 = .ok (.invokevirtual 53, 3) := by decide +kernel
theorem d_X_release_7 : decode b_X_release 7 = .ok (.ireturn, 1) := by decide +kernel
theorem d_X_word_0 : decode b_X_word 0 = .ok (.aload_n 0, 1) := by decide +kernel
theorem d_X_word_1 : decode b_X_word 1 = .ok (.getfield 28, 3) := by decide +kernel
theorem d_X_word_4 : decode b_X_word 4 = .ok (.invokevirtual 57, 3) := by decide +kernel
theorem d_X_word_7 : decode b_X_word 7 = .ok (.ireturn, 1) := by decide +kernel
theorem d_X_about_0 : decode b_X_about 0 = .ok (.iload_n 1, 1) := by decide +kernel
theorem d_X_about_1 : decode b_X_about 1 = .ok (.tableswitch 75 0 4 #[35, 43, 51, 59, 67], 35) := by decide +kernel
theorem d_X_about_36 : decode b_X_about 36 = .ok (.aload_n 0, 1) := by decide +kernel
theorem d_X_about_37 : decode b_X_about 37 = .ok (.getfield 28, 3) := by decide +kernel
theorem d_X_about_40 : decode b_X_about 40 = .ok (.getfield 61, 3) := by decide +kernel
theorem d_X_about_43 : decode b_X_about 43 = .ok (.ireturn, 1) := by decide +kernel
theorem d_X_about_44 : decode b_X_about 44 = .ok (.aload_n 0, 1) := by decide +kernel
theorem d_X_about_45 : decode b_X_about 45 = .ok (.getfield 28, 3) := by decide +kernel
theorem d_X_about_48 : decode b_X_about 48 = .ok (.getfield 64, 3) := by decide +kernel
theorem d_X_about_51 : decode b_X_about 51 = .ok (.ireturn, 1) := by decide +kernel
theorem d_X_about_52 : decode b_X_about 52 = .ok (.aload_n 0, 1) := by decide +kernel
theorem d_X_about_53 : decode b_X_about 53 = .ok (.getfield 19, 3) := by decide +kernel
theorem d_X_about_56 : decode b_X_about 56 = .ok (.getfield 67, 3) := by decide +kernel
theorem d_X_about_59 : decode b_X_about 59 = .ok (.ireturn, 1) := by decide +kernel
theorem d_X_about_60 : decode b_X_about 60 = .ok (.aload_n 0, 1) := by decide +kernel
theorem d_X_about_61 : decode b_X_about 61 = .ok (.getfield 28, 3) := by decide +kernel
theorem d_X_about_64 : decode b_X_about 64 = .ok (.getfield 70, 3) := by decide +kernel
theorem d_X_about_67 : decode b_X_about 67 = .ok (.ireturn, 1) := by decide +kernel
theorem d_X_about_68 : decode b_X_about 68 = .ok (.aload_n 0, 1) := by decide +kernel
theorem d_X_about_69 : decode b_X_about 69 = .ok (.getfield 28, 3) := by decide +kernel
theorem d_X_about_72 : decode b_X_about 72 = .ok (.getfield 73, 3) := by decide +kernel
theorem d_X_about_75 : decode b_X_about 75 = .ok (.ireturn, 1) := by decide +kernel
theorem d_X_about_76 : decode b_X_about 76 = .ok (.iconst (-1), 1) := by decide +kernel
theorem d_X_about_77 : decode b_X_about 77 = .ok (.ireturn, 1) := by decide +kernel
theorem d_Minit_0 : decode b_Minit 0 = .ok (.aload_n 0, 1) := by decide +kernel
theorem d_Minit_1 : decode b_Minit 1 = .ok (.invokespecial 1, 3) := by decide +kernel
theorem d_Minit_4 : decode b_Minit 4 = .ok (.aload_n 0, 1) := by decide +kernel
theorem d_Minit_5 : decode b_Minit 5 = .ok (.sipush 259, 3) := by decide +kernel
theorem d_Minit_8 : decode b_Minit 8 = .ok (.newarray .byte, 2) := by decide +kernel
theorem d_Minit_10 : decode b_Minit 10 = .ok (.putfield 7, 3) := by decide +kernel
theorem d_Minit_13 : decode b_Minit 13 = .ok (.aload_n 0, 1) := by decide +kernel
theorem d_Minit_14 : decode b_Minit 14 = .ok (.sipush 2048, 3) := by decide +kernel
theorem d_Minit_17 : decode b_Minit 17 = .ok (.newarray .byte, 2) := by decide +kernel
theorem d_Minit_19 : decode b_Minit 19 = .ok (.putfield 13, 3) := by decide +kernel
theorem d_Minit_22 : decode b_Minit 22 = .ok (.aload_n 0, 1) := by decide +kernel
theorem d_Minit_23 : decode b_Minit 23 = .ok (.bipush 8, 2) := by decide +kernel
theorem d_Minit_25 : decode b_Minit 25 = .ok (.newarray .int, 2) := by decide +kernel
theorem d_Minit_27 : decode b_Minit 27 = .ok (.putfield 16, 3) := by decide +kernel
theorem d_Minit_30 : decode b_Minit 30 = .ok (.aload_n 0, 1) := by decide +kernel
theorem d_Minit_31 : decode b_Minit 31 = .ok (.sipush 256, 3) := by decide +kernel
theorem d_Minit_34 : decode b_Minit 34 = .ok (.newarray .byte, 2) := by decide +kernel
theorem d_Minit_36 : decode b_Minit 36 = .ok (.putfield 20, 3) := by decide +kernel
theorem d_Minit_39 : decode b_Minit 39 = .ok (.aload_n 0, 1) := by decide +kernel
theorem d_Minit_40 : decode b_Minit 40 = .ok (.iconst 1, 1) := by decide +kernel
theorem d_Minit_41 : decode b_Minit 41 = .ok (.putfield 23, 3) := by decide +kernel
theorem d_Minit_44 : decode b_Minit 44 = .ok (.return_, 1) := by decide +kernel
theorem d_M_give_0 : decode b_M_give 0 = .ok (.aload_n 0, 1) := by decide +kernel
theorem d_M_give_1 : decode b_M_give 1 = .ok (.iconst 0, 1) := by decide +kernel
theorem d_M_give_2 : decode b_M_give 2 = .ok (.putfield 27, 3) := by decide +kernel
theorem d_M_give_5 : decode b_M_give 5 = .ok (.iload_n 3, 1) := by decide +kernel
theorem d_M_give_6 : decode b_M_give 6 = .ok (.iconst 1, 1) := by decide +kernel
theorem d_M_give_7 : decode b_M_give 7 = .ok (.if_icmp .lt 21, 3) := by decide +kernel
theorem d_M_give_10 : decode b_M_give 10 = .ok (.iload_n 3, 1) := by decide +kernel
theorem d_M_give_11 : decode b_M_give 11 = .ok (.bipush 8, 2) := by decide +kernel
theorem d_M_give_13 : decode b_M_give 13 = .ok (.if_icmp .gt 15, 3) := by decide +kernel
theorem d_M_give_16 : decode b_M_give 16 = .ok (.aload_n 0, 1) := by decide +kernel
theorem d_M_give_17 : decode b_M_give 17 = .ok (.getfield 30, 3) := by decide +kernel
theorem d_M_give_20 : decode b_M_give 20 = .ok (.sipush 259, 3) := by decide +kernel
theorem d_M_give_23 : decode b_M_give 23 = .ok (.iload_n 3, 1) := by decide +kernel
theorem d_M_give_24 : decode b_M_give 24 = .ok (.isub, 1) := by decide +kernel
theorem d_M_give_25 : decode b_M_give 25 = .ok (.if_icmp .le 5, 3) := by decide +kernel
theorem d_M_give_28 : decode b_M_give 28 = .ok (.iconst 0, 1) := by decide +kernel
theorem d_M_give_29 : decode b_M_give 29 = .ok (.ireturn, 1) := by decide +kernel
theorem d_M_give_30 : decode b_M_give 30 = .ok (.iconst 0, 1) := by decide +kernel
theorem d_M_give_31 : decode b_M_give 31 = .ok (.istore 4, 2) := by decide +kernel
theorem d_M_give_33 : decode b_M_give 33 = .ok (.iload 4, 2) := by decide +kernel
theorem d_M_give_35 : decode b_M_give 35 = .ok (.iload_n 3, 1) := by decide +kernel
theorem d_M_give_36 : decode b_M_give 36 = .ok (.if_icmp .ge 33, 3) := by decide +kernel
theorem d_M_give_39 : decode b_M_give 39 = .ok (.aload_n 0, 1) := by decide +kernel
theorem d_M_give_40 : decode b_M_give 40 = .ok (.getfield 7, 3) := by decide +kernel
theorem d_M_give_43 : decode b_M_give 43 = .ok (.aload_n 0, 1) := by decide +kernel
theorem d_M_give_44 : decode b_M_give 44 = .ok (.getfield 30, 3) := by decide +kernel
theorem d_M_give_47 : decode b_M_give 47 = .ok (.iload 4, 2) := by decide +kernel
theorem d_M_give_49 : decode b_M_give 49 = .ok (.iadd, 1) := by decide +kernel
theorem d_M_give_50 : decode b_M_give 50 = .ok (.lload_n 1, 1) := by decide +kernel
theorem d_M_give_51 : decode b_M_give 51 = .ok (.bipush 56, 2) := by decide +kernel
theorem d_M_give_53 : decode b_M_give 53 = .ok (.bipush 8, 2) := by decide +kernel
theorem d_M_give_55 : decode b_M_give 55 = .ok (.iload 4, 2) := by decide +kernel
theorem d_M_give_57 : decode b_M_give 57 = .ok (.imul, 1) := by decide +kernel
theorem d_M_give_58 : decode b_M_give 58 = .ok (.isub, 1) := by decide +kernel
theorem d_M_give_59 : decode b_M_give 59 = .ok (.lshr, 1) := by decide +kernel
theorem d_M_give_60 : decode b_M_give 60 = .ok (.l2i, 1) := by decide +kernel
theorem d_M_give_61 : decode b_M_give 61 = .ok (.i2b, 1) := by decide +kernel
theorem d_M_give_62 : decode b_M_give 62 = .ok (.bastore, 1) := by decide +kernel
theorem d_M_give_63 : decode b_M_give 63 = .ok (.iinc 4 1, 3) := by decide +kernel
theorem d_M_give_66 : decode b_M_give 66 = .ok (.goto (-33), 3) := by decide +kernel
theorem d_M_give_69 : decode b_M_give 69 = .ok (.aload_n 0, 1) := by decide +kernel
theorem d_M_give_70 : decode b_M_give 70 = .ok (.dup, 1) := by decide +kernel
theorem d_M_give_71 : decode b_M_give 71 = .ok (.getfield 30, 3) := by decide +kernel
theorem d_M_give_74 : decode b_M_give 74 = .ok (.iload_n 3, 1) := by decide +kernel
theorem d_M_give_75 : decode b_M_give 75 = .ok (.iadd, 1) := by decide +kernel
theorem d_M_give_76 : decode b_M_give 76 = .ok (.putfield 30, 3) := by decide +kernel
theorem d_M_give_79 : decode b_M_give 79 = .ok (.iconst 1, 1) := by decide +kernel
theorem d_M_give_80 : decode b_M_give 80 = .ok (.ireturn, 1) := by decide +kernel
theorem d_M_check_0 : decode b_M_check 0 = .ok (.ldc 33, 2) := by decide +kernel
theorem d_M_check_2 : decode b_M_check 2 = .ok (.istore_n 2, 1) := by decide +kernel
theorem d_M_check_3 : decode b_M_check 3 = .ok (.iconst 0, 1) := by decide +kernel
theorem d_M_check_4 : decode b_M_check 4 = .ok (.istore_n 3, 1) := by decide +kernel
theorem d_M_check_5 : decode b_M_check 5 = .ok (.iload_n 3, 1) := by decide +kernel
theorem d_M_check_6 : decode b_M_check 6 = .ok (.iload_n 1, 1) := by decide +kernel
theorem d_M_check_7 : decode b_M_check 7 = .ok (.if_icmp .ge 61, 3) := by decide +kernel
theorem d_M_check_10 : decode b_M_check 10 = .ok (.iload_n 2, 1) := by decide +kernel
theorem d_M_check_11 : decode b_M_check 11 = .ok (.aload_n 0, 1) := by decide +kernel
theorem d_M_check_12 : decode b_M_check 12 = .ok (.getfield 7, 3) := by decide +kernel
theorem d_M_check_15 : decode b_M_check 15 = .ok (.iload_n 3, 1) := by decide +kernel
theorem d_M_check_16 : decode b_M_check 16 = .ok (.baload, 1) := by decide +kernel
theorem d_M_check_17 : decode b_M_check 17 = .ok (.sipush 255, 3) := by decide +kernel
theorem d_M_check_20 : decode b_M_check 20 = .ok (.iand, 1) := by decide +kernel
theorem d_M_check_21 : decode b_M_check 21 = .ok (.sipush 256, 3) := by decide +kernel
theorem d_M_check_24 : decode b_M_check 24 = .ok (.imul, 1) := by decide +kernel
theorem d_M_check_25 : decode b_M_check 25 = .ok (.ixor, 1) := by decide +kernel
theorem d_M_check_26 : decode b_M_check 26 = .ok (.istore_n 2, 1) := by decide +kernel
theorem d_M_check_27 : decode b_M_check 27 = .ok (.iconst 0, 1) := by decide +kernel
theorem d_M_check_28 : decode b_M_check 28 = .ok (.istore 4, 2) := by decide +kernel
theorem d_M_check_30 : decode b_M_check 30 = .ok (.iload 4, 2) := by decide +kernel
theorem d_M_check_32 : decode b_M_check 32 = .ok (.bipush 8, 2) := by decide +kernel
theorem d_M_check_34 : decode b_M_check 34 = .ok (.if_icmp .ge 28, 3) := by decide +kernel
theorem d_M_check_37 : decode b_M_check 37 = .ok (.iload_n 2, 1) := by decide +kernel
theorem d_M_check_38 : decode b_M_check 38 = .ok (.iconst 2, 1) := by decide +kernel
theorem d_M_check_39 : decode b_M_check 39 = .ok (.imul, 1) := by decide +kernel
theorem d_M_check_40 : decode b_M_check 40 = .ok (.istore_n 2, 1) := by decide +kernel
theorem d_M_check_41 : decode b_M_check 41 = .ok (.iload_n 2, 1) := by decide +kernel
theorem d_M_check_42 : decode b_M_check 42 = .ok (.ldc 34, 2) := by decide +kernel
theorem d_M_check_44 : decode b_M_check 44 = .ok (.if_icmp .lt 10, 3) := by decide +kernel
theorem d_M_check_47 : decode b_M_check 47 = .ok (.iload_n 2, 1) := by decide +kernel
theorem d_M_check_48 : decode b_M_check 48 = .ok (.ldc 35, 2) := by decide +kernel
theorem d_M_check_50 : decode b_M_check 50 = .ok (.ixor, 1) := by decide +kernel
theorem d_M_check_51 : decode b_M_check 51 = .ok (.goto 4, 3) := by decide +kernel
theorem d_M_check_54 : decode b_M_check 54 = .ok (.iload_n 2, 1) := by decide +kernel
theorem d_M_check_55 : decode b_M_check 55 = .ok (.istore_n 2, 1) := by decide +kernel
theorem d_M_check_56 : decode b_M_check 56 = .ok (.iinc 4 1, 3) := by decide +kernel
theorem d_M_check_59 : decode b_M_check 59 = .ok (.goto (-29), 3) := by decide +kernel
theorem d_M_check_62 : decode b_M_check 62 = .ok (.iinc 3 1, 3) := by decide +kernel
theorem d_M_check_65 : decode b_M_check 65 = .ok (.goto (-60), 3) := by decide +kernel
theorem d_M_check_68 : decode b_M_check 68 = .ok (.iload_n 2, 1) := by decide +kernel
theorem d_M_check_69 : decode b_M_check 69 = .ok (.ireturn, 1) := by decide +kernel
theorem d_M_seal_0 : decode b_M_seal 0 = .ok (.aload_n 0, 1) := by decide +kernel
theorem d_M_seal_1 : decode b_M_seal 1 = .ok (.iconst 0, 1) := by decide +kernel
theorem d_M_seal_2 : decode b_M_seal 2 = .ok (.putfield 27, 3) := by decide +kernel
theorem d_M_seal_5 : decode b_M_seal 5 = .ok (.aload_n 0, 1) := by decide +kernel
theorem d_M_seal_6 : decode b_M_seal 6 = .ok (.getfield 30, 3) := by decide +kernel
theorem d_M_seal_9 : decode b_M_seal 9 = .ok (.sipush 257, 3) := by decide +kernel
theorem d_M_seal_12 : decode b_M_seal 12 = .ok (.if_icmp .le 5, 3) := by decide +kernel
theorem d_M_seal_15 : decode b_M_seal 15 = .ok (.iconst 0, 1) := by decide +kernel
theorem d_M_seal_16 : decode b_M_seal 16 = .ok (.ireturn, 1) := by decide +kernel
theorem d_M_seal_17 : decode b_M_seal 17 = .ok (.aload_n 0, 1) := by decide +kernel
theorem d_M_seal_18 : decode b_M_seal 18 = .ok (.aload_n 0, 1) := by decide +kernel
theorem d_M_seal_19 : decode b_M_seal 19 = .ok (.getfield 30, 3) := by decide +kernel
theorem d_M_seal_22 : decode b_M_seal 22 = .ok (.invokevirtual 36, 3) := by decide +kernel
theorem d_M_seal_25 : decode b_M_seal 25 = .ok (.istore_n 1, 1) := by decide +kernel
theorem d_M_seal_26 : decode b_M_seal 26 = .ok (.aload_n 0, 1) := by decide +kernel
theorem d_M_seal_27 : decode b_M_seal 27 = .ok (.getfield 7, 3) := by decide +kernel
theorem d_M_seal_30 : decode b_M_seal 30 = .ok (.aload_n 0, 1) := by decide +kernel
theorem d_M_seal_31 : decode b_M_seal 31 = .ok (.getfield 30, 3) := by decide +kernel
theorem d_M_seal_34 : decode b_M_seal 34 = .ok (.iload_n 1, 1) := by decide +kernel
theorem d_M_seal_35 : decode b_M_seal 35 = .ok (.sipush 256, 3) := by decide +kernel
theorem d_M_seal_38 : decode b_M_seal 38 = .ok (.idiv, 1) := by decide +kernel
theorem d_M_seal_39 : decode b_M_seal 39 = .ok (.i2b, 1) := by decide +kernel
theorem d_M_seal_40 : decode b_M_seal 40 = .ok (.bastore, 1) := by decide +kernel
theorem d_M_seal_41 : decode b_M_seal 41 = .ok (.aload_n 0, 1) := by decide +kernel
theorem d_M_seal_42 : decode b_M_seal 42 = .ok (.getfield 7, 3) := by decide +kernel
theorem d_M_seal_45 : decode b_M_seal 45 = .ok (.aload_n 0, 1) := by decide +kernel
theorem d_M_seal_46 : decode b_M_seal 46 = .ok (.getfield 30, 3) := by decide +kernel
theorem d_M_seal_49 : decode b_M_seal 49 = .ok (.iconst 1, 1) := by decide +kernel
theorem d_M_seal_50 : decode b_M_seal 50 = .ok (.iadd, 1) := by decide +kernel
theorem d_M_seal_51 : decode b_M_seal 51 = .ok (.iload_n 1, 1) := by decide +kernel
theorem d_M_seal_52 : decode b_M_seal 52 = .ok (.i2b, 1) := by decide +kernel
theorem d_M_seal_53 : decode b_M_seal 53 = .ok (.bastore, 1) := by decide +kernel
theorem d_M_seal_54 : decode b_M_seal 54 = .ok (.aload_n 0, 1) := by decide +kernel
theorem d_M_seal_55 : decode b_M_seal 55 = .ok (.dup, 1) := by decide +kernel
theorem d_M_seal_56 : decode b_M_seal 56 = .ok (.getfield 30, 3) := by decide +kernel
theorem d_M_seal_59 : decode b_M_seal 59 = .ok (.iconst 2, 1) := by decide +kernel
theorem d_M_seal_60 : decode b_M_seal 60 = .ok (.iadd, 1) := by decide +kernel
theorem d_M_seal_61 : decode b_M_seal 61 = .ok (.putfield 30, 3) := by decide +kernel
theorem d_M_seal_64 : decode b_M_seal 64 = .ok (.iconst 1, 1) := by decide +kernel
theorem d_M_seal_65 : decode b_M_seal 65 = .ok (.ireturn, 1) := by decide +kernel
theorem d_M_length_0 : decode b_M_length 0 = .ok (.aload_n 0, 1) := by decide +kernel
theorem d_M_length_1 : decode b_M_length 1 = .ok (.iconst 0, 1) := by decide +kernel
theorem d_M_length_2 : decode b_M_length 2 = .ok (.putfield 27, 3) := by decide +kernel
theorem d_M_length_5 : decode b_M_length 5 = .ok (.aload_n 0, 1) := by decide +kernel
theorem d_M_length_6 : decode b_M_length 6 = .ok (.getfield 30, 3) := by decide +kernel
theorem d_M_length_9 : decode b_M_length 9 = .ok (.ireturn, 1) := by decide +kernel
theorem d_M_bits_0 : decode b_M_bits 0 = .ok (.iconst 0, 1) := by decide +kernel
theorem d_M_bits_1 : decode b_M_bits 1 = .ok (.istore_n 3, 1) := by decide +kernel
theorem d_M_bits_2 : decode b_M_bits 2 = .ok (.iload_n 1, 1) := by decide +kernel
theorem d_M_bits_3 : decode b_M_bits 3 = .ok (.istore 4, 2) := by decide +kernel
theorem d_M_bits_5 : decode b_M_bits 5 = .ok (.iload 4, 2) := by decide +kernel
theorem d_M_bits_7 : decode b_M_bits 7 = .ok (.iload_n 1, 1) := by decide +kernel
theorem d_M_bits_8 : decode b_M_bits 8 = .ok (.iload_n 2, 1) := by decide +kernel
theorem d_M_bits_9 : decode b_M_bits 9 = .ok (.iadd, 1) := by decide +kernel
theorem d_M_bits_10 : decode b_M_bits 10 = .ok (.if_icmp .ge 35, 3) := by decide +kernel
theorem d_M_bits_13 : decode b_M_bits 13 = .ok (.iconst 2, 1) := by decide +kernel
theorem d_M_bits_14 : decode b_M_bits 14 = .ok (.iload_n 3, 1) := by decide +kernel
theorem d_M_bits_15 : decode b_M_bits 15 = .ok (.imul, 1) := by decide +kernel
theorem d_M_bits_16 : decode b_M_bits 16 = .ok (.aload_n 0, 1) := by decide +kernel
theorem d_M_bits_17 : decode b_M_bits 17 = .ok (.getfield 7, 3) := by decide +kernel
theorem d_M_bits_20 : decode b_M_bits 20 = .ok (.iload 4, 2) := by decide +kernel
theorem d_M_bits_22 : decode b_M_bits 22 = .ok (.bipush 8, 2) := by decide +kernel
theorem d_M_bits_24 : decode b_M_bits 24 = .ok (.idiv, 1) := by decide +kernel
theorem d_M_bits_25 : decode b_M_bits 25 = .ok (.baload, 1) := by decide +kernel
theorem d_M_bits_26 : decode b_M_bits 26 = .ok (.bipush 7, 2) := by decide +kernel
theorem d_M_bits_28 : decode b_M_bits 28 = .ok (.iload 4, 2) := by decide +kernel
theorem d_M_bits_30 : decode b_M_bits 30 = .ok (.bipush 8, 2) := by decide +kernel
theorem d_M_bits_32 : decode b_M_bits 32 = .ok (.irem, 1) := by decide +kernel
theorem d_M_bits_33 : decode b_M_bits 33 = .ok (.isub, 1) := by decide +kernel
theorem d_M_bits_34 : decode b_M_bits 34 = .ok (.ishr, 1) := by decide +kernel
theorem d_M_bits_35 : decode b_M_bits 35 = .ok (.iconst 1, 1) := by decide +kernel
theorem d_M_bits_36 : decode b_M_bits 36 = .ok (.iand, 1) := by decide +kernel
theorem d_M_bits_37 : decode b_M_bits 37 = .ok (.iadd, 1) := by decide +kernel
theorem d_M_bits_38 : decode b_M_bits 38 = .ok (.istore_n 3, 1) := by decide +kernel
theorem d_M_bits_39 : decode b_M_bits 39 = .ok (.iinc 4 1, 3) := by decide +kernel
theorem d_M_bits_42 : decode b_M_bits 42 = .ok (.goto (-37), 3) := by decide +kernel
theorem d_M_bits_45 : decode b_M_bits 45 = .ok (.iload_n 3, 1) := by decide +kernel
theorem d_M_bits_46 : decode b_M_bits 46 = .ok (.ireturn, 1) := by decide +kernel
theorem d_M_valid_0 : decode b_M_valid 0 = .ok (.iload_n 1, 1) := by decide +kernel
theorem d_M_valid_1 : decode b_M_valid 1 = .ok (.bipush 8, 2) := by decide +kernel
theorem d_M_valid_3 : decode b_M_valid 3 = .ok (.if_icmp .ge 5, 3) := by decide +kernel
theorem d_M_valid_6 : decode b_M_valid 6 = .ok (.iconst 0, 1) := by decide +kernel
theorem d_M_valid_7 : decode b_M_valid 7 = .ok (.ireturn, 1) := by decide +kernel
theorem d_M_valid_8 : decode b_M_valid 8 = .ok (.aload_n 0, 1) := by decide +kernel
theorem d_M_valid_9 : decode b_M_valid 9 = .ok (.bipush 22, 2) := by decide +kernel
theorem d_M_valid_11 : decode b_M_valid 11 = .ok (.bipush 10, 2) := by decide +kernel
theorem d_M_valid_13 : decode b_M_valid 13 = .ok (.invokevirtual 40, 3) := by decide +kernel
theorem d_M_valid_16 : decode b_M_valid 16 = .ok (.istore_n 2, 1) := by decide +kernel
theorem d_M_valid_17 : decode b_M_valid 17 = .ok (.aload_n 0, 1) := by decide +kernel
theorem d_M_valid_18 : decode b_M_valid 18 = .ok (.iconst 0, 1) := by decide +kernel
theorem d_M_valid_19 : decode b_M_valid 19 = .ok (.iconst 2, 1) := by decide +kernel
theorem d_M_valid_20 : decode b_M_valid 20 = .ok (.invokevirtual 40, 3) := by decide +kernel
theorem d_M_valid_23 : decode b_M_valid 23 = .ok (.ifCond .ne 41, 3) := by decide +kernel
theorem d_M_valid_26 : decode b_M_valid 26 = .ok (.aload_n 0, 1) := by decide +kernel
theorem d_M_valid_27 : decode b_M_valid 27 = .ok (.iconst 4, 1) := by decide +kernel
theorem d_M_valid_28 : decode b_M_valid 28 = .ok (.iconst 2, 1) := by decide +kernel
theorem d_M_valid_29 : decode b_M_valid 29 = .ok (.invokevirtual 40, 3) := by decide +kernel
theorem d_M_valid_32 : decode b_M_valid 32 = .ok (.ifCond .ne 32, 3) := by decide +kernel
theorem d_M_valid_35 : decode b_M_valid 35 = .ok (.aload_n 0, 1) := by decide +kernel
theorem d_M_valid_36 : decode b_M_valid 36 = .ok (.bipush 6, 2) := by decide +kernel
theorem d_M_valid_38 : decode b_M_valid 38 = .ok (.bipush 10, 2) := by decide +kernel
theorem d_M_valid_40 : decode b_M_valid 40 = .ok (.invokevirtual 40, 3) := by decide +kernel
theorem d_M_valid_43 : decode b_M_valid 43 = .ok (.sipush 346, 3) := by decide +kernel
theorem d_M_valid_46 : decode b_M_valid 46 = .ok (.if_icmp .ne 18, 3) := by decide +kernel
theorem d_M_valid_49 : decode b_M_valid 49 = .ok (.aload_n 0, 1) := by decide +kernel
theorem d_M_valid_50 : decode b_M_valid 50 = .ok (.bipush 16, 2) := by decide +kernel
theorem d_M_valid_52 : decode b_M_valid 52 = .ok (.bipush 6, 2) := by decide +kernel
theorem d_M_valid_54 : decode b_M_valid 54 = .ok (.invokevirtual 40, 3) := by decide +kernel
theorem d_M_valid_57 : decode b_M_valid 57 = .ok (.ifCond .ne 7, 3) := by decide +kernel
theorem d_M_valid_60 : decode b_M_valid 60 = .ok (.iconst 1, 1) := by decide +kernel
theorem d_M_valid_61 : decode b_M_valid 61 = .ok (.goto 4, 3) := by decide +kernel
theorem d_M_valid_64 : decode b_M_valid 64 = .ok (.iconst 0, 1) := by decide +kernel
theorem d_M_valid_65 : decode b_M_valid 65 = .ok (.istore_n 3, 1) := by decide +kernel
theorem d_M_valid_66 : decode b_M_valid 66 = .ok (.iload_n 2, 1) := by decide +kernel
theorem d_M_valid_67 : decode b_M_valid 67 = .ok (.bipush 7, 2) := by decide +kernel
theorem d_M_valid_69 : decode b_M_valid 69 = .ok (.if_icmp .lt 14, 3) := by decide +kernel
theorem d_M_valid_72 : decode b_M_valid 72 = .ok (.iload_n 1, 1) := by decide +kernel
theorem d_M_valid_73 : decode b_M_valid 73 = .ok (.iload_n 2, 1) := by decide +kernel
theorem d_M_valid_74 : decode b_M_valid 74 = .ok (.iconst 1, 1) := by decide +kernel
theorem d_M_valid_75 : decode b_M_valid 75 = .ok (.iadd, 1) := by decide +kernel
theorem d_M_valid_76 : decode b_M_valid 76 = .ok (.if_icmp .lt 7, 3) := by decide +kernel
theorem d_M_valid_79 : decode b_M_valid 79 = .ok (.iconst 1, 1) := by decide +kernel
theorem d_M_valid_80 : decode b_M_valid 80 = .ok (.goto 4, 3) := by decide +kernel
theorem d_M_valid_83 : decode b_M_valid 83 = .ok (.iconst 0, 1) := by decide +kernel
theorem d_M_valid_84 : decode b_M_valid 84 = .ok (.istore 4, 2) := by decide +kernel
theorem d_M_valid_86 : decode b_M_valid 86 = .ok (.iload_n 3, 1) := by decide +kernel
theorem d_M_valid_87 : decode b_M_valid 87 = .ok (.ifCond .eq 18, 3) := by decide +kernel
theorem d_M_valid_90 : decode b_M_valid 90 = .ok (.iload 4, 2) := by decide +kernel
theorem d_M_valid_92 : decode b_M_valid 92 = .ok (.ifCond .eq 13, 3) := by decide +kernel
theorem d_M_valid_95 : decode b_M_valid 95 = .ok (.aload_n 0, 1) := by decide +kernel
theorem d_M_valid_96 : decode b_M_valid 96 = .ok (.iconst 2, 1) := by decide +kernel
theorem d_M_valid_97 : decode b_M_valid 97 = .ok (.iconst 2, 1) := by decide +kernel
theorem d_M_valid_98 : decode b_M_valid 98 = .ok (.invokevirtual 40, 3) := by decide +kernel
theorem d_M_valid_101 : decode b_M_valid 101 = .ok (.iconst 1, 1) := by decide +kernel
theorem d_M_valid_102 : decode b_M_valid 102 = .ok (.if_icmp .ne 5, 3) := by decide +kernel
theorem d_M_valid_105 : decode b_M_valid 105 = .ok (.iconst 0, 1) := by decide +kernel
theorem d_M_valid_106 : decode b_M_valid 106 = .ok (.ireturn, 1) := by decide +kernel
theorem d_M_valid_107 : decode b_M_valid 107 = .ok (.aload_n 0, 1) := by decide +kernel
theorem d_M_valid_108 : decode b_M_valid 108 = .ok (.iload_n 2, 1) := by decide +kernel
theorem d_M_valid_109 : decode b_M_valid 109 = .ok (.iconst 1, 1) := by decide +kernel
theorem d_M_valid_110 : decode b_M_valid 110 = .ok (.isub, 1) := by decide +kernel
theorem d_M_valid_111 : decode b_M_valid 111 = .ok (.invokevirtual 36, 3) := by decide +kernel
theorem d_M_valid_114 : decode b_M_valid 114 = .ok (.aload_n 0, 1) := by decide +kernel
theorem d_M_valid_115 : decode b_M_valid 115 = .ok (.bipush 8, 2) := by decide +kernel
theorem d_M_valid_117 : decode b_M_valid 117 = .ok (.iload_n 2, 1) := by decide +kernel
theorem d_M_valid_118 : decode b_M_valid 118 = .ok (.imul, 1) := by decide +kernel
theorem d_M_valid_119 : decode b_M_valid 119 = .ok (.bipush 8, 2) := by decide +kernel
theorem d_M_valid_121 : decode b_M_valid 121 = .ok (.isub, 1) := by decide +kernel
theorem d_M_valid_122 : decode b_M_valid 122 = .ok (.bipush 16, 2) := by decide +kernel
theorem d_M_valid_124 : decode b_M_valid 124 = .ok (.invokevirtual 40, 3) := by decide +kernel
theorem d_M_valid_127 : decode b_M_valid 127 = .ok (.if_icmp .ne 7, 3) := by decide +kernel
theorem d_M_valid_130 : decode b_M_valid 130 = .ok (.iload_n 2, 1) := by decide +kernel
theorem d_M_valid_131 : decode b_M_valid 131 = .ok (.goto 4, 3) := by decide +kernel
theorem d_M_valid_134 : decode b_M_valid 134 = .ok (.iconst 0, 1) := by decide +kernel
theorem d_M_valid_135 : decode b_M_valid 135 = .ok (.ireturn, 1) := by decide +kernel
theorem d_M_refuses_0 : decode b_M_refuses 0 = .ok (.aload_n 0, 1) := by decide +kernel
theorem d_M_refuses_1 : decode b_M_refuses 1 = .ok (.dup, 1) := by decide +kernel
theorem d_M_refuses_2 : decode b_M_refuses 2 = .ok (.getfield 44, 3) := by decide +kernel
theorem d_M_refuses_5 : decode b_M_refuses 5 = .ok (.iconst 1, 1) := by decide +kernel
theorem d_M_refuses_6 : decode b_M_refuses 6 = .ok (.iadd, 1) := by decide +kernel
theorem d_M_refuses_7 : decode b_M_refuses 7 = .ok (.putfield 44, 3) := by decide +kernel
theorem d_M_refuses_10 : decode b_M_refuses 10 = .ok (.iconst 0, 1) := by decide +kernel
theorem d_M_refuses_11 : decode b_M_refuses 11 = .ok (.ireturn, 1) := by decide +kernel
theorem d_M_comes_0 : decode b_M_comes 0 = .ok (.iconst 0, 1) := by decide +kernel
theorem d_M_comes_1 : decode b_M_comes 1 = .ok (.istore_n 2, 1) := by decide +kernel
theorem d_M_comes_2 : decode b_M_comes 2 = .ok (.iload_n 2, 1) := by decide +kernel
theorem d_M_comes_3 : decode b_M_comes 3 = .ok (.iload_n 1, 1) := by decide +kernel
theorem d_M_comes_4 : decode b_M_comes 4 = .ok (.if_icmp .ge 32, 3) := by decide +kernel
theorem d_M_comes_7 : decode b_M_comes 7 = .ok (.aload_n 0, 1) := by decide +kernel
theorem d_M_comes_8 : decode b_M_comes 8 = .ok (.getfield 13, 3) := by decide +kernel
theorem d_M_comes_11 : decode b_M_comes 11 = .ok (.sipush 256, 3) := by decide +kernel
theorem d_M_comes_14 : decode b_M_comes 14 = .ok (.aload_n 0, 1) := by decide +kernel
theorem d_M_comes_15 : decode b_M_comes 15 = .ok (.getfield 47, 3) := by decide +kernel
theorem d_M_comes_18 : decode b_M_comes 18 = .ok (.imul, 1) := by decide +kernel
theorem d_M_comes_19 : decode b_M_comes 19 = .ok (.iload_n 2, 1) := by decide +kernel
theorem d_M_comes_20 : decode b_M_comes 20 = .ok (.iadd, 1) := by decide +kernel
theorem d_M_comes_21 : decode b_M_comes 21 = .ok (.aload_n 0, 1) := by decide +kernel
theorem d_M_comes_22 : decode b_M_comes 22 = .ok (.getfield 7, 3) := by decide +kernel
theorem d_M_comes_25 : decode b_M_comes 25 = .ok (.iconst 5, 1) := by decide +kernel
theorem d_M_comes_26 : decode b_M_comes 26 = .ok (.iload_n 2, 1) := by decide +kernel
theorem d_M_comes_27 : decode b_M_comes 27 = .ok (.iadd, 1) := by decide +kernel
theorem d_M_comes_28 : decode b_M_comes 28 = .ok (.baload, 1) := by decide +kernel
theorem d_M_comes_29 : decode b_M_comes 29 = .ok (.bastore, 1) := by decide +kernel
theorem d_M_comes_30 : decode b_M_comes 30 = .ok (.iinc 2 1, 3) := by decide +kernel
theorem d_M_comes_33 : decode b_M_comes 33 = .ok (.goto (-31), 3) := by decide +kernel
theorem d_M_comes_36 : decode b_M_comes 36 = .ok (.aload_n 0, 1) := by decide +kernel
theorem d_M_comes_37 : decode b_M_comes 37 = .ok (.getfield 16, 3) := by decide +kernel
theorem d_M_comes_40 : decode b_M_comes 40 = .ok (.aload_n 0, 1) := by decide +kernel
theorem d_M_comes_41 : decode b_M_comes 41 = .ok (.getfield 47, 3) := by decide +kernel
theorem d_M_comes_44 : decode b_M_comes 44 = .ok (.iload_n 1, 1) := by decide +kernel
theorem d_M_comes_45 : decode b_M_comes 45 = .ok (.iastore, 1) := by decide +kernel
theorem d_M_comes_46 : decode b_M_comes 46 = .ok (.aload_n 0, 1) := by decide +kernel
theorem d_M_comes_47 : decode b_M_comes 47 = .ok (.dup, 1) := by decide +kernel
theorem d_M_comes_48 : decode b_M_comes 48 = .ok (.getfield 47, 3) := by decide +kernel
theorem d_M_comes_51 : decode b_M_comes 51 = .ok (.iconst 1, 1) := by decide +kernel
theorem d_M_comes_52 : decode b_M_comes 52 = .ok (.iadd, 1) := by decide +kernel
theorem d_M_comes_53 : decode b_M_comes 53 = .ok (.putfield 47, 3) := by decide +kernel
theorem d_M_comes_56 : decode b_M_comes 56 = .ok (.aload_n 0, 1) := by decide +kernel
theorem d_M_comes_57 : decode b_M_comes 57 = .ok (.dup, 1) := by decide +kernel
theorem d_M_comes_58 : decode b_M_comes 58 = .ok (.getfield 50, 3) := by decide +kernel
theorem d_M_comes_61 : decode b_M_comes 61 = .ok (.iconst 1, 1) := by decide +kernel
theorem d_M_comes_62 : decode b_M_comes 62 = .ok (.iadd, 1) := by decide +kernel
theorem d_M_comes_63 : decode b_M_comes 63 = .ok (.putfield 50, 3) := by decide +kernel
theorem d_M_comes_66 : decode b_M_comes 66 = .ok (.return_, 1) := by decide +kernel
theorem d_M_controls_0 : decode b_M_controls 0 = .ok (.iload_n 1, 1) := by decide +kernel
theorem d_M_controls_1 : decode b_M_controls 1 = .ok (.iconst 1, 1) := by decide +kernel
theorem d_M_controls_2 : decode b_M_controls 2 = .ok (.if_icmp .ne 16, 3) := by decide +kernel
theorem d_M_controls_5 : decode b_M_controls 5 = .ok (.aload_n 0, 1) := by decide +kernel
theorem d_M_controls_6 : decode b_M_controls 6 = .ok (.getfield 7, 3) := by decide +kernel
theorem d_M_controls_9 : decode b_M_controls 9 = .ok (.iconst 5, 1) := by decide +kernel
theorem d_M_controls_10 : decode b_M_controls 10 = .ok (.baload, 1) := by decide +kernel
theorem d_M_controls_11 : decode b_M_controls 11 = .ok (.ifCond .ne 7, 3) := by decide +kernel
theorem d_M_controls_14 : decode b_M_controls 14 = .ok (.iconst 1, 1) := by decide +kernel
theorem d_M_controls_15 : decode b_M_controls 15 = .ok (.goto 4, 3) := by decide +kernel
theorem d_M_controls_18 : decode b_M_controls 18 = .ok (.iconst 0, 1) := by decide +kernel
theorem d_M_controls_19 : decode b_M_controls 19 = .ok (.istore_n 2, 1) := by decide +kernel
theorem d_M_controls_20 : decode b_M_controls 20 = .ok (.iload_n 1, 1) := by decide +kernel
theorem d_M_controls_21 : decode b_M_controls 21 = .ok (.iconst 3, 1) := by decide +kernel
theorem d_M_controls_22 : decode b_M_controls 22 = .ok (.if_icmp .ne 20, 3) := by decide +kernel
theorem d_M_controls_25 : decode b_M_controls 25 = .ok (.aload_n 0, 1) := by decide +kernel
theorem d_M_controls_26 : decode b_M_controls 26 = .ok (.bipush 40, 2) := by decide +kernel
theorem d_M_controls_28 : decode b_M_controls 28 = .ok (.bipush 16, 2) := by decide +kernel
theorem d_M_controls_30 : decode b_M_controls 30 = .ok (.invokevirtual 40, 3) := by decide +kernel
theorem d_M_controls_33 : decode b_M_controls 33 = .ok (.ldc 53, 2) := by decide +kernel
theorem d_M_controls_35 : decode b_M_controls 35 = .ok (.if_icmp .ne 7, 3) := by decide +kernel
theorem d_M_controls_38 : decode b_M_controls 38 = .ok (.iconst 1, 1) := by decide +kernel
theorem d_M_controls_39 : decode b_M_controls 39 = .ok (.goto 4, 3) := by decide +kernel
theorem d_M_controls_42 : decode b_M_controls 42 = .ok (.iconst 0, 1) := by decide +kernel
theorem d_M_controls_43 : decode b_M_controls 43 = .ok (.istore_n 3, 1) := by decide +kernel
theorem d_M_controls_44 : decode b_M_controls 44 = .ok (.iload_n 2, 1) := by decide +kernel
theorem d_M_controls_45 : decode b_M_controls 45 = .ok (.ifCond .ne 12, 3) := by decide +kernel
theorem d_M_controls_48 : decode b_M_controls 48 = .ok (.iload_n 3, 1) := by decide +kernel
theorem d_M_controls_49 : decode b_M_controls 49 = .ok (.ifCond .ne 8, 3) := by decide +kernel
theorem d_M_controls_52 : decode b_M_controls 52 = .ok (.aload_n 0, 1) := by decide +kernel
theorem d_M_controls_53 : decode b_M_controls 53 = .ok (.invokevirtual 54, 3) := by decide +kernel
theorem d_M_controls_56 : decode b_M_controls 56 = .ok (.ireturn, 1) := by decide +kernel
theorem d_M_controls_57 : decode b_M_controls 57 = .ok (.aload_n 0, 1) := by decide +kernel
theorem d_M_controls_58 : decode b_M_controls 58 = .ok (.aload_n 0, 1) := by decide +kernel
theorem d_M_controls_59 : decode b_M_controls 59 = .ok (.getfield 58, 3) := by decide +kernel
theorem d_M_controls_62 : decode b_M_controls 62 = .ok (.iconst 1, 1) := by decide +kernel
theorem d_M_controls_63 : decode b_M_controls 63 = .ok (.iadd, 1) := by decide +kernel
theorem d_M_controls_64 : decode b_M_controls 64 = .ok (.iconst 4, 1) := by decide +kernel
theorem d_M_controls_65 : decode b_M_controls 65 = .ok (.irem, 1) := by decide +kernel
theorem d_M_controls_66 : decode b_M_controls 66 = .ok (.putfield 58, 3) := by decide +kernel
theorem d_M_controls_69 : decode b_M_controls 69 = .ok (.iload_n 2, 1) := by decide +kernel
theorem d_M_controls_70 : decode b_M_controls 70 = .ok (.ifCond .ne 11, 3) := by decide +kernel
theorem d_M_controls_73 : decode b_M_controls 73 = .ok (.aload_n 0, 1) := by decide +kernel
theorem d_M_controls_74 : decode b_M_controls 74 = .ok (.getfield 23, 3) := by decide +kernel
theorem d_M_controls_77 : decode b_M_controls 77 = .ok (.iconst 3, 1) := by decide +kernel
theorem d_M_controls_78 : decode b_M_controls 78 = .ok (.if_icmp .eq 41, 3) := by decide +kernel
theorem d_M_controls_81 : decode b_M_controls 81 = .ok (.aload_n 0, 1) := by decide +kernel
theorem d_M_controls_82 : decode b_M_controls 82 = .ok (.iconst 0, 1) := by decide +kernel
theorem d_M_controls_83 : decode b_M_controls 83 = .ok (.putfield 61, 3) := by decide +kernel
theorem d_M_controls_86 : decode b_M_controls 86 = .ok (.aload_n 0, 1) := by decide +kernel
theorem d_M_controls_87 : decode b_M_controls 87 = .ok (.iconst 0, 1) := by decide +kernel
theorem d_M_controls_88 : decode b_M_controls 88 = .ok (.putfield 65, 3) := by decide +kernel
theorem d_M_controls_91 : decode b_M_controls 91 = .ok (.aload_n 0, 1) := by decide +kernel
theorem d_M_controls_92 : decode b_M_controls 92 = .ok (.iconst 1, 1) := by decide +kernel
theorem d_M_controls_93 : decode b_M_controls 93 = .ok (.putfield 23, 3) := by decide +kernel
theorem d_M_controls_96 : decode b_M_controls 96 = .ok (.aload_n 0, 1) := by decide +kernel
theorem d_M_controls_97 : decode b_M_controls 97 = .ok (.iload_n 3, 1) := by decide +kernel
theorem d_M_controls_98 : decode b_M_controls 98 = .ok (.ifCond .eq 14, 3) := by decide +kernel
theorem d_M_controls_101 : decode b_M_controls 101 = .ok (.aload_n 0, 1) := by decide +kernel
theorem d_M_controls_102 : decode b_M_controls 102 = .ok (.bipush 56, 2) := by decide +kernel
theorem d_M_controls_104 : decode b_M_controls 104 = .ok (.bipush 8, 2) := by decide +kernel
theorem d_M_controls_106 : decode b_M_controls 106 = .ok (.invokevirtual 40, 3) := by decide +kernel
theorem d_M_controls_109 : decode b_M_controls 109 = .ok (.goto 7, 3) := by decide +kernel
theorem d_M_controls_112 : decode b_M_controls 112 = .ok (.aload_n 0, 1) := by decide +kernel
theorem d_M_controls_113 : decode b_M_controls 113 = .ok (.getfield 68, 3) := by decide +kernel
theorem d_M_controls_116 : decode b_M_controls 116 = .ok (.putfield 68, 3) := by decide +kernel
theorem d_M_controls_119 : decode b_M_controls 119 = .ok (.iload_n 2, 1) := by decide +kernel
theorem d_M_controls_120 : decode b_M_controls 120 = .ok (.ifCond .eq 7, 3) := by decide +kernel
theorem d_M_controls_123 : decode b_M_controls 123 = .ok (.iconst 3, 1) := by decide +kernel
theorem d_M_controls_124 : decode b_M_controls 124 = .ok (.goto 4, 3) := by decide +kernel
theorem d_M_controls_127 : decode b_M_controls 127 = .ok (.iconst 4, 1) := by decide +kernel
theorem d_M_controls_128 : decode b_M_controls 128 = .ok (.ireturn, 1) := by decide +kernel
theorem d_M_inOrder_0 : decode b_M_inOrder 0 = .ok (.aload_n 0, 1) := by decide +kernel
theorem d_M_inOrder_1 : decode b_M_inOrder 1 = .ok (.bipush 32, 2) := by decide +kernel
theorem d_M_inOrder_3 : decode b_M_inOrder 3 = .ok (.bipush 8, 2) := by decide +kernel
theorem d_M_inOrder_5 : decode b_M_inOrder 5 = .ok (.invokevirtual 40, 3) := by decide +kernel
theorem d_M_inOrder_8 : decode b_M_inOrder 8 = .ok (.aload_n 0, 1) := by decide +kernel
theorem d_M_inOrder_9 : decode b_M_inOrder 9 = .ok (.getfield 68, 3) := by decide +kernel
theorem d_M_inOrder_12 : decode b_M_inOrder 12 = .ok (.isub, 1) := by decide +kernel
theorem d_M_inOrder_13 : decode b_M_inOrder 13 = .ok (.sipush 256, 3) := by decide +kernel
theorem d_M_inOrder_16 : decode b_M_inOrder 16 = .ok (.iadd, 1) := by decide +kernel
theorem d_M_inOrder_17 : decode b_M_inOrder 17 = .ok (.sipush 256, 3) := by decide +kernel
theorem d_M_inOrder_20 : decode b_M_inOrder 20 = .ok (.irem, 1) := by decide +kernel
theorem d_M_inOrder_21 : decode b_M_inOrder 21 = .ok (.istore_n 2, 1) := by decide +kernel
theorem d_M_inOrder_22 : decode b_M_inOrder 22 = .ok (.iload_n 2, 1) := by decide +kernel
theorem d_M_inOrder_23 : decode b_M_inOrder 23 = .ok (.ifCond .ne 46, 3) := by decide +kernel
theorem d_M_inOrder_26 : decode b_M_inOrder 26 = .ok (.aload_n 0, 1) := by decide +kernel
theorem d_M_inOrder_27 : decode b_M_inOrder 27 = .ok (.getfield 23, 3) := by decide +kernel
theorem d_M_inOrder_30 : decode b_M_inOrder 30 = .ok (.iconst 1, 1) := by decide +kernel
theorem d_M_inOrder_31 : decode b_M_inOrder 31 = .ok (.if_icmp .ne 38, 3) := by decide +kernel
theorem d_M_inOrder_34 : decode b_M_inOrder 34 = .ok (.aload_n 0, 1) := by decide +kernel
theorem d_M_inOrder_35 : decode b_M_inOrder 35 = .ok (.getfield 47, 3) := by decide +kernel
theorem d_M_inOrder_38 : decode b_M_inOrder 38 = .ok (.bipush 8, 2) := by decide +kernel
theorem d_M_inOrder_40 : decode b_M_inOrder 40 = .ok (.if_icmp .ge 29, 3) := by decide +kernel
theorem d_M_inOrder_43 : decode b_M_inOrder 43 = .ok (.aload_n 0, 1) := by decide +kernel
theorem d_M_inOrder_44 : decode b_M_inOrder 44 = .ok (.iload_n 1, 1) := by decide +kernel
theorem d_M_inOrder_45 : decode b_M_inOrder 45 = .ok (.invokevirtual 71, 3) := by decide +kernel
theorem d_M_inOrder_48 : decode b_M_inOrder 48 = .ok (.aload_n 0, 1) := by decide +kernel
theorem d_M_inOrder_49 : decode b_M_inOrder 49 = .ok (.aload_n 0, 1) := by decide +kernel
theorem d_M_inOrder_50 : decode b_M_inOrder 50 = .ok (.getfield 68, 3) := by decide +kernel
theorem d_M_inOrder_53 : decode b_M_inOrder 53 = .ok (.iconst 1, 1) := by decide +kernel
theorem d_M_inOrder_54 : decode b_M_inOrder 54 = .ok (.iadd, 1) := by decide +kernel
theorem d_M_inOrder_55 : decode b_M_inOrder 55 = .ok (.sipush 256, 3) := by decide +kernel
theorem d_M_inOrder_58 : decode b_M_inOrder 58 = .ok (.irem, 1) := by decide +kernel
theorem d_M_inOrder_59 : decode b_M_inOrder 59 = .ok (.putfield 68, 3) := by decide +kernel
theorem d_M_inOrder_62 : decode b_M_inOrder 62 = .ok (.aload_n 0, 1) := by decide +kernel
theorem d_M_inOrder_63 : decode b_M_inOrder 63 = .ok (.iconst 0, 1) := by decide +kernel
theorem d_M_inOrder_64 : decode b_M_inOrder 64 = .ok (.putfield 61, 3) := by decide +kernel
theorem d_M_inOrder_67 : decode b_M_inOrder 67 = .ok (.iconst 1, 1) := by decide +kernel
theorem d_M_inOrder_68 : decode b_M_inOrder 68 = .ok (.ireturn, 1) := by decide +kernel
theorem d_M_inOrder_69 : decode b_M_inOrder 69 = .ok (.iload_n 2, 1) := by decide +kernel
theorem d_M_inOrder_70 : decode b_M_inOrder 70 = .ok (.ifCond .ne 29, 3) := by decide +kernel
theorem d_M_inOrder_73 : decode b_M_inOrder 73 = .ok (.aload_n 0, 1) := by decide +kernel
theorem d_M_inOrder_74 : decode b_M_inOrder 74 = .ok (.getfield 23, 3) := by decide +kernel
theorem d_M_inOrder_77 : decode b_M_inOrder 77 = .ok (.iconst 1, 1) := by decide +kernel
theorem d_M_inOrder_78 : decode b_M_inOrder 78 = .ok (.if_icmp .ne 21, 3) := by decide +kernel
theorem d_M_inOrder_81 : decode b_M_inOrder 81 = .ok (.aload_n 0, 1) := by decide +kernel
theorem d_M_inOrder_82 : decode b_M_inOrder 82 = .ok (.iconst 1, 1) := by decide +kernel
theorem d_M_inOrder_83 : decode b_M_inOrder 83 = .ok (.putfield 61, 3) := by decide +kernel
theorem d_M_inOrder_86 : decode b_M_inOrder 86 = .ok (.aload_n 0, 1) := by decide +kernel
theorem d_M_inOrder_87 : decode b_M_inOrder 87 = .ok (.iconst 1, 1) := by decide +kernel
theorem d_M_inOrder_88 : decode b_M_inOrder 88 = .ok (.putfield 65, 3) := by decide +kernel
theorem d_M_inOrder_91 : decode b_M_inOrder 91 = .ok (.aload_n 0, 1) := by decide +kernel
theorem d_M_inOrder_92 : decode b_M_inOrder 92 = .ok (.iconst 2, 1) := by decide +kernel
theorem d_M_inOrder_93 : decode b_M_inOrder 93 = .ok (.putfield 23, 3) := by decide +kernel
theorem d_M_inOrder_96 : decode b_M_inOrder 96 = .ok (.goto 55, 3) := by decide +kernel
theorem d_M_inOrder_99 : decode b_M_inOrder 99 = .ok (.iload_n 2, 1) := by decide +kernel
theorem d_M_inOrder_100 : decode b_M_inOrder 100 = .ok (.ifCond .le 25, 3) := by decide +kernel
theorem d_M_inOrder_103 : decode b_M_inOrder 103 = .ok (.iload_n 2, 1) := by decide +kernel
theorem d_M_inOrder_104 : decode b_M_inOrder 104 = .ok (.bipush 10, 2) := by decide +kernel
theorem d_M_inOrder_106 : decode b_M_inOrder 106 = .ok (.if_icmp .ge 19, 3) := by decide +kernel
theorem d_M_inOrder_109 : decode b_M_inOrder 109 = .ok (.aload_n 0, 1) := by decide +kernel
theorem d_M_inOrder_110 : decode b_M_inOrder 110 = .ok (.getfield 23, 3) := by decide +kernel
theorem d_M_inOrder_113 : decode b_M_inOrder 113 = .ok (.iconst 1, 1) := by decide +kernel
theorem d_M_inOrder_114 : decode b_M_inOrder 114 = .ok (.if_icmp .ne 11, 3) := by decide +kernel
theorem d_M_inOrder_117 : decode b_M_inOrder 117 = .ok (.aload_n 0, 1) := by decide +kernel
theorem d_M_inOrder_118 : decode b_M_inOrder 118 = .ok (.iconst 1, 1) := by decide +kernel
theorem d_M_inOrder_119 : decode b_M_inOrder 119 = .ok (.putfield 61, 3) := by decide +kernel
theorem d_M_inOrder_122 : decode b_M_inOrder 122 = .ok (.goto 29, 3) := by decide +kernel
theorem d_M_inOrder_125 : decode b_M_inOrder 125 = .ok (.iload_n 2, 1) := by decide +kernel
theorem d_M_inOrder_126 : decode b_M_inOrder 126 = .ok (.bipush 9, 2) := by decide +kernel
theorem d_M_inOrder_128 : decode b_M_inOrder 128 = .ok (.if_icmp .le 23, 3) := by decide +kernel
theorem d_M_inOrder_131 : decode b_M_inOrder 131 = .ok (.iload_n 2, 1) := by decide +kernel
theorem d_M_inOrder_132 : decode b_M_inOrder 132 = .ok (.sipush 246, 3) := by decide +kernel
theorem d_M_inOrder_135 : decode b_M_inOrder 135 = .ok (.if_icmp .ge 16, 3) := by decide +kernel
theorem d_M_inOrder_138 : decode b_M_inOrder 138 = .ok (.aload_n 0, 1) := by decide +kernel
theorem d_M_inOrder_139 : decode b_M_inOrder 139 = .ok (.getfield 23, 3) := by decide +kernel
theorem d_M_inOrder_142 : decode b_M_inOrder 142 = .ok (.iconst 3, 1) := by decide +kernel
theorem d_M_inOrder_143 : decode b_M_inOrder 143 = .ok (.if_icmp .eq 8, 3) := by decide +kernel
theorem d_M_inOrder_146 : decode b_M_inOrder 146 = .ok (.aload_n 0, 1) := by decide +kernel
theorem d_M_inOrder_147 : decode b_M_inOrder 147 = .ok (.iconst 3, 1) := by decide +kernel
theorem d_M_inOrder_148 : decode b_M_inOrder 148 = .ok (.putfield 23, 3) := by decide +kernel
theorem d_M_inOrder_151 : decode b_M_inOrder 151 = .ok (.iconst 5, 1) := by decide +kernel
theorem d_M_inOrder_152 : decode b_M_inOrder 152 = .ok (.ireturn, 1) := by decide +kernel
theorem d_M_frame_0 : decode b_M_frame 0 = .ok (.aload_n 0, 1) := by decide +kernel
theorem d_M_frame_1 : decode b_M_frame 1 = .ok (.iconst 0, 1) := by decide +kernel
theorem d_M_frame_2 : decode b_M_frame 2 = .ok (.putfield 27, 3) := by decide +kernel
theorem d_M_frame_5 : decode b_M_frame 5 = .ok (.aload_n 0, 1) := by decide +kernel
theorem d_M_frame_6 : decode b_M_frame 6 = .ok (.aload_n 0, 1) := by decide +kernel
theorem d_M_frame_7 : decode b_M_frame 7 = .ok (.getfield 30, 3) := by decide +kernel
theorem d_M_frame_10 : decode b_M_frame 10 = .ok (.invokevirtual 75, 3) := by decide +kernel
theorem d_M_frame_13 : decode b_M_frame 13 = .ok (.istore_n 1, 1) := by decide +kernel
theorem d_M_frame_14 : decode b_M_frame 14 = .ok (.aload_n 0, 1) := by decide +kernel
theorem d_M_frame_15 : decode b_M_frame 15 = .ok (.iconst 0, 1) := by decide +kernel
theorem d_M_frame_16 : decode b_M_frame 16 = .ok (.putfield 30, 3) := by decide +kernel
theorem d_M_frame_19 : decode b_M_frame 19 = .ok (.iload_n 1, 1) := by decide +kernel
theorem d_M_frame_20 : decode b_M_frame 20 = .ok (.bipush 6, 2) := by decide +kernel
theorem d_M_frame_22 : decode b_M_frame 22 = .ok (.isub, 1) := by decide +kernel
theorem d_M_frame_23 : decode b_M_frame 23 = .ok (.istore_n 2, 1) := by decide +kernel
theorem d_M_frame_24 : decode b_M_frame 24 = .ok (.iload_n 1, 1) := by decide +kernel
theorem d_M_frame_25 : decode b_M_frame 25 = .ok (.ifCond .ne 8, 3) := by decide +kernel
theorem d_M_frame_28 : decode b_M_frame 28 = .ok (.aload_n 0, 1) := by decide +kernel
theorem d_M_frame_29 : decode b_M_frame 29 = .ok (.invokevirtual 54, 3) := by decide +kernel
theorem d_M_frame_32 : decode b_M_frame 32 = .ok (.ireturn, 1) := by decide +kernel
theorem d_M_frame_33 : decode b_M_frame 33 = .ok (.aload_n 0, 1) := by decide +kernel
theorem d_M_frame_34 : decode b_M_frame 34 = .ok (.iconst 2, 1) := by decide +kernel
theorem d_M_frame_35 : decode b_M_frame 35 = .ok (.iconst 2, 1) := by decide +kernel
theorem d_M_frame_36 : decode b_M_frame 36 = .ok (.invokevirtual 40, 3) := by decide +kernel
theorem d_M_frame_39 : decode b_M_frame 39 = .ok (.iconst 3, 1) := by decide +kernel
theorem d_M_frame_40 : decode b_M_frame 40 = .ok (.if_icmp .ne 9, 3) := by decide +kernel
theorem d_M_frame_43 : decode b_M_frame 43 = .ok (.aload_n 0, 1) := by decide +kernel
theorem d_M_frame_44 : decode b_M_frame 44 = .ok (.iload_n 2, 1) := by decide +kernel
theorem d_M_frame_45 : decode b_M_frame 45 = .ok (.invokevirtual 78, 3) := by decide +kernel
theorem d_M_frame_48 : decode b_M_frame 48 = .ok (.ireturn, 1) := by decide +kernel
theorem d_M_frame_49 : decode b_M_frame 49 = .ok (.aload_n 0, 1) := by decide +kernel
theorem d_M_frame_50 : decode b_M_frame 50 = .ok (.iconst 2, 1) := by decide +kernel
theorem d_M_frame_51 : decode b_M_frame 51 = .ok (.iconst 1, 1) := by decide +kernel
theorem d_M_frame_52 : decode b_M_frame 52 = .ok (.invokevirtual 40, 3) := by decide +kernel
theorem d_M_frame_55 : decode b_M_frame 55 = .ok (.ifCond .ne 9, 3) := by decide +kernel
theorem d_M_frame_58 : decode b_M_frame 58 = .ok (.aload_n 0, 1) := by decide +kernel
theorem d_M_frame_59 : decode b_M_frame 59 = .ok (.iload_n 2, 1) := by decide +kernel
theorem d_M_frame_60 : decode b_M_frame 60 = .ok (.invokevirtual 81, 3) := by decide +kernel
theorem d_M_frame_63 : decode b_M_frame 63 = .ok (.ireturn, 1) := by decide +kernel
theorem d_M_frame_64 : decode b_M_frame 64 = .ok (.aload_n 0, 1) := by decide +kernel
theorem d_M_frame_65 : decode b_M_frame 65 = .ok (.getfield 47, 3) := by decide +kernel
theorem d_M_frame_68 : decode b_M_frame 68 = .ok (.bipush 8, 2) := by decide +kernel
theorem d_M_frame_70 : decode b_M_frame 70 = .ok (.if_icmp .ne 8, 3) := by decide +kernel
theorem d_M_frame_73 : decode b_M_frame 73 = .ok (.aload_n 0, 1) := by decide +kernel
theorem d_M_frame_74 : decode b_M_frame 74 = .ok (.invokevirtual 54, 3) := by decide +kernel
theorem d_M_frame_77 : decode b_M_frame 77 = .ok (.ireturn, 1) := by decide +kernel
theorem d_M_frame_78 : decode b_M_frame 78 = .ok (.aload_n 0, 1) := by decide +kernel
theorem d_M_frame_79 : decode b_M_frame 79 = .ok (.iload_n 2, 1) := by decide +kernel
theorem d_M_frame_80 : decode b_M_frame 80 = .ok (.invokevirtual 71, 3) := by decide +kernel
theorem d_M_frame_83 : decode b_M_frame 83 = .ok (.aload_n 0, 1) := by decide +kernel
theorem d_M_frame_84 : decode b_M_frame 84 = .ok (.aload_n 0, 1) := by decide +kernel
theorem d_M_frame_85 : decode b_M_frame 85 = .ok (.getfield 58, 3) := by decide +kernel
theorem d_M_frame_88 : decode b_M_frame 88 = .ok (.iconst 1, 1) := by decide +kernel
theorem d_M_frame_89 : decode b_M_frame 89 = .ok (.iadd, 1) := by decide +kernel
theorem d_M_frame_90 : decode b_M_frame 90 = .ok (.iconst 4, 1) := by decide +kernel
theorem d_M_frame_91 : decode b_M_frame 91 = .ok (.irem, 1) := by decide +kernel
theorem d_M_frame_92 : decode b_M_frame 92 = .ok (.putfield 58, 3) := by decide +kernel
theorem d_M_frame_95 : decode b_M_frame 95 = .ok (.iconst 2, 1) := by decide +kernel
theorem d_M_frame_96 : decode b_M_frame 96 = .ok (.ireturn, 1) := by decide +kernel
theorem d_M_take_0 : decode b_M_take 0 = .ok (.aload_n 0, 1) := by decide +kernel
theorem d_M_take_1 : decode b_M_take 1 = .ok (.iconst 0, 1) := by decide +kernel
theorem d_M_take_2 : decode b_M_take 2 = .ok (.putfield 27, 3) := by decide +kernel
theorem d_M_take_5 : decode b_M_take 5 = .ok (.aload_n 0, 1) := by decide +kernel
theorem d_M_take_6 : decode b_M_take 6 = .ok (.getfield 47, 3) := by decide +kernel
theorem d_M_take_9 : decode b_M_take 9 = .ok (.ifCond .ne 5, 3) := by decide +kernel
theorem d_M_take_12 : decode b_M_take 12 = .ok (.iconst (-1), 1) := by decide +kernel
theorem d_M_take_13 : decode b_M_take 13 = .ok (.ireturn, 1) := by decide +kernel
theorem d_M_take_14 : decode b_M_take 14 = .ok (.aload_n 0, 1) := by decide +kernel
theorem d_M_take_15 : decode b_M_take 15 = .ok (.aload_n 0, 1) := by decide +kernel
theorem d_M_take_16 : decode b_M_take 16 = .ok (.getfield 16, 3) := by decide +kernel
theorem d_M_take_19 : decode b_M_take 19 = .ok (.iconst 0, 1) := by decide +kernel
theorem d_M_take_20 : decode b_M_take 20 = .ok (.iaload, 1) := by decide +kernel
theorem d_M_take_21 : decode b_M_take 21 = .ok (.putfield 84, 3) := by decide +kernel
theorem d_M_take_24 : decode b_M_take 24 = .ok (.iconst 0, 1) := by decide +kernel
theorem d_M_take_25 : decode b_M_take 25 = .ok (.istore_n 1, 1) := by decide +kernel
theorem d_M_take_26 : decode b_M_take 26 = .ok (.iload_n 1, 1) := by decide +kernel
theorem d_M_take_27 : decode b_M_take 27 = .ok (.aload_n 0, 1) := by decide +kernel
theorem d_M_take_28 : decode b_M_take 28 = .ok (.getfield 84, 3) := by decide +kernel
theorem d_M_take_31 : decode b_M_take 31 = .ok (.if_icmp .ge 21, 3) := by decide +kernel
theorem d_M_take_34 : decode b_M_take 34 = .ok (.aload_n 0, 1) := by decide +kernel
theorem d_M_take_35 : decode b_M_take 35 = .ok (.getfield 20, 3) := by decide +kernel
theorem d_M_take_38 : decode b_M_take 38 = .ok (.iload_n 1, 1) := by decide +kernel
theorem d_M_take_39 : decode b_M_take 39 = .ok (.aload_n 0, 1) := by decide +kernel
theorem d_M_take_40 : decode b_M_take 40 = .ok (.getfield 13, 3) := by decide +kernel
theorem d_M_take_43 : decode b_M_take 43 = .ok (.iload_n 1, 1) := by decide +kernel
theorem d_M_take_44 : decode b_M_take 44 = .ok (.baload, 1) := by decide +kernel
theorem d_M_take_45 : decode b_M_take 45 = .ok (.bastore, 1) := by decide +kernel
theorem d_M_take_46 : decode b_M_take 46 = .ok (.iinc 1 1, 3) := by decide +kernel
theorem d_M_take_49 : decode b_M_take 49 = .ok (.goto (-23), 3) := by decide +kernel
theorem d_M_take_52 : decode b_M_take 52 = .ok (.aload_n 0, 1) := by decide +kernel
theorem d_M_take_53 : decode b_M_take 53 = .ok (.dup, 1) := by decide +kernel
theorem d_M_take_54 : decode b_M_take 54 = .ok (.getfield 47, 3) := by decide +kernel
theorem d_M_take_57 : decode b_M_take 57 = .ok (.iconst 1, 1) := by decide +kernel
theorem d_M_take_58 : decode b_M_take 58 = .ok (.isub, 1) := by decide +kernel
theorem d_M_take_59 : decode b_M_take 59 = .ok (.putfield 47, 3) := by decide +kernel
theorem d_M_take_62 : decode b_M_take 62 = .ok (.iconst 0, 1) := by decide +kernel
theorem d_M_take_63 : decode b_M_take 63 = .ok (.istore_n 1, 1) := by decide +kernel
theorem d_M_take_64 : decode b_M_take 64 = .ok (.iload_n 1, 1) := by decide +kernel
theorem d_M_take_65 : decode b_M_take 65 = .ok (.aload_n 0, 1) := by decide +kernel
theorem d_M_take_66 : decode b_M_take 66 = .ok (.getfield 47, 3) := by decide +kernel
theorem d_M_take_69 : decode b_M_take 69 = .ok (.if_icmp .ge 23, 3) := by decide +kernel
theorem d_M_take_72 : decode b_M_take 72 = .ok (.aload_n 0, 1) := by decide +kernel
theorem d_M_take_73 : decode b_M_take 73 = .ok (.getfield 16, 3) := by decide +kernel
theorem d_M_take_76 : decode b_M_take 76 = .ok (.iload_n 1, 1) := by decide +kernel
theorem d_M_take_77 : decode b_M_take 77 = .ok (.aload_n 0, 1) := by decide +kernel
theorem d_M_take_78 : decode b_M_take 78 = .ok (.getfield 16, 3) := by decide +kernel
theorem d_M_take_81 : decode b_M_take 81 = .ok (.iload_n 1, 1) := by decide +kernel
theorem d_M_take_82 : decode b_M_take 82 = .ok (.iconst 1, 1) := by decide +kernel
theorem d_M_take_83 : decode b_M_take 83 = .ok (.iadd, 1) := by decide +kernel
theorem d_M_take_84 : decode b_M_take 84 = .ok (.iaload, 1) := by decide +kernel
theorem d_M_take_85 : decode b_M_take 85 = .ok (.iastore, 1) := by decide +kernel
theorem d_M_take_86 : decode b_M_take 86 = .ok (.iinc 1 1, 3) := by decide +kernel
theorem d_M_take_89 : decode b_M_take 89 = .ok (.goto (-25), 3) := by decide +kernel
theorem d_M_take_92 : decode b_M_take 92 = .ok (.iconst 0, 1) := by decide +kernel
theorem d_M_take_93 : decode b_M_take 93 = .ok (.istore_n 1, 1) := by decide +kernel
theorem d_M_take_94 : decode b_M_take 94 = .ok (.iload_n 1, 1) := by decide +kernel
theorem d_M_take_95 : decode b_M_take 95 = .ok (.sipush 256, 3) := by decide +kernel
theorem d_M_take_98 : decode b_M_take 98 = .ok (.aload_n 0, 1) := by decide +kernel
theorem d_M_take_99 : decode b_M_take 99 = .ok (.getfield 47, 3) := by decide +kernel
theorem d_M_take_102 : decode b_M_take 102 = .ok (.imul, 1) := by decide +kernel
theorem d_M_take_103 : decode b_M_take 103 = .ok (.if_icmp .ge 25, 3) := by decide +kernel
theorem d_M_take_106 : decode b_M_take 106 = .ok (.aload_n 0, 1) := by decide +kernel
theorem d_M_take_107 : decode b_M_take 107 = .ok (.getfield 13, 3) := by decide +kernel
theorem d_M_take_110 : decode b_M_take 110 = .ok (.iload_n 1, 1) := by decide +kernel
theorem d_M_take_111 : decode b_M_take 111 = .ok (.aload_n 0, 1) := by decide +kernel
theorem d_M_take_112 : decode b_M_take 112 = .ok (.getfield 13, 3) := by decide +kernel
theorem d_M_take_115 : decode b_M_take 115 = .ok (.iload_n 1, 1) := by decide +kernel
theorem d_M_take_116 : decode b_M_take 116 = .ok (.sipush 256, 3) := by decide +kernel
theorem d_M_take_119 : decode b_M_take 119 = .ok (.iadd, 1) := by decide +kernel
theorem d_M_take_120 : decode b_M_take 120 = .ok (.baload, 1) := by decide +kernel
theorem d_M_take_121 : decode b_M_take 121 = .ok (.bastore, 1) := by decide +kernel
theorem d_M_take_122 : decode b_M_take 122 = .ok (.iinc 1 1, 3) := by decide +kernel
theorem d_M_take_125 : decode b_M_take 125 = .ok (.goto (-31), 3) := by decide +kernel
theorem d_M_take_128 : decode b_M_take 128 = .ok (.aload_n 0, 1) := by decide +kernel
theorem d_M_take_129 : decode b_M_take 129 = .ok (.getfield 84, 3) := by decide +kernel
theorem d_M_take_132 : decode b_M_take 132 = .ok (.ireturn, 1) := by decide +kernel
theorem d_M_byteAt_0 : decode b_M_byteAt 0 = .ok (.aload_n 0, 1) := by decide +kernel
theorem d_M_byteAt_1 : decode b_M_byteAt 1 = .ok (.iconst 0, 1) := by decide +kernel
theorem d_M_byteAt_2 : decode b_M_byteAt 2 = .ok (.putfield 27, 3) := by decide +kernel
theorem d_M_byteAt_5 : decode b_M_byteAt 5 = .ok (.iload_n 1, 1) := by decide +kernel
theorem d_M_byteAt_6 : decode b_M_byteAt 6 = .ok (.ifCond .lt 24, 3) := by decide +kernel
theorem d_M_byteAt_9 : decode b_M_byteAt 9 = .ok (.iload_n 1, 1) := by decide +kernel
theorem d_M_byteAt_10 : decode b_M_byteAt 10 = .ok (.aload_n 0, 1) := by decide +kernel
theorem d_M_byteAt_11 : decode b_M_byteAt 11 = .ok (.getfield 84, 3) := by decide +kernel
theorem d_M_byteAt_14 : decode b_M_byteAt 14 = .ok (.if_icmp .ge 16, 3) := by decide +kernel
theorem d_M_byteAt_17 : decode b_M_byteAt 17 = .ok (.aload_n 0, 1) := by decide +kernel
theorem d_M_byteAt_18 : decode b_M_byteAt 18 = .ok (.getfield 20, 3) := by decide +kernel
theorem d_M_byteAt_21 : decode b_M_byteAt 21 = .ok (.iload_n 1, 1) := by decide +kernel
theorem d_M_byteAt_22 : decode b_M_byteAt 22 = .ok (.baload, 1) := by decide +kernel
theorem d_M_byteAt_23 : decode b_M_byteAt 23 = .ok (.sipush 255, 3) := by decide +kernel
theorem d_M_byteAt_26 : decode b_M_byteAt 26 = .ok (.iand, 1) := by decide +kernel
theorem d_M_byteAt_27 : decode b_M_byteAt 27 = .ok (.goto 4, 3) := by decide +kernel
theorem d_M_byteAt_30 : decode b_M_byteAt 30 = .ok (.iconst (-1), 1) := by decide +kernel
theorem d_M_byteAt_31 : decode b_M_byteAt 31 = .ok (.ireturn, 1) := by decide +kernel
theorem d_M_release_0 : decode b_M_release 0 = .ok (.aload_n 0, 1) := by decide +kernel
theorem d_M_release_1 : decode b_M_release 1 = .ok (.iconst 0, 1) := by decide +kernel
theorem d_M_release_2 : decode b_M_release 2 = .ok (.putfield 27, 3) := by decide +kernel
theorem d_M_release_5 : decode b_M_release 5 = .ok (.aload_n 0, 1) := by decide +kernel
theorem d_M_release_6 : decode b_M_release 6 = .ok (.getfield 65, 3) := by decide +kernel
theorem d_M_release_9 : decode b_M_release 9 = .ok (.ifCond .ne 11, 3) := by decide +kernel
theorem d_M_release_12 : decode b_M_release 12 = .ok (.aload_n 0, 1) := by decide +kernel
theorem d_M_release_13 : decode b_M_release 13 = .ok (.getfield 23, 3) := by decide +kernel
theorem d_M_release_16 : decode b_M_release 16 = .ok (.iconst 2, 1) := by decide +kernel
theorem d_M_release_17 : decode b_M_release 17 = .ok (.if_icmp .ne 7, 3) := by decide +kernel
theorem d_M_release_20 : decode b_M_release 20 = .ok (.iconst 1, 1) := by decide +kernel
theorem d_M_release_21 : decode b_M_release 21 = .ok (.goto 4, 3) := by decide +kernel
theorem d_M_release_24 : decode b_M_release 24 = .ok (.iconst 0, 1) := by decide +kernel
theorem d_M_release_25 : decode b_M_release 25 = .ok (.istore_n 1, 1) := by decide +kernel
theorem d_M_release_26 : decode b_M_release 26 = .ok (.aload_n 0, 1) := by decide +kernel
theorem d_M_release_27 : decode b_M_release 27 = .ok (.iconst 0, 1) := by decide +kernel
theorem d_M_release_28 : decode b_M_release 28 = .ok (.putfield 65, 3) := by decide +kernel
theorem d_M_release_31 : decode b_M_release 31 = .ok (.aload_n 0, 1) := by decide +kernel
theorem d_M_release_32 : decode b_M_release 32 = .ok (.aload_n 0, 1) := by decide +kernel
theorem d_M_release_33 : decode b_M_release 33 = .ok (.getfield 23, 3) := by decide +kernel
theorem d_M_release_36 : decode b_M_release 36 = .ok (.iconst 2, 1) := by decide +kernel
theorem d_M_release_37 : decode b_M_release 37 = .ok (.if_icmp .ne 7, 3) := by decide +kernel
theorem d_M_release_40 : decode b_M_release 40 = .ok (.iconst 1, 1) := by decide +kernel
theorem d_M_release_41 : decode b_M_release 41 = .ok (.goto 7, 3) := by decide +kernel
theorem d_M_release_44 : decode b_M_release 44 = .ok (.aload_n 0, 1) := by decide +kernel
theorem d_M_release_45 : decode b_M_release 45 = .ok (.getfield 23, 3) := by decide +kernel
theorem d_M_release_48 : decode b_M_release 48 = .ok (.putfield 23, 3) := by decide +kernel
theorem d_M_release_51 : decode b_M_release 51 = .ok (.iload_n 1, 1) := by decide +kernel
theorem d_M_release_52 : decode b_M_release 52 = .ok (.ireturn, 1) := by decide +kernel
theorem d_M_word_0 : decode b_M_word 0 = .ok (.aload_n 0, 1) := by decide +kernel
theorem d_M_word_1 : decode b_M_word 1 = .ok (.iconst 0, 1) := by decide +kernel
theorem d_M_word_2 : decode b_M_word 2 = .ok (.putfield 27, 3) := by decide +kernel
theorem d_M_word_5 : decode b_M_word 5 = .ok (.iconst 1, 1) := by decide +kernel
theorem d_M_word_6 : decode b_M_word 6 = .ok (.istore_n 1, 1) := by decide +kernel
theorem d_M_word_7 : decode b_M_word 7 = .ok (.iconst 2, 1) := by decide +kernel
theorem d_M_word_8 : decode b_M_word 8 = .ok (.iload_n 1, 1) := by decide +kernel
theorem d_M_word_9 : decode b_M_word 9 = .ok (.sipush 256, 3) := by decide +kernel
theorem d_M_word_12 : decode b_M_word 12 = .ok (.imul, 1) := by decide +kernel
theorem d_M_word_13 : decode b_M_word 13 = .ok (.iconst 4, 1) := by decide +kernel
theorem d_M_word_14 : decode b_M_word 14 = .ok (.imul, 1) := by decide +kernel
theorem d_M_word_15 : decode b_M_word 15 = .ok (.imul, 1) := by decide +kernel
theorem d_M_word_16 : decode b_M_word 16 = .ok (.aload_n 0, 1) := by decide +kernel
theorem d_M_word_17 : decode b_M_word 17 = .ok (.getfield 23, 3) := by decide +kernel
theorem d_M_word_20 : decode b_M_word 20 = .ok (.iconst 3, 1) := by decide +kernel
theorem d_M_word_21 : decode b_M_word 21 = .ok (.if_icmp .ne 7, 3) := by decide +kernel
theorem d_M_word_24 : decode b_M_word 24 = .ok (.iconst 1, 1) := by decide +kernel
theorem d_M_word_25 : decode b_M_word 25 = .ok (.goto 4, 3) := by decide +kernel
theorem d_M_word_28 : decode b_M_word 28 = .ok (.iconst 0, 1) := by decide +kernel
theorem d_M_word_29 : decode b_M_word 29 = .ok (.iadd, 1) := by decide +kernel
theorem d_M_word_30 : decode b_M_word 30 = .ok (.istore_n 1, 1) := by decide +kernel
theorem d_M_word_31 : decode b_M_word 31 = .ok (.iconst 2, 1) := by decide +kernel
theorem d_M_word_32 : decode b_M_word 32 = .ok (.iload_n 1, 1) := by decide +kernel
theorem d_M_word_33 : decode b_M_word 33 = .ok (.imul, 1) := by decide +kernel
theorem d_M_word_34 : decode b_M_word 34 = .ok (.aload_n 0, 1) := by decide +kernel
theorem d_M_word_35 : decode b_M_word 35 = .ok (.getfield 65, 3) := by decide +kernel
theorem d_M_word_38 : decode b_M_word 38 = .ok (.ifCond .eq 7, 3) := by decide +kernel
theorem d_M_word_41 : decode b_M_word 41 = .ok (.iconst 1, 1) := by decide +kernel
theorem d_M_word_42 : decode b_M_word 42 = .ok (.goto 4, 3) := by decide +kernel
theorem d_M_word_45 : decode b_M_word 45 = .ok (.iconst 0, 1) := by decide +kernel
theorem d_M_word_46 : decode b_M_word 46 = .ok (.iadd, 1) := by decide +kernel
theorem d_M_word_47 : decode b_M_word 47 = .ok (.istore_n 1, 1) := by decide +kernel
theorem d_M_word_48 : decode b_M_word 48 = .ok (.iconst 2, 1) := by decide +kernel
theorem d_M_word_49 : decode b_M_word 49 = .ok (.iload_n 1, 1) := by decide +kernel
theorem d_M_word_50 : decode b_M_word 50 = .ok (.imul, 1) := by decide +kernel
theorem d_M_word_51 : decode b_M_word 51 = .ok (.aload_n 0, 1) := by decide +kernel
theorem d_M_word_52 : decode b_M_word 52 = .ok (.getfield 61, 3) := by decide +kernel
theorem d_M_word_55 : decode b_M_word 55 = .ok (.ifCond .eq 7, 3) := by decide +kernel
theorem d_M_word_58 : decode b_M_word 58 = .ok (.iconst 1, 1) := by decide +kernel
theorem d_M_word_59 : decode b_M_word 59 = .ok (.goto 4, 3) := by decide +kernel
theorem d_M_word_62 : decode b_M_word 62 = .ok (.iconst 0, 1) := by decide +kernel
theorem d_M_word_63 : decode b_M_word 63 = .ok (.iadd, 1) := by decide +kernel
theorem d_M_word_64 : decode b_M_word 64 = .ok (.istore_n 1, 1) := by decide +kernel
theorem d_M_word_65 : decode b_M_word 65 = .ok (.iconst 4, 1) := by decide +kernel
theorem d_M_word_66 : decode b_M_word 66 = .ok (.iload_n 1, 1) := by decide +kernel
theorem d_M_word_67 : decode b_M_word 67 = .ok (.imul, 1) := by decide +kernel
theorem d_M_word_68 : decode b_M_word 68 = .ok (.aload_n 0, 1) := by decide +kernel
theorem d_M_word_69 : decode b_M_word 69 = .ok (.getfield 58, 3) := by decide +kernel
theorem d_M_word_72 : decode b_M_word 72 = .ok (.iadd, 1) := by decide +kernel
theorem d_M_word_73 : decode b_M_word 73 = .ok (.istore_n 1, 1) := by decide +kernel
theorem d_M_word_74 : decode b_M_word 74 = .ok (.sipush 512, 3) := by decide +kernel
theorem d_M_word_77 : decode b_M_word 77 = .ok (.iload_n 1, 1) := by decide +kernel
theorem d_M_word_78 : decode b_M_word 78 = .ok (.imul, 1) := by decide +kernel
theorem d_M_word_79 : decode b_M_word 79 = .ok (.aload_n 0, 1) := by decide +kernel
theorem d_M_word_80 : decode b_M_word 80 = .ok (.getfield 68, 3) := by decide +kernel
theorem d_M_word_83 : decode b_M_word 83 = .ok (.iadd, 1) := by decide +kernel
theorem d_M_word_84 : decode b_M_word 84 = .ok (.ireturn, 1) := by decide +kernel
theorem d_M_about_0 : decode b_M_about 0 = .ok (.aload_n 0, 1) := by decide +kernel
theorem d_M_about_1 : decode b_M_about 1 = .ok (.iconst 0, 1) := by decide +kernel
theorem d_M_about_2 : decode b_M_about 2 = .ok (.putfield 27, 3) := by decide +kernel
theorem d_M_about_5 : decode b_M_about 5 = .ok (.iload_n 1, 1) := by decide +kernel
theorem d_M_about_6 : decode b_M_about 6 = .ok (.ifCond .ne 10, 3) := by decide +kernel
theorem d_M_about_9 : decode b_M_about 9 = .ok (.aload_n 0, 1) := by decide +kernel
theorem d_M_about_10 : decode b_M_about 10 = .ok (.getfield 23, 3) := by decide +kernel
theorem d_M_about_13 : decode b_M_about 13 = .ok (.goto 52, 3) := by decide +kernel
theorem d_M_about_16 : decode b_M_about 16 = .ok (.iload_n 1, 1) := by decide +kernel
theorem d_M_about_17 : decode b_M_about 17 = .ok (.iconst 1, 1) := by decide +kernel
theorem d_M_about_18 : decode b_M_about 18 = .ok (.if_icmp .ne 10, 3) := by decide +kernel
theorem d_M_about_21 : decode b_M_about 21 = .ok (.aload_n 0, 1) := by decide +kernel
theorem d_M_about_22 : decode b_M_about 22 = .ok (.getfield 68, 3) := by decide +kernel
theorem d_M_about_25 : decode b_M_about 25 = .ok (.goto 40, 3) := by decide +kernel
theorem d_M_about_28 : decode b_M_about 28 = .ok (.iload_n 1, 1) := by decide +kernel
theorem d_M_about_29 : decode b_M_about 29 = .ok (.iconst 2, 1) := by decide +kernel
theorem d_M_about_30 : decode b_M_about 30 = .ok (.if_icmp .ne 10, 3) := by decide +kernel
theorem d_M_about_33 : decode b_M_about 33 = .ok (.aload_n 0, 1) := by decide +kernel
theorem d_M_about_34 : decode b_M_about 34 = .ok (.getfield 47, 3) := by decide +kernel
theorem d_M_about_37 : decode b_M_about 37 = .ok (.goto 28, 3) := by decide +kernel
theorem d_M_about_40 : decode b_M_about 40 = .ok (.iload_n 1, 1) := by decide +kernel
theorem d_M_about_41 : decode b_M_about 41 = .ok (.iconst 3, 1) := by decide +kernel
theorem d_M_about_42 : decode b_M_about 42 = .ok (.if_icmp .ne 10, 3) := by decide +kernel
theorem d_M_about_45 : decode b_M_about 45 = .ok (.aload_n 0, 1) := by decide +kernel
theorem d_M_about_46 : decode b_M_about 46 = .ok (.getfield 44, 3) := by decide +kernel
theorem d_M_about_49 : decode b_M_about 49 = .ok (.goto 16, 3) := by decide +kernel
theorem d_M_about_52 : decode b_M_about 52 = .ok (.iload_n 1, 1) := by decide +kernel
theorem d_M_about_53 : decode b_M_about 53 = .ok (.iconst 4, 1) := by decide +kernel
theorem d_M_about_54 : decode b_M_about 54 = .ok (.if_icmp .ne 10, 3) := by decide +kernel
theorem d_M_about_57 : decode b_M_about 57 = .ok (.aload_n 0, 1) := by decide +kernel
theorem d_M_about_58 : decode b_M_about 58 = .ok (.getfield 50, 3) := by decide +kernel
theorem d_M_about_61 : decode b_M_about 61 = .ok (.goto 4, 3) := by decide +kernel
theorem d_M_about_64 : decode b_M_about 64 = .ok (.iconst (-1), 1) := by decide +kernel
theorem d_M_about_65 : decode b_M_about 65 = .ok (.ireturn, 1) := by decide +kernel
theorem d_K_of_0 : decode b_K_of 0 = .ok (.ldc 7, 2) := by decide +kernel
theorem d_K_of_2 : decode b_K_of 2 = .ok (.istore_n 3, 1) := by decide +kernel
theorem d_K_of_3 : decode b_K_of 3 = .ok (.iload_n 1, 1) := by decide +kernel
theorem d_K_of_4 : decode b_K_of 4 = .ok (.istore 4, 2) := by decide +kernel
theorem d_K_of_6 : decode b_K_of 6 = .ok (.iload 4, 2) := by decide +kernel
theorem d_K_of_8 : decode b_K_of 8 = .ok (.iload_n 1, 1) := by decide +kernel
theorem d_K_of_9 : decode b_K_of 9 = .ok (.iload_n 2, 1) := by decide +kernel
theorem d_K_of_10 : decode b_K_of 10 = .ok (.iadd, 1) := by decide +kernel
theorem d_K_of_11 : decode b_K_of 11 = .ok (.if_icmp .ge 59, 3) := by decide +kernel
theorem d_K_of_14 : decode b_K_of 14 = .ok (.iload_n 3, 1) := by decide +kernel
theorem d_K_of_15 : decode b_K_of 15 = .ok (.aload_n 0, 1) := by decide +kernel
theorem d_K_of_16 : decode b_K_of 16 = .ok (.iload 4, 2) := by decide +kernel
theorem d_K_of_18 : decode b_K_of 18 = .ok (.baload, 1) := by decide +kernel
theorem d_K_of_19 : decode b_K_of 19 = .ok (.sipush 255, 3) := by decide +kernel
theorem d_K_of_22 : decode b_K_of 22 = .ok (.iand, 1) := by decide +kernel
theorem d_K_of_23 : decode b_K_of 23 = .ok (.bipush 8, 2) := by decide +kernel
theorem d_K_of_25 : decode b_K_of 25 = .ok (.ishl, 1) := by decide +kernel
theorem d_K_of_26 : decode b_K_of 26 = .ok (.ixor, 1) := by decide +kernel
theorem d_K_of_27 : decode b_K_of 27 = .ok (.istore_n 3, 1) := by decide +kernel
theorem d_K_of_28 : decode b_K_of 28 = .ok (.iconst 0, 1) := by decide +kernel
theorem d_K_of_29 : decode b_K_of 29 = .ok (.istore 5, 2) := by decide +kernel
theorem d_K_of_31 : decode b_K_of 31 = .ok (.iload 5, 2) := by decide +kernel
theorem d_K_of_33 : decode b_K_of 33 = .ok (.bipush 8, 2) := by decide +kernel
theorem d_K_of_35 : decode b_K_of 35 = .ok (.if_icmp .ge 29, 3) := by decide +kernel
theorem d_K_of_38 : decode b_K_of 38 = .ok (.iload_n 3, 1) := by decide +kernel
theorem d_K_of_39 : decode b_K_of 39 = .ok (.ldc 8, 2) := by decide +kernel
theorem d_K_of_41 : decode b_K_of 41 = .ok (.iand, 1) := by decide +kernel
theorem d_K_of_42 : decode b_K_of 42 = .ok (.ifCond .eq 12, 3) := by decide +kernel
theorem d_K_of_45 : decode b_K_of 45 = .ok (.iload_n 3, 1) := by decide +kernel
theorem d_K_of_46 : decode b_K_of 46 = .ok (.iconst 1, 1) := by decide +kernel
theorem d_K_of_47 : decode b_K_of 47 = .ok (.ishl, 1) := by decide +kernel
theorem d_K_of_48 : decode b_K_of 48 = .ok (.ldc 9, 2) := by decide +kernel
theorem d_K_of_50 : decode b_K_of 50 = .ok (.ixor, 1) := by decide +kernel
theorem d_K_of_51 : decode b_K_of 51 = .ok (.goto 6, 3) := by decide +kernel
theorem d_K_of_54 : decode b_K_of 54 = .ok (.iload_n 3, 1) := by decide +kernel
theorem d_K_of_55 : decode b_K_of 55 = .ok (.iconst 1, 1) := by decide +kernel
theorem d_K_of_56 : decode b_K_of 56 = .ok (.ishl, 1) := by decide +kernel
theorem d_K_of_57 : decode b_K_of 57 = .ok (.istore_n 3, 1) := by decide +kernel
theorem d_K_of_58 : decode b_K_of 58 = .ok (.iinc 5 1, 3) := by decide +kernel
theorem d_K_of_61 : decode b_K_of 61 = .ok (.goto (-30), 3) := by decide +kernel
theorem d_K_of_64 : decode b_K_of 64 = .ok (.iinc 4 1, 3) := by decide +kernel
theorem d_K_of_67 : decode b_K_of 67 = .ok (.goto (-61), 3) := by decide +kernel
theorem d_K_of_70 : decode b_K_of 70 = .ok (.iload_n 3, 1) := by decide +kernel
theorem d_K_of_71 : decode b_K_of 71 = .ok (.ireturn, 1) := by decide +kernel
theorem d_Ginit_0 : decode b_Ginit 0 = .ok (.aload_n 0, 1) := by decide +kernel
theorem d_Ginit_1 : decode b_Ginit 1 = .ok (.invokespecial 3, 3) := by decide +kernel
theorem d_Ginit_4 : decode b_Ginit 4 = .ok (.aload_n 0, 1) := by decide +kernel
theorem d_Ginit_5 : decode b_Ginit 5 = .ok (.iconst 1, 1) := by decide +kernel
theorem d_Ginit_6 : decode b_Ginit 6 = .ok (.putfield 11, 3) := by decide +kernel
theorem d_Ginit_9 : decode b_Ginit 9 = .ok (.aload_n 0, 1) := by decide +kernel
theorem d_Ginit_10 : decode b_Ginit 10 = .ok (.aload_n 1, 1) := by decide +kernel
theorem d_Ginit_11 : decode b_Ginit 11 = .ok (.putfield 15, 3) := by decide +kernel
theorem d_Ginit_14 : decode b_Ginit 14 = .ok (.return_, 1) := by decide +kernel
theorem d_G_frame_0 : decode b_G_frame 0 = .ok (.aload_n 1, 1) := by decide +kernel
theorem d_G_frame_1 : decode b_G_frame 1 = .ok (.iload_n 2, 1) := by decide +kernel
theorem d_G_frame_2 : decode b_G_frame 2 = .ok (.invokestatic 19, 3) := by decide +kernel
theorem d_G_frame_5 : decode b_G_frame 5 = .ok (.istore_n 3, 1) := by decide +kernel
theorem d_G_frame_6 : decode b_G_frame 6 = .ok (.iload_n 2, 1) := by decide +kernel
theorem d_G_frame_7 : decode b_G_frame 7 = .ok (.ifCond .le 16, 3) := by decide +kernel
theorem d_G_frame_10 : decode b_G_frame 10 = .ok (.aload_n 1, 1) := by decide +kernel
theorem d_G_frame_11 : decode b_G_frame 11 = .ok (.iconst 0, 1) := by decide +kernel
theorem d_G_frame_12 : decode b_G_frame 12 = .ok (.baload, 1) := by decide +kernel
theorem d_G_frame_13 : decode b_G_frame 13 = .ok (.bipush 32, 2) := by decide +kernel
theorem d_G_frame_15 : decode b_G_frame 15 = .ok (.iand, 1) := by decide +kernel
theorem d_G_frame_16 : decode b_G_frame 16 = .ok (.ifCond .eq 7, 3) := by decide +kernel
theorem d_G_frame_19 : decode b_G_frame 19 = .ok (.iconst 1, 1) := by decide +kernel
theorem d_G_frame_20 : decode b_G_frame 20 = .ok (.goto 4, 3) := by decide +kernel
theorem d_G_frame_23 : decode b_G_frame 23 = .ok (.iconst 0, 1) := by decide +kernel
theorem d_G_frame_24 : decode b_G_frame 24 = .ok (.istore 4, 2) := by decide +kernel
theorem d_G_frame_26 : decode b_G_frame 26 = .ok (.iload_n 2, 1) := by decide +kernel
theorem d_G_frame_27 : decode b_G_frame 27 = .ok (.ifCond .le 16, 3) := by decide +kernel
theorem d_G_frame_30 : decode b_G_frame 30 = .ok (.aload_n 1, 1) := by decide +kernel
theorem d_G_frame_31 : decode b_G_frame 31 = .ok (.iconst 0, 1) := by decide +kernel
theorem d_G_frame_32 : decode b_G_frame 32 = .ok (.baload, 1) := by decide +kernel
theorem d_G_frame_33 : decode b_G_frame 33 = .ok (.bipush 16, 2) := by decide +kernel
theorem d_G_frame_35 : decode b_G_frame 35 = .ok (.iand, 1) := by decide +kernel
theorem d_G_frame_36 : decode b_G_frame 36 = .ok (.ifCond .eq 7, 3) := by decide +kernel
theorem d_G_frame_39 : decode b_G_frame 39 = .ok (.iconst 1, 1) := by decide +kernel
theorem d_G_frame_40 : decode b_G_frame 40 = .ok (.goto 4, 3) := by decide +kernel
theorem d_G_frame_43 : decode b_G_frame 43 = .ok (.iconst 0, 1) := by decide +kernel
theorem d_G_frame_44 : decode b_G_frame 44 = .ok (.istore 5, 2) := by decide +kernel
theorem d_G_frame_46 : decode b_G_frame 46 = .ok (.iload_n 3, 1) := by decide +kernel
theorem d_G_frame_47 : decode b_G_frame 47 = .ok (.iconst (-1), 1) := by decide +kernel
theorem d_G_frame_48 : decode b_G_frame 48 = .ok (.if_icmp .eq 13, 3) := by decide +kernel
theorem d_G_frame_51 : decode b_G_frame 51 = .ok (.iload 5, 2) := by decide +kernel
theorem d_G_frame_53 : decode b_G_frame 53 = .ok (.ifCond .eq 12, 3) := by decide +kernel
theorem d_G_frame_56 : decode b_G_frame 56 = .ok (.iload 4, 2) := by decide +kernel
theorem d_G_frame_58 : decode b_G_frame 58 = .ok (.ifCond .ne 7, 3) := by decide +kernel
theorem d_G_frame_61 : decode b_G_frame 61 = .ok (.iconst 0, 1) := by decide +kernel
theorem d_G_frame_62 : decode b_G_frame 62 = .ok (.goto 37, 3) := by decide +kernel
theorem d_G_frame_65 : decode b_G_frame 65 = .ok (.iload 5, 2) := by decide +kernel
theorem d_G_frame_67 : decode b_G_frame 67 = .ok (.ifCond .eq 12, 3) := by decide +kernel
theorem d_G_frame_70 : decode b_G_frame 70 = .ok (.aload_n 0, 1) := by decide +kernel
theorem d_G_frame_71 : decode b_G_frame 71 = .ok (.aload_n 1, 1) := by decide +kernel
theorem d_G_frame_72 : decode b_G_frame 72 = .ok (.iload_n 3, 1) := by decide +kernel
theorem d_G_frame_73 : decode b_G_frame 73 = .ok (.invokevirtual 23, 3) := by decide +kernel
theorem d_G_frame_76 : decode b_G_frame 76 = .ok (.goto 23, 3) := by decide +kernel
theorem d_G_frame_79 : decode b_G_frame 79 = .ok (.iload 4, 2) := by decide +kernel
theorem d_G_frame_81 : decode b_G_frame 81 = .ok (.ifCond .eq 12, 3) := by decide +kernel
theorem d_G_frame_84 : decode b_G_frame 84 = .ok (.aload_n 0, 1) := by decide +kernel
theorem d_G_frame_85 : decode b_G_frame 85 = .ok (.aload_n 1, 1) := by decide +kernel
theorem d_G_frame_86 : decode b_G_frame 86 = .ok (.iload_n 3, 1) := by decide +kernel
theorem d_G_frame_87 : decode b_G_frame 87 = .ok (.invokevirtual 26, 3) := by decide +kernel
theorem d_G_frame_90 : decode b_G_frame 90 = .ok (.goto 9, 3) := by decide +kernel
theorem d_G_frame_93 : decode b_G_frame 93 = .ok (.aload_n 0, 1) := by decide +kernel
theorem d_G_frame_94 : decode b_G_frame 94 = .ok (.aload_n 1, 1) := by decide +kernel
theorem d_G_frame_95 : decode b_G_frame 95 = .ok (.iload_n 3, 1) := by decide +kernel
theorem d_G_frame_96 : decode b_G_frame 96 = .ok (.invokevirtual 29, 3) := by decide +kernel
theorem d_G_frame_99 : decode b_G_frame 99 = .ok (.istore 6, 2) := by decide +kernel
theorem d_G_frame_101 : decode b_G_frame 101 = .ok (.aload_n 0, 1) := by decide +kernel
theorem d_G_frame_102 : decode b_G_frame 102 = .ok (.dup, 1) := by decide +kernel
theorem d_G_frame_103 : decode b_G_frame 103 = .ok (.getfield 32, 3) := by decide +kernel
theorem d_G_frame_106 : decode b_G_frame 106 = .ok (.iload 6, 2) := by decide +kernel
theorem d_G_frame_108 : decode b_G_frame 108 = .ok (.ifCond .ne 7, 3) := by decide +kernel
theorem d_G_frame_111 : decode b_G_frame 111 = .ok (.iconst 1, 1) := by decide +kernel
theorem d_G_frame_112 : decode b_G_frame 112 = .ok (.goto 4, 3) := by decide +kernel
theorem d_G_frame_115 : decode b_G_frame 115 = .ok (.iconst 0, 1) := by decide +kernel
theorem d_G_frame_116 : decode b_G_frame 116 = .ok (.iadd, 1) := by decide +kernel
theorem d_G_frame_117 : decode b_G_frame 117 = .ok (.putfield 32, 3) := by decide +kernel
theorem d_G_frame_120 : decode b_G_frame 120 = .ok (.aload_n 0, 1) := by decide +kernel
theorem d_G_frame_121 : decode b_G_frame 121 = .ok (.dup, 1) := by decide +kernel
theorem d_G_frame_122 : decode b_G_frame 122 = .ok (.getfield 35, 3) := by decide +kernel
theorem d_G_frame_125 : decode b_G_frame 125 = .ok (.iload 6, 2) := by decide +kernel
theorem d_G_frame_127 : decode b_G_frame 127 = .ok (.iconst 1, 1) := by decide +kernel
theorem d_G_frame_128 : decode b_G_frame 128 = .ok (.if_icmp .eq 9, 3) := by decide +kernel
theorem d_G_frame_131 : decode b_G_frame 131 = .ok (.iload 6, 2) := by decide +kernel
theorem d_G_frame_133 : decode b_G_frame 133 = .ok (.iconst 2, 1) := by decide +kernel
theorem d_G_frame_134 : decode b_G_frame 134 = .ok (.if_icmp .ne 7, 3) := by decide +kernel
theorem d_G_frame_137 : decode b_G_frame 137 = .ok (.iconst 1, 1) := by decide +kernel
theorem d_G_frame_138 : decode b_G_frame 138 = .ok (.goto 4, 3) := by decide +kernel
theorem d_G_frame_141 : decode b_G_frame 141 = .ok (.iconst 0, 1) := by decide +kernel
theorem d_G_frame_142 : decode b_G_frame 142 = .ok (.iadd, 1) := by decide +kernel
theorem d_G_frame_143 : decode b_G_frame 143 = .ok (.putfield 35, 3) := by decide +kernel
theorem d_G_frame_146 : decode b_G_frame 146 = .ok (.iload 6, 2) := by decide +kernel
theorem d_G_frame_148 : decode b_G_frame 148 = .ok (.ireturn, 1) := by decide +kernel
theorem d_G_lengthOf_0 : decode b_G_lengthOf 0 = .ok (.iload_n 1, 1) := by decide +kernel
theorem d_G_lengthOf_1 : decode b_G_lengthOf 1 = .ok (.iconst 5, 1) := by decide +kernel
theorem d_G_lengthOf_2 : decode b_G_lengthOf 2 = .ok (.if_icmp .ge 5, 3) := by decide +kernel
theorem d_G_lengthOf_5 : decode b_G_lengthOf 5 = .ok (.iconst (-1), 1) := by decide +kernel
theorem d_G_lengthOf_6 : decode b_G_lengthOf 6 = .ok (.ireturn, 1) := by decide +kernel
theorem d_G_lengthOf_7 : decode b_G_lengthOf 7 = .ok (.aload_n 0, 1) := by decide +kernel
theorem d_G_lengthOf_8 : decode b_G_lengthOf 8 = .ok (.iconst 0, 1) := by decide +kernel
theorem d_G_lengthOf_9 : decode b_G_lengthOf 9 = .ok (.baload, 1) := by decide +kernel
theorem d_G_lengthOf_10 : decode b_G_lengthOf 10 = .ok (.iconst 3, 1) := by decide +kernel
theorem d_G_lengthOf_11 : decode b_G_lengthOf 11 = .ok (.iand, 1) := by decide +kernel
theorem d_G_lengthOf_12 : decode b_G_lengthOf 12 = .ok (.bipush 8, 2) := by decide +kernel
theorem d_G_lengthOf_14 : decode b_G_lengthOf 14 = .ok (.ishl, 1) := by decide +kernel
theorem d_G_lengthOf_15 : decode b_G_lengthOf 15 = .ok (.aload_n 0, 1) := by decide +kernel
theorem d_G_lengthOf_16 : decode b_G_lengthOf 16 = .ok (.iconst 1, 1) := by decide +kernel
theorem d_G_lengthOf_17 : decode b_G_lengthOf 17 = .ok (.baload, 1) := by decide +kernel
theorem d_G_lengthOf_18 : decode b_G_lengthOf 18 = .ok (.sipush 255, 3) := by decide +kernel
theorem d_G_lengthOf_21 : decode b_G_lengthOf 21 = .ok (.iand, 1) := by decide +kernel
theorem d_G_lengthOf_22 : decode b_G_lengthOf 22 = .ok (.ior, 1) := by decide +kernel
theorem d_G_lengthOf_23 : decode b_G_lengthOf 23 = .ok (.istore_n 2, 1) := by decide +kernel
theorem d_G_lengthOf_24 : decode b_G_lengthOf 24 = .ok (.aload_n 0, 1) := by decide +kernel
theorem d_G_lengthOf_25 : decode b_G_lengthOf 25 = .ok (.iconst 2, 1) := by decide +kernel
theorem d_G_lengthOf_26 : decode b_G_lengthOf 26 = .ok (.baload, 1) := by decide +kernel
theorem d_G_lengthOf_27 : decode b_G_lengthOf 27 = .ok (.iconst 3, 1) := by decide +kernel
theorem d_G_lengthOf_28 : decode b_G_lengthOf 28 = .ok (.iand, 1) := by decide +kernel
theorem d_G_lengthOf_29 : decode b_G_lengthOf 29 = .ok (.bipush 8, 2) := by decide +kernel
theorem d_G_lengthOf_31 : decode b_G_lengthOf 31 = .ok (.ishl, 1) := by decide +kernel
theorem d_G_lengthOf_32 : decode b_G_lengthOf 32 = .ok (.aload_n 0, 1) := by decide +kernel
theorem d_G_lengthOf_33 : decode b_G_lengthOf 33 = .ok (.iconst 3, 1) := by decide +kernel
theorem d_G_lengthOf_34 : decode b_G_lengthOf 34 = .ok (.baload, 1) := by decide +kernel
theorem d_G_lengthOf_35 : decode b_G_lengthOf 35 = .ok (.sipush 255, 3) := by decide +kernel
theorem d_G_lengthOf_38 : decode b_G_lengthOf 38 = .ok (.iand, 1) := by decide +kernel
theorem d_G_lengthOf_39 : decode b_G_lengthOf 39 = .ok (.ior, 1) := by decide +kernel
theorem d_G_lengthOf_40 : decode b_G_lengthOf 40 = .ok (.iconst 1, 1) := by decide +kernel
theorem d_G_lengthOf_41 : decode b_G_lengthOf 41 = .ok (.iadd, 1) := by decide +kernel
theorem d_G_lengthOf_42 : decode b_G_lengthOf 42 = .ok (.istore_n 3, 1) := by decide +kernel
theorem d_G_lengthOf_43 : decode b_G_lengthOf 43 = .ok (.aload_n 0, 1) := by decide +kernel
theorem d_G_lengthOf_44 : decode b_G_lengthOf 44 = .ok (.iconst 0, 1) := by decide +kernel
theorem d_G_lengthOf_45 : decode b_G_lengthOf 45 = .ok (.baload, 1) := by decide +kernel
theorem d_G_lengthOf_46 : decode b_G_lengthOf 46 = .ok (.sipush 204, 3) := by decide +kernel
theorem d_G_lengthOf_49 : decode b_G_lengthOf 49 = .ok (.iand, 1) := by decide +kernel
theorem d_G_lengthOf_50 : decode b_G_lengthOf 50 = .ok (.ifCond .ne 35, 3) := by decide +kernel
theorem d_G_lengthOf_53 : decode b_G_lengthOf 53 = .ok (.iload_n 2, 1) := by decide +kernel
theorem d_G_lengthOf_54 : decode b_G_lengthOf 54 = .ok (.sipush 346, 3) := by decide +kernel
theorem d_G_lengthOf_57 : decode b_G_lengthOf 57 = .ok (.if_icmp .ne 28, 3) := by decide +kernel
theorem d_G_lengthOf_60 : decode b_G_lengthOf 60 = .ok (.aload_n 0, 1) := by decide +kernel
theorem d_G_lengthOf_61 : decode b_G_lengthOf 61 = .ok (.iconst 2, 1) := by decide +kernel
theorem d_G_lengthOf_62 : decode b_G_lengthOf 62 = .ok (.baload, 1) := by decide +kernel
theorem d_G_lengthOf_63 : decode b_G_lengthOf 63 = .ok (.sipush 252, 3) := by decide +kernel
theorem d_G_lengthOf_66 : decode b_G_lengthOf 66 = .ok (.iand, 1) := by decide +kernel
theorem d_G_lengthOf_67 : decode b_G_lengthOf 67 = .ok (.ifCond .ne 18, 3) := by decide +kernel
theorem d_G_lengthOf_70 : decode b_G_lengthOf 70 = .ok (.iload_n 3, 1) := by decide +kernel
theorem d_G_lengthOf_71 : decode b_G_lengthOf 71 = .ok (.bipush 7, 2) := by decide +kernel
theorem d_G_lengthOf_73 : decode b_G_lengthOf 73 = .ok (.if_icmp .le 12, 3) := by decide +kernel
theorem d_G_lengthOf_76 : decode b_G_lengthOf 76 = .ok (.iload_n 3, 1) := by decide +kernel
theorem d_G_lengthOf_77 : decode b_G_lengthOf 77 = .ok (.iload_n 1, 1) := by decide +kernel
theorem d_G_lengthOf_78 : decode b_G_lengthOf 78 = .ok (.if_icmp .gt 7, 3) := by decide +kernel
theorem d_G_lengthOf_81 : decode b_G_lengthOf 81 = .ok (.iconst 1, 1) := by decide +kernel
theorem d_G_lengthOf_82 : decode b_G_lengthOf 82 = .ok (.goto 4, 3) := by decide +kernel
theorem d_G_lengthOf_85 : decode b_G_lengthOf 85 = .ok (.iconst 0, 1) := by decide +kernel
theorem d_G_lengthOf_86 : decode b_G_lengthOf 86 = .ok (.istore 4, 2) := by decide +kernel
theorem d_G_lengthOf_88 : decode b_G_lengthOf 88 = .ok (.iload 4, 2) := by decide +kernel
theorem d_G_lengthOf_90 : decode b_G_lengthOf 90 = .ok (.ifCond .eq 16, 3) := by decide +kernel
theorem d_G_lengthOf_93 : decode b_G_lengthOf 93 = .ok (.aload_n 0, 1) := by decide +kernel
theorem d_G_lengthOf_94 : decode b_G_lengthOf 94 = .ok (.iconst 0, 1) := by decide +kernel
theorem d_G_lengthOf_95 : decode b_G_lengthOf 95 = .ok (.iload_n 3, 1) := by decide +kernel
theorem d_G_lengthOf_96 : decode b_G_lengthOf 96 = .ok (.invokestatic 38, 3) := by decide +kernel
theorem d_G_lengthOf_99 : decode b_G_lengthOf 99 = .ok (.ifCond .ne 7, 3) := by decide +kernel
theorem d_G_lengthOf_102 : decode b_G_lengthOf 102 = .ok (.iload_n 3, 1) := by decide +kernel
theorem d_G_lengthOf_103 : decode b_G_lengthOf 103 = .ok (.goto 4, 3) := by decide +kernel
theorem d_G_lengthOf_106 : decode b_G_lengthOf 106 = .ok (.iconst (-1), 1) := by decide +kernel
theorem d_G_lengthOf_107 : decode b_G_lengthOf 107 = .ok (.ireturn, 1) := by decide +kernel
theorem d_G_body_0 : decode b_G_body 0 = .ok (.aload_n 0, 1) := by decide +kernel
theorem d_G_body_1 : decode b_G_body 1 = .ok (.getfield 15, 3) := by decide +kernel
theorem d_G_body_4 : decode b_G_body 4 = .ok (.aload_n 1, 1) := by decide +kernel
theorem d_G_body_5 : decode b_G_body 5 = .ok (.iconst 5, 1) := by decide +kernel
theorem d_G_body_6 : decode b_G_body 6 = .ok (.iload_n 2, 1) := by decide +kernel
theorem d_G_body_7 : decode b_G_body 7 = .ok (.iconst 5, 1) := by decide +kernel
theorem d_G_body_8 : decode b_G_body 8 = .ok (.isub, 1) := by decide +kernel
theorem d_G_body_9 : decode b_G_body 9 = .ok (.iconst 2, 1) := by decide +kernel
theorem d_G_body_10 : decode b_G_body 10 = .ok (.isub, 1) := by decide +kernel
theorem d_G_body_11 : decode b_G_body 11 = .ok (.invokevirtual 44, 3) := by decide +kernel
theorem d_G_body_14 : decode b_G_body 14 = .ok (.return_, 1) := by decide +kernel
theorem d_G_inOrder_0 : decode b_G_inOrder 0 = .ok (.aload_n 1, 1) := by decide +kernel
theorem d_G_inOrder_1 : decode b_G_inOrder 1 = .ok (.iconst 4, 1) := by decide +kernel
theorem d_G_inOrder_2 : decode b_G_inOrder 2 = .ok (.baload, 1) := by decide +kernel
theorem d_G_inOrder_3 : decode b_G_inOrder 3 = .ok (.sipush 255, 3) := by decide +kernel
theorem d_G_inOrder_6 : decode b_G_inOrder 6 = .ok (.iand, 1) := by decide +kernel
theorem d_G_inOrder_7 : decode b_G_inOrder 7 = .ok (.aload_n 0, 1) := by decide +kernel
theorem d_G_inOrder_8 : decode b_G_inOrder 8 = .ok (.getfield 50, 3) := by decide +kernel
theorem d_G_inOrder_11 : decode b_G_inOrder 11 = .ok (.isub, 1) := by decide +kernel
theorem d_G_inOrder_12 : decode b_G_inOrder 12 = .ok (.sipush 255, 3) := by decide +kernel
theorem d_G_inOrder_15 : decode b_G_inOrder 15 = .ok (.iand, 1) := by decide +kernel
theorem d_G_inOrder_16 : decode b_G_inOrder 16 = .ok (.istore_n 3, 1) := by decide +kernel
theorem d_G_inOrder_17 : decode b_G_inOrder 17 = .ok (.iload_n 3, 1) := by decide +kernel
theorem d_G_inOrder_18 : decode b_G_inOrder 18 = .ok (.ifCond .ne 63, 3) := by decide +kernel
theorem d_G_inOrder_21 : decode b_G_inOrder 21 = .ok (.aload_n 0, 1) := by decide +kernel
theorem d_G_inOrder_22 : decode b_G_inOrder 22 = .ok (.getfield 11, 3) := by decide +kernel
theorem d_G_inOrder_25 : decode b_G_inOrder 25 = .ok (.iconst 1, 1) := by decide +kernel
theorem d_G_inOrder_26 : decode b_G_inOrder 26 = .ok (.if_icmp .ne 55, 3) := by decide +kernel
theorem d_G_inOrder_29 : decode b_G_inOrder 29 = .ok (.aload_n 0, 1) := by decide +kernel
theorem d_G_inOrder_30 : decode b_G_inOrder 30 = .ok (.aload_n 0, 1) := by decide +kernel
theorem d_G_inOrder_31 : decode b_G_inOrder 31 = .ok (.getfield 15, 3) := by decide +kernel
theorem d_G_inOrder_34 : decode b_G_inOrder 34 = .ok (.invokevirtual 53, 3) := by decide +kernel
theorem d_G_inOrder_37 : decode b_G_inOrder 37 = .ok (.putfield 57, 3) := by decide +kernel
theorem d_G_inOrder_40 : decode b_G_inOrder 40 = .ok (.aload_n 0, 1) := by decide +kernel
theorem d_G_inOrder_41 : decode b_G_inOrder 41 = .ok (.getfield 57, 3) := by decide +kernel
theorem d_G_inOrder_44 : decode b_G_inOrder 44 = .ok (.ifCond .eq 15, 3) := by decide +kernel
theorem d_G_inOrder_47 : decode b_G_inOrder 47 = .ok (.aload_n 0, 1) := by decide +kernel
theorem d_G_inOrder_48 : decode b_G_inOrder 48 = .ok (.iconst 1, 1) := by decide +kernel
theorem d_G_inOrder_49 : decode b_G_inOrder 49 = .ok (.putfield 61, 3) := by decide +kernel
theorem d_G_inOrder_52 : decode b_G_inOrder 52 = .ok (.aload_n 0, 1) := by decide +kernel
theorem d_G_inOrder_53 : decode b_G_inOrder 53 = .ok (.iconst 2, 1) := by decide +kernel
theorem d_G_inOrder_54 : decode b_G_inOrder 54 = .ok (.putfield 11, 3) := by decide +kernel
theorem d_G_inOrder_57 : decode b_G_inOrder 57 = .ok (.iconst 5, 1) := by decide +kernel
theorem d_G_inOrder_58 : decode b_G_inOrder 58 = .ok (.ireturn, 1) := by decide +kernel
theorem d_G_inOrder_59 : decode b_G_inOrder 59 = .ok (.aload_n 0, 1) := by decide +kernel
theorem d_G_inOrder_60 : decode b_G_inOrder 60 = .ok (.aload_n 1, 1) := by decide +kernel
theorem d_G_inOrder_61 : decode b_G_inOrder 61 = .ok (.iload_n 2, 1) := by decide +kernel
theorem d_G_inOrder_62 : decode b_G_inOrder 62 = .ok (.invokevirtual 64, 3) := by decide +kernel
theorem d_G_inOrder_65 : decode b_G_inOrder 65 = .ok (.aload_n 0, 1) := by decide +kernel
theorem d_G_inOrder_66 : decode b_G_inOrder 66 = .ok (.aload_n 0, 1) := by decide +kernel
theorem d_G_inOrder_67 : decode b_G_inOrder 67 = .ok (.getfield 50, 3) := by decide +kernel
theorem d_G_inOrder_70 : decode b_G_inOrder 70 = .ok (.iconst 1, 1) := by decide +kernel
theorem d_G_inOrder_71 : decode b_G_inOrder 71 = .ok (.iadd, 1) := by decide +kernel
theorem d_G_inOrder_72 : decode b_G_inOrder 72 = .ok (.sipush 255, 3) := by decide +kernel
theorem d_G_inOrder_75 : decode b_G_inOrder 75 = .ok (.iand, 1) := by decide +kernel
theorem d_G_inOrder_76 : decode b_G_inOrder 76 = .ok (.putfield 50, 3) := by decide +kernel
theorem d_G_inOrder_79 : decode b_G_inOrder 79 = .ok (.iconst 1, 1) := by decide +kernel
theorem d_G_inOrder_80 : decode b_G_inOrder 80 = .ok (.ireturn, 1) := by decide +kernel
theorem d_G_inOrder_81 : decode b_G_inOrder 81 = .ok (.iload_n 3, 1) := by decide +kernel
theorem d_G_inOrder_82 : decode b_G_inOrder 82 = .ok (.ifCond .le 34, 3) := by decide +kernel
theorem d_G_inOrder_85 : decode b_G_inOrder 85 = .ok (.iload_n 3, 1) := by decide +kernel
theorem d_G_inOrder_86 : decode b_G_inOrder 86 = .ok (.bipush 10, 2) := by decide +kernel
theorem d_G_inOrder_88 : decode b_G_inOrder 88 = .ok (.if_icmp .ge 28, 3) := by decide +kernel
theorem d_G_inOrder_91 : decode b_G_inOrder 91 = .ok (.aload_n 0, 1) := by decide +kernel
theorem d_G_inOrder_92 : decode b_G_inOrder 92 = .ok (.dup, 1) := by decide +kernel
theorem d_G_inOrder_93 : decode b_G_inOrder 93 = .ok (.getfield 57, 3) := by decide +kernel
theorem d_G_inOrder_96 : decode b_G_inOrder 96 = .ok (.aload_n 0, 1) := by decide +kernel
theorem d_G_inOrder_97 : decode b_G_inOrder 97 = .ok (.getfield 11, 3) := by decide +kernel
theorem d_G_inOrder_100 : decode b_G_inOrder 100 = .ok (.iconst 1, 1) := by decide +kernel
theorem d_G_inOrder_101 : decode b_G_inOrder 101 = .ok (.if_icmp .ne 7, 3) := by decide +kernel
theorem d_G_inOrder_104 : decode b_G_inOrder 104 = .ok (.iconst 1, 1) := by decide +kernel
theorem d_G_inOrder_105 : decode b_G_inOrder 105 = .ok (.goto 4, 3) := by decide +kernel
theorem d_G_inOrder_108 : decode b_G_inOrder 108 = .ok (.iconst 0, 1) := by decide +kernel
theorem d_G_inOrder_109 : decode b_G_inOrder 109 = .ok (.ior, 1) := by decide +kernel
theorem d_G_inOrder_110 : decode b_G_inOrder 110 = .ok (.putfield 57, 3) := by decide +kernel
theorem d_G_inOrder_113 : decode b_G_inOrder 113 = .ok (.goto 21, 3) := by decide +kernel
theorem d_G_inOrder_116 : decode b_G_inOrder 116 = .ok (.iload_n 3, 1) := by decide +kernel
theorem d_G_inOrder_117 : decode b_G_inOrder 117 = .ok (.bipush 10, 2) := by decide +kernel
theorem d_G_inOrder_119 : decode b_G_inOrder 119 = .ok (.if_icmp .lt 15, 3) := by decide +kernel
theorem d_G_inOrder_122 : decode b_G_inOrder 122 = .ok (.iload_n 3, 1) := by decide +kernel
theorem d_G_inOrder_123 : decode b_G_inOrder 123 = .ok (.sipush 246, 3) := by decide +kernel
theorem d_G_inOrder_126 : decode b_G_inOrder 126 = .ok (.if_icmp .ge 8, 3) := by decide +kernel
theorem d_G_inOrder_129 : decode b_G_inOrder 129 = .ok (.aload_n 0, 1) := by decide +kernel
theorem d_G_inOrder_130 : decode b_G_inOrder 130 = .ok (.iconst 3, 1) := by decide +kernel
theorem d_G_inOrder_131 : decode b_G_inOrder 131 = .ok (.putfield 11, 3) := by decide +kernel
theorem d_G_inOrder_134 : decode b_G_inOrder 134 = .ok (.iconst 5, 1) := by decide +kernel
theorem d_G_inOrder_135 : decode b_G_inOrder 135 = .ok (.ireturn, 1) := by decide +kernel
theorem d_G_more_0 : decode b_G_more 0 = .ok (.aload_n 0, 1) := by decide +kernel
theorem d_G_more_1 : decode b_G_more 1 = .ok (.aload_n 0, 1) := by decide +kernel
theorem d_G_more_2 : decode b_G_more 2 = .ok (.getfield 68, 3) := by decide +kernel
theorem d_G_more_5 : decode b_G_more 5 = .ok (.iconst 1, 1) := by decide +kernel
theorem d_G_more_6 : decode b_G_more 6 = .ok (.iadd, 1) := by decide +kernel
theorem d_G_more_7 : decode b_G_more 7 = .ok (.iconst 3, 1) := by decide +kernel
theorem d_G_more_8 : decode b_G_more 8 = .ok (.iand, 1) := by decide +kernel
theorem d_G_more_9 : decode b_G_more 9 = .ok (.putfield 68, 3) := by decide +kernel
theorem d_G_more_12 : decode b_G_more 12 = .ok (.return_, 1) := by decide +kernel
theorem d_G_beside_0 : decode b_G_beside 0 = .ok (.aload_n 0, 1) := by decide +kernel
theorem d_G_beside_1 : decode b_G_beside 1 = .ok (.getfield 15, 3) := by decide +kernel
theorem d_G_beside_4 : decode b_G_beside 4 = .ok (.invokevirtual 53, 3) := by decide +kernel
theorem d_G_beside_7 : decode b_G_beside 7 = .ok (.ifCond .eq 5, 3) := by decide +kernel
theorem d_G_beside_10 : decode b_G_beside 10 = .ok (.iconst 0, 1) := by decide +kernel
theorem d_G_beside_11 : decode b_G_beside 11 = .ok (.ireturn, 1) := by decide +kernel
theorem d_G_beside_12 : decode b_G_beside 12 = .ok (.aload_n 0, 1) := by decide +kernel
theorem d_G_beside_13 : decode b_G_beside 13 = .ok (.aload_n 1, 1) := by decide +kernel
theorem d_G_beside_14 : decode b_G_beside 14 = .ok (.iload_n 2, 1) := by decide +kernel
theorem d_G_beside_15 : decode b_G_beside 15 = .ok (.invokevirtual 64, 3) := by decide +kernel
theorem d_G_beside_18 : decode b_G_beside 18 = .ok (.aload_n 0, 1) := by decide +kernel
theorem d_G_beside_19 : decode b_G_beside 19 = .ok (.invokevirtual 70, 3) := by decide +kernel
theorem d_G_beside_22 : decode b_G_beside 22 = .ok (.iconst 2, 1) := by decide +kernel
theorem d_G_beside_23 : decode b_G_beside 23 = .ok (.ireturn, 1) := by decide +kernel
theorem d_G_opens_0 : decode b_G_opens 0 = .ok (.aload_n 0, 1) := by decide +kernel
theorem d_G_opens_1 : decode b_G_opens 1 = .ok (.iconst 0, 1) := by decide +kernel
theorem d_G_opens_2 : decode b_G_opens 2 = .ok (.putfield 57, 3) := by decide +kernel
theorem d_G_opens_5 : decode b_G_opens 5 = .ok (.aload_n 0, 1) := by decide +kernel
theorem d_G_opens_6 : decode b_G_opens 6 = .ok (.iconst 0, 1) := by decide +kernel
theorem d_G_opens_7 : decode b_G_opens 7 = .ok (.putfield 61, 3) := by decide +kernel
theorem d_G_opens_10 : decode b_G_opens 10 = .ok (.aload_n 0, 1) := by decide +kernel
theorem d_G_opens_11 : decode b_G_opens 11 = .ok (.iconst 1, 1) := by decide +kernel
theorem d_G_opens_12 : decode b_G_opens 12 = .ok (.putfield 11, 3) := by decide +kernel
theorem d_G_opens_15 : decode b_G_opens 15 = .ok (.return_, 1) := by decide +kernel
theorem d_G_control_0 : decode b_G_control 0 = .ok (.iload_n 2, 1) := by decide +kernel
theorem d_G_control_1 : decode b_G_control 1 = .ok (.iconst 5, 1) := by decide +kernel
theorem d_G_control_2 : decode b_G_control 2 = .ok (.isub, 1) := by decide +kernel
theorem d_G_control_3 : decode b_G_control 3 = .ok (.iconst 2, 1) := by decide +kernel
theorem d_G_control_4 : decode b_G_control 4 = .ok (.isub, 1) := by decide +kernel
theorem d_G_control_5 : decode b_G_control 5 = .ok (.istore_n 3, 1) := by decide +kernel
theorem d_G_control_6 : decode b_G_control 6 = .ok (.iload_n 3, 1) := by decide +kernel
theorem d_G_control_7 : decode b_G_control 7 = .ok (.iconst 1, 1) := by decide +kernel
theorem d_G_control_8 : decode b_G_control 8 = .ok (.if_icmp .ne 19, 3) := by decide +kernel
theorem d_G_control_11 : decode b_G_control 11 = .ok (.aload_n 1, 1) := by decide +kernel
theorem d_G_control_12 : decode b_G_control 12 = .ok (.iconst 5, 1) := by decide +kernel
theorem d_G_control_13 : decode b_G_control 13 = .ok (.baload, 1) := by decide +kernel
theorem d_G_control_14 : decode b_G_control 14 = .ok (.ifCond .ne 13, 3) := by decide +kernel
theorem d_G_control_17 : decode b_G_control 17 = .ok (.aload_n 0, 1) := by decide +kernel
theorem d_G_control_18 : decode b_G_control 18 = .ok (.invokevirtual 70, 3) := by decide +kernel
theorem d_G_control_21 : decode b_G_control 21 = .ok (.aload_n 0, 1) := by decide +kernel
theorem d_G_control_22 : decode b_G_control 22 = .ok (.invokevirtual 73, 3) := by decide +kernel
theorem d_G_control_25 : decode b_G_control 25 = .ok (.iconst 3, 1) := by decide +kernel
theorem d_G_control_26 : decode b_G_control 26 = .ok (.ireturn, 1) := by decide +kernel
theorem d_G_control_27 : decode b_G_control 27 = .ok (.iload_n 3, 1) := by decide +kernel
theorem d_G_control_28 : decode b_G_control 28 = .ok (.iconst 3, 1) := by decide +kernel
theorem d_G_control_29 : decode b_G_control 29 = .ok (.if_icmp .ne 23, 3) := by decide +kernel
theorem d_G_control_32 : decode b_G_control 32 = .ok (.aload_n 1, 1) := by decide +kernel
theorem d_G_control_33 : decode b_G_control 33 = .ok (.iconst 5, 1) := by decide +kernel
theorem d_G_control_34 : decode b_G_control 34 = .ok (.baload, 1) := by decide +kernel
theorem d_G_control_35 : decode b_G_control 35 = .ok (.sipush 255, 3) := by decide +kernel
theorem d_G_control_38 : decode b_G_control 38 = .ok (.iand, 1) := by decide +kernel
theorem d_G_control_39 : decode b_G_control 39 = .ok (.sipush 130, 3) := by decide +kernel
theorem d_G_control_42 : decode b_G_control 42 = .ok (.if_icmp .ne 10, 3) := by decide +kernel
theorem d_G_control_45 : decode b_G_control 45 = .ok (.aload_n 1, 1) := by decide +kernel
theorem d_G_control_46 : decode b_G_control 46 = .ok (.bipush 6, 2) := by decide +kernel
theorem d_G_control_48 : decode b_G_control 48 = .ok (.baload, 1) := by decide +kernel
theorem d_G_control_49 : decode b_G_control 49 = .ok (.ifCond .eq 5, 3) := by decide +kernel
theorem d_G_control_52 : decode b_G_control 52 = .ok (.iconst 0, 1) := by decide +kernel
theorem d_G_control_53 : decode b_G_control 53 = .ok (.ireturn, 1) := by decide +kernel
theorem d_G_control_54 : decode b_G_control 54 = .ok (.aload_n 0, 1) := by decide +kernel
theorem d_G_control_55 : decode b_G_control 55 = .ok (.invokevirtual 70, 3) := by decide +kernel
theorem d_G_control_58 : decode b_G_control 58 = .ok (.aload_n 0, 1) := by decide +kernel
theorem d_G_control_59 : decode b_G_control 59 = .ok (.getfield 11, 3) := by decide +kernel
theorem d_G_control_62 : decode b_G_control 62 = .ok (.iconst 3, 1) := by decide +kernel
theorem d_G_control_63 : decode b_G_control 63 = .ok (.if_icmp .eq 19, 3) := by decide +kernel
theorem d_G_control_66 : decode b_G_control 66 = .ok (.aload_n 0, 1) := by decide +kernel
theorem d_G_control_67 : decode b_G_control 67 = .ok (.invokevirtual 73, 3) := by decide +kernel
theorem d_G_control_70 : decode b_G_control 70 = .ok (.aload_n 0, 1) := by decide +kernel
theorem d_G_control_71 : decode b_G_control 71 = .ok (.aload_n 1, 1) := by decide +kernel
theorem d_G_control_72 : decode b_G_control 72 = .ok (.bipush 7, 2) := by decide +kernel
theorem d_G_control_74 : decode b_G_control 74 = .ok (.baload, 1) := by decide +kernel
theorem d_G_control_75 : decode b_G_control 75 = .ok (.sipush 255, 3) := by decide +kernel
theorem d_G_control_78 : decode b_G_control 78 = .ok (.iand, 1) := by decide +kernel
theorem d_G_control_79 : decode b_G_control 79 = .ok (.putfield 50, 3) := by decide +kernel
theorem d_G_control_82 : decode b_G_control 82 = .ok (.iconst 4, 1) := by decide +kernel
theorem d_G_control_83 : decode b_G_control 83 = .ok (.ireturn, 1) := by decide +kernel
theorem d_G_release_0 : decode b_G_release 0 = .ok (.aload_n 0, 1) := by decide +kernel
theorem d_G_release_1 : decode b_G_release 1 = .ok (.getfield 61, 3) := by decide +kernel
theorem d_G_release_4 : decode b_G_release 4 = .ok (.ifCond .ne 11, 3) := by decide +kernel
theorem d_G_release_7 : decode b_G_release 7 = .ok (.aload_n 0, 1) := by decide +kernel
theorem d_G_release_8 : decode b_G_release 8 = .ok (.getfield 11, 3) := by decide +kernel
theorem d_G_release_11 : decode b_G_release 11 = .ok (.iconst 2, 1) := by decide +kernel
theorem d_G_release_12 : decode b_G_release 12 = .ok (.if_icmp .ne 7, 3) := by decide +kernel
theorem d_G_release_15 : decode b_G_release 15 = .ok (.iconst 1, 1) := by decide +kernel
theorem d_G_release_16 : decode b_G_release 16 = .ok (.goto 4, 3) := by decide +kernel
theorem d_G_release_19 : decode b_G_release 19 = .ok (.iconst 0, 1) := by decide +kernel
theorem d_G_release_20 : decode b_G_release 20 = .ok (.istore_n 1, 1) := by decide +kernel
theorem d_G_release_21 : decode b_G_release 21 = .ok (.aload_n 0, 1) := by decide +kernel
theorem d_G_release_22 : decode b_G_release 22 = .ok (.iconst 0, 1) := by decide +kernel
theorem d_G_release_23 : decode b_G_release 23 = .ok (.putfield 61, 3) := by decide +kernel
theorem d_G_release_26 : decode b_G_release 26 = .ok (.aload_n 0, 1) := by decide +kernel
theorem d_G_release_27 : decode b_G_release 27 = .ok (.getfield 11, 3) := by decide +kernel
theorem d_G_release_30 : decode b_G_release 30 = .ok (.iconst 2, 1) := by decide +kernel
theorem d_G_release_31 : decode b_G_release 31 = .ok (.if_icmp .ne 8, 3) := by decide +kernel
theorem d_G_release_34 : decode b_G_release 34 = .ok (.aload_n 0, 1) := by decide +kernel
theorem d_G_release_35 : decode b_G_release 35 = .ok (.iconst 1, 1) := by decide +kernel
theorem d_G_release_36 : decode b_G_release 36 = .ok (.putfield 11, 3) := by decide +kernel
theorem d_G_release_39 : decode b_G_release 39 = .ok (.iload_n 1, 1) := by decide +kernel
theorem d_G_release_40 : decode b_G_release 40 = .ok (.ireturn, 1) := by decide +kernel
theorem d_G_word_0 : decode b_G_word 0 = .ok (.aload_n 0, 1) := by decide +kernel
theorem d_G_word_1 : decode b_G_word 1 = .ok (.getfield 11, 3) := by decide +kernel
theorem d_G_word_4 : decode b_G_word 4 = .ok (.iconst 3, 1) := by decide +kernel
theorem d_G_word_5 : decode b_G_word 5 = .ok (.if_icmp .ne 7, 3) := by decide +kernel
theorem d_G_word_8 : decode b_G_word 8 = .ok (.iconst 4, 1) := by decide +kernel
theorem d_G_word_9 : decode b_G_word 9 = .ok (.goto 4, 3) := by decide +kernel
theorem d_G_word_12 : decode b_G_word 12 = .ok (.iconst 0, 1) := by decide +kernel
theorem d_G_word_13 : decode b_G_word 13 = .ok (.aload_n 0, 1) := by decide +kernel
theorem d_G_word_14 : decode b_G_word 14 = .ok (.getfield 61, 3) := by decide +kernel
theorem d_G_word_17 : decode b_G_word 17 = .ok (.ifCond .eq 7, 3) := by decide +kernel
theorem d_G_word_20 : decode b_G_word 20 = .ok (.iconst 2, 1) := by decide +kernel
theorem d_G_word_21 : decode b_G_word 21 = .ok (.goto 4, 3) := by decide +kernel
theorem d_G_word_24 : decode b_G_word 24 = .ok (.iconst 0, 1) := by decide +kernel
theorem d_G_word_25 : decode b_G_word 25 = .ok (.ior, 1) := by decide +kernel
theorem d_G_word_26 : decode b_G_word 26 = .ok (.aload_n 0, 1) := by decide +kernel
theorem d_G_word_27 : decode b_G_word 27 = .ok (.getfield 57, 3) := by decide +kernel
theorem d_G_word_30 : decode b_G_word 30 = .ok (.ifCond .eq 7, 3) := by decide +kernel
theorem d_G_word_33 : decode b_G_word 33 = .ok (.iconst 1, 1) := by decide +kernel
theorem d_G_word_34 : decode b_G_word 34 = .ok (.goto 4, 3) := by decide +kernel
theorem d_G_word_37 : decode b_G_word 37 = .ok (.iconst 0, 1) := by decide +kernel
theorem d_G_word_38 : decode b_G_word 38 = .ok (.ior, 1) := by decide +kernel
theorem d_G_word_39 : decode b_G_word 39 = .ok (.istore_n 1, 1) := by decide +kernel
theorem d_G_word_40 : decode b_G_word 40 = .ok (.ldc 76, 2) := by decide +kernel
theorem d_G_word_42 : decode b_G_word 42 = .ok (.iload_n 1, 1) := by decide +kernel
theorem d_G_word_43 : decode b_G_word 43 = .ok (.bipush 11, 2) := by decide +kernel
theorem d_G_word_45 : decode b_G_word 45 = .ok (.ishl, 1) := by decide +kernel
theorem d_G_word_46 : decode b_G_word 46 = .ok (.ior, 1) := by decide +kernel
theorem d_G_word_47 : decode b_G_word 47 = .ok (.aload_n 0, 1) := by decide +kernel
theorem d_G_word_48 : decode b_G_word 48 = .ok (.getfield 68, 3) := by decide +kernel
theorem d_G_word_51 : decode b_G_word 51 = .ok (.bipush 9, 2) := by decide +kernel
theorem d_G_word_53 : decode b_G_word 53 = .ok (.ishl, 1) := by decide +kernel
theorem d_G_word_54 : decode b_G_word 54 = .ok (.ior, 1) := by decide +kernel
theorem d_G_word_55 : decode b_G_word 55 = .ok (.aload_n 0, 1) := by decide +kernel
theorem d_G_word_56 : decode b_G_word 56 = .ok (.getfield 50, 3) := by decide +kernel
theorem d_G_word_59 : decode b_G_word 59 = .ok (.ior, 1) := by decide +kernel
theorem d_G_word_60 : decode b_G_word 60 = .ok (.ireturn, 1) := by decide +kernel
theorem d_Qinit_0 : decode b_Qinit 0 = .ok (.aload_n 0, 1) := by decide +kernel
theorem d_Qinit_1 : decode b_Qinit 1 = .ok (.invokespecial 3, 3) := by decide +kernel
theorem d_Qinit_4 : decode b_Qinit 4 = .ok (.aload_n 0, 1) := by decide +kernel
theorem d_Qinit_5 : decode b_Qinit 5 = .ok (.bipush 8, 2) := by decide +kernel
theorem d_Qinit_7 : decode b_Qinit 7 = .ok (.sipush 252, 3) := by decide +kernel
theorem d_Qinit_10 : decode b_Qinit 10 = .ok (.multianewarray 11 2, 4) := by decide +kernel
theorem d_Qinit_14 : decode b_Qinit 14 = .ok (.putfield 13, 3) := by decide +kernel
theorem d_Qinit_17 : decode b_Qinit 17 = .ok (.aload_n 0, 1) := by decide +kernel
theorem d_Qinit_18 : decode b_Qinit 18 = .ok (.bipush 8, 2) := by decide +kernel
theorem d_Qinit_20 : decode b_Qinit 20 = .ok (.newarray .int, 2) := by decide +kernel
theorem d_Qinit_22 : decode b_Qinit 22 = .ok (.putfield 16, 3) := by decide +kernel
theorem d_Qinit_25 : decode b_Qinit 25 = .ok (.return_, 1) := by decide +kernel
theorem d_Q_isFull_0 : decode b_Q_isFull 0 = .ok (.aload_n 0, 1) := by decide +kernel
theorem d_Q_isFull_1 : decode b_Q_isFull 1 = .ok (.getfield 20, 3) := by decide +kernel
theorem d_Q_isFull_4 : decode b_Q_isFull 4 = .ok (.bipush 8, 2) := by decide +kernel
theorem d_Q_isFull_6 : decode b_Q_isFull 6 = .ok (.if_icmp .ne 7, 3) := by decide +kernel
theorem d_Q_isFull_9 : decode b_Q_isFull 9 = .ok (.iconst 1, 1) := by decide +kernel
theorem d_Q_isFull_10 : decode b_Q_isFull 10 = .ok (.goto 4, 3) := by decide +kernel
theorem d_Q_isFull_13 : decode b_Q_isFull 13 = .ok (.iconst 0, 1) := by decide +kernel
theorem d_Q_isFull_14 : decode b_Q_isFull 14 = .ok (.ireturn, 1) := by decide +kernel
theorem d_Q_put_0 : decode b_Q_put 0 = .ok (.aload_n 0, 1) := by decide +kernel
theorem d_Q_put_1 : decode b_Q_put 1 = .ok (.getfield 24, 3) := by decide +kernel
theorem d_Q_put_4 : decode b_Q_put 4 = .ok (.aload_n 0, 1) := by decide +kernel
theorem d_Q_put_5 : decode b_Q_put 5 = .ok (.getfield 20, 3) := by decide +kernel
theorem d_Q_put_8 : decode b_Q_put 8 = .ok (.iadd, 1) := by decide +kernel
theorem d_Q_put_9 : decode b_Q_put 9 = .ok (.bipush 8, 2) := by decide +kernel
theorem d_Q_put_11 : decode b_Q_put 11 = .ok (.irem, 1) := by decide +kernel
theorem d_Q_put_12 : decode b_Q_put 12 = .ok (.istore 4, 2) := by decide +kernel
theorem d_Q_put_14 : decode b_Q_put 14 = .ok (.aload_n 1, 1) := by decide +kernel
theorem d_Q_put_15 : decode b_Q_put 15 = .ok (.iload_n 2, 1) := by decide +kernel
theorem d_Q_put_16 : decode b_Q_put 16 = .ok (.aload_n 0, 1) := by decide +kernel
theorem d_Q_put_17 : decode b_Q_put 17 = .ok (.getfield 13, 3) := by decide +kernel
theorem d_Q_put_20 : decode b_Q_put 20 = .ok (.iload 4, 2) := by decide +kernel
theorem d_Q_put_22 : decode b_Q_put 22 = .ok (.aaload, 1) := by decide +kernel
theorem d_Q_put_23 : decode b_Q_put 23 = .ok (.iconst 0, 1) := by decide +kernel
theorem d_Q_put_24 : decode b_Q_put 24 = .ok (.iload_n 3, 1) := by decide +kernel
theorem d_Q_put_25 : decode b_Q_put 25 = .ok (.invokestatic 27, 3) := by decide +kernel
theorem d_Q_put_28 : decode b_Q_put 28 = .ok (.aload_n 0, 1) := by decide +kernel
theorem d_Q_put_29 : decode b_Q_put 29 = .ok (.getfield 16, 3) := by decide +kernel
theorem d_Q_put_32 : decode b_Q_put 32 = .ok (.iload 4, 2) := by decide +kernel
theorem d_Q_put_34 : decode b_Q_put 34 = .ok (.iload_n 3, 1) := by decide +kernel
theorem d_Q_put_35 : decode b_Q_put 35 = .ok (.iastore, 1) := by decide +kernel
theorem d_Q_put_36 : decode b_Q_put 36 = .ok (.aload_n 0, 1) := by decide +kernel
theorem d_Q_put_37 : decode b_Q_put 37 = .ok (.dup, 1) := by decide +kernel
theorem d_Q_put_38 : decode b_Q_put 38 = .ok (.getfield 20, 3) := by decide +kernel
theorem d_Q_put_41 : decode b_Q_put 41 = .ok (.iconst 1, 1) := by decide +kernel
theorem d_Q_put_42 : decode b_Q_put 42 = .ok (.iadd, 1) := by decide +kernel
theorem d_Q_put_43 : decode b_Q_put 43 = .ok (.putfield 20, 3) := by decide +kernel
theorem d_Q_put_46 : decode b_Q_put 46 = .ok (.return_, 1) := by decide +kernel
theorem d_Q_take_0 : decode b_Q_take 0 = .ok (.aload_n 0, 1) := by decide +kernel
theorem d_Q_take_1 : decode b_Q_take 1 = .ok (.getfield 20, 3) := by decide +kernel
theorem d_Q_take_4 : decode b_Q_take 4 = .ok (.ifCond .ne 5, 3) := by decide +kernel
theorem d_Q_take_7 : decode b_Q_take 7 = .ok (.iconst (-1), 1) := by decide +kernel
theorem d_Q_take_8 : decode b_Q_take 8 = .ok (.ireturn, 1) := by decide +kernel
theorem d_Q_take_9 : decode b_Q_take 9 = .ok (.aload_n 0, 1) := by decide +kernel
theorem d_Q_take_10 : decode b_Q_take 10 = .ok (.getfield 16, 3) := by decide +kernel
theorem d_Q_take_13 : decode b_Q_take 13 = .ok (.aload_n 0, 1) := by decide +kernel
theorem d_Q_take_14 : decode b_Q_take 14 = .ok (.getfield 24, 3) := by decide +kernel
theorem d_Q_take_17 : decode b_Q_take 17 = .ok (.iaload, 1) := by decide +kernel
theorem d_Q_take_18 : decode b_Q_take 18 = .ok (.istore_n 2, 1) := by decide +kernel
theorem d_Q_take_19 : decode b_Q_take 19 = .ok (.aload_n 0, 1) := by decide +kernel
theorem d_Q_take_20 : decode b_Q_take 20 = .ok (.getfield 13, 3) := by decide +kernel
theorem d_Q_take_23 : decode b_Q_take 23 = .ok (.aload_n 0, 1) := by decide +kernel
theorem d_Q_take_24 : decode b_Q_take 24 = .ok (.getfield 24, 3) := by decide +kernel
theorem d_Q_take_27 : decode b_Q_take 27 = .ok (.aaload, 1) := by decide +kernel
theorem d_Q_take_28 : decode b_Q_take 28 = .ok (.iconst 0, 1) := by decide +kernel
theorem d_Q_take_29 : decode b_Q_take 29 = .ok (.aload_n 1, 1) := by decide +kernel
theorem d_Q_take_30 : decode b_Q_take 30 = .ok (.iconst 0, 1) := by decide +kernel
theorem d_Q_take_31 : decode b_Q_take 31 = .ok (.iload_n 2, 1) := by decide +kernel
theorem d_Q_take_32 : decode b_Q_take 32 = .ok (.invokestatic 27, 3) := by decide +kernel
theorem d_Q_take_35 : decode b_Q_take 35 = .ok (.aload_n 0, 1) := by decide +kernel
theorem d_Q_take_36 : decode b_Q_take 36 = .ok (.aload_n 0, 1) := by decide +kernel
theorem d_Q_take_37 : decode b_Q_take 37 = .ok (.getfield 24, 3) := by decide +kernel
theorem d_Q_take_40 : decode b_Q_take 40 = .ok (.iconst 1, 1) := by decide +kernel
theorem d_Q_take_41 : decode b_Q_take 41 = .ok (.iadd, 1) := by decide +kernel
theorem d_Q_take_42 : decode b_Q_take 42 = .ok (.bipush 8, 2) := by decide +kernel
theorem d_Q_take_44 : decode b_Q_take 44 = .ok (.irem, 1) := by decide +kernel
theorem d_Q_take_45 : decode b_Q_take 45 = .ok (.putfield 24, 3) := by decide +kernel
theorem d_Q_take_48 : decode b_Q_take 48 = .ok (.aload_n 0, 1) := by decide +kernel
theorem d_Q_take_49 : decode b_Q_take 49 = .ok (.dup, 1) := by decide +kernel
theorem d_Q_take_50 : decode b_Q_take 50 = .ok (.getfield 20, 3) := by decide +kernel
theorem d_Q_take_53 : decode b_Q_take 53 = .ok (.iconst 1, 1) := by decide +kernel
theorem d_Q_take_54 : decode b_Q_take 54 = .ok (.isub, 1) := by decide +kernel
theorem d_Q_take_55 : decode b_Q_take 55 = .ok (.putfield 20, 3) := by decide +kernel
theorem d_Q_take_58 : decode b_Q_take 58 = .ok (.iload_n 2, 1) := by decide +kernel
theorem d_Q_take_59 : decode b_Q_take 59 = .ok (.ireturn, 1) := by decide +kernel
end
section
theorem d_L_law_0 : decode code 0 = .ok (.new 7, 3) := by decide +kernel
theorem d_L_law_3 : decode code 3 = .ok (.dup, 1) := by decide +kernel
theorem d_L_law_4 : decode code 4 = .ok (.invokespecial 9, 3) := by decide +kernel
theorem d_L_law_7 : decode code 7 = .ok (.astore_n 1, 1) := by decide +kernel
theorem d_L_law_8 : decode code 8 = .ok (.new 10, 3) := by decide +kernel
theorem d_L_law_11 : decode code 11 = .ok (.dup, 1) := by decide +kernel
theorem d_L_law_12 : decode code 12 = .ok (.invokespecial 12, 3) := by decide +kernel
theorem d_L_law_15 : decode code 15 = .ok (.astore_n 2, 1) := by decide +kernel
theorem d_L_law_16 : decode code 16 = .ok (.iconst 0, 1) := by decide +kernel
theorem d_L_law_17 : decode code 17 = .ok (.istore_n 3, 1) := by decide +kernel
theorem d_L_law_18 : decode code 18 = .ok (.iload_n 3, 1) := by decide +kernel
theorem d_L_law_19 : decode code 19 = .ok (.aload_n 0, 1) := by decide +kernel
theorem d_L_law_20 : decode code 20 = .ok (.arraylength, 1) := by decide +kernel
theorem d_L_law_21 : decode code 21 = .ok (.iconst 4, 1) := by decide +kernel
theorem d_L_law_22 : decode code 22 = .ok (.isub, 1) := by decide +kernel
theorem d_L_law_23 : decode code 23 = .ok (.if_icmp .gt 254, 3) := by decide +kernel
theorem d_L_law_26 : decode code 26 = .ok (.aload_n 0, 1) := by decide +kernel
theorem d_L_law_27 : decode code 27 = .ok (.iload_n 3, 1) := by decide +kernel
theorem d_L_law_28 : decode code 28 = .ok (.iaload, 1) := by decide +kernel
theorem d_L_law_29 : decode code 29 = .ok (.bipush 15, 2) := by decide +kernel
theorem d_L_law_31 : decode code 31 = .ok (.iand, 1) := by decide +kernel
theorem d_L_law_32 : decode code 32 = .ok (.tableswitch 239 0 8 #[52, 115, 128, 141, 154, 167, 190, 203, 216], 52) := by decide +kernel
theorem d_L_law_84 : decode code 84 = .ok (.aload_n 1, 1) := by decide +kernel
theorem d_L_law_85 : decode code 85 = .ok (.aload_n 0, 1) := by decide +kernel
theorem d_L_law_86 : decode code 86 = .ok (.iload_n 3, 1) := by decide +kernel
theorem d_L_law_87 : decode code 87 = .ok (.iconst 1, 1) := by decide +kernel
theorem d_L_law_88 : decode code 88 = .ok (.iadd, 1) := by decide +kernel
theorem d_L_law_89 : decode code 89 = .ok (.iaload, 1) := by decide +kernel
theorem d_L_law_90 : decode code 90 = .ok (.i2l, 1) := by decide +kernel
theorem d_L_law_91 : decode code 91 = .ok (.bipush 32, 2) := by decide +kernel
theorem d_L_law_93 : decode code 93 = .ok (.lshl, 1) := by decide +kernel
theorem d_L_law_94 : decode code 94 = .ok (.aload_n 0, 1) := by decide +kernel
theorem d_L_law_95 : decode code 95 = .ok (.iload_n 3, 1) := by decide +kernel
theorem d_L_law_96 : decode code 96 = .ok (.iconst 2, 1) := by decide +kernel
theorem d_L_law_97 : decode code 97 = .ok (.iadd, 1) := by decide +kernel
theorem d_L_law_98 : decode code 98 = .ok (.iaload, 1) := by decide +kernel
theorem d_L_law_99 : decode code 99 = .ok (.i2l, 1) := by decide +kernel
theorem d_L_law_100 : decode code 100 = .ok (.ldc2_w 13, 3) := by decide +kernel
theorem d_L_law_103 : decode code 103 = .ok (.land, 1) := by decide +kernel
theorem d_L_law_104 : decode code 104 = .ok (.lor, 1) := by decide +kernel
theorem d_L_law_105 : decode code 105 = .ok (.aload_n 0, 1) := by decide +kernel
theorem d_L_law_106 : decode code 106 = .ok (.iload_n 3, 1) := by decide +kernel
theorem d_L_law_107 : decode code 107 = .ok (.iconst 3, 1) := by decide +kernel
theorem d_L_law_108 : decode code 108 = .ok (.iadd, 1) := by decide +kernel
theorem d_L_law_109 : decode code 109 = .ok (.iaload, 1) := by decide +kernel
theorem d_L_law_110 : decode code 110 = .ok (.invokevirtual 15, 3) := by decide +kernel
theorem d_L_law_113 : decode code 113 = .ok (.aload_n 2, 1) := by decide +kernel
theorem d_L_law_114 : decode code 114 = .ok (.aload_n 0, 1) := by decide +kernel
theorem d_L_law_115 : decode code 115 = .ok (.iload_n 3, 1) := by decide +kernel
theorem d_L_law_116 : decode code 116 = .ok (.iconst 1, 1) := by decide +kernel
theorem d_L_law_117 : decode code 117 = .ok (.iadd, 1) := by decide +kernel
theorem d_L_law_118 : decode code 118 = .ok (.iaload, 1) := by decide +kernel
theorem d_L_law_119 : decode code 119 = .ok (.i2l, 1) := by decide +kernel
theorem d_L_law_120 : decode code 120 = .ok (.bipush 32, 2) := by decide +kernel
theorem d_L_law_122 : decode code 122 = .ok (.lshl, 1) := by decide +kernel
theorem d_L_law_123 : decode code 123 = .ok (.aload_n 0, 1) := by decide +kernel
theorem d_L_law_124 : decode code 124 = .ok (.iload_n 3, 1) := by decide +kernel
theorem d_L_law_125 : decode code 125 = .ok (.iconst 2, 1) := by decide +kernel
theorem d_L_law_126 : decode code 126 = .ok (.iadd, 1) := by decide +kernel
theorem d_L_law_127 : decode code 127 = .ok (.iaload, 1) := by decide +kernel
theorem d_L_law_128 : decode code 128 = .ok (.i2l, 1) := by decide +kernel
theorem d_L_law_129 : decode code 129 = .ok (.ldc2_w 13, 3) := by decide +kernel
theorem d_L_law_132 : decode code 132 = .ok (.land, 1) := by decide +kernel
theorem d_L_law_133 : decode code 133 = .ok (.lor, 1) := by decide +kernel
theorem d_L_law_134 : decode code 134 = .ok (.aload_n 0, 1) := by decide +kernel
theorem d_L_law_135 : decode code 135 = .ok (.iload_n 3, 1) := by decide +kernel
theorem d_L_law_136 : decode code 136 = .ok (.iconst 3, 1) := by decide +kernel
theorem d_L_law_137 : decode code 137 = .ok (.iadd, 1) := by decide +kernel
theorem d_L_law_138 : decode code 138 = .ok (.iaload, 1) := by decide +kernel
theorem d_L_law_139 : decode code 139 = .ok (.invokevirtual 19, 3) := by decide +kernel
theorem d_L_law_142 : decode code 142 = .ok (.if_icmp .eq 129, 3) := by decide +kernel
theorem d_L_law_145 : decode code 145 = .ok (.iconst 0, 1) := by decide +kernel
theorem d_L_law_146 : decode code 146 = .ok (.ireturn, 1) := by decide +kernel
theorem d_L_law_147 : decode code 147 = .ok (.aload_n 1, 1) := by decide +kernel
theorem d_L_law_148 : decode code 148 = .ok (.invokevirtual 20, 3) := by decide +kernel
theorem d_L_law_151 : decode code 151 = .ok (.aload_n 2, 1) := by decide +kernel
theorem d_L_law_152 : decode code 152 = .ok (.invokevirtual 24, 3) := by decide +kernel
theorem d_L_law_155 : decode code 155 = .ok (.if_icmp .eq 116, 3) := by decide +kernel
theorem d_L_law_158 : decode code 158 = .ok (.iconst 0, 1) := by decide +kernel
theorem d_L_law_159 : decode code 159 = .ok (.ireturn, 1) := by decide +kernel
theorem d_L_law_160 : decode code 160 = .ok (.aload_n 1, 1) := by decide +kernel
theorem d_L_law_161 : decode code 161 = .ok (.invokevirtual 25, 3) := by decide +kernel
theorem d_L_law_164 : decode code 164 = .ok (.aload_n 2, 1) := by decide +kernel
theorem d_L_law_165 : decode code 165 = .ok (.invokevirtual 29, 3) := by decide +kernel
theorem d_L_law_168 : decode code 168 = .ok (.if_icmp .eq 103, 3) := by decide +kernel
theorem d_L_law_171 : decode code 171 = .ok (.iconst 0, 1) := by decide +kernel
theorem d_L_law_172 : decode code 172 = .ok (.ireturn, 1) := by decide +kernel
theorem d_L_law_173 : decode code 173 = .ok (.aload_n 1, 1) := by decide +kernel
theorem d_L_law_174 : decode code 174 = .ok (.invokevirtual 30, 3) := by decide +kernel
theorem d_L_law_177 : decode code 177 = .ok (.aload_n 2, 1) := by decide +kernel
theorem d_L_law_178 : decode code 178 = .ok (.invokevirtual 33, 3) := by decide +kernel
theorem d_L_law_181 : decode code 181 = .ok (.if_icmp .eq 90, 3) := by decide +kernel
theorem d_L_law_184 : decode code 184 = .ok (.iconst 0, 1) := by decide +kernel
theorem d_L_law_185 : decode code 185 = .ok (.ireturn, 1) := by decide +kernel
theorem d_L_law_186 : decode code 186 = .ok (.aload_n 1, 1) := by decide +kernel
theorem d_L_law_187 : decode code 187 = .ok (.invokevirtual 34, 3) := by decide +kernel
theorem d_L_law_190 : decode code 190 = .ok (.aload_n 2, 1) := by decide +kernel
theorem d_L_law_191 : decode code 191 = .ok (.invokevirtual 37, 3) := by decide +kernel
theorem d_L_law_194 : decode code 194 = .ok (.if_icmp .eq 77, 3) := by decide +kernel
theorem d_L_law_197 : decode code 197 = .ok (.iconst 0, 1) := by decide +kernel
theorem d_L_law_198 : decode code 198 = .ok (.ireturn, 1) := by decide +kernel
theorem d_L_law_199 : decode code 199 = .ok (.aload_n 1, 1) := by decide +kernel
theorem d_L_law_200 : decode code 200 = .ok (.aload_n 0, 1) := by decide +kernel
theorem d_L_law_201 : decode code 201 = .ok (.iload_n 3, 1) := by decide +kernel
theorem d_L_law_202 : decode code 202 = .ok (.iconst 1, 1) := by decide +kernel
theorem d_L_law_203 : decode code 203 = .ok (.iadd, 1) := by decide +kernel
theorem d_L_law_204 : decode code 204 = .ok (.iaload, 1) := by decide +kernel
theorem d_L_law_205 : decode code 205 = .ok (.invokevirtual 38, 3) := by decide +kernel
theorem d_L_law_208 : decode code 208 = .ok (.aload_n 2, 1) := by decide +kernel
theorem d_L_law_209 : decode code 209 = .ok (.aload_n 0, 1) := by decide +kernel
theorem d_L_law_210 : decode code 210 = .ok (.iload_n 3, 1) := by decide +kernel
theorem d_L_law_211 : decode code 211 = .ok (.iconst 1, 1) := by decide +kernel
theorem d_L_law_212 : decode code 212 = .ok (.iadd, 1) := by decide +kernel
theorem d_L_law_213 : decode code 213 = .ok (.iaload, 1) := by decide +kernel
theorem d_L_law_214 : decode code 214 = .ok (.invokevirtual 42, 3) := by decide +kernel
theorem d_L_law_217 : decode code 217 = .ok (.if_icmp .eq 54, 3) := by decide +kernel
theorem d_L_law_220 : decode code 220 = .ok (.iconst 0, 1) := by decide +kernel
theorem d_L_law_221 : decode code 221 = .ok (.ireturn, 1) := by decide +kernel
theorem d_L_law_222 : decode code 222 = .ok (.aload_n 1, 1) := by decide +kernel
theorem d_L_law_223 : decode code 223 = .ok (.invokevirtual 43, 3) := by decide +kernel
theorem d_L_law_226 : decode code 226 = .ok (.aload_n 2, 1) := by decide +kernel
theorem d_L_law_227 : decode code 227 = .ok (.invokevirtual 46, 3) := by decide +kernel
theorem d_L_law_230 : decode code 230 = .ok (.if_icmp .eq 41, 3) := by decide +kernel
theorem d_L_law_233 : decode code 233 = .ok (.iconst 0, 1) := by decide +kernel
theorem d_L_law_234 : decode code 234 = .ok (.ireturn, 1) := by decide +kernel
theorem d_L_law_235 : decode code 235 = .ok (.aload_n 1, 1) := by decide +kernel
theorem d_L_law_236 : decode code 236 = .ok (.invokevirtual 47, 3) := by decide +kernel
theorem d_L_law_239 : decode code 239 = .ok (.aload_n 2, 1) := by decide +kernel
theorem d_L_law_240 : decode code 240 = .ok (.invokevirtual 50, 3) := by decide +kernel
theorem d_L_law_243 : decode code 243 = .ok (.if_icmp .eq 28, 3) := by decide +kernel
theorem d_L_law_246 : decode code 246 = .ok (.iconst 0, 1) := by decide +kernel
theorem d_L_law_247 : decode code 247 = .ok (.ireturn, 1) := by decide +kernel
theorem d_L_law_248 : decode code 248 = .ok (.aload_n 1, 1) := by decide +kernel
theorem d_L_law_249 : decode code 249 = .ok (.aload_n 0, 1) := by decide +kernel
theorem d_L_law_250 : decode code 250 = .ok (.iload_n 3, 1) := by decide +kernel
theorem d_L_law_251 : decode code 251 = .ok (.iconst 1, 1) := by decide +kernel
theorem d_L_law_252 : decode code 252 = .ok (.iadd, 1) := by decide +kernel
theorem d_L_law_253 : decode code 253 = .ok (.iaload, 1) := by decide +kernel
theorem d_L_law_254 : decode code 254 = .ok (.invokevirtual 51, 3) := by decide +kernel
theorem d_L_law_257 : decode code 257 = .ok (.aload_n 2, 1) := by decide +kernel
theorem d_L_law_258 : decode code 258 = .ok (.aload_n 0, 1) := by decide +kernel
theorem d_L_law_259 : decode code 259 = .ok (.iload_n 3, 1) := by decide +kernel
theorem d_L_law_260 : decode code 260 = .ok (.iconst 1, 1) := by decide +kernel
theorem d_L_law_261 : decode code 261 = .ok (.iadd, 1) := by decide +kernel
theorem d_L_law_262 : decode code 262 = .ok (.iaload, 1) := by decide +kernel
theorem d_L_law_263 : decode code 263 = .ok (.invokevirtual 54, 3) := by decide +kernel
theorem d_L_law_266 : decode code 266 = .ok (.if_icmp .eq 5, 3) := by decide +kernel
theorem d_L_law_269 : decode code 269 = .ok (.iconst 0, 1) := by decide +kernel
theorem d_L_law_270 : decode code 270 = .ok (.ireturn, 1) := by decide +kernel
theorem d_L_law_271 : decode code 271 = .ok (.iinc 3 4, 3) := by decide +kernel
theorem d_L_law_274 : decode code 274 = .ok (.goto (-256), 3) := by decide +kernel
theorem d_L_law_277 : decode code 277 = .ok (.iconst 1, 1) := by decide +kernel
theorem d_L_law_278 : decode code 278 = .ok (.ireturn, 1) := by decide +kernel
end
section
theorem fg_and15 {c : Nat} (h : c < 65536) : c &&& 32768 = 0 ↔ c < 32768 := by
  have e1 : (c &&& 32768) / 2 ^ 15 = c / 2 ^ 15 % 2 := by
    rw [← Nat.shiftRight_eq_div_pow, Nat.shiftRight_and_distrib, Nat.shiftRight_eq_div_pow, show 32768 >>> 15 = 1 from rfl, Nat.and_one_is_mod]
  have e2 : (c &&& 32768) % 2 ^ 15 = 0 := by
    rw [Nat.and_mod_two_pow, show 32768 % 2 ^ 15 = 0 from rfl, Nat.and_zero]
  omega
theorem fg_cst0 {c : Nat} (h : c < 65536) (h2 : c &&& 32768 = 0) : cst c = c * 2 ^ 1 := if_pos ((fg_and15 h).mp h2)
theorem fg_cst1 {c : Nat} (h : c < 65536) (h2 : ¬ c &&& 32768 = 0) : cst c = (c * 2 ^ 1) ^^^ 69665 := if_neg (fun q => h2 ((fg_and15 h).mpr q))
theorem fg_cst2 {c : Nat} (h2 : c * 2 < 65536) : cst c = c * 2 := if_pos (by omega)
theorem fg_cst3 {c : Nat} (h2 : ¬ c * 2 < 65536) : cst c = (c * 2) ^^^ 69665 := if_neg (by omega)
set_option maxHeartbeats 4000000 in
set_option maxRecDepth 100000 in
/-- Check.of(row, 0, n): the check of n bytes -/
theorem c_K_of (l : Launch) (dC : Nat → ClassId) (dI : Nat → Nat → Nat) (cB cI cG : ClassId) (a : Nat) (t : Nat → Int32) (n : Nat) (sz : Nat) (hn : n ≤ 259) : Met l y_K_of (Cond.code y_K_of b_K_of 6 (some .int) :: w_all) ({ frames := 0, cells := 0, slots := 0, locals := 0 }) (va_Pc [.ref a, .int (nI 0), .int (nI n)] (fgPre (dC, dI) (tysA cB cI cG) [(a, .inl (cB, 259, .inl t))] sz)) (vp_Si (fun r => r = nI (crc t n))) 0 0 (fun _ => False) := by
  refine Met.ofW (cc := b_K_of) (maxL := 6) (ret := (some .int)) (by decide) rfl ?_
  intro p e s m args below meth c s₁ B hml hv
  obtain ⟨rfl, hsz, hP, hK, hD0⟩ := hv
  have hx := B.exec
  have hb := B.bytes
  have hr := B.returns
  have hts := atoms_spec (ws := (Cond.code y_K_of b_K_of 6 (some .int) :: w_all)) B.pre
  have ht : ∀ w ∈ w_all, w.before _ s = true := fun w h => hts w (List.mem_cons_of_mem _ h)
  have hown : s.vm.findClass R_K = some m.cls := findClass_of_methodNamed B.named
  have hlocks := B.notSynchronized
  subst hsz
  have hD := hD0
  have hl := lv_entry ([.ref a, .int (nI 0), .int (nI n)]) (n := 6) (Nat.le_of_ble_eq_true rfl)
  rw [lg_entry_eq]
  generalize (lg_sl ([.ref a, .int (nI 0), .int (nI n)]) ++ List.replicate (6 - (lg_sl ([.ref a, .int (nI 0), .int (nI n)])).length) Slot.unset).toArray = ls at hl ⊢
  have hl : lv_has ls 6 [(0, .ref a), (1, .int (nI 0)), (2, .int (nI n))] := hl
  refine lv_ldc (v := 65535) hx hb hown (ht _ m_104) d_K_of_0 ?_
  refine fg_nm (y := nI 65535) (by decide) ?_
  refine lv_istore_n (lv' := [(3, .int (nI 65535)), (0, .ref a), (1, .int (nI 0)), (2, .int (nI n))]) hx hb d_K_of_2 rfl hl (by decide) rfl (fun ls hl => ?_)
  refine lv_iload_n hx hb d_K_of_3 rfl (lv_at hl 2 rfl) ?_
  refine lv_istore (lv' := [(4, .int (nI 0)), (3, .int (nI 65535)), (0, .ref a), (1, .int (nI 0)), (2, .int (nI n))]) hx hb d_K_of_4 hl (by decide) rfl (fun ls hl => ?_)
  refine fg_loop (fun d ls H1 locs1 => ∃ k, k + d = n ∧ H1 = s.heap ∧ locs1 = [] ∧ lv_has ls 6 [(0, .ref a), (1, .int (nI 0)), (2, .int (nI n)), (3, .int (nI (crc t k))), (4, .int (nI k))]) (fun d ih ls H1 locs1 hI => ?_) n ⟨0, by omega, rfl, rfl, lv_sub hl [2, 3, 4, 1, 0] rfl⟩
  obtain ⟨k, hk, rfl, rfl, hl⟩ := hI
  refine lv_iload hx hb d_K_of_6 (lv_at hl 4 rfl) ?_
  refine lv_iload_n hx hb d_K_of_8 rfl (lv_at hl 1 rfl) ?_
  refine lv_iload_n hx hb d_K_of_9 rfl (lv_at hl 2 rfl) ?_
  refine fg_iadd hx hb d_K_of_10 ?_
  refine fg_cmp_ge (tgt := 70) hx hb d_K_of_11 (by decide) (by omega) (by omega) (fun c_11 => ?_) (fun c_11 => ?_)
  · refine lv_iload_n hx hb d_K_of_70 rfl (lv_at hl 3 rfl) ?_
    obtain rfl : k = n := by omega
    exact W.iret (v := (nI (crc t k))) hx hb hr (fun t9 ht9 hW9 => ⟨(nI (crc t k)), rfl, rfl, ht9⟩) (fun q h => by cases h) d_K_of_71
  · refine lv_iload_n hx hb d_K_of_14 rfl (lv_at hl 3 rfl) ?_
    refine lv_aload_n hx hb d_K_of_15 rfl (lv_at hl 0 rfl) ?_
    refine lv_iload hx hb d_K_of_16 (lv_at hl 4 rfl) ?_
    refine fg_bald hx hb hK hP 0 0 rfl rfl (by omega) (by decide) d_K_of_18 ?_
    refine lv_sipush (v := (nI 255)) hx hb d_K_of_19 (by decide) ?_
    refine fg_iand255 hx hb d_K_of_22 ?_
    have hbN_22 := bN_lt (t k)
    refine lv_bipush (v := (nI 8)) hx hb d_K_of_23 (by decide) ?_
    refine fg_ishl hx hb d_K_of_25 (by decide) (by omega) ?_
    refine fg_ixor hx hb d_K_of_26 ?_
    refine fg_nm (y := (nI (crc t k ^^^ (bN (t k) * 256)))) (rfl) ?_
    refine lv_istore_n (lv' := [(3, .int (nI (crc t k ^^^ (bN (t k) * 256)))), (0, .ref a), (1, .int (nI 0)), (2, .int (nI n)), (4, .int (nI k))]) hx hb d_K_of_27 rfl hl (by decide) rfl (fun ls hl => ?_)
    refine lv_iconst (v := (nI 0)) hx hb d_K_of_28 (by decide) ?_
    refine lv_istore (lv' := [(5, .int (nI 0)), (3, .int (nI (crc t k ^^^ (bN (t k) * 256)))), (0, .ref a), (1, .int (nI 0)), (2, .int (nI n)), (4, .int (nI k))]) hx hb d_K_of_29 hl (by decide) rfl (fun ls hl => ?_)
    have hc0 := crc_lt t k
    have hb0 := bN_lt (t k)
    have hx0 : crc t k ^^^ (bN (t k) * 256) < 65536 := x_lt (n := 16) hc0 (by omega)
    generalize hxe : crc t k ^^^ (bN (t k) * 256) = x at hl hx0
    refine fg_loop (fun d ls H1 locs1 => ∃ j, j + d = 8 ∧ H1 = s.heap ∧ locs1 = [] ∧ lv_has ls 6 [(0, .ref a), (1, .int (nI 0)), (2, .int (nI n)), (3, .int (nI (cit x j))), (4, .int (nI k)), (5, .int (nI j))]) (fun d2 ih2 ls H1 locs1 hI => ?_) 8 ⟨0, by omega, rfl, rfl, lv_sub hl [2, 3, 4, 1, 5, 0] rfl⟩
    obtain ⟨j, hj, rfl, rfl, hl⟩ := hI
    have hcj := cit_lt hx0 j
    refine lv_iload hx hb d_K_of_31 (lv_at hl 5 rfl) ?_
    refine lv_bipush (v := (nI 8)) hx hb d_K_of_33 (by decide) ?_
    refine fg_cmp_ge (tgt := 64) hx hb d_K_of_35 (by decide) (by omega) (by omega) (fun c_35 => ?_) (fun c_35 => ?_)
    · obtain rfl : j = 8 := by omega
      rw [← hxe] at hl
      have hl : lv_has ls 6 [(0, .ref a), (1, .int (nI 0)), (2, .int (nI n)), (3, .int (nI (crc t (k + 1)))), (4, .int (nI k)), (5, .int (nI 8))] := hl
      refine fg_iinc (n := 1) (k := 4) (lv' := [(4, .int (nI (k + 1))), (0, .ref a), (1, .int (nI 0)), (2, .int (nI n)), (3, .int (nI (crc t (k + 1)))), (5, .int (nI 8))]) hx hb d_K_of_64 hl rfl (by decide) rfl (fun ls hl => ?_)
      refine lv_goto (tgt := 6) hx hb d_K_of_67 (by decide) ?_
      exact ih (d - 1) (by omega) _ _ _ ⟨k + 1, by omega, rfl, rfl, lv_sub hl [1, 2, 3, 4, 0] rfl⟩
    · refine lv_iload_n hx hb d_K_of_38 rfl (lv_at hl 3 rfl) ?_
      refine lv_ldc (v := 32768) hx hb hown (ht _ m_105) d_K_of_39 ?_
      refine fg_nm (y := nI 32768) (by decide) ?_
      refine fg_iand hx hb d_K_of_41 ?_
      refine fg_if_eq (tgt := 54) hx hb d_K_of_42 (by decide) (Nat.lt_of_le_of_lt Nat.and_le_right (by decide)) (fun c_42 => ?_) (fun c_42 => ?_)
      · refine lv_iload_n hx hb d_K_of_54 rfl (lv_at hl 3 rfl) ?_
        refine lv_iconst (v := (nI 1)) hx hb d_K_of_55 (by decide) ?_
        refine fg_ishl hx hb d_K_of_56 (by decide) (by omega) ?_
        refine fg_nm (y := (nI (cit x (j + 1)))) (congrArg nI (show cit x j * 2 ^ 1 = cst (cit x j) from (fg_cst0 hcj c_42).symm)) ?_
        refine lv_istore_n (lv' := [(3, .int (nI (cit x (j + 1)))), (0, .ref a), (1, .int (nI 0)), (2, .int (nI n)), (4, .int (nI k)), (5, .int (nI j))]) hx hb d_K_of_57 rfl hl (by decide) rfl (fun ls hl => ?_)
        refine fg_iinc (n := 1) (k := 5) (lv' := [(5, .int (nI (j + 1))), (3, .int (nI (cit x (j + 1)))), (0, .ref a), (1, .int (nI 0)), (2, .int (nI n)), (4, .int (nI k))]) hx hb d_K_of_58 hl rfl (by decide) rfl (fun ls hl => ?_)
        refine lv_goto (tgt := 31) hx hb d_K_of_61 (by decide) ?_
        exact ih2 (d2 - 1) (by omega) _ _ _ ⟨j + 1, by omega, rfl, rfl, lv_sub hl [2, 3, 4, 1, 5, 0] rfl⟩
      · refine lv_iload_n hx hb d_K_of_45 rfl (lv_at hl 3 rfl) ?_
        refine lv_iconst (v := (nI 1)) hx hb d_K_of_46 (by decide) ?_
        refine fg_ishl hx hb d_K_of_47 (by decide) (by omega) ?_
        refine lv_ldc (v := 69665) hx hb hown (ht _ m_106) d_K_of_48 ?_
        refine fg_nm (y := nI 69665) (by decide) ?_
        refine fg_ixor hx hb d_K_of_50 ?_
        refine lv_goto (tgt := 57) hx hb d_K_of_51 (by decide) ?_
        refine fg_nm (y := (nI (cit x (j + 1)))) (congrArg nI (show (cit x j * 2 ^ 1) ^^^ 69665 = cst (cit x j) from (fg_cst1 hcj c_42).symm)) ?_
        refine lv_istore_n (lv' := [(3, .int (nI (cit x (j + 1)))), (0, .ref a), (1, .int (nI 0)), (2, .int (nI n)), (4, .int (nI k)), (5, .int (nI j))]) hx hb d_K_of_57 rfl hl (by decide) rfl (fun ls hl => ?_)
        refine fg_iinc (n := 1) (k := 5) (lv' := [(5, .int (nI (j + 1))), (3, .int (nI (cit x (j + 1)))), (0, .ref a), (1, .int (nI 0)), (2, .int (nI n)), (4, .int (nI k))]) hx hb d_K_of_58 hl rfl (by decide) rfl (fun ls hl => ?_)
        refine lv_goto (tgt := 31) hx hb d_K_of_61 (by decide) ?_
        exact ih2 (d2 - 1) (by omega) _ _ _ ⟨j + 1, by omega, rfl, rfl, lv_sub hl [2, 3, 4, 1, 5, 0] rfl⟩
set_option maxHeartbeats 4000000 in
set_option maxRecDepth 100000 in
/-- Model.check(n): the check of n bytes -/
theorem c_M_check (l : Launch) (dC : Nat → ClassId) (dI : Nat → Nat → Nat) (cB cI cG : ClassId) (h0 a1 : Nat) (t : Nat → Int32) (f0 f2 f3 f4 f5 f6 f7 f8 f9 f10 f11 f12 f13 f14 : Value) (n : Nat) (sz : Nat) (hn : n ≤ 259) : Met l y_M_check (Cond.code y_M_check b_M_check 5 (some .int) :: w_all) ({ frames := 0, cells := 0, slots := 0, locals := 0 }) (va_Pc [.ref h0, .int (nI n)] (fgPre (dC, dI) (tysA cB cI cG) [(h0, .inr (3, [f0, .ref a1, f2, f3, f4, f5, f6, f7, f8, f9, f10, f11, f12, f13, f14])), (a1, .inl (cB, 259, .inl t))] sz)) (vp_Si (fun r => r = nI (crc t n))) 0 0 (fun _ => False) := by
  refine Met.ofW (cc := b_M_check) (maxL := 5) (ret := (some .int)) (by decide) rfl ?_
  intro p e s m args below meth c s₁ B hml hv
  obtain ⟨rfl, hsz, hP, hK, hD0⟩ := hv
  have hx := B.exec
  have hb := B.bytes
  have hr := B.returns
  have hts := atoms_spec (ws := (Cond.code y_M_check b_M_check 5 (some .int) :: w_all)) B.pre
  have ht : ∀ w ∈ w_all, w.before _ s = true := fun w h => hts w (List.mem_cons_of_mem _ h)
  have hown : s.vm.findClass R_M = some m.cls := findClass_of_methodNamed B.named
  have hlocks := B.notSynchronized
  subst hsz
  have hD := hD0
  have hl := lv_entry ([.ref h0, .int (nI n)]) (n := 5) (Nat.le_of_ble_eq_true rfl)
  rw [lg_entry_eq]
  generalize (lg_sl ([.ref h0, .int (nI n)]) ++ List.replicate (5 - (lg_sl ([.ref h0, .int (nI n)])).length) Slot.unset).toArray = ls at hl ⊢
  have hl : lv_has ls 5 [(0, .ref h0), (1, .int (nI n))] := hl
  refine lv_ldc (v := 65535) hx hb hown (ht _ m_255) d_M_check_0 ?_
  refine fg_nm (y := nI 65535) (by decide) ?_
  refine lv_istore_n (lv' := [(2, .int (nI 65535)), (0, .ref h0), (1, .int (nI n))]) hx hb d_M_check_2 rfl hl (by decide) rfl (fun ls hl => ?_)
  refine lv_iconst (v := (nI 0)) hx hb d_M_check_3 (by decide) ?_
  refine lv_istore_n (lv' := [(3, .int (nI 0)), (2, .int (nI 65535)), (0, .ref h0), (1, .int (nI n))]) hx hb d_M_check_4 rfl hl (by decide) rfl (fun ls hl => ?_)
  refine fg_loop (fun d ls H1 locs1 => ∃ k, k + d = n ∧ H1 = s.heap ∧ locs1 = [] ∧ lv_has ls 5 [(0, .ref h0), (1, .int (nI n)), (2, .int (nI (crc t k))), (3, .int (nI k))]) (fun d ih ls H1 locs1 hI => ?_) n ⟨0, by omega, rfl, rfl, lv_sub hl [2, 3, 1, 0] rfl⟩
  obtain ⟨k, hk, rfl, rfl, hl⟩ := hI
  refine lv_iload_n hx hb d_M_check_5 rfl (lv_at hl 3 rfl) ?_
  refine lv_iload_n hx hb d_M_check_6 rfl (lv_at hl 1 rfl) ?_
  refine fg_cmp_ge (tgt := 68) hx hb d_M_check_7 (by decide) (by omega) (by omega) (fun c_7 => ?_) (fun c_7 => ?_)
  · refine lv_iload_n hx hb d_M_check_68 rfl (lv_at hl 2 rfl) ?_
    obtain rfl : k = n := by omega
    exact W.iret (v := (nI (crc t k))) hx hb hr (fun t9 ht9 hW9 => ⟨(nI (crc t k)), rfl, rfl, ht9⟩) (fun q h => by cases h) d_M_check_69
  · refine lv_iload_n hx hb d_M_check_10 rfl (lv_at hl 2 rfl) ?_
    refine lv_aload_n hx hb d_M_check_11 rfl (lv_at hl 0 rfl) ?_
    refine va_get (D := (dC, dI)) (ci := 3) (v := .ref a1) (C := R_M) (T := F_M) (N := 15) hx hb ht i_M hown hK hP 0 rfl rfl 1 (by decide) (ht _ m_198) (fun _ h9 => h9) rfl d_M_check_12 ?_
    refine lv_iload_n hx hb d_M_check_15 rfl (lv_at hl 3 rfl) ?_
    refine fg_bald hx hb hK hP 1 0 rfl rfl (by omega) (by decide) d_M_check_16 ?_
    refine lv_sipush (v := (nI 255)) hx hb d_M_check_17 (by decide) ?_
    refine fg_iand255 hx hb d_M_check_20 ?_
    have hbN_20 := bN_lt (t k)
    refine lv_sipush (v := (nI 256)) hx hb d_M_check_21 (by decide) ?_
    refine fg_imul hx hb d_M_check_24 ?_
    refine fg_ixor hx hb d_M_check_25 ?_
    refine lv_istore_n (lv' := [(2, .int (nI ((crc t k) ^^^ ((bN (t k)) * 256)))), (0, .ref h0), (1, .int (nI n)), (3, .int (nI k))]) hx hb d_M_check_26 rfl hl (by decide) rfl (fun ls hl => ?_)
    refine lv_iconst (v := (nI 0)) hx hb d_M_check_27 (by decide) ?_
    refine lv_istore (lv' := [(4, .int (nI 0)), (2, .int (nI ((crc t k) ^^^ ((bN (t k)) * 256)))), (0, .ref h0), (1, .int (nI n)), (3, .int (nI k))]) hx hb d_M_check_28 hl (by decide) rfl (fun ls hl => ?_)
    have hc0 := crc_lt t k
    have hb0 := bN_lt (t k)
    have hx0 : crc t k ^^^ (bN (t k) * 256) < 65536 := x_lt (n := 16) hc0 (by omega)
    generalize hxe : crc t k ^^^ (bN (t k) * 256) = x at hl hx0
    refine fg_loop (fun d ls H1 locs1 => ∃ j, j + d = 8 ∧ H1 = s.heap ∧ locs1 = [] ∧ lv_has ls 5 [(0, .ref h0), (1, .int (nI n)), (2, .int (nI (cit x j))), (3, .int (nI k)), (4, .int (nI j))]) (fun d2 ih2 ls H1 locs1 hI => ?_) 8 ⟨0, by omega, rfl, rfl, lv_sub hl [2, 3, 1, 4, 0] rfl⟩
    obtain ⟨j, hj, rfl, rfl, hl⟩ := hI
    have hcj := cit_lt hx0 j
    refine lv_iload hx hb d_M_check_30 (lv_at hl 4 rfl) ?_
    refine lv_bipush (v := (nI 8)) hx hb d_M_check_32 (by decide) ?_
    refine fg_cmp_ge (tgt := 62) hx hb d_M_check_34 (by decide) (by omega) (by omega) (fun c_34 => ?_) (fun c_34 => ?_)
    · obtain rfl : j = 8 := by omega
      rw [← hxe] at hl
      have hl : lv_has ls 5 [(0, .ref h0), (1, .int (nI n)), (2, .int (nI (crc t (k + 1)))), (3, .int (nI k)), (4, .int (nI 8))] := hl
      refine fg_iinc (n := 1) (k := 3) (lv' := [(3, .int (nI (k + 1))), (0, .ref h0), (1, .int (nI n)), (2, .int (nI (crc t (k + 1)))), (4, .int (nI 8))]) hx hb d_M_check_62 hl rfl (by decide) rfl (fun ls hl => ?_)
      refine lv_goto (tgt := 5) hx hb d_M_check_65 (by decide) ?_
      exact ih (d - 1) (by omega) _ _ _ ⟨k + 1, by omega, rfl, rfl, lv_sub hl [1, 2, 3, 0] rfl⟩
    · refine lv_iload_n hx hb d_M_check_37 rfl (lv_at hl 2 rfl) ?_
      refine lv_iconst (v := (nI 2)) hx hb d_M_check_38 (by decide) ?_
      refine fg_imul hx hb d_M_check_39 ?_
      refine lv_istore_n (lv' := [(2, .int (nI ((cit x j) * 2))), (0, .ref h0), (1, .int (nI n)), (3, .int (nI k)), (4, .int (nI j))]) hx hb d_M_check_40 rfl hl (by decide) rfl (fun ls hl => ?_)
      refine lv_iload_n hx hb d_M_check_41 rfl (lv_at hl 0 rfl) ?_
      refine lv_ldc (v := 65536) hx hb hown (ht _ m_256) d_M_check_42 ?_
      refine fg_nm (y := nI 65536) (by decide) ?_
      refine fg_cmp_lt (tgt := 54) hx hb d_M_check_44 (by decide) (by omega) (by omega) (fun c_44 => ?_) (fun c_44 => ?_)
      · refine lv_iload_n hx hb d_M_check_54 rfl (lv_at hl 0 rfl) ?_
        refine fg_nm (y := (nI (cit x (j + 1)))) (congrArg nI (show cit x j * 2 = cst (cit x j) from (fg_cst2 c_44).symm)) ?_
        refine lv_istore_n (lv' := [(2, .int (nI (cit x (j + 1)))), (0, .ref h0), (1, .int (nI n)), (3, .int (nI k)), (4, .int (nI j))]) hx hb d_M_check_55 rfl hl (by decide) rfl (fun ls hl => ?_)
        refine fg_iinc (n := 1) (k := 4) (lv' := [(4, .int (nI (j + 1))), (2, .int (nI (cit x (j + 1)))), (0, .ref h0), (1, .int (nI n)), (3, .int (nI k))]) hx hb d_M_check_56 hl rfl (by decide) rfl (fun ls hl => ?_)
        refine lv_goto (tgt := 30) hx hb d_M_check_59 (by decide) ?_
        exact ih2 (d2 - 1) (by omega) _ _ _ ⟨j + 1, by omega, rfl, rfl, lv_sub hl [2, 3, 1, 4, 0] rfl⟩
      · refine lv_iload_n hx hb d_M_check_47 rfl (lv_at hl 0 rfl) ?_
        refine lv_ldc (v := 69665) hx hb hown (ht _ m_257) d_M_check_48 ?_
        refine fg_nm (y := nI 69665) (by decide) ?_
        refine fg_ixor hx hb d_M_check_50 ?_
        refine lv_goto (tgt := 55) hx hb d_M_check_51 (by decide) ?_
        refine fg_nm (y := (nI (cit x (j + 1)))) (congrArg nI (show (cit x j * 2) ^^^ 69665 = cst (cit x j) from (fg_cst3 c_44).symm)) ?_
        refine lv_istore_n (lv' := [(2, .int (nI (cit x (j + 1)))), (0, .ref h0), (1, .int (nI n)), (3, .int (nI k)), (4, .int (nI j))]) hx hb d_M_check_55 rfl hl (by decide) rfl (fun ls hl => ?_)
        refine fg_iinc (n := 1) (k := 4) (lv' := [(4, .int (nI (j + 1))), (2, .int (nI (cit x (j + 1)))), (0, .ref h0), (1, .int (nI n)), (3, .int (nI k))]) hx hb d_M_check_56 hl rfl (by decide) rfl (fun ls hl => ?_)
        refine lv_goto (tgt := 30) hx hb d_M_check_59 (by decide) ?_
        exact ih2 (d2 - 1) (by omega) _ _ _ ⟨j + 1, by omega, rfl, rfl, lv_sub hl [2, 3, 1, 4, 0] rfl⟩
set_option maxHeartbeats 4000000 in
set_option maxRecDepth 100000 in
/-- Model.bits(F, n) -/
theorem c_M_bits (l : Launch) (dC : Nat → ClassId) (dI : Nat → Nat → Nat) (cB cI cG : ClassId) (h0 a1 : Nat) (t : Nat → Int32) (f0 f2 f3 f4 f5 f6 f7 f8 f9 f10 f11 f12 f13 f14 : Value) (F n : Nat) (sz : Nat) (hn : F + n ≤ 2072) (hn2 : n ≤ 16) : Met l y_M_bits (Cond.code y_M_bits b_M_bits 5 (some .int) :: w_all) ({ frames := 0, cells := 0, slots := 0, locals := 0 }) (va_Pc [.ref h0, .int (nI F), .int (nI n)] (fgPre (dC, dI) (tysA cB cI cG) [(h0, .inr (3, [f0, .ref a1, f2, f3, f4, f5, f6, f7, f8, f9, f10, f11, f12, f13, f14])), (a1, .inl (cB, 259, .inl t))] sz)) (vp_Si (fun r => r = nI (bts t F n))) 0 0 (fun _ => False) := by
  refine Met.ofW (cc := b_M_bits) (maxL := 5) (ret := (some .int)) (by decide) rfl ?_
  intro p e s m args below meth c s₁ B hml hv
  obtain ⟨rfl, hsz, hP, hK, hD0⟩ := hv
  have hx := B.exec
  have hb := B.bytes
  have hr := B.returns
  have hts := atoms_spec (ws := (Cond.code y_M_bits b_M_bits 5 (some .int) :: w_all)) B.pre
  have ht : ∀ w ∈ w_all, w.before _ s = true := fun w h => hts w (List.mem_cons_of_mem _ h)
  have hown : s.vm.findClass R_M = some m.cls := findClass_of_methodNamed B.named
  have hlocks := B.notSynchronized
  subst hsz
  have hD := hD0
  have hl := lv_entry ([.ref h0, .int (nI F), .int (nI n)]) (n := 5) (Nat.le_of_ble_eq_true rfl)
  rw [lg_entry_eq]
  generalize (lg_sl ([.ref h0, .int (nI F), .int (nI n)]) ++ List.replicate (5 - (lg_sl ([.ref h0, .int (nI F), .int (nI n)])).length) Slot.unset).toArray = ls at hl ⊢
  have hl : lv_has ls 5 [(0, .ref h0), (1, .int (nI F)), (2, .int (nI n))] := hl
  refine lv_iconst (v := (nI 0)) hx hb d_M_bits_0 (by decide) ?_
  refine lv_istore_n (lv' := [(3, .int (nI 0)), (0, .ref h0), (1, .int (nI F)), (2, .int (nI n))]) hx hb d_M_bits_1 rfl hl (by decide) rfl (fun ls hl => ?_)
  refine lv_iload_n hx hb d_M_bits_2 rfl (lv_at hl 2 rfl) ?_
  refine lv_istore (lv' := [(4, .int (nI F)), (3, .int (nI 0)), (0, .ref h0), (1, .int (nI F)), (2, .int (nI n))]) hx hb d_M_bits_3 hl (by decide) rfl (fun ls hl => ?_)
  refine fg_loop (fun d ls H1 locs1 => ∃ j, j + d = n ∧ H1 = s.heap ∧ locs1 = [] ∧ lv_has ls 5 [(0, .ref h0), (1, .int (nI F)), (2, .int (nI n)), (3, .int (nI (bts t F j))), (4, .int (nI (F + j)))]) (fun d ih ls H1 locs1 hI => ?_) n ⟨0, by omega, rfl, rfl, lv_sub hl [2, 3, 4, 1, 0] rfl⟩
  obtain ⟨j, hj, rfl, rfl, hl⟩ := hI
  have hv := Nat.lt_of_lt_of_le (bts_lt t F j) (Nat.pow_le_pow_right (by decide : 2 > 0) (show j ≤ 16 by omega))
  refine lv_iload hx hb d_M_bits_5 (lv_at hl 4 rfl) ?_
  refine lv_iload_n hx hb d_M_bits_7 rfl (lv_at hl 1 rfl) ?_
  refine lv_iload_n hx hb d_M_bits_8 rfl (lv_at hl 2 rfl) ?_
  refine fg_iadd hx hb d_M_bits_9 ?_
  refine fg_cmp_ge (tgt := 45) hx hb d_M_bits_10 (by decide) (by omega) (by omega) (fun c_10 => ?_) (fun c_10 => ?_)
  · refine lv_iload_n hx hb d_M_bits_45 rfl (lv_at hl 3 rfl) ?_
    obtain rfl : j = n := by omega
    exact W.iret (v := (nI (bts t F j))) hx hb hr (fun t9 ht9 hW9 => ⟨(nI (bts t F j)), rfl, rfl, ht9⟩) (fun q h => by cases h) d_M_bits_46
  · refine lv_iconst (v := (nI 2)) hx hb d_M_bits_13 (by decide) ?_
    refine lv_iload_n hx hb d_M_bits_14 rfl (lv_at hl 3 rfl) ?_
    refine fg_imul hx hb d_M_bits_15 ?_
    refine lv_aload_n hx hb d_M_bits_16 rfl (lv_at hl 0 rfl) ?_
    refine va_get (D := (dC, dI)) (ci := 3) (v := .ref a1) (C := R_M) (T := F_M) (N := 15) hx hb ht i_M hown hK hP 0 rfl rfl 1 (by decide) (ht _ m_198) (fun _ h9 => h9) rfl d_M_bits_17 ?_
    refine lv_iload hx hb d_M_bits_20 (lv_at hl 4 rfl) ?_
    refine lv_bipush (v := (nI 8)) hx hb d_M_bits_22 (by decide) ?_
    refine fg_idiv hx hb d_M_bits_24 (by omega) (by decide) (by decide) ?_
    refine fg_bald hx hb hK hP 1 0 rfl rfl (by omega) (by decide) d_M_bits_25 ?_
    refine lv_bipush (v := (nI 7)) hx hb d_M_bits_26 (by decide) ?_
    refine lv_iload hx hb d_M_bits_28 (lv_at hl 4 rfl) ?_
    refine lv_bipush (v := (nI 8)) hx hb d_M_bits_30 (by decide) ?_
    refine fg_irem hx hb d_M_bits_32 (by omega) (by decide) (by decide) ?_
    refine fg_isub hx hb d_M_bits_33 (by omega) ?_
    refine lv_ishr hx hb d_M_bits_34 ?_
    refine lv_iconst (v := (nI 1)) hx hb d_M_bits_35 (by decide) ?_
    refine lv_iand hx hb d_M_bits_36 ?_
    refine fg_nm (y := (nI (bitN t (F + j)))) (shr_bit _ _ (by omega)) ?_
    refine fg_iadd hx hb d_M_bits_37 ?_
    refine fg_nm (y := (nI (bts t F (j + 1)))) (rfl) ?_
    refine lv_istore_n (lv' := [(3, .int (nI (bts t F (j + 1)))), (0, .ref h0), (1, .int (nI F)), (2, .int (nI n)), (4, .int (nI (F + j)))]) hx hb d_M_bits_38 rfl hl (by decide) rfl (fun ls hl => ?_)
    refine fg_iinc (n := 1) (k := 4) (lv' := [(4, .int (nI (F + j + 1))), (3, .int (nI (bts t F (j + 1)))), (0, .ref h0), (1, .int (nI F)), (2, .int (nI n))]) hx hb d_M_bits_39 hl rfl (by decide) rfl (fun ls hl => ?_)
    refine lv_goto (tgt := 5) hx hb d_M_bits_42 (by decide) ?_
    exact ih (d - 1) (by omega) _ _ _ ⟨j + 1, by omega, rfl, rfl, lv_sub hl [2, 3, 4, 1, 0] rfl⟩
end
section
theorem fL_lt (t : Nat → Int32) : fL t < 1024 := by
  have h3 := bN_lt (t 3)
  unfold fL
  omega
/-- what Model.valid answers -/
def vlen (t : Nat → Int32) (n : Nat) : Nat := if 8 ≤ n ∧ (bN (t 0) / 64 = 0 ∧ bN (t 0) / 4 % 4 = 0 ∧ bN (t 0) % 4 * 256 + bN (t 1) = 346 ∧ bN (t 2) / 4 = 0) ∧ (7 ≤ fL t ∧ fL t + 1 ≤ n) ∧ ¬ bN (t 0) / 16 % 4 = 1 ∧ crc t (fL t - 1) = bN (t (fL t - 1)) * 256 + bN (t (fL t - 1 + 1)) then fL t else 0
/-- what Gate.lengthOf answers -/
def lenO (t : Nat → Int32) (n : Nat) : Int32 := if 8 ≤ n ∧ (bN (t 0) / 64 = 0 ∧ bN (t 0) / 4 % 4 = 0 ∧ bN (t 0) % 4 * 256 + bN (t 1) = 346 ∧ bN (t 2) / 4 = 0) ∧ (7 ≤ fL t ∧ fL t + 1 ≤ n) ∧ crc t (fL t + 1) = 0 then nI (fL t + 1) else -1
theorem vlen_eq (t : Nat → Int32) (n : Nat) : vlen t n = if fOK t n ∧ ¬ bN (t 0) / 16 % 4 = 1 then fL t else 0 := by
  have h := crc_tail t (fL t - 1)
  unfold vlen
  by_cases h7 : 7 ≤ fL t
  · rw [show fL t - 1 + 2 = fL t + 1 by omega] at h
    by_cases q : fOK t n ∧ ¬ bN (t 0) / 16 % 4 = 1
    · obtain ⟨⟨q1, q2, q3, q4, q5, q6, q7, q8⟩, q9⟩ := id q
      rw [if_pos q, if_pos ⟨q1, ⟨q2, q3, q4, q5⟩, ⟨q6, q7⟩, q9, h.mp q8⟩]
    · rw [if_neg q, if_neg (fun ⟨q1, ⟨q2, q3, q4, q5⟩, ⟨q6, q7⟩, q9, q8⟩ => q ⟨⟨q1, q2, q3, q4, q5, q6, q7, h.mpr q8⟩, q9⟩)]
  · rw [if_neg (fun q => h7 q.2.2.1.1), if_neg (fun q => h7 q.1.2.2.2.2.2.1)]
theorem lenO_eq (t : Nat → Int32) (n : Nat) : lenO t n = if fOK t n then nI (fL t + 1) else -1 := by
  unfold lenO
  by_cases q : fOK t n
  · obtain ⟨q1, q2, q3, q4, q5, q6, q7, q8⟩ := id q
    rw [if_pos q, if_pos ⟨q1, ⟨q2, q3, q4, q5⟩, ⟨q6, q7⟩, q8⟩]
  · rw [if_neg q, if_neg (fun ⟨q1, ⟨q2, q3, q4, q5⟩, ⟨q6, q7⟩, q8⟩ => q ⟨q1, q2, q3, q4, q5, q6, q7, q8⟩)]
/-- the word, by its parts -/
def wfl (st wt ag : Nat) : Nat := ((if st = 3 then 4 else 0) ||| (if ¬ wt = 0 then 2 else 0)) ||| (if ¬ ag = 0 then 1 else 0)
def wrd (st nx bs wt ag : Nat) : Nat := 16777216 + (if st = 3 then 1 else 0) * 8192 + (if ¬ wt = 0 then 1 else 0) * 4096 + (if ¬ ag = 0 then 1 else 0) * 2048 + bs * 512 + nx
theorem wfl_eq (st wt ag : Nat) : wfl st wt ag = (if st = 3 then 1 else 0) * 4 + (if ¬ wt = 0 then 1 else 0) * 2 + (if ¬ ag = 0 then 1 else 0) := by
  unfold wfl
  by_cases h1 : st = 3 <;> by_cases h2 : wt = 0 <;> by_cases h3 : ag = 0 <;> simp [h1, h2, h3]
theorem wfl_lt (st wt ag : Nat) : wfl st wt ag < 8 := by
  rw [wfl_eq]
  repeat' split
  all_goals omega
theorem wrd_or {st nx bs wt ag : Nat} (h : st < 4 ∧ nx < 256 ∧ bs < 4 ∧ wt < 2 ∧ ag < 2) : ((16777216 ||| (wfl st wt ag * 2 ^ 11)) ||| (bs * 2 ^ 9)) ||| nx = wrd st nx bs wt ag := by
  have hf := wfl_lt st wt ag
  have e1 := Nat.two_pow_add_eq_or_of_lt (i := 24) (b := wfl st wt ag * 2 ^ 11) (by omega) 1
  rw [show (2 : Nat) ^ 24 * 1 = 16777216 from rfl] at e1
  have e2 := Nat.two_pow_add_eq_or_of_lt (i := 11) (b := bs * 2 ^ 9) (by omega) (8192 + wfl st wt ag)
  rw [show 2 ^ 11 * (8192 + wfl st wt ag) = 16777216 + wfl st wt ag * 2 ^ 11 by omega] at e2
  have e3 := Nat.two_pow_add_eq_or_of_lt (i := 9) (b := nx) (by omega) (32768 + wfl st wt ag * 4 + bs)
  rw [show 2 ^ 9 * (32768 + wfl st wt ag * 4 + bs) = 16777216 + wfl st wt ag * 2 ^ 11 + bs * 2 ^ 9 by omega] at e3
  rw [← e1, ← e2, ← e3]
  have hw := wfl_eq st wt ag
  unfold wrd
  generalize (if st = 3 then 1 else 0) = x1 at hw ⊢
  generalize (if ¬ wt = 0 then 1 else 0) = x2 at hw ⊢
  generalize (if ¬ ag = 0 then 1 else 0) = x3 at hw ⊢
  rw [hw, show (2 : Nat) ^ 11 = 2048 from rfl, show (2 : Nat) ^ 9 = 512 from rfl]
  generalize 16777216 = y
  omega
set_option maxHeartbeats 4000000 in
set_option maxRecDepth 100000 in
/-- Model.valid(n) -/
theorem c_M_valid (l : Launch) (dC : Nat → ClassId) (dI : Nat → Nat → Nat) (cB cI cG : ClassId) (h0 a1 : Nat) (t : Nat → Int32) (f0 f2 f3 f4 f5 f6 f7 f8 f9 f10 f11 f12 f13 f14 : Value) (n : Nat) (sz : Nat) (hn : n ≤ 259) : Met l y_M_valid (Cond.code y_M_valid b_M_valid 5 (some .int) :: w_all) ({ frames := 1, cells := 0, slots := 0, locals := 24 }) (va_Pc [.ref h0, .int (nI n)] (fgPre (dC, dI) (tysA cB cI cG) [(h0, .inr (3, [f0, .ref a1, f2, f3, f4, f5, f6, f7, f8, f9, f10, f11, f12, f13, f14])), (a1, .inl (cB, 259, .inl t))] sz)) (vp_Si (fun r => r = nI (vlen t n))) 0 0 (fun _ => False) := by
  refine Met.ofW (cc := b_M_valid) (maxL := 5) (ret := (some .int)) (by decide) rfl ?_
  intro p e s m args below meth c s₁ B hml hv
  obtain ⟨rfl, hsz, hP, hK, hD0⟩ := hv
  have hx := B.exec
  have hb := B.bytes
  have hr := B.returns
  have hts := atoms_spec (ws := (Cond.code y_M_valid b_M_valid 5 (some .int) :: w_all)) B.pre
  have ht : ∀ w ∈ w_all, w.before _ s = true := fun w h => hts w (List.mem_cons_of_mem _ h)
  have hown : s.vm.findClass R_M = some m.cls := findClass_of_methodNamed B.named
  have hlocks := B.notSynchronized
  subst hsz
  have hD := hD0
  have hl := lv_entry ([.ref h0, .int (nI n)]) (n := 5) (Nat.le_of_ble_eq_true rfl)
  rw [lg_entry_eq]
  generalize (lg_sl ([.ref h0, .int (nI n)]) ++ List.replicate (5 - (lg_sl ([.ref h0, .int (nI n)])).length) Slot.unset).toArray = ls at hl ⊢
  have hl : lv_has ls 5 [(0, .ref h0), (1, .int (nI n))] := hl
  have hfL := fL_lt t
  have hb00 := bN_lt (t 0)
  have hb01 := bN_lt (t 1)
  have hb02 := bN_lt (t 2)
  refine lv_iload_n hx hb d_M_valid_0 rfl (lv_at hl 1 rfl) ?_
  refine lv_bipush (v := (nI 8)) hx hb d_M_valid_1 (by decide) ?_
  refine fg_cmp_ge (tgt := 8) hx hb d_M_valid_3 (by decide) (by omega) (by omega) (fun c_3 => ?_) (fun c_3 => ?_)
  · refine lv_aload_n hx hb d_M_valid_8 rfl (lv_at hl 0 rfl) ?_
    refine lv_bipush (v := (nI 22)) hx hb d_M_valid_9 (by decide) ?_
    refine lv_bipush (v := (nI 10)) hx hb d_M_valid_11 (by decide) ?_
    refine vp_callSi (va_Run.run (va_runV (As := [.int (nI 22), .int (nI 10)]) (rest := []) ⟨hx, hb, hml, hown, ht⟩ (c_M_bits l dC dI cB cI cG h0 a1 t f0 f2 f3 f4 f5 f6 f7 f8 f9 f10 f11 f12 f13 f14 22 10 s.heap.size (by omega) (by omega)) (cwV 2 ht (fg_gV m_270 m_272 m_s8 m_4 m_273) rfl rfl rfl (by decide +kernel) ⟨Nat.le_of_ble_eq_true rfl, Nat.le_of_ble_eq_true rfl⟩) (fg_preV hK (hP.sub [0, 1] rfl) (hD.sub [0, 1] (by decide) rfl) (va_recv hK hP (ci := 3) (q0 := 0) rfl rfl)) rfl rfl hl.1 rfl (lv_room (Nat.le_of_ble_eq_true rfl)) d_M_valid_13 ⟨Nat.le_of_ble_eq_true rfl, Nat.le_of_ble_eq_true rfl⟩)) (fun r_13 er_13 => ?_)
    obtain rfl : r_13 = (nI (bts t 22 10)) := er_13
    refine fg_nm (y := (nI (fL t))) (congrArg nI (b_22_10 t)) ?_
    refine lv_istore_n (lv' := [(2, .int (nI (fL t))), (0, .ref h0), (1, .int (nI n))]) hx hb d_M_valid_16 rfl hl (by decide) rfl (fun ls hl => ?_)
    refine fg_cut (F0 m 65 ls [.int (nI (if bN (t 0) / 64 = 0 ∧ bN (t 0) / 4 % 4 = 0 ∧ bN (t 0) % 4 * 256 + bN (t 1) = 346 ∧ bN (t 2) / 4 = 0 then 1 else 0))]) ?_ (fun j_65 => ?_)
    · refine lv_istore_n (lv' := [(3, .int (nI (if bN (t 0) / 64 = 0 ∧ bN (t 0) / 4 % 4 = 0 ∧ bN (t 0) % 4 * 256 + bN (t 1) = 346 ∧ bN (t 2) / 4 = 0 then 1 else 0))), (2, .int (nI (fL t))), (0, .ref h0), (1, .int (nI n))]) hx hb d_M_valid_65 rfl hl (by decide) rfl (fun ls hl => ?_)
      refine fg_cut (F0 m 84 ls [.int (nI (if 7 ≤ fL t ∧ fL t + 1 ≤ n then 1 else 0))]) ?_ (fun j_84 => ?_)
      · refine lv_istore (lv' := [(4, .int (nI (if 7 ≤ fL t ∧ fL t + 1 ≤ n then 1 else 0))), (3, .int (nI (if bN (t 0) / 64 = 0 ∧ bN (t 0) / 4 % 4 = 0 ∧ bN (t 0) % 4 * 256 + bN (t 1) = 346 ∧ bN (t 2) / 4 = 0 then 1 else 0))), (2, .int (nI (fL t))), (0, .ref h0), (1, .int (nI n))]) hx hb d_M_valid_84 hl (by decide) rfl (fun ls hl => ?_)
        refine lv_iload_n hx hb d_M_valid_86 rfl (lv_at hl 1 rfl) ?_
        refine fg_ifb_eq (tgt := 105) hx hb d_M_valid_87 (by decide) (fun c_87 => ?_) (fun c_87 => ?_)
        · refine lv_iconst (v := (nI 0)) hx hb d_M_valid_105 (by decide) ?_
          exact W.iret (v := (nI 0)) hx hb hr (fun t9 ht9 hW9 => ⟨(nI 0), rfl, congrArg nI (by unfold vlen; rw [if_neg (by omega)]), ht9⟩) (fun q h => by cases h) d_M_valid_106
        · refine lv_iload hx hb d_M_valid_90 (lv_at hl 0 rfl) ?_
          refine fg_ifb_eq (tgt := 105) hx hb d_M_valid_92 (by decide) (fun c_92 => ?_) (fun c_92 => ?_)
          · refine lv_iconst (v := (nI 0)) hx hb d_M_valid_105 (by decide) ?_
            exact W.iret (v := (nI 0)) hx hb hr (fun t9 ht9 hW9 => ⟨(nI 0), rfl, congrArg nI (by unfold vlen; rw [if_neg (by omega)]), ht9⟩) (fun q h => by cases h) d_M_valid_106
          · refine lv_aload_n hx hb d_M_valid_95 rfl (lv_at hl 3 rfl) ?_
            refine lv_iconst (v := (nI 2)) hx hb d_M_valid_96 (by decide) ?_
            refine lv_iconst (v := (nI 2)) hx hb d_M_valid_97 (by decide) ?_
            refine vp_callSi (va_Run.run (va_runV (As := [.int (nI 2), .int (nI 2)]) (rest := []) ⟨hx, hb, hml, hown, ht⟩ (c_M_bits l dC dI cB cI cG h0 a1 t f0 f2 f3 f4 f5 f6 f7 f8 f9 f10 f11 f12 f13 f14 2 2 s.heap.size (by omega) (by omega)) (cwV 2 ht (fg_gV m_270 m_272 m_s8 m_4 m_273) rfl rfl rfl (by decide +kernel) ⟨Nat.le_of_ble_eq_true rfl, Nat.le_of_ble_eq_true rfl⟩) (fg_preV hK (hP.sub [0, 1] rfl) (hD.sub [0, 1] (by decide) rfl) (va_recv hK hP (ci := 3) (q0 := 0) rfl rfl)) rfl rfl hl.1 rfl (lv_room (Nat.le_of_ble_eq_true rfl)) d_M_valid_98 ⟨Nat.le_of_ble_eq_true rfl, Nat.le_of_ble_eq_true rfl⟩)) (fun r_98 er_98 => ?_)
            obtain rfl : r_98 = (nI (bts t 2 2)) := er_98
            refine fg_nm (y := (nI (bN (t 0) / 16 % 4))) (congrArg nI (b_2_2 t)) ?_
            refine lv_iconst (v := (nI 1)) hx hb d_M_valid_101 (by decide) ?_
            refine fg_cmp_ne (tgt := 107) hx hb d_M_valid_102 (by decide) (by omega) (by omega) (fun c_102 => ?_) (fun c_102 => ?_)
            · refine lv_aload_n hx hb d_M_valid_107 rfl (lv_at hl 3 rfl) ?_
              refine lv_iload_n hx hb d_M_valid_108 rfl (lv_at hl 2 rfl) ?_
              refine lv_iconst (v := (nI 1)) hx hb d_M_valid_109 (by decide) ?_
              refine fg_isub hx hb d_M_valid_110 (by omega) ?_
              refine vp_callSi (va_Run.run (va_runV (As := [.int (nI ((fL t) - 1))]) (rest := []) ⟨hx, hb, hml, hown, ht⟩ (c_M_check l dC dI cB cI cG h0 a1 t f0 f2 f3 f4 f5 f6 f7 f8 f9 f10 f11 f12 f13 f14 (fL t - 1) s.heap.size (by omega)) (cwV 1 ht (fg_gV m_251 m_253 m_s6 m_4 m_254) rfl rfl rfl (by decide +kernel) ⟨Nat.le_of_ble_eq_true rfl, Nat.le_of_ble_eq_true rfl⟩) (fg_preV hK (hP.sub [0, 1] rfl) (hD.sub [0, 1] (by decide) rfl) (va_recv hK hP (ci := 3) (q0 := 0) rfl rfl)) rfl rfl hl.1 rfl (lv_room (Nat.le_of_ble_eq_true rfl)) d_M_valid_111 ⟨Nat.le_of_ble_eq_true rfl, Nat.le_of_ble_eq_true rfl⟩)) (fun r_111 er_111 => ?_)
              obtain rfl : r_111 = (nI (crc t (fL t - 1))) := er_111
              refine lv_aload_n hx hb d_M_valid_114 rfl (lv_at hl 3 rfl) ?_
              refine lv_bipush (v := (nI 8)) hx hb d_M_valid_115 (by decide) ?_
              refine lv_iload_n hx hb d_M_valid_117 rfl (lv_at hl 2 rfl) ?_
              refine fg_imul hx hb d_M_valid_118 ?_
              refine lv_bipush (v := (nI 8)) hx hb d_M_valid_119 (by decide) ?_
              refine fg_isub hx hb d_M_valid_121 (by omega) ?_
              refine lv_bipush (v := (nI 16)) hx hb d_M_valid_122 (by decide) ?_
              refine vp_callSi (va_Run.run (va_runV (As := [.int (nI ((8 * (fL t)) - 8)), .int (nI 16)]) (rest := [.int (nI (crc t (fL t - 1)))]) ⟨hx, hb, hml, hown, ht⟩ (c_M_bits l dC dI cB cI cG h0 a1 t f0 f2 f3 f4 f5 f6 f7 f8 f9 f10 f11 f12 f13 f14 (8 * fL t - 8) 16 s.heap.size (by omega) (by omega)) (cwV 2 ht (fg_gV m_270 m_272 m_s8 m_4 m_273) rfl rfl rfl (by decide +kernel) ⟨Nat.le_of_ble_eq_true rfl, Nat.le_of_ble_eq_true rfl⟩) (fg_preV hK (hP.sub [0, 1] rfl) (hD.sub [0, 1] (by decide) rfl) (va_recv hK hP (ci := 3) (q0 := 0) rfl rfl)) rfl rfl hl.1 rfl (lv_room (Nat.le_of_ble_eq_true rfl)) d_M_valid_124 ⟨Nat.le_of_ble_eq_true rfl, Nat.le_of_ble_eq_true rfl⟩)) (fun r_124 er_124 => ?_)
              obtain rfl : r_124 = (nI (bts t (8 * fL t - 8) 16)) := er_124
              refine fg_nm (y := (nI (bN (t (fL t - 1)) * 256 + bN (t (fL t - 1 + 1))))) (congrArg nI (by rw [show 8 * fL t - 8 = 8 * (fL t - 1) by omega]; exact b_two t _)) ?_
              have hcr := crc_lt t (fL t - 1)
              have hb1 := bN_lt (t (fL t - 1))
              have hb2 := bN_lt (t (fL t - 1 + 1))
              refine fg_cmp_ne (tgt := 134) hx hb d_M_valid_127 (by decide) (by omega) (by omega) (fun c_127 => ?_) (fun c_127 => ?_)
              · refine lv_iconst (v := (nI 0)) hx hb d_M_valid_134 (by decide) ?_
                exact W.iret (v := (nI 0)) hx hb hr (fun t9 ht9 hW9 => ⟨(nI 0), rfl, congrArg nI (by unfold vlen; rw [if_neg (by omega)]), ht9⟩) (fun q h => by cases h) d_M_valid_135
              · refine lv_iload_n hx hb d_M_valid_130 rfl (lv_at hl 2 rfl) ?_
                refine lv_goto (tgt := 135) hx hb d_M_valid_131 (by decide) ?_
                exact W.iret (v := (nI (fL t))) hx hb hr (fun t9 ht9 hW9 => ⟨(nI (fL t)), rfl, congrArg nI (by unfold vlen; rw [if_pos (by omega)]), ht9⟩) (fun q h => by cases h) d_M_valid_135
            · refine lv_iconst (v := (nI 0)) hx hb d_M_valid_105 (by decide) ?_
              exact W.iret (v := (nI 0)) hx hb hr (fun t9 ht9 hW9 => ⟨(nI 0), rfl, congrArg nI (by unfold vlen; rw [if_neg (by omega)]), ht9⟩) (fun q h => by cases h) d_M_valid_106
      · refine lv_iload_n hx hb d_M_valid_66 rfl (lv_at hl 1 rfl) ?_
        refine lv_bipush (v := (nI 7)) hx hb d_M_valid_67 (by decide) ?_
        refine fg_cmp_lt (tgt := 83) hx hb d_M_valid_69 (by decide) (by omega) (by omega) (fun c_69 => ?_) (fun c_69 => ?_)
        · refine lv_iconst (v := (nI 0)) hx hb d_M_valid_83 (by decide) ?_
          exact fg_nm (congrArg nI ((if_neg (by omega)).symm)) j_84
        · refine lv_iload_n hx hb d_M_valid_72 rfl (lv_at hl 3 rfl) ?_
          refine lv_iload_n hx hb d_M_valid_73 rfl (lv_at hl 1 rfl) ?_
          refine lv_iconst (v := (nI 1)) hx hb d_M_valid_74 (by decide) ?_
          refine fg_iadd hx hb d_M_valid_75 ?_
          refine fg_cmp_lt (tgt := 83) hx hb d_M_valid_76 (by decide) (by omega) (by omega) (fun c_76 => ?_) (fun c_76 => ?_)
          · refine lv_iconst (v := (nI 0)) hx hb d_M_valid_83 (by decide) ?_
            exact fg_nm (congrArg nI ((if_neg (by omega)).symm)) j_84
          · refine lv_iconst (v := (nI 1)) hx hb d_M_valid_79 (by decide) ?_
            refine lv_goto (tgt := 84) hx hb d_M_valid_80 (by decide) ?_
            exact fg_nm (congrArg nI ((if_pos (by omega)).symm)) j_84
    · refine lv_aload_n hx hb d_M_valid_17 rfl (lv_at hl 1 rfl) ?_
      refine lv_iconst (v := (nI 0)) hx hb d_M_valid_18 (by decide) ?_
      refine lv_iconst (v := (nI 2)) hx hb d_M_valid_19 (by decide) ?_
      refine vp_callSi (va_Run.run (va_runV (As := [.int (nI 0), .int (nI 2)]) (rest := []) ⟨hx, hb, hml, hown, ht⟩ (c_M_bits l dC dI cB cI cG h0 a1 t f0 f2 f3 f4 f5 f6 f7 f8 f9 f10 f11 f12 f13 f14 0 2 s.heap.size (by omega) (by omega)) (cwV 2 ht (fg_gV m_270 m_272 m_s8 m_4 m_273) rfl rfl rfl (by decide +kernel) ⟨Nat.le_of_ble_eq_true rfl, Nat.le_of_ble_eq_true rfl⟩) (fg_preV hK (hP.sub [0, 1] rfl) (hD.sub [0, 1] (by decide) rfl) (va_recv hK hP (ci := 3) (q0 := 0) rfl rfl)) rfl rfl hl.1 rfl (lv_room (Nat.le_of_ble_eq_true rfl)) d_M_valid_20 ⟨Nat.le_of_ble_eq_true rfl, Nat.le_of_ble_eq_true rfl⟩)) (fun r_20 er_20 => ?_)
      obtain rfl : r_20 = (nI (bts t 0 2)) := er_20
      refine fg_nm (y := (nI (bN (t 0) / 64))) (congrArg nI (b_0_2 t)) ?_
      refine fg_if_ne (tgt := 64) hx hb d_M_valid_23 (by decide) (by omega) (fun c_23 => ?_) (fun c_23 => ?_)
      · refine lv_iconst (v := (nI 0)) hx hb d_M_valid_64 (by decide) ?_
        exact fg_nm (congrArg nI ((if_neg (by omega)).symm)) j_65
      · refine lv_aload_n hx hb d_M_valid_26 rfl (lv_at hl 1 rfl) ?_
        refine lv_iconst (v := (nI 4)) hx hb d_M_valid_27 (by decide) ?_
        refine lv_iconst (v := (nI 2)) hx hb d_M_valid_28 (by decide) ?_
        refine vp_callSi (va_Run.run (va_runV (As := [.int (nI 4), .int (nI 2)]) (rest := []) ⟨hx, hb, hml, hown, ht⟩ (c_M_bits l dC dI cB cI cG h0 a1 t f0 f2 f3 f4 f5 f6 f7 f8 f9 f10 f11 f12 f13 f14 4 2 s.heap.size (by omega) (by omega)) (cwV 2 ht (fg_gV m_270 m_272 m_s8 m_4 m_273) rfl rfl rfl (by decide +kernel) ⟨Nat.le_of_ble_eq_true rfl, Nat.le_of_ble_eq_true rfl⟩) (fg_preV hK (hP.sub [0, 1] rfl) (hD.sub [0, 1] (by decide) rfl) (va_recv hK hP (ci := 3) (q0 := 0) rfl rfl)) rfl rfl hl.1 rfl (lv_room (Nat.le_of_ble_eq_true rfl)) d_M_valid_29 ⟨Nat.le_of_ble_eq_true rfl, Nat.le_of_ble_eq_true rfl⟩)) (fun r_29 er_29 => ?_)
        obtain rfl : r_29 = (nI (bts t 4 2)) := er_29
        refine fg_nm (y := (nI (bN (t 0) / 4 % 4))) (congrArg nI (b_4_2 t)) ?_
        refine fg_if_ne (tgt := 64) hx hb d_M_valid_32 (by decide) (by omega) (fun c_32 => ?_) (fun c_32 => ?_)
        · refine lv_iconst (v := (nI 0)) hx hb d_M_valid_64 (by decide) ?_
          exact fg_nm (congrArg nI ((if_neg (by omega)).symm)) j_65
        · refine lv_aload_n hx hb d_M_valid_35 rfl (lv_at hl 1 rfl) ?_
          refine lv_bipush (v := (nI 6)) hx hb d_M_valid_36 (by decide) ?_
          refine lv_bipush (v := (nI 10)) hx hb d_M_valid_38 (by decide) ?_
          refine vp_callSi (va_Run.run (va_runV (As := [.int (nI 6), .int (nI 10)]) (rest := []) ⟨hx, hb, hml, hown, ht⟩ (c_M_bits l dC dI cB cI cG h0 a1 t f0 f2 f3 f4 f5 f6 f7 f8 f9 f10 f11 f12 f13 f14 6 10 s.heap.size (by omega) (by omega)) (cwV 2 ht (fg_gV m_270 m_272 m_s8 m_4 m_273) rfl rfl rfl (by decide +kernel) ⟨Nat.le_of_ble_eq_true rfl, Nat.le_of_ble_eq_true rfl⟩) (fg_preV hK (hP.sub [0, 1] rfl) (hD.sub [0, 1] (by decide) rfl) (va_recv hK hP (ci := 3) (q0 := 0) rfl rfl)) rfl rfl hl.1 rfl (lv_room (Nat.le_of_ble_eq_true rfl)) d_M_valid_40 ⟨Nat.le_of_ble_eq_true rfl, Nat.le_of_ble_eq_true rfl⟩)) (fun r_40 er_40 => ?_)
          obtain rfl : r_40 = (nI (bts t 6 10)) := er_40
          refine fg_nm (y := (nI (bN (t 0) % 4 * 256 + bN (t 1)))) (congrArg nI (b_6_10 t)) ?_
          refine lv_sipush (v := (nI 346)) hx hb d_M_valid_43 (by decide) ?_
          refine fg_cmp_ne (tgt := 64) hx hb d_M_valid_46 (by decide) (by omega) (by omega) (fun c_46 => ?_) (fun c_46 => ?_)
          · refine lv_iconst (v := (nI 0)) hx hb d_M_valid_64 (by decide) ?_
            exact fg_nm (congrArg nI ((if_neg (by omega)).symm)) j_65
          · refine lv_aload_n hx hb d_M_valid_49 rfl (lv_at hl 1 rfl) ?_
            refine lv_bipush (v := (nI 16)) hx hb d_M_valid_50 (by decide) ?_
            refine lv_bipush (v := (nI 6)) hx hb d_M_valid_52 (by decide) ?_
            refine vp_callSi (va_Run.run (va_runV (As := [.int (nI 16), .int (nI 6)]) (rest := []) ⟨hx, hb, hml, hown, ht⟩ (c_M_bits l dC dI cB cI cG h0 a1 t f0 f2 f3 f4 f5 f6 f7 f8 f9 f10 f11 f12 f13 f14 16 6 s.heap.size (by omega) (by omega)) (cwV 2 ht (fg_gV m_270 m_272 m_s8 m_4 m_273) rfl rfl rfl (by decide +kernel) ⟨Nat.le_of_ble_eq_true rfl, Nat.le_of_ble_eq_true rfl⟩) (fg_preV hK (hP.sub [0, 1] rfl) (hD.sub [0, 1] (by decide) rfl) (va_recv hK hP (ci := 3) (q0 := 0) rfl rfl)) rfl rfl hl.1 rfl (lv_room (Nat.le_of_ble_eq_true rfl)) d_M_valid_54 ⟨Nat.le_of_ble_eq_true rfl, Nat.le_of_ble_eq_true rfl⟩)) (fun r_54 er_54 => ?_)
            obtain rfl : r_54 = (nI (bts t 16 6)) := er_54
            refine fg_nm (y := (nI (bN (t 2) / 4))) (congrArg nI (b_16_6 t)) ?_
            refine fg_if_ne (tgt := 64) hx hb d_M_valid_57 (by decide) (by omega) (fun c_57 => ?_) (fun c_57 => ?_)
            · refine lv_iconst (v := (nI 0)) hx hb d_M_valid_64 (by decide) ?_
              exact fg_nm (congrArg nI ((if_neg (by omega)).symm)) j_65
            · refine lv_iconst (v := (nI 1)) hx hb d_M_valid_60 (by decide) ?_
              refine lv_goto (tgt := 65) hx hb d_M_valid_61 (by decide) ?_
              exact fg_nm (congrArg nI ((if_pos (by omega)).symm)) j_65
  · refine lv_iconst (v := (nI 0)) hx hb d_M_valid_6 (by decide) ?_
    exact W.iret (v := (nI 0)) hx hb hr (fun t9 ht9 hW9 => ⟨(nI 0), rfl, congrArg nI (by unfold vlen; rw [if_neg (by omega)]), ht9⟩) (fun q h => by cases h) d_M_valid_7
set_option maxHeartbeats 4000000 in
set_option maxRecDepth 100000 in
/-- Gate.lengthOf(row, n) -/
theorem c_G_lengthOf (l : Launch) (dC : Nat → ClassId) (dI : Nat → Nat → Nat) (cB cI cG : ClassId) (a : Nat) (t : Nat → Int32) (n : Nat) (sz : Nat) (hn : n ≤ 259) : Met l y_G_lengthOf (Cond.code y_G_lengthOf b_G_lengthOf 5 (some .int) :: w_all) ({ frames := 1, cells := 0, slots := 0, locals := 25 }) (va_Pc [.ref a, .int (nI n)] (fgPre (dC, dI) (tysA cB cI cG) [(a, .inl (cB, 259, .inl t))] sz)) (vp_Si (fun r => r = lenO t n)) 0 0 (fun _ => False) := by
  refine Met.ofW (cc := b_G_lengthOf) (maxL := 5) (ret := (some .int)) (by decide) rfl ?_
  intro p e s m args below meth c s₁ B hml hv
  obtain ⟨rfl, hsz, hP, hK, hD0⟩ := hv
  have hx := B.exec
  have hb := B.bytes
  have hr := B.returns
  have hts := atoms_spec (ws := (Cond.code y_G_lengthOf b_G_lengthOf 5 (some .int) :: w_all)) B.pre
  have ht : ∀ w ∈ w_all, w.before _ s = true := fun w h => hts w (List.mem_cons_of_mem _ h)
  have hown : s.vm.findClass R_G = some m.cls := findClass_of_methodNamed B.named
  have hlocks := B.notSynchronized
  subst hsz
  have hD := hD0
  have hl := lv_entry ([.ref a, .int (nI n)]) (n := 5) (Nat.le_of_ble_eq_true rfl)
  rw [lg_entry_eq]
  generalize (lg_sl ([.ref a, .int (nI n)]) ++ List.replicate (5 - (lg_sl ([.ref a, .int (nI n)])).length) Slot.unset).toArray = ls at hl ⊢
  have hl : lv_has ls 5 [(0, .ref a), (1, .int (nI n))] := hl
  have hfL := fL_lt t
  have hb00 := bN_lt (t 0)
  have hb01 := bN_lt (t 1)
  have hb02 := bN_lt (t 2)
  have hb03 := bN_lt (t 3)
  have f204 := a_204 _ (bN_lt (t 0))
  have f252 := a_252 _ (bN_lt (t 2))
  refine lv_iload_n hx hb d_G_lengthOf_0 rfl (lv_at hl 1 rfl) ?_
  refine lv_iconst (v := (nI 5)) hx hb d_G_lengthOf_1 (by decide) ?_
  refine fg_cmp_ge (tgt := 7) hx hb d_G_lengthOf_2 (by decide) (by omega) (by omega) (fun c_2 => ?_) (fun c_2 => ?_)
  · refine lv_aload_n hx hb d_G_lengthOf_7 rfl (lv_at hl 0 rfl) ?_
    refine lv_iconst (v := (nI 0)) hx hb d_G_lengthOf_8 (by decide) ?_
    refine fg_bald hx hb hK hP 0 0 rfl rfl (by omega) (by decide) d_G_lengthOf_9 ?_
    refine lv_iconst (v := (nI 3)) hx hb d_G_lengthOf_10 (by decide) ?_
    refine fg_iandB hx hb d_G_lengthOf_11 (by decide) ?_
    have hbN_11 := bN_lt (t 0)
    refine fg_nm (y := (nI (bN (t 0) % 4))) (congrArg nI (a_3 _ (bN_lt _))) ?_
    refine lv_bipush (v := (nI 8)) hx hb d_G_lengthOf_12 (by decide) ?_
    refine fg_ishl hx hb d_G_lengthOf_14 (by decide) (by omega) ?_
    refine fg_nm (y := (nI (bN (t 0) % 4 * 256))) (rfl) ?_
    refine lv_aload_n hx hb d_G_lengthOf_15 rfl (lv_at hl 0 rfl) ?_
    refine lv_iconst (v := (nI 1)) hx hb d_G_lengthOf_16 (by decide) ?_
    refine fg_bald hx hb hK hP 0 0 rfl rfl (by omega) (by decide) d_G_lengthOf_17 ?_
    refine lv_sipush (v := (nI 255)) hx hb d_G_lengthOf_18 (by decide) ?_
    refine fg_iand255 hx hb d_G_lengthOf_21 ?_
    have hbN_21 := bN_lt (t 1)
    refine fg_ior hx hb d_G_lengthOf_22 ?_
    refine fg_nm (y := (nI (bN (t 0) % 4 * 256 + bN (t 1)))) (congrArg nI (or_add _ (bN_lt _))) ?_
    refine lv_istore_n (lv' := [(2, .int (nI (bN (t 0) % 4 * 256 + bN (t 1)))), (0, .ref a), (1, .int (nI n))]) hx hb d_G_lengthOf_23 rfl hl (by decide) rfl (fun ls hl => ?_)
    refine lv_aload_n hx hb d_G_lengthOf_24 rfl (lv_at hl 1 rfl) ?_
    refine lv_iconst (v := (nI 2)) hx hb d_G_lengthOf_25 (by decide) ?_
    refine fg_bald hx hb hK hP 0 0 rfl rfl (by omega) (by decide) d_G_lengthOf_26 ?_
    refine lv_iconst (v := (nI 3)) hx hb d_G_lengthOf_27 (by decide) ?_
    refine fg_iandB hx hb d_G_lengthOf_28 (by decide) ?_
    have hbN_28 := bN_lt (t 2)
    refine fg_nm (y := (nI (bN (t 2) % 4))) (congrArg nI (a_3 _ (bN_lt _))) ?_
    refine lv_bipush (v := (nI 8)) hx hb d_G_lengthOf_29 (by decide) ?_
    refine fg_ishl hx hb d_G_lengthOf_31 (by decide) (by omega) ?_
    refine fg_nm (y := (nI (bN (t 2) % 4 * 256))) (rfl) ?_
    refine lv_aload_n hx hb d_G_lengthOf_32 rfl (lv_at hl 1 rfl) ?_
    refine lv_iconst (v := (nI 3)) hx hb d_G_lengthOf_33 (by decide) ?_
    refine fg_bald hx hb hK hP 0 0 rfl rfl (by omega) (by decide) d_G_lengthOf_34 ?_
    refine lv_sipush (v := (nI 255)) hx hb d_G_lengthOf_35 (by decide) ?_
    refine fg_iand255 hx hb d_G_lengthOf_38 ?_
    have hbN_38 := bN_lt (t 3)
    refine fg_ior hx hb d_G_lengthOf_39 ?_
    refine fg_nm (y := (nI (fL t))) (congrArg nI (or_add _ (bN_lt _))) ?_
    refine lv_iconst (v := (nI 1)) hx hb d_G_lengthOf_40 (by decide) ?_
    refine fg_iadd hx hb d_G_lengthOf_41 ?_
    refine lv_istore_n (lv' := [(3, .int (nI ((fL t) + 1))), (2, .int (nI (bN (t 0) % 4 * 256 + bN (t 1)))), (0, .ref a), (1, .int (nI n))]) hx hb d_G_lengthOf_42 rfl hl (by decide) rfl (fun ls hl => ?_)
    refine fg_cut (F0 m 86 ls [.int (nI (if bN (t 0) / 64 = 0 ∧ bN (t 0) / 4 % 4 = 0 ∧ bN (t 0) % 4 * 256 + bN (t 1) = 346 ∧ bN (t 2) / 4 = 0 ∧ 7 ≤ fL t ∧ fL t + 1 ≤ n then 1 else 0))]) ?_ (fun j_86 => ?_)
    · refine lv_istore (lv' := [(4, .int (nI (if bN (t 0) / 64 = 0 ∧ bN (t 0) / 4 % 4 = 0 ∧ bN (t 0) % 4 * 256 + bN (t 1) = 346 ∧ bN (t 2) / 4 = 0 ∧ 7 ≤ fL t ∧ fL t + 1 ≤ n then 1 else 0))), (3, .int (nI ((fL t) + 1))), (2, .int (nI (bN (t 0) % 4 * 256 + bN (t 1)))), (0, .ref a), (1, .int (nI n))]) hx hb d_G_lengthOf_86 hl (by decide) rfl (fun ls hl => ?_)
      refine lv_iload hx hb d_G_lengthOf_88 (lv_at hl 0 rfl) ?_
      refine fg_ifb_eq (tgt := 106) hx hb d_G_lengthOf_90 (by decide) (fun c_90 => ?_) (fun c_90 => ?_)
      · refine lv_iconst (v := (-1)) hx hb d_G_lengthOf_106 (by decide) ?_
        exact W.iret (v := (-1)) hx hb hr (fun t9 ht9 hW9 => ⟨(-1), rfl, (by unfold lenO; rw [if_neg (by omega)]), ht9⟩) (fun q h => by cases h) d_G_lengthOf_107
      · refine lv_aload_n hx hb d_G_lengthOf_93 rfl (lv_at hl 3 rfl) ?_
        refine lv_iconst (v := (nI 0)) hx hb d_G_lengthOf_94 (by decide) ?_
        refine lv_iload_n hx hb d_G_lengthOf_95 rfl (lv_at hl 1 rfl) ?_
        refine vp_callSi (va_Run.run (va_runS (As := [.ref a, .int (nI 0), .int (nI ((fL t) + 1))]) (rest := []) ⟨hx, hb, hml, hown, ht⟩ (c_K_of l dC dI cB cI cG a t (fL t + 1) s.heap.size (by omega)) (va_cwS 3 ht (fg_gS m_122 m_102 m_5 m_103) rfl rfl rfl (by decide +kernel) ⟨Nat.le_of_ble_eq_true rfl, Nat.le_of_ble_eq_true rfl⟩) (fg_preS hK (hP.sub [0] rfl) (hD.sub [0] (by decide) rfl)) rfl rfl hl.1 rfl (lv_room (Nat.le_of_ble_eq_true rfl)) d_G_lengthOf_96 ⟨Nat.le_of_ble_eq_true rfl, Nat.le_of_ble_eq_true rfl⟩)) (fun r_96 er_96 => ?_)
        obtain rfl : r_96 = (nI (crc t (fL t + 1))) := er_96
        have hcr := crc_lt t (fL t + 1)
        refine fg_if_ne (tgt := 106) hx hb d_G_lengthOf_99 (by decide) (by omega) (fun c_99 => ?_) (fun c_99 => ?_)
        · refine lv_iconst (v := (-1)) hx hb d_G_lengthOf_106 (by decide) ?_
          exact W.iret (v := (-1)) hx hb hr (fun t9 ht9 hW9 => ⟨(-1), rfl, (by unfold lenO; rw [if_neg (by omega)]), ht9⟩) (fun q h => by cases h) d_G_lengthOf_107
        · refine lv_iload_n hx hb d_G_lengthOf_102 rfl (lv_at hl 1 rfl) ?_
          refine lv_goto (tgt := 107) hx hb d_G_lengthOf_103 (by decide) ?_
          exact W.iret (v := (nI ((fL t) + 1))) hx hb hr (fun t9 ht9 hW9 => ⟨(nI ((fL t) + 1)), rfl, (by unfold lenO; rw [if_pos (by omega)]), ht9⟩) (fun q h => by cases h) d_G_lengthOf_107
    · refine lv_aload_n hx hb d_G_lengthOf_43 rfl (lv_at hl 2 rfl) ?_
      refine lv_iconst (v := (nI 0)) hx hb d_G_lengthOf_44 (by decide) ?_
      refine fg_bald hx hb hK hP 0 0 rfl rfl (by omega) (by decide) d_G_lengthOf_45 ?_
      refine lv_sipush (v := (nI 204)) hx hb d_G_lengthOf_46 (by decide) ?_
      refine fg_iandB hx hb d_G_lengthOf_49 (by decide) ?_
      have hbN_49 := bN_lt (t 0)
      refine fg_if_ne (tgt := 85) hx hb d_G_lengthOf_50 (by decide) (Nat.lt_of_le_of_lt Nat.and_le_right (by decide)) (fun c_50 => ?_) (fun c_50 => ?_)
      · refine lv_iconst (v := (nI 0)) hx hb d_G_lengthOf_85 (by decide) ?_
        exact fg_nm (congrArg nI ((if_neg (by omega)).symm)) j_86
      · refine lv_iload_n hx hb d_G_lengthOf_53 rfl (lv_at hl 1 rfl) ?_
        refine lv_sipush (v := (nI 346)) hx hb d_G_lengthOf_54 (by decide) ?_
        refine fg_cmp_ne (tgt := 85) hx hb d_G_lengthOf_57 (by decide) (by omega) (by omega) (fun c_57 => ?_) (fun c_57 => ?_)
        · refine lv_iconst (v := (nI 0)) hx hb d_G_lengthOf_85 (by decide) ?_
          exact fg_nm (congrArg nI ((if_neg (by omega)).symm)) j_86
        · refine lv_aload_n hx hb d_G_lengthOf_60 rfl (lv_at hl 2 rfl) ?_
          refine lv_iconst (v := (nI 2)) hx hb d_G_lengthOf_61 (by decide) ?_
          refine fg_bald hx hb hK hP 0 0 rfl rfl (by omega) (by decide) d_G_lengthOf_62 ?_
          refine lv_sipush (v := (nI 252)) hx hb d_G_lengthOf_63 (by decide) ?_
          refine fg_iandB hx hb d_G_lengthOf_66 (by decide) ?_
          have hbN_66 := bN_lt (t 2)
          refine fg_if_ne (tgt := 85) hx hb d_G_lengthOf_67 (by decide) (Nat.lt_of_le_of_lt Nat.and_le_right (by decide)) (fun c_67 => ?_) (fun c_67 => ?_)
          · refine lv_iconst (v := (nI 0)) hx hb d_G_lengthOf_85 (by decide) ?_
            exact fg_nm (congrArg nI ((if_neg (by omega)).symm)) j_86
          · refine lv_iload_n hx hb d_G_lengthOf_70 rfl (lv_at hl 0 rfl) ?_
            refine lv_bipush (v := (nI 7)) hx hb d_G_lengthOf_71 (by decide) ?_
            refine fg_cmp_le (tgt := 85) hx hb d_G_lengthOf_73 (by decide) (by omega) (by omega) (fun c_73 => ?_) (fun c_73 => ?_)
            · refine lv_iconst (v := (nI 0)) hx hb d_G_lengthOf_85 (by decide) ?_
              exact fg_nm (congrArg nI ((if_neg (by omega)).symm)) j_86
            · refine lv_iload_n hx hb d_G_lengthOf_76 rfl (lv_at hl 0 rfl) ?_
              refine lv_iload_n hx hb d_G_lengthOf_77 rfl (lv_at hl 3 rfl) ?_
              refine fg_cmp_gt (tgt := 85) hx hb d_G_lengthOf_78 (by decide) (by omega) (by omega) (fun c_78 => ?_) (fun c_78 => ?_)
              · refine lv_iconst (v := (nI 0)) hx hb d_G_lengthOf_85 (by decide) ?_
                exact fg_nm (congrArg nI ((if_neg (by omega)).symm)) j_86
              · refine lv_iconst (v := (nI 1)) hx hb d_G_lengthOf_81 (by decide) ?_
                refine lv_goto (tgt := 86) hx hb d_G_lengthOf_82 (by decide) ?_
                exact fg_nm (congrArg nI ((if_pos (by omega)).symm)) j_86
  · refine lv_iconst (v := (-1)) hx hb d_G_lengthOf_5 (by decide) ?_
    exact W.iret (v := (-1)) hx hb hr (fun t9 ht9 hW9 => ⟨(-1), rfl, (by unfold lenO; rw [if_neg (by omega)]), ht9⟩) (fun q h => by cases h) d_G_lengthOf_6
set_option maxHeartbeats 4000000 in
set_option maxRecDepth 100000 in
/-- Queue.isFull() -/
theorem c_Q_isFull (l : Launch) (dC : Nat → ClassId) (dI : Nat → Nat → Nat) (cB cI cG : ClassId) (h0 : Nat) (f0 f1 f2 : Value) (cn : Nat) (sz : Nat) (hc : cn ≤ 8) : Met l y_Q_isFull (Cond.code y_Q_isFull b_Q_isFull 1 (some .boolean) :: w_all) ({ frames := 0, cells := 0, slots := 0, locals := 0 }) (va_Pc [.ref h0] (fgPre (dC, dI) (tysA cB cI cG) [(h0, .inr (0, [f0, f1, f2, .int (nI cn)]))] sz)) (vp_Si (fun r => r = nI (if cn = 8 then 1 else 0))) 0 0 (fun _ => False) := by
  refine Met.ofW (cc := b_Q_isFull) (maxL := 1) (ret := (some .boolean)) (by decide) rfl ?_
  intro p e s m args below meth c s₁ B hml hv
  obtain ⟨rfl, hsz, hP, hK, hD0⟩ := hv
  have hx := B.exec
  have hb := B.bytes
  have hr := B.returns
  have hts := atoms_spec (ws := (Cond.code y_Q_isFull b_Q_isFull 1 (some .boolean) :: w_all)) B.pre
  have ht : ∀ w ∈ w_all, w.before _ s = true := fun w h => hts w (List.mem_cons_of_mem _ h)
  have hown : s.vm.findClass R_Q = some m.cls := findClass_of_methodNamed B.named
  have hlocks := B.notSynchronized
  subst hsz
  have hD := hD0
  have hl := lv_entry ([.ref h0]) (n := 1) (Nat.le_of_ble_eq_true rfl)
  rw [lg_entry_eq]
  generalize (lg_sl ([.ref h0]) ++ List.replicate (1 - (lg_sl ([.ref h0])).length) Slot.unset).toArray = ls at hl ⊢
  have hl : lv_has ls 1 [(0, .ref h0)] := hl
  refine fg_cut (F0 m 14 ls [.int (nI (if cn = 8 then 1 else 0))]) ?_ (fun j_14 => ?_)
  · exact W.zret (ty := .boolean) (v := (nI (if cn = 8 then 1 else 0))) hx hb hr (fg_nZ (by (repeat' split) <;> omega)) (fun t9 ht9 hW9 => ⟨(nI (if cn = 8 then 1 else 0)), rfl, rfl, ht9⟩) (fun q h => by cases h) d_Q_isFull_14
  · refine lv_aload_n hx hb d_Q_isFull_0 rfl (lv_at hl 0 rfl) ?_
    refine va_get (D := (dC, dI)) (ci := 0) (v := .int (nI cn)) (C := R_Q) (T := F_Q) (N := 4) hx hb ht i_Q hown hK hP 0 rfl rfl 3 (by decide) (ht _ m_26) (fun _ h9 => h9) rfl d_Q_isFull_1 ?_
    refine lv_bipush (v := (nI 8)) hx hb d_Q_isFull_4 (by decide) ?_
    refine fg_cmp_ne (tgt := 13) hx hb d_Q_isFull_6 (by decide) (by omega) (by omega) (fun c_6 => ?_) (fun c_6 => ?_)
    · refine lv_iconst (v := (nI 0)) hx hb d_Q_isFull_13 (by decide) ?_
      exact fg_nm (congrArg nI ((if_neg (by omega)).symm)) j_14
    · refine lv_iconst (v := (nI 1)) hx hb d_Q_isFull_9 (by decide) ?_
      refine lv_goto (tgt := 14) hx hb d_Q_isFull_10 (by decide) ?_
      exact fg_nm (congrArg nI ((if_pos (by omega)).symm)) j_14
set_option maxHeartbeats 4000000 in
set_option maxRecDepth 100000 in
/-- Gate.word() -/
theorem c_G_word (l : Launch) (dC : Nat → ClassId) (dI : Nat → Nat → Nat) (cB cI cG : ClassId) (h0 : Nat) (f0 f6 f7 : Value) (st nx bs wt ag : Nat) (sz : Nat) (hg : st < 4 ∧ nx < 256 ∧ bs < 4 ∧ wt < 2 ∧ ag < 2) : Met l y_G_word (Cond.code y_G_word b_G_word 2 (some .int) :: w_all) ({ frames := 0, cells := 0, slots := 0, locals := 0 }) (va_Pc [.ref h0] (fgPre (dC, dI) (tysA cB cI cG) [(h0, .inr (1, [f0, .int (nI st), .int (nI nx), .int (nI bs), .int (nI wt), .int (nI ag), f6, f7]))] sz)) (vp_Si (fun r => r = nI (wrd st nx bs wt ag))) 0 0 (fun _ => False) := by
  refine Met.ofW (cc := b_G_word) (maxL := 2) (ret := (some .int)) (by decide) rfl ?_
  intro p e s m args below meth c s₁ B hml hv
  obtain ⟨rfl, hsz, hP, hK, hD0⟩ := hv
  have hx := B.exec
  have hb := B.bytes
  have hr := B.returns
  have hts := atoms_spec (ws := (Cond.code y_G_word b_G_word 2 (some .int) :: w_all)) B.pre
  have ht : ∀ w ∈ w_all, w.before _ s = true := fun w h => hts w (List.mem_cons_of_mem _ h)
  have hown : s.vm.findClass R_G = some m.cls := findClass_of_methodNamed B.named
  have hlocks := B.notSynchronized
  subst hsz
  have hD := hD0
  have hl := lv_entry ([.ref h0]) (n := 2) (Nat.le_of_ble_eq_true rfl)
  rw [lg_entry_eq]
  generalize (lg_sl ([.ref h0]) ++ List.replicate (2 - (lg_sl ([.ref h0])).length) Slot.unset).toArray = ls at hl ⊢
  have hl : lv_has ls 2 [(0, .ref h0)] := hl
  refine fg_cut (F0 m 13 ls [.int (nI (if st = 3 then 4 else 0))]) ?_ (fun j_13 => ?_)
  · refine fg_cut (F0 m 25 ls [.int (nI (if ¬ wt = 0 then 2 else 0)), .int (nI (if st = 3 then 4 else 0))]) ?_ (fun j_25 => ?_)
    · refine fg_ior hx hb d_G_word_25 ?_
      refine fg_cut (F0 m 38 ls [.int (nI (if ¬ ag = 0 then 1 else 0)), .int (nI ((if st = 3 then 4 else 0) ||| (if ¬ wt = 0 then 2 else 0)))]) ?_ (fun j_38 => ?_)
      · refine fg_ior hx hb d_G_word_38 ?_
        refine fg_nm (y := (nI (wfl st wt ag))) (rfl) ?_
        have hwf := wfl_lt st wt ag
        refine lv_istore_n (lv' := [(1, .int (nI (wfl st wt ag))), (0, .ref h0)]) hx hb d_G_word_39 rfl hl (by decide) rfl (fun ls hl => ?_)
        refine lv_ldc (v := 16777216) hx hb hown (ht _ m_186) d_G_word_40 ?_
        refine fg_nm (y := nI 16777216) (by decide) ?_
        refine lv_iload_n hx hb d_G_word_42 rfl (lv_at hl 0 rfl) ?_
        refine lv_bipush (v := (nI 11)) hx hb d_G_word_43 (by decide) ?_
        refine fg_ishl hx hb d_G_word_45 (by decide) (by omega) ?_
        refine fg_ior hx hb d_G_word_46 ?_
        refine lv_aload_n hx hb d_G_word_47 rfl (lv_at hl 1 rfl) ?_
        refine va_get (D := (dC, dI)) (ci := 1) (v := .int (nI bs)) (C := R_G) (T := F_G) (N := 8) hx hb ht i_G hown hK hP 0 rfl rfl 3 (by decide) (ht _ m_50) (fun _ h9 => h9) rfl d_G_word_48 ?_
        refine lv_bipush (v := (nI 9)) hx hb d_G_word_51 (by decide) ?_
        refine fg_ishl hx hb d_G_word_53 (by decide) (by omega) ?_
        refine fg_ior hx hb d_G_word_54 ?_
        refine lv_aload_n hx hb d_G_word_55 rfl (lv_at hl 1 rfl) ?_
        refine va_get (D := (dC, dI)) (ci := 1) (v := .int (nI nx)) (C := R_G) (T := F_G) (N := 8) hx hb ht i_G hown hK hP 0 rfl rfl 2 (by decide) (ht _ m_48) (fun _ h9 => h9) rfl d_G_word_56 ?_
        refine fg_ior hx hb d_G_word_59 ?_
        exact W.iret (v := (nI (((16777216 ||| ((wfl st wt ag) * 2 ^ 11)) ||| (bs * 2 ^ 9)) ||| nx))) hx hb hr (fun t9 ht9 hW9 => ⟨(nI (((16777216 ||| ((wfl st wt ag) * 2 ^ 11)) ||| (bs * 2 ^ 9)) ||| nx)), rfl, congrArg nI (wrd_or hg), ht9⟩) (fun q h => by cases h) d_G_word_60
      · refine lv_aload_n hx hb d_G_word_26 rfl (lv_at hl 0 rfl) ?_
        refine va_get (D := (dC, dI)) (ci := 1) (v := .int (nI ag)) (C := R_G) (T := F_G) (N := 8) hx hb ht i_G hown hK hP 0 rfl rfl 5 (by decide) (ht _ m_52) (fun _ h9 => h9) rfl d_G_word_27 ?_
        refine fg_if_eq (tgt := 37) hx hb d_G_word_30 (by decide) (by omega) (fun c_30 => ?_) (fun c_30 => ?_)
        · refine lv_iconst (v := (nI 0)) hx hb d_G_word_37 (by decide) ?_
          exact fg_nm (congrArg nI ((if_neg (by omega)).symm)) j_38
        · refine lv_iconst (v := (nI 1)) hx hb d_G_word_33 (by decide) ?_
          refine lv_goto (tgt := 38) hx hb d_G_word_34 (by decide) ?_
          exact fg_nm (congrArg nI ((if_pos (by omega)).symm)) j_38
    · refine lv_aload_n hx hb d_G_word_13 rfl (lv_at hl 0 rfl) ?_
      refine va_get (D := (dC, dI)) (ci := 1) (v := .int (nI wt)) (C := R_G) (T := F_G) (N := 8) hx hb ht i_G hown hK hP 0 rfl rfl 4 (by decide) (ht _ m_51) (fun _ h9 => h9) rfl d_G_word_14 ?_
      refine fg_if_eq (tgt := 24) hx hb d_G_word_17 (by decide) (by omega) (fun c_17 => ?_) (fun c_17 => ?_)
      · refine lv_iconst (v := (nI 0)) hx hb d_G_word_24 (by decide) ?_
        exact fg_nm (congrArg nI ((if_neg (by omega)).symm)) j_25
      · refine lv_iconst (v := (nI 2)) hx hb d_G_word_20 (by decide) ?_
        refine lv_goto (tgt := 25) hx hb d_G_word_21 (by decide) ?_
        exact fg_nm (congrArg nI ((if_pos (by omega)).symm)) j_25
  · refine lv_aload_n hx hb d_G_word_0 rfl (lv_at hl 0 rfl) ?_
    refine va_get (D := (dC, dI)) (ci := 1) (v := .int (nI st)) (C := R_G) (T := F_G) (N := 8) hx hb ht i_G hown hK hP 0 rfl rfl 1 (by decide) (ht _ m_46) (fun _ h9 => h9) rfl d_G_word_1 ?_
    refine lv_iconst (v := (nI 3)) hx hb d_G_word_4 (by decide) ?_
    refine fg_cmp_ne (tgt := 12) hx hb d_G_word_5 (by decide) (by omega) (by omega) (fun c_5 => ?_) (fun c_5 => ?_)
    · refine lv_iconst (v := (nI 0)) hx hb d_G_word_12 (by decide) ?_
      exact fg_nm (congrArg nI ((if_neg (by omega)).symm)) j_13
    · refine lv_iconst (v := (nI 4)) hx hb d_G_word_8 (by decide) ?_
      refine lv_goto (tgt := 13) hx hb d_G_word_9 (by decide) ?_
      exact fg_nm (congrArg nI ((if_pos (by omega)).symm)) j_13
end
section
section FGK
variable {p : Program} {l : Launch} {e : Env} {R : Room} {s : State} {m : MethodId} {args : Array Value} {below : List Frame} {meth : Method} {c : Code} {H : Heap} {locs : List Loc} {cells slots : Nat} {Q : State → Prop}
variable {cc : ByteArray} {pc : Nat} {ls : Array Slot} {rest : List Value} {D : va_G} {cl : List vw_C} {A : Nat → Prop} {a : Nat} {tys : List (ClassId × FieldType)} {H0 : Heap} {r : Nat → Nat} {Rr : Nat → Nat → Int32}
/-- arraycopy into row kq of the ring -/
theorem fg_copyTo (X Y : va_W) (hx : p.tables.exec = Jvm.exec) (hb : c.code = cc) (hml : c.maxLocals = ls.size) {own : String} {index : Nat} (hown : s.vm.findClass own = some m.cls) (hlink : (Cond.methodLink own index arraycopyName).before args s = true) (hnat : (Cond.native arraycopyName).before args s = true) (hstat : (Cond.static arraycopyName).before args s = true) (hini : (Cond.initialized "java/lang/System").before args s = true)
    {c0 : ClassId} (hK : va_K D cl tys s) (hP : va_P D cl (X ++ rwL c0 r Rr ++ Y) H) (hD : va_D A (X ++ rwL c0 r Rr ++ Y)) (hS : va_S A H0 H locs) (q0 t0 : Nat) {a0 : Nat} {n0 : Nat} {f : Nat → Int32} (ha0 : (X ++ rwL c0 r Rr ++ Y)[q0]? = some (a0, .inl (c0, n0, .inl f))) (ht0 : tys[t0]? = some (c0, .byte)) (kq : Nat) (hkq : kq < 8)
    {sp dp n : Nat} (hn : sp + n < 2 ^ 31 ∧ dp + n < 2 ^ 31) (h4 : sp + n ≤ n0) (h5 : dp + n ≤ 252) (hfit : BF f)
    (hframes : 1 ≤ R.frames) (hlocals : (rest.map fun v => v.category).sum + (nativeFrameWords "java/lang/System" "arraycopy" 5 + 11) ≤ R.locals) (hdg : decode cc pc = .ok (.invokestatic index, 3))
    (kk : ∀ (H1 : Heap) (locs1 : List Loc), va_P D cl (X ++ rwL c0 r (va_up Rr kq (va_cpy f (Rr kq) sp dp n)) ++ Y) H1 → va_D A (X ++ rwL c0 r (va_up Rr kq (va_cpy f (Rr kq) sp dp n)) ++ Y) → va_S A H0 H1 locs1 → W p l e R s m args below meth c H1 locs1 cells slots Q (F0 m (pc + 3) ls rest)) : W p l e R s m args below meth c H locs cells slots Q (F0 m pc ls (.int (nI n) :: .int (nI dp) :: .ref (r kq) :: .int (nI sp) :: .ref a0 :: rest)) := by
  refine fg_copy hx hb hml hown hlink hnat hstat hini hK hP hD hS q0 (X.length + kq) t0 ha0 (rwL_get hkq) ht0 hn h4 h5 hfit hframes hlocals hdg ?_
  rw [rwL_set hkq]
  exact kk
/-- arraycopy out of row kq of the ring -/
theorem fg_copyFrom (X Y : va_W) (hx : p.tables.exec = Jvm.exec) (hb : c.code = cc) (hml : c.maxLocals = ls.size) {own : String} {index : Nat} (hown : s.vm.findClass own = some m.cls) (hlink : (Cond.methodLink own index arraycopyName).before args s = true) (hnat : (Cond.native arraycopyName).before args s = true) (hstat : (Cond.static arraycopyName).before args s = true) (hini : (Cond.initialized "java/lang/System").before args s = true)
    {c0 : ClassId} (hK : va_K D cl tys s) (hP : va_P D cl (X ++ rwL c0 r Rr ++ Y) H) (hD : va_D A (X ++ rwL c0 r Rr ++ Y)) (hS : va_S A H0 H locs) (q1 t0 : Nat) {n1 : Nat} {g : Nat → Int32} (ha1 : (X ++ rwL c0 r Rr ++ Y)[q1]? = some (a, .inl (c0, n1, .inl g))) (ht0 : tys[t0]? = some (c0, .byte)) (kq : Nat) (hkq : kq < 8)
    {sp dp n : Nat} (hn : sp + n < 2 ^ 31 ∧ dp + n < 2 ^ 31) (h4 : sp + n ≤ 252) (h5 : dp + n ≤ n1) (hfit : BF (Rr kq))
    (hframes : 1 ≤ R.frames) (hlocals : (rest.map fun v => v.category).sum + (nativeFrameWords "java/lang/System" "arraycopy" 5 + 11) ≤ R.locals) (hdg : decode cc pc = .ok (.invokestatic index, 3))
    (kk : ∀ (H1 : Heap) (locs1 : List Loc), va_P D cl ((X ++ rwL c0 r Rr ++ Y).set q1 (a, .inl (c0, n1, .inl (va_cpy (Rr kq) g sp dp n)))) H1 → va_D A ((X ++ rwL c0 r Rr ++ Y).set q1 (a, .inl (c0, n1, .inl (va_cpy (Rr kq) g sp dp n)))) → va_S A H0 H1 locs1 → W p l e R s m args below meth c H1 locs1 cells slots Q (F0 m (pc + 3) ls rest)) : W p l e R s m args below meth c H locs cells slots Q (F0 m pc ls (.int (nI n) :: .int (nI dp) :: .ref a :: .int (nI sp) :: .ref (r kq) :: rest)) :=
  fg_copy hx hb hml hown hlink hnat hstat hini hK hP hD hS (X.length + kq) q1 t0 (rwL_get hkq) ha1 ht0 hn h4 h5 hfit hframes hlocals hdg kk
end FGK
set_option maxHeartbeats 4000000 in
set_option maxRecDepth 100000 in
/-- Gate.more() -/
theorem c_G_more (l : Launch) (dC : Nat → ClassId) (dI : Nat → Nat → Nat) (cB cI cG : ClassId) (ga : Nat) (f0 f1 f2 f4 f5 f6 f7 : Value) (bs : Nat) (sz : Nat) : Met l y_G_more (Cond.code y_G_more b_G_more 1 none :: w_all) ({ frames := 0, cells := 0, slots := 0, locals := 0 }) (va_Pc [.ref ga] (fgPre (dC, dI) (tysA cB cI cG) [(ga, .inr (1, [f0, f1, f2, .int (nI bs), f4, f5, f6, f7]))] sz)) (va_Qv (fun (_ : Unit) => True) (fun _ t9 => fgPost (dC, dI) [(ga, .inr (1, [f0, f1, f2, .int (nI bs), f4, f5, f6, f7]))] [(ga, .inr (1, [f0, f1, f2, .int (nI ((bs + 1) % 4)), f4, f5, f6, f7]))] sz t9) (va_A [(ga, .inr (1, [f0, f1, f2, .int (nI bs), f4, f5, f6, f7]))] sz)) 0 0 (va_A [(ga, .inr (1, [f0, f1, f2, .int (nI bs), f4, f5, f6, f7]))] sz) := by
  refine Met.ofW (cc := b_G_more) (maxL := 1) (ret := none) (by decide) rfl ?_
  intro p e s m args below meth c s₁ B hml hv
  obtain ⟨rfl, hsz, hP, hK, hD0⟩ := hv
  have hx := B.exec
  have hb := B.bytes
  have hr := B.returns
  have hts := atoms_spec (ws := (Cond.code y_G_more b_G_more 1 none :: w_all)) B.pre
  have ht : ∀ w ∈ w_all, w.before _ s = true := fun w h => hts w (List.mem_cons_of_mem _ h)
  have hown : s.vm.findClass R_G = some m.cls := findClass_of_methodNamed B.named
  have hlocks := B.notSynchronized
  subst hsz
  have hD := hD0.self (sz := s.heap.size)
  generalize hAe : va_A [(ga, .inr (1, [f0, f1, f2, .int (nI bs), f4, f5, f6, f7]))] s.heap.size = A at hD ⊢
  have hA : ∀ q : Nat, s.heap.size ≤ q → A q := fun q h => by rw [← hAe]; exact Or.inr h
  have hS : va_S A s.heap s.heap [] := va_S.rf
  have hl := lv_entry ([.ref ga]) (n := 1) (Nat.le_of_ble_eq_true rfl)
  rw [lg_entry_eq]
  generalize (lg_sl ([.ref ga]) ++ List.replicate (1 - (lg_sl ([.ref ga])).length) Slot.unset).toArray = ls at hl ⊢
  have hl : lv_has ls 1 [(0, .ref ga)] := hl
  refine lv_aload_n hx hb d_G_more_0 rfl (lv_at hl 0 rfl) ?_
  refine lv_aload_n hx hb d_G_more_1 rfl (lv_at hl 0 rfl) ?_
  refine va_get (D := (dC, dI)) (ci := 1) (v := .int (nI bs)) (C := R_G) (T := F_G) (N := 8) hx hb ht i_G hown hK hP 0 rfl rfl 3 (by decide) (ht _ m_50) (fun _ h9 => h9) rfl d_G_more_2 ?_
  refine lv_iconst (v := (nI 1)) hx hb d_G_more_5 (by decide) ?_
  refine fg_iadd hx hb d_G_more_6 ?_
  refine lv_iconst (v := (nI 3)) hx hb d_G_more_7 (by decide) ?_
  refine fg_iand hx hb d_G_more_8 ?_
  refine fg_nm (y := (nI ((bs + 1) % 4))) (congrArg nI (Nat.and_two_pow_sub_one_eq_mod _ 2)) ?_
  refine va_put (D := (dC, dI)) (ci := 1) (v := .int (nI ((bs + 1) % 4))) (ty := .int) (C := R_G) (T := F_G) (N := 8) hx hb ht i_G t_G t_G_ok n_G hown hK hP hD hS 0 rfl rfl 3 (by decide) (ht _ m_50) (fun _ h9 => h9) rfl (t_G_ok 3 (by decide)) rfl rfl (Nat.le_of_ble_eq_true rfl) d_G_more_9 (fun H locs hP hD hS => ?_)
  have hP : va_P (dC, dI) fgC [(ga, .inr (1, [f0, f1, f2, .int (nI ((bs + 1) % 4)), f4, f5, f6, f7]))] H := hP
  have hD : va_D A [(ga, .inr (1, [f0, f1, f2, .int (nI ((bs + 1) % 4)), f4, f5, f6, f7]))] := hD
  exact W.vret hx hb hr (fun t9 ht9 hW9 => ⟨⟨(), rfl, trivial, by rw [ht9]; exact hP, by rw [hAe]; exact hD⟩, hS.F ht9⟩) hS.2.2 d_G_more_12
set_option maxHeartbeats 4000000 in
set_option maxRecDepth 100000 in
/-- Gate.opens() -/
theorem c_G_opens (l : Launch) (dC : Nat → ClassId) (dI : Nat → Nat → Nat) (cB cI cG : ClassId) (ga : Nat) (f0 f1 f2 f3 f4 f5 f6 f7 : Value) (sz : Nat) : Met l y_G_opens (Cond.code y_G_opens b_G_opens 1 none :: w_all) ({ frames := 0, cells := 0, slots := 0, locals := 0 }) (va_Pc [.ref ga] (fgPre (dC, dI) (tysA cB cI cG) [(ga, .inr (1, [f0, f1, f2, f3, f4, f5, f6, f7]))] sz)) (va_Qv (fun (_ : Unit) => True) (fun _ t9 => fgPost (dC, dI) [(ga, .inr (1, [f0, f1, f2, f3, f4, f5, f6, f7]))] [(ga, .inr (1, [f0, .int (nI 1), f2, f3, .int (nI 0), .int (nI 0), f6, f7]))] sz t9) (va_A [(ga, .inr (1, [f0, f1, f2, f3, f4, f5, f6, f7]))] sz)) 0 0 (va_A [(ga, .inr (1, [f0, f1, f2, f3, f4, f5, f6, f7]))] sz) := by
  refine Met.ofW (cc := b_G_opens) (maxL := 1) (ret := none) (by decide) rfl ?_
  intro p e s m args below meth c s₁ B hml hv
  obtain ⟨rfl, hsz, hP, hK, hD0⟩ := hv
  have hx := B.exec
  have hb := B.bytes
  have hr := B.returns
  have hts := atoms_spec (ws := (Cond.code y_G_opens b_G_opens 1 none :: w_all)) B.pre
  have ht : ∀ w ∈ w_all, w.before _ s = true := fun w h => hts w (List.mem_cons_of_mem _ h)
  have hown : s.vm.findClass R_G = some m.cls := findClass_of_methodNamed B.named
  have hlocks := B.notSynchronized
  subst hsz
  have hD := hD0.self (sz := s.heap.size)
  generalize hAe : va_A [(ga, .inr (1, [f0, f1, f2, f3, f4, f5, f6, f7]))] s.heap.size = A at hD ⊢
  have hA : ∀ q : Nat, s.heap.size ≤ q → A q := fun q h => by rw [← hAe]; exact Or.inr h
  have hS : va_S A s.heap s.heap [] := va_S.rf
  have hl := lv_entry ([.ref ga]) (n := 1) (Nat.le_of_ble_eq_true rfl)
  rw [lg_entry_eq]
  generalize (lg_sl ([.ref ga]) ++ List.replicate (1 - (lg_sl ([.ref ga])).length) Slot.unset).toArray = ls at hl ⊢
  have hl : lv_has ls 1 [(0, .ref ga)] := hl
  refine lv_aload_n hx hb d_G_opens_0 rfl (lv_at hl 0 rfl) ?_
  refine lv_iconst (v := (nI 0)) hx hb d_G_opens_1 (by decide) ?_
  refine va_put (D := (dC, dI)) (ci := 1) (v := .int (nI 0)) (ty := .boolean) (C := R_G) (T := F_G) (N := 8) hx hb ht i_G t_G t_G_ok n_G hown hK hP hD hS 0 rfl rfl 5 (by decide) (ht _ m_52) (fun _ h9 => h9) rfl (t_G_ok 5 (by decide)) (fg_nZ (by omega)) (fg_fZ (by omega)) (Nat.le_of_ble_eq_true rfl) d_G_opens_2 (fun H locs hP hD hS => ?_)
  have hP : va_P (dC, dI) fgC [(ga, .inr (1, [f0, f1, f2, f3, f4, .int (nI 0), f6, f7]))] H := hP
  have hD : va_D A [(ga, .inr (1, [f0, f1, f2, f3, f4, .int (nI 0), f6, f7]))] := hD
  refine lv_aload_n hx hb d_G_opens_5 rfl (lv_at hl 0 rfl) ?_
  refine lv_iconst (v := (nI 0)) hx hb d_G_opens_6 (by decide) ?_
  refine va_put (D := (dC, dI)) (ci := 1) (v := .int (nI 0)) (ty := .boolean) (C := R_G) (T := F_G) (N := 8) hx hb ht i_G t_G t_G_ok n_G hown hK hP hD hS 0 rfl rfl 4 (by decide) (ht _ m_51) (fun _ h9 => h9) rfl (t_G_ok 4 (by decide)) (fg_nZ (by omega)) (fg_fZ (by omega)) (Nat.le_of_ble_eq_true rfl) d_G_opens_7 (fun H locs hP hD hS => ?_)
  have hP : va_P (dC, dI) fgC [(ga, .inr (1, [f0, f1, f2, f3, .int (nI 0), .int (nI 0), f6, f7]))] H := hP
  have hD : va_D A [(ga, .inr (1, [f0, f1, f2, f3, .int (nI 0), .int (nI 0), f6, f7]))] := hD
  refine lv_aload_n hx hb d_G_opens_10 rfl (lv_at hl 0 rfl) ?_
  refine lv_iconst (v := (nI 1)) hx hb d_G_opens_11 (by decide) ?_
  refine va_put (D := (dC, dI)) (ci := 1) (v := .int (nI 1)) (ty := .int) (C := R_G) (T := F_G) (N := 8) hx hb ht i_G t_G t_G_ok n_G hown hK hP hD hS 0 rfl rfl 1 (by decide) (ht _ m_46) (fun _ h9 => h9) rfl (t_G_ok 1 (by decide)) rfl rfl (Nat.le_of_ble_eq_true rfl) d_G_opens_12 (fun H locs hP hD hS => ?_)
  have hP : va_P (dC, dI) fgC [(ga, .inr (1, [f0, .int (nI 1), f2, f3, .int (nI 0), .int (nI 0), f6, f7]))] H := hP
  have hD : va_D A [(ga, .inr (1, [f0, .int (nI 1), f2, f3, .int (nI 0), .int (nI 0), f6, f7]))] := hD
  exact W.vret hx hb hr (fun t9 ht9 hW9 => ⟨⟨(), rfl, trivial, by rw [ht9]; exact hP, by rw [hAe]; exact hD⟩, hS.F ht9⟩) hS.2.2 d_G_opens_15
set_option maxHeartbeats 4000000 in
set_option maxRecDepth 100000 in
/-- Gate.release() -/
theorem c_G_release (l : Launch) (dC : Nat → ClassId) (dI : Nat → Nat → Nat) (cB cI cG : ClassId) (ga qu : Nat) (st nx bs wt ag rf ac : Nat) (sz : Nat) (hg : st < 4 ∧ nx < 256 ∧ bs < 4 ∧ wt < 2 ∧ ag < 2) : Met l y_G_release (Cond.code y_G_release b_G_release 2 (some .boolean) :: w_all) ({ frames := 0, cells := 0, slots := 0, locals := 0 }) (va_Pc [.ref ga] (fgPre (dC, dI) (tysA cB cI cG) [(ga, .inr (1, [.ref qu, .int (nI st), .int (nI nx), .int (nI bs), .int (nI wt), .int (nI ag), .int (nI rf), .int (nI ac)]))] sz)) (va_Qi (fun (r : Int32) (u : Nat) => r = nI (if ¬ wt = 0 ∨ st = 2 then 1 else 0) ∧ u = if st = 2 then 1 else st) (fun u t9 => fgPost (dC, dI) [(ga, .inr (1, [.ref qu, .int (nI st), .int (nI nx), .int (nI bs), .int (nI wt), .int (nI ag), .int (nI rf), .int (nI ac)]))] [(ga, .inr (1, [.ref qu, .int (nI u), .int (nI nx), .int (nI bs), .int (nI 0), .int (nI ag), .int (nI rf), .int (nI ac)]))] sz t9) (va_A [(ga, .inr (1, [.ref qu, .int (nI st), .int (nI nx), .int (nI bs), .int (nI wt), .int (nI ag), .int (nI rf), .int (nI ac)]))] sz)) 0 0 (va_A [(ga, .inr (1, [.ref qu, .int (nI st), .int (nI nx), .int (nI bs), .int (nI wt), .int (nI ag), .int (nI rf), .int (nI ac)]))] sz) := by
  refine Met.ofW (cc := b_G_release) (maxL := 2) (ret := (some .boolean)) (by decide) rfl ?_
  intro p e s m args below meth c s₁ B hml hv
  obtain ⟨rfl, hsz, hP, hK, hD0⟩ := hv
  have hx := B.exec
  have hb := B.bytes
  have hr := B.returns
  have hts := atoms_spec (ws := (Cond.code y_G_release b_G_release 2 (some .boolean) :: w_all)) B.pre
  have ht : ∀ w ∈ w_all, w.before _ s = true := fun w h => hts w (List.mem_cons_of_mem _ h)
  have hown : s.vm.findClass R_G = some m.cls := findClass_of_methodNamed B.named
  have hlocks := B.notSynchronized
  subst hsz
  have hD := hD0.self (sz := s.heap.size)
  generalize hAe : va_A [(ga, .inr (1, [.ref qu, .int (nI st), .int (nI nx), .int (nI bs), .int (nI wt), .int (nI ag), .int (nI rf), .int (nI ac)]))] s.heap.size = A at hD ⊢
  have hA : ∀ q : Nat, s.heap.size ≤ q → A q := fun q h => by rw [← hAe]; exact Or.inr h
  have hS : va_S A s.heap s.heap [] := va_S.rf
  have hl := lv_entry ([.ref ga]) (n := 2) (Nat.le_of_ble_eq_true rfl)
  rw [lg_entry_eq]
  generalize (lg_sl ([.ref ga]) ++ List.replicate (2 - (lg_sl ([.ref ga])).length) Slot.unset).toArray = ls at hl ⊢
  have hl : lv_has ls 2 [(0, .ref ga)] := hl
  refine fg_cut (F0 m 20 ls [.int (nI (if ¬ wt = 0 ∨ st = 2 then 1 else 0))]) ?_ (fun j_20 => ?_)
  · refine lv_istore_n (lv' := [(1, .int (nI (if ¬ wt = 0 ∨ st = 2 then 1 else 0))), (0, .ref ga)]) hx hb d_G_release_20 rfl hl (by decide) rfl (fun ls hl => ?_)
    refine lv_aload_n hx hb d_G_release_21 rfl (lv_at hl 1 rfl) ?_
    refine lv_iconst (v := (nI 0)) hx hb d_G_release_22 (by decide) ?_
    refine va_put (D := (dC, dI)) (ci := 1) (v := .int (nI 0)) (ty := .boolean) (C := R_G) (T := F_G) (N := 8) hx hb ht i_G t_G t_G_ok n_G hown hK hP hD hS 0 rfl rfl 4 (by decide) (ht _ m_51) (fun _ h9 => h9) rfl (t_G_ok 4 (by decide)) (fg_nZ (by omega)) (fg_fZ (by omega)) (Nat.le_of_ble_eq_true rfl) d_G_release_23 (fun H locs hP hD hS => ?_)
    have hP : va_P (dC, dI) fgC [(ga, .inr (1, [.ref qu, .int (nI st), .int (nI nx), .int (nI bs), .int (nI 0), .int (nI ag), .int (nI rf), .int (nI ac)]))] H := hP
    have hD : va_D A [(ga, .inr (1, [.ref qu, .int (nI st), .int (nI nx), .int (nI bs), .int (nI 0), .int (nI ag), .int (nI rf), .int (nI ac)]))] := hD
    refine lv_aload_n hx hb d_G_release_26 rfl (lv_at hl 1 rfl) ?_
    refine va_get (D := (dC, dI)) (ci := 1) (v := .int (nI st)) (C := R_G) (T := F_G) (N := 8) hx hb ht i_G hown hK hP 0 rfl rfl 1 (by decide) (ht _ m_46) (fun _ h9 => h9) rfl d_G_release_27 ?_
    refine lv_iconst (v := (nI 2)) hx hb d_G_release_30 (by decide) ?_
    refine fg_cmp_ne (tgt := 39) hx hb d_G_release_31 (by decide) (by omega) (by omega) (fun c_31 => ?_) (fun c_31 => ?_)
    · refine lv_iload_n hx hb d_G_release_39 rfl (lv_at hl 0 rfl) ?_
      exact W.zret (ty := .boolean) (v := (nI (if ¬ wt = 0 ∨ st = 2 then 1 else 0))) hx hb hr (fg_nZ (by (repeat' split) <;> omega)) (fun t9 ht9 hW9 => ⟨⟨(nI (if ¬ wt = 0 ∨ st = 2 then 1 else 0)), st, rfl, ⟨rfl, (if_neg c_31).symm⟩, by rw [ht9]; exact hP, by rw [hAe]; exact hD⟩, hS.F ht9⟩) hS.2.2 d_G_release_40
    · refine lv_aload_n hx hb d_G_release_34 rfl (lv_at hl 1 rfl) ?_
      refine lv_iconst (v := (nI 1)) hx hb d_G_release_35 (by decide) ?_
      refine va_put (D := (dC, dI)) (ci := 1) (v := .int (nI 1)) (ty := .int) (C := R_G) (T := F_G) (N := 8) hx hb ht i_G t_G t_G_ok n_G hown hK hP hD hS 0 rfl rfl 1 (by decide) (ht _ m_46) (fun _ h9 => h9) rfl (t_G_ok 1 (by decide)) rfl rfl (Nat.le_of_ble_eq_true rfl) d_G_release_36 (fun H locs hP hD hS => ?_)
      have hP : va_P (dC, dI) fgC [(ga, .inr (1, [.ref qu, .int (nI 1), .int (nI nx), .int (nI bs), .int (nI 0), .int (nI ag), .int (nI rf), .int (nI ac)]))] H := hP
      have hD : va_D A [(ga, .inr (1, [.ref qu, .int (nI 1), .int (nI nx), .int (nI bs), .int (nI 0), .int (nI ag), .int (nI rf), .int (nI ac)]))] := hD
      refine lv_iload_n hx hb d_G_release_39 rfl (lv_at hl 0 rfl) ?_
      exact W.zret (ty := .boolean) (v := (nI (if ¬ wt = 0 ∨ st = 2 then 1 else 0))) hx hb hr (fg_nZ (by (repeat' split) <;> omega)) (fun t9 ht9 hW9 => ⟨⟨(nI (if ¬ wt = 0 ∨ st = 2 then 1 else 0)), 1, rfl, ⟨rfl, (if_pos c_31).symm⟩, by rw [ht9]; exact hP, by rw [hAe]; exact hD⟩, hS.F ht9⟩) hS.2.2 d_G_release_40
  · refine lv_aload_n hx hb d_G_release_0 rfl (lv_at hl 0 rfl) ?_
    refine va_get (D := (dC, dI)) (ci := 1) (v := .int (nI wt)) (C := R_G) (T := F_G) (N := 8) hx hb ht i_G hown hK hP 0 rfl rfl 4 (by decide) (ht _ m_51) (fun _ h9 => h9) rfl d_G_release_1 ?_
    refine fg_if_ne (tgt := 15) hx hb d_G_release_4 (by decide) (by omega) (fun c_4 => ?_) (fun c_4 => ?_)
    · refine lv_iconst (v := (nI 1)) hx hb d_G_release_15 (by decide) ?_
      refine lv_goto (tgt := 20) hx hb d_G_release_16 (by decide) ?_
      exact fg_nm (congrArg nI ((if_pos (by omega)).symm)) j_20
    · refine lv_aload_n hx hb d_G_release_7 rfl (lv_at hl 0 rfl) ?_
      refine va_get (D := (dC, dI)) (ci := 1) (v := .int (nI st)) (C := R_G) (T := F_G) (N := 8) hx hb ht i_G hown hK hP 0 rfl rfl 1 (by decide) (ht _ m_46) (fun _ h9 => h9) rfl d_G_release_8 ?_
      refine lv_iconst (v := (nI 2)) hx hb d_G_release_11 (by decide) ?_
      refine fg_cmp_ne (tgt := 19) hx hb d_G_release_12 (by decide) (by omega) (by omega) (fun c_12 => ?_) (fun c_12 => ?_)
      · refine lv_iconst (v := (nI 0)) hx hb d_G_release_19 (by decide) ?_
        exact fg_nm (congrArg nI ((if_neg (by omega)).symm)) j_20
      · refine lv_iconst (v := (nI 1)) hx hb d_G_release_15 (by decide) ?_
        refine lv_goto (tgt := 20) hx hb d_G_release_16 (by decide) ?_
        exact fg_nm (congrArg nI ((if_pos (by omega)).symm)) j_20
set_option maxHeartbeats 4000000 in
set_option maxRecDepth 100000 in
/-- Queue.put(row, 5, k) -/
theorem c_Q_put (l : Launch) (dC : Nat → ClassId) (dI : Nat → Nat → Nat) (cB cI cG : ClassId) (qu qr qs tp : Nat) (r : Nat → Nat) (Rr : Nat → Nat → Int32) (S t : Nat → Int32) (f cn k : Nat) (sz : Nat) (hB : BF t) (hf : f < 8) (hc : cn < 8) (hk : k ≤ 252) : Met l y_Q_put (Cond.code y_Q_put b_Q_put 5 none :: w_all) ({ frames := 1, cells := 0, slots := 0, locals := 18 }) (va_Pc [.ref qu, .ref tp, .int (nI 5), .int (nI k)] (fgPre (dC, dI) (tysA cB cI cG) ([(qu, .inr (0, [.ref qr, .ref qs, .int (nI f), .int (nI cn)])), (qr, .inl (cG, 8, .inr (.inr (.inr (.inr (fun k => some (r k))))))), (qs, .inl (cI, 8, .inl S))] ++ rwL cB r Rr ++ [(tp, .inl (cB, 259, .inl t))]) sz)) (va_Qv (fun (_ : Unit) => True) (fun _ t9 => fgPost (dC, dI) ([(qu, .inr (0, [.ref qr, .ref qs, .int (nI f), .int (nI cn)])), (qr, .inl (cG, 8, .inr (.inr (.inr (.inr (fun k => some (r k))))))), (qs, .inl (cI, 8, .inl S))] ++ rwL cB r Rr ++ [(tp, .inl (cB, 259, .inl t))]) ([(qu, .inr (0, [.ref qr, .ref qs, .int (nI f), .int (nI (cn + 1))])), (qr, .inl (cG, 8, .inr (.inr (.inr (.inr (fun k => some (r k))))))), (qs, .inl (cI, 8, .inl (upd S ((f + cn) % 8) (nI k))))] ++ rwL cB r (va_up Rr ((f + cn) % 8) (va_cpy t (Rr ((f + cn) % 8)) 5 0 k)) ++ [(tp, .inl (cB, 259, .inl t))]) sz t9) (va_A ([(qu, .inr (0, [.ref qr, .ref qs, .int (nI f), .int (nI cn)])), (qr, .inl (cG, 8, .inr (.inr (.inr (.inr (fun k => some (r k))))))), (qs, .inl (cI, 8, .inl S))] ++ rwL cB r Rr ++ [(tp, .inl (cB, 259, .inl t))]) sz)) 0 0 (va_A ([(qu, .inr (0, [.ref qr, .ref qs, .int (nI f), .int (nI cn)])), (qr, .inl (cG, 8, .inr (.inr (.inr (.inr (fun k => some (r k))))))), (qs, .inl (cI, 8, .inl S))] ++ rwL cB r Rr ++ [(tp, .inl (cB, 259, .inl t))]) sz) := by
  refine Met.ofW (cc := b_Q_put) (maxL := 5) (ret := none) (by decide) rfl ?_
  intro p e s m args below meth c s₁ B hml hv
  obtain ⟨rfl, hsz, hP, hK, hD0⟩ := hv
  have hx := B.exec
  have hb := B.bytes
  have hr := B.returns
  have hts := atoms_spec (ws := (Cond.code y_Q_put b_Q_put 5 none :: w_all)) B.pre
  have ht : ∀ w ∈ w_all, w.before _ s = true := fun w h => hts w (List.mem_cons_of_mem _ h)
  have hown : s.vm.findClass R_Q = some m.cls := findClass_of_methodNamed B.named
  have hlocks := B.notSynchronized
  subst hsz
  have hD := hD0.self (sz := s.heap.size)
  generalize hAe : va_A ([(qu, .inr (0, [.ref qr, .ref qs, .int (nI f), .int (nI cn)])), (qr, .inl (cG, 8, .inr (.inr (.inr (.inr (fun k => some (r k))))))), (qs, .inl (cI, 8, .inl S))] ++ rwL cB r Rr ++ [(tp, .inl (cB, 259, .inl t))]) s.heap.size = A at hD ⊢
  have hA : ∀ q : Nat, s.heap.size ≤ q → A q := fun q h => by rw [← hAe]; exact Or.inr h
  have hS : va_S A s.heap s.heap [] := va_S.rf
  have hl := lv_entry ([.ref qu, .ref tp, .int (nI 5), .int (nI k)]) (n := 5) (Nat.le_of_ble_eq_true rfl)
  rw [lg_entry_eq]
  generalize (lg_sl ([.ref qu, .ref tp, .int (nI 5), .int (nI k)]) ++ List.replicate (5 - (lg_sl ([.ref qu, .ref tp, .int (nI 5), .int (nI k)])).length) Slot.unset).toArray = ls at hl ⊢
  have hl : lv_has ls 5 [(0, .ref qu), (1, .ref tp), (2, .int (nI 5)), (3, .int (nI k))] := hl
  refine lv_aload_n hx hb d_Q_put_0 rfl (lv_at hl 0 rfl) ?_
  refine va_get (D := (dC, dI)) (ci := 0) (v := .int (nI f)) (C := R_Q) (T := F_Q) (N := 4) hx hb ht i_Q hown hK hP 0 rfl rfl 2 (by decide) (ht _ m_25) (fun _ h9 => h9) rfl d_Q_put_1 ?_
  refine lv_aload_n hx hb d_Q_put_4 rfl (lv_at hl 0 rfl) ?_
  refine va_get (D := (dC, dI)) (ci := 0) (v := .int (nI cn)) (C := R_Q) (T := F_Q) (N := 4) hx hb ht i_Q hown hK hP 0 rfl rfl 3 (by decide) (ht _ m_26) (fun _ h9 => h9) rfl d_Q_put_5 ?_
  refine fg_iadd hx hb d_Q_put_8 ?_
  refine lv_bipush (v := (nI 8)) hx hb d_Q_put_9 (by decide) ?_
  refine fg_irem hx hb d_Q_put_11 (by omega) (by decide) (by decide) ?_
  refine lv_istore (lv' := [(4, .int (nI ((f + cn) % 8))), (0, .ref qu), (1, .ref tp), (2, .int (nI 5)), (3, .int (nI k))]) hx hb d_Q_put_12 hl (by decide) rfl (fun ls hl => ?_)
  refine lv_aload_n hx hb d_Q_put_14 rfl (lv_at hl 2 rfl) ?_
  refine lv_iload_n hx hb d_Q_put_15 rfl (lv_at hl 3 rfl) ?_
  refine lv_aload_n hx hb d_Q_put_16 rfl (lv_at hl 1 rfl) ?_
  refine va_get (D := (dC, dI)) (ci := 0) (v := .ref qr) (C := R_Q) (T := F_Q) (N := 4) hx hb ht i_Q hown hK hP 0 rfl rfl 0 (by decide) (ht _ m_23) (fun _ h9 => h9) rfl d_Q_put_17 ?_
  refine lv_iload hx hb d_Q_put_20 (lv_at hl 0 rfl) ?_
  refine fg_aald hx hb hK hP 1 2 rfl rfl (by omega) (by decide) d_Q_put_22 ?_
  refine lv_iconst (v := (nI 0)) hx hb d_Q_put_23 (by decide) ?_
  refine lv_iload_n hx hb d_Q_put_24 rfl (lv_at hl 4 rfl) ?_
  refine fg_copyTo [(qu, .inr (0, [.ref qr, .ref qs, .int (nI f), .int (nI cn)])), (qr, .inl (cG, 8, .inr (.inr (.inr (.inr (fun k => some (r k))))))), (qs, .inl (cI, 8, .inl S))] [(tp, .inl (cB, 259, .inl t))] hx hb (by rw [hml]; exact hl.1.symm) hown (ht _ m_151) (ht _ m_153) (ht _ m_152) (ht _ m_6) hK hP hD hS 11 0 rfl rfl ((f + cn) % 8) (by omega) (by omega) (by omega) (by omega) hB (Nat.le_of_ble_eq_true rfl) (Nat.le_of_ble_eq_true rfl) d_Q_put_25 (fun H locs hP hD hS => ?_)
  have hP : va_P (dC, dI) fgC ([(qu, .inr (0, [.ref qr, .ref qs, .int (nI f), .int (nI cn)])), (qr, .inl (cG, 8, .inr (.inr (.inr (.inr (fun k => some (r k))))))), (qs, .inl (cI, 8, .inl S))] ++ rwL cB r (va_up Rr ((f + cn) % 8) (va_cpy t (Rr ((f + cn) % 8)) 5 0 k)) ++ [(tp, .inl (cB, 259, .inl t))]) H := hP
  have hD : va_D A ([(qu, .inr (0, [.ref qr, .ref qs, .int (nI f), .int (nI cn)])), (qr, .inl (cG, 8, .inr (.inr (.inr (.inr (fun k => some (r k))))))), (qs, .inl (cI, 8, .inl S))] ++ rwL cB r (va_up Rr ((f + cn) % 8) (va_cpy t (Rr ((f + cn) % 8)) 5 0 k)) ++ [(tp, .inl (cB, 259, .inl t))]) := hD
  refine lv_aload_n hx hb d_Q_put_28 rfl (lv_at hl 1 rfl) ?_
  refine va_get (D := (dC, dI)) (ci := 0) (v := .ref qs) (C := R_Q) (T := F_Q) (N := 4) hx hb ht i_Q hown hK hP 0 rfl rfl 1 (by decide) (ht _ m_24) (fun _ h9 => h9) rfl d_Q_put_29 ?_
  refine lv_iload hx hb d_Q_put_32 (lv_at hl 0 rfl) ?_
  refine lv_iload_n hx hb d_Q_put_34 rfl (lv_at hl 4 rfl) ?_
  refine fg_iast hx hb hK hP hD hS 2 1 rfl rfl (by omega) (by decide) d_Q_put_35 (fun H locs hP hD hS => ?_)
  have hP : va_P (dC, dI) fgC ([(qu, .inr (0, [.ref qr, .ref qs, .int (nI f), .int (nI cn)])), (qr, .inl (cG, 8, .inr (.inr (.inr (.inr (fun k => some (r k))))))), (qs, .inl (cI, 8, .inl (upd S ((f + cn) % 8) (nI k))))] ++ rwL cB r (va_up Rr ((f + cn) % 8) (va_cpy t (Rr ((f + cn) % 8)) 5 0 k)) ++ [(tp, .inl (cB, 259, .inl t))]) H := hP
  have hD : va_D A ([(qu, .inr (0, [.ref qr, .ref qs, .int (nI f), .int (nI cn)])), (qr, .inl (cG, 8, .inr (.inr (.inr (.inr (fun k => some (r k))))))), (qs, .inl (cI, 8, .inl (upd S ((f + cn) % 8) (nI k))))] ++ rwL cB r (va_up Rr ((f + cn) % 8) (va_cpy t (Rr ((f + cn) % 8)) 5 0 k)) ++ [(tp, .inl (cB, 259, .inl t))]) := hD
  refine lv_aload_n hx hb d_Q_put_36 rfl (lv_at hl 1 rfl) ?_
  refine lv_dup hx hb d_Q_put_37 rfl ?_
  refine va_get (D := (dC, dI)) (ci := 0) (v := .int (nI cn)) (C := R_Q) (T := F_Q) (N := 4) hx hb ht i_Q hown hK hP 0 rfl rfl 3 (by decide) (ht _ m_26) (fun _ h9 => h9) rfl d_Q_put_38 ?_
  refine lv_iconst (v := (nI 1)) hx hb d_Q_put_41 (by decide) ?_
  refine fg_iadd hx hb d_Q_put_42 ?_
  refine va_put (D := (dC, dI)) (ci := 0) (v := .int (nI (cn + 1))) (ty := .int) (C := R_Q) (T := F_Q) (N := 4) hx hb ht i_Q t_Q t_Q_ok n_Q hown hK hP hD hS 0 rfl rfl 3 (by decide) (ht _ m_26) (fun _ h9 => h9) rfl (t_Q_ok 3 (by decide)) rfl rfl (Nat.le_of_ble_eq_true rfl) d_Q_put_43 (fun H locs hP hD hS => ?_)
  have hP : va_P (dC, dI) fgC ([(qu, .inr (0, [.ref qr, .ref qs, .int (nI f), .int (nI (cn + 1))])), (qr, .inl (cG, 8, .inr (.inr (.inr (.inr (fun k => some (r k))))))), (qs, .inl (cI, 8, .inl (upd S ((f + cn) % 8) (nI k))))] ++ rwL cB r (va_up Rr ((f + cn) % 8) (va_cpy t (Rr ((f + cn) % 8)) 5 0 k)) ++ [(tp, .inl (cB, 259, .inl t))]) H := hP
  have hD : va_D A ([(qu, .inr (0, [.ref qr, .ref qs, .int (nI f), .int (nI (cn + 1))])), (qr, .inl (cG, 8, .inr (.inr (.inr (.inr (fun k => some (r k))))))), (qs, .inl (cI, 8, .inl (upd S ((f + cn) % 8) (nI k))))] ++ rwL cB r (va_up Rr ((f + cn) % 8) (va_cpy t (Rr ((f + cn) % 8)) 5 0 k)) ++ [(tp, .inl (cB, 259, .inl t))]) := hD
  exact W.vret hx hb hr (fun t9 ht9 hW9 => ⟨⟨(), rfl, trivial, by rw [ht9]; exact hP, by rw [hAe]; exact hD⟩, hS.F ht9⟩) hS.2.2 d_Q_put_46
set_option maxHeartbeats 4000000 in
set_option maxRecDepth 100000 in
/-- Queue.take(row) -/
theorem c_Q_take (l : Launch) (dC : Nat → ClassId) (dI : Nat → Nat → Nat) (cB cI cG : ClassId) (qu qr qs tk : Nat) (r : Nat → Nat) (Rr : Nat → Nat → Int32) (S T : Nat → Int32) (f cn k : Nat) (sz : Nat) (hB : ∀ a, BF (Rr a)) (hf : f < 8) (hc : cn ≤ 8) (hk : 0 < cn → S f = nI k ∧ k ≤ 252) : Met l y_Q_take (Cond.code y_Q_take b_Q_take 3 (some .int) :: w_all) ({ frames := 1, cells := 0, slots := 0, locals := 18 }) (va_Pc [.ref qu, .ref tk] (fgPre (dC, dI) (tysA cB cI cG) ([(qu, .inr (0, [.ref qr, .ref qs, .int (nI f), .int (nI cn)])), (qr, .inl (cG, 8, .inr (.inr (.inr (.inr (fun k => some (r k))))))), (qs, .inl (cI, 8, .inl S))] ++ rwL cB r Rr ++ [(tk, .inl (cB, 252, .inl T))]) sz)) (va_Qi (fun (r9 : Int32) (u : Nat × Nat × (Nat → Int32)) => (cn = 0 ∧ r9 = -1 ∧ u = (f, cn, T)) ∨ (0 < cn ∧ r9 = nI k ∧ u = ((f + 1) % 8, cn - 1, va_cpy (Rr f) T 0 0 k))) (fun u t9 => fgPost (dC, dI) ([(qu, .inr (0, [.ref qr, .ref qs, .int (nI f), .int (nI cn)])), (qr, .inl (cG, 8, .inr (.inr (.inr (.inr (fun k => some (r k))))))), (qs, .inl (cI, 8, .inl S))] ++ rwL cB r Rr ++ [(tk, .inl (cB, 252, .inl T))]) ([(qu, .inr (0, [.ref qr, .ref qs, .int (nI u.1), .int (nI u.2.1)])), (qr, .inl (cG, 8, .inr (.inr (.inr (.inr (fun k => some (r k))))))), (qs, .inl (cI, 8, .inl S))] ++ rwL cB r Rr ++ [(tk, .inl (cB, 252, .inl u.2.2))]) sz t9) (va_A ([(qu, .inr (0, [.ref qr, .ref qs, .int (nI f), .int (nI cn)])), (qr, .inl (cG, 8, .inr (.inr (.inr (.inr (fun k => some (r k))))))), (qs, .inl (cI, 8, .inl S))] ++ rwL cB r Rr ++ [(tk, .inl (cB, 252, .inl T))]) sz)) 0 0 (va_A ([(qu, .inr (0, [.ref qr, .ref qs, .int (nI f), .int (nI cn)])), (qr, .inl (cG, 8, .inr (.inr (.inr (.inr (fun k => some (r k))))))), (qs, .inl (cI, 8, .inl S))] ++ rwL cB r Rr ++ [(tk, .inl (cB, 252, .inl T))]) sz) := by
  refine Met.ofW (cc := b_Q_take) (maxL := 3) (ret := (some .int)) (by decide) rfl ?_
  intro p e s m args below meth c s₁ B hml hv
  obtain ⟨rfl, hsz, hP, hK, hD0⟩ := hv
  have hx := B.exec
  have hb := B.bytes
  have hr := B.returns
  have hts := atoms_spec (ws := (Cond.code y_Q_take b_Q_take 3 (some .int) :: w_all)) B.pre
  have ht : ∀ w ∈ w_all, w.before _ s = true := fun w h => hts w (List.mem_cons_of_mem _ h)
  have hown : s.vm.findClass R_Q = some m.cls := findClass_of_methodNamed B.named
  have hlocks := B.notSynchronized
  subst hsz
  have hD := hD0.self (sz := s.heap.size)
  generalize hAe : va_A ([(qu, .inr (0, [.ref qr, .ref qs, .int (nI f), .int (nI cn)])), (qr, .inl (cG, 8, .inr (.inr (.inr (.inr (fun k => some (r k))))))), (qs, .inl (cI, 8, .inl S))] ++ rwL cB r Rr ++ [(tk, .inl (cB, 252, .inl T))]) s.heap.size = A at hD ⊢
  have hA : ∀ q : Nat, s.heap.size ≤ q → A q := fun q h => by rw [← hAe]; exact Or.inr h
  have hS : va_S A s.heap s.heap [] := va_S.rf
  have hl := lv_entry ([.ref qu, .ref tk]) (n := 3) (Nat.le_of_ble_eq_true rfl)
  rw [lg_entry_eq]
  generalize (lg_sl ([.ref qu, .ref tk]) ++ List.replicate (3 - (lg_sl ([.ref qu, .ref tk])).length) Slot.unset).toArray = ls at hl ⊢
  have hl : lv_has ls 3 [(0, .ref qu), (1, .ref tk)] := hl
  refine lv_aload_n hx hb d_Q_take_0 rfl (lv_at hl 0 rfl) ?_
  refine va_get (D := (dC, dI)) (ci := 0) (v := .int (nI cn)) (C := R_Q) (T := F_Q) (N := 4) hx hb ht i_Q hown hK hP 0 rfl rfl 3 (by decide) (ht _ m_26) (fun _ h9 => h9) rfl d_Q_take_1 ?_
  refine fg_if_ne (tgt := 9) hx hb d_Q_take_4 (by decide) (by omega) (fun c_4 => ?_) (fun c_4 => ?_)
  · have hcp : 0 < cn := by omega
    obtain ⟨hk1, hk2⟩ := hk hcp
    refine lv_aload_n hx hb d_Q_take_9 rfl (lv_at hl 0 rfl) ?_
    refine va_get (D := (dC, dI)) (ci := 0) (v := .ref qs) (C := R_Q) (T := F_Q) (N := 4) hx hb ht i_Q hown hK hP 0 rfl rfl 1 (by decide) (ht _ m_24) (fun _ h9 => h9) rfl d_Q_take_10 ?_
    refine lv_aload_n hx hb d_Q_take_13 rfl (lv_at hl 0 rfl) ?_
    refine va_get (D := (dC, dI)) (ci := 0) (v := .int (nI f)) (C := R_Q) (T := F_Q) (N := 4) hx hb ht i_Q hown hK hP 0 rfl rfl 2 (by decide) (ht _ m_25) (fun _ h9 => h9) rfl d_Q_take_14 ?_
    refine fg_iald hx hb hK hP 2 1 rfl rfl (by omega) (by decide) d_Q_take_17 ?_
    refine fg_nm (y := (nI k)) (hk1) ?_
    refine lv_istore_n (lv' := [(2, .int (nI k)), (0, .ref qu), (1, .ref tk)]) hx hb d_Q_take_18 rfl hl (by decide) rfl (fun ls hl => ?_)
    refine lv_aload_n hx hb d_Q_take_19 rfl (lv_at hl 1 rfl) ?_
    refine va_get (D := (dC, dI)) (ci := 0) (v := .ref qr) (C := R_Q) (T := F_Q) (N := 4) hx hb ht i_Q hown hK hP 0 rfl rfl 0 (by decide) (ht _ m_23) (fun _ h9 => h9) rfl d_Q_take_20 ?_
    refine lv_aload_n hx hb d_Q_take_23 rfl (lv_at hl 1 rfl) ?_
    refine va_get (D := (dC, dI)) (ci := 0) (v := .int (nI f)) (C := R_Q) (T := F_Q) (N := 4) hx hb ht i_Q hown hK hP 0 rfl rfl 2 (by decide) (ht _ m_25) (fun _ h9 => h9) rfl d_Q_take_24 ?_
    refine fg_aald hx hb hK hP 1 2 rfl rfl (by omega) (by decide) d_Q_take_27 ?_
    refine lv_iconst (v := (nI 0)) hx hb d_Q_take_28 (by decide) ?_
    refine lv_aload_n hx hb d_Q_take_29 rfl (lv_at hl 2 rfl) ?_
    refine lv_iconst (v := (nI 0)) hx hb d_Q_take_30 (by decide) ?_
    refine lv_iload_n hx hb d_Q_take_31 rfl (lv_at hl 0 rfl) ?_
    refine fg_copyFrom [(qu, .inr (0, [.ref qr, .ref qs, .int (nI f), .int (nI cn)])), (qr, .inl (cG, 8, .inr (.inr (.inr (.inr (fun k => some (r k))))))), (qs, .inl (cI, 8, .inl S))] [(tk, .inl (cB, 252, .inl T))] hx hb (by rw [hml]; exact hl.1.symm) hown (ht _ m_151) (ht _ m_153) (ht _ m_152) (ht _ m_6) hK hP hD hS 11 0 rfl rfl f hf (by omega) (by omega) (by omega) (hB f) (Nat.le_of_ble_eq_true rfl) (Nat.le_of_ble_eq_true rfl) d_Q_take_32 (fun H locs hP hD hS => ?_)
    have hP : va_P (dC, dI) fgC ([(qu, .inr (0, [.ref qr, .ref qs, .int (nI f), .int (nI cn)])), (qr, .inl (cG, 8, .inr (.inr (.inr (.inr (fun k => some (r k))))))), (qs, .inl (cI, 8, .inl S))] ++ rwL cB r Rr ++ [(tk, .inl (cB, 252, .inl (va_cpy (Rr f) T 0 0 k)))]) H := hP
    have hD : va_D A ([(qu, .inr (0, [.ref qr, .ref qs, .int (nI f), .int (nI cn)])), (qr, .inl (cG, 8, .inr (.inr (.inr (.inr (fun k => some (r k))))))), (qs, .inl (cI, 8, .inl S))] ++ rwL cB r Rr ++ [(tk, .inl (cB, 252, .inl (va_cpy (Rr f) T 0 0 k)))]) := hD
    refine lv_aload_n hx hb d_Q_take_35 rfl (lv_at hl 1 rfl) ?_
    refine lv_aload_n hx hb d_Q_take_36 rfl (lv_at hl 1 rfl) ?_
    refine va_get (D := (dC, dI)) (ci := 0) (v := .int (nI f)) (C := R_Q) (T := F_Q) (N := 4) hx hb ht i_Q hown hK hP 0 rfl rfl 2 (by decide) (ht _ m_25) (fun _ h9 => h9) rfl d_Q_take_37 ?_
    refine lv_iconst (v := (nI 1)) hx hb d_Q_take_40 (by decide) ?_
    refine fg_iadd hx hb d_Q_take_41 ?_
    refine lv_bipush (v := (nI 8)) hx hb d_Q_take_42 (by decide) ?_
    refine fg_irem hx hb d_Q_take_44 (by omega) (by decide) (by decide) ?_
    refine va_put (D := (dC, dI)) (ci := 0) (v := .int (nI ((f + 1) % 8))) (ty := .int) (C := R_Q) (T := F_Q) (N := 4) hx hb ht i_Q t_Q t_Q_ok n_Q hown hK hP hD hS 0 rfl rfl 2 (by decide) (ht _ m_25) (fun _ h9 => h9) rfl (t_Q_ok 2 (by decide)) rfl rfl (Nat.le_of_ble_eq_true rfl) d_Q_take_45 (fun H locs hP hD hS => ?_)
    have hP : va_P (dC, dI) fgC ([(qu, .inr (0, [.ref qr, .ref qs, .int (nI ((f + 1) % 8)), .int (nI cn)])), (qr, .inl (cG, 8, .inr (.inr (.inr (.inr (fun k => some (r k))))))), (qs, .inl (cI, 8, .inl S))] ++ rwL cB r Rr ++ [(tk, .inl (cB, 252, .inl (va_cpy (Rr f) T 0 0 k)))]) H := hP
    have hD : va_D A ([(qu, .inr (0, [.ref qr, .ref qs, .int (nI ((f + 1) % 8)), .int (nI cn)])), (qr, .inl (cG, 8, .inr (.inr (.inr (.inr (fun k => some (r k))))))), (qs, .inl (cI, 8, .inl S))] ++ rwL cB r Rr ++ [(tk, .inl (cB, 252, .inl (va_cpy (Rr f) T 0 0 k)))]) := hD
    refine lv_aload_n hx hb d_Q_take_48 rfl (lv_at hl 1 rfl) ?_
    refine lv_dup hx hb d_Q_take_49 rfl ?_
    refine va_get (D := (dC, dI)) (ci := 0) (v := .int (nI cn)) (C := R_Q) (T := F_Q) (N := 4) hx hb ht i_Q hown hK hP 0 rfl rfl 3 (by decide) (ht _ m_26) (fun _ h9 => h9) rfl d_Q_take_50 ?_
    refine lv_iconst (v := (nI 1)) hx hb d_Q_take_53 (by decide) ?_
    refine fg_isub hx hb d_Q_take_54 (by omega) ?_
    refine va_put (D := (dC, dI)) (ci := 0) (v := .int (nI (cn - 1))) (ty := .int) (C := R_Q) (T := F_Q) (N := 4) hx hb ht i_Q t_Q t_Q_ok n_Q hown hK hP hD hS 0 rfl rfl 3 (by decide) (ht _ m_26) (fun _ h9 => h9) rfl (t_Q_ok 3 (by decide)) rfl rfl (Nat.le_of_ble_eq_true rfl) d_Q_take_55 (fun H locs hP hD hS => ?_)
    have hP : va_P (dC, dI) fgC ([(qu, .inr (0, [.ref qr, .ref qs, .int (nI ((f + 1) % 8)), .int (nI (cn - 1))])), (qr, .inl (cG, 8, .inr (.inr (.inr (.inr (fun k => some (r k))))))), (qs, .inl (cI, 8, .inl S))] ++ rwL cB r Rr ++ [(tk, .inl (cB, 252, .inl (va_cpy (Rr f) T 0 0 k)))]) H := hP
    have hD : va_D A ([(qu, .inr (0, [.ref qr, .ref qs, .int (nI ((f + 1) % 8)), .int (nI (cn - 1))])), (qr, .inl (cG, 8, .inr (.inr (.inr (.inr (fun k => some (r k))))))), (qs, .inl (cI, 8, .inl S))] ++ rwL cB r Rr ++ [(tk, .inl (cB, 252, .inl (va_cpy (Rr f) T 0 0 k)))]) := hD
    refine lv_iload_n hx hb d_Q_take_58 rfl (lv_at hl 0 rfl) ?_
    exact W.iret (v := (nI k)) hx hb hr (fun t9 ht9 hW9 => ⟨⟨(nI k), ((f + 1) % 8, cn - 1, va_cpy (Rr f) T 0 0 k), rfl, Or.inr ⟨by omega, rfl, rfl⟩, by rw [ht9]; exact hP, by rw [hAe]; exact hD⟩, hS.F ht9⟩) hS.2.2 d_Q_take_59
  · refine lv_iconst (v := (-1)) hx hb d_Q_take_7 (by decide) ?_
    exact W.iret (v := (-1)) hx hb hr (fun t9 ht9 hW9 => ⟨⟨(-1), (f, cn, T), rfl, Or.inl ⟨by omega, rfl, rfl⟩, by rw [ht9]; exact hP, by rw [hAe]; exact hD⟩, hS.F ht9⟩) hS.2.2 d_Q_take_8
set_option maxHeartbeats 4000000 in
set_option maxRecDepth 100000 in
/-- Gate.body(row, L) -/
theorem c_G_body (l : Launch) (dC : Nat → ClassId) (dI : Nat → Nat → Nat) (cB cI cG : ClassId) (ga qu qr qs tp : Nat) (f1 f2 f3 f4 f5 f6 f7 : Value) (r : Nat → Nat) (Rr : Nat → Nat → Int32) (S t : Nat → Int32) (f cn L : Nat) (sz : Nat) (hB : BF t) (hf : f < 8) (hc : cn < 8) (hL : 8 ≤ L ∧ L ≤ 259) : Met l y_G_body (Cond.code y_G_body b_G_body 3 none :: w_all) ({ frames := 2, cells := 0, slots := 0, locals := 42 }) (va_Pc [.ref ga, .ref tp, .int (nI L)] (fgPre (dC, dI) (tysA cB cI cG) ([(ga, .inr (1, [.ref qu, f1, f2, f3, f4, f5, f6, f7])), (qu, .inr (0, [.ref qr, .ref qs, .int (nI f), .int (nI cn)])), (qr, .inl (cG, 8, .inr (.inr (.inr (.inr (fun k => some (r k))))))), (qs, .inl (cI, 8, .inl S))] ++ rwL cB r Rr ++ [(tp, .inl (cB, 259, .inl t))]) sz)) (va_Qv (fun (_ : Unit) => True) (fun _ t9 => fgPost (dC, dI) ([(ga, .inr (1, [.ref qu, f1, f2, f3, f4, f5, f6, f7])), (qu, .inr (0, [.ref qr, .ref qs, .int (nI f), .int (nI cn)])), (qr, .inl (cG, 8, .inr (.inr (.inr (.inr (fun k => some (r k))))))), (qs, .inl (cI, 8, .inl S))] ++ rwL cB r Rr ++ [(tp, .inl (cB, 259, .inl t))]) ([(ga, .inr (1, [.ref qu, f1, f2, f3, f4, f5, f6, f7])), (qu, .inr (0, [.ref qr, .ref qs, .int (nI f), .int (nI (cn + 1))])), (qr, .inl (cG, 8, .inr (.inr (.inr (.inr (fun k => some (r k))))))), (qs, .inl (cI, 8, .inl (upd S ((f + cn) % 8) (nI (L - 7)))))] ++ rwL cB r (va_up Rr ((f + cn) % 8) (va_cpy t (Rr ((f + cn) % 8)) 5 0 (L - 7))) ++ [(tp, .inl (cB, 259, .inl t))]) sz t9) (va_A ([(ga, .inr (1, [.ref qu, f1, f2, f3, f4, f5, f6, f7])), (qu, .inr (0, [.ref qr, .ref qs, .int (nI f), .int (nI cn)])), (qr, .inl (cG, 8, .inr (.inr (.inr (.inr (fun k => some (r k))))))), (qs, .inl (cI, 8, .inl S))] ++ rwL cB r Rr ++ [(tp, .inl (cB, 259, .inl t))]) sz)) 0 0 (va_A ([(ga, .inr (1, [.ref qu, f1, f2, f3, f4, f5, f6, f7])), (qu, .inr (0, [.ref qr, .ref qs, .int (nI f), .int (nI cn)])), (qr, .inl (cG, 8, .inr (.inr (.inr (.inr (fun k => some (r k))))))), (qs, .inl (cI, 8, .inl S))] ++ rwL cB r Rr ++ [(tp, .inl (cB, 259, .inl t))]) sz) := by
  refine Met.ofW (cc := b_G_body) (maxL := 3) (ret := none) (by decide) rfl ?_
  intro p e s m args below meth c s₁ B hml hv
  obtain ⟨rfl, hsz, hP, hK, hD0⟩ := hv
  have hx := B.exec
  have hb := B.bytes
  have hr := B.returns
  have hts := atoms_spec (ws := (Cond.code y_G_body b_G_body 3 none :: w_all)) B.pre
  have ht : ∀ w ∈ w_all, w.before _ s = true := fun w h => hts w (List.mem_cons_of_mem _ h)
  have hown : s.vm.findClass R_G = some m.cls := findClass_of_methodNamed B.named
  have hlocks := B.notSynchronized
  subst hsz
  have hD := hD0.self (sz := s.heap.size)
  generalize hAe : va_A ([(ga, .inr (1, [.ref qu, f1, f2, f3, f4, f5, f6, f7])), (qu, .inr (0, [.ref qr, .ref qs, .int (nI f), .int (nI cn)])), (qr, .inl (cG, 8, .inr (.inr (.inr (.inr (fun k => some (r k))))))), (qs, .inl (cI, 8, .inl S))] ++ rwL cB r Rr ++ [(tp, .inl (cB, 259, .inl t))]) s.heap.size = A at hD ⊢
  have hA : ∀ q : Nat, s.heap.size ≤ q → A q := fun q h => by rw [← hAe]; exact Or.inr h
  have hS : va_S A s.heap s.heap [] := va_S.rf
  have hl := lv_entry ([.ref ga, .ref tp, .int (nI L)]) (n := 3) (Nat.le_of_ble_eq_true rfl)
  rw [lg_entry_eq]
  generalize (lg_sl ([.ref ga, .ref tp, .int (nI L)]) ++ List.replicate (3 - (lg_sl ([.ref ga, .ref tp, .int (nI L)])).length) Slot.unset).toArray = ls at hl ⊢
  have hl : lv_has ls 3 [(0, .ref ga), (1, .ref tp), (2, .int (nI L))] := hl
  refine lv_aload_n hx hb d_G_body_0 rfl (lv_at hl 0 rfl) ?_
  refine va_get (D := (dC, dI)) (ci := 1) (v := .ref qu) (C := R_G) (T := F_G) (N := 8) hx hb ht i_G hown hK hP 0 rfl rfl 0 (by decide) (ht _ m_45) (fun _ h9 => h9) rfl d_G_body_1 ?_
  refine lv_aload_n hx hb d_G_body_4 rfl (lv_at hl 1 rfl) ?_
  refine lv_iconst (v := (nI 5)) hx hb d_G_body_5 (by decide) ?_
  refine lv_iload_n hx hb d_G_body_6 rfl (lv_at hl 2 rfl) ?_
  refine lv_iconst (v := (nI 5)) hx hb d_G_body_7 (by decide) ?_
  refine fg_isub hx hb d_G_body_8 (by omega) ?_
  refine lv_iconst (v := (nI 2)) hx hb d_G_body_9 (by decide) ?_
  refine fg_isub hx hb d_G_body_10 (by omega) ?_
  refine fg_nm (y := (nI (L - 7))) (congrArg nI (show ((L - 5) - 2) = (L - 7) by omega)) ?_
  refine fg_callv (wc := ([(qu, .inr (0, [.ref qr, .ref qs, .int (nI f), .int (nI cn)])), (qr, .inl (cG, 8, .inr (.inr (.inr (.inr (fun k => some (r k))))))), (qs, .inl (cI, 8, .inl S))] ++ rwL cB r Rr ++ [(tp, .inl (cB, 259, .inl t))])) (wr := [(ga, .inr (1, [.ref qu, f1, f2, f3, f4, f5, f6, f7]))]) (fun _ => ([(qu, .inr (0, [.ref qr, .ref qs, .int (nI f), .int (nI (cn + 1))])), (qr, .inl (cG, 8, .inr (.inr (.inr (.inr (fun k => some (r k))))))), (qs, .inl (cI, 8, .inl (upd S ((f + cn) % 8) (nI (L - 7)))))] ++ rwL cB r (va_up Rr ((f + cn) % 8) (va_cpy t (Rr ((f + cn) % 8)) 5 0 (L - 7))) ++ [(tp, .inl (cB, 259, .inl t))])) (va_runV (As := [.ref tp, .int (nI 5), .int (nI (L - 7))]) (rest := []) ⟨hx, hb, hml, hown, ht⟩ (c_Q_put l dC dI cB cI cG qu qr qs tp r Rr S t f cn (L - 7) s.heap.size hB hf hc (by omega)) (cwV 3 ht (fg_gV m_147 m_148 m_149 m_2 m_150) rfl rfl rfl (by decide +kernel) ⟨Nat.le_of_ble_eq_true rfl, Nat.le_of_ble_eq_true rfl⟩) (fg_preV hK (hP.sub [1, 2, 3, 4, 5, 6, 7, 8, 9, 10, 11, 12] rfl) (hD.sub [1, 2, 3, 4, 5, 6, 7, 8, 9, 10, 11, 12] (by decide) rfl) (va_recv hK hP (ci := 0) (q0 := 1) rfl rfl)) rfl rfl hl.1 rfl (lv_room (Nat.le_of_ble_eq_true rfl)) d_G_body_11 ⟨Nat.le_of_ble_eq_true rfl, Nat.le_of_ble_eq_true rfl⟩) hP hD hS hA [1, 2, 3, 4, 5, 6, 7, 8, 9, 10, 11, 12] [0] rfl rfl (by decide) (by decide) (fun u H locs hw hP hD hS => ?_)
  have hP : va_P (dC, dI) fgC ([(ga, .inr (1, [.ref qu, f1, f2, f3, f4, f5, f6, f7])), (qu, .inr (0, [.ref qr, .ref qs, .int (nI f), .int (nI (cn + 1))])), (qr, .inl (cG, 8, .inr (.inr (.inr (.inr (fun k => some (r k))))))), (qs, .inl (cI, 8, .inl (upd S ((f + cn) % 8) (nI (L - 7)))))] ++ rwL cB r (va_up Rr ((f + cn) % 8) (va_cpy t (Rr ((f + cn) % 8)) 5 0 (L - 7))) ++ [(tp, .inl (cB, 259, .inl t))]) H := hP.sub [0, 1, 2, 3, 4, 5, 6, 7, 8, 9, 10, 11, 12] rfl
  have hD : va_D A ([(ga, .inr (1, [.ref qu, f1, f2, f3, f4, f5, f6, f7])), (qu, .inr (0, [.ref qr, .ref qs, .int (nI f), .int (nI (cn + 1))])), (qr, .inl (cG, 8, .inr (.inr (.inr (.inr (fun k => some (r k))))))), (qs, .inl (cI, 8, .inl (upd S ((f + cn) % 8) (nI (L - 7)))))] ++ rwL cB r (va_up Rr ((f + cn) % 8) (va_cpy t (Rr ((f + cn) % 8)) 5 0 (L - 7))) ++ [(tp, .inl (cB, 259, .inl t))]) := hD.sub [0, 1, 2, 3, 4, 5, 6, 7, 8, 9, 10, 11, 12] (by decide) rfl
  exact W.vret hx hb hr (fun t9 ht9 hW9 => ⟨⟨(), rfl, trivial, by rw [ht9]; exact hP, by rw [hAe]; exact hD⟩, hS.F ht9⟩) hS.2.2 d_G_body_14
end
section
/-! what the queue is behind a frame: w says what became of it -/
def pC (w c : Nat) : Nat := if w = 1 ∨ w = 2 then c + 1 else c
def pS (w f c k : Nat) (S : Nat → Int32) : Nat → Int32 := if w = 1 ∨ w = 2 then upd S ((f + c) % 8) (nI k) else S
def pR (w f c k : Nat) (t : Nat → Int32) (R : Nat → Nat → Int32) : Nat → Nat → Int32 := if w = 1 ∨ w = 2 then va_up R ((f + c) % 8) (va_cpy t (R ((f + c) % 8)) 5 0 k) else R
theorem fd_sub {t : Nat → Int32} {nx : Nat} (h : bN (t 4) < 256) (h2 : nx < 256) : bN (nI (bN (t 4)) - nI nx) = fd t nx := by
  have e : nI (bN (t 4)) - nI nx = nI (bN (t 4) + 2 ^ 32 - nx) := by
    rw [← pk_sub (by omega), ← nI_add, show nI (2 ^ 32) = 0 from by decide, Int32.add_zero]
  rw [e]
  unfold bN fd
  show BitVec.toNat (BitVec.ofNat 32 _) % 256 = _
  rw [BitVec.toNat_ofNat]
  unfold bN at h ⊢
  omega
theorem fg_or1 {a : Nat} (h : a < 2) : a ||| 1 = 1 := by
  rcases (show a = 0 ∨ a = 1 by omega) with rfl | rfl <;> rfl
theorem fg_nm1 {a : Nat} (h : a < 2 ^ 31) : ¬ nI a = -1 := by
  intro q
  have h1 := congrArg Int32.toInt q
  rw [nI_toInt h, show (-1 : Int32).toInt = -1 from by decide] at h1
  omega
theorem ctl_w (t : Nat → Int32) (k : Nat) (g : GS) : (ctl t k g).1 = 0 ∨ (ctl t k g).1 = 3 ∨ (ctl t k g).1 = 4 := by
  unfold ctl
  repeat' split
  all_goals simp
theorem fr0_lt (t : Nat → Int32) (n c : Nat) (g : GS) : (fr0 t n c g).1 < 6 := by
  unfold fr0 ctl ino bes
  repeat' split
  all_goals simp
set_option maxHeartbeats 4000000 in
set_option maxRecDepth 100000 in
/-- Gate.control(row, L) -/
theorem c_G_control (l : Launch) (dC : Nat → ClassId) (dI : Nat → Nat → Nat) (cB cI cG : ClassId) (ga qu tp : Nat) (t : Nat → Int32) (L : Nat) (st nx bs wt ag rf ac : Nat) (sz : Nat) (hB : BF t) (hL : 8 ≤ L ∧ L ≤ 259) (hg : st < 4 ∧ nx < 256 ∧ bs < 4 ∧ wt < 2 ∧ ag < 2) : Met l y_G_control (Cond.code y_G_control b_G_control 4 (some .int) :: w_all) ({ frames := 1, cells := 0, slots := 0, locals := 20 }) (va_Pc [.ref ga, .ref tp, .int (nI L)] (fgPre (dC, dI) (tysA cB cI cG) [(ga, .inr (1, [.ref qu, .int (nI st), .int (nI nx), .int (nI bs), .int (nI wt), .int (nI ag), .int (nI rf), .int (nI ac)])), (tp, .inl (cB, 259, .inl t))] sz)) (va_Qi (fun (r9 : Int32) (u : Nat × GS) => r9 = nI u.1 ∧ u = ctl t (L - 7) (st, nx, bs, wt, ag, rf, ac)) (fun u t9 => fgPost (dC, dI) [(ga, .inr (1, [.ref qu, .int (nI st), .int (nI nx), .int (nI bs), .int (nI wt), .int (nI ag), .int (nI rf), .int (nI ac)])), (tp, .inl (cB, 259, .inl t))] [(ga, .inr (1, [.ref qu, .int (nI u.2.1), .int (nI u.2.2.1), .int (nI u.2.2.2.1), .int (nI u.2.2.2.2.1), .int (nI u.2.2.2.2.2.1), .int (nI u.2.2.2.2.2.2.1), .int (nI u.2.2.2.2.2.2.2)])), (tp, .inl (cB, 259, .inl t))] sz t9) (va_A [(ga, .inr (1, [.ref qu, .int (nI st), .int (nI nx), .int (nI bs), .int (nI wt), .int (nI ag), .int (nI rf), .int (nI ac)])), (tp, .inl (cB, 259, .inl t))] sz)) 0 0 (va_A [(ga, .inr (1, [.ref qu, .int (nI st), .int (nI nx), .int (nI bs), .int (nI wt), .int (nI ag), .int (nI rf), .int (nI ac)])), (tp, .inl (cB, 259, .inl t))] sz) := by
  refine Met.ofW (cc := b_G_control) (maxL := 4) (ret := (some .int)) (by decide) rfl ?_
  intro p e s m args below meth c s₁ B hml hv
  obtain ⟨rfl, hsz, hP, hK, hD0⟩ := hv
  have hx := B.exec
  have hb := B.bytes
  have hr := B.returns
  have hts := atoms_spec (ws := (Cond.code y_G_control b_G_control 4 (some .int) :: w_all)) B.pre
  have ht : ∀ w ∈ w_all, w.before _ s = true := fun w h => hts w (List.mem_cons_of_mem _ h)
  have hown : s.vm.findClass R_G = some m.cls := findClass_of_methodNamed B.named
  have hlocks := B.notSynchronized
  subst hsz
  have hD := hD0.self (sz := s.heap.size)
  generalize hAe : va_A [(ga, .inr (1, [.ref qu, .int (nI st), .int (nI nx), .int (nI bs), .int (nI wt), .int (nI ag), .int (nI rf), .int (nI ac)])), (tp, .inl (cB, 259, .inl t))] s.heap.size = A at hD ⊢
  have hA : ∀ q : Nat, s.heap.size ≤ q → A q := fun q h => by rw [← hAe]; exact Or.inr h
  have hS : va_S A s.heap s.heap [] := va_S.rf
  have hl := lv_entry ([.ref ga, .ref tp, .int (nI L)]) (n := 4) (Nat.le_of_ble_eq_true rfl)
  rw [lg_entry_eq]
  generalize (lg_sl ([.ref ga, .ref tp, .int (nI L)]) ++ List.replicate (4 - (lg_sl ([.ref ga, .ref tp, .int (nI L)])).length) Slot.unset).toArray = ls at hl ⊢
  have hl : lv_has ls 4 [(0, .ref ga), (1, .ref tp), (2, .int (nI L))] := hl
  refine lv_iload_n hx hb d_G_control_0 rfl (lv_at hl 2 rfl) ?_
  refine lv_iconst (v := (nI 5)) hx hb d_G_control_1 (by decide) ?_
  refine fg_isub hx hb d_G_control_2 (by omega) ?_
  refine lv_iconst (v := (nI 2)) hx hb d_G_control_3 (by decide) ?_
  refine fg_isub hx hb d_G_control_4 (by omega) ?_
  refine fg_nm (y := (nI (L - 7))) (congrArg nI (show ((L - 5) - 2) = (L - 7) by omega)) ?_
  refine lv_istore_n (lv' := [(3, .int (nI (L - 7))), (0, .ref ga), (1, .ref tp), (2, .int (nI L))]) hx hb d_G_control_5 rfl hl (by decide) rfl (fun ls hl => ?_)
  refine lv_iload_n hx hb d_G_control_6 rfl (lv_at hl 0 rfl) ?_
  refine lv_iconst (v := (nI 1)) hx hb d_G_control_7 (by decide) ?_
  refine fg_cmp_ne (tgt := 27) hx hb d_G_control_8 (by decide) (by omega) (by omega) (fun c_8 => ?_) (fun c_8 => ?_)
  · refine lv_iload_n hx hb d_G_control_27 rfl (lv_at hl 0 rfl) ?_
    refine lv_iconst (v := (nI 3)) hx hb d_G_control_28 (by decide) ?_
    refine fg_cmp_ne (tgt := 52) hx hb d_G_control_29 (by decide) (by omega) (by omega) (fun c_29 => ?_) (fun c_29 => ?_)
    · refine lv_iconst (v := (nI 0)) hx hb d_G_control_52 (by decide) ?_
      exact W.iret (v := (nI 0)) hx hb hr (fun t9 ht9 hW9 => ⟨⟨(nI 0), (0, (st, nx, bs, wt, ag, rf, ac)), rfl, ⟨rfl, by dsimp only [ctl]; (repeat' split) <;> first | rfl | (exfalso; omega)⟩, by rw [ht9]; exact hP, by rw [hAe]; exact hD⟩, hS.F ht9⟩) hS.2.2 d_G_control_53
    · refine lv_aload_n hx hb d_G_control_32 rfl (lv_at hl 2 rfl) ?_
      refine lv_iconst (v := (nI 5)) hx hb d_G_control_33 (by decide) ?_
      refine fg_bald hx hb hK hP 1 0 rfl rfl (by omega) (by decide) d_G_control_34 ?_
      refine lv_sipush (v := (nI 255)) hx hb d_G_control_35 (by decide) ?_
      refine fg_iand255 hx hb d_G_control_38 ?_
      have hbN_38 := bN_lt (t 5)
      refine lv_sipush (v := (nI 130)) hx hb d_G_control_39 (by decide) ?_
      refine fg_cmp_ne (tgt := 52) hx hb d_G_control_42 (by decide) (by omega) (by omega) (fun c_42 => ?_) (fun c_42 => ?_)
      · refine lv_iconst (v := (nI 0)) hx hb d_G_control_52 (by decide) ?_
        exact W.iret (v := (nI 0)) hx hb hr (fun t9 ht9 hW9 => ⟨⟨(nI 0), (0, (st, nx, bs, wt, ag, rf, ac)), rfl, ⟨rfl, by dsimp only [ctl]; (repeat' split) <;> first | rfl | (exfalso; omega)⟩, by rw [ht9]; exact hP, by rw [hAe]; exact hD⟩, hS.F ht9⟩) hS.2.2 d_G_control_53
      · refine lv_aload_n hx hb d_G_control_45 rfl (lv_at hl 2 rfl) ?_
        refine lv_bipush (v := (nI 6)) hx hb d_G_control_46 (by decide) ?_
        refine fg_bald hx hb hK hP 1 0 rfl rfl (by omega) (by decide) d_G_control_48 ?_
        refine lv_if_eq (tgt := 54) hx hb d_G_control_49 (by decide) (fun c_49 => ?_) (fun c_49 => ?_)
        · have c_49 := (hB.zero 6).mp c_49
          refine lv_aload_n hx hb d_G_control_54 rfl (lv_at hl 1 rfl) ?_
          refine fg_callv (wc := [(ga, .inr (1, [.ref qu, .int (nI st), .int (nI nx), .int (nI bs), .int (nI wt), .int (nI ag), .int (nI rf), .int (nI ac)]))]) (wr := [(tp, .inl (cB, 259, .inl t))]) (fun _ => [(ga, .inr (1, [.ref qu, .int (nI st), .int (nI nx), .int (nI ((bs + 1) % 4)), .int (nI wt), .int (nI ag), .int (nI rf), .int (nI ac)]))]) (va_runV (As := []) (rest := []) ⟨hx, hb, hml, hown, ht⟩ (c_G_more l dC dI cB cI cG ga (.ref qu) (.int (nI st)) (.int (nI nx)) (.int (nI wt)) (.int (nI ag)) (.int (nI rf)) (.int (nI ac)) bs s.heap.size) (cwV 0 ht (fg_gV m_127 m_129 m_s1 m_3 m_130) rfl rfl rfl (by decide +kernel) ⟨Nat.le_of_ble_eq_true rfl, Nat.le_of_ble_eq_true rfl⟩) (fg_preV hK (hP.sub [0] rfl) (hD.sub [0] (by decide) rfl) (va_recv hK hP (ci := 1) (q0 := 0) rfl rfl)) rfl rfl hl.1 rfl (lv_room (Nat.le_of_ble_eq_true rfl)) d_G_control_55 ⟨Nat.le_of_ble_eq_true rfl, Nat.le_of_ble_eq_true rfl⟩) hP hD hS hA [0] [1] rfl rfl (by decide) (by decide) (fun u H locs hw hP hD hS => ?_)
          have hP : va_P (dC, dI) fgC [(ga, .inr (1, [.ref qu, .int (nI st), .int (nI nx), .int (nI ((bs + 1) % 4)), .int (nI wt), .int (nI ag), .int (nI rf), .int (nI ac)])), (tp, .inl (cB, 259, .inl t))] H := hP.sub [1, 0] rfl
          have hD : va_D A [(ga, .inr (1, [.ref qu, .int (nI st), .int (nI nx), .int (nI ((bs + 1) % 4)), .int (nI wt), .int (nI ag), .int (nI rf), .int (nI ac)])), (tp, .inl (cB, 259, .inl t))] := hD.sub [1, 0] (by decide) rfl
          refine lv_aload_n hx hb d_G_control_58 rfl (lv_at hl 1 rfl) ?_
          refine va_get (D := (dC, dI)) (ci := 1) (v := .int (nI st)) (C := R_G) (T := F_G) (N := 8) hx hb ht i_G hown hK hP 0 rfl rfl 1 (by decide) (ht _ m_46) (fun _ h9 => h9) rfl d_G_control_59 ?_
          refine lv_iconst (v := (nI 3)) hx hb d_G_control_62 (by decide) ?_
          refine fg_cmp_eq (tgt := 82) hx hb d_G_control_63 (by decide) (by omega) (by omega) (fun c_63 => ?_) (fun c_63 => ?_)
          · refine lv_iconst (v := (nI 4)) hx hb d_G_control_82 (by decide) ?_
            exact W.iret (v := (nI 4)) hx hb hr (fun t9 ht9 hW9 => ⟨⟨(nI 4), (4, (st, nx, (bs + 1) % 4, wt, ag, rf, ac)), rfl, ⟨rfl, by dsimp only [ctl]; (repeat' split) <;> first | rfl | (exfalso; omega)⟩, by rw [ht9]; exact hP, by rw [hAe]; exact hD⟩, hS.F ht9⟩) hS.2.2 d_G_control_83
          · refine lv_aload_n hx hb d_G_control_66 rfl (lv_at hl 1 rfl) ?_
            refine fg_callv (wc := [(ga, .inr (1, [.ref qu, .int (nI st), .int (nI nx), .int (nI ((bs + 1) % 4)), .int (nI wt), .int (nI ag), .int (nI rf), .int (nI ac)]))]) (wr := [(tp, .inl (cB, 259, .inl t))]) (fun _ => [(ga, .inr (1, [.ref qu, .int (nI 1), .int (nI nx), .int (nI ((bs + 1) % 4)), .int (nI 0), .int (nI 0), .int (nI rf), .int (nI ac)]))]) (va_runV (As := []) (rest := []) ⟨hx, hb, hml, hown, ht⟩ (c_G_opens l dC dI cB cI cG ga (.ref qu) (.int (nI st)) (.int (nI nx)) (.int (nI ((bs + 1) % 4))) (.int (nI wt)) (.int (nI ag)) (.int (nI rf)) (.int (nI ac)) H.size) (cwV 0 ht (fg_gV m_131 m_133 m_s2 m_3 m_134) rfl rfl rfl (by decide +kernel) ⟨Nat.le_of_ble_eq_true rfl, Nat.le_of_ble_eq_true rfl⟩) (fg_preV hK (hP.sub [0] rfl) (hD.sub [0] (by decide) rfl) (va_recv hK hP (ci := 1) (q0 := 0) rfl rfl)) rfl rfl hl.1 rfl (lv_room (Nat.le_of_ble_eq_true rfl)) d_G_control_67 ⟨Nat.le_of_ble_eq_true rfl, Nat.le_of_ble_eq_true rfl⟩) hP hD hS hA [0] [1] rfl rfl (by decide) (by decide) (fun u H locs hw hP hD hS => ?_)
            have hP : va_P (dC, dI) fgC [(ga, .inr (1, [.ref qu, .int (nI 1), .int (nI nx), .int (nI ((bs + 1) % 4)), .int (nI 0), .int (nI 0), .int (nI rf), .int (nI ac)])), (tp, .inl (cB, 259, .inl t))] H := hP.sub [1, 0] rfl
            have hD : va_D A [(ga, .inr (1, [.ref qu, .int (nI 1), .int (nI nx), .int (nI ((bs + 1) % 4)), .int (nI 0), .int (nI 0), .int (nI rf), .int (nI ac)])), (tp, .inl (cB, 259, .inl t))] := hD.sub [1, 0] (by decide) rfl
            refine lv_aload_n hx hb d_G_control_70 rfl (lv_at hl 1 rfl) ?_
            refine lv_aload_n hx hb d_G_control_71 rfl (lv_at hl 2 rfl) ?_
            refine lv_bipush (v := (nI 7)) hx hb d_G_control_72 (by decide) ?_
            refine fg_bald hx hb hK hP 1 0 rfl rfl (by omega) (by decide) d_G_control_74 ?_
            refine lv_sipush (v := (nI 255)) hx hb d_G_control_75 (by decide) ?_
            refine fg_iand255 hx hb d_G_control_78 ?_
            have hbN_78 := bN_lt (t 7)
            refine va_put (D := (dC, dI)) (ci := 1) (v := .int (nI (bN (t 7)))) (ty := .int) (C := R_G) (T := F_G) (N := 8) hx hb ht i_G t_G t_G_ok n_G hown hK hP hD hS 0 rfl rfl 2 (by decide) (ht _ m_48) (fun _ h9 => h9) rfl (t_G_ok 2 (by decide)) rfl rfl (Nat.le_of_ble_eq_true rfl) d_G_control_79 (fun H locs hP hD hS => ?_)
            have hP : va_P (dC, dI) fgC [(ga, .inr (1, [.ref qu, .int (nI 1), .int (nI (bN (t 7))), .int (nI ((bs + 1) % 4)), .int (nI 0), .int (nI 0), .int (nI rf), .int (nI ac)])), (tp, .inl (cB, 259, .inl t))] H := hP
            have hD : va_D A [(ga, .inr (1, [.ref qu, .int (nI 1), .int (nI (bN (t 7))), .int (nI ((bs + 1) % 4)), .int (nI 0), .int (nI 0), .int (nI rf), .int (nI ac)])), (tp, .inl (cB, 259, .inl t))] := hD
            refine lv_iconst (v := (nI 4)) hx hb d_G_control_82 (by decide) ?_
            exact W.iret (v := (nI 4)) hx hb hr (fun t9 ht9 hW9 => ⟨⟨(nI 4), (4, (1, bN (t 7), (bs + 1) % 4, 0, 0, rf, ac)), rfl, ⟨rfl, by dsimp only [ctl]; (repeat' split) <;> first | rfl | (exfalso; omega)⟩, by rw [ht9]; exact hP, by rw [hAe]; exact hD⟩, hS.F ht9⟩) hS.2.2 d_G_control_83
        · have c_49 := (not_congr (hB.zero 6)).mp c_49
          refine lv_iconst (v := (nI 0)) hx hb d_G_control_52 (by decide) ?_
          exact W.iret (v := (nI 0)) hx hb hr (fun t9 ht9 hW9 => ⟨⟨(nI 0), (0, (st, nx, bs, wt, ag, rf, ac)), rfl, ⟨rfl, by dsimp only [ctl]; (repeat' split) <;> first | rfl | (exfalso; omega)⟩, by rw [ht9]; exact hP, by rw [hAe]; exact hD⟩, hS.F ht9⟩) hS.2.2 d_G_control_53
  · refine lv_aload_n hx hb d_G_control_11 rfl (lv_at hl 2 rfl) ?_
    refine lv_iconst (v := (nI 5)) hx hb d_G_control_12 (by decide) ?_
    refine fg_bald hx hb hK hP 1 0 rfl rfl (by omega) (by decide) d_G_control_13 ?_
    refine lv_if_ne (tgt := 27) hx hb d_G_control_14 (by decide) (fun c_14 => ?_) (fun c_14 => ?_)
    · have c_14 := (not_congr (hB.zero 5)).mp c_14
      refine lv_iload_n hx hb d_G_control_27 rfl (lv_at hl 0 rfl) ?_
      refine lv_iconst (v := (nI 3)) hx hb d_G_control_28 (by decide) ?_
      refine fg_cmp_ne (tgt := 52) hx hb d_G_control_29 (by decide) (by omega) (by omega) (fun c_29 => ?_) (fun c_29 => ?_)
      · refine lv_iconst (v := (nI 0)) hx hb d_G_control_52 (by decide) ?_
        exact W.iret (v := (nI 0)) hx hb hr (fun t9 ht9 hW9 => ⟨⟨(nI 0), (0, (st, nx, bs, wt, ag, rf, ac)), rfl, ⟨rfl, by dsimp only [ctl]; (repeat' split) <;> first | rfl | (exfalso; omega)⟩, by rw [ht9]; exact hP, by rw [hAe]; exact hD⟩, hS.F ht9⟩) hS.2.2 d_G_control_53
      · refine lv_aload_n hx hb d_G_control_32 rfl (lv_at hl 2 rfl) ?_
        refine lv_iconst (v := (nI 5)) hx hb d_G_control_33 (by decide) ?_
        refine fg_bald hx hb hK hP 1 0 rfl rfl (by omega) (by decide) d_G_control_34 ?_
        refine lv_sipush (v := (nI 255)) hx hb d_G_control_35 (by decide) ?_
        refine fg_iand255 hx hb d_G_control_38 ?_
        have hbN_38 := bN_lt (t 5)
        refine lv_sipush (v := (nI 130)) hx hb d_G_control_39 (by decide) ?_
        refine fg_cmp_ne (tgt := 52) hx hb d_G_control_42 (by decide) (by omega) (by omega) (fun c_42 => ?_) (fun c_42 => ?_)
        · refine lv_iconst (v := (nI 0)) hx hb d_G_control_52 (by decide) ?_
          exact W.iret (v := (nI 0)) hx hb hr (fun t9 ht9 hW9 => ⟨⟨(nI 0), (0, (st, nx, bs, wt, ag, rf, ac)), rfl, ⟨rfl, by dsimp only [ctl]; (repeat' split) <;> first | rfl | (exfalso; omega)⟩, by rw [ht9]; exact hP, by rw [hAe]; exact hD⟩, hS.F ht9⟩) hS.2.2 d_G_control_53
        · refine lv_aload_n hx hb d_G_control_45 rfl (lv_at hl 2 rfl) ?_
          refine lv_bipush (v := (nI 6)) hx hb d_G_control_46 (by decide) ?_
          refine fg_bald hx hb hK hP 1 0 rfl rfl (by omega) (by decide) d_G_control_48 ?_
          refine lv_if_eq (tgt := 54) hx hb d_G_control_49 (by decide) (fun c_49 => ?_) (fun c_49 => ?_)
          · have c_49 := (hB.zero 6).mp c_49
            refine lv_aload_n hx hb d_G_control_54 rfl (lv_at hl 1 rfl) ?_
            refine fg_callv (wc := [(ga, .inr (1, [.ref qu, .int (nI st), .int (nI nx), .int (nI bs), .int (nI wt), .int (nI ag), .int (nI rf), .int (nI ac)]))]) (wr := [(tp, .inl (cB, 259, .inl t))]) (fun _ => [(ga, .inr (1, [.ref qu, .int (nI st), .int (nI nx), .int (nI ((bs + 1) % 4)), .int (nI wt), .int (nI ag), .int (nI rf), .int (nI ac)]))]) (va_runV (As := []) (rest := []) ⟨hx, hb, hml, hown, ht⟩ (c_G_more l dC dI cB cI cG ga (.ref qu) (.int (nI st)) (.int (nI nx)) (.int (nI wt)) (.int (nI ag)) (.int (nI rf)) (.int (nI ac)) bs s.heap.size) (cwV 0 ht (fg_gV m_127 m_129 m_s1 m_3 m_130) rfl rfl rfl (by decide +kernel) ⟨Nat.le_of_ble_eq_true rfl, Nat.le_of_ble_eq_true rfl⟩) (fg_preV hK (hP.sub [0] rfl) (hD.sub [0] (by decide) rfl) (va_recv hK hP (ci := 1) (q0 := 0) rfl rfl)) rfl rfl hl.1 rfl (lv_room (Nat.le_of_ble_eq_true rfl)) d_G_control_55 ⟨Nat.le_of_ble_eq_true rfl, Nat.le_of_ble_eq_true rfl⟩) hP hD hS hA [0] [1] rfl rfl (by decide) (by decide) (fun u H locs hw hP hD hS => ?_)
            have hP : va_P (dC, dI) fgC [(ga, .inr (1, [.ref qu, .int (nI st), .int (nI nx), .int (nI ((bs + 1) % 4)), .int (nI wt), .int (nI ag), .int (nI rf), .int (nI ac)])), (tp, .inl (cB, 259, .inl t))] H := hP.sub [1, 0] rfl
            have hD : va_D A [(ga, .inr (1, [.ref qu, .int (nI st), .int (nI nx), .int (nI ((bs + 1) % 4)), .int (nI wt), .int (nI ag), .int (nI rf), .int (nI ac)])), (tp, .inl (cB, 259, .inl t))] := hD.sub [1, 0] (by decide) rfl
            refine lv_aload_n hx hb d_G_control_58 rfl (lv_at hl 1 rfl) ?_
            refine va_get (D := (dC, dI)) (ci := 1) (v := .int (nI st)) (C := R_G) (T := F_G) (N := 8) hx hb ht i_G hown hK hP 0 rfl rfl 1 (by decide) (ht _ m_46) (fun _ h9 => h9) rfl d_G_control_59 ?_
            refine lv_iconst (v := (nI 3)) hx hb d_G_control_62 (by decide) ?_
            refine fg_cmp_eq (tgt := 82) hx hb d_G_control_63 (by decide) (by omega) (by omega) (fun c_63 => ?_) (fun c_63 => ?_)
            · refine lv_iconst (v := (nI 4)) hx hb d_G_control_82 (by decide) ?_
              exact W.iret (v := (nI 4)) hx hb hr (fun t9 ht9 hW9 => ⟨⟨(nI 4), (4, (st, nx, (bs + 1) % 4, wt, ag, rf, ac)), rfl, ⟨rfl, by dsimp only [ctl]; (repeat' split) <;> first | rfl | (exfalso; omega)⟩, by rw [ht9]; exact hP, by rw [hAe]; exact hD⟩, hS.F ht9⟩) hS.2.2 d_G_control_83
            · refine lv_aload_n hx hb d_G_control_66 rfl (lv_at hl 1 rfl) ?_
              refine fg_callv (wc := [(ga, .inr (1, [.ref qu, .int (nI st), .int (nI nx), .int (nI ((bs + 1) % 4)), .int (nI wt), .int (nI ag), .int (nI rf), .int (nI ac)]))]) (wr := [(tp, .inl (cB, 259, .inl t))]) (fun _ => [(ga, .inr (1, [.ref qu, .int (nI 1), .int (nI nx), .int (nI ((bs + 1) % 4)), .int (nI 0), .int (nI 0), .int (nI rf), .int (nI ac)]))]) (va_runV (As := []) (rest := []) ⟨hx, hb, hml, hown, ht⟩ (c_G_opens l dC dI cB cI cG ga (.ref qu) (.int (nI st)) (.int (nI nx)) (.int (nI ((bs + 1) % 4))) (.int (nI wt)) (.int (nI ag)) (.int (nI rf)) (.int (nI ac)) H.size) (cwV 0 ht (fg_gV m_131 m_133 m_s2 m_3 m_134) rfl rfl rfl (by decide +kernel) ⟨Nat.le_of_ble_eq_true rfl, Nat.le_of_ble_eq_true rfl⟩) (fg_preV hK (hP.sub [0] rfl) (hD.sub [0] (by decide) rfl) (va_recv hK hP (ci := 1) (q0 := 0) rfl rfl)) rfl rfl hl.1 rfl (lv_room (Nat.le_of_ble_eq_true rfl)) d_G_control_67 ⟨Nat.le_of_ble_eq_true rfl, Nat.le_of_ble_eq_true rfl⟩) hP hD hS hA [0] [1] rfl rfl (by decide) (by decide) (fun u H locs hw hP hD hS => ?_)
              have hP : va_P (dC, dI) fgC [(ga, .inr (1, [.ref qu, .int (nI 1), .int (nI nx), .int (nI ((bs + 1) % 4)), .int (nI 0), .int (nI 0), .int (nI rf), .int (nI ac)])), (tp, .inl (cB, 259, .inl t))] H := hP.sub [1, 0] rfl
              have hD : va_D A [(ga, .inr (1, [.ref qu, .int (nI 1), .int (nI nx), .int (nI ((bs + 1) % 4)), .int (nI 0), .int (nI 0), .int (nI rf), .int (nI ac)])), (tp, .inl (cB, 259, .inl t))] := hD.sub [1, 0] (by decide) rfl
              refine lv_aload_n hx hb d_G_control_70 rfl (lv_at hl 1 rfl) ?_
              refine lv_aload_n hx hb d_G_control_71 rfl (lv_at hl 2 rfl) ?_
              refine lv_bipush (v := (nI 7)) hx hb d_G_control_72 (by decide) ?_
              refine fg_bald hx hb hK hP 1 0 rfl rfl (by omega) (by decide) d_G_control_74 ?_
              refine lv_sipush (v := (nI 255)) hx hb d_G_control_75 (by decide) ?_
              refine fg_iand255 hx hb d_G_control_78 ?_
              have hbN_78 := bN_lt (t 7)
              refine va_put (D := (dC, dI)) (ci := 1) (v := .int (nI (bN (t 7)))) (ty := .int) (C := R_G) (T := F_G) (N := 8) hx hb ht i_G t_G t_G_ok n_G hown hK hP hD hS 0 rfl rfl 2 (by decide) (ht _ m_48) (fun _ h9 => h9) rfl (t_G_ok 2 (by decide)) rfl rfl (Nat.le_of_ble_eq_true rfl) d_G_control_79 (fun H locs hP hD hS => ?_)
              have hP : va_P (dC, dI) fgC [(ga, .inr (1, [.ref qu, .int (nI 1), .int (nI (bN (t 7))), .int (nI ((bs + 1) % 4)), .int (nI 0), .int (nI 0), .int (nI rf), .int (nI ac)])), (tp, .inl (cB, 259, .inl t))] H := hP
              have hD : va_D A [(ga, .inr (1, [.ref qu, .int (nI 1), .int (nI (bN (t 7))), .int (nI ((bs + 1) % 4)), .int (nI 0), .int (nI 0), .int (nI rf), .int (nI ac)])), (tp, .inl (cB, 259, .inl t))] := hD
              refine lv_iconst (v := (nI 4)) hx hb d_G_control_82 (by decide) ?_
              exact W.iret (v := (nI 4)) hx hb hr (fun t9 ht9 hW9 => ⟨⟨(nI 4), (4, (1, bN (t 7), (bs + 1) % 4, 0, 0, rf, ac)), rfl, ⟨rfl, by dsimp only [ctl]; (repeat' split) <;> first | rfl | (exfalso; omega)⟩, by rw [ht9]; exact hP, by rw [hAe]; exact hD⟩, hS.F ht9⟩) hS.2.2 d_G_control_83
          · have c_49 := (not_congr (hB.zero 6)).mp c_49
            refine lv_iconst (v := (nI 0)) hx hb d_G_control_52 (by decide) ?_
            exact W.iret (v := (nI 0)) hx hb hr (fun t9 ht9 hW9 => ⟨⟨(nI 0), (0, (st, nx, bs, wt, ag, rf, ac)), rfl, ⟨rfl, by dsimp only [ctl]; (repeat' split) <;> first | rfl | (exfalso; omega)⟩, by rw [ht9]; exact hP, by rw [hAe]; exact hD⟩, hS.F ht9⟩) hS.2.2 d_G_control_53
    · have c_14 := (hB.zero 5).mp c_14
      refine lv_aload_n hx hb d_G_control_17 rfl (lv_at hl 1 rfl) ?_
      refine fg_callv (wc := [(ga, .inr (1, [.ref qu, .int (nI st), .int (nI nx), .int (nI bs), .int (nI wt), .int (nI ag), .int (nI rf), .int (nI ac)]))]) (wr := [(tp, .inl (cB, 259, .inl t))]) (fun _ => [(ga, .inr (1, [.ref qu, .int (nI st), .int (nI nx), .int (nI ((bs + 1) % 4)), .int (nI wt), .int (nI ag), .int (nI rf), .int (nI ac)]))]) (va_runV (As := []) (rest := []) ⟨hx, hb, hml, hown, ht⟩ (c_G_more l dC dI cB cI cG ga (.ref qu) (.int (nI st)) (.int (nI nx)) (.int (nI wt)) (.int (nI ag)) (.int (nI rf)) (.int (nI ac)) bs s.heap.size) (cwV 0 ht (fg_gV m_127 m_129 m_s1 m_3 m_130) rfl rfl rfl (by decide +kernel) ⟨Nat.le_of_ble_eq_true rfl, Nat.le_of_ble_eq_true rfl⟩) (fg_preV hK (hP.sub [0] rfl) (hD.sub [0] (by decide) rfl) (va_recv hK hP (ci := 1) (q0 := 0) rfl rfl)) rfl rfl hl.1 rfl (lv_room (Nat.le_of_ble_eq_true rfl)) d_G_control_18 ⟨Nat.le_of_ble_eq_true rfl, Nat.le_of_ble_eq_true rfl⟩) hP hD hS hA [0] [1] rfl rfl (by decide) (by decide) (fun u H locs hw hP hD hS => ?_)
      have hP : va_P (dC, dI) fgC [(ga, .inr (1, [.ref qu, .int (nI st), .int (nI nx), .int (nI ((bs + 1) % 4)), .int (nI wt), .int (nI ag), .int (nI rf), .int (nI ac)])), (tp, .inl (cB, 259, .inl t))] H := hP.sub [1, 0] rfl
      have hD : va_D A [(ga, .inr (1, [.ref qu, .int (nI st), .int (nI nx), .int (nI ((bs + 1) % 4)), .int (nI wt), .int (nI ag), .int (nI rf), .int (nI ac)])), (tp, .inl (cB, 259, .inl t))] := hD.sub [1, 0] (by decide) rfl
      refine lv_aload_n hx hb d_G_control_21 rfl (lv_at hl 1 rfl) ?_
      refine fg_callv (wc := [(ga, .inr (1, [.ref qu, .int (nI st), .int (nI nx), .int (nI ((bs + 1) % 4)), .int (nI wt), .int (nI ag), .int (nI rf), .int (nI ac)]))]) (wr := [(tp, .inl (cB, 259, .inl t))]) (fun _ => [(ga, .inr (1, [.ref qu, .int (nI 1), .int (nI nx), .int (nI ((bs + 1) % 4)), .int (nI 0), .int (nI 0), .int (nI rf), .int (nI ac)]))]) (va_runV (As := []) (rest := []) ⟨hx, hb, hml, hown, ht⟩ (c_G_opens l dC dI cB cI cG ga (.ref qu) (.int (nI st)) (.int (nI nx)) (.int (nI ((bs + 1) % 4))) (.int (nI wt)) (.int (nI ag)) (.int (nI rf)) (.int (nI ac)) H.size) (cwV 0 ht (fg_gV m_131 m_133 m_s2 m_3 m_134) rfl rfl rfl (by decide +kernel) ⟨Nat.le_of_ble_eq_true rfl, Nat.le_of_ble_eq_true rfl⟩) (fg_preV hK (hP.sub [0] rfl) (hD.sub [0] (by decide) rfl) (va_recv hK hP (ci := 1) (q0 := 0) rfl rfl)) rfl rfl hl.1 rfl (lv_room (Nat.le_of_ble_eq_true rfl)) d_G_control_22 ⟨Nat.le_of_ble_eq_true rfl, Nat.le_of_ble_eq_true rfl⟩) hP hD hS hA [0] [1] rfl rfl (by decide) (by decide) (fun u H locs hw hP hD hS => ?_)
      have hP : va_P (dC, dI) fgC [(ga, .inr (1, [.ref qu, .int (nI 1), .int (nI nx), .int (nI ((bs + 1) % 4)), .int (nI 0), .int (nI 0), .int (nI rf), .int (nI ac)])), (tp, .inl (cB, 259, .inl t))] H := hP.sub [1, 0] rfl
      have hD : va_D A [(ga, .inr (1, [.ref qu, .int (nI 1), .int (nI nx), .int (nI ((bs + 1) % 4)), .int (nI 0), .int (nI 0), .int (nI rf), .int (nI ac)])), (tp, .inl (cB, 259, .inl t))] := hD.sub [1, 0] (by decide) rfl
      refine lv_iconst (v := (nI 3)) hx hb d_G_control_25 (by decide) ?_
      exact W.iret (v := (nI 3)) hx hb hr (fun t9 ht9 hW9 => ⟨⟨(nI 3), (3, (1, nx, (bs + 1) % 4, 0, 0, rf, ac)), rfl, ⟨rfl, by dsimp only [ctl]; (repeat' split) <;> first | rfl | (exfalso; omega)⟩, by rw [ht9]; exact hP, by rw [hAe]; exact hD⟩, hS.F ht9⟩) hS.2.2 d_G_control_26
set_option maxHeartbeats 4000000 in
set_option maxRecDepth 100000 in
/-- Gate.beside(row, L) -/
theorem c_G_beside (l : Launch) (dC : Nat → ClassId) (dI : Nat → Nat → Nat) (cB cI cG : ClassId) (ga qu qr qs tp : Nat) (r : Nat → Nat) (Rr : Nat → Nat → Int32) (S t : Nat → Int32) (f cn L : Nat) (st nx bs wt ag rf ac : Nat) (sz : Nat) (hB : BF t) (hf : f < 8) (hc : cn ≤ 8) (hL : 8 ≤ L ∧ L ≤ 259) (hg : st < 4 ∧ nx < 256 ∧ bs < 4 ∧ wt < 2 ∧ ag < 2) : Met l y_G_beside (Cond.code y_G_beside b_G_beside 3 (some .int) :: w_all) ({ frames := 3, cells := 0, slots := 0, locals := 64 }) (va_Pc [.ref ga, .ref tp, .int (nI L)] (fgPre (dC, dI) (tysA cB cI cG) ([(ga, .inr (1, [.ref qu, .int (nI st), .int (nI nx), .int (nI bs), .int (nI wt), .int (nI ag), .int (nI rf), .int (nI ac)])), (qu, .inr (0, [.ref qr, .ref qs, .int (nI f), .int (nI cn)])), (qr, .inl (cG, 8, .inr (.inr (.inr (.inr (fun k => some (r k))))))), (qs, .inl (cI, 8, .inl S))] ++ rwL cB r Rr ++ [(tp, .inl (cB, 259, .inl t))]) sz)) (va_Qi (fun (r9 : Int32) (u : Nat × GS) => r9 = nI u.1 ∧ u = bes cn (st, nx, bs, wt, ag, rf, ac)) (fun u t9 => fgPost (dC, dI) ([(ga, .inr (1, [.ref qu, .int (nI st), .int (nI nx), .int (nI bs), .int (nI wt), .int (nI ag), .int (nI rf), .int (nI ac)])), (qu, .inr (0, [.ref qr, .ref qs, .int (nI f), .int (nI cn)])), (qr, .inl (cG, 8, .inr (.inr (.inr (.inr (fun k => some (r k))))))), (qs, .inl (cI, 8, .inl S))] ++ rwL cB r Rr ++ [(tp, .inl (cB, 259, .inl t))]) ([(ga, .inr (1, [.ref qu, .int (nI u.2.1), .int (nI u.2.2.1), .int (nI u.2.2.2.1), .int (nI u.2.2.2.2.1), .int (nI u.2.2.2.2.2.1), .int (nI u.2.2.2.2.2.2.1), .int (nI u.2.2.2.2.2.2.2)])), (qu, .inr (0, [.ref qr, .ref qs, .int (nI f), .int (nI (pC u.1 cn))])), (qr, .inl (cG, 8, .inr (.inr (.inr (.inr (fun k => some (r k))))))), (qs, .inl (cI, 8, .inl (pS u.1 f cn (L - 7) S)))] ++ rwL cB r (pR u.1 f cn (L - 7) t Rr) ++ [(tp, .inl (cB, 259, .inl t))]) sz t9) (va_A ([(ga, .inr (1, [.ref qu, .int (nI st), .int (nI nx), .int (nI bs), .int (nI wt), .int (nI ag), .int (nI rf), .int (nI ac)])), (qu, .inr (0, [.ref qr, .ref qs, .int (nI f), .int (nI cn)])), (qr, .inl (cG, 8, .inr (.inr (.inr (.inr (fun k => some (r k))))))), (qs, .inl (cI, 8, .inl S))] ++ rwL cB r Rr ++ [(tp, .inl (cB, 259, .inl t))]) sz)) 0 0 (va_A ([(ga, .inr (1, [.ref qu, .int (nI st), .int (nI nx), .int (nI bs), .int (nI wt), .int (nI ag), .int (nI rf), .int (nI ac)])), (qu, .inr (0, [.ref qr, .ref qs, .int (nI f), .int (nI cn)])), (qr, .inl (cG, 8, .inr (.inr (.inr (.inr (fun k => some (r k))))))), (qs, .inl (cI, 8, .inl S))] ++ rwL cB r Rr ++ [(tp, .inl (cB, 259, .inl t))]) sz) := by
  refine Met.ofW (cc := b_G_beside) (maxL := 3) (ret := (some .int)) (by decide) rfl ?_
  intro p e s m args below meth c s₁ B hml hv
  obtain ⟨rfl, hsz, hP, hK, hD0⟩ := hv
  have hx := B.exec
  have hb := B.bytes
  have hr := B.returns
  have hts := atoms_spec (ws := (Cond.code y_G_beside b_G_beside 3 (some .int) :: w_all)) B.pre
  have ht : ∀ w ∈ w_all, w.before _ s = true := fun w h => hts w (List.mem_cons_of_mem _ h)
  have hown : s.vm.findClass R_G = some m.cls := findClass_of_methodNamed B.named
  have hlocks := B.notSynchronized
  subst hsz
  have hD := hD0.self (sz := s.heap.size)
  generalize hAe : va_A ([(ga, .inr (1, [.ref qu, .int (nI st), .int (nI nx), .int (nI bs), .int (nI wt), .int (nI ag), .int (nI rf), .int (nI ac)])), (qu, .inr (0, [.ref qr, .ref qs, .int (nI f), .int (nI cn)])), (qr, .inl (cG, 8, .inr (.inr (.inr (.inr (fun k => some (r k))))))), (qs, .inl (cI, 8, .inl S))] ++ rwL cB r Rr ++ [(tp, .inl (cB, 259, .inl t))]) s.heap.size = A at hD ⊢
  have hA : ∀ q : Nat, s.heap.size ≤ q → A q := fun q h => by rw [← hAe]; exact Or.inr h
  have hS : va_S A s.heap s.heap [] := va_S.rf
  have hl := lv_entry ([.ref ga, .ref tp, .int (nI L)]) (n := 3) (Nat.le_of_ble_eq_true rfl)
  rw [lg_entry_eq]
  generalize (lg_sl ([.ref ga, .ref tp, .int (nI L)]) ++ List.replicate (3 - (lg_sl ([.ref ga, .ref tp, .int (nI L)])).length) Slot.unset).toArray = ls at hl ⊢
  have hl : lv_has ls 3 [(0, .ref ga), (1, .ref tp), (2, .int (nI L))] := hl
  refine lv_aload_n hx hb d_G_beside_0 rfl (lv_at hl 0 rfl) ?_
  refine va_get (D := (dC, dI)) (ci := 1) (v := .ref qu) (C := R_G) (T := F_G) (N := 8) hx hb ht i_G hown hK hP 0 rfl rfl 0 (by decide) (ht _ m_45) (fun _ h9 => h9) rfl d_G_beside_1 ?_
  refine vp_callSi (va_Run.run (va_runV (As := []) (rest := []) ⟨hx, hb, hml, hown, ht⟩ (c_Q_isFull l dC dI cB cI cG qu (.ref qr) (.ref qs) (.int (nI f)) cn s.heap.size hc) (cwV 0 ht (fg_gV m_139 m_140 m_141 m_2 m_142) rfl rfl rfl (by decide +kernel) ⟨Nat.le_of_ble_eq_true rfl, Nat.le_of_ble_eq_true rfl⟩) (fg_preV hK (hP.sub [1] rfl) (hD.sub [1] (by decide) rfl) (va_recv hK hP (ci := 0) (q0 := 1) rfl rfl)) rfl rfl hl.1 rfl (lv_room (Nat.le_of_ble_eq_true rfl)) d_G_beside_4 ⟨Nat.le_of_ble_eq_true rfl, Nat.le_of_ble_eq_true rfl⟩)) (fun r_4 er_4 => ?_)
  obtain rfl : r_4 = (nI (if cn = 8 then 1 else 0)) := er_4
  refine fg_ifb_eq (tgt := 12) hx hb d_G_beside_7 (by decide) (fun c_7 => ?_) (fun c_7 => ?_)
  · refine lv_aload_n hx hb d_G_beside_12 rfl (lv_at hl 0 rfl) ?_
    refine lv_aload_n hx hb d_G_beside_13 rfl (lv_at hl 1 rfl) ?_
    refine lv_iload_n hx hb d_G_beside_14 rfl (lv_at hl 2 rfl) ?_
    refine fg_callv (wc := ([(ga, .inr (1, [.ref qu, .int (nI st), .int (nI nx), .int (nI bs), .int (nI wt), .int (nI ag), .int (nI rf), .int (nI ac)])), (qu, .inr (0, [.ref qr, .ref qs, .int (nI f), .int (nI cn)])), (qr, .inl (cG, 8, .inr (.inr (.inr (.inr (fun k => some (r k))))))), (qs, .inl (cI, 8, .inl S))] ++ rwL cB r Rr ++ [(tp, .inl (cB, 259, .inl t))])) (wr := []) (fun _ => ([(ga, .inr (1, [.ref qu, .int (nI st), .int (nI nx), .int (nI bs), .int (nI wt), .int (nI ag), .int (nI rf), .int (nI ac)])), (qu, .inr (0, [.ref qr, .ref qs, .int (nI f), .int (nI (cn + 1))])), (qr, .inl (cG, 8, .inr (.inr (.inr (.inr (fun k => some (r k))))))), (qs, .inl (cI, 8, .inl (upd S ((f + cn) % 8) (nI (L - 7)))))] ++ rwL cB r (va_up Rr ((f + cn) % 8) (va_cpy t (Rr ((f + cn) % 8)) 5 0 (L - 7))) ++ [(tp, .inl (cB, 259, .inl t))])) (va_runV (As := [.ref tp, .int (nI L)]) (rest := []) ⟨hx, hb, hml, hown, ht⟩ (c_G_body l dC dI cB cI cG ga qu qr qs tp (.int (nI st)) (.int (nI nx)) (.int (nI bs)) (.int (nI wt)) (.int (nI ag)) (.int (nI rf)) (.int (nI ac)) r Rr S t f cn L s.heap.size hB hf (by omega) hL) (cwV 2 ht (fg_gV m_143 m_145 m_s4 m_3 m_146) rfl rfl rfl (by decide +kernel) ⟨Nat.le_of_ble_eq_true rfl, Nat.le_of_ble_eq_true rfl⟩) (fg_preV hK (hP.sub [0, 1, 2, 3, 4, 5, 6, 7, 8, 9, 10, 11, 12] rfl) (hD.sub [0, 1, 2, 3, 4, 5, 6, 7, 8, 9, 10, 11, 12] (by decide) rfl) (va_recv hK hP (ci := 1) (q0 := 0) rfl rfl)) rfl rfl hl.1 rfl (lv_room (Nat.le_of_ble_eq_true rfl)) d_G_beside_15 ⟨Nat.le_of_ble_eq_true rfl, Nat.le_of_ble_eq_true rfl⟩) hP hD hS hA [0, 1, 2, 3, 4, 5, 6, 7, 8, 9, 10, 11, 12] [] rfl rfl (by decide) (by decide) (fun u H locs hw hP hD hS => ?_)
    have hP : va_P (dC, dI) fgC ([(ga, .inr (1, [.ref qu, .int (nI st), .int (nI nx), .int (nI bs), .int (nI wt), .int (nI ag), .int (nI rf), .int (nI ac)])), (qu, .inr (0, [.ref qr, .ref qs, .int (nI f), .int (nI (cn + 1))])), (qr, .inl (cG, 8, .inr (.inr (.inr (.inr (fun k => some (r k))))))), (qs, .inl (cI, 8, .inl (upd S ((f + cn) % 8) (nI (L - 7)))))] ++ rwL cB r (va_up Rr ((f + cn) % 8) (va_cpy t (Rr ((f + cn) % 8)) 5 0 (L - 7))) ++ [(tp, .inl (cB, 259, .inl t))]) H := hP.sub [0, 1, 2, 3, 4, 5, 6, 7, 8, 9, 10, 11, 12] rfl
    have hD : va_D A ([(ga, .inr (1, [.ref qu, .int (nI st), .int (nI nx), .int (nI bs), .int (nI wt), .int (nI ag), .int (nI rf), .int (nI ac)])), (qu, .inr (0, [.ref qr, .ref qs, .int (nI f), .int (nI (cn + 1))])), (qr, .inl (cG, 8, .inr (.inr (.inr (.inr (fun k => some (r k))))))), (qs, .inl (cI, 8, .inl (upd S ((f + cn) % 8) (nI (L - 7)))))] ++ rwL cB r (va_up Rr ((f + cn) % 8) (va_cpy t (Rr ((f + cn) % 8)) 5 0 (L - 7))) ++ [(tp, .inl (cB, 259, .inl t))]) := hD.sub [0, 1, 2, 3, 4, 5, 6, 7, 8, 9, 10, 11, 12] (by decide) rfl
    refine lv_aload_n hx hb d_G_beside_18 rfl (lv_at hl 0 rfl) ?_
    refine fg_callv (wc := [(ga, .inr (1, [.ref qu, .int (nI st), .int (nI nx), .int (nI bs), .int (nI wt), .int (nI ag), .int (nI rf), .int (nI ac)]))]) (wr := ([(qu, .inr (0, [.ref qr, .ref qs, .int (nI f), .int (nI (cn + 1))])), (qr, .inl (cG, 8, .inr (.inr (.inr (.inr (fun k => some (r k))))))), (qs, .inl (cI, 8, .inl (upd S ((f + cn) % 8) (nI (L - 7)))))] ++ rwL cB r (va_up Rr ((f + cn) % 8) (va_cpy t (Rr ((f + cn) % 8)) 5 0 (L - 7))) ++ [(tp, .inl (cB, 259, .inl t))])) (fun _ => [(ga, .inr (1, [.ref qu, .int (nI st), .int (nI nx), .int (nI ((bs + 1) % 4)), .int (nI wt), .int (nI ag), .int (nI rf), .int (nI ac)]))]) (va_runV (As := []) (rest := []) ⟨hx, hb, hml, hown, ht⟩ (c_G_more l dC dI cB cI cG ga (.ref qu) (.int (nI st)) (.int (nI nx)) (.int (nI wt)) (.int (nI ag)) (.int (nI rf)) (.int (nI ac)) bs H.size) (cwV 0 ht (fg_gV m_127 m_129 m_s1 m_3 m_130) rfl rfl rfl (by decide +kernel) ⟨Nat.le_of_ble_eq_true rfl, Nat.le_of_ble_eq_true rfl⟩) (fg_preV hK (hP.sub [0] rfl) (hD.sub [0] (by decide) rfl) (va_recv hK hP (ci := 1) (q0 := 0) rfl rfl)) rfl rfl hl.1 rfl (lv_room (Nat.le_of_ble_eq_true rfl)) d_G_beside_19 ⟨Nat.le_of_ble_eq_true rfl, Nat.le_of_ble_eq_true rfl⟩) hP hD hS hA [0] [1, 2, 3, 4, 5, 6, 7, 8, 9, 10, 11, 12] rfl rfl (by decide) (by decide) (fun u H locs hw hP hD hS => ?_)
    have hP : va_P (dC, dI) fgC ([(ga, .inr (1, [.ref qu, .int (nI st), .int (nI nx), .int (nI ((bs + 1) % 4)), .int (nI wt), .int (nI ag), .int (nI rf), .int (nI ac)])), (qu, .inr (0, [.ref qr, .ref qs, .int (nI f), .int (nI (cn + 1))])), (qr, .inl (cG, 8, .inr (.inr (.inr (.inr (fun k => some (r k))))))), (qs, .inl (cI, 8, .inl (upd S ((f + cn) % 8) (nI (L - 7)))))] ++ rwL cB r (va_up Rr ((f + cn) % 8) (va_cpy t (Rr ((f + cn) % 8)) 5 0 (L - 7))) ++ [(tp, .inl (cB, 259, .inl t))]) H := hP.sub [12, 0, 1, 2, 3, 4, 5, 6, 7, 8, 9, 10, 11] rfl
    have hD : va_D A ([(ga, .inr (1, [.ref qu, .int (nI st), .int (nI nx), .int (nI ((bs + 1) % 4)), .int (nI wt), .int (nI ag), .int (nI rf), .int (nI ac)])), (qu, .inr (0, [.ref qr, .ref qs, .int (nI f), .int (nI (cn + 1))])), (qr, .inl (cG, 8, .inr (.inr (.inr (.inr (fun k => some (r k))))))), (qs, .inl (cI, 8, .inl (upd S ((f + cn) % 8) (nI (L - 7)))))] ++ rwL cB r (va_up Rr ((f + cn) % 8) (va_cpy t (Rr ((f + cn) % 8)) 5 0 (L - 7))) ++ [(tp, .inl (cB, 259, .inl t))]) := hD.sub [12, 0, 1, 2, 3, 4, 5, 6, 7, 8, 9, 10, 11] (by decide) rfl
    refine lv_iconst (v := (nI 2)) hx hb d_G_beside_22 (by decide) ?_
    exact W.iret (v := (nI 2)) hx hb hr (fun t9 ht9 hW9 => ⟨⟨(nI 2), (2, (st, nx, (bs + 1) % 4, wt, ag, rf, ac)), rfl, ⟨rfl, by dsimp only [bes]; (repeat' split) <;> first | rfl | (exfalso; omega)⟩, by rw [ht9]; exact hP, by rw [hAe]; exact hD⟩, hS.F ht9⟩) hS.2.2 d_G_beside_23
  · refine lv_iconst (v := (nI 0)) hx hb d_G_beside_10 (by decide) ?_
    exact W.iret (v := (nI 0)) hx hb hr (fun t9 ht9 hW9 => ⟨⟨(nI 0), (0, (st, nx, bs, wt, ag, rf, ac)), rfl, ⟨rfl, by dsimp only [bes]; (repeat' split) <;> first | rfl | (exfalso; omega)⟩, by rw [ht9]; exact hP, by rw [hAe]; exact hD⟩, hS.F ht9⟩) hS.2.2 d_G_beside_11
set_option maxHeartbeats 4000000 in
set_option maxRecDepth 100000 in
/-- Gate.inOrder(row, L) -/
theorem c_G_inOrder (l : Launch) (dC : Nat → ClassId) (dI : Nat → Nat → Nat) (cB cI cG : ClassId) (ga qu qr qs tp : Nat) (r : Nat → Nat) (Rr : Nat → Nat → Int32) (S t : Nat → Int32) (f cn L : Nat) (st nx bs wt ag rf ac : Nat) (sz : Nat) (hB : BF t) (hf : f < 8) (hc : cn ≤ 8) (hL : 8 ≤ L ∧ L ≤ 259) (hg : st < 4 ∧ nx < 256 ∧ bs < 4 ∧ wt < 2 ∧ ag < 2) : Met l y_G_inOrder (Cond.code y_G_inOrder b_G_inOrder 4 (some .int) :: w_all) ({ frames := 3, cells := 0, slots := 0, locals := 64 }) (va_Pc [.ref ga, .ref tp, .int (nI L)] (fgPre (dC, dI) (tysA cB cI cG) ([(ga, .inr (1, [.ref qu, .int (nI st), .int (nI nx), .int (nI bs), .int (nI wt), .int (nI ag), .int (nI rf), .int (nI ac)])), (qu, .inr (0, [.ref qr, .ref qs, .int (nI f), .int (nI cn)])), (qr, .inl (cG, 8, .inr (.inr (.inr (.inr (fun k => some (r k))))))), (qs, .inl (cI, 8, .inl S))] ++ rwL cB r Rr ++ [(tp, .inl (cB, 259, .inl t))]) sz)) (va_Qi (fun (r9 : Int32) (u : Nat × GS) => r9 = nI u.1 ∧ u = ino t cn (st, nx, bs, wt, ag, rf, ac)) (fun u t9 => fgPost (dC, dI) ([(ga, .inr (1, [.ref qu, .int (nI st), .int (nI nx), .int (nI bs), .int (nI wt), .int (nI ag), .int (nI rf), .int (nI ac)])), (qu, .inr (0, [.ref qr, .ref qs, .int (nI f), .int (nI cn)])), (qr, .inl (cG, 8, .inr (.inr (.inr (.inr (fun k => some (r k))))))), (qs, .inl (cI, 8, .inl S))] ++ rwL cB r Rr ++ [(tp, .inl (cB, 259, .inl t))]) ([(ga, .inr (1, [.ref qu, .int (nI u.2.1), .int (nI u.2.2.1), .int (nI u.2.2.2.1), .int (nI u.2.2.2.2.1), .int (nI u.2.2.2.2.2.1), .int (nI u.2.2.2.2.2.2.1), .int (nI u.2.2.2.2.2.2.2)])), (qu, .inr (0, [.ref qr, .ref qs, .int (nI f), .int (nI (pC u.1 cn))])), (qr, .inl (cG, 8, .inr (.inr (.inr (.inr (fun k => some (r k))))))), (qs, .inl (cI, 8, .inl (pS u.1 f cn (L - 7) S)))] ++ rwL cB r (pR u.1 f cn (L - 7) t Rr) ++ [(tp, .inl (cB, 259, .inl t))]) sz t9) (va_A ([(ga, .inr (1, [.ref qu, .int (nI st), .int (nI nx), .int (nI bs), .int (nI wt), .int (nI ag), .int (nI rf), .int (nI ac)])), (qu, .inr (0, [.ref qr, .ref qs, .int (nI f), .int (nI cn)])), (qr, .inl (cG, 8, .inr (.inr (.inr (.inr (fun k => some (r k))))))), (qs, .inl (cI, 8, .inl S))] ++ rwL cB r Rr ++ [(tp, .inl (cB, 259, .inl t))]) sz)) 0 0 (va_A ([(ga, .inr (1, [.ref qu, .int (nI st), .int (nI nx), .int (nI bs), .int (nI wt), .int (nI ag), .int (nI rf), .int (nI ac)])), (qu, .inr (0, [.ref qr, .ref qs, .int (nI f), .int (nI cn)])), (qr, .inl (cG, 8, .inr (.inr (.inr (.inr (fun k => some (r k))))))), (qs, .inl (cI, 8, .inl S))] ++ rwL cB r Rr ++ [(tp, .inl (cB, 259, .inl t))]) sz) := by
  refine Met.ofW (cc := b_G_inOrder) (maxL := 4) (ret := (some .int)) (by decide) rfl ?_
  intro p e s m args below meth c s₁ B hml hv
  obtain ⟨rfl, hsz, hP, hK, hD0⟩ := hv
  have hx := B.exec
  have hb := B.bytes
  have hr := B.returns
  have hts := atoms_spec (ws := (Cond.code y_G_inOrder b_G_inOrder 4 (some .int) :: w_all)) B.pre
  have ht : ∀ w ∈ w_all, w.before _ s = true := fun w h => hts w (List.mem_cons_of_mem _ h)
  have hown : s.vm.findClass R_G = some m.cls := findClass_of_methodNamed B.named
  have hlocks := B.notSynchronized
  subst hsz
  have hD := hD0.self (sz := s.heap.size)
  generalize hAe : va_A ([(ga, .inr (1, [.ref qu, .int (nI st), .int (nI nx), .int (nI bs), .int (nI wt), .int (nI ag), .int (nI rf), .int (nI ac)])), (qu, .inr (0, [.ref qr, .ref qs, .int (nI f), .int (nI cn)])), (qr, .inl (cG, 8, .inr (.inr (.inr (.inr (fun k => some (r k))))))), (qs, .inl (cI, 8, .inl S))] ++ rwL cB r Rr ++ [(tp, .inl (cB, 259, .inl t))]) s.heap.size = A at hD ⊢
  have hA : ∀ q : Nat, s.heap.size ≤ q → A q := fun q h => by rw [← hAe]; exact Or.inr h
  have hS : va_S A s.heap s.heap [] := va_S.rf
  have hl := lv_entry ([.ref ga, .ref tp, .int (nI L)]) (n := 4) (Nat.le_of_ble_eq_true rfl)
  rw [lg_entry_eq]
  generalize (lg_sl ([.ref ga, .ref tp, .int (nI L)]) ++ List.replicate (4 - (lg_sl ([.ref ga, .ref tp, .int (nI L)])).length) Slot.unset).toArray = ls at hl ⊢
  have hl : lv_has ls 4 [(0, .ref ga), (1, .ref tp), (2, .int (nI L))] := hl
  refine lv_aload_n hx hb d_G_inOrder_0 rfl (lv_at hl 1 rfl) ?_
  refine lv_iconst (v := (nI 4)) hx hb d_G_inOrder_1 (by decide) ?_
  refine fg_bald hx hb hK hP 12 0 rfl rfl (by omega) (by decide) d_G_inOrder_2 ?_
  refine lv_sipush (v := (nI 255)) hx hb d_G_inOrder_3 (by decide) ?_
  refine fg_iand255 hx hb d_G_inOrder_6 ?_
  have hbN_6 := bN_lt (t 4)
  refine lv_aload_n hx hb d_G_inOrder_7 rfl (lv_at hl 0 rfl) ?_
  refine va_get (D := (dC, dI)) (ci := 1) (v := .int (nI nx)) (C := R_G) (T := F_G) (N := 8) hx hb ht i_G hown hK hP 0 rfl rfl 2 (by decide) (ht _ m_48) (fun _ h9 => h9) rfl d_G_inOrder_8 ?_
  refine lv_isub hx hb d_G_inOrder_11 ?_
  refine lv_sipush (v := (nI 255)) hx hb d_G_inOrder_12 (by decide) ?_
  refine fg_iand255 hx hb d_G_inOrder_15 ?_
  have hbN_15 := bN_lt ((nI (bN (t 4))) - (nI nx))
  refine fg_nm (y := (nI (fd t nx))) (congrArg nI (fd_sub hbN_6 (by omega))) ?_
  have hfd : fd t nx < 256 := Nat.mod_lt _ (by decide)
  refine lv_istore_n (lv' := [(3, .int (nI (fd t nx))), (0, .ref ga), (1, .ref tp), (2, .int (nI L))]) hx hb d_G_inOrder_16 rfl hl (by decide) rfl (fun ls hl => ?_)
  refine lv_iload_n hx hb d_G_inOrder_17 rfl (lv_at hl 0 rfl) ?_
  refine fg_if_ne (tgt := 81) hx hb d_G_inOrder_18 (by decide) (by omega) (fun c_18 => ?_) (fun c_18 => ?_)
  · refine lv_iload_n hx hb d_G_inOrder_81 rfl (lv_at hl 0 rfl) ?_
    refine fg_if_le (tgt := 116) hx hb d_G_inOrder_82 (by decide) (by omega) (fun c_82 => ?_) (fun c_82 => ?_)
    · refine lv_iload_n hx hb d_G_inOrder_116 rfl (lv_at hl 0 rfl) ?_
      refine lv_bipush (v := (nI 10)) hx hb d_G_inOrder_117 (by decide) ?_
      refine fg_cmp_lt (tgt := 134) hx hb d_G_inOrder_119 (by decide) (by omega) (by omega) (fun c_119 => ?_) (fun c_119 => ?_)
      · refine lv_iconst (v := (nI 5)) hx hb d_G_inOrder_134 (by decide) ?_
        exact W.iret (v := (nI 5)) hx hb hr (fun t9 ht9 hW9 => ⟨⟨(nI 5), (5, (st, nx, bs, wt, ag, rf, ac)), rfl, ⟨rfl, by dsimp only [ino]; (repeat' split) <;> first | rfl | (exfalso; omega)⟩, by rw [ht9]; exact hP, by rw [hAe]; exact hD⟩, hS.F ht9⟩) hS.2.2 d_G_inOrder_135
      · refine lv_iload_n hx hb d_G_inOrder_122 rfl (lv_at hl 0 rfl) ?_
        refine lv_sipush (v := (nI 246)) hx hb d_G_inOrder_123 (by decide) ?_
        refine fg_cmp_ge (tgt := 134) hx hb d_G_inOrder_126 (by decide) (by omega) (by omega) (fun c_126 => ?_) (fun c_126 => ?_)
        · refine lv_iconst (v := (nI 5)) hx hb d_G_inOrder_134 (by decide) ?_
          exact W.iret (v := (nI 5)) hx hb hr (fun t9 ht9 hW9 => ⟨⟨(nI 5), (5, (st, nx, bs, wt, ag, rf, ac)), rfl, ⟨rfl, by dsimp only [ino]; (repeat' split) <;> first | rfl | (exfalso; omega)⟩, by rw [ht9]; exact hP, by rw [hAe]; exact hD⟩, hS.F ht9⟩) hS.2.2 d_G_inOrder_135
        · refine lv_aload_n hx hb d_G_inOrder_129 rfl (lv_at hl 1 rfl) ?_
          refine lv_iconst (v := (nI 3)) hx hb d_G_inOrder_130 (by decide) ?_
          refine va_put (D := (dC, dI)) (ci := 1) (v := .int (nI 3)) (ty := .int) (C := R_G) (T := F_G) (N := 8) hx hb ht i_G t_G t_G_ok n_G hown hK hP hD hS 0 rfl rfl 1 (by decide) (ht _ m_46) (fun _ h9 => h9) rfl (t_G_ok 1 (by decide)) rfl rfl (Nat.le_of_ble_eq_true rfl) d_G_inOrder_131 (fun H locs hP hD hS => ?_)
          have hP : va_P (dC, dI) fgC ([(ga, .inr (1, [.ref qu, .int (nI 3), .int (nI nx), .int (nI bs), .int (nI wt), .int (nI ag), .int (nI rf), .int (nI ac)])), (qu, .inr (0, [.ref qr, .ref qs, .int (nI f), .int (nI cn)])), (qr, .inl (cG, 8, .inr (.inr (.inr (.inr (fun k => some (r k))))))), (qs, .inl (cI, 8, .inl S))] ++ rwL cB r Rr ++ [(tp, .inl (cB, 259, .inl t))]) H := hP
          have hD : va_D A ([(ga, .inr (1, [.ref qu, .int (nI 3), .int (nI nx), .int (nI bs), .int (nI wt), .int (nI ag), .int (nI rf), .int (nI ac)])), (qu, .inr (0, [.ref qr, .ref qs, .int (nI f), .int (nI cn)])), (qr, .inl (cG, 8, .inr (.inr (.inr (.inr (fun k => some (r k))))))), (qs, .inl (cI, 8, .inl S))] ++ rwL cB r Rr ++ [(tp, .inl (cB, 259, .inl t))]) := hD
          refine lv_iconst (v := (nI 5)) hx hb d_G_inOrder_134 (by decide) ?_
          exact W.iret (v := (nI 5)) hx hb hr (fun t9 ht9 hW9 => ⟨⟨(nI 5), (5, (3, nx, bs, wt, ag, rf, ac)), rfl, ⟨rfl, by dsimp only [ino]; (repeat' split) <;> first | rfl | (exfalso; omega)⟩, by rw [ht9]; exact hP, by rw [hAe]; exact hD⟩, hS.F ht9⟩) hS.2.2 d_G_inOrder_135
    · refine lv_iload_n hx hb d_G_inOrder_85 rfl (lv_at hl 0 rfl) ?_
      refine lv_bipush (v := (nI 10)) hx hb d_G_inOrder_86 (by decide) ?_
      refine fg_cmp_ge (tgt := 116) hx hb d_G_inOrder_88 (by decide) (by omega) (by omega) (fun c_88 => ?_) (fun c_88 => ?_)
      · refine lv_iload_n hx hb d_G_inOrder_116 rfl (lv_at hl 0 rfl) ?_
        refine lv_bipush (v := (nI 10)) hx hb d_G_inOrder_117 (by decide) ?_
        refine fg_cmp_lt (tgt := 134) hx hb d_G_inOrder_119 (by decide) (by omega) (by omega) (fun c_119 => ?_) (fun c_119 => ?_)
        · refine lv_iconst (v := (nI 5)) hx hb d_G_inOrder_134 (by decide) ?_
          exact W.iret (v := (nI 5)) hx hb hr (fun t9 ht9 hW9 => ⟨⟨(nI 5), (5, (st, nx, bs, wt, ag, rf, ac)), rfl, ⟨rfl, by dsimp only [ino]; (repeat' split) <;> first | rfl | (exfalso; omega)⟩, by rw [ht9]; exact hP, by rw [hAe]; exact hD⟩, hS.F ht9⟩) hS.2.2 d_G_inOrder_135
        · refine lv_iload_n hx hb d_G_inOrder_122 rfl (lv_at hl 0 rfl) ?_
          refine lv_sipush (v := (nI 246)) hx hb d_G_inOrder_123 (by decide) ?_
          refine fg_cmp_ge (tgt := 134) hx hb d_G_inOrder_126 (by decide) (by omega) (by omega) (fun c_126 => ?_) (fun c_126 => ?_)
          · refine lv_iconst (v := (nI 5)) hx hb d_G_inOrder_134 (by decide) ?_
            exact W.iret (v := (nI 5)) hx hb hr (fun t9 ht9 hW9 => ⟨⟨(nI 5), (5, (st, nx, bs, wt, ag, rf, ac)), rfl, ⟨rfl, by dsimp only [ino]; (repeat' split) <;> first | rfl | (exfalso; omega)⟩, by rw [ht9]; exact hP, by rw [hAe]; exact hD⟩, hS.F ht9⟩) hS.2.2 d_G_inOrder_135
          · refine lv_aload_n hx hb d_G_inOrder_129 rfl (lv_at hl 1 rfl) ?_
            refine lv_iconst (v := (nI 3)) hx hb d_G_inOrder_130 (by decide) ?_
            refine va_put (D := (dC, dI)) (ci := 1) (v := .int (nI 3)) (ty := .int) (C := R_G) (T := F_G) (N := 8) hx hb ht i_G t_G t_G_ok n_G hown hK hP hD hS 0 rfl rfl 1 (by decide) (ht _ m_46) (fun _ h9 => h9) rfl (t_G_ok 1 (by decide)) rfl rfl (Nat.le_of_ble_eq_true rfl) d_G_inOrder_131 (fun H locs hP hD hS => ?_)
            have hP : va_P (dC, dI) fgC ([(ga, .inr (1, [.ref qu, .int (nI 3), .int (nI nx), .int (nI bs), .int (nI wt), .int (nI ag), .int (nI rf), .int (nI ac)])), (qu, .inr (0, [.ref qr, .ref qs, .int (nI f), .int (nI cn)])), (qr, .inl (cG, 8, .inr (.inr (.inr (.inr (fun k => some (r k))))))), (qs, .inl (cI, 8, .inl S))] ++ rwL cB r Rr ++ [(tp, .inl (cB, 259, .inl t))]) H := hP
            have hD : va_D A ([(ga, .inr (1, [.ref qu, .int (nI 3), .int (nI nx), .int (nI bs), .int (nI wt), .int (nI ag), .int (nI rf), .int (nI ac)])), (qu, .inr (0, [.ref qr, .ref qs, .int (nI f), .int (nI cn)])), (qr, .inl (cG, 8, .inr (.inr (.inr (.inr (fun k => some (r k))))))), (qs, .inl (cI, 8, .inl S))] ++ rwL cB r Rr ++ [(tp, .inl (cB, 259, .inl t))]) := hD
            refine lv_iconst (v := (nI 5)) hx hb d_G_inOrder_134 (by decide) ?_
            exact W.iret (v := (nI 5)) hx hb hr (fun t9 ht9 hW9 => ⟨⟨(nI 5), (5, (3, nx, bs, wt, ag, rf, ac)), rfl, ⟨rfl, by dsimp only [ino]; (repeat' split) <;> first | rfl | (exfalso; omega)⟩, by rw [ht9]; exact hP, by rw [hAe]; exact hD⟩, hS.F ht9⟩) hS.2.2 d_G_inOrder_135
      · refine lv_aload_n hx hb d_G_inOrder_91 rfl (lv_at hl 1 rfl) ?_
        refine lv_dup hx hb d_G_inOrder_92 rfl ?_
        refine va_get (D := (dC, dI)) (ci := 1) (v := .int (nI ag)) (C := R_G) (T := F_G) (N := 8) hx hb ht i_G hown hK hP 0 rfl rfl 5 (by decide) (ht _ m_52) (fun _ h9 => h9) rfl d_G_inOrder_93 ?_
        refine lv_aload_n hx hb d_G_inOrder_96 rfl (lv_at hl 1 rfl) ?_
        refine va_get (D := (dC, dI)) (ci := 1) (v := .int (nI st)) (C := R_G) (T := F_G) (N := 8) hx hb ht i_G hown hK hP 0 rfl rfl 1 (by decide) (ht _ m_46) (fun _ h9 => h9) rfl d_G_inOrder_97 ?_
        refine lv_iconst (v := (nI 1)) hx hb d_G_inOrder_100 (by decide) ?_
        refine fg_cmp_ne (tgt := 108) hx hb d_G_inOrder_101 (by decide) (by omega) (by omega) (fun c_101 => ?_) (fun c_101 => ?_)
        · refine lv_iconst (v := (nI 0)) hx hb d_G_inOrder_108 (by decide) ?_
          refine fg_ior hx hb d_G_inOrder_109 ?_
          refine fg_nm (y := (nI ag)) (congrArg nI (Nat.or_zero ag)) ?_
          refine va_put (D := (dC, dI)) (ci := 1) (v := .int (nI ag)) (ty := .boolean) (C := R_G) (T := F_G) (N := 8) hx hb ht i_G t_G t_G_ok n_G hown hK hP hD hS 0 rfl rfl 5 (by decide) (ht _ m_52) (fun _ h9 => h9) rfl (t_G_ok 5 (by decide)) (fg_nZ (by omega)) (fg_fZ (by omega)) (Nat.le_of_ble_eq_true rfl) d_G_inOrder_110 (fun H locs hP hD hS => ?_)
          have hP : va_P (dC, dI) fgC ([(ga, .inr (1, [.ref qu, .int (nI st), .int (nI nx), .int (nI bs), .int (nI wt), .int (nI ag), .int (nI rf), .int (nI ac)])), (qu, .inr (0, [.ref qr, .ref qs, .int (nI f), .int (nI cn)])), (qr, .inl (cG, 8, .inr (.inr (.inr (.inr (fun k => some (r k))))))), (qs, .inl (cI, 8, .inl S))] ++ rwL cB r Rr ++ [(tp, .inl (cB, 259, .inl t))]) H := hP
          have hD : va_D A ([(ga, .inr (1, [.ref qu, .int (nI st), .int (nI nx), .int (nI bs), .int (nI wt), .int (nI ag), .int (nI rf), .int (nI ac)])), (qu, .inr (0, [.ref qr, .ref qs, .int (nI f), .int (nI cn)])), (qr, .inl (cG, 8, .inr (.inr (.inr (.inr (fun k => some (r k))))))), (qs, .inl (cI, 8, .inl S))] ++ rwL cB r Rr ++ [(tp, .inl (cB, 259, .inl t))]) := hD
          refine lv_goto (tgt := 134) hx hb d_G_inOrder_113 (by decide) ?_
          refine lv_iconst (v := (nI 5)) hx hb d_G_inOrder_134 (by decide) ?_
          exact W.iret (v := (nI 5)) hx hb hr (fun t9 ht9 hW9 => ⟨⟨(nI 5), (5, (st, nx, bs, wt, ag, rf, ac)), rfl, ⟨rfl, by dsimp only [ino]; (repeat' split) <;> first | rfl | (exfalso; omega)⟩, by rw [ht9]; exact hP, by rw [hAe]; exact hD⟩, hS.F ht9⟩) hS.2.2 d_G_inOrder_135
        · refine lv_iconst (v := (nI 1)) hx hb d_G_inOrder_104 (by decide) ?_
          refine lv_goto (tgt := 109) hx hb d_G_inOrder_105 (by decide) ?_
          refine fg_ior hx hb d_G_inOrder_109 ?_
          refine fg_nm (y := (nI 1)) (congrArg nI (fg_or1 (by omega))) ?_
          refine va_put (D := (dC, dI)) (ci := 1) (v := .int (nI 1)) (ty := .boolean) (C := R_G) (T := F_G) (N := 8) hx hb ht i_G t_G t_G_ok n_G hown hK hP hD hS 0 rfl rfl 5 (by decide) (ht _ m_52) (fun _ h9 => h9) rfl (t_G_ok 5 (by decide)) (fg_nZ (by omega)) (fg_fZ (by omega)) (Nat.le_of_ble_eq_true rfl) d_G_inOrder_110 (fun H locs hP hD hS => ?_)
          have hP : va_P (dC, dI) fgC ([(ga, .inr (1, [.ref qu, .int (nI st), .int (nI nx), .int (nI bs), .int (nI wt), .int (nI 1), .int (nI rf), .int (nI ac)])), (qu, .inr (0, [.ref qr, .ref qs, .int (nI f), .int (nI cn)])), (qr, .inl (cG, 8, .inr (.inr (.inr (.inr (fun k => some (r k))))))), (qs, .inl (cI, 8, .inl S))] ++ rwL cB r Rr ++ [(tp, .inl (cB, 259, .inl t))]) H := hP
          have hD : va_D A ([(ga, .inr (1, [.ref qu, .int (nI st), .int (nI nx), .int (nI bs), .int (nI wt), .int (nI 1), .int (nI rf), .int (nI ac)])), (qu, .inr (0, [.ref qr, .ref qs, .int (nI f), .int (nI cn)])), (qr, .inl (cG, 8, .inr (.inr (.inr (.inr (fun k => some (r k))))))), (qs, .inl (cI, 8, .inl S))] ++ rwL cB r Rr ++ [(tp, .inl (cB, 259, .inl t))]) := hD
          refine lv_goto (tgt := 134) hx hb d_G_inOrder_113 (by decide) ?_
          refine lv_iconst (v := (nI 5)) hx hb d_G_inOrder_134 (by decide) ?_
          exact W.iret (v := (nI 5)) hx hb hr (fun t9 ht9 hW9 => ⟨⟨(nI 5), (5, (st, nx, bs, wt, 1, rf, ac)), rfl, ⟨rfl, by dsimp only [ino]; (repeat' split) <;> first | rfl | (exfalso; omega)⟩, by rw [ht9]; exact hP, by rw [hAe]; exact hD⟩, hS.F ht9⟩) hS.2.2 d_G_inOrder_135
  · refine lv_aload_n hx hb d_G_inOrder_21 rfl (lv_at hl 1 rfl) ?_
    refine va_get (D := (dC, dI)) (ci := 1) (v := .int (nI st)) (C := R_G) (T := F_G) (N := 8) hx hb ht i_G hown hK hP 0 rfl rfl 1 (by decide) (ht _ m_46) (fun _ h9 => h9) rfl d_G_inOrder_22 ?_
    refine lv_iconst (v := (nI 1)) hx hb d_G_inOrder_25 (by decide) ?_
    refine fg_cmp_ne (tgt := 81) hx hb d_G_inOrder_26 (by decide) (by omega) (by omega) (fun c_26 => ?_) (fun c_26 => ?_)
    · refine lv_iload_n hx hb d_G_inOrder_81 rfl (lv_at hl 0 rfl) ?_
      refine fg_if_le (tgt := 116) hx hb d_G_inOrder_82 (by decide) (by omega) (fun c_82 => ?_) (fun c_82 => ?_)
      · refine lv_iload_n hx hb d_G_inOrder_116 rfl (lv_at hl 0 rfl) ?_
        refine lv_bipush (v := (nI 10)) hx hb d_G_inOrder_117 (by decide) ?_
        refine fg_cmp_lt (tgt := 134) hx hb d_G_inOrder_119 (by decide) (by omega) (by omega) (fun c_119 => ?_) (fun c_119 => ?_)
        · refine lv_iconst (v := (nI 5)) hx hb d_G_inOrder_134 (by decide) ?_
          exact W.iret (v := (nI 5)) hx hb hr (fun t9 ht9 hW9 => ⟨⟨(nI 5), (5, (st, nx, bs, wt, ag, rf, ac)), rfl, ⟨rfl, by dsimp only [ino]; (repeat' split) <;> first | rfl | (exfalso; omega)⟩, by rw [ht9]; exact hP, by rw [hAe]; exact hD⟩, hS.F ht9⟩) hS.2.2 d_G_inOrder_135
        · refine lv_iload_n hx hb d_G_inOrder_122 rfl (lv_at hl 0 rfl) ?_
          refine lv_sipush (v := (nI 246)) hx hb d_G_inOrder_123 (by decide) ?_
          refine fg_cmp_ge (tgt := 134) hx hb d_G_inOrder_126 (by decide) (by omega) (by omega) (fun c_126 => ?_) (fun c_126 => ?_)
          · refine lv_iconst (v := (nI 5)) hx hb d_G_inOrder_134 (by decide) ?_
            exact W.iret (v := (nI 5)) hx hb hr (fun t9 ht9 hW9 => ⟨⟨(nI 5), (5, (st, nx, bs, wt, ag, rf, ac)), rfl, ⟨rfl, by dsimp only [ino]; (repeat' split) <;> first | rfl | (exfalso; omega)⟩, by rw [ht9]; exact hP, by rw [hAe]; exact hD⟩, hS.F ht9⟩) hS.2.2 d_G_inOrder_135
          · refine lv_aload_n hx hb d_G_inOrder_129 rfl (lv_at hl 1 rfl) ?_
            refine lv_iconst (v := (nI 3)) hx hb d_G_inOrder_130 (by decide) ?_
            refine va_put (D := (dC, dI)) (ci := 1) (v := .int (nI 3)) (ty := .int) (C := R_G) (T := F_G) (N := 8) hx hb ht i_G t_G t_G_ok n_G hown hK hP hD hS 0 rfl rfl 1 (by decide) (ht _ m_46) (fun _ h9 => h9) rfl (t_G_ok 1 (by decide)) rfl rfl (Nat.le_of_ble_eq_true rfl) d_G_inOrder_131 (fun H locs hP hD hS => ?_)
            have hP : va_P (dC, dI) fgC ([(ga, .inr (1, [.ref qu, .int (nI 3), .int (nI nx), .int (nI bs), .int (nI wt), .int (nI ag), .int (nI rf), .int (nI ac)])), (qu, .inr (0, [.ref qr, .ref qs, .int (nI f), .int (nI cn)])), (qr, .inl (cG, 8, .inr (.inr (.inr (.inr (fun k => some (r k))))))), (qs, .inl (cI, 8, .inl S))] ++ rwL cB r Rr ++ [(tp, .inl (cB, 259, .inl t))]) H := hP
            have hD : va_D A ([(ga, .inr (1, [.ref qu, .int (nI 3), .int (nI nx), .int (nI bs), .int (nI wt), .int (nI ag), .int (nI rf), .int (nI ac)])), (qu, .inr (0, [.ref qr, .ref qs, .int (nI f), .int (nI cn)])), (qr, .inl (cG, 8, .inr (.inr (.inr (.inr (fun k => some (r k))))))), (qs, .inl (cI, 8, .inl S))] ++ rwL cB r Rr ++ [(tp, .inl (cB, 259, .inl t))]) := hD
            refine lv_iconst (v := (nI 5)) hx hb d_G_inOrder_134 (by decide) ?_
            exact W.iret (v := (nI 5)) hx hb hr (fun t9 ht9 hW9 => ⟨⟨(nI 5), (5, (3, nx, bs, wt, ag, rf, ac)), rfl, ⟨rfl, by dsimp only [ino]; (repeat' split) <;> first | rfl | (exfalso; omega)⟩, by rw [ht9]; exact hP, by rw [hAe]; exact hD⟩, hS.F ht9⟩) hS.2.2 d_G_inOrder_135
      · refine lv_iload_n hx hb d_G_inOrder_85 rfl (lv_at hl 0 rfl) ?_
        refine lv_bipush (v := (nI 10)) hx hb d_G_inOrder_86 (by decide) ?_
        refine fg_cmp_ge (tgt := 116) hx hb d_G_inOrder_88 (by decide) (by omega) (by omega) (fun c_88 => ?_) (fun c_88 => ?_)
        · refine lv_iload_n hx hb d_G_inOrder_116 rfl (lv_at hl 0 rfl) ?_
          refine lv_bipush (v := (nI 10)) hx hb d_G_inOrder_117 (by decide) ?_
          refine fg_cmp_lt (tgt := 134) hx hb d_G_inOrder_119 (by decide) (by omega) (by omega) (fun c_119 => ?_) (fun c_119 => ?_)
          · refine lv_iconst (v := (nI 5)) hx hb d_G_inOrder_134 (by decide) ?_
            exact W.iret (v := (nI 5)) hx hb hr (fun t9 ht9 hW9 => ⟨⟨(nI 5), (5, (st, nx, bs, wt, ag, rf, ac)), rfl, ⟨rfl, by dsimp only [ino]; (repeat' split) <;> first | rfl | (exfalso; omega)⟩, by rw [ht9]; exact hP, by rw [hAe]; exact hD⟩, hS.F ht9⟩) hS.2.2 d_G_inOrder_135
          · refine lv_iload_n hx hb d_G_inOrder_122 rfl (lv_at hl 0 rfl) ?_
            refine lv_sipush (v := (nI 246)) hx hb d_G_inOrder_123 (by decide) ?_
            refine fg_cmp_ge (tgt := 134) hx hb d_G_inOrder_126 (by decide) (by omega) (by omega) (fun c_126 => ?_) (fun c_126 => ?_)
            · refine lv_iconst (v := (nI 5)) hx hb d_G_inOrder_134 (by decide) ?_
              exact W.iret (v := (nI 5)) hx hb hr (fun t9 ht9 hW9 => ⟨⟨(nI 5), (5, (st, nx, bs, wt, ag, rf, ac)), rfl, ⟨rfl, by dsimp only [ino]; (repeat' split) <;> first | rfl | (exfalso; omega)⟩, by rw [ht9]; exact hP, by rw [hAe]; exact hD⟩, hS.F ht9⟩) hS.2.2 d_G_inOrder_135
            · refine lv_aload_n hx hb d_G_inOrder_129 rfl (lv_at hl 1 rfl) ?_
              refine lv_iconst (v := (nI 3)) hx hb d_G_inOrder_130 (by decide) ?_
              refine va_put (D := (dC, dI)) (ci := 1) (v := .int (nI 3)) (ty := .int) (C := R_G) (T := F_G) (N := 8) hx hb ht i_G t_G t_G_ok n_G hown hK hP hD hS 0 rfl rfl 1 (by decide) (ht _ m_46) (fun _ h9 => h9) rfl (t_G_ok 1 (by decide)) rfl rfl (Nat.le_of_ble_eq_true rfl) d_G_inOrder_131 (fun H locs hP hD hS => ?_)
              have hP : va_P (dC, dI) fgC ([(ga, .inr (1, [.ref qu, .int (nI 3), .int (nI nx), .int (nI bs), .int (nI wt), .int (nI ag), .int (nI rf), .int (nI ac)])), (qu, .inr (0, [.ref qr, .ref qs, .int (nI f), .int (nI cn)])), (qr, .inl (cG, 8, .inr (.inr (.inr (.inr (fun k => some (r k))))))), (qs, .inl (cI, 8, .inl S))] ++ rwL cB r Rr ++ [(tp, .inl (cB, 259, .inl t))]) H := hP
              have hD : va_D A ([(ga, .inr (1, [.ref qu, .int (nI 3), .int (nI nx), .int (nI bs), .int (nI wt), .int (nI ag), .int (nI rf), .int (nI ac)])), (qu, .inr (0, [.ref qr, .ref qs, .int (nI f), .int (nI cn)])), (qr, .inl (cG, 8, .inr (.inr (.inr (.inr (fun k => some (r k))))))), (qs, .inl (cI, 8, .inl S))] ++ rwL cB r Rr ++ [(tp, .inl (cB, 259, .inl t))]) := hD
              refine lv_iconst (v := (nI 5)) hx hb d_G_inOrder_134 (by decide) ?_
              exact W.iret (v := (nI 5)) hx hb hr (fun t9 ht9 hW9 => ⟨⟨(nI 5), (5, (3, nx, bs, wt, ag, rf, ac)), rfl, ⟨rfl, by dsimp only [ino]; (repeat' split) <;> first | rfl | (exfalso; omega)⟩, by rw [ht9]; exact hP, by rw [hAe]; exact hD⟩, hS.F ht9⟩) hS.2.2 d_G_inOrder_135
        · refine lv_aload_n hx hb d_G_inOrder_91 rfl (lv_at hl 1 rfl) ?_
          refine lv_dup hx hb d_G_inOrder_92 rfl ?_
          refine va_get (D := (dC, dI)) (ci := 1) (v := .int (nI ag)) (C := R_G) (T := F_G) (N := 8) hx hb ht i_G hown hK hP 0 rfl rfl 5 (by decide) (ht _ m_52) (fun _ h9 => h9) rfl d_G_inOrder_93 ?_
          refine lv_aload_n hx hb d_G_inOrder_96 rfl (lv_at hl 1 rfl) ?_
          refine va_get (D := (dC, dI)) (ci := 1) (v := .int (nI st)) (C := R_G) (T := F_G) (N := 8) hx hb ht i_G hown hK hP 0 rfl rfl 1 (by decide) (ht _ m_46) (fun _ h9 => h9) rfl d_G_inOrder_97 ?_
          refine lv_iconst (v := (nI 1)) hx hb d_G_inOrder_100 (by decide) ?_
          refine fg_cmp_ne (tgt := 108) hx hb d_G_inOrder_101 (by decide) (by omega) (by omega) (fun c_101 => ?_) (fun c_101 => ?_)
          · refine lv_iconst (v := (nI 0)) hx hb d_G_inOrder_108 (by decide) ?_
            refine fg_ior hx hb d_G_inOrder_109 ?_
            refine fg_nm (y := (nI ag)) (congrArg nI (Nat.or_zero ag)) ?_
            refine va_put (D := (dC, dI)) (ci := 1) (v := .int (nI ag)) (ty := .boolean) (C := R_G) (T := F_G) (N := 8) hx hb ht i_G t_G t_G_ok n_G hown hK hP hD hS 0 rfl rfl 5 (by decide) (ht _ m_52) (fun _ h9 => h9) rfl (t_G_ok 5 (by decide)) (fg_nZ (by omega)) (fg_fZ (by omega)) (Nat.le_of_ble_eq_true rfl) d_G_inOrder_110 (fun H locs hP hD hS => ?_)
            have hP : va_P (dC, dI) fgC ([(ga, .inr (1, [.ref qu, .int (nI st), .int (nI nx), .int (nI bs), .int (nI wt), .int (nI ag), .int (nI rf), .int (nI ac)])), (qu, .inr (0, [.ref qr, .ref qs, .int (nI f), .int (nI cn)])), (qr, .inl (cG, 8, .inr (.inr (.inr (.inr (fun k => some (r k))))))), (qs, .inl (cI, 8, .inl S))] ++ rwL cB r Rr ++ [(tp, .inl (cB, 259, .inl t))]) H := hP
            have hD : va_D A ([(ga, .inr (1, [.ref qu, .int (nI st), .int (nI nx), .int (nI bs), .int (nI wt), .int (nI ag), .int (nI rf), .int (nI ac)])), (qu, .inr (0, [.ref qr, .ref qs, .int (nI f), .int (nI cn)])), (qr, .inl (cG, 8, .inr (.inr (.inr (.inr (fun k => some (r k))))))), (qs, .inl (cI, 8, .inl S))] ++ rwL cB r Rr ++ [(tp, .inl (cB, 259, .inl t))]) := hD
            refine lv_goto (tgt := 134) hx hb d_G_inOrder_113 (by decide) ?_
            refine lv_iconst (v := (nI 5)) hx hb d_G_inOrder_134 (by decide) ?_
            exact W.iret (v := (nI 5)) hx hb hr (fun t9 ht9 hW9 => ⟨⟨(nI 5), (5, (st, nx, bs, wt, ag, rf, ac)), rfl, ⟨rfl, by dsimp only [ino]; (repeat' split) <;> first | rfl | (exfalso; omega)⟩, by rw [ht9]; exact hP, by rw [hAe]; exact hD⟩, hS.F ht9⟩) hS.2.2 d_G_inOrder_135
          · refine lv_iconst (v := (nI 1)) hx hb d_G_inOrder_104 (by decide) ?_
            refine lv_goto (tgt := 109) hx hb d_G_inOrder_105 (by decide) ?_
            refine fg_ior hx hb d_G_inOrder_109 ?_
            refine fg_nm (y := (nI 1)) (congrArg nI (fg_or1 (by omega))) ?_
            refine va_put (D := (dC, dI)) (ci := 1) (v := .int (nI 1)) (ty := .boolean) (C := R_G) (T := F_G) (N := 8) hx hb ht i_G t_G t_G_ok n_G hown hK hP hD hS 0 rfl rfl 5 (by decide) (ht _ m_52) (fun _ h9 => h9) rfl (t_G_ok 5 (by decide)) (fg_nZ (by omega)) (fg_fZ (by omega)) (Nat.le_of_ble_eq_true rfl) d_G_inOrder_110 (fun H locs hP hD hS => ?_)
            have hP : va_P (dC, dI) fgC ([(ga, .inr (1, [.ref qu, .int (nI st), .int (nI nx), .int (nI bs), .int (nI wt), .int (nI 1), .int (nI rf), .int (nI ac)])), (qu, .inr (0, [.ref qr, .ref qs, .int (nI f), .int (nI cn)])), (qr, .inl (cG, 8, .inr (.inr (.inr (.inr (fun k => some (r k))))))), (qs, .inl (cI, 8, .inl S))] ++ rwL cB r Rr ++ [(tp, .inl (cB, 259, .inl t))]) H := hP
            have hD : va_D A ([(ga, .inr (1, [.ref qu, .int (nI st), .int (nI nx), .int (nI bs), .int (nI wt), .int (nI 1), .int (nI rf), .int (nI ac)])), (qu, .inr (0, [.ref qr, .ref qs, .int (nI f), .int (nI cn)])), (qr, .inl (cG, 8, .inr (.inr (.inr (.inr (fun k => some (r k))))))), (qs, .inl (cI, 8, .inl S))] ++ rwL cB r Rr ++ [(tp, .inl (cB, 259, .inl t))]) := hD
            refine lv_goto (tgt := 134) hx hb d_G_inOrder_113 (by decide) ?_
            refine lv_iconst (v := (nI 5)) hx hb d_G_inOrder_134 (by decide) ?_
            exact W.iret (v := (nI 5)) hx hb hr (fun t9 ht9 hW9 => ⟨⟨(nI 5), (5, (st, nx, bs, wt, 1, rf, ac)), rfl, ⟨rfl, by dsimp only [ino]; (repeat' split) <;> first | rfl | (exfalso; omega)⟩, by rw [ht9]; exact hP, by rw [hAe]; exact hD⟩, hS.F ht9⟩) hS.2.2 d_G_inOrder_135
    · refine lv_aload_n hx hb d_G_inOrder_29 rfl (lv_at hl 1 rfl) ?_
      refine lv_aload_n hx hb d_G_inOrder_30 rfl (lv_at hl 1 rfl) ?_
      refine va_get (D := (dC, dI)) (ci := 1) (v := .ref qu) (C := R_G) (T := F_G) (N := 8) hx hb ht i_G hown hK hP 0 rfl rfl 0 (by decide) (ht _ m_45) (fun _ h9 => h9) rfl d_G_inOrder_31 ?_
      refine vp_callSi (va_Run.run (va_runV (As := []) (rest := [.ref ga]) ⟨hx, hb, hml, hown, ht⟩ (c_Q_isFull l dC dI cB cI cG qu (.ref qr) (.ref qs) (.int (nI f)) cn s.heap.size hc) (cwV 0 ht (fg_gV m_139 m_140 m_141 m_2 m_142) rfl rfl rfl (by decide +kernel) ⟨Nat.le_of_ble_eq_true rfl, Nat.le_of_ble_eq_true rfl⟩) (fg_preV hK (hP.sub [1] rfl) (hD.sub [1] (by decide) rfl) (va_recv hK hP (ci := 0) (q0 := 1) rfl rfl)) rfl rfl hl.1 rfl (lv_room (Nat.le_of_ble_eq_true rfl)) d_G_inOrder_34 ⟨Nat.le_of_ble_eq_true rfl, Nat.le_of_ble_eq_true rfl⟩)) (fun r_34 er_34 => ?_)
      obtain rfl : r_34 = (nI (if cn = 8 then 1 else 0)) := er_34
      refine va_put (D := (dC, dI)) (ci := 1) (v := .int (nI (if cn = 8 then 1 else 0))) (ty := .boolean) (C := R_G) (T := F_G) (N := 8) hx hb ht i_G t_G t_G_ok n_G hown hK hP hD hS 0 rfl rfl 5 (by decide) (ht _ m_52) (fun _ h9 => h9) rfl (t_G_ok 5 (by decide)) (fg_nZ (by (repeat' split) <;> omega)) (fg_fZ (by (repeat' split) <;> omega)) (Nat.le_of_ble_eq_true rfl) d_G_inOrder_37 (fun H locs hP hD hS => ?_)
      have hP : va_P (dC, dI) fgC ([(ga, .inr (1, [.ref qu, .int (nI st), .int (nI nx), .int (nI bs), .int (nI wt), .int (nI (if cn = 8 then 1 else 0)), .int (nI rf), .int (nI ac)])), (qu, .inr (0, [.ref qr, .ref qs, .int (nI f), .int (nI cn)])), (qr, .inl (cG, 8, .inr (.inr (.inr (.inr (fun k => some (r k))))))), (qs, .inl (cI, 8, .inl S))] ++ rwL cB r Rr ++ [(tp, .inl (cB, 259, .inl t))]) H := hP
      have hD : va_D A ([(ga, .inr (1, [.ref qu, .int (nI st), .int (nI nx), .int (nI bs), .int (nI wt), .int (nI (if cn = 8 then 1 else 0)), .int (nI rf), .int (nI ac)])), (qu, .inr (0, [.ref qr, .ref qs, .int (nI f), .int (nI cn)])), (qr, .inl (cG, 8, .inr (.inr (.inr (.inr (fun k => some (r k))))))), (qs, .inl (cI, 8, .inl S))] ++ rwL cB r Rr ++ [(tp, .inl (cB, 259, .inl t))]) := hD
      refine lv_aload_n hx hb d_G_inOrder_40 rfl (lv_at hl 1 rfl) ?_
      refine va_get (D := (dC, dI)) (ci := 1) (v := .int (nI (if cn = 8 then 1 else 0))) (C := R_G) (T := F_G) (N := 8) hx hb ht i_G hown hK hP 0 rfl rfl 5 (by decide) (ht _ m_52) (fun _ h9 => h9) rfl d_G_inOrder_41 ?_
      refine fg_ifb_eq (tgt := 59) hx hb d_G_inOrder_44 (by decide) (fun c_44 => ?_) (fun c_44 => ?_)
      · rw [if_neg c_44] at hP hD
        have hP : va_P (dC, dI) fgC ([(ga, .inr (1, [.ref qu, .int (nI st), .int (nI nx), .int (nI bs), .int (nI wt), .int (nI 0), .int (nI rf), .int (nI ac)])), (qu, .inr (0, [.ref qr, .ref qs, .int (nI f), .int (nI cn)])), (qr, .inl (cG, 8, .inr (.inr (.inr (.inr (fun k => some (r k))))))), (qs, .inl (cI, 8, .inl S))] ++ rwL cB r Rr ++ [(tp, .inl (cB, 259, .inl t))]) H := hP
        have hD : va_D A ([(ga, .inr (1, [.ref qu, .int (nI st), .int (nI nx), .int (nI bs), .int (nI wt), .int (nI 0), .int (nI rf), .int (nI ac)])), (qu, .inr (0, [.ref qr, .ref qs, .int (nI f), .int (nI cn)])), (qr, .inl (cG, 8, .inr (.inr (.inr (.inr (fun k => some (r k))))))), (qs, .inl (cI, 8, .inl S))] ++ rwL cB r Rr ++ [(tp, .inl (cB, 259, .inl t))]) := hD
        refine lv_aload_n hx hb d_G_inOrder_59 rfl (lv_at hl 1 rfl) ?_
        refine lv_aload_n hx hb d_G_inOrder_60 rfl (lv_at hl 2 rfl) ?_
        refine lv_iload_n hx hb d_G_inOrder_61 rfl (lv_at hl 3 rfl) ?_
        refine fg_callv (wc := ([(ga, .inr (1, [.ref qu, .int (nI st), .int (nI nx), .int (nI bs), .int (nI wt), .int (nI 0), .int (nI rf), .int (nI ac)])), (qu, .inr (0, [.ref qr, .ref qs, .int (nI f), .int (nI cn)])), (qr, .inl (cG, 8, .inr (.inr (.inr (.inr (fun k => some (r k))))))), (qs, .inl (cI, 8, .inl S))] ++ rwL cB r Rr ++ [(tp, .inl (cB, 259, .inl t))])) (wr := []) (fun _ => ([(ga, .inr (1, [.ref qu, .int (nI st), .int (nI nx), .int (nI bs), .int (nI wt), .int (nI 0), .int (nI rf), .int (nI ac)])), (qu, .inr (0, [.ref qr, .ref qs, .int (nI f), .int (nI (cn + 1))])), (qr, .inl (cG, 8, .inr (.inr (.inr (.inr (fun k => some (r k))))))), (qs, .inl (cI, 8, .inl (upd S ((f + cn) % 8) (nI (L - 7)))))] ++ rwL cB r (va_up Rr ((f + cn) % 8) (va_cpy t (Rr ((f + cn) % 8)) 5 0 (L - 7))) ++ [(tp, .inl (cB, 259, .inl t))])) (va_runV (As := [.ref tp, .int (nI L)]) (rest := []) ⟨hx, hb, hml, hown, ht⟩ (c_G_body l dC dI cB cI cG ga qu qr qs tp (.int (nI st)) (.int (nI nx)) (.int (nI bs)) (.int (nI wt)) (.int (nI 0)) (.int (nI rf)) (.int (nI ac)) r Rr S t f cn L H.size hB hf (by omega) hL) (cwV 2 ht (fg_gV m_143 m_145 m_s4 m_3 m_146) rfl rfl rfl (by decide +kernel) ⟨Nat.le_of_ble_eq_true rfl, Nat.le_of_ble_eq_true rfl⟩) (fg_preV hK (hP.sub [0, 1, 2, 3, 4, 5, 6, 7, 8, 9, 10, 11, 12] rfl) (hD.sub [0, 1, 2, 3, 4, 5, 6, 7, 8, 9, 10, 11, 12] (by decide) rfl) (va_recv hK hP (ci := 1) (q0 := 0) rfl rfl)) rfl rfl hl.1 rfl (lv_room (Nat.le_of_ble_eq_true rfl)) d_G_inOrder_62 ⟨Nat.le_of_ble_eq_true rfl, Nat.le_of_ble_eq_true rfl⟩) hP hD hS hA [0, 1, 2, 3, 4, 5, 6, 7, 8, 9, 10, 11, 12] [] rfl rfl (by decide) (by decide) (fun u H locs hw hP hD hS => ?_)
        have hP : va_P (dC, dI) fgC ([(ga, .inr (1, [.ref qu, .int (nI st), .int (nI nx), .int (nI bs), .int (nI wt), .int (nI 0), .int (nI rf), .int (nI ac)])), (qu, .inr (0, [.ref qr, .ref qs, .int (nI f), .int (nI (cn + 1))])), (qr, .inl (cG, 8, .inr (.inr (.inr (.inr (fun k => some (r k))))))), (qs, .inl (cI, 8, .inl (upd S ((f + cn) % 8) (nI (L - 7)))))] ++ rwL cB r (va_up Rr ((f + cn) % 8) (va_cpy t (Rr ((f + cn) % 8)) 5 0 (L - 7))) ++ [(tp, .inl (cB, 259, .inl t))]) H := hP.sub [0, 1, 2, 3, 4, 5, 6, 7, 8, 9, 10, 11, 12] rfl
        have hD : va_D A ([(ga, .inr (1, [.ref qu, .int (nI st), .int (nI nx), .int (nI bs), .int (nI wt), .int (nI 0), .int (nI rf), .int (nI ac)])), (qu, .inr (0, [.ref qr, .ref qs, .int (nI f), .int (nI (cn + 1))])), (qr, .inl (cG, 8, .inr (.inr (.inr (.inr (fun k => some (r k))))))), (qs, .inl (cI, 8, .inl (upd S ((f + cn) % 8) (nI (L - 7)))))] ++ rwL cB r (va_up Rr ((f + cn) % 8) (va_cpy t (Rr ((f + cn) % 8)) 5 0 (L - 7))) ++ [(tp, .inl (cB, 259, .inl t))]) := hD.sub [0, 1, 2, 3, 4, 5, 6, 7, 8, 9, 10, 11, 12] (by decide) rfl
        refine lv_aload_n hx hb d_G_inOrder_65 rfl (lv_at hl 1 rfl) ?_
        refine lv_aload_n hx hb d_G_inOrder_66 rfl (lv_at hl 1 rfl) ?_
        refine va_get (D := (dC, dI)) (ci := 1) (v := .int (nI nx)) (C := R_G) (T := F_G) (N := 8) hx hb ht i_G hown hK hP 0 rfl rfl 2 (by decide) (ht _ m_48) (fun _ h9 => h9) rfl d_G_inOrder_67 ?_
        refine lv_iconst (v := (nI 1)) hx hb d_G_inOrder_70 (by decide) ?_
        refine fg_iadd hx hb d_G_inOrder_71 ?_
        refine lv_sipush (v := (nI 255)) hx hb d_G_inOrder_72 (by decide) ?_
        refine fg_iand hx hb d_G_inOrder_75 ?_
        refine fg_nm (y := (nI ((nx + 1) % 256))) (congrArg nI (Nat.and_two_pow_sub_one_eq_mod _ 8)) ?_
        refine va_put (D := (dC, dI)) (ci := 1) (v := .int (nI ((nx + 1) % 256))) (ty := .int) (C := R_G) (T := F_G) (N := 8) hx hb ht i_G t_G t_G_ok n_G hown hK hP hD hS 0 rfl rfl 2 (by decide) (ht _ m_48) (fun _ h9 => h9) rfl (t_G_ok 2 (by decide)) rfl rfl (Nat.le_of_ble_eq_true rfl) d_G_inOrder_76 (fun H locs hP hD hS => ?_)
        have hP : va_P (dC, dI) fgC ([(ga, .inr (1, [.ref qu, .int (nI st), .int (nI ((nx + 1) % 256)), .int (nI bs), .int (nI wt), .int (nI 0), .int (nI rf), .int (nI ac)])), (qu, .inr (0, [.ref qr, .ref qs, .int (nI f), .int (nI (cn + 1))])), (qr, .inl (cG, 8, .inr (.inr (.inr (.inr (fun k => some (r k))))))), (qs, .inl (cI, 8, .inl (upd S ((f + cn) % 8) (nI (L - 7)))))] ++ rwL cB r (va_up Rr ((f + cn) % 8) (va_cpy t (Rr ((f + cn) % 8)) 5 0 (L - 7))) ++ [(tp, .inl (cB, 259, .inl t))]) H := hP
        have hD : va_D A ([(ga, .inr (1, [.ref qu, .int (nI st), .int (nI ((nx + 1) % 256)), .int (nI bs), .int (nI wt), .int (nI 0), .int (nI rf), .int (nI ac)])), (qu, .inr (0, [.ref qr, .ref qs, .int (nI f), .int (nI (cn + 1))])), (qr, .inl (cG, 8, .inr (.inr (.inr (.inr (fun k => some (r k))))))), (qs, .inl (cI, 8, .inl (upd S ((f + cn) % 8) (nI (L - 7)))))] ++ rwL cB r (va_up Rr ((f + cn) % 8) (va_cpy t (Rr ((f + cn) % 8)) 5 0 (L - 7))) ++ [(tp, .inl (cB, 259, .inl t))]) := hD
        refine lv_iconst (v := (nI 1)) hx hb d_G_inOrder_79 (by decide) ?_
        exact W.iret (v := (nI 1)) hx hb hr (fun t9 ht9 hW9 => ⟨⟨(nI 1), (1, (st, (nx + 1) % 256, bs, wt, 0, rf, ac)), rfl, ⟨rfl, by dsimp only [ino]; (repeat' split) <;> first | rfl | (exfalso; omega)⟩, by rw [ht9]; exact hP, by rw [hAe]; exact hD⟩, hS.F ht9⟩) hS.2.2 d_G_inOrder_80
      · rw [if_pos c_44] at hP hD
        have hP : va_P (dC, dI) fgC ([(ga, .inr (1, [.ref qu, .int (nI st), .int (nI nx), .int (nI bs), .int (nI wt), .int (nI 1), .int (nI rf), .int (nI ac)])), (qu, .inr (0, [.ref qr, .ref qs, .int (nI f), .int (nI cn)])), (qr, .inl (cG, 8, .inr (.inr (.inr (.inr (fun k => some (r k))))))), (qs, .inl (cI, 8, .inl S))] ++ rwL cB r Rr ++ [(tp, .inl (cB, 259, .inl t))]) H := hP
        have hD : va_D A ([(ga, .inr (1, [.ref qu, .int (nI st), .int (nI nx), .int (nI bs), .int (nI wt), .int (nI 1), .int (nI rf), .int (nI ac)])), (qu, .inr (0, [.ref qr, .ref qs, .int (nI f), .int (nI cn)])), (qr, .inl (cG, 8, .inr (.inr (.inr (.inr (fun k => some (r k))))))), (qs, .inl (cI, 8, .inl S))] ++ rwL cB r Rr ++ [(tp, .inl (cB, 259, .inl t))]) := hD
        refine lv_aload_n hx hb d_G_inOrder_47 rfl (lv_at hl 1 rfl) ?_
        refine lv_iconst (v := (nI 1)) hx hb d_G_inOrder_48 (by decide) ?_
        refine va_put (D := (dC, dI)) (ci := 1) (v := .int (nI 1)) (ty := .boolean) (C := R_G) (T := F_G) (N := 8) hx hb ht i_G t_G t_G_ok n_G hown hK hP hD hS 0 rfl rfl 4 (by decide) (ht _ m_51) (fun _ h9 => h9) rfl (t_G_ok 4 (by decide)) (fg_nZ (by omega)) (fg_fZ (by omega)) (Nat.le_of_ble_eq_true rfl) d_G_inOrder_49 (fun H locs hP hD hS => ?_)
        have hP : va_P (dC, dI) fgC ([(ga, .inr (1, [.ref qu, .int (nI st), .int (nI nx), .int (nI bs), .int (nI 1), .int (nI 1), .int (nI rf), .int (nI ac)])), (qu, .inr (0, [.ref qr, .ref qs, .int (nI f), .int (nI cn)])), (qr, .inl (cG, 8, .inr (.inr (.inr (.inr (fun k => some (r k))))))), (qs, .inl (cI, 8, .inl S))] ++ rwL cB r Rr ++ [(tp, .inl (cB, 259, .inl t))]) H := hP
        have hD : va_D A ([(ga, .inr (1, [.ref qu, .int (nI st), .int (nI nx), .int (nI bs), .int (nI 1), .int (nI 1), .int (nI rf), .int (nI ac)])), (qu, .inr (0, [.ref qr, .ref qs, .int (nI f), .int (nI cn)])), (qr, .inl (cG, 8, .inr (.inr (.inr (.inr (fun k => some (r k))))))), (qs, .inl (cI, 8, .inl S))] ++ rwL cB r Rr ++ [(tp, .inl (cB, 259, .inl t))]) := hD
        refine lv_aload_n hx hb d_G_inOrder_52 rfl (lv_at hl 1 rfl) ?_
        refine lv_iconst (v := (nI 2)) hx hb d_G_inOrder_53 (by decide) ?_
        refine va_put (D := (dC, dI)) (ci := 1) (v := .int (nI 2)) (ty := .int) (C := R_G) (T := F_G) (N := 8) hx hb ht i_G t_G t_G_ok n_G hown hK hP hD hS 0 rfl rfl 1 (by decide) (ht _ m_46) (fun _ h9 => h9) rfl (t_G_ok 1 (by decide)) rfl rfl (Nat.le_of_ble_eq_true rfl) d_G_inOrder_54 (fun H locs hP hD hS => ?_)
        have hP : va_P (dC, dI) fgC ([(ga, .inr (1, [.ref qu, .int (nI 2), .int (nI nx), .int (nI bs), .int (nI 1), .int (nI 1), .int (nI rf), .int (nI ac)])), (qu, .inr (0, [.ref qr, .ref qs, .int (nI f), .int (nI cn)])), (qr, .inl (cG, 8, .inr (.inr (.inr (.inr (fun k => some (r k))))))), (qs, .inl (cI, 8, .inl S))] ++ rwL cB r Rr ++ [(tp, .inl (cB, 259, .inl t))]) H := hP
        have hD : va_D A ([(ga, .inr (1, [.ref qu, .int (nI 2), .int (nI nx), .int (nI bs), .int (nI 1), .int (nI 1), .int (nI rf), .int (nI ac)])), (qu, .inr (0, [.ref qr, .ref qs, .int (nI f), .int (nI cn)])), (qr, .inl (cG, 8, .inr (.inr (.inr (.inr (fun k => some (r k))))))), (qs, .inl (cI, 8, .inl S))] ++ rwL cB r Rr ++ [(tp, .inl (cB, 259, .inl t))]) := hD
        refine lv_iconst (v := (nI 5)) hx hb d_G_inOrder_57 (by decide) ?_
        exact W.iret (v := (nI 5)) hx hb hr (fun t9 ht9 hW9 => ⟨⟨(nI 5), (5, (2, nx, bs, 1, 1, rf, ac)), rfl, ⟨rfl, by dsimp only [ino]; (repeat' split) <;> first | rfl | (exfalso; omega)⟩, by rw [ht9]; exact hP, by rw [hAe]; exact hD⟩, hS.F ht9⟩) hS.2.2 d_G_inOrder_58
set_option maxHeartbeats 4000000 in
set_option maxRecDepth 100000 in
/-- Gate.frame(row, n) -/
theorem c_G_frame (l : Launch) (dC : Nat → ClassId) (dI : Nat → Nat → Nat) (cB cI cG : ClassId) (ga qu qr qs tp : Nat) (r : Nat → Nat) (Rr : Nat → Nat → Int32) (S t : Nat → Int32) (f cn n : Nat) (st nx bs wt ag rf ac : Nat) (sz : Nat) (hB : BF t) (hf : f < 8) (hc : cn ≤ 8) (hn : n ≤ 259) (hg : st < 4 ∧ nx < 256 ∧ bs < 4 ∧ wt < 2 ∧ ag < 2) : Met l y_G_frame (Cond.code y_G_frame b_G_frame 7 (some .int) :: w_all) ({ frames := 4, cells := 0, slots := 0, locals := 87 }) (va_Pc [.ref ga, .ref tp, .int (nI n)] (fgPre (dC, dI) (tysA cB cI cG) ([(ga, .inr (1, [.ref qu, .int (nI st), .int (nI nx), .int (nI bs), .int (nI wt), .int (nI ag), .int (nI rf), .int (nI ac)])), (qu, .inr (0, [.ref qr, .ref qs, .int (nI f), .int (nI cn)])), (qr, .inl (cG, 8, .inr (.inr (.inr (.inr (fun k => some (r k))))))), (qs, .inl (cI, 8, .inl S))] ++ rwL cB r Rr ++ [(tp, .inl (cB, 259, .inl t))]) sz)) (va_Qi (fun (r9 : Int32) (u : Nat × GS) => r9 = nI u.1 ∧ u = fr t n cn (st, nx, bs, wt, ag, rf, ac)) (fun u t9 => fgPost (dC, dI) ([(ga, .inr (1, [.ref qu, .int (nI st), .int (nI nx), .int (nI bs), .int (nI wt), .int (nI ag), .int (nI rf), .int (nI ac)])), (qu, .inr (0, [.ref qr, .ref qs, .int (nI f), .int (nI cn)])), (qr, .inl (cG, 8, .inr (.inr (.inr (.inr (fun k => some (r k))))))), (qs, .inl (cI, 8, .inl S))] ++ rwL cB r Rr ++ [(tp, .inl (cB, 259, .inl t))]) ([(ga, .inr (1, [.ref qu, .int (nI u.2.1), .int (nI u.2.2.1), .int (nI u.2.2.2.1), .int (nI u.2.2.2.2.1), .int (nI u.2.2.2.2.2.1), .int (nI u.2.2.2.2.2.2.1), .int (nI u.2.2.2.2.2.2.2)])), (qu, .inr (0, [.ref qr, .ref qs, .int (nI f), .int (nI (pC u.1 cn))])), (qr, .inl (cG, 8, .inr (.inr (.inr (.inr (fun k => some (r k))))))), (qs, .inl (cI, 8, .inl (pS u.1 f cn (fL t - 6) S)))] ++ rwL cB r (pR u.1 f cn (fL t - 6) t Rr) ++ [(tp, .inl (cB, 259, .inl t))]) sz t9) (va_A ([(ga, .inr (1, [.ref qu, .int (nI st), .int (nI nx), .int (nI bs), .int (nI wt), .int (nI ag), .int (nI rf), .int (nI ac)])), (qu, .inr (0, [.ref qr, .ref qs, .int (nI f), .int (nI cn)])), (qr, .inl (cG, 8, .inr (.inr (.inr (.inr (fun k => some (r k))))))), (qs, .inl (cI, 8, .inl S))] ++ rwL cB r Rr ++ [(tp, .inl (cB, 259, .inl t))]) sz)) 0 0 (va_A ([(ga, .inr (1, [.ref qu, .int (nI st), .int (nI nx), .int (nI bs), .int (nI wt), .int (nI ag), .int (nI rf), .int (nI ac)])), (qu, .inr (0, [.ref qr, .ref qs, .int (nI f), .int (nI cn)])), (qr, .inl (cG, 8, .inr (.inr (.inr (.inr (fun k => some (r k))))))), (qs, .inl (cI, 8, .inl S))] ++ rwL cB r Rr ++ [(tp, .inl (cB, 259, .inl t))]) sz) := by
  refine Met.ofW (cc := b_G_frame) (maxL := 7) (ret := (some .int)) (by decide) rfl ?_
  intro p e s m args below meth c s₁ B hml hv
  obtain ⟨rfl, hsz, hP, hK, hD0⟩ := hv
  have hx := B.exec
  have hb := B.bytes
  have hr := B.returns
  have hts := atoms_spec (ws := (Cond.code y_G_frame b_G_frame 7 (some .int) :: w_all)) B.pre
  have ht : ∀ w ∈ w_all, w.before _ s = true := fun w h => hts w (List.mem_cons_of_mem _ h)
  have hown : s.vm.findClass R_G = some m.cls := findClass_of_methodNamed B.named
  have hlocks := B.notSynchronized
  subst hsz
  have hD := hD0.self (sz := s.heap.size)
  generalize hAe : va_A ([(ga, .inr (1, [.ref qu, .int (nI st), .int (nI nx), .int (nI bs), .int (nI wt), .int (nI ag), .int (nI rf), .int (nI ac)])), (qu, .inr (0, [.ref qr, .ref qs, .int (nI f), .int (nI cn)])), (qr, .inl (cG, 8, .inr (.inr (.inr (.inr (fun k => some (r k))))))), (qs, .inl (cI, 8, .inl S))] ++ rwL cB r Rr ++ [(tp, .inl (cB, 259, .inl t))]) s.heap.size = A at hD ⊢
  have hA : ∀ q : Nat, s.heap.size ≤ q → A q := fun q h => by rw [← hAe]; exact Or.inr h
  have hS : va_S A s.heap s.heap [] := va_S.rf
  have hl := lv_entry ([.ref ga, .ref tp, .int (nI n)]) (n := 7) (Nat.le_of_ble_eq_true rfl)
  rw [lg_entry_eq]
  generalize (lg_sl ([.ref ga, .ref tp, .int (nI n)]) ++ List.replicate (7 - (lg_sl ([.ref ga, .ref tp, .int (nI n)])).length) Slot.unset).toArray = ls at hl ⊢
  have hl : lv_has ls 7 [(0, .ref ga), (1, .ref tp), (2, .int (nI n))] := hl
  have hb00 := bN_lt (t 0)
  have f32 := a_32 _ (bN_lt (t 0))
  have f16 := a_16 _ (bN_lt (t 0))
  have hfL := fL_lt t
  refine lv_aload_n hx hb d_G_frame_0 rfl (lv_at hl 1 rfl) ?_
  refine lv_iload_n hx hb d_G_frame_1 rfl (lv_at hl 2 rfl) ?_
  refine vp_callSi (va_Run.run (va_runS (As := [.ref tp, .int (nI n)]) (rest := []) ⟨hx, hb, hml, hown, ht⟩ (c_G_lengthOf l dC dI cB cI cG tp t n s.heap.size hn) (va_cwS 2 ht (fg_gS m_119 m_120 m_3 m_121) rfl rfl rfl (by decide +kernel) ⟨Nat.le_of_ble_eq_true rfl, Nat.le_of_ble_eq_true rfl⟩) (fg_preS hK (hP.sub [12] rfl) (hD.sub [12] (by decide) rfl)) rfl rfl hl.1 rfl (lv_room (Nat.le_of_ble_eq_true rfl)) d_G_frame_2 ⟨Nat.le_of_ble_eq_true rfl, Nat.le_of_ble_eq_true rfl⟩)) (fun r_2 er_2 => ?_)
  obtain rfl : r_2 = (lenO t n) := er_2
  refine lv_istore_n (lv' := [(3, .int (lenO t n)), (0, .ref ga), (1, .ref tp), (2, .int (nI n))]) hx hb d_G_frame_5 rfl hl (by decide) rfl (fun ls hl => ?_)
  refine fg_cut (F0 m 24 ls [.int (nI (if 0 < n ∧ ¬ bN (t 0) / 32 % 2 = 0 then 1 else 0))]) ?_ (fun j_24 => ?_)
  · refine lv_istore (lv' := [(4, .int (nI (if 0 < n ∧ ¬ bN (t 0) / 32 % 2 = 0 then 1 else 0))), (3, .int (lenO t n)), (0, .ref ga), (1, .ref tp), (2, .int (nI n))]) hx hb d_G_frame_24 hl (by decide) rfl (fun ls hl => ?_)
    refine fg_cut (F0 m 44 ls [.int (nI (if 0 < n ∧ ¬ bN (t 0) / 16 % 2 = 0 then 1 else 0))]) ?_ (fun j_44 => ?_)
    · refine lv_istore (lv' := [(5, .int (nI (if 0 < n ∧ ¬ bN (t 0) / 16 % 2 = 0 then 1 else 0))), (4, .int (nI (if 0 < n ∧ ¬ bN (t 0) / 32 % 2 = 0 then 1 else 0))), (3, .int (lenO t n)), (0, .ref ga), (1, .ref tp), (2, .int (nI n))]) hx hb d_G_frame_44 hl (by decide) rfl (fun ls hl => ?_)
      refine fg_cutH (α := Nat × GS) (fun u H1 locs1 => u = fr0 t n cn (st, nx, bs, wt, ag, rf, ac) ∧ va_P (dC, dI) fgC ([(ga, .inr (1, [.ref qu, .int (nI u.2.1), .int (nI u.2.2.1), .int (nI u.2.2.2.1), .int (nI u.2.2.2.2.1), .int (nI u.2.2.2.2.2.1), .int (nI u.2.2.2.2.2.2.1), .int (nI u.2.2.2.2.2.2.2)])), (qu, .inr (0, [.ref qr, .ref qs, .int (nI f), .int (nI (pC u.1 cn))])), (qr, .inl (cG, 8, .inr (.inr (.inr (.inr (fun k => some (r k))))))), (qs, .inl (cI, 8, .inl (pS u.1 f cn (fL t - 6) S)))] ++ rwL cB r (pR u.1 f cn (fL t - 6) t Rr) ++ [(tp, .inl (cB, 259, .inl t))]) H1 ∧ va_D A ([(ga, .inr (1, [.ref qu, .int (nI u.2.1), .int (nI u.2.2.1), .int (nI u.2.2.2.1), .int (nI u.2.2.2.2.1), .int (nI u.2.2.2.2.2.1), .int (nI u.2.2.2.2.2.2.1), .int (nI u.2.2.2.2.2.2.2)])), (qu, .inr (0, [.ref qr, .ref qs, .int (nI f), .int (nI (pC u.1 cn))])), (qr, .inl (cG, 8, .inr (.inr (.inr (.inr (fun k => some (r k))))))), (qs, .inl (cI, 8, .inl (pS u.1 f cn (fL t - 6) S)))] ++ rwL cB r (pR u.1 f cn (fL t - 6) t Rr) ++ [(tp, .inl (cB, 259, .inl t))]) ∧ va_S A s.heap H1 locs1) (fun u => F0 m 99 ls [.int (nI u.1)]) (fun u H locs hu => ?_) (fun j_99 => ?_)
      · obtain ⟨w, st2, nx2, bs2, wt2, ag2, rf2, ac2⟩ := u
        obtain ⟨hu, hP, hD, hS⟩ := hu
        have hw6 : w < 6 := by have h := fr0_lt t n cn (st, nx, bs, wt, ag, rf, ac); rw [← hu] at h; exact h
        have hP : va_P (dC, dI) fgC ([(ga, .inr (1, [.ref qu, .int (nI st2), .int (nI nx2), .int (nI bs2), .int (nI wt2), .int (nI ag2), .int (nI rf2), .int (nI ac2)])), (qu, .inr (0, [.ref qr, .ref qs, .int (nI f), .int (nI (pC w cn))])), (qr, .inl (cG, 8, .inr (.inr (.inr (.inr (fun k => some (r k))))))), (qs, .inl (cI, 8, .inl (pS w f cn (fL t - 6) S)))] ++ rwL cB r (pR w f cn (fL t - 6) t Rr) ++ [(tp, .inl (cB, 259, .inl t))]) H := hP
        have hD : va_D A ([(ga, .inr (1, [.ref qu, .int (nI st2), .int (nI nx2), .int (nI bs2), .int (nI wt2), .int (nI ag2), .int (nI rf2), .int (nI ac2)])), (qu, .inr (0, [.ref qr, .ref qs, .int (nI f), .int (nI (pC w cn))])), (qr, .inl (cG, 8, .inr (.inr (.inr (.inr (fun k => some (r k))))))), (qs, .inl (cI, 8, .inl (pS w f cn (fL t - 6) S)))] ++ rwL cB r (pR w f cn (fL t - 6) t Rr) ++ [(tp, .inl (cB, 259, .inl t))]) := hD
        refine lv_istore (lv' := [(6, .int (nI w)), (5, .int (nI (if 0 < n ∧ ¬ bN (t 0) / 16 % 2 = 0 then 1 else 0))), (4, .int (nI (if 0 < n ∧ ¬ bN (t 0) / 32 % 2 = 0 then 1 else 0))), (3, .int (lenO t n)), (0, .ref ga), (1, .ref tp), (2, .int (nI n))]) hx hb d_G_frame_99 hl (by decide) rfl (fun ls hl => ?_)
        refine lv_aload_n hx hb d_G_frame_101 rfl (lv_at hl 4 rfl) ?_
        refine lv_dup hx hb d_G_frame_102 rfl ?_
        refine va_get (D := (dC, dI)) (ci := 1) (v := .int (nI rf2)) (C := R_G) (T := F_G) (N := 8) hx hb ht i_G hown hK hP 0 rfl rfl 6 (by decide) (ht _ m_53) (fun _ h9 => h9) rfl d_G_frame_103 ?_
        refine fg_cut (F0 m 116 ls [.int (nI (if w = 0 then 1 else 0)), .int (nI rf2), .ref ga]) ?_ (fun j_116 => ?_)
        · refine fg_iadd hx hb d_G_frame_116 ?_
          refine va_put (D := (dC, dI)) (ci := 1) (v := .int (nI (rf2 + (if w = 0 then 1 else 0)))) (ty := .int) (C := R_G) (T := F_G) (N := 8) hx hb ht i_G t_G t_G_ok n_G hown hK hP hD hS 0 rfl rfl 6 (by decide) (ht _ m_53) (fun _ h9 => h9) rfl (t_G_ok 6 (by decide)) rfl rfl (Nat.le_of_ble_eq_true rfl) d_G_frame_117 (fun H locs hP hD hS => ?_)
          have hP : va_P (dC, dI) fgC ([(ga, .inr (1, [.ref qu, .int (nI st2), .int (nI nx2), .int (nI bs2), .int (nI wt2), .int (nI ag2), .int (nI (rf2 + (if w = 0 then 1 else 0))), .int (nI ac2)])), (qu, .inr (0, [.ref qr, .ref qs, .int (nI f), .int (nI (pC w cn))])), (qr, .inl (cG, 8, .inr (.inr (.inr (.inr (fun k => some (r k))))))), (qs, .inl (cI, 8, .inl (pS w f cn (fL t - 6) S)))] ++ rwL cB r (pR w f cn (fL t - 6) t Rr) ++ [(tp, .inl (cB, 259, .inl t))]) H := hP
          have hD : va_D A ([(ga, .inr (1, [.ref qu, .int (nI st2), .int (nI nx2), .int (nI bs2), .int (nI wt2), .int (nI ag2), .int (nI (rf2 + (if w = 0 then 1 else 0))), .int (nI ac2)])), (qu, .inr (0, [.ref qr, .ref qs, .int (nI f), .int (nI (pC w cn))])), (qr, .inl (cG, 8, .inr (.inr (.inr (.inr (fun k => some (r k))))))), (qs, .inl (cI, 8, .inl (pS w f cn (fL t - 6) S)))] ++ rwL cB r (pR w f cn (fL t - 6) t Rr) ++ [(tp, .inl (cB, 259, .inl t))]) := hD
          refine lv_aload_n hx hb d_G_frame_120 rfl (lv_at hl 4 rfl) ?_
          refine lv_dup hx hb d_G_frame_121 rfl ?_
          refine va_get (D := (dC, dI)) (ci := 1) (v := .int (nI ac2)) (C := R_G) (T := F_G) (N := 8) hx hb ht i_G hown hK hP 0 rfl rfl 7 (by decide) (ht _ m_55) (fun _ h9 => h9) rfl d_G_frame_122 ?_
          refine fg_cut (F0 m 142 ls [.int (nI (if w = 1 ∨ w = 2 then 1 else 0)), .int (nI ac2), .ref ga]) ?_ (fun j_142 => ?_)
          · refine fg_iadd hx hb d_G_frame_142 ?_
            refine va_put (D := (dC, dI)) (ci := 1) (v := .int (nI (ac2 + (if w = 1 ∨ w = 2 then 1 else 0)))) (ty := .int) (C := R_G) (T := F_G) (N := 8) hx hb ht i_G t_G t_G_ok n_G hown hK hP hD hS 0 rfl rfl 7 (by decide) (ht _ m_55) (fun _ h9 => h9) rfl (t_G_ok 7 (by decide)) rfl rfl (Nat.le_of_ble_eq_true rfl) d_G_frame_143 (fun H locs hP hD hS => ?_)
            have hP : va_P (dC, dI) fgC ([(ga, .inr (1, [.ref qu, .int (nI st2), .int (nI nx2), .int (nI bs2), .int (nI wt2), .int (nI ag2), .int (nI (rf2 + (if w = 0 then 1 else 0))), .int (nI (ac2 + (if w = 1 ∨ w = 2 then 1 else 0)))])), (qu, .inr (0, [.ref qr, .ref qs, .int (nI f), .int (nI (pC w cn))])), (qr, .inl (cG, 8, .inr (.inr (.inr (.inr (fun k => some (r k))))))), (qs, .inl (cI, 8, .inl (pS w f cn (fL t - 6) S)))] ++ rwL cB r (pR w f cn (fL t - 6) t Rr) ++ [(tp, .inl (cB, 259, .inl t))]) H := hP
            have hD : va_D A ([(ga, .inr (1, [.ref qu, .int (nI st2), .int (nI nx2), .int (nI bs2), .int (nI wt2), .int (nI ag2), .int (nI (rf2 + (if w = 0 then 1 else 0))), .int (nI (ac2 + (if w = 1 ∨ w = 2 then 1 else 0)))])), (qu, .inr (0, [.ref qr, .ref qs, .int (nI f), .int (nI (pC w cn))])), (qr, .inl (cG, 8, .inr (.inr (.inr (.inr (fun k => some (r k))))))), (qs, .inl (cI, 8, .inl (pS w f cn (fL t - 6) S)))] ++ rwL cB r (pR w f cn (fL t - 6) t Rr) ++ [(tp, .inl (cB, 259, .inl t))]) := hD
            refine lv_iload hx hb d_G_frame_146 (lv_at hl 0 rfl) ?_
            exact W.iret (v := (nI w)) hx hb hr (fun t9 ht9 hW9 => ⟨⟨(nI w), (w, (st2, nx2, bs2, wt2, ag2, rf2 + (if w = 0 then 1 else 0), ac2 + (if w = 1 ∨ w = 2 then 1 else 0))), rfl, ⟨rfl, by unfold fr; rw [← hu]; rfl⟩, by rw [ht9]; exact hP, by rw [hAe]; exact hD⟩, hS.F ht9⟩) hS.2.2 d_G_frame_148
          · refine lv_iload hx hb d_G_frame_125 (lv_at hl 0 rfl) ?_
            refine lv_iconst (v := (nI 1)) hx hb d_G_frame_127 (by decide) ?_
            refine fg_cmp_eq (tgt := 137) hx hb d_G_frame_128 (by decide) (by omega) (by omega) (fun c_128 => ?_) (fun c_128 => ?_)
            · refine lv_iconst (v := (nI 1)) hx hb d_G_frame_137 (by decide) ?_
              refine lv_goto (tgt := 142) hx hb d_G_frame_138 (by decide) ?_
              exact fg_nm (congrArg nI ((if_pos (by omega)).symm)) j_142
            · refine lv_iload hx hb d_G_frame_131 (lv_at hl 0 rfl) ?_
              refine lv_iconst (v := (nI 2)) hx hb d_G_frame_133 (by decide) ?_
              refine fg_cmp_ne (tgt := 141) hx hb d_G_frame_134 (by decide) (by omega) (by omega) (fun c_134 => ?_) (fun c_134 => ?_)
              · refine lv_iconst (v := (nI 0)) hx hb d_G_frame_141 (by decide) ?_
                exact fg_nm (congrArg nI ((if_neg (by omega)).symm)) j_142
              · refine lv_iconst (v := (nI 1)) hx hb d_G_frame_137 (by decide) ?_
                refine lv_goto (tgt := 142) hx hb d_G_frame_138 (by decide) ?_
                exact fg_nm (congrArg nI ((if_pos (by omega)).symm)) j_142
        · refine lv_iload hx hb d_G_frame_106 (lv_at hl 0 rfl) ?_
          refine fg_if_ne (tgt := 115) hx hb d_G_frame_108 (by decide) (by omega) (fun c_108 => ?_) (fun c_108 => ?_)
          · refine lv_iconst (v := (nI 0)) hx hb d_G_frame_115 (by decide) ?_
            exact fg_nm (congrArg nI ((if_neg (by omega)).symm)) j_116
          · refine lv_iconst (v := (nI 1)) hx hb d_G_frame_111 (by decide) ?_
            refine lv_goto (tgt := 116) hx hb d_G_frame_112 (by decide) ?_
            exact fg_nm (congrArg nI ((if_pos (by omega)).symm)) j_116
      · by_cases hok : fOK t n
        · have hok2 : 8 ≤ n ∧ 7 ≤ fL t ∧ fL t + 1 ≤ n := ⟨hok.1, hok.2.2.2.2.2.1, hok.2.2.2.2.2.2.1⟩
          rw [lenO_eq, if_pos hok] at hl
          have hl : lv_has ls 7 [(5, .int (nI (if 0 < n ∧ ¬ bN (t 0) / 16 % 2 = 0 then 1 else 0))), (4, .int (nI (if 0 < n ∧ ¬ bN (t 0) / 32 % 2 = 0 then 1 else 0))), (3, .int (nI (fL t + 1))), (0, .ref ga), (1, .ref tp), (2, .int (nI n))] := hl
          refine lv_iload_n hx hb d_G_frame_46 rfl (lv_at hl 2 rfl) ?_
          refine lv_iconst (v := (-1)) hx hb d_G_frame_47 (by decide) ?_
          refine lv_icmp_eq (tgt := 61) hx hb d_G_frame_48 (by decide) (fun c_48 => ?_) (fun c_48 => ?_)
          · exact absurd c_48 (fg_nm1 (by omega))
          · refine lv_iload hx hb d_G_frame_51 (lv_at hl 0 rfl) ?_
            refine fg_ifb_eq (tgt := 65) hx hb d_G_frame_53 (by decide) (fun c_53 => ?_) (fun c_53 => ?_)
            · refine lv_iload hx hb d_G_frame_65 (lv_at hl 0 rfl) ?_
              refine fg_ifb_eq (tgt := 79) hx hb d_G_frame_67 (by decide) (fun c_67 => ?_) (fun c_67 => ?_)
              · refine lv_iload hx hb d_G_frame_79 (lv_at hl 1 rfl) ?_
                refine fg_ifb_eq (tgt := 93) hx hb d_G_frame_81 (by decide) (fun c_81 => ?_) (fun c_81 => ?_)
                · refine lv_aload_n hx hb d_G_frame_93 rfl (lv_at hl 3 rfl) ?_
                  refine lv_aload_n hx hb d_G_frame_94 rfl (lv_at hl 4 rfl) ?_
                  refine lv_iload_n hx hb d_G_frame_95 rfl (lv_at hl 2 rfl) ?_
                  refine fg_calli (wc := ([(ga, .inr (1, [.ref qu, .int (nI st), .int (nI nx), .int (nI bs), .int (nI wt), .int (nI ag), .int (nI rf), .int (nI ac)])), (qu, .inr (0, [.ref qr, .ref qs, .int (nI f), .int (nI cn)])), (qr, .inl (cG, 8, .inr (.inr (.inr (.inr (fun k => some (r k))))))), (qs, .inl (cI, 8, .inl S))] ++ rwL cB r Rr ++ [(tp, .inl (cB, 259, .inl t))])) (wr := []) (fun (u : Nat × GS) => ([(ga, .inr (1, [.ref qu, .int (nI u.2.1), .int (nI u.2.2.1), .int (nI u.2.2.2.1), .int (nI u.2.2.2.2.1), .int (nI u.2.2.2.2.2.1), .int (nI u.2.2.2.2.2.2.1), .int (nI u.2.2.2.2.2.2.2)])), (qu, .inr (0, [.ref qr, .ref qs, .int (nI f), .int (nI (pC u.1 cn))])), (qr, .inl (cG, 8, .inr (.inr (.inr (.inr (fun k => some (r k))))))), (qs, .inl (cI, 8, .inl (pS u.1 f cn (fL t + 1 - 7) S)))] ++ rwL cB r (pR u.1 f cn (fL t + 1 - 7) t Rr) ++ [(tp, .inl (cB, 259, .inl t))])) (va_runV (As := [.ref tp, .int (nI (fL t + 1))]) (rest := []) ⟨hx, hb, hml, hown, ht⟩ (c_G_inOrder l dC dI cB cI cG ga qu qr qs tp r Rr S t f cn (fL t + 1) st nx bs wt ag rf ac s.heap.size hB hf hc (by omega) hg) (cwV 2 ht (fg_gV m_154 m_156 m_s5 m_3 m_157) rfl rfl rfl (by decide +kernel) ⟨Nat.le_of_ble_eq_true rfl, Nat.le_of_ble_eq_true rfl⟩) (fg_preV hK (hP.sub [0, 1, 2, 3, 4, 5, 6, 7, 8, 9, 10, 11, 12] rfl) (hD.sub [0, 1, 2, 3, 4, 5, 6, 7, 8, 9, 10, 11, 12] (by decide) rfl) (va_recv hK hP (ci := 1) (q0 := 0) rfl rfl)) rfl rfl hl.1 rfl (lv_room (Nat.le_of_ble_eq_true rfl)) d_G_frame_96 ⟨Nat.le_of_ble_eq_true rfl, Nat.le_of_ble_eq_true rfl⟩) hP hD hS hA [0, 1, 2, 3, 4, 5, 6, 7, 8, 9, 10, 11, 12] [] rfl rfl (by decide) (by decide) (fun r_96 u H locs hw hP hD hS => ?_)
                  obtain ⟨w, st2, nx2, bs2, wt2, ag2, rf2, ac2⟩ := u
                  obtain ⟨hr2, hu⟩ := hw
                  obtain rfl : r_96 = nI w := hr2
                  have hP : va_P (dC, dI) fgC ([(ga, .inr (1, [.ref qu, .int (nI st2), .int (nI nx2), .int (nI bs2), .int (nI wt2), .int (nI ag2), .int (nI rf2), .int (nI ac2)])), (qu, .inr (0, [.ref qr, .ref qs, .int (nI f), .int (nI (pC w cn))])), (qr, .inl (cG, 8, .inr (.inr (.inr (.inr (fun k => some (r k))))))), (qs, .inl (cI, 8, .inl (pS w f cn (fL t + 1 - 7) S)))] ++ rwL cB r (pR w f cn (fL t + 1 - 7) t Rr) ++ [(tp, .inl (cB, 259, .inl t))]) H := hP.sub [0, 1, 2, 3, 4, 5, 6, 7, 8, 9, 10, 11, 12] rfl
                  have hD : va_D A ([(ga, .inr (1, [.ref qu, .int (nI st2), .int (nI nx2), .int (nI bs2), .int (nI wt2), .int (nI ag2), .int (nI rf2), .int (nI ac2)])), (qu, .inr (0, [.ref qr, .ref qs, .int (nI f), .int (nI (pC w cn))])), (qr, .inl (cG, 8, .inr (.inr (.inr (.inr (fun k => some (r k))))))), (qs, .inl (cI, 8, .inl (pS w f cn (fL t + 1 - 7) S)))] ++ rwL cB r (pR w f cn (fL t + 1 - 7) t Rr) ++ [(tp, .inl (cB, 259, .inl t))]) := hD.sub [0, 1, 2, 3, 4, 5, 6, 7, 8, 9, 10, 11, 12] (by decide) rfl
                  rw [show fL t + 1 - 7 = fL t - 6 by omega] at hP hD
                  have hP : va_P (dC, dI) fgC ([(ga, .inr (1, [.ref qu, .int (nI st2), .int (nI nx2), .int (nI bs2), .int (nI wt2), .int (nI ag2), .int (nI rf2), .int (nI ac2)])), (qu, .inr (0, [.ref qr, .ref qs, .int (nI f), .int (nI (pC w cn))])), (qr, .inl (cG, 8, .inr (.inr (.inr (.inr (fun k => some (r k))))))), (qs, .inl (cI, 8, .inl (pS w f cn (fL t - 6) S)))] ++ rwL cB r (pR w f cn (fL t - 6) t Rr) ++ [(tp, .inl (cB, 259, .inl t))]) H := hP
                  have hD : va_D A ([(ga, .inr (1, [.ref qu, .int (nI st2), .int (nI nx2), .int (nI bs2), .int (nI wt2), .int (nI ag2), .int (nI rf2), .int (nI ac2)])), (qu, .inr (0, [.ref qr, .ref qs, .int (nI f), .int (nI (pC w cn))])), (qr, .inl (cG, 8, .inr (.inr (.inr (.inr (fun k => some (r k))))))), (qs, .inl (cI, 8, .inl (pS w f cn (fL t - 6) S)))] ++ rwL cB r (pR w f cn (fL t - 6) t Rr) ++ [(tp, .inl (cB, 259, .inl t))]) := hD
                  exact j_99 (w, st2, nx2, bs2, wt2, ag2, rf2, ac2) _ _ ⟨by unfold fr0; rw [if_neg (fun q => by rcases q with q | q; exact q hok; omega), if_neg (by omega), if_pos (by omega)]; exact hu, hP, hD, hS⟩
                · refine lv_aload_n hx hb d_G_frame_84 rfl (lv_at hl 3 rfl) ?_
                  refine lv_aload_n hx hb d_G_frame_85 rfl (lv_at hl 4 rfl) ?_
                  refine lv_iload_n hx hb d_G_frame_86 rfl (lv_at hl 2 rfl) ?_
                  refine fg_calli (wc := ([(ga, .inr (1, [.ref qu, .int (nI st), .int (nI nx), .int (nI bs), .int (nI wt), .int (nI ag), .int (nI rf), .int (nI ac)])), (qu, .inr (0, [.ref qr, .ref qs, .int (nI f), .int (nI cn)])), (qr, .inl (cG, 8, .inr (.inr (.inr (.inr (fun k => some (r k))))))), (qs, .inl (cI, 8, .inl S))] ++ rwL cB r Rr ++ [(tp, .inl (cB, 259, .inl t))])) (wr := []) (fun (u : Nat × GS) => ([(ga, .inr (1, [.ref qu, .int (nI u.2.1), .int (nI u.2.2.1), .int (nI u.2.2.2.1), .int (nI u.2.2.2.2.1), .int (nI u.2.2.2.2.2.1), .int (nI u.2.2.2.2.2.2.1), .int (nI u.2.2.2.2.2.2.2)])), (qu, .inr (0, [.ref qr, .ref qs, .int (nI f), .int (nI (pC u.1 cn))])), (qr, .inl (cG, 8, .inr (.inr (.inr (.inr (fun k => some (r k))))))), (qs, .inl (cI, 8, .inl (pS u.1 f cn (fL t + 1 - 7) S)))] ++ rwL cB r (pR u.1 f cn (fL t + 1 - 7) t Rr) ++ [(tp, .inl (cB, 259, .inl t))])) (va_runV (As := [.ref tp, .int (nI (fL t + 1))]) (rest := []) ⟨hx, hb, hml, hown, ht⟩ (c_G_beside l dC dI cB cI cG ga qu qr qs tp r Rr S t f cn (fL t + 1) st nx bs wt ag rf ac s.heap.size hB hf hc (by omega) hg) (cwV 2 ht (fg_gV m_135 m_137 m_s3 m_3 m_138) rfl rfl rfl (by decide +kernel) ⟨Nat.le_of_ble_eq_true rfl, Nat.le_of_ble_eq_true rfl⟩) (fg_preV hK (hP.sub [0, 1, 2, 3, 4, 5, 6, 7, 8, 9, 10, 11, 12] rfl) (hD.sub [0, 1, 2, 3, 4, 5, 6, 7, 8, 9, 10, 11, 12] (by decide) rfl) (va_recv hK hP (ci := 1) (q0 := 0) rfl rfl)) rfl rfl hl.1 rfl (lv_room (Nat.le_of_ble_eq_true rfl)) d_G_frame_87 ⟨Nat.le_of_ble_eq_true rfl, Nat.le_of_ble_eq_true rfl⟩) hP hD hS hA [0, 1, 2, 3, 4, 5, 6, 7, 8, 9, 10, 11, 12] [] rfl rfl (by decide) (by decide) (fun r_87 u H locs hw hP hD hS => ?_)
                  obtain ⟨w, st2, nx2, bs2, wt2, ag2, rf2, ac2⟩ := u
                  obtain ⟨hr2, hu⟩ := hw
                  obtain rfl : r_87 = nI w := hr2
                  have hP : va_P (dC, dI) fgC ([(ga, .inr (1, [.ref qu, .int (nI st2), .int (nI nx2), .int (nI bs2), .int (nI wt2), .int (nI ag2), .int (nI rf2), .int (nI ac2)])), (qu, .inr (0, [.ref qr, .ref qs, .int (nI f), .int (nI (pC w cn))])), (qr, .inl (cG, 8, .inr (.inr (.inr (.inr (fun k => some (r k))))))), (qs, .inl (cI, 8, .inl (pS w f cn (fL t + 1 - 7) S)))] ++ rwL cB r (pR w f cn (fL t + 1 - 7) t Rr) ++ [(tp, .inl (cB, 259, .inl t))]) H := hP.sub [0, 1, 2, 3, 4, 5, 6, 7, 8, 9, 10, 11, 12] rfl
                  have hD : va_D A ([(ga, .inr (1, [.ref qu, .int (nI st2), .int (nI nx2), .int (nI bs2), .int (nI wt2), .int (nI ag2), .int (nI rf2), .int (nI ac2)])), (qu, .inr (0, [.ref qr, .ref qs, .int (nI f), .int (nI (pC w cn))])), (qr, .inl (cG, 8, .inr (.inr (.inr (.inr (fun k => some (r k))))))), (qs, .inl (cI, 8, .inl (pS w f cn (fL t + 1 - 7) S)))] ++ rwL cB r (pR w f cn (fL t + 1 - 7) t Rr) ++ [(tp, .inl (cB, 259, .inl t))]) := hD.sub [0, 1, 2, 3, 4, 5, 6, 7, 8, 9, 10, 11, 12] (by decide) rfl
                  rw [show fL t + 1 - 7 = fL t - 6 by omega] at hP hD
                  have hP : va_P (dC, dI) fgC ([(ga, .inr (1, [.ref qu, .int (nI st2), .int (nI nx2), .int (nI bs2), .int (nI wt2), .int (nI ag2), .int (nI rf2), .int (nI ac2)])), (qu, .inr (0, [.ref qr, .ref qs, .int (nI f), .int (nI (pC w cn))])), (qr, .inl (cG, 8, .inr (.inr (.inr (.inr (fun k => some (r k))))))), (qs, .inl (cI, 8, .inl (pS w f cn (fL t - 6) S)))] ++ rwL cB r (pR w f cn (fL t - 6) t Rr) ++ [(tp, .inl (cB, 259, .inl t))]) H := hP
                  have hD : va_D A ([(ga, .inr (1, [.ref qu, .int (nI st2), .int (nI nx2), .int (nI bs2), .int (nI wt2), .int (nI ag2), .int (nI rf2), .int (nI ac2)])), (qu, .inr (0, [.ref qr, .ref qs, .int (nI f), .int (nI (pC w cn))])), (qr, .inl (cG, 8, .inr (.inr (.inr (.inr (fun k => some (r k))))))), (qs, .inl (cI, 8, .inl (pS w f cn (fL t - 6) S)))] ++ rwL cB r (pR w f cn (fL t - 6) t Rr) ++ [(tp, .inl (cB, 259, .inl t))]) := hD
                  refine lv_goto (tgt := 99) hx hb d_G_frame_90 (by decide) ?_
                  exact j_99 (w, st2, nx2, bs2, wt2, ag2, rf2, ac2) _ _ ⟨by unfold fr0; rw [if_neg (fun q => by rcases q with q | q; exact q hok; omega), if_neg (by omega), if_neg (by omega)]; exact hu, hP, hD, hS⟩
              · exact absurd c_67 c_53
            · refine lv_iload hx hb d_G_frame_56 (lv_at hl 1 rfl) ?_
              refine fg_ifb_ne (tgt := 65) hx hb d_G_frame_58 (by decide) (fun c_58 => ?_) (fun c_58 => ?_)
              · refine lv_iload hx hb d_G_frame_65 (lv_at hl 0 rfl) ?_
                refine fg_ifb_eq (tgt := 79) hx hb d_G_frame_67 (by decide) (fun c_67 => ?_) (fun c_67 => ?_)
                · exact absurd c_53 c_67
                · refine lv_aload_n hx hb d_G_frame_70 rfl (lv_at hl 3 rfl) ?_
                  refine lv_aload_n hx hb d_G_frame_71 rfl (lv_at hl 4 rfl) ?_
                  refine lv_iload_n hx hb d_G_frame_72 rfl (lv_at hl 2 rfl) ?_
                  refine fg_calli (wc := [(ga, .inr (1, [.ref qu, .int (nI st), .int (nI nx), .int (nI bs), .int (nI wt), .int (nI ag), .int (nI rf), .int (nI ac)])), (tp, .inl (cB, 259, .inl t))]) (wr := ([(qu, .inr (0, [.ref qr, .ref qs, .int (nI f), .int (nI cn)])), (qr, .inl (cG, 8, .inr (.inr (.inr (.inr (fun k => some (r k))))))), (qs, .inl (cI, 8, .inl S))] ++ rwL cB r Rr ++ [])) (fun (u : Nat × GS) => [(ga, .inr (1, [.ref qu, .int (nI u.2.1), .int (nI u.2.2.1), .int (nI u.2.2.2.1), .int (nI u.2.2.2.2.1), .int (nI u.2.2.2.2.2.1), .int (nI u.2.2.2.2.2.2.1), .int (nI u.2.2.2.2.2.2.2)])), (tp, .inl (cB, 259, .inl t))]) (va_runV (As := [.ref tp, .int (nI (fL t + 1))]) (rest := []) ⟨hx, hb, hml, hown, ht⟩ (c_G_control l dC dI cB cI cG ga qu tp t (fL t + 1) st nx bs wt ag rf ac s.heap.size hB (by omega) hg) (cwV 2 ht (fg_gV m_123 m_125 m_s0 m_3 m_126) rfl rfl rfl (by decide +kernel) ⟨Nat.le_of_ble_eq_true rfl, Nat.le_of_ble_eq_true rfl⟩) (fg_preV hK (hP.sub [0, 12] rfl) (hD.sub [0, 12] (by decide) rfl) (va_recv hK hP (ci := 1) (q0 := 0) rfl rfl)) rfl rfl hl.1 rfl (lv_room (Nat.le_of_ble_eq_true rfl)) d_G_frame_73 ⟨Nat.le_of_ble_eq_true rfl, Nat.le_of_ble_eq_true rfl⟩) hP hD hS hA [0, 12] [1, 2, 3, 4, 5, 6, 7, 8, 9, 10, 11] rfl rfl (by decide) (by decide) (fun r_73 u H locs hw hP hD hS => ?_)
                  obtain ⟨w, st2, nx2, bs2, wt2, ag2, rf2, ac2⟩ := u
                  obtain ⟨hr2, hu⟩ := hw
                  obtain rfl : r_73 = nI w := hr2
                  have hP : va_P (dC, dI) fgC ([(ga, .inr (1, [.ref qu, .int (nI st2), .int (nI nx2), .int (nI bs2), .int (nI wt2), .int (nI ag2), .int (nI rf2), .int (nI ac2)])), (qu, .inr (0, [.ref qr, .ref qs, .int (nI f), .int (nI cn)])), (qr, .inl (cG, 8, .inr (.inr (.inr (.inr (fun k => some (r k))))))), (qs, .inl (cI, 8, .inl S))] ++ rwL cB r Rr ++ [(tp, .inl (cB, 259, .inl t))]) H := hP.sub [11, 0, 1, 2, 3, 4, 5, 6, 7, 8, 9, 10, 12] rfl
                  have hD : va_D A ([(ga, .inr (1, [.ref qu, .int (nI st2), .int (nI nx2), .int (nI bs2), .int (nI wt2), .int (nI ag2), .int (nI rf2), .int (nI ac2)])), (qu, .inr (0, [.ref qr, .ref qs, .int (nI f), .int (nI cn)])), (qr, .inl (cG, 8, .inr (.inr (.inr (.inr (fun k => some (r k))))))), (qs, .inl (cI, 8, .inl S))] ++ rwL cB r Rr ++ [(tp, .inl (cB, 259, .inl t))]) := hD.sub [11, 0, 1, 2, 3, 4, 5, 6, 7, 8, 9, 10, 12] (by decide) rfl
                  have hw34 : w = 0 ∨ w = 3 ∨ w = 4 := by have h := ctl_w t (fL t + 1 - 7) (st, nx, bs, wt, ag, rf, ac); rw [← hu] at h; exact h
                  have hnp : ¬ (w = 1 ∨ w = 2) := by omega
                  have hP : va_P (dC, dI) fgC ([(ga, .inr (1, [.ref qu, .int (nI st2), .int (nI nx2), .int (nI bs2), .int (nI wt2), .int (nI ag2), .int (nI rf2), .int (nI ac2)])), (qu, .inr (0, [.ref qr, .ref qs, .int (nI f), .int (nI (pC w cn))])), (qr, .inl (cG, 8, .inr (.inr (.inr (.inr (fun k => some (r k))))))), (qs, .inl (cI, 8, .inl (pS w f cn (fL t - 6) S)))] ++ rwL cB r (pR w f cn (fL t - 6) t Rr) ++ [(tp, .inl (cB, 259, .inl t))]) H := by unfold pC pS pR; rw [if_neg hnp, if_neg hnp, if_neg hnp]; exact hP
                  have hD : va_D A ([(ga, .inr (1, [.ref qu, .int (nI st2), .int (nI nx2), .int (nI bs2), .int (nI wt2), .int (nI ag2), .int (nI rf2), .int (nI ac2)])), (qu, .inr (0, [.ref qr, .ref qs, .int (nI f), .int (nI (pC w cn))])), (qr, .inl (cG, 8, .inr (.inr (.inr (.inr (fun k => some (r k))))))), (qs, .inl (cI, 8, .inl (pS w f cn (fL t - 6) S)))] ++ rwL cB r (pR w f cn (fL t - 6) t Rr) ++ [(tp, .inl (cB, 259, .inl t))]) := by unfold pC pS pR; rw [if_neg hnp, if_neg hnp, if_neg hnp]; exact hD
                  refine lv_goto (tgt := 99) hx hb d_G_frame_76 (by decide) ?_
                  exact j_99 (w, st2, nx2, bs2, wt2, ag2, rf2, ac2) _ _ ⟨by unfold fr0; rw [if_neg (fun q => by rcases q with q | q; exact q hok; omega), if_pos (by omega), show fL t - 6 = fL t + 1 - 7 by omega]; exact hu, hP, hD, hS⟩
              · refine lv_iconst (v := (nI 0)) hx hb d_G_frame_61 (by decide) ?_
                refine lv_goto (tgt := 99) hx hb d_G_frame_62 (by decide) ?_
                exact j_99 (0, (st, nx, bs, wt, ag, rf, ac)) _ _ ⟨by unfold fr0; rw [if_pos (Or.inr (by omega))], hP, hD, hS⟩
        · rw [lenO_eq, if_neg hok] at hl
          have hl : lv_has ls 7 [(5, .int (nI (if 0 < n ∧ ¬ bN (t 0) / 16 % 2 = 0 then 1 else 0))), (4, .int (nI (if 0 < n ∧ ¬ bN (t 0) / 32 % 2 = 0 then 1 else 0))), (3, .int (-1)), (0, .ref ga), (1, .ref tp), (2, .int (nI n))] := hl
          refine lv_iload_n hx hb d_G_frame_46 rfl (lv_at hl 2 rfl) ?_
          refine lv_iconst (v := (-1)) hx hb d_G_frame_47 (by decide) ?_
          refine lv_icmp_eq (tgt := 61) hx hb d_G_frame_48 (by decide) (fun c_48 => ?_) (fun c_48 => ?_)
          · refine lv_iconst (v := (nI 0)) hx hb d_G_frame_61 (by decide) ?_
            refine lv_goto (tgt := 99) hx hb d_G_frame_62 (by decide) ?_
            exact j_99 (0, (st, nx, bs, wt, ag, rf, ac)) _ _ ⟨by unfold fr0; rw [if_pos (Or.inl hok)], hP, hD, hS⟩
          · exact absurd rfl c_48
    · refine lv_iload_n hx hb d_G_frame_26 rfl (lv_at hl 4 rfl) ?_
      refine fg_if_le (tgt := 43) hx hb d_G_frame_27 (by decide) (by omega) (fun c_27 => ?_) (fun c_27 => ?_)
      · refine lv_iconst (v := (nI 0)) hx hb d_G_frame_43 (by decide) ?_
        exact fg_nm (congrArg nI ((if_neg (by omega)).symm)) j_44
      · refine lv_aload_n hx hb d_G_frame_30 rfl (lv_at hl 3 rfl) ?_
        refine lv_iconst (v := (nI 0)) hx hb d_G_frame_31 (by decide) ?_
        refine fg_bald hx hb hK hP 12 0 rfl rfl (by omega) (by decide) d_G_frame_32 ?_
        refine lv_bipush (v := (nI 16)) hx hb d_G_frame_33 (by decide) ?_
        refine fg_iandB hx hb d_G_frame_35 (by decide) ?_
        have hbN_35 := bN_lt (t 0)
        refine fg_if_eq (tgt := 43) hx hb d_G_frame_36 (by decide) (Nat.lt_of_le_of_lt Nat.and_le_right (by decide)) (fun c_36 => ?_) (fun c_36 => ?_)
        · refine lv_iconst (v := (nI 0)) hx hb d_G_frame_43 (by decide) ?_
          exact fg_nm (congrArg nI ((if_neg (by omega)).symm)) j_44
        · refine lv_iconst (v := (nI 1)) hx hb d_G_frame_39 (by decide) ?_
          refine lv_goto (tgt := 44) hx hb d_G_frame_40 (by decide) ?_
          exact fg_nm (congrArg nI ((if_pos (by omega)).symm)) j_44
  · refine lv_iload_n hx hb d_G_frame_6 rfl (lv_at hl 3 rfl) ?_
    refine fg_if_le (tgt := 23) hx hb d_G_frame_7 (by decide) (by omega) (fun c_7 => ?_) (fun c_7 => ?_)
    · refine lv_iconst (v := (nI 0)) hx hb d_G_frame_23 (by decide) ?_
      exact fg_nm (congrArg nI ((if_neg (by omega)).symm)) j_24
    · refine lv_aload_n hx hb d_G_frame_10 rfl (lv_at hl 2 rfl) ?_
      refine lv_iconst (v := (nI 0)) hx hb d_G_frame_11 (by decide) ?_
      refine fg_bald hx hb hK hP 12 0 rfl rfl (by omega) (by decide) d_G_frame_12 ?_
      refine lv_bipush (v := (nI 32)) hx hb d_G_frame_13 (by decide) ?_
      refine fg_iandB hx hb d_G_frame_15 (by decide) ?_
      have hbN_15 := bN_lt (t 0)
      refine fg_if_eq (tgt := 23) hx hb d_G_frame_16 (by decide) (Nat.lt_of_le_of_lt Nat.and_le_right (by decide)) (fun c_16 => ?_) (fun c_16 => ?_)
      · refine lv_iconst (v := (nI 0)) hx hb d_G_frame_23 (by decide) ?_
        exact fg_nm (congrArg nI ((if_neg (by omega)).symm)) j_24
      · refine lv_iconst (v := (nI 1)) hx hb d_G_frame_19 (by decide) ?_
        refine lv_goto (tgt := 24) hx hb d_G_frame_20 (by decide) ?_
        exact fg_nm (congrArg nI ((if_pos (by omega)).symm)) j_24
end
section
/-- a byte of what was taken -/
def bya (T : Nat → Int32) (kl : Nat) (x : Int32) : Int32 := if 0 ≤ x.toInt ∧ x.toInt < kl then nI (bN (T x.toInt.toNat)) else -1
theorem bya_neg {T : Nat → Int32} {kl : Nat} {x : Int32} (h : x < 0) : bya T kl x = -1 := if_neg (fun q => by
  have := Int32.lt_iff_toInt_lt.mp h
  rw [show (0 : Int32).toInt = 0 from by decide] at this
  omega)
theorem bya_in {T : Nat → Int32} {kl j : Nat} (hj : j < 2 ^ 31) (h : j < kl) : bya T kl (nI j) = nI (bN (T j)) := by
  unfold bya
  rw [nI_toInt hj, if_pos (by omega)]
  rfl
theorem bya_out {T : Nat → Int32} {kl j : Nat} (hj : j < 2 ^ 31) (h : kl ≤ j) : bya T kl (nI j) = -1 := by
  unfold bya
  rw [nI_toInt hj, if_neg (by omega)]
theorem bya_eq {T T' : Nat → Int32} {kl : Nat} (h : ∀ j, j < kl → T j = T' j) (x : Int32) : bya T kl x = bya T' kl x := by
  unfold bya
  by_cases q : 0 ≤ x.toInt ∧ x.toInt < kl
  · rw [if_pos q, if_pos q, h _ (by omega)]
  · rw [if_neg q, if_neg q]
/-- how many bytes give takes -/
def gvK (n : Nat) (x : Int32) : Nat := if 1 ≤ x.toInt ∧ x.toInt ≤ 8 ∧ (n : Int) + x.toInt ≤ 259 then x.toInt.toNat else 0
theorem fg_rng {x : Int32} (h1 : ¬ x < nI 1) (h2 : ¬ nI 8 < x) : ∃ k, 1 ≤ k ∧ k ≤ 8 ∧ x = nI k := by
  rw [Int32.lt_iff_toInt_lt, nI_toInt (by decide)] at h1 h2
  refine ⟨x.toInt.toNat, by omega, by omega, Int32.toInt_inj.mp ?_⟩
  rw [nI_toInt (by omega)]
  omega
theorem gvK_lt {n : Nat} {x : Int32} (h : x < nI 1) : gvK n x = 0 := if_neg (fun q => by
  rw [Int32.lt_iff_toInt_lt, nI_toInt (by decide)] at h
  omega)
theorem gvK_gt {n : Nat} {x : Int32} (h : nI 8 < x) : gvK n x = 0 := if_neg (fun q => by
  rw [Int32.lt_iff_toInt_lt, nI_toInt (by decide)] at h
  omega)
theorem gvK_out {n k : Nat} (hk : k ≤ 8) (h : ¬ n + k ≤ 259) : gvK n (nI k) = 0 := if_neg (fun q => by
  rw [nI_toInt (by omega)] at q
  omega)
theorem gvK_in {n k : Nat} (h1 : 1 ≤ k) (hk : k ≤ 8) (h : n + k ≤ 259) : gvK n (nI k) = k := by
  unfold gvK
  rw [nI_toInt (by omega), if_pos (by omega)]
  rfl
theorem gvK_le (n : Nat) (x : Int32) (h : n ≤ 259) : n + gvK n x ≤ 259 := by
  unfold gvK
  split
  · omega
  · omega
/-- the tape behind give -/
def gv (t : Nat → Int32) (n : Nat) (wl : Int64) : Nat → Nat → Int32
  | 0 => t
  | k + 1 => upd (gv t n wl k) (n + k) ((wl >>> ((nI (56 - 8 * k)).toInt64 &&& 63)).toInt32.toInt8.toInt32)
theorem BF.gv {t : Nat → Int32} (h : BF t) (n : Nat) (wl : Int64) : ∀ k, BF (gv t n wl k)
  | 0 => h
  | k + 1 => by
    have := (BF.gv h n wl k).upd (n + k) ((wl >>> ((nI (56 - 8 * k)).toInt64 &&& 63)).toInt32.toInt8.toInt32)
    rw [pk_vb] at this
    exact this
/-- the tape behind seal -/
def sld (t : Nat → Int32) (n : Nat) : Nat → Int32 := upd (upd t n ((nI (crc t n / 256)).toInt8.toInt32)) (n + 1) ((nI (crc t n)).toInt8.toInt32)
theorem BF.sld {t : Nat → Int32} (h : BF t) (n : Nat) : BF (sld t n) := by
  have h1 := h.upd n ((nI (crc t n / 256)).toInt8.toInt32)
  have h2 := h1.upd (n + 1) ((nI (crc t n)).toInt8.toInt32)
  rw [pk_vb, pk_vb] at h2
  exact h2
set_option maxHeartbeats 4000000 in
set_option maxRecDepth 100000 in
/-- FrameGate.length() -/
theorem c_X_length (l : Launch) (dC : Nat → ClassId) (dI : Nat → Nat → Nat) (cB cI cG : ClassId) (ox tp tk qu ga n kl : Nat) (sz : Nat) : Met l y_X_length (Cond.code y_X_length b_X_length 1 (some .int) :: w_all) ({ frames := 0, cells := 0, slots := 0, locals := 0 }) (va_Pc [.ref ox] (fgPre (dC, dI) (tysA cB cI cG) [(ox, .inr (2, [.ref tp, .int (nI n), .ref tk, .int (nI kl), .ref qu, .ref ga]))] sz)) (vp_Si (fun r => r = nI n)) 0 0 (fun _ => False) := by
  refine Met.ofW (cc := b_X_length) (maxL := 1) (ret := (some .int)) (by decide) rfl ?_
  intro p e s m args below meth c s₁ B hml hv
  obtain ⟨rfl, hsz, hP, hK, hD0⟩ := hv
  have hx := B.exec
  have hb := B.bytes
  have hr := B.returns
  have hts := atoms_spec (ws := (Cond.code y_X_length b_X_length 1 (some .int) :: w_all)) B.pre
  have ht : ∀ w ∈ w_all, w.before _ s = true := fun w h => hts w (List.mem_cons_of_mem _ h)
  have hown : s.vm.findClass R_X = some m.cls := findClass_of_methodNamed B.named
  have hlocks := B.notSynchronized
  subst hsz
  have hD := hD0
  have hl := lv_entry ([.ref ox]) (n := 1) (Nat.le_of_ble_eq_true rfl)
  rw [lg_entry_eq]
  generalize (lg_sl ([.ref ox]) ++ List.replicate (1 - (lg_sl ([.ref ox])).length) Slot.unset).toArray = ls at hl ⊢
  have hl : lv_has ls 1 [(0, .ref ox)] := hl
  refine lv_aload_n hx hb d_X_length_0 rfl (lv_at hl 0 rfl) ?_
  refine va_get (D := (dC, dI)) (ci := 2) (v := .int (nI n)) (C := R_X) (T := F_X) (N := 6) hx hb ht i_X hown hK hP 0 rfl rfl 1 (by decide) (ht _ m_75) (fun _ h9 => h9) rfl d_X_length_1 ?_
  exact W.iret (v := (nI n)) hx hb hr (fun t9 ht9 hW9 => ⟨(nI n), rfl, rfl, ht9⟩) (fun q h => by cases h) d_X_length_4
set_option maxHeartbeats 4000000 in
set_option maxRecDepth 100000 in
/-- FrameGate.byteAt(x) -/
theorem c_X_byteAt (l : Launch) (dC : Nat → ClassId) (dI : Nat → Nat → Nat) (cB cI cG : ClassId) (ox tp tk qu ga n kl : Nat) (T : Nat → Int32) (x : Int32) (sz : Nat) (hkl : kl ≤ 252) : Met l y_X_byteAt (Cond.code y_X_byteAt b_X_byteAt 2 (some .int) :: w_all) ({ frames := 0, cells := 0, slots := 0, locals := 0 }) (va_Pc [.ref ox, .int x] (fgPre (dC, dI) (tysA cB cI cG) [(ox, .inr (2, [.ref tp, .int (nI n), .ref tk, .int (nI kl), .ref qu, .ref ga])), (tk, .inl (cB, 252, .inl T))] sz)) (vp_Si (fun r => r = bya T kl x)) 0 0 (fun _ => False) := by
  refine Met.ofW (cc := b_X_byteAt) (maxL := 2) (ret := (some .int)) (by decide) rfl ?_
  intro p e s m args below meth c s₁ B hml hv
  obtain ⟨rfl, hsz, hP, hK, hD0⟩ := hv
  have hx := B.exec
  have hb := B.bytes
  have hr := B.returns
  have hts := atoms_spec (ws := (Cond.code y_X_byteAt b_X_byteAt 2 (some .int) :: w_all)) B.pre
  have ht : ∀ w ∈ w_all, w.before _ s = true := fun w h => hts w (List.mem_cons_of_mem _ h)
  have hown : s.vm.findClass R_X = some m.cls := findClass_of_methodNamed B.named
  have hlocks := B.notSynchronized
  subst hsz
  have hD := hD0
  have hl := lv_entry ([.ref ox, .int x]) (n := 2) (Nat.le_of_ble_eq_true rfl)
  rw [lg_entry_eq]
  generalize (lg_sl ([.ref ox, .int x]) ++ List.replicate (2 - (lg_sl ([.ref ox, .int x])).length) Slot.unset).toArray = ls at hl ⊢
  have hl : lv_has ls 2 [(0, .ref ox), (1, .int x)] := hl
  refine lv_iload_n hx hb d_X_byteAt_0 rfl (lv_at hl 1 rfl) ?_
  refine lv_if_lt (tgt := 12) hx hb d_X_byteAt_1 (by decide) (fun c_1 => ?_) (fun c_1 => ?_)
  · refine lv_iconst (v := (-1)) hx hb d_X_byteAt_12 (by decide) ?_
    refine lv_goto (tgt := 26) hx hb d_X_byteAt_13 (by decide) ?_
    exact W.iret (v := (-1)) hx hb hr (fun t9 ht9 hW9 => ⟨(-1), rfl, (bya_neg c_1).symm, ht9⟩) (fun q h => by cases h) d_X_byteAt_26
  · obtain ⟨j, hj, rfl⟩ := nI_of c_1
    refine lv_iload_n hx hb d_X_byteAt_4 rfl (lv_at hl 1 rfl) ?_
    refine lv_aload_n hx hb d_X_byteAt_5 rfl (lv_at hl 0 rfl) ?_
    refine va_get (D := (dC, dI)) (ci := 2) (v := .int (nI kl)) (C := R_X) (T := F_X) (N := 6) hx hb ht i_X hown hK hP 0 rfl rfl 3 (by decide) (ht _ m_77) (fun _ h9 => h9) rfl d_X_byteAt_6 ?_
    refine fg_cmp_lt (tgt := 16) hx hb d_X_byteAt_9 (by decide) (by omega) (by omega) (fun c_9 => ?_) (fun c_9 => ?_)
    · refine lv_aload_n hx hb d_X_byteAt_16 rfl (lv_at hl 0 rfl) ?_
      refine va_get (D := (dC, dI)) (ci := 2) (v := .ref tk) (C := R_X) (T := F_X) (N := 6) hx hb ht i_X hown hK hP 0 rfl rfl 2 (by decide) (ht _ m_76) (fun _ h9 => h9) rfl d_X_byteAt_17 ?_
      refine lv_iload_n hx hb d_X_byteAt_20 rfl (lv_at hl 1 rfl) ?_
      refine fg_bald hx hb hK hP 1 0 rfl rfl (by omega) (by decide) d_X_byteAt_21 ?_
      refine lv_sipush (v := (nI 255)) hx hb d_X_byteAt_22 (by decide) ?_
      refine fg_iand255 hx hb d_X_byteAt_25 ?_
      have hbN_25 := bN_lt (T j)
      exact W.iret (v := (nI (bN (T j)))) hx hb hr (fun t9 ht9 hW9 => ⟨(nI (bN (T j))), rfl, (bya_in hj (by omega)).symm, ht9⟩) (fun q h => by cases h) d_X_byteAt_26
    · refine lv_iconst (v := (-1)) hx hb d_X_byteAt_12 (by decide) ?_
      refine lv_goto (tgt := 26) hx hb d_X_byteAt_13 (by decide) ?_
      exact W.iret (v := (-1)) hx hb hr (fun t9 ht9 hW9 => ⟨(-1), rfl, (bya_out hj (by omega)).symm, ht9⟩) (fun q h => by cases h) d_X_byteAt_26
set_option maxHeartbeats 4000000 in
set_option maxRecDepth 100000 in
/-- FrameGate.release() -/
theorem c_X_release (l : Launch) (dC : Nat → ClassId) (dI : Nat → Nat → Nat) (cB cI cG : ClassId) (ox tp tk qu ga n kl : Nat) (st nx bs wt ag rf ac : Nat) (sz : Nat) (hg : st < 4 ∧ nx < 256 ∧ bs < 4 ∧ wt < 2 ∧ ag < 2) : Met l y_X_release (Cond.code y_X_release b_X_release 1 (some .boolean) :: w_all) ({ frames := 1, cells := 0, slots := 0, locals := 21 }) (va_Pc [.ref ox] (fgPre (dC, dI) (tysA cB cI cG) [(ox, .inr (2, [.ref tp, .int (nI n), .ref tk, .int (nI kl), .ref qu, .ref ga])), (ga, .inr (1, [.ref qu, .int (nI st), .int (nI nx), .int (nI bs), .int (nI wt), .int (nI ag), .int (nI rf), .int (nI ac)]))] sz)) (va_Qi (fun (r : Int32) (u : Nat) => r = nI (if ¬ wt = 0 ∨ st = 2 then 1 else 0) ∧ u = if st = 2 then 1 else st) (fun u t9 => fgPost (dC, dI) [(ox, .inr (2, [.ref tp, .int (nI n), .ref tk, .int (nI kl), .ref qu, .ref ga])), (ga, .inr (1, [.ref qu, .int (nI st), .int (nI nx), .int (nI bs), .int (nI wt), .int (nI ag), .int (nI rf), .int (nI ac)]))] [(ox, .inr (2, [.ref tp, .int (nI n), .ref tk, .int (nI kl), .ref qu, .ref ga])), (ga, .inr (1, [.ref qu, .int (nI u), .int (nI nx), .int (nI bs), .int (nI 0), .int (nI ag), .int (nI rf), .int (nI ac)]))] sz t9) (va_A [(ox, .inr (2, [.ref tp, .int (nI n), .ref tk, .int (nI kl), .ref qu, .ref ga])), (ga, .inr (1, [.ref qu, .int (nI st), .int (nI nx), .int (nI bs), .int (nI wt), .int (nI ag), .int (nI rf), .int (nI ac)]))] sz)) 0 0 (va_A [(ox, .inr (2, [.ref tp, .int (nI n), .ref tk, .int (nI kl), .ref qu, .ref ga])), (ga, .inr (1, [.ref qu, .int (nI st), .int (nI nx), .int (nI bs), .int (nI wt), .int (nI ag), .int (nI rf), .int (nI ac)]))] sz) := by
  refine Met.ofW (cc := b_X_release) (maxL := 1) (ret := (some .boolean)) (by decide) rfl ?_
  intro p e s m args below meth c s₁ B hml hv
  obtain ⟨rfl, hsz, hP, hK, hD0⟩ := hv
  have hx := B.exec
  have hb := B.bytes
  have hr := B.returns
  have hts := atoms_spec (ws := (Cond.code y_X_release b_X_release 1 (some .boolean) :: w_all)) B.pre
  have ht : ∀ w ∈ w_all, w.before _ s = true := fun w h => hts w (List.mem_cons_of_mem _ h)
  have hown : s.vm.findClass R_X = some m.cls := findClass_of_methodNamed B.named
  have hlocks := B.notSynchronized
  subst hsz
  have hD := hD0.self (sz := s.heap.size)
  generalize hAe : va_A [(ox, .inr (2, [.ref tp, .int (nI n), .ref tk, .int (nI kl), .ref qu, .ref ga])), (ga, .inr (1, [.ref qu, .int (nI st), .int (nI nx), .int (nI bs), .int (nI wt), .int (nI ag), .int (nI rf), .int (nI ac)]))] s.heap.size = A at hD ⊢
  have hA : ∀ q : Nat, s.heap.size ≤ q → A q := fun q h => by rw [← hAe]; exact Or.inr h
  have hS : va_S A s.heap s.heap [] := va_S.rf
  have hl := lv_entry ([.ref ox]) (n := 1) (Nat.le_of_ble_eq_true rfl)
  rw [lg_entry_eq]
  generalize (lg_sl ([.ref ox]) ++ List.replicate (1 - (lg_sl ([.ref ox])).length) Slot.unset).toArray = ls at hl ⊢
  have hl : lv_has ls 1 [(0, .ref ox)] := hl
  refine lv_aload_n hx hb d_X_release_0 rfl (lv_at hl 0 rfl) ?_
  refine va_get (D := (dC, dI)) (ci := 2) (v := .ref ga) (C := R_X) (T := F_X) (N := 6) hx hb ht i_X hown hK hP 0 rfl rfl 5 (by decide) (ht _ m_79) (fun _ h9 => h9) rfl d_X_release_1 ?_
  refine fg_calli (wc := [(ga, .inr (1, [.ref qu, .int (nI st), .int (nI nx), .int (nI bs), .int (nI wt), .int (nI ag), .int (nI rf), .int (nI ac)]))]) (wr := [(ox, .inr (2, [.ref tp, .int (nI n), .ref tk, .int (nI kl), .ref qu, .ref ga]))]) (fun (u : Nat) => [(ga, .inr (1, [.ref qu, .int (nI u), .int (nI nx), .int (nI bs), .int (nI 0), .int (nI ag), .int (nI rf), .int (nI ac)]))]) (va_runV (As := []) (rest := []) ⟨hx, hb, hml, hown, ht⟩ (c_G_release l dC dI cB cI cG ga qu st nx bs wt ag rf ac s.heap.size hg) (cwV 0 ht (fg_gV m_174 m_175 m_176 m_3 m_177) rfl rfl rfl (by decide +kernel) ⟨Nat.le_of_ble_eq_true rfl, Nat.le_of_ble_eq_true rfl⟩) (fg_preV hK (hP.sub [1] rfl) (hD.sub [1] (by decide) rfl) (va_recv hK hP (ci := 1) (q0 := 1) rfl rfl)) rfl rfl hl.1 rfl (lv_room (Nat.le_of_ble_eq_true rfl)) d_X_release_4 ⟨Nat.le_of_ble_eq_true rfl, Nat.le_of_ble_eq_true rfl⟩) hP hD hS hA [1] [0] rfl rfl (by decide) (by decide) (fun r_4 u H locs hw hP hD hS => ?_)
  obtain ⟨hr2, hu⟩ := hw
  obtain rfl : r_4 = nI (if ¬ wt = 0 ∨ st = 2 then 1 else 0) := hr2
  have hP : va_P (dC, dI) fgC [(ox, .inr (2, [.ref tp, .int (nI n), .ref tk, .int (nI kl), .ref qu, .ref ga])), (ga, .inr (1, [.ref qu, .int (nI u), .int (nI nx), .int (nI bs), .int (nI 0), .int (nI ag), .int (nI rf), .int (nI ac)]))] H := hP.sub [0, 1] rfl
  have hD : va_D A [(ox, .inr (2, [.ref tp, .int (nI n), .ref tk, .int (nI kl), .ref qu, .ref ga])), (ga, .inr (1, [.ref qu, .int (nI u), .int (nI nx), .int (nI bs), .int (nI 0), .int (nI ag), .int (nI rf), .int (nI ac)]))] := hD.sub [0, 1] (by decide) rfl
  exact W.zret (ty := .boolean) (v := (nI (if ¬ wt = 0 ∨ st = 2 then 1 else 0))) hx hb hr (fg_nZ (by (repeat' split) <;> omega)) (fun t9 ht9 hW9 => ⟨⟨(nI (if ¬ wt = 0 ∨ st = 2 then 1 else 0)), u, rfl, ⟨rfl, hu⟩, by rw [ht9]; exact hP, by rw [hAe]; exact hD⟩, hS.F ht9⟩) hS.2.2 d_X_release_7
set_option maxHeartbeats 4000000 in
set_option maxRecDepth 100000 in
/-- FrameGate.word() -/
theorem c_X_word (l : Launch) (dC : Nat → ClassId) (dI : Nat → Nat → Nat) (cB cI cG : ClassId) (ox tp tk qu ga n kl : Nat) (st nx bs wt ag rf ac : Nat) (sz : Nat) (hg : st < 4 ∧ nx < 256 ∧ bs < 4 ∧ wt < 2 ∧ ag < 2) : Met l y_X_word (Cond.code y_X_word b_X_word 1 (some .int) :: w_all) ({ frames := 1, cells := 0, slots := 0, locals := 21 }) (va_Pc [.ref ox] (fgPre (dC, dI) (tysA cB cI cG) [(ox, .inr (2, [.ref tp, .int (nI n), .ref tk, .int (nI kl), .ref qu, .ref ga])), (ga, .inr (1, [.ref qu, .int (nI st), .int (nI nx), .int (nI bs), .int (nI wt), .int (nI ag), .int (nI rf), .int (nI ac)]))] sz)) (vp_Si (fun r => r = nI (wrd st nx bs wt ag))) 0 0 (fun _ => False) := by
  refine Met.ofW (cc := b_X_word) (maxL := 1) (ret := (some .int)) (by decide) rfl ?_
  intro p e s m args below meth c s₁ B hml hv
  obtain ⟨rfl, hsz, hP, hK, hD0⟩ := hv
  have hx := B.exec
  have hb := B.bytes
  have hr := B.returns
  have hts := atoms_spec (ws := (Cond.code y_X_word b_X_word 1 (some .int) :: w_all)) B.pre
  have ht : ∀ w ∈ w_all, w.before _ s = true := fun w h => hts w (List.mem_cons_of_mem _ h)
  have hown : s.vm.findClass R_X = some m.cls := findClass_of_methodNamed B.named
  have hlocks := B.notSynchronized
  subst hsz
  have hD := hD0
  have hl := lv_entry ([.ref ox]) (n := 1) (Nat.le_of_ble_eq_true rfl)
  rw [lg_entry_eq]
  generalize (lg_sl ([.ref ox]) ++ List.replicate (1 - (lg_sl ([.ref ox])).length) Slot.unset).toArray = ls at hl ⊢
  have hl : lv_has ls 1 [(0, .ref ox)] := hl
  refine lv_aload_n hx hb d_X_word_0 rfl (lv_at hl 0 rfl) ?_
  refine va_get (D := (dC, dI)) (ci := 2) (v := .ref ga) (C := R_X) (T := F_X) (N := 6) hx hb ht i_X hown hK hP 0 rfl rfl 5 (by decide) (ht _ m_79) (fun _ h9 => h9) rfl d_X_word_1 ?_
  refine vp_callSi (va_Run.run (va_runV (As := []) (rest := []) ⟨hx, hb, hml, hown, ht⟩ (c_G_word l dC dI cB cI cG ga (.ref qu) (.int (nI rf)) (.int (nI ac)) st nx bs wt ag s.heap.size hg) (cwV 0 ht (fg_gV m_182 m_183 m_184 m_3 m_185) rfl rfl rfl (by decide +kernel) ⟨Nat.le_of_ble_eq_true rfl, Nat.le_of_ble_eq_true rfl⟩) (fg_preV hK (hP.sub [1] rfl) (hD.sub [1] (by decide) rfl) (va_recv hK hP (ci := 1) (q0 := 1) rfl rfl)) rfl rfl hl.1 rfl (lv_room (Nat.le_of_ble_eq_true rfl)) d_X_word_4 ⟨Nat.le_of_ble_eq_true rfl, Nat.le_of_ble_eq_true rfl⟩)) (fun r_4 er_4 => ?_)
  obtain rfl : r_4 = (nI (wrd st nx bs wt ag)) := er_4
  exact W.iret (v := (nI (wrd st nx bs wt ag))) hx hb hr (fun t9 ht9 hW9 => ⟨(nI (wrd st nx bs wt ag)), rfl, rfl, ht9⟩) (fun q h => by cases h) d_X_word_7
set_option maxHeartbeats 4000000 in
set_option maxRecDepth 100000 in
/-- FrameGate.give(wl, x) -/
theorem c_X_give (l : Launch) (dC : Nat → ClassId) (dI : Nat → Nat → Nat) (cB cI cG : ClassId) (ox tp tk qu ga n kl : Nat) (t : Nat → Int32) (wl : Int64) (x : Int32) (sz : Nat) (hn : n ≤ 259) : Met l y_X_give (Cond.code y_X_give b_X_give 5 (some .boolean) :: w_all) ({ frames := 0, cells := 0, slots := 0, locals := 0 }) (va_Pc [.ref ox, .long wl, .int x] (fgPre (dC, dI) (tysA cB cI cG) [(ox, .inr (2, [.ref tp, .int (nI n), .ref tk, .int (nI kl), .ref qu, .ref ga])), (tp, .inl (cB, 259, .inl t))] sz)) (va_Qi (fun (r9 : Int32) (u : Nat) => r9 = nI (if u = 0 then 0 else 1) ∧ u = gvK n x) (fun u t9 => fgPost (dC, dI) [(ox, .inr (2, [.ref tp, .int (nI n), .ref tk, .int (nI kl), .ref qu, .ref ga])), (tp, .inl (cB, 259, .inl t))] [(ox, .inr (2, [.ref tp, .int (nI (n + u)), .ref tk, .int (nI kl), .ref qu, .ref ga])), (tp, .inl (cB, 259, .inl (gv t n wl u)))] sz t9) (va_A [(ox, .inr (2, [.ref tp, .int (nI n), .ref tk, .int (nI kl), .ref qu, .ref ga])), (tp, .inl (cB, 259, .inl t))] sz)) 0 0 (va_A [(ox, .inr (2, [.ref tp, .int (nI n), .ref tk, .int (nI kl), .ref qu, .ref ga])), (tp, .inl (cB, 259, .inl t))] sz) := by
  refine Met.ofW (cc := b_X_give) (maxL := 5) (ret := (some .boolean)) (by decide) rfl ?_
  intro p e s m args below meth c s₁ B hml hv
  obtain ⟨rfl, hsz, hP, hK, hD0⟩ := hv
  have hx := B.exec
  have hb := B.bytes
  have hr := B.returns
  have hts := atoms_spec (ws := (Cond.code y_X_give b_X_give 5 (some .boolean) :: w_all)) B.pre
  have ht : ∀ w ∈ w_all, w.before _ s = true := fun w h => hts w (List.mem_cons_of_mem _ h)
  have hown : s.vm.findClass R_X = some m.cls := findClass_of_methodNamed B.named
  have hlocks := B.notSynchronized
  subst hsz
  have hD := hD0.self (sz := s.heap.size)
  generalize hAe : va_A [(ox, .inr (2, [.ref tp, .int (nI n), .ref tk, .int (nI kl), .ref qu, .ref ga])), (tp, .inl (cB, 259, .inl t))] s.heap.size = A at hD ⊢
  have hA : ∀ q : Nat, s.heap.size ≤ q → A q := fun q h => by rw [← hAe]; exact Or.inr h
  have hS : va_S A s.heap s.heap [] := va_S.rf
  have hl := lv_entry ([.ref ox, .long wl, .int x]) (n := 5) (Nat.le_of_ble_eq_true rfl)
  rw [lg_entry_eq]
  generalize (lg_sl ([.ref ox, .long wl, .int x]) ++ List.replicate (5 - (lg_sl ([.ref ox, .long wl, .int x])).length) Slot.unset).toArray = ls at hl ⊢
  have hl : lv_has ls 5 [(0, .ref ox), (1, .long wl), (3, .int x)] := hl
  refine lv_iload_n hx hb d_X_give_0 rfl (lv_at hl 2 rfl) ?_
  refine lv_iconst (v := (nI 1)) hx hb d_X_give_1 (by decide) ?_
  refine lv_icmp_lt (tgt := 23) hx hb d_X_give_2 (by decide) (fun c_2 => ?_) (fun c_2 => ?_)
  · refine lv_iconst (v := (nI 0)) hx hb d_X_give_23 (by decide) ?_
    exact W.zret (ty := .boolean) (v := (nI 0)) hx hb hr (fg_nZ (by omega)) (fun t9 ht9 hW9 => ⟨⟨(nI 0), 0, rfl, ⟨rfl, (gvK_lt c_2).symm⟩, by rw [ht9]; exact hP, by rw [hAe]; exact hD⟩, hS.F ht9⟩) hS.2.2 d_X_give_24
  · refine lv_iload_n hx hb d_X_give_5 rfl (lv_at hl 2 rfl) ?_
    refine lv_bipush (v := (nI 8)) hx hb d_X_give_6 (by decide) ?_
    refine lv_icmp_gt (tgt := 23) hx hb d_X_give_8 (by decide) (fun c_8 => ?_) (fun c_8 => ?_)
    · refine lv_iconst (v := (nI 0)) hx hb d_X_give_23 (by decide) ?_
      exact W.zret (ty := .boolean) (v := (nI 0)) hx hb hr (fg_nZ (by omega)) (fun t9 ht9 hW9 => ⟨⟨(nI 0), 0, rfl, ⟨rfl, (gvK_gt c_8).symm⟩, by rw [ht9]; exact hP, by rw [hAe]; exact hD⟩, hS.F ht9⟩) hS.2.2 d_X_give_24
    · obtain ⟨k, hk1, hk8, rfl⟩ := fg_rng c_2 c_8
      refine lv_aload_n hx hb d_X_give_11 rfl (lv_at hl 0 rfl) ?_
      refine va_get (D := (dC, dI)) (ci := 2) (v := .int (nI n)) (C := R_X) (T := F_X) (N := 6) hx hb ht i_X hown hK hP 0 rfl rfl 1 (by decide) (ht _ m_75) (fun _ h9 => h9) rfl d_X_give_12 ?_
      refine lv_iload_n hx hb d_X_give_15 rfl (lv_at hl 2 rfl) ?_
      refine fg_iadd hx hb d_X_give_16 ?_
      refine lv_sipush (v := (nI 259)) hx hb d_X_give_17 (by decide) ?_
      refine fg_cmp_le (tgt := 25) hx hb d_X_give_20 (by decide) (by omega) (by omega) (fun c_20 => ?_) (fun c_20 => ?_)
      · refine lv_iconst (v := (nI 0)) hx hb d_X_give_25 (by decide) ?_
        refine lv_istore (lv' := [(4, .int (nI 0)), (0, .ref ox), (1, .long wl), (3, .int (nI k))]) hx hb d_X_give_26 hl (by decide) rfl (fun ls hl => ?_)
        refine fg_loop (fun d ls H1 locs1 => ∃ i, i + d = k ∧ lv_has ls 5 [(0, .ref ox), (1, .long wl), (3, .int (nI k)), (4, .int (nI i))] ∧ va_P (dC, dI) fgC [(ox, .inr (2, [.ref tp, .int (nI (n + i)), .ref tk, .int (nI kl), .ref qu, .ref ga])), (tp, .inl (cB, 259, .inl (gv t n wl i)))] H1 ∧ va_D A [(ox, .inr (2, [.ref tp, .int (nI (n + i)), .ref tk, .int (nI kl), .ref qu, .ref ga])), (tp, .inl (cB, 259, .inl (gv t n wl i)))] ∧ va_S A s.heap H1 locs1) (fun d ih ls H locs hI => ?_) k ⟨0, by omega, lv_sub hl [1, 2, 3, 0] rfl, hP, hD, hS⟩
        obtain ⟨i, hi, hl, hP, hD, hS⟩ := hI
        refine lv_iload hx hb d_X_give_28 (lv_at hl 3 rfl) ?_
        refine lv_iload_n hx hb d_X_give_30 rfl (lv_at hl 2 rfl) ?_
        refine fg_cmp_ge (tgt := 68) hx hb d_X_give_31 (by decide) (by omega) (by omega) (fun c_31 => ?_) (fun c_31 => ?_)
        · refine lv_iconst (v := (nI 1)) hx hb d_X_give_68 (by decide) ?_
          obtain rfl : i = k := by omega
          exact W.zret (ty := .boolean) (v := (nI 1)) hx hb hr (fg_nZ (by omega)) (fun t9 ht9 hW9 => ⟨⟨(nI 1), i, rfl, ⟨(by rw [if_neg (by omega)]), (gvK_in hk1 hk8 (by omega)).symm⟩, by rw [ht9]; exact hP, by rw [hAe]; exact hD⟩, hS.F ht9⟩) hS.2.2 d_X_give_69
        · refine lv_aload_n hx hb d_X_give_34 rfl (lv_at hl 0 rfl) ?_
          refine va_get (D := (dC, dI)) (ci := 2) (v := .ref tp) (C := R_X) (T := F_X) (N := 6) hx hb ht i_X hown hK hP 0 rfl rfl 0 (by decide) (ht _ m_74) (fun _ h9 => h9) rfl d_X_give_35 ?_
          refine lv_aload_n hx hb d_X_give_38 rfl (lv_at hl 0 rfl) ?_
          refine lv_dup hx hb d_X_give_39 rfl ?_
          refine va_get (D := (dC, dI)) (ci := 2) (v := .int (nI (n + i))) (C := R_X) (T := F_X) (N := 6) hx hb ht i_X hown hK hP 0 rfl rfl 1 (by decide) (ht _ m_75) (fun _ h9 => h9) rfl d_X_give_40 ?_
          refine lv_dup_x1 hx hb d_X_give_43 rfl rfl ?_
          refine lv_iconst (v := (nI 1)) hx hb d_X_give_44 (by decide) ?_
          refine fg_iadd hx hb d_X_give_45 ?_
          refine va_put (D := (dC, dI)) (ci := 2) (v := .int (nI ((n + i) + 1))) (ty := .int) (C := R_X) (T := F_X) (N := 6) hx hb ht i_X t_X t_X_ok n_X hown hK hP hD hS 0 rfl rfl 1 (by decide) (ht _ m_75) (fun _ h9 => h9) rfl (t_X_ok 1 (by decide)) rfl rfl (Nat.le_of_ble_eq_true rfl) d_X_give_46 (fun H locs hP hD hS => ?_)
          have hP : va_P (dC, dI) fgC [(ox, .inr (2, [.ref tp, .int (nI ((n + i) + 1)), .ref tk, .int (nI kl), .ref qu, .ref ga])), (tp, .inl (cB, 259, .inl (gv t n wl i)))] H := hP
          have hD : va_D A [(ox, .inr (2, [.ref tp, .int (nI ((n + i) + 1)), .ref tk, .int (nI kl), .ref qu, .ref ga])), (tp, .inl (cB, 259, .inl (gv t n wl i)))] := hD
          refine lv_lload_n hx hb d_X_give_49 rfl (lv_at hl 1 rfl) ?_
          refine lv_bipush (v := (nI 56)) hx hb d_X_give_50 (by decide) ?_
          refine lv_bipush (v := (nI 8)) hx hb d_X_give_52 (by decide) ?_
          refine lv_iload hx hb d_X_give_54 (lv_at hl 3 rfl) ?_
          refine fg_imul hx hb d_X_give_56 ?_
          refine fg_isub hx hb d_X_give_57 (by omega) ?_
          refine lv_lshr (v := wl >>> ((nI (56 - (8 * i))).toInt64 &&& 63)) hx hb d_X_give_58 rfl ?_
          refine lv_l2i (v := (wl >>> ((nI (56 - (8 * i))).toInt64 &&& 63)).toInt32) hx hb d_X_give_59 rfl ?_
          refine lv_i2b (v := ((wl >>> ((nI (56 - (8 * i))).toInt64 &&& 63)).toInt32).toInt8.toInt32) hx hb d_X_give_60 rfl ?_
          refine fg_bast (y := ((wl >>> ((nI (56 - (8 * i))).toInt64 &&& 63)).toInt32).toInt8.toInt32) hx hb hK hP hD hS 1 0 rfl rfl (by omega) (by decide) (pk_vb _) d_X_give_61 (fun H locs hP hD hS => ?_)
          have hP : va_P (dC, dI) fgC [(ox, .inr (2, [.ref tp, .int (nI ((n + i) + 1)), .ref tk, .int (nI kl), .ref qu, .ref ga])), (tp, .inl (cB, 259, .inl (upd (gv t n wl i) (n + i) (((wl >>> ((nI (56 - (8 * i))).toInt64 &&& 63)).toInt32).toInt8.toInt32))))] H := hP
          have hD : va_D A [(ox, .inr (2, [.ref tp, .int (nI ((n + i) + 1)), .ref tk, .int (nI kl), .ref qu, .ref ga])), (tp, .inl (cB, 259, .inl (upd (gv t n wl i) (n + i) (((wl >>> ((nI (56 - (8 * i))).toInt64 &&& 63)).toInt32).toInt8.toInt32))))] := hD
          refine fg_iinc (n := 1) (k := 3) (lv' := [(4, .int (nI (i + 1))), (0, .ref ox), (1, .long wl), (3, .int (nI k))]) hx hb d_X_give_62 hl rfl (by decide) rfl (fun ls hl => ?_)
          refine lv_goto (tgt := 28) hx hb d_X_give_65 (by decide) ?_
          exact ih (d - 1) (by omega) _ _ _ ⟨i + 1, by omega, lv_sub hl [1, 2, 3, 0] rfl, hP, hD, hS⟩
      · refine lv_iconst (v := (nI 0)) hx hb d_X_give_23 (by decide) ?_
        exact W.zret (ty := .boolean) (v := (nI 0)) hx hb hr (fg_nZ (by omega)) (fun t9 ht9 hW9 => ⟨⟨(nI 0), 0, rfl, ⟨rfl, (gvK_out hk8 (by omega)).symm⟩, by rw [ht9]; exact hP, by rw [hAe]; exact hD⟩, hS.F ht9⟩) hS.2.2 d_X_give_24
set_option maxHeartbeats 4000000 in
set_option maxRecDepth 100000 in
/-- FrameGate.seal() -/
theorem c_X_seal (l : Launch) (dC : Nat → ClassId) (dI : Nat → Nat → Nat) (cB cI cG : ClassId) (ox tp tk qu ga n kl : Nat) (t : Nat → Int32) (sz : Nat) (hn : n ≤ 259) : Met l y_X_seal (Cond.code y_X_seal b_X_seal 2 (some .boolean) :: w_all) ({ frames := 1, cells := 0, slots := 0, locals := 25 }) (va_Pc [.ref ox] (fgPre (dC, dI) (tysA cB cI cG) [(ox, .inr (2, [.ref tp, .int (nI n), .ref tk, .int (nI kl), .ref qu, .ref ga])), (tp, .inl (cB, 259, .inl t))] sz)) (va_Qi (fun (r9 : Int32) (u : Nat × (Nat → Int32)) => r9 = nI (if n ≤ 257 then 1 else 0) ∧ u = if n ≤ 257 then (n + 2, sld t n) else (n, t)) (fun u t9 => fgPost (dC, dI) [(ox, .inr (2, [.ref tp, .int (nI n), .ref tk, .int (nI kl), .ref qu, .ref ga])), (tp, .inl (cB, 259, .inl t))] [(ox, .inr (2, [.ref tp, .int (nI u.1), .ref tk, .int (nI kl), .ref qu, .ref ga])), (tp, .inl (cB, 259, .inl u.2))] sz t9) (va_A [(ox, .inr (2, [.ref tp, .int (nI n), .ref tk, .int (nI kl), .ref qu, .ref ga])), (tp, .inl (cB, 259, .inl t))] sz)) 0 0 (va_A [(ox, .inr (2, [.ref tp, .int (nI n), .ref tk, .int (nI kl), .ref qu, .ref ga])), (tp, .inl (cB, 259, .inl t))] sz) := by
  refine Met.ofW (cc := b_X_seal) (maxL := 2) (ret := (some .boolean)) (by decide) rfl ?_
  intro p e s m args below meth c s₁ B hml hv
  obtain ⟨rfl, hsz, hP, hK, hD0⟩ := hv
  have hx := B.exec
  have hb := B.bytes
  have hr := B.returns
  have hts := atoms_spec (ws := (Cond.code y_X_seal b_X_seal 2 (some .boolean) :: w_all)) B.pre
  have ht : ∀ w ∈ w_all, w.before _ s = true := fun w h => hts w (List.mem_cons_of_mem _ h)
  have hown : s.vm.findClass R_X = some m.cls := findClass_of_methodNamed B.named
  have hlocks := B.notSynchronized
  subst hsz
  have hD := hD0.self (sz := s.heap.size)
  generalize hAe : va_A [(ox, .inr (2, [.ref tp, .int (nI n), .ref tk, .int (nI kl), .ref qu, .ref ga])), (tp, .inl (cB, 259, .inl t))] s.heap.size = A at hD ⊢
  have hA : ∀ q : Nat, s.heap.size ≤ q → A q := fun q h => by rw [← hAe]; exact Or.inr h
  have hS : va_S A s.heap s.heap [] := va_S.rf
  have hl := lv_entry ([.ref ox]) (n := 2) (Nat.le_of_ble_eq_true rfl)
  rw [lg_entry_eq]
  generalize (lg_sl ([.ref ox]) ++ List.replicate (2 - (lg_sl ([.ref ox])).length) Slot.unset).toArray = ls at hl ⊢
  have hl : lv_has ls 2 [(0, .ref ox)] := hl
  refine lv_aload_n hx hb d_X_seal_0 rfl (lv_at hl 0 rfl) ?_
  refine va_get (D := (dC, dI)) (ci := 2) (v := .int (nI n)) (C := R_X) (T := F_X) (N := 6) hx hb ht i_X hown hK hP 0 rfl rfl 1 (by decide) (ht _ m_75) (fun _ h9 => h9) rfl d_X_seal_1 ?_
  refine lv_iconst (v := (nI 2)) hx hb d_X_seal_4 (by decide) ?_
  refine fg_iadd hx hb d_X_seal_5 ?_
  refine lv_sipush (v := (nI 259)) hx hb d_X_seal_6 (by decide) ?_
  refine fg_cmp_le (tgt := 14) hx hb d_X_seal_9 (by decide) (by omega) (by omega) (fun c_9 => ?_) (fun c_9 => ?_)
  · refine lv_aload_n hx hb d_X_seal_14 rfl (lv_at hl 0 rfl) ?_
    refine va_get (D := (dC, dI)) (ci := 2) (v := .ref tp) (C := R_X) (T := F_X) (N := 6) hx hb ht i_X hown hK hP 0 rfl rfl 0 (by decide) (ht _ m_74) (fun _ h9 => h9) rfl d_X_seal_15 ?_
    refine lv_iconst (v := (nI 0)) hx hb d_X_seal_18 (by decide) ?_
    refine lv_aload_n hx hb d_X_seal_19 rfl (lv_at hl 0 rfl) ?_
    refine va_get (D := (dC, dI)) (ci := 2) (v := .int (nI n)) (C := R_X) (T := F_X) (N := 6) hx hb ht i_X hown hK hP 0 rfl rfl 1 (by decide) (ht _ m_75) (fun _ h9 => h9) rfl d_X_seal_20 ?_
    refine vp_callSi (va_Run.run (va_runS (As := [.ref tp, .int (nI 0), .int (nI n)]) (rest := []) ⟨hx, hb, hml, hown, ht⟩ (c_K_of l dC dI cB cI cG tp t n s.heap.size (by omega)) (va_cwS 3 ht (fg_gS m_101 m_102 m_5 m_103) rfl rfl rfl (by decide +kernel) ⟨Nat.le_of_ble_eq_true rfl, Nat.le_of_ble_eq_true rfl⟩) (fg_preS hK (hP.sub [1] rfl) (hD.sub [1] (by decide) rfl)) rfl rfl hl.1 rfl (lv_room (Nat.le_of_ble_eq_true rfl)) d_X_seal_23 ⟨Nat.le_of_ble_eq_true rfl, Nat.le_of_ble_eq_true rfl⟩)) (fun r_23 er_23 => ?_)
    obtain rfl : r_23 = (nI (crc t n)) := er_23
    have hcr := crc_lt t n
    refine lv_istore_n (lv' := [(1, .int (nI (crc t n))), (0, .ref ox)]) hx hb d_X_seal_26 rfl hl (by decide) rfl (fun ls hl => ?_)
    refine lv_aload_n hx hb d_X_seal_27 rfl (lv_at hl 1 rfl) ?_
    refine va_get (D := (dC, dI)) (ci := 2) (v := .ref tp) (C := R_X) (T := F_X) (N := 6) hx hb ht i_X hown hK hP 0 rfl rfl 0 (by decide) (ht _ m_74) (fun _ h9 => h9) rfl d_X_seal_28 ?_
    refine lv_aload_n hx hb d_X_seal_31 rfl (lv_at hl 1 rfl) ?_
    refine lv_dup hx hb d_X_seal_32 rfl ?_
    refine va_get (D := (dC, dI)) (ci := 2) (v := .int (nI n)) (C := R_X) (T := F_X) (N := 6) hx hb ht i_X hown hK hP 0 rfl rfl 1 (by decide) (ht _ m_75) (fun _ h9 => h9) rfl d_X_seal_33 ?_
    refine lv_dup_x1 hx hb d_X_seal_36 rfl rfl ?_
    refine lv_iconst (v := (nI 1)) hx hb d_X_seal_37 (by decide) ?_
    refine fg_iadd hx hb d_X_seal_38 ?_
    refine va_put (D := (dC, dI)) (ci := 2) (v := .int (nI (n + 1))) (ty := .int) (C := R_X) (T := F_X) (N := 6) hx hb ht i_X t_X t_X_ok n_X hown hK hP hD hS 0 rfl rfl 1 (by decide) (ht _ m_75) (fun _ h9 => h9) rfl (t_X_ok 1 (by decide)) rfl rfl (Nat.le_of_ble_eq_true rfl) d_X_seal_39 (fun H locs hP hD hS => ?_)
    have hP : va_P (dC, dI) fgC [(ox, .inr (2, [.ref tp, .int (nI (n + 1)), .ref tk, .int (nI kl), .ref qu, .ref ga])), (tp, .inl (cB, 259, .inl t))] H := hP
    have hD : va_D A [(ox, .inr (2, [.ref tp, .int (nI (n + 1)), .ref tk, .int (nI kl), .ref qu, .ref ga])), (tp, .inl (cB, 259, .inl t))] := hD
    refine lv_iload_n hx hb d_X_seal_42 rfl (lv_at hl 0 rfl) ?_
    refine lv_bipush (v := (nI 8)) hx hb d_X_seal_43 (by decide) ?_
    refine fg_ishr hx hb d_X_seal_45 (by decide) (by omega) ?_
    refine fg_nm (y := (nI (crc t n / 256))) (rfl) ?_
    refine lv_i2b (v := (nI (crc t n / 256)).toInt8.toInt32) hx hb d_X_seal_46 rfl ?_
    refine fg_bast (y := (nI (crc t n / 256)).toInt8.toInt32) hx hb hK hP hD hS 1 0 rfl rfl (by omega) (by decide) (pk_vb _) d_X_seal_47 (fun H locs hP hD hS => ?_)
    have hP : va_P (dC, dI) fgC [(ox, .inr (2, [.ref tp, .int (nI (n + 1)), .ref tk, .int (nI kl), .ref qu, .ref ga])), (tp, .inl (cB, 259, .inl (upd t n ((nI (crc t n / 256)).toInt8.toInt32))))] H := hP
    have hD : va_D A [(ox, .inr (2, [.ref tp, .int (nI (n + 1)), .ref tk, .int (nI kl), .ref qu, .ref ga])), (tp, .inl (cB, 259, .inl (upd t n ((nI (crc t n / 256)).toInt8.toInt32))))] := hD
    refine lv_aload_n hx hb d_X_seal_48 rfl (lv_at hl 1 rfl) ?_
    refine va_get (D := (dC, dI)) (ci := 2) (v := .ref tp) (C := R_X) (T := F_X) (N := 6) hx hb ht i_X hown hK hP 0 rfl rfl 0 (by decide) (ht _ m_74) (fun _ h9 => h9) rfl d_X_seal_49 ?_
    refine lv_aload_n hx hb d_X_seal_52 rfl (lv_at hl 1 rfl) ?_
    refine lv_dup hx hb d_X_seal_53 rfl ?_
    refine va_get (D := (dC, dI)) (ci := 2) (v := .int (nI (n + 1))) (C := R_X) (T := F_X) (N := 6) hx hb ht i_X hown hK hP 0 rfl rfl 1 (by decide) (ht _ m_75) (fun _ h9 => h9) rfl d_X_seal_54 ?_
    refine lv_dup_x1 hx hb d_X_seal_57 rfl rfl ?_
    refine lv_iconst (v := (nI 1)) hx hb d_X_seal_58 (by decide) ?_
    refine fg_iadd hx hb d_X_seal_59 ?_
    refine va_put (D := (dC, dI)) (ci := 2) (v := .int (nI ((n + 1) + 1))) (ty := .int) (C := R_X) (T := F_X) (N := 6) hx hb ht i_X t_X t_X_ok n_X hown hK hP hD hS 0 rfl rfl 1 (by decide) (ht _ m_75) (fun _ h9 => h9) rfl (t_X_ok 1 (by decide)) rfl rfl (Nat.le_of_ble_eq_true rfl) d_X_seal_60 (fun H locs hP hD hS => ?_)
    have hP : va_P (dC, dI) fgC [(ox, .inr (2, [.ref tp, .int (nI ((n + 1) + 1)), .ref tk, .int (nI kl), .ref qu, .ref ga])), (tp, .inl (cB, 259, .inl (upd t n ((nI (crc t n / 256)).toInt8.toInt32))))] H := hP
    have hD : va_D A [(ox, .inr (2, [.ref tp, .int (nI ((n + 1) + 1)), .ref tk, .int (nI kl), .ref qu, .ref ga])), (tp, .inl (cB, 259, .inl (upd t n ((nI (crc t n / 256)).toInt8.toInt32))))] := hD
    refine lv_iload_n hx hb d_X_seal_63 rfl (lv_at hl 0 rfl) ?_
    refine lv_i2b (v := (nI (crc t n)).toInt8.toInt32) hx hb d_X_seal_64 rfl ?_
    refine fg_bast (y := (nI (crc t n)).toInt8.toInt32) hx hb hK hP hD hS 1 0 rfl rfl (by omega) (by decide) (pk_vb _) d_X_seal_65 (fun H locs hP hD hS => ?_)
    have hP : va_P (dC, dI) fgC [(ox, .inr (2, [.ref tp, .int (nI ((n + 1) + 1)), .ref tk, .int (nI kl), .ref qu, .ref ga])), (tp, .inl (cB, 259, .inl (upd (upd t n ((nI (crc t n / 256)).toInt8.toInt32)) (n + 1) ((nI (crc t n)).toInt8.toInt32))))] H := hP
    have hD : va_D A [(ox, .inr (2, [.ref tp, .int (nI ((n + 1) + 1)), .ref tk, .int (nI kl), .ref qu, .ref ga])), (tp, .inl (cB, 259, .inl (upd (upd t n ((nI (crc t n / 256)).toInt8.toInt32)) (n + 1) ((nI (crc t n)).toInt8.toInt32))))] := hD
    refine lv_iconst (v := (nI 1)) hx hb d_X_seal_66 (by decide) ?_
    exact W.zret (ty := .boolean) (v := (nI 1)) hx hb hr (fg_nZ (by omega)) (fun t9 ht9 hW9 => ⟨⟨(nI 1), (n + 2, sld t n), rfl, ⟨by rw [if_pos (by omega)], by rw [if_pos (by omega)]⟩, by rw [ht9]; exact hP, by rw [hAe]; exact hD⟩, hS.F ht9⟩) hS.2.2 d_X_seal_67
  · refine lv_iconst (v := (nI 0)) hx hb d_X_seal_12 (by decide) ?_
    exact W.zret (ty := .boolean) (v := (nI 0)) hx hb hr (fg_nZ (by omega)) (fun t9 ht9 hW9 => ⟨⟨(nI 0), (n, t), rfl, ⟨by rw [if_neg (by omega)], by rw [if_neg (by omega)]⟩, by rw [ht9]; exact hP, by rw [hAe]; exact hD⟩, hS.F ht9⟩) hS.2.2 d_X_seal_13
set_option maxHeartbeats 4000000 in
set_option maxRecDepth 100000 in
/-- FrameGate.frame() -/
theorem c_X_frame (l : Launch) (dC : Nat → ClassId) (dI : Nat → Nat → Nat) (cB cI cG : ClassId) (ox tp tk ga qu qr qs : Nat) (r : Nat → Nat) (Rr : Nat → Nat → Int32) (S t : Nat → Int32) (f cn n kl : Nat) (st nx bs wt ag rf ac : Nat) (sz : Nat) (hB : BF t) (hf : f < 8) (hc : cn ≤ 8) (hn : n ≤ 259) (hg : st < 4 ∧ nx < 256 ∧ bs < 4 ∧ wt < 2 ∧ ag < 2) : Met l y_X_frame (Cond.code y_X_frame b_X_frame 2 (some .int) :: w_all) ({ frames := 5, cells := 0, slots := 0, locals := 113 }) (va_Pc [.ref ox] (fgPre (dC, dI) (tysA cB cI cG) ([(ox, .inr (2, [.ref tp, .int (nI n), .ref tk, .int (nI kl), .ref qu, .ref ga])), (tp, .inl (cB, 259, .inl t)), (ga, .inr (1, [.ref qu, .int (nI st), .int (nI nx), .int (nI bs), .int (nI wt), .int (nI ag), .int (nI rf), .int (nI ac)])), (qu, .inr (0, [.ref qr, .ref qs, .int (nI f), .int (nI cn)])), (qr, .inl (cG, 8, .inr (.inr (.inr (.inr (fun k => some (r k))))))), (qs, .inl (cI, 8, .inl S))] ++ rwL cB r Rr ++ []) sz)) (va_Qi (fun (r9 : Int32) (u : Nat × GS) => r9 = nI u.1 ∧ u = fr t n cn (st, nx, bs, wt, ag, rf, ac)) (fun u t9 => fgPost (dC, dI) ([(ox, .inr (2, [.ref tp, .int (nI n), .ref tk, .int (nI kl), .ref qu, .ref ga])), (tp, .inl (cB, 259, .inl t)), (ga, .inr (1, [.ref qu, .int (nI st), .int (nI nx), .int (nI bs), .int (nI wt), .int (nI ag), .int (nI rf), .int (nI ac)])), (qu, .inr (0, [.ref qr, .ref qs, .int (nI f), .int (nI cn)])), (qr, .inl (cG, 8, .inr (.inr (.inr (.inr (fun k => some (r k))))))), (qs, .inl (cI, 8, .inl S))] ++ rwL cB r Rr ++ []) ([(ox, .inr (2, [.ref tp, .int (nI 0), .ref tk, .int (nI kl), .ref qu, .ref ga])), (tp, .inl (cB, 259, .inl t)), (ga, .inr (1, [.ref qu, .int (nI u.2.1), .int (nI u.2.2.1), .int (nI u.2.2.2.1), .int (nI u.2.2.2.2.1), .int (nI u.2.2.2.2.2.1), .int (nI u.2.2.2.2.2.2.1), .int (nI u.2.2.2.2.2.2.2)])), (qu, .inr (0, [.ref qr, .ref qs, .int (nI f), .int (nI (pC u.1 cn))])), (qr, .inl (cG, 8, .inr (.inr (.inr (.inr (fun k => some (r k))))))), (qs, .inl (cI, 8, .inl (pS u.1 f cn (fL t - 6) S)))] ++ rwL cB r (pR u.1 f cn (fL t - 6) t Rr) ++ []) sz t9) (va_A ([(ox, .inr (2, [.ref tp, .int (nI n), .ref tk, .int (nI kl), .ref qu, .ref ga])), (tp, .inl (cB, 259, .inl t)), (ga, .inr (1, [.ref qu, .int (nI st), .int (nI nx), .int (nI bs), .int (nI wt), .int (nI ag), .int (nI rf), .int (nI ac)])), (qu, .inr (0, [.ref qr, .ref qs, .int (nI f), .int (nI cn)])), (qr, .inl (cG, 8, .inr (.inr (.inr (.inr (fun k => some (r k))))))), (qs, .inl (cI, 8, .inl S))] ++ rwL cB r Rr ++ []) sz)) 0 0 (va_A ([(ox, .inr (2, [.ref tp, .int (nI n), .ref tk, .int (nI kl), .ref qu, .ref ga])), (tp, .inl (cB, 259, .inl t)), (ga, .inr (1, [.ref qu, .int (nI st), .int (nI nx), .int (nI bs), .int (nI wt), .int (nI ag), .int (nI rf), .int (nI ac)])), (qu, .inr (0, [.ref qr, .ref qs, .int (nI f), .int (nI cn)])), (qr, .inl (cG, 8, .inr (.inr (.inr (.inr (fun k => some (r k))))))), (qs, .inl (cI, 8, .inl S))] ++ rwL cB r Rr ++ []) sz) := by
  refine Met.ofW (cc := b_X_frame) (maxL := 2) (ret := (some .int)) (by decide) rfl ?_
  intro p e s m args below meth c s₁ B hml hv
  obtain ⟨rfl, hsz, hP, hK, hD0⟩ := hv
  have hx := B.exec
  have hb := B.bytes
  have hr := B.returns
  have hts := atoms_spec (ws := (Cond.code y_X_frame b_X_frame 2 (some .int) :: w_all)) B.pre
  have ht : ∀ w ∈ w_all, w.before _ s = true := fun w h => hts w (List.mem_cons_of_mem _ h)
  have hown : s.vm.findClass R_X = some m.cls := findClass_of_methodNamed B.named
  have hlocks := B.notSynchronized
  subst hsz
  have hD := hD0.self (sz := s.heap.size)
  generalize hAe : va_A ([(ox, .inr (2, [.ref tp, .int (nI n), .ref tk, .int (nI kl), .ref qu, .ref ga])), (tp, .inl (cB, 259, .inl t)), (ga, .inr (1, [.ref qu, .int (nI st), .int (nI nx), .int (nI bs), .int (nI wt), .int (nI ag), .int (nI rf), .int (nI ac)])), (qu, .inr (0, [.ref qr, .ref qs, .int (nI f), .int (nI cn)])), (qr, .inl (cG, 8, .inr (.inr (.inr (.inr (fun k => some (r k))))))), (qs, .inl (cI, 8, .inl S))] ++ rwL cB r Rr ++ []) s.heap.size = A at hD ⊢
  have hA : ∀ q : Nat, s.heap.size ≤ q → A q := fun q h => by rw [← hAe]; exact Or.inr h
  have hS : va_S A s.heap s.heap [] := va_S.rf
  have hl := lv_entry ([.ref ox]) (n := 2) (Nat.le_of_ble_eq_true rfl)
  rw [lg_entry_eq]
  generalize (lg_sl ([.ref ox]) ++ List.replicate (2 - (lg_sl ([.ref ox])).length) Slot.unset).toArray = ls at hl ⊢
  have hl : lv_has ls 2 [(0, .ref ox)] := hl
  refine lv_aload_n hx hb d_X_frame_0 rfl (lv_at hl 0 rfl) ?_
  refine va_get (D := (dC, dI)) (ci := 2) (v := .int (nI n)) (C := R_X) (T := F_X) (N := 6) hx hb ht i_X hown hK hP 0 rfl rfl 1 (by decide) (ht _ m_75) (fun _ h9 => h9) rfl d_X_frame_1 ?_
  refine lv_istore_n (lv' := [(1, .int (nI n)), (0, .ref ox)]) hx hb d_X_frame_4 rfl hl (by decide) rfl (fun ls hl => ?_)
  refine lv_aload_n hx hb d_X_frame_5 rfl (lv_at hl 1 rfl) ?_
  refine lv_iconst (v := (nI 0)) hx hb d_X_frame_6 (by decide) ?_
  refine va_put (D := (dC, dI)) (ci := 2) (v := .int (nI 0)) (ty := .int) (C := R_X) (T := F_X) (N := 6) hx hb ht i_X t_X t_X_ok n_X hown hK hP hD hS 0 rfl rfl 1 (by decide) (ht _ m_75) (fun _ h9 => h9) rfl (t_X_ok 1 (by decide)) rfl rfl (Nat.le_of_ble_eq_true rfl) d_X_frame_7 (fun H locs hP hD hS => ?_)
  have hP : va_P (dC, dI) fgC ([(ox, .inr (2, [.ref tp, .int (nI 0), .ref tk, .int (nI kl), .ref qu, .ref ga])), (tp, .inl (cB, 259, .inl t)), (ga, .inr (1, [.ref qu, .int (nI st), .int (nI nx), .int (nI bs), .int (nI wt), .int (nI ag), .int (nI rf), .int (nI ac)])), (qu, .inr (0, [.ref qr, .ref qs, .int (nI f), .int (nI cn)])), (qr, .inl (cG, 8, .inr (.inr (.inr (.inr (fun k => some (r k))))))), (qs, .inl (cI, 8, .inl S))] ++ rwL cB r Rr ++ []) H := hP
  have hD : va_D A ([(ox, .inr (2, [.ref tp, .int (nI 0), .ref tk, .int (nI kl), .ref qu, .ref ga])), (tp, .inl (cB, 259, .inl t)), (ga, .inr (1, [.ref qu, .int (nI st), .int (nI nx), .int (nI bs), .int (nI wt), .int (nI ag), .int (nI rf), .int (nI ac)])), (qu, .inr (0, [.ref qr, .ref qs, .int (nI f), .int (nI cn)])), (qr, .inl (cG, 8, .inr (.inr (.inr (.inr (fun k => some (r k))))))), (qs, .inl (cI, 8, .inl S))] ++ rwL cB r Rr ++ []) := hD
  refine lv_aload_n hx hb d_X_frame_10 rfl (lv_at hl 1 rfl) ?_
  refine va_get (D := (dC, dI)) (ci := 2) (v := .ref ga) (C := R_X) (T := F_X) (N := 6) hx hb ht i_X hown hK hP 0 rfl rfl 5 (by decide) (ht _ m_79) (fun _ h9 => h9) rfl d_X_frame_11 ?_
  refine lv_aload_n hx hb d_X_frame_14 rfl (lv_at hl 1 rfl) ?_
  refine va_get (D := (dC, dI)) (ci := 2) (v := .ref tp) (C := R_X) (T := F_X) (N := 6) hx hb ht i_X hown hK hP 0 rfl rfl 0 (by decide) (ht _ m_74) (fun _ h9 => h9) rfl d_X_frame_15 ?_
  refine lv_iload_n hx hb d_X_frame_18 rfl (lv_at hl 0 rfl) ?_
  refine fg_calli (wc := ([(ga, .inr (1, [.ref qu, .int (nI st), .int (nI nx), .int (nI bs), .int (nI wt), .int (nI ag), .int (nI rf), .int (nI ac)])), (qu, .inr (0, [.ref qr, .ref qs, .int (nI f), .int (nI cn)])), (qr, .inl (cG, 8, .inr (.inr (.inr (.inr (fun k => some (r k))))))), (qs, .inl (cI, 8, .inl S))] ++ rwL cB r Rr ++ [(tp, .inl (cB, 259, .inl t))])) (wr := [(ox, .inr (2, [.ref tp, .int (nI 0), .ref tk, .int (nI kl), .ref qu, .ref ga]))]) (fun (u : Nat × GS) => ([(ga, .inr (1, [.ref qu, .int (nI u.2.1), .int (nI u.2.2.1), .int (nI u.2.2.2.1), .int (nI u.2.2.2.2.1), .int (nI u.2.2.2.2.2.1), .int (nI u.2.2.2.2.2.2.1), .int (nI u.2.2.2.2.2.2.2)])), (qu, .inr (0, [.ref qr, .ref qs, .int (nI f), .int (nI (pC u.1 cn))])), (qr, .inl (cG, 8, .inr (.inr (.inr (.inr (fun k => some (r k))))))), (qs, .inl (cI, 8, .inl (pS u.1 f cn (fL t - 6) S)))] ++ rwL cB r (pR u.1 f cn (fL t - 6) t Rr) ++ [(tp, .inl (cB, 259, .inl t))])) (va_runV (As := [.ref tp, .int (nI n)]) (rest := []) ⟨hx, hb, hml, hown, ht⟩ (c_G_frame l dC dI cB cI cG ga qu qr qs tp r Rr S t f cn n st nx bs wt ag rf ac H.size hB hf hc hn hg) (cwV 2 ht (fg_gV m_115 m_116 m_117 m_3 m_118) rfl rfl rfl (by decide +kernel) ⟨Nat.le_of_ble_eq_true rfl, Nat.le_of_ble_eq_true rfl⟩) (fg_preV hK (hP.sub [2, 3, 4, 5, 6, 7, 8, 9, 10, 11, 12, 13, 1] rfl) (hD.sub [2, 3, 4, 5, 6, 7, 8, 9, 10, 11, 12, 13, 1] (by decide) rfl) (va_recv hK hP (ci := 1) (q0 := 2) rfl rfl)) rfl rfl hl.1 rfl (lv_room (Nat.le_of_ble_eq_true rfl)) d_X_frame_19 ⟨Nat.le_of_ble_eq_true rfl, Nat.le_of_ble_eq_true rfl⟩) hP hD hS hA [2, 3, 4, 5, 6, 7, 8, 9, 10, 11, 12, 13, 1] [0] rfl rfl (by decide) (by decide) (fun r_19 u H locs hw hP hD hS => ?_)
  obtain ⟨hr2, hu⟩ := hw
  obtain rfl : r_19 = nI u.1 := hr2
  have hP : va_P (dC, dI) fgC ([(ox, .inr (2, [.ref tp, .int (nI 0), .ref tk, .int (nI kl), .ref qu, .ref ga])), (tp, .inl (cB, 259, .inl t)), (ga, .inr (1, [.ref qu, .int (nI u.2.1), .int (nI u.2.2.1), .int (nI u.2.2.2.1), .int (nI u.2.2.2.2.1), .int (nI u.2.2.2.2.2.1), .int (nI u.2.2.2.2.2.2.1), .int (nI u.2.2.2.2.2.2.2)])), (qu, .inr (0, [.ref qr, .ref qs, .int (nI f), .int (nI (pC u.1 cn))])), (qr, .inl (cG, 8, .inr (.inr (.inr (.inr (fun k => some (r k))))))), (qs, .inl (cI, 8, .inl (pS u.1 f cn (fL t - 6) S)))] ++ rwL cB r (pR u.1 f cn (fL t - 6) t Rr) ++ []) H := hP.sub [0, 13, 1, 2, 3, 4, 5, 6, 7, 8, 9, 10, 11, 12] rfl
  have hD : va_D A ([(ox, .inr (2, [.ref tp, .int (nI 0), .ref tk, .int (nI kl), .ref qu, .ref ga])), (tp, .inl (cB, 259, .inl t)), (ga, .inr (1, [.ref qu, .int (nI u.2.1), .int (nI u.2.2.1), .int (nI u.2.2.2.1), .int (nI u.2.2.2.2.1), .int (nI u.2.2.2.2.2.1), .int (nI u.2.2.2.2.2.2.1), .int (nI u.2.2.2.2.2.2.2)])), (qu, .inr (0, [.ref qr, .ref qs, .int (nI f), .int (nI (pC u.1 cn))])), (qr, .inl (cG, 8, .inr (.inr (.inr (.inr (fun k => some (r k))))))), (qs, .inl (cI, 8, .inl (pS u.1 f cn (fL t - 6) S)))] ++ rwL cB r (pR u.1 f cn (fL t - 6) t Rr) ++ []) := hD.sub [0, 13, 1, 2, 3, 4, 5, 6, 7, 8, 9, 10, 11, 12] (by decide) rfl
  exact W.iret (v := (nI u.1)) hx hb hr (fun t9 ht9 hW9 => ⟨⟨(nI u.1), u, rfl, ⟨rfl, hu⟩, by rw [ht9]; exact hP, by rw [hAe]; exact hD⟩, hS.F ht9⟩) hS.2.2 d_X_frame_22
set_option maxHeartbeats 4000000 in
set_option maxRecDepth 100000 in
/-- FrameGate.take() -/
theorem c_X_take (l : Launch) (dC : Nat → ClassId) (dI : Nat → Nat → Nat) (cB cI cG : ClassId) (ox tp tk ga qu qr qs : Nat) (r : Nat → Nat) (Rr : Nat → Nat → Int32) (S T : Nat → Int32) (f cn n kl k : Nat) (sz : Nat) (hB : ∀ a, BF (Rr a)) (hf : f < 8) (hc : cn ≤ 8) (hk : 0 < cn → S f = nI k ∧ k ≤ 252) : Met l y_X_take (Cond.code y_X_take b_X_take 2 (some .int) :: w_all) ({ frames := 2, cells := 0, slots := 0, locals := 48 }) (va_Pc [.ref ox] (fgPre (dC, dI) (tysA cB cI cG) ([(ox, .inr (2, [.ref tp, .int (nI n), .ref tk, .int (nI kl), .ref qu, .ref ga])), (tk, .inl (cB, 252, .inl T)), (qu, .inr (0, [.ref qr, .ref qs, .int (nI f), .int (nI cn)])), (qr, .inl (cG, 8, .inr (.inr (.inr (.inr (fun k => some (r k))))))), (qs, .inl (cI, 8, .inl S))] ++ rwL cB r Rr ++ []) sz)) (va_Qi (fun (r9 : Int32) (u : Nat × Nat × (Nat → Int32) × Nat) => (cn = 0 ∧ r9 = -1 ∧ u = (f, cn, T, kl)) ∨ (0 < cn ∧ r9 = nI k ∧ u = ((f + 1) % 8, cn - 1, va_cpy (Rr f) T 0 0 k, k))) (fun u t9 => fgPost (dC, dI) ([(ox, .inr (2, [.ref tp, .int (nI n), .ref tk, .int (nI kl), .ref qu, .ref ga])), (tk, .inl (cB, 252, .inl T)), (qu, .inr (0, [.ref qr, .ref qs, .int (nI f), .int (nI cn)])), (qr, .inl (cG, 8, .inr (.inr (.inr (.inr (fun k => some (r k))))))), (qs, .inl (cI, 8, .inl S))] ++ rwL cB r Rr ++ []) ([(ox, .inr (2, [.ref tp, .int (nI n), .ref tk, .int (nI u.2.2.2), .ref qu, .ref ga])), (tk, .inl (cB, 252, .inl u.2.2.1)), (qu, .inr (0, [.ref qr, .ref qs, .int (nI u.1), .int (nI u.2.1)])), (qr, .inl (cG, 8, .inr (.inr (.inr (.inr (fun k => some (r k))))))), (qs, .inl (cI, 8, .inl S))] ++ rwL cB r Rr ++ []) sz t9) (va_A ([(ox, .inr (2, [.ref tp, .int (nI n), .ref tk, .int (nI kl), .ref qu, .ref ga])), (tk, .inl (cB, 252, .inl T)), (qu, .inr (0, [.ref qr, .ref qs, .int (nI f), .int (nI cn)])), (qr, .inl (cG, 8, .inr (.inr (.inr (.inr (fun k => some (r k))))))), (qs, .inl (cI, 8, .inl S))] ++ rwL cB r Rr ++ []) sz)) 0 0 (va_A ([(ox, .inr (2, [.ref tp, .int (nI n), .ref tk, .int (nI kl), .ref qu, .ref ga])), (tk, .inl (cB, 252, .inl T)), (qu, .inr (0, [.ref qr, .ref qs, .int (nI f), .int (nI cn)])), (qr, .inl (cG, 8, .inr (.inr (.inr (.inr (fun k => some (r k))))))), (qs, .inl (cI, 8, .inl S))] ++ rwL cB r Rr ++ []) sz) := by
  refine Met.ofW (cc := b_X_take) (maxL := 2) (ret := (some .int)) (by decide) rfl ?_
  intro p e s m args below meth c s₁ B hml hv
  obtain ⟨rfl, hsz, hP, hK, hD0⟩ := hv
  have hx := B.exec
  have hb := B.bytes
  have hr := B.returns
  have hts := atoms_spec (ws := (Cond.code y_X_take b_X_take 2 (some .int) :: w_all)) B.pre
  have ht : ∀ w ∈ w_all, w.before _ s = true := fun w h => hts w (List.mem_cons_of_mem _ h)
  have hown : s.vm.findClass R_X = some m.cls := findClass_of_methodNamed B.named
  have hlocks := B.notSynchronized
  subst hsz
  have hD := hD0.self (sz := s.heap.size)
  generalize hAe : va_A ([(ox, .inr (2, [.ref tp, .int (nI n), .ref tk, .int (nI kl), .ref qu, .ref ga])), (tk, .inl (cB, 252, .inl T)), (qu, .inr (0, [.ref qr, .ref qs, .int (nI f), .int (nI cn)])), (qr, .inl (cG, 8, .inr (.inr (.inr (.inr (fun k => some (r k))))))), (qs, .inl (cI, 8, .inl S))] ++ rwL cB r Rr ++ []) s.heap.size = A at hD ⊢
  have hA : ∀ q : Nat, s.heap.size ≤ q → A q := fun q h => by rw [← hAe]; exact Or.inr h
  have hS : va_S A s.heap s.heap [] := va_S.rf
  have hl := lv_entry ([.ref ox]) (n := 2) (Nat.le_of_ble_eq_true rfl)
  rw [lg_entry_eq]
  generalize (lg_sl ([.ref ox]) ++ List.replicate (2 - (lg_sl ([.ref ox])).length) Slot.unset).toArray = ls at hl ⊢
  have hl : lv_has ls 2 [(0, .ref ox)] := hl
  refine lv_aload_n hx hb d_X_take_0 rfl (lv_at hl 0 rfl) ?_
  refine va_get (D := (dC, dI)) (ci := 2) (v := .ref qu) (C := R_X) (T := F_X) (N := 6) hx hb ht i_X hown hK hP 0 rfl rfl 4 (by decide) (ht _ m_78) (fun _ h9 => h9) rfl d_X_take_1 ?_
  refine lv_aload_n hx hb d_X_take_4 rfl (lv_at hl 0 rfl) ?_
  refine va_get (D := (dC, dI)) (ci := 2) (v := .ref tk) (C := R_X) (T := F_X) (N := 6) hx hb ht i_X hown hK hP 0 rfl rfl 2 (by decide) (ht _ m_76) (fun _ h9 => h9) rfl d_X_take_5 ?_
  refine fg_calli (wc := ([(qu, .inr (0, [.ref qr, .ref qs, .int (nI f), .int (nI cn)])), (qr, .inl (cG, 8, .inr (.inr (.inr (.inr (fun k => some (r k))))))), (qs, .inl (cI, 8, .inl S))] ++ rwL cB r Rr ++ [(tk, .inl (cB, 252, .inl T))])) (wr := [(ox, .inr (2, [.ref tp, .int (nI n), .ref tk, .int (nI kl), .ref qu, .ref ga]))]) (fun (u : Nat × Nat × (Nat → Int32)) => ([(qu, .inr (0, [.ref qr, .ref qs, .int (nI u.1), .int (nI u.2.1)])), (qr, .inl (cG, 8, .inr (.inr (.inr (.inr (fun k => some (r k))))))), (qs, .inl (cI, 8, .inl S))] ++ rwL cB r Rr ++ [(tk, .inl (cB, 252, .inl u.2.2))])) (va_runV (As := [.ref tk]) (rest := []) ⟨hx, hb, hml, hown, ht⟩ (c_Q_take l dC dI cB cI cG qu qr qs tk r Rr S T f cn k s.heap.size hB hf hc hk) (cwV 1 ht (fg_gV m_162 m_163 m_164 m_2 m_165) rfl rfl rfl (by decide +kernel) ⟨Nat.le_of_ble_eq_true rfl, Nat.le_of_ble_eq_true rfl⟩) (fg_preV hK (hP.sub [2, 3, 4, 5, 6, 7, 8, 9, 10, 11, 12, 1] rfl) (hD.sub [2, 3, 4, 5, 6, 7, 8, 9, 10, 11, 12, 1] (by decide) rfl) (va_recv hK hP (ci := 0) (q0 := 2) rfl rfl)) rfl rfl hl.1 rfl (lv_room (Nat.le_of_ble_eq_true rfl)) d_X_take_8 ⟨Nat.le_of_ble_eq_true rfl, Nat.le_of_ble_eq_true rfl⟩) hP hD hS hA [2, 3, 4, 5, 6, 7, 8, 9, 10, 11, 12, 1] [0] rfl rfl (by decide) (by decide) (fun r_8 u H locs hw hP hD hS => ?_)
  have hP : va_P (dC, dI) fgC ([(ox, .inr (2, [.ref tp, .int (nI n), .ref tk, .int (nI kl), .ref qu, .ref ga])), (tk, .inl (cB, 252, .inl u.2.2)), (qu, .inr (0, [.ref qr, .ref qs, .int (nI u.1), .int (nI u.2.1)])), (qr, .inl (cG, 8, .inr (.inr (.inr (.inr (fun k => some (r k))))))), (qs, .inl (cI, 8, .inl S))] ++ rwL cB r Rr ++ []) H := hP.sub [0, 12, 1, 2, 3, 4, 5, 6, 7, 8, 9, 10, 11] rfl
  have hD : va_D A ([(ox, .inr (2, [.ref tp, .int (nI n), .ref tk, .int (nI kl), .ref qu, .ref ga])), (tk, .inl (cB, 252, .inl u.2.2)), (qu, .inr (0, [.ref qr, .ref qs, .int (nI u.1), .int (nI u.2.1)])), (qr, .inl (cG, 8, .inr (.inr (.inr (.inr (fun k => some (r k))))))), (qs, .inl (cI, 8, .inl S))] ++ rwL cB r Rr ++ []) := hD.sub [0, 12, 1, 2, 3, 4, 5, 6, 7, 8, 9, 10, 11] (by decide) rfl
  rcases hw with ⟨h0, hr2, rfl⟩ | ⟨h0, hr2, rfl⟩
  · obtain rfl : r_8 = -1 := hr2
    have hP : va_P (dC, dI) fgC ([(ox, .inr (2, [.ref tp, .int (nI n), .ref tk, .int (nI kl), .ref qu, .ref ga])), (tk, .inl (cB, 252, .inl T)), (qu, .inr (0, [.ref qr, .ref qs, .int (nI f), .int (nI cn)])), (qr, .inl (cG, 8, .inr (.inr (.inr (.inr (fun k => some (r k))))))), (qs, .inl (cI, 8, .inl S))] ++ rwL cB r Rr ++ []) H := hP
    have hD : va_D A ([(ox, .inr (2, [.ref tp, .int (nI n), .ref tk, .int (nI kl), .ref qu, .ref ga])), (tk, .inl (cB, 252, .inl T)), (qu, .inr (0, [.ref qr, .ref qs, .int (nI f), .int (nI cn)])), (qr, .inl (cG, 8, .inr (.inr (.inr (.inr (fun k => some (r k))))))), (qs, .inl (cI, 8, .inl S))] ++ rwL cB r Rr ++ []) := hD
    refine lv_istore_n (lv' := [(1, .int (-1)), (0, .ref ox)]) hx hb d_X_take_11 rfl hl (by decide) rfl (fun ls hl => ?_)
    refine lv_aload_n hx hb d_X_take_12 rfl (lv_at hl 1 rfl) ?_
    refine lv_iload_n hx hb d_X_take_13 rfl (lv_at hl 0 rfl) ?_
    refine lv_iconst (v := (-1)) hx hb d_X_take_14 (by decide) ?_
    refine lv_icmp_ne (tgt := 25) hx hb d_X_take_15 (by decide) (fun c_15 => ?_) (fun c_15 => ?_)
    · exact absurd rfl c_15
    · refine lv_aload_n hx hb d_X_take_18 rfl (lv_at hl 1 rfl) ?_
      refine va_get (D := (dC, dI)) (ci := 2) (v := .int (nI kl)) (C := R_X) (T := F_X) (N := 6) hx hb ht i_X hown hK hP 0 rfl rfl 3 (by decide) (ht _ m_77) (fun _ h9 => h9) rfl d_X_take_19 ?_
      refine lv_goto (tgt := 26) hx hb d_X_take_22 (by decide) ?_
      refine va_put (D := (dC, dI)) (ci := 2) (v := .int (nI kl)) (ty := .int) (C := R_X) (T := F_X) (N := 6) hx hb ht i_X t_X t_X_ok n_X hown hK hP hD hS 0 rfl rfl 3 (by decide) (ht _ m_77) (fun _ h9 => h9) rfl (t_X_ok 3 (by decide)) rfl rfl (Nat.le_of_ble_eq_true rfl) d_X_take_26 (fun H locs hP hD hS => ?_)
      have hP : va_P (dC, dI) fgC ([(ox, .inr (2, [.ref tp, .int (nI n), .ref tk, .int (nI kl), .ref qu, .ref ga])), (tk, .inl (cB, 252, .inl T)), (qu, .inr (0, [.ref qr, .ref qs, .int (nI f), .int (nI cn)])), (qr, .inl (cG, 8, .inr (.inr (.inr (.inr (fun k => some (r k))))))), (qs, .inl (cI, 8, .inl S))] ++ rwL cB r Rr ++ []) H := hP
      have hD : va_D A ([(ox, .inr (2, [.ref tp, .int (nI n), .ref tk, .int (nI kl), .ref qu, .ref ga])), (tk, .inl (cB, 252, .inl T)), (qu, .inr (0, [.ref qr, .ref qs, .int (nI f), .int (nI cn)])), (qr, .inl (cG, 8, .inr (.inr (.inr (.inr (fun k => some (r k))))))), (qs, .inl (cI, 8, .inl S))] ++ rwL cB r Rr ++ []) := hD
      refine lv_iload_n hx hb d_X_take_29 rfl (lv_at hl 0 rfl) ?_
      exact W.iret (v := (-1)) hx hb hr (fun t9 ht9 hW9 => ⟨⟨(-1), (f, cn, T, kl), rfl, Or.inl ⟨h0, rfl, rfl⟩, by rw [ht9]; exact hP, by rw [hAe]; exact hD⟩, hS.F ht9⟩) hS.2.2 d_X_take_30
  · obtain rfl : r_8 = nI k := hr2
    obtain ⟨hk1, hk2⟩ := hk h0
    have hP : va_P (dC, dI) fgC ([(ox, .inr (2, [.ref tp, .int (nI n), .ref tk, .int (nI kl), .ref qu, .ref ga])), (tk, .inl (cB, 252, .inl (va_cpy (Rr f) T 0 0 k))), (qu, .inr (0, [.ref qr, .ref qs, .int (nI ((f + 1) % 8)), .int (nI (cn - 1))])), (qr, .inl (cG, 8, .inr (.inr (.inr (.inr (fun k => some (r k))))))), (qs, .inl (cI, 8, .inl S))] ++ rwL cB r Rr ++ []) H := hP
    have hD : va_D A ([(ox, .inr (2, [.ref tp, .int (nI n), .ref tk, .int (nI kl), .ref qu, .ref ga])), (tk, .inl (cB, 252, .inl (va_cpy (Rr f) T 0 0 k))), (qu, .inr (0, [.ref qr, .ref qs, .int (nI ((f + 1) % 8)), .int (nI (cn - 1))])), (qr, .inl (cG, 8, .inr (.inr (.inr (.inr (fun k => some (r k))))))), (qs, .inl (cI, 8, .inl S))] ++ rwL cB r Rr ++ []) := hD
    refine lv_istore_n (lv' := [(1, .int (nI k)), (0, .ref ox)]) hx hb d_X_take_11 rfl hl (by decide) rfl (fun ls hl => ?_)
    refine lv_aload_n hx hb d_X_take_12 rfl (lv_at hl 1 rfl) ?_
    refine lv_iload_n hx hb d_X_take_13 rfl (lv_at hl 0 rfl) ?_
    refine lv_iconst (v := (-1)) hx hb d_X_take_14 (by decide) ?_
    refine lv_icmp_ne (tgt := 25) hx hb d_X_take_15 (by decide) (fun c_15 => ?_) (fun c_15 => ?_)
    · refine lv_iload_n hx hb d_X_take_25 rfl (lv_at hl 0 rfl) ?_
      refine va_put (D := (dC, dI)) (ci := 2) (v := .int (nI k)) (ty := .int) (C := R_X) (T := F_X) (N := 6) hx hb ht i_X t_X t_X_ok n_X hown hK hP hD hS 0 rfl rfl 3 (by decide) (ht _ m_77) (fun _ h9 => h9) rfl (t_X_ok 3 (by decide)) rfl rfl (Nat.le_of_ble_eq_true rfl) d_X_take_26 (fun H locs hP hD hS => ?_)
      have hP : va_P (dC, dI) fgC ([(ox, .inr (2, [.ref tp, .int (nI n), .ref tk, .int (nI k), .ref qu, .ref ga])), (tk, .inl (cB, 252, .inl (va_cpy (Rr f) T 0 0 k))), (qu, .inr (0, [.ref qr, .ref qs, .int (nI ((f + 1) % 8)), .int (nI (cn - 1))])), (qr, .inl (cG, 8, .inr (.inr (.inr (.inr (fun k => some (r k))))))), (qs, .inl (cI, 8, .inl S))] ++ rwL cB r Rr ++ []) H := hP
      have hD : va_D A ([(ox, .inr (2, [.ref tp, .int (nI n), .ref tk, .int (nI k), .ref qu, .ref ga])), (tk, .inl (cB, 252, .inl (va_cpy (Rr f) T 0 0 k))), (qu, .inr (0, [.ref qr, .ref qs, .int (nI ((f + 1) % 8)), .int (nI (cn - 1))])), (qr, .inl (cG, 8, .inr (.inr (.inr (.inr (fun k => some (r k))))))), (qs, .inl (cI, 8, .inl S))] ++ rwL cB r Rr ++ []) := hD
      refine lv_iload_n hx hb d_X_take_29 rfl (lv_at hl 0 rfl) ?_
      exact W.iret (v := (nI k)) hx hb hr (fun t9 ht9 hW9 => ⟨⟨(nI k), ((f + 1) % 8, cn - 1, va_cpy (Rr f) T 0 0 k, k), rfl, Or.inr ⟨h0, rfl, rfl⟩, by rw [ht9]; exact hP, by rw [hAe]; exact hD⟩, hS.F ht9⟩) hS.2.2 d_X_take_30
    · exact absurd c_15 (fg_nm1 (by omega))
end
section
def pQ (w c k : Nat) (t q : Nat → Int32) : Nat → Int32 := if w = 1 ∨ w = 2 then va_cpy t q 5 (256 * c) k else q
def pL (w c k : Nat) (ln : Nat → Int32) : Nat → Int32 := if w = 1 ∨ w = 2 then upd ln c (nI k) else ln
theorem cpy_0 {f g : Nat → Int32} {a b : Nat} : va_cpy f g a b 0 = g := by
  funext j
  exact pk_cpy_out (by omega)
theorem cpy_s {f g : Nat → Int32} {a b i : Nat} : upd (va_cpy f g a b i) (b + i) (f (a + i)) = va_cpy f g a b (i + 1) := by
  funext j
  by_cases h : j = b + i
  · subst h
    rw [pk_us, pk_cpy_in (by omega) (by omega)]
    congr 1
    omega
  · rw [pk_un h]
    by_cases h2 : b ≤ j ∧ j < b + i
    · rw [pk_cpy_in h2.1 h2.2, pk_cpy_in h2.1 (by omega)]
    · rw [pk_cpy_out (by omega), pk_cpy_out (by omega)]
theorem fd_m {a b : Nat} (h : b ≤ a + 256) : nI a - nI b + nI 256 = nI (a + 256 - b) := by
  rw [← pk_sub h, ← nI_add]
  apply Int32.toBitVec_inj.mp
  simp only [Int32.toBitVec_add, Int32.toBitVec_sub]
  generalize (nI a).toBitVec = x
  generalize (nI b).toBitVec = y
  generalize (nI 256).toBitVec = z
  apply BitVec.eq_of_toNat_eq
  simp only [BitVec.toNat_add, BitVec.toNat_sub]
  have hx := x.isLt
  have hy := y.isLt
  have hz := z.isLt
  omega
set_option maxHeartbeats 4000000 in
set_option maxRecDepth 100000 in
/-- Model.refuses() -/
theorem c_M_refuses (l : Launch) (dC : Nat → ClassId) (dI : Nat → Nat → Nat) (cB cI cG : ClassId) (h0 : Nat) (f0 f1 f2 f3 f4 f5 f6 f7 f8 f9 f10 f11 f12 f14 : Value) (rf : Nat) (sz : Nat) : Met l y_M_refuses (Cond.code y_M_refuses b_M_refuses 1 (some .int) :: w_all) ({ frames := 0, cells := 0, slots := 0, locals := 0 }) (va_Pc [.ref h0] (fgPre (dC, dI) (tysA cB cI cG) [(h0, .inr (3, [f0, f1, f2, f3, f4, f5, f6, f7, f8, f9, f10, f11, f12, .int (nI rf), f14]))] sz)) (va_Qi (fun (r9 : Int32) (_ : Unit) => r9 = nI 0) (fun _ t9 => fgPost (dC, dI) [(h0, .inr (3, [f0, f1, f2, f3, f4, f5, f6, f7, f8, f9, f10, f11, f12, .int (nI rf), f14]))] [(h0, .inr (3, [f0, f1, f2, f3, f4, f5, f6, f7, f8, f9, f10, f11, f12, .int (nI (rf + 1)), f14]))] sz t9) (va_A [(h0, .inr (3, [f0, f1, f2, f3, f4, f5, f6, f7, f8, f9, f10, f11, f12, .int (nI rf), f14]))] sz)) 0 0 (va_A [(h0, .inr (3, [f0, f1, f2, f3, f4, f5, f6, f7, f8, f9, f10, f11, f12, .int (nI rf), f14]))] sz) := by
  refine Met.ofW (cc := b_M_refuses) (maxL := 1) (ret := (some .int)) (by decide) rfl ?_
  intro p e s m args below meth c s₁ B hml hv
  obtain ⟨rfl, hsz, hP, hK, hD0⟩ := hv
  have hx := B.exec
  have hb := B.bytes
  have hr := B.returns
  have hts := atoms_spec (ws := (Cond.code y_M_refuses b_M_refuses 1 (some .int) :: w_all)) B.pre
  have ht : ∀ w ∈ w_all, w.before _ s = true := fun w h => hts w (List.mem_cons_of_mem _ h)
  have hown : s.vm.findClass R_M = some m.cls := findClass_of_methodNamed B.named
  have hlocks := B.notSynchronized
  subst hsz
  have hD := hD0.self (sz := s.heap.size)
  generalize hAe : va_A [(h0, .inr (3, [f0, f1, f2, f3, f4, f5, f6, f7, f8, f9, f10, f11, f12, .int (nI rf), f14]))] s.heap.size = A at hD ⊢
  have hA : ∀ q : Nat, s.heap.size ≤ q → A q := fun q h => by rw [← hAe]; exact Or.inr h
  have hS : va_S A s.heap s.heap [] := va_S.rf
  have hl := lv_entry ([.ref h0]) (n := 1) (Nat.le_of_ble_eq_true rfl)
  rw [lg_entry_eq]
  generalize (lg_sl ([.ref h0]) ++ List.replicate (1 - (lg_sl ([.ref h0])).length) Slot.unset).toArray = ls at hl ⊢
  have hl : lv_has ls 1 [(0, .ref h0)] := hl
  refine lv_aload_n hx hb d_M_refuses_0 rfl (lv_at hl 0 rfl) ?_
  refine lv_dup hx hb d_M_refuses_1 rfl ?_
  refine va_get (D := (dC, dI)) (ci := 3) (v := .int (nI rf)) (C := R_M) (T := F_M) (N := 15) hx hb ht i_M hown hK hP 0 rfl rfl 13 (by decide) (ht _ m_210) (fun _ h9 => h9) rfl d_M_refuses_2 ?_
  refine lv_iconst (v := (nI 1)) hx hb d_M_refuses_5 (by decide) ?_
  refine fg_iadd hx hb d_M_refuses_6 ?_
  refine va_put (D := (dC, dI)) (ci := 3) (v := .int (nI (rf + 1))) (ty := .int) (C := R_M) (T := F_M) (N := 15) hx hb ht i_M t_M t_M_ok n_M hown hK hP hD hS 0 rfl rfl 13 (by decide) (ht _ m_210) (fun _ h9 => h9) rfl (t_M_ok 13 (by decide)) rfl rfl (Nat.le_of_ble_eq_true rfl) d_M_refuses_7 (fun H locs hP hD hS => ?_)
  have hP : va_P (dC, dI) fgC [(h0, .inr (3, [f0, f1, f2, f3, f4, f5, f6, f7, f8, f9, f10, f11, f12, .int (nI (rf + 1)), f14]))] H := hP
  have hD : va_D A [(h0, .inr (3, [f0, f1, f2, f3, f4, f5, f6, f7, f8, f9, f10, f11, f12, .int (nI (rf + 1)), f14]))] := hD
  refine lv_iconst (v := (nI 0)) hx hb d_M_refuses_10 (by decide) ?_
  exact W.iret (v := (nI 0)) hx hb hr (fun t9 ht9 hW9 => ⟨⟨(nI 0), (), rfl, rfl, by rw [ht9]; exact hP, by rw [hAe]; exact hD⟩, hS.F ht9⟩) hS.2.2 d_M_refuses_11
set_option maxHeartbeats 4000000 in
set_option maxRecDepth 100000 in
/-- Model.comes(k) -/
theorem c_M_comes (l : Launch) (dC : Nat → ClassId) (dI : Nat → Nat → Nat) (cB cI cG : ClassId) (h0 a1 a2 a3 a4 th n cn kl : Nat) (st nx bs wt ag rf ac : Nat) (t q ln : Nat → Int32) (k : Nat) (sz : Nat) (hB : BF t) (hc : cn < 8) (hk : k ≤ 252) : Met l y_M_comes (Cond.code y_M_comes b_M_comes 3 none :: w_all) ({ frames := 0, cells := 0, slots := 0, locals := 0 }) (va_Pc [.ref h0, .int (nI k)] (fgPre (dC, dI) (tysA cB cI cG) [(h0, .inr (3, [.int (nI th), .ref a1, .int (nI n), .int (nI cn), .ref a2, .ref a3, .ref a4, .int (nI kl), .int (nI st), .int (nI nx), .int (nI bs), .int (nI wt), .int (nI ag), .int (nI rf), .int (nI ac)])), (a1, .inl (cB, 259, .inl t)), (a2, .inl (cB, 2048, .inl q)), (a3, .inl (cI, 8, .inl ln))] sz)) (va_Qv (fun (_ : Unit) => True) (fun _ t9 => fgPost (dC, dI) [(h0, .inr (3, [.int (nI th), .ref a1, .int (nI n), .int (nI cn), .ref a2, .ref a3, .ref a4, .int (nI kl), .int (nI st), .int (nI nx), .int (nI bs), .int (nI wt), .int (nI ag), .int (nI rf), .int (nI ac)])), (a1, .inl (cB, 259, .inl t)), (a2, .inl (cB, 2048, .inl q)), (a3, .inl (cI, 8, .inl ln))] [(h0, .inr (3, [.int (nI th), .ref a1, .int (nI n), .int (nI (cn + 1)), .ref a2, .ref a3, .ref a4, .int (nI kl), .int (nI st), .int (nI nx), .int (nI bs), .int (nI wt), .int (nI ag), .int (nI rf), .int (nI (ac + 1))])), (a1, .inl (cB, 259, .inl t)), (a2, .inl (cB, 2048, .inl (va_cpy t q 5 (256 * cn) k))), (a3, .inl (cI, 8, .inl (upd ln cn (nI k))))] sz t9) (va_A [(h0, .inr (3, [.int (nI th), .ref a1, .int (nI n), .int (nI cn), .ref a2, .ref a3, .ref a4, .int (nI kl), .int (nI st), .int (nI nx), .int (nI bs), .int (nI wt), .int (nI ag), .int (nI rf), .int (nI ac)])), (a1, .inl (cB, 259, .inl t)), (a2, .inl (cB, 2048, .inl q)), (a3, .inl (cI, 8, .inl ln))] sz)) 0 0 (va_A [(h0, .inr (3, [.int (nI th), .ref a1, .int (nI n), .int (nI cn), .ref a2, .ref a3, .ref a4, .int (nI kl), .int (nI st), .int (nI nx), .int (nI bs), .int (nI wt), .int (nI ag), .int (nI rf), .int (nI ac)])), (a1, .inl (cB, 259, .inl t)), (a2, .inl (cB, 2048, .inl q)), (a3, .inl (cI, 8, .inl ln))] sz) := by
  refine Met.ofW (cc := b_M_comes) (maxL := 3) (ret := none) (by decide) rfl ?_
  intro p e s m args below meth c s₁ B hml hv
  obtain ⟨rfl, hsz, hP, hK, hD0⟩ := hv
  have hx := B.exec
  have hb := B.bytes
  have hr := B.returns
  have hts := atoms_spec (ws := (Cond.code y_M_comes b_M_comes 3 none :: w_all)) B.pre
  have ht : ∀ w ∈ w_all, w.before _ s = true := fun w h => hts w (List.mem_cons_of_mem _ h)
  have hown : s.vm.findClass R_M = some m.cls := findClass_of_methodNamed B.named
  have hlocks := B.notSynchronized
  subst hsz
  have hD := hD0.self (sz := s.heap.size)
  generalize hAe : va_A [(h0, .inr (3, [.int (nI th), .ref a1, .int (nI n), .int (nI cn), .ref a2, .ref a3, .ref a4, .int (nI kl), .int (nI st), .int (nI nx), .int (nI bs), .int (nI wt), .int (nI ag), .int (nI rf), .int (nI ac)])), (a1, .inl (cB, 259, .inl t)), (a2, .inl (cB, 2048, .inl q)), (a3, .inl (cI, 8, .inl ln))] s.heap.size = A at hD ⊢
  have hA : ∀ q : Nat, s.heap.size ≤ q → A q := fun q h => by rw [← hAe]; exact Or.inr h
  have hS : va_S A s.heap s.heap [] := va_S.rf
  have hl := lv_entry ([.ref h0, .int (nI k)]) (n := 3) (Nat.le_of_ble_eq_true rfl)
  rw [lg_entry_eq]
  generalize (lg_sl ([.ref h0, .int (nI k)]) ++ List.replicate (3 - (lg_sl ([.ref h0, .int (nI k)])).length) Slot.unset).toArray = ls at hl ⊢
  have hl : lv_has ls 3 [(0, .ref h0), (1, .int (nI k))] := hl
  refine lv_iconst (v := (nI 0)) hx hb d_M_comes_0 (by decide) ?_
  refine lv_istore_n (lv' := [(2, .int (nI 0)), (0, .ref h0), (1, .int (nI k))]) hx hb d_M_comes_1 rfl hl (by decide) rfl (fun ls hl => ?_)
  have e0 : va_cpy t q 5 (256 * cn) 0 = q := cpy_0
  rw [← e0] at hP hD
  refine fg_loop (fun d ls H1 locs1 => ∃ i, i + d = k ∧ lv_has ls 3 [(0, .ref h0), (1, .int (nI k)), (2, .int (nI i))] ∧ va_P (dC, dI) fgC [(h0, .inr (3, [.int (nI th), .ref a1, .int (nI n), .int (nI cn), .ref a2, .ref a3, .ref a4, .int (nI kl), .int (nI st), .int (nI nx), .int (nI bs), .int (nI wt), .int (nI ag), .int (nI rf), .int (nI ac)])), (a1, .inl (cB, 259, .inl t)), (a2, .inl (cB, 2048, .inl (va_cpy t q 5 (256 * cn) i))), (a3, .inl (cI, 8, .inl ln))] H1 ∧ va_D A [(h0, .inr (3, [.int (nI th), .ref a1, .int (nI n), .int (nI cn), .ref a2, .ref a3, .ref a4, .int (nI kl), .int (nI st), .int (nI nx), .int (nI bs), .int (nI wt), .int (nI ag), .int (nI rf), .int (nI ac)])), (a1, .inl (cB, 259, .inl t)), (a2, .inl (cB, 2048, .inl (va_cpy t q 5 (256 * cn) i))), (a3, .inl (cI, 8, .inl ln))] ∧ va_S A s.heap H1 locs1) (fun d ih ls H locs hI => ?_) k ⟨0, by omega, lv_sub hl [1, 2, 0] rfl, hP, hD, hS⟩
  obtain ⟨i, hi, hl, hP, hD, hS⟩ := hI
  refine lv_iload_n hx hb d_M_comes_2 rfl (lv_at hl 2 rfl) ?_
  refine lv_iload_n hx hb d_M_comes_3 rfl (lv_at hl 1 rfl) ?_
  refine fg_cmp_ge (tgt := 36) hx hb d_M_comes_4 (by decide) (by omega) (by omega) (fun c_4 => ?_) (fun c_4 => ?_)
  · obtain rfl : i = k := by omega
    refine lv_aload_n hx hb d_M_comes_36 rfl (lv_at hl 0 rfl) ?_
    refine va_get (D := (dC, dI)) (ci := 3) (v := .ref a3) (C := R_M) (T := F_M) (N := 15) hx hb ht i_M hown hK hP 0 rfl rfl 5 (by decide) (ht _ m_202) (fun _ h9 => h9) rfl d_M_comes_37 ?_
    refine lv_aload_n hx hb d_M_comes_40 rfl (lv_at hl 0 rfl) ?_
    refine va_get (D := (dC, dI)) (ci := 3) (v := .int (nI cn)) (C := R_M) (T := F_M) (N := 15) hx hb ht i_M hown hK hP 0 rfl rfl 3 (by decide) (ht _ m_200) (fun _ h9 => h9) rfl d_M_comes_41 ?_
    refine lv_iload_n hx hb d_M_comes_44 rfl (lv_at hl 1 rfl) ?_
    refine fg_iast hx hb hK hP hD hS 3 1 rfl rfl (by omega) (by decide) d_M_comes_45 (fun H locs hP hD hS => ?_)
    have hP : va_P (dC, dI) fgC [(h0, .inr (3, [.int (nI th), .ref a1, .int (nI n), .int (nI cn), .ref a2, .ref a3, .ref a4, .int (nI kl), .int (nI st), .int (nI nx), .int (nI bs), .int (nI wt), .int (nI ag), .int (nI rf), .int (nI ac)])), (a1, .inl (cB, 259, .inl t)), (a2, .inl (cB, 2048, .inl (va_cpy t q 5 (256 * cn) i))), (a3, .inl (cI, 8, .inl (upd ln cn (nI i))))] H := hP
    have hD : va_D A [(h0, .inr (3, [.int (nI th), .ref a1, .int (nI n), .int (nI cn), .ref a2, .ref a3, .ref a4, .int (nI kl), .int (nI st), .int (nI nx), .int (nI bs), .int (nI wt), .int (nI ag), .int (nI rf), .int (nI ac)])), (a1, .inl (cB, 259, .inl t)), (a2, .inl (cB, 2048, .inl (va_cpy t q 5 (256 * cn) i))), (a3, .inl (cI, 8, .inl (upd ln cn (nI i))))] := hD
    refine lv_aload_n hx hb d_M_comes_46 rfl (lv_at hl 0 rfl) ?_
    refine lv_dup hx hb d_M_comes_47 rfl ?_
    refine va_get (D := (dC, dI)) (ci := 3) (v := .int (nI cn)) (C := R_M) (T := F_M) (N := 15) hx hb ht i_M hown hK hP 0 rfl rfl 3 (by decide) (ht _ m_200) (fun _ h9 => h9) rfl d_M_comes_48 ?_
    refine lv_iconst (v := (nI 1)) hx hb d_M_comes_51 (by decide) ?_
    refine fg_iadd hx hb d_M_comes_52 ?_
    refine va_put (D := (dC, dI)) (ci := 3) (v := .int (nI (cn + 1))) (ty := .int) (C := R_M) (T := F_M) (N := 15) hx hb ht i_M t_M t_M_ok n_M hown hK hP hD hS 0 rfl rfl 3 (by decide) (ht _ m_200) (fun _ h9 => h9) rfl (t_M_ok 3 (by decide)) rfl rfl (Nat.le_of_ble_eq_true rfl) d_M_comes_53 (fun H locs hP hD hS => ?_)
    have hP : va_P (dC, dI) fgC [(h0, .inr (3, [.int (nI th), .ref a1, .int (nI n), .int (nI (cn + 1)), .ref a2, .ref a3, .ref a4, .int (nI kl), .int (nI st), .int (nI nx), .int (nI bs), .int (nI wt), .int (nI ag), .int (nI rf), .int (nI ac)])), (a1, .inl (cB, 259, .inl t)), (a2, .inl (cB, 2048, .inl (va_cpy t q 5 (256 * cn) i))), (a3, .inl (cI, 8, .inl (upd ln cn (nI i))))] H := hP
    have hD : va_D A [(h0, .inr (3, [.int (nI th), .ref a1, .int (nI n), .int (nI (cn + 1)), .ref a2, .ref a3, .ref a4, .int (nI kl), .int (nI st), .int (nI nx), .int (nI bs), .int (nI wt), .int (nI ag), .int (nI rf), .int (nI ac)])), (a1, .inl (cB, 259, .inl t)), (a2, .inl (cB, 2048, .inl (va_cpy t q 5 (256 * cn) i))), (a3, .inl (cI, 8, .inl (upd ln cn (nI i))))] := hD
    refine lv_aload_n hx hb d_M_comes_56 rfl (lv_at hl 0 rfl) ?_
    refine lv_dup hx hb d_M_comes_57 rfl ?_
    refine va_get (D := (dC, dI)) (ci := 3) (v := .int (nI ac)) (C := R_M) (T := F_M) (N := 15) hx hb ht i_M hown hK hP 0 rfl rfl 14 (by decide) (ht _ m_211) (fun _ h9 => h9) rfl d_M_comes_58 ?_
    refine lv_iconst (v := (nI 1)) hx hb d_M_comes_61 (by decide) ?_
    refine fg_iadd hx hb d_M_comes_62 ?_
    refine va_put (D := (dC, dI)) (ci := 3) (v := .int (nI (ac + 1))) (ty := .int) (C := R_M) (T := F_M) (N := 15) hx hb ht i_M t_M t_M_ok n_M hown hK hP hD hS 0 rfl rfl 14 (by decide) (ht _ m_211) (fun _ h9 => h9) rfl (t_M_ok 14 (by decide)) rfl rfl (Nat.le_of_ble_eq_true rfl) d_M_comes_63 (fun H locs hP hD hS => ?_)
    have hP : va_P (dC, dI) fgC [(h0, .inr (3, [.int (nI th), .ref a1, .int (nI n), .int (nI (cn + 1)), .ref a2, .ref a3, .ref a4, .int (nI kl), .int (nI st), .int (nI nx), .int (nI bs), .int (nI wt), .int (nI ag), .int (nI rf), .int (nI (ac + 1))])), (a1, .inl (cB, 259, .inl t)), (a2, .inl (cB, 2048, .inl (va_cpy t q 5 (256 * cn) i))), (a3, .inl (cI, 8, .inl (upd ln cn (nI i))))] H := hP
    have hD : va_D A [(h0, .inr (3, [.int (nI th), .ref a1, .int (nI n), .int (nI (cn + 1)), .ref a2, .ref a3, .ref a4, .int (nI kl), .int (nI st), .int (nI nx), .int (nI bs), .int (nI wt), .int (nI ag), .int (nI rf), .int (nI (ac + 1))])), (a1, .inl (cB, 259, .inl t)), (a2, .inl (cB, 2048, .inl (va_cpy t q 5 (256 * cn) i))), (a3, .inl (cI, 8, .inl (upd ln cn (nI i))))] := hD
    exact W.vret hx hb hr (fun t9 ht9 hW9 => ⟨⟨(), rfl, trivial, by rw [ht9]; exact hP, by rw [hAe]; exact hD⟩, hS.F ht9⟩) hS.2.2 d_M_comes_66
  · refine lv_aload_n hx hb d_M_comes_7 rfl (lv_at hl 0 rfl) ?_
    refine va_get (D := (dC, dI)) (ci := 3) (v := .ref a2) (C := R_M) (T := F_M) (N := 15) hx hb ht i_M hown hK hP 0 rfl rfl 4 (by decide) (ht _ m_201) (fun _ h9 => h9) rfl d_M_comes_8 ?_
    refine lv_sipush (v := (nI 256)) hx hb d_M_comes_11 (by decide) ?_
    refine lv_aload_n hx hb d_M_comes_14 rfl (lv_at hl 0 rfl) ?_
    refine va_get (D := (dC, dI)) (ci := 3) (v := .int (nI cn)) (C := R_M) (T := F_M) (N := 15) hx hb ht i_M hown hK hP 0 rfl rfl 3 (by decide) (ht _ m_200) (fun _ h9 => h9) rfl d_M_comes_15 ?_
    refine fg_imul hx hb d_M_comes_18 ?_
    refine lv_iload_n hx hb d_M_comes_19 rfl (lv_at hl 2 rfl) ?_
    refine fg_iadd hx hb d_M_comes_20 ?_
    refine lv_aload_n hx hb d_M_comes_21 rfl (lv_at hl 0 rfl) ?_
    refine va_get (D := (dC, dI)) (ci := 3) (v := .ref a1) (C := R_M) (T := F_M) (N := 15) hx hb ht i_M hown hK hP 0 rfl rfl 1 (by decide) (ht _ m_198) (fun _ h9 => h9) rfl d_M_comes_22 ?_
    refine lv_iconst (v := (nI 5)) hx hb d_M_comes_25 (by decide) ?_
    refine lv_iload_n hx hb d_M_comes_26 rfl (lv_at hl 2 rfl) ?_
    refine fg_iadd hx hb d_M_comes_27 ?_
    refine fg_bald hx hb hK hP 1 0 rfl rfl (by omega) (by decide) d_M_comes_28 ?_
    refine fg_bast (y := t (5 + i)) hx hb hK hP hD hS 2 0 rfl rfl (by omega) (by decide) (hB.nar _) d_M_comes_29 (fun H locs hP hD hS => ?_)
    have hP : va_P (dC, dI) fgC [(h0, .inr (3, [.int (nI th), .ref a1, .int (nI n), .int (nI cn), .ref a2, .ref a3, .ref a4, .int (nI kl), .int (nI st), .int (nI nx), .int (nI bs), .int (nI wt), .int (nI ag), .int (nI rf), .int (nI ac)])), (a1, .inl (cB, 259, .inl t)), (a2, .inl (cB, 2048, .inl (upd (va_cpy t q 5 (256 * cn) i) ((256 * cn) + i) (t (5 + i))))), (a3, .inl (cI, 8, .inl ln))] H := hP
    have hD : va_D A [(h0, .inr (3, [.int (nI th), .ref a1, .int (nI n), .int (nI cn), .ref a2, .ref a3, .ref a4, .int (nI kl), .int (nI st), .int (nI nx), .int (nI bs), .int (nI wt), .int (nI ag), .int (nI rf), .int (nI ac)])), (a1, .inl (cB, 259, .inl t)), (a2, .inl (cB, 2048, .inl (upd (va_cpy t q 5 (256 * cn) i) ((256 * cn) + i) (t (5 + i))))), (a3, .inl (cI, 8, .inl ln))] := hD
    refine fg_iinc (n := 1) (k := 2) (lv' := [(2, .int (nI (i + 1))), (0, .ref h0), (1, .int (nI k))]) hx hb d_M_comes_30 hl rfl (by decide) rfl (fun ls hl => ?_)
    refine lv_goto (tgt := 2) hx hb d_M_comes_33 (by decide) ?_
    rw [cpy_s] at hP hD
    exact ih (d - 1) (by omega) _ _ _ ⟨i + 1, by omega, lv_sub hl [1, 2, 0] rfl, hP, hD, hS⟩
set_option maxHeartbeats 4000000 in
set_option maxRecDepth 100000 in
/-- Model.controls(k) -/
theorem c_M_controls (l : Launch) (dC : Nat → ClassId) (dI : Nat → Nat → Nat) (cB cI cG : ClassId) (h0 a1 a2 a3 a4 th n cn kl : Nat) (st nx bs wt ag rf ac : Nat) (t : Nat → Int32) (k : Nat) (sz : Nat) (hB : BF t) (hk : k ≤ 252) (hg : st < 4 ∧ nx < 256 ∧ bs < 4 ∧ wt < 2 ∧ ag < 2) : Met l y_M_controls (Cond.code y_M_controls b_M_controls 4 (some .int) :: w_all) ({ frames := 1, cells := 0, slots := 0, locals := 24 }) (va_Pc [.ref h0, .int (nI k)] (fgPre (dC, dI) (tysA cB cI cG) [(h0, .inr (3, [.int (nI th), .ref a1, .int (nI n), .int (nI cn), .ref a2, .ref a3, .ref a4, .int (nI kl), .int (nI st), .int (nI nx), .int (nI bs), .int (nI wt), .int (nI ag), .int (nI rf), .int (nI ac)])), (a1, .inl (cB, 259, .inl t))] sz)) (va_Qi (fun (r9 : Int32) (u : Nat × GS) => r9 = nI u.1 ∧ u = fin (ctl t k (st, nx, bs, wt, ag, rf, ac))) (fun u t9 => fgPost (dC, dI) [(h0, .inr (3, [.int (nI th), .ref a1, .int (nI n), .int (nI cn), .ref a2, .ref a3, .ref a4, .int (nI kl), .int (nI st), .int (nI nx), .int (nI bs), .int (nI wt), .int (nI ag), .int (nI rf), .int (nI ac)])), (a1, .inl (cB, 259, .inl t))] [(h0, .inr (3, [.int (nI th), .ref a1, .int (nI n), .int (nI cn), .ref a2, .ref a3, .ref a4, .int (nI kl), .int (nI u.2.1), .int (nI u.2.2.1), .int (nI u.2.2.2.1), .int (nI u.2.2.2.2.1), .int (nI u.2.2.2.2.2.1), .int (nI u.2.2.2.2.2.2.1), .int (nI u.2.2.2.2.2.2.2)])), (a1, .inl (cB, 259, .inl t))] sz t9) (va_A [(h0, .inr (3, [.int (nI th), .ref a1, .int (nI n), .int (nI cn), .ref a2, .ref a3, .ref a4, .int (nI kl), .int (nI st), .int (nI nx), .int (nI bs), .int (nI wt), .int (nI ag), .int (nI rf), .int (nI ac)])), (a1, .inl (cB, 259, .inl t))] sz)) 0 0 (va_A [(h0, .inr (3, [.int (nI th), .ref a1, .int (nI n), .int (nI cn), .ref a2, .ref a3, .ref a4, .int (nI kl), .int (nI st), .int (nI nx), .int (nI bs), .int (nI wt), .int (nI ag), .int (nI rf), .int (nI ac)])), (a1, .inl (cB, 259, .inl t))] sz) := by
  refine Met.ofW (cc := b_M_controls) (maxL := 4) (ret := (some .int)) (by decide) rfl ?_
  intro p e s m args below meth c s₁ B hml hv
  obtain ⟨rfl, hsz, hP, hK, hD0⟩ := hv
  have hx := B.exec
  have hb := B.bytes
  have hr := B.returns
  have hts := atoms_spec (ws := (Cond.code y_M_controls b_M_controls 4 (some .int) :: w_all)) B.pre
  have ht : ∀ w ∈ w_all, w.before _ s = true := fun w h => hts w (List.mem_cons_of_mem _ h)
  have hown : s.vm.findClass R_M = some m.cls := findClass_of_methodNamed B.named
  have hlocks := B.notSynchronized
  subst hsz
  have hD := hD0.self (sz := s.heap.size)
  generalize hAe : va_A [(h0, .inr (3, [.int (nI th), .ref a1, .int (nI n), .int (nI cn), .ref a2, .ref a3, .ref a4, .int (nI kl), .int (nI st), .int (nI nx), .int (nI bs), .int (nI wt), .int (nI ag), .int (nI rf), .int (nI ac)])), (a1, .inl (cB, 259, .inl t))] s.heap.size = A at hD ⊢
  have hA : ∀ q : Nat, s.heap.size ≤ q → A q := fun q h => by rw [← hAe]; exact Or.inr h
  have hS : va_S A s.heap s.heap [] := va_S.rf
  have hl := lv_entry ([.ref h0, .int (nI k)]) (n := 4) (Nat.le_of_ble_eq_true rfl)
  rw [lg_entry_eq]
  generalize (lg_sl ([.ref h0, .int (nI k)]) ++ List.replicate (4 - (lg_sl ([.ref h0, .int (nI k)])).length) Slot.unset).toArray = ls at hl ⊢
  have hl : lv_has ls 4 [(0, .ref h0), (1, .int (nI k))] := hl
  have hb5 := bN_lt (t 5)
  have hb6 := bN_lt (t 6)
  have hb7 := bN_lt (t 7)
  refine fg_cut (F0 m 19 ls [.int (nI (if k = 1 ∧ bN (t 5) = 0 then 1 else 0))]) ?_ (fun j_19 => ?_)
  · refine lv_istore_n (lv' := [(2, .int (nI (if k = 1 ∧ bN (t 5) = 0 then 1 else 0))), (0, .ref h0), (1, .int (nI k))]) hx hb d_M_controls_19 rfl hl (by decide) rfl (fun ls hl => ?_)
    refine fg_cut (F0 m 43 ls [.int (nI (if k = 3 ∧ bN (t 5) = 130 ∧ bN (t 6) = 0 then 1 else 0))]) ?_ (fun j_43 => ?_)
    · refine lv_istore_n (lv' := [(3, .int (nI (if k = 3 ∧ bN (t 5) = 130 ∧ bN (t 6) = 0 then 1 else 0))), (2, .int (nI (if k = 1 ∧ bN (t 5) = 0 then 1 else 0))), (0, .ref h0), (1, .int (nI k))]) hx hb d_M_controls_43 rfl hl (by decide) rfl (fun ls hl => ?_)
      refine lv_iload_n hx hb d_M_controls_44 rfl (lv_at hl 1 rfl) ?_
      refine fg_ifb_ne (tgt := 57) hx hb d_M_controls_45 (by decide) (fun c_45 => ?_) (fun c_45 => ?_)
      · refine lv_aload_n hx hb d_M_controls_57 rfl (lv_at hl 2 rfl) ?_
        refine lv_aload_n hx hb d_M_controls_58 rfl (lv_at hl 2 rfl) ?_
        refine va_get (D := (dC, dI)) (ci := 3) (v := .int (nI bs)) (C := R_M) (T := F_M) (N := 15) hx hb ht i_M hown hK hP 0 rfl rfl 10 (by decide) (ht _ m_207) (fun _ h9 => h9) rfl d_M_controls_59 ?_
        refine lv_iconst (v := (nI 1)) hx hb d_M_controls_62 (by decide) ?_
        refine fg_iadd hx hb d_M_controls_63 ?_
        refine lv_iconst (v := (nI 4)) hx hb d_M_controls_64 (by decide) ?_
        refine fg_irem hx hb d_M_controls_65 (by omega) (by decide) (by decide) ?_
        refine va_put (D := (dC, dI)) (ci := 3) (v := .int (nI ((bs + 1) % 4))) (ty := .int) (C := R_M) (T := F_M) (N := 15) hx hb ht i_M t_M t_M_ok n_M hown hK hP hD hS 0 rfl rfl 10 (by decide) (ht _ m_207) (fun _ h9 => h9) rfl (t_M_ok 10 (by decide)) rfl rfl (Nat.le_of_ble_eq_true rfl) d_M_controls_66 (fun H locs hP hD hS => ?_)
        have hP : va_P (dC, dI) fgC [(h0, .inr (3, [.int (nI th), .ref a1, .int (nI n), .int (nI cn), .ref a2, .ref a3, .ref a4, .int (nI kl), .int (nI st), .int (nI nx), .int (nI ((bs + 1) % 4)), .int (nI wt), .int (nI ag), .int (nI rf), .int (nI ac)])), (a1, .inl (cB, 259, .inl t))] H := hP
        have hD : va_D A [(h0, .inr (3, [.int (nI th), .ref a1, .int (nI n), .int (nI cn), .ref a2, .ref a3, .ref a4, .int (nI kl), .int (nI st), .int (nI nx), .int (nI ((bs + 1) % 4)), .int (nI wt), .int (nI ag), .int (nI rf), .int (nI ac)])), (a1, .inl (cB, 259, .inl t))] := hD
        refine lv_iload_n hx hb d_M_controls_69 rfl (lv_at hl 1 rfl) ?_
        refine fg_ifb_ne (tgt := 81) hx hb d_M_controls_70 (by decide) (fun c_70 => ?_) (fun c_70 => ?_)
        · refine lv_aload_n hx hb d_M_controls_81 rfl (lv_at hl 2 rfl) ?_
          refine lv_iconst (v := (nI 0)) hx hb d_M_controls_82 (by decide) ?_
          refine va_put (D := (dC, dI)) (ci := 3) (v := .int (nI 0)) (ty := .boolean) (C := R_M) (T := F_M) (N := 15) hx hb ht i_M t_M t_M_ok n_M hown hK hP hD hS 0 rfl rfl 12 (by decide) (ht _ m_209) (fun _ h9 => h9) rfl (t_M_ok 12 (by decide)) (fg_nZ (by omega)) (fg_fZ (by omega)) (Nat.le_of_ble_eq_true rfl) d_M_controls_83 (fun H locs hP hD hS => ?_)
          have hP : va_P (dC, dI) fgC [(h0, .inr (3, [.int (nI th), .ref a1, .int (nI n), .int (nI cn), .ref a2, .ref a3, .ref a4, .int (nI kl), .int (nI st), .int (nI nx), .int (nI ((bs + 1) % 4)), .int (nI wt), .int (nI 0), .int (nI rf), .int (nI ac)])), (a1, .inl (cB, 259, .inl t))] H := hP
          have hD : va_D A [(h0, .inr (3, [.int (nI th), .ref a1, .int (nI n), .int (nI cn), .ref a2, .ref a3, .ref a4, .int (nI kl), .int (nI st), .int (nI nx), .int (nI ((bs + 1) % 4)), .int (nI wt), .int (nI 0), .int (nI rf), .int (nI ac)])), (a1, .inl (cB, 259, .inl t))] := hD
          refine lv_aload_n hx hb d_M_controls_86 rfl (lv_at hl 2 rfl) ?_
          refine lv_iconst (v := (nI 0)) hx hb d_M_controls_87 (by decide) ?_
          refine va_put (D := (dC, dI)) (ci := 3) (v := .int (nI 0)) (ty := .boolean) (C := R_M) (T := F_M) (N := 15) hx hb ht i_M t_M t_M_ok n_M hown hK hP hD hS 0 rfl rfl 11 (by decide) (ht _ m_208) (fun _ h9 => h9) rfl (t_M_ok 11 (by decide)) (fg_nZ (by omega)) (fg_fZ (by omega)) (Nat.le_of_ble_eq_true rfl) d_M_controls_88 (fun H locs hP hD hS => ?_)
          have hP : va_P (dC, dI) fgC [(h0, .inr (3, [.int (nI th), .ref a1, .int (nI n), .int (nI cn), .ref a2, .ref a3, .ref a4, .int (nI kl), .int (nI st), .int (nI nx), .int (nI ((bs + 1) % 4)), .int (nI 0), .int (nI 0), .int (nI rf), .int (nI ac)])), (a1, .inl (cB, 259, .inl t))] H := hP
          have hD : va_D A [(h0, .inr (3, [.int (nI th), .ref a1, .int (nI n), .int (nI cn), .ref a2, .ref a3, .ref a4, .int (nI kl), .int (nI st), .int (nI nx), .int (nI ((bs + 1) % 4)), .int (nI 0), .int (nI 0), .int (nI rf), .int (nI ac)])), (a1, .inl (cB, 259, .inl t))] := hD
          refine lv_aload_n hx hb d_M_controls_91 rfl (lv_at hl 2 rfl) ?_
          refine lv_iconst (v := (nI 1)) hx hb d_M_controls_92 (by decide) ?_
          refine va_put (D := (dC, dI)) (ci := 3) (v := .int (nI 1)) (ty := .int) (C := R_M) (T := F_M) (N := 15) hx hb ht i_M t_M t_M_ok n_M hown hK hP hD hS 0 rfl rfl 8 (by decide) (ht _ m_205) (fun _ h9 => h9) rfl (t_M_ok 8 (by decide)) rfl rfl (Nat.le_of_ble_eq_true rfl) d_M_controls_93 (fun H locs hP hD hS => ?_)
          have hP : va_P (dC, dI) fgC [(h0, .inr (3, [.int (nI th), .ref a1, .int (nI n), .int (nI cn), .ref a2, .ref a3, .ref a4, .int (nI kl), .int (nI 1), .int (nI nx), .int (nI ((bs + 1) % 4)), .int (nI 0), .int (nI 0), .int (nI rf), .int (nI ac)])), (a1, .inl (cB, 259, .inl t))] H := hP
          have hD : va_D A [(h0, .inr (3, [.int (nI th), .ref a1, .int (nI n), .int (nI cn), .ref a2, .ref a3, .ref a4, .int (nI kl), .int (nI 1), .int (nI nx), .int (nI ((bs + 1) % 4)), .int (nI 0), .int (nI 0), .int (nI rf), .int (nI ac)])), (a1, .inl (cB, 259, .inl t))] := hD
          refine lv_aload_n hx hb d_M_controls_96 rfl (lv_at hl 2 rfl) ?_
          refine lv_iload_n hx hb d_M_controls_97 rfl (lv_at hl 0 rfl) ?_
          refine fg_ifb_eq (tgt := 112) hx hb d_M_controls_98 (by decide) (fun c_98 => ?_) (fun c_98 => ?_)
          · refine lv_aload_n hx hb d_M_controls_112 rfl (lv_at hl 2 rfl) ?_
            refine va_get (D := (dC, dI)) (ci := 3) (v := .int (nI nx)) (C := R_M) (T := F_M) (N := 15) hx hb ht i_M hown hK hP 0 rfl rfl 9 (by decide) (ht _ m_206) (fun _ h9 => h9) rfl d_M_controls_113 ?_
            refine va_put (D := (dC, dI)) (ci := 3) (v := .int (nI nx)) (ty := .int) (C := R_M) (T := F_M) (N := 15) hx hb ht i_M t_M t_M_ok n_M hown hK hP hD hS 0 rfl rfl 9 (by decide) (ht _ m_206) (fun _ h9 => h9) rfl (t_M_ok 9 (by decide)) rfl rfl (Nat.le_of_ble_eq_true rfl) d_M_controls_116 (fun H locs hP hD hS => ?_)
            have hP : va_P (dC, dI) fgC [(h0, .inr (3, [.int (nI th), .ref a1, .int (nI n), .int (nI cn), .ref a2, .ref a3, .ref a4, .int (nI kl), .int (nI 1), .int (nI nx), .int (nI ((bs + 1) % 4)), .int (nI 0), .int (nI 0), .int (nI rf), .int (nI ac)])), (a1, .inl (cB, 259, .inl t))] H := hP
            have hD : va_D A [(h0, .inr (3, [.int (nI th), .ref a1, .int (nI n), .int (nI cn), .ref a2, .ref a3, .ref a4, .int (nI kl), .int (nI 1), .int (nI nx), .int (nI ((bs + 1) % 4)), .int (nI 0), .int (nI 0), .int (nI rf), .int (nI ac)])), (a1, .inl (cB, 259, .inl t))] := hD
            refine lv_iload_n hx hb d_M_controls_119 rfl (lv_at hl 1 rfl) ?_
            refine fg_ifb_eq (tgt := 127) hx hb d_M_controls_120 (by decide) (fun c_120 => ?_) (fun c_120 => ?_)
            · exact absurd c_70 c_120
            · refine lv_iconst (v := (nI 3)) hx hb d_M_controls_123 (by decide) ?_
              refine lv_goto (tgt := 128) hx hb d_M_controls_124 (by decide) ?_
              exact W.iret (v := (nI 3)) hx hb hr (fun t9 ht9 hW9 => ⟨⟨(nI 3), (3, (1, nx, (bs + 1) % 4, 0, 0, rf, ac)), rfl, ⟨rfl, by rw [show ctl t k (st, nx, bs, wt, ag, rf, ac) = (3, (1, nx, (bs + 1) % 4, 0, 0, rf, ac)) from by dsimp only [ctl]; (repeat' split) <;> first | rfl | (exfalso; omega) | (have h3 : st = 3 := (by omega); rw [h3])]; rfl⟩, by rw [ht9]; exact hP, by rw [hAe]; exact hD⟩, hS.F ht9⟩) hS.2.2 d_M_controls_128
          · refine lv_aload_n hx hb d_M_controls_101 rfl (lv_at hl 2 rfl) ?_
            refine lv_bipush (v := (nI 56)) hx hb d_M_controls_102 (by decide) ?_
            refine lv_bipush (v := (nI 8)) hx hb d_M_controls_104 (by decide) ?_
            refine vp_callSi (va_Run.run (va_runV (As := [.int (nI 56), .int (nI 8)]) (rest := [.ref h0]) ⟨hx, hb, hml, hown, ht⟩ (c_M_bits l dC dI cB cI cG h0 a1 t (.int (nI th)) (.int (nI n)) (.int (nI cn)) (.ref a2) (.ref a3) (.ref a4) (.int (nI kl)) (.int (nI 1)) (.int (nI nx)) (.int (nI ((bs + 1) % 4))) (.int (nI 0)) (.int (nI 0)) (.int (nI rf)) (.int (nI ac)) 56 8 H.size (by decide) (by decide)) (cwV 2 ht (fg_gV m_270 m_272 m_s8 m_4 m_273) rfl rfl rfl (by decide +kernel) ⟨Nat.le_of_ble_eq_true rfl, Nat.le_of_ble_eq_true rfl⟩) (fg_preV hK (hP.sub [0, 1] rfl) (hD.sub [0, 1] (by decide) rfl) (va_recv hK hP (ci := 3) (q0 := 0) rfl rfl)) rfl rfl hl.1 rfl (lv_room (Nat.le_of_ble_eq_true rfl)) d_M_controls_106 ⟨Nat.le_of_ble_eq_true rfl, Nat.le_of_ble_eq_true rfl⟩)) (fun r_106 er_106 => ?_)
            obtain rfl : r_106 = (nI (bts t 56 8)) := er_106
            refine fg_nm (y := (nI (bN (t 7)))) (congrArg nI (b_56_8 t)) ?_
            refine lv_goto (tgt := 116) hx hb d_M_controls_109 (by decide) ?_
            refine va_put (D := (dC, dI)) (ci := 3) (v := .int (nI (bN (t 7)))) (ty := .int) (C := R_M) (T := F_M) (N := 15) hx hb ht i_M t_M t_M_ok n_M hown hK hP hD hS 0 rfl rfl 9 (by decide) (ht _ m_206) (fun _ h9 => h9) rfl (t_M_ok 9 (by decide)) rfl rfl (Nat.le_of_ble_eq_true rfl) d_M_controls_116 (fun H locs hP hD hS => ?_)
            have hP : va_P (dC, dI) fgC [(h0, .inr (3, [.int (nI th), .ref a1, .int (nI n), .int (nI cn), .ref a2, .ref a3, .ref a4, .int (nI kl), .int (nI 1), .int (nI (bN (t 7))), .int (nI ((bs + 1) % 4)), .int (nI 0), .int (nI 0), .int (nI rf), .int (nI ac)])), (a1, .inl (cB, 259, .inl t))] H := hP
            have hD : va_D A [(h0, .inr (3, [.int (nI th), .ref a1, .int (nI n), .int (nI cn), .ref a2, .ref a3, .ref a4, .int (nI kl), .int (nI 1), .int (nI (bN (t 7))), .int (nI ((bs + 1) % 4)), .int (nI 0), .int (nI 0), .int (nI rf), .int (nI ac)])), (a1, .inl (cB, 259, .inl t))] := hD
            refine lv_iload_n hx hb d_M_controls_119 rfl (lv_at hl 1 rfl) ?_
            refine fg_ifb_eq (tgt := 127) hx hb d_M_controls_120 (by decide) (fun c_120 => ?_) (fun c_120 => ?_)
            · exact absurd c_70 c_120
            · refine lv_iconst (v := (nI 3)) hx hb d_M_controls_123 (by decide) ?_
              refine lv_goto (tgt := 128) hx hb d_M_controls_124 (by decide) ?_
              exact W.iret (v := (nI 3)) hx hb hr (fun t9 ht9 hW9 => ⟨⟨(nI 3), (3, (1, bN (t 7), (bs + 1) % 4, 0, 0, rf, ac)), rfl, ⟨rfl, by rw [show ctl t k (st, nx, bs, wt, ag, rf, ac) = (3, (1, bN (t 7), (bs + 1) % 4, 0, 0, rf, ac)) from by dsimp only [ctl]; (repeat' split) <;> first | rfl | (exfalso; omega) | (have h3 : st = 3 := (by omega); rw [h3])]; rfl⟩, by rw [ht9]; exact hP, by rw [hAe]; exact hD⟩, hS.F ht9⟩) hS.2.2 d_M_controls_128
        · exact absurd c_45 c_70
      · refine lv_iload_n hx hb d_M_controls_48 rfl (lv_at hl 0 rfl) ?_
        refine fg_ifb_ne (tgt := 57) hx hb d_M_controls_49 (by decide) (fun c_49 => ?_) (fun c_49 => ?_)
        · refine lv_aload_n hx hb d_M_controls_57 rfl (lv_at hl 2 rfl) ?_
          refine lv_aload_n hx hb d_M_controls_58 rfl (lv_at hl 2 rfl) ?_
          refine va_get (D := (dC, dI)) (ci := 3) (v := .int (nI bs)) (C := R_M) (T := F_M) (N := 15) hx hb ht i_M hown hK hP 0 rfl rfl 10 (by decide) (ht _ m_207) (fun _ h9 => h9) rfl d_M_controls_59 ?_
          refine lv_iconst (v := (nI 1)) hx hb d_M_controls_62 (by decide) ?_
          refine fg_iadd hx hb d_M_controls_63 ?_
          refine lv_iconst (v := (nI 4)) hx hb d_M_controls_64 (by decide) ?_
          refine fg_irem hx hb d_M_controls_65 (by omega) (by decide) (by decide) ?_
          refine va_put (D := (dC, dI)) (ci := 3) (v := .int (nI ((bs + 1) % 4))) (ty := .int) (C := R_M) (T := F_M) (N := 15) hx hb ht i_M t_M t_M_ok n_M hown hK hP hD hS 0 rfl rfl 10 (by decide) (ht _ m_207) (fun _ h9 => h9) rfl (t_M_ok 10 (by decide)) rfl rfl (Nat.le_of_ble_eq_true rfl) d_M_controls_66 (fun H locs hP hD hS => ?_)
          have hP : va_P (dC, dI) fgC [(h0, .inr (3, [.int (nI th), .ref a1, .int (nI n), .int (nI cn), .ref a2, .ref a3, .ref a4, .int (nI kl), .int (nI st), .int (nI nx), .int (nI ((bs + 1) % 4)), .int (nI wt), .int (nI ag), .int (nI rf), .int (nI ac)])), (a1, .inl (cB, 259, .inl t))] H := hP
          have hD : va_D A [(h0, .inr (3, [.int (nI th), .ref a1, .int (nI n), .int (nI cn), .ref a2, .ref a3, .ref a4, .int (nI kl), .int (nI st), .int (nI nx), .int (nI ((bs + 1) % 4)), .int (nI wt), .int (nI ag), .int (nI rf), .int (nI ac)])), (a1, .inl (cB, 259, .inl t))] := hD
          refine lv_iload_n hx hb d_M_controls_69 rfl (lv_at hl 1 rfl) ?_
          refine fg_ifb_ne (tgt := 81) hx hb d_M_controls_70 (by decide) (fun c_70 => ?_) (fun c_70 => ?_)
          · exact absurd c_70 c_45
          · refine lv_aload_n hx hb d_M_controls_73 rfl (lv_at hl 2 rfl) ?_
            refine va_get (D := (dC, dI)) (ci := 3) (v := .int (nI st)) (C := R_M) (T := F_M) (N := 15) hx hb ht i_M hown hK hP 0 rfl rfl 8 (by decide) (ht _ m_205) (fun _ h9 => h9) rfl d_M_controls_74 ?_
            refine lv_iconst (v := (nI 3)) hx hb d_M_controls_77 (by decide) ?_
            refine fg_cmp_eq (tgt := 119) hx hb d_M_controls_78 (by decide) (by omega) (by omega) (fun c_78 => ?_) (fun c_78 => ?_)
            · refine lv_iload_n hx hb d_M_controls_119 rfl (lv_at hl 1 rfl) ?_
              refine fg_ifb_eq (tgt := 127) hx hb d_M_controls_120 (by decide) (fun c_120 => ?_) (fun c_120 => ?_)
              · refine lv_iconst (v := (nI 4)) hx hb d_M_controls_127 (by decide) ?_
                exact W.iret (v := (nI 4)) hx hb hr (fun t9 ht9 hW9 => ⟨⟨(nI 4), (4, (st, nx, (bs + 1) % 4, wt, ag, rf, ac)), rfl, ⟨rfl, by rw [show ctl t k (st, nx, bs, wt, ag, rf, ac) = (4, (st, nx, (bs + 1) % 4, wt, ag, rf, ac)) from by dsimp only [ctl]; (repeat' split) <;> first | rfl | (exfalso; omega) | (have h3 : st = 3 := (by omega); rw [h3])]; rfl⟩, by rw [ht9]; exact hP, by rw [hAe]; exact hD⟩, hS.F ht9⟩) hS.2.2 d_M_controls_128
              · exact absurd c_120 c_70
            · refine lv_aload_n hx hb d_M_controls_81 rfl (lv_at hl 2 rfl) ?_
              refine lv_iconst (v := (nI 0)) hx hb d_M_controls_82 (by decide) ?_
              refine va_put (D := (dC, dI)) (ci := 3) (v := .int (nI 0)) (ty := .boolean) (C := R_M) (T := F_M) (N := 15) hx hb ht i_M t_M t_M_ok n_M hown hK hP hD hS 0 rfl rfl 12 (by decide) (ht _ m_209) (fun _ h9 => h9) rfl (t_M_ok 12 (by decide)) (fg_nZ (by omega)) (fg_fZ (by omega)) (Nat.le_of_ble_eq_true rfl) d_M_controls_83 (fun H locs hP hD hS => ?_)
              have hP : va_P (dC, dI) fgC [(h0, .inr (3, [.int (nI th), .ref a1, .int (nI n), .int (nI cn), .ref a2, .ref a3, .ref a4, .int (nI kl), .int (nI st), .int (nI nx), .int (nI ((bs + 1) % 4)), .int (nI wt), .int (nI 0), .int (nI rf), .int (nI ac)])), (a1, .inl (cB, 259, .inl t))] H := hP
              have hD : va_D A [(h0, .inr (3, [.int (nI th), .ref a1, .int (nI n), .int (nI cn), .ref a2, .ref a3, .ref a4, .int (nI kl), .int (nI st), .int (nI nx), .int (nI ((bs + 1) % 4)), .int (nI wt), .int (nI 0), .int (nI rf), .int (nI ac)])), (a1, .inl (cB, 259, .inl t))] := hD
              refine lv_aload_n hx hb d_M_controls_86 rfl (lv_at hl 2 rfl) ?_
              refine lv_iconst (v := (nI 0)) hx hb d_M_controls_87 (by decide) ?_
              refine va_put (D := (dC, dI)) (ci := 3) (v := .int (nI 0)) (ty := .boolean) (C := R_M) (T := F_M) (N := 15) hx hb ht i_M t_M t_M_ok n_M hown hK hP hD hS 0 rfl rfl 11 (by decide) (ht _ m_208) (fun _ h9 => h9) rfl (t_M_ok 11 (by decide)) (fg_nZ (by omega)) (fg_fZ (by omega)) (Nat.le_of_ble_eq_true rfl) d_M_controls_88 (fun H locs hP hD hS => ?_)
              have hP : va_P (dC, dI) fgC [(h0, .inr (3, [.int (nI th), .ref a1, .int (nI n), .int (nI cn), .ref a2, .ref a3, .ref a4, .int (nI kl), .int (nI st), .int (nI nx), .int (nI ((bs + 1) % 4)), .int (nI 0), .int (nI 0), .int (nI rf), .int (nI ac)])), (a1, .inl (cB, 259, .inl t))] H := hP
              have hD : va_D A [(h0, .inr (3, [.int (nI th), .ref a1, .int (nI n), .int (nI cn), .ref a2, .ref a3, .ref a4, .int (nI kl), .int (nI st), .int (nI nx), .int (nI ((bs + 1) % 4)), .int (nI 0), .int (nI 0), .int (nI rf), .int (nI ac)])), (a1, .inl (cB, 259, .inl t))] := hD
              refine lv_aload_n hx hb d_M_controls_91 rfl (lv_at hl 2 rfl) ?_
              refine lv_iconst (v := (nI 1)) hx hb d_M_controls_92 (by decide) ?_
              refine va_put (D := (dC, dI)) (ci := 3) (v := .int (nI 1)) (ty := .int) (C := R_M) (T := F_M) (N := 15) hx hb ht i_M t_M t_M_ok n_M hown hK hP hD hS 0 rfl rfl 8 (by decide) (ht _ m_205) (fun _ h9 => h9) rfl (t_M_ok 8 (by decide)) rfl rfl (Nat.le_of_ble_eq_true rfl) d_M_controls_93 (fun H locs hP hD hS => ?_)
              have hP : va_P (dC, dI) fgC [(h0, .inr (3, [.int (nI th), .ref a1, .int (nI n), .int (nI cn), .ref a2, .ref a3, .ref a4, .int (nI kl), .int (nI 1), .int (nI nx), .int (nI ((bs + 1) % 4)), .int (nI 0), .int (nI 0), .int (nI rf), .int (nI ac)])), (a1, .inl (cB, 259, .inl t))] H := hP
              have hD : va_D A [(h0, .inr (3, [.int (nI th), .ref a1, .int (nI n), .int (nI cn), .ref a2, .ref a3, .ref a4, .int (nI kl), .int (nI 1), .int (nI nx), .int (nI ((bs + 1) % 4)), .int (nI 0), .int (nI 0), .int (nI rf), .int (nI ac)])), (a1, .inl (cB, 259, .inl t))] := hD
              refine lv_aload_n hx hb d_M_controls_96 rfl (lv_at hl 2 rfl) ?_
              refine lv_iload_n hx hb d_M_controls_97 rfl (lv_at hl 0 rfl) ?_
              refine fg_ifb_eq (tgt := 112) hx hb d_M_controls_98 (by decide) (fun c_98 => ?_) (fun c_98 => ?_)
              · exact absurd c_49 c_98
              · refine lv_aload_n hx hb d_M_controls_101 rfl (lv_at hl 2 rfl) ?_
                refine lv_bipush (v := (nI 56)) hx hb d_M_controls_102 (by decide) ?_
                refine lv_bipush (v := (nI 8)) hx hb d_M_controls_104 (by decide) ?_
                refine vp_callSi (va_Run.run (va_runV (As := [.int (nI 56), .int (nI 8)]) (rest := [.ref h0]) ⟨hx, hb, hml, hown, ht⟩ (c_M_bits l dC dI cB cI cG h0 a1 t (.int (nI th)) (.int (nI n)) (.int (nI cn)) (.ref a2) (.ref a3) (.ref a4) (.int (nI kl)) (.int (nI 1)) (.int (nI nx)) (.int (nI ((bs + 1) % 4))) (.int (nI 0)) (.int (nI 0)) (.int (nI rf)) (.int (nI ac)) 56 8 H.size (by decide) (by decide)) (cwV 2 ht (fg_gV m_270 m_272 m_s8 m_4 m_273) rfl rfl rfl (by decide +kernel) ⟨Nat.le_of_ble_eq_true rfl, Nat.le_of_ble_eq_true rfl⟩) (fg_preV hK (hP.sub [0, 1] rfl) (hD.sub [0, 1] (by decide) rfl) (va_recv hK hP (ci := 3) (q0 := 0) rfl rfl)) rfl rfl hl.1 rfl (lv_room (Nat.le_of_ble_eq_true rfl)) d_M_controls_106 ⟨Nat.le_of_ble_eq_true rfl, Nat.le_of_ble_eq_true rfl⟩)) (fun r_106 er_106 => ?_)
                obtain rfl : r_106 = (nI (bts t 56 8)) := er_106
                refine fg_nm (y := (nI (bN (t 7)))) (congrArg nI (b_56_8 t)) ?_
                refine lv_goto (tgt := 116) hx hb d_M_controls_109 (by decide) ?_
                refine va_put (D := (dC, dI)) (ci := 3) (v := .int (nI (bN (t 7)))) (ty := .int) (C := R_M) (T := F_M) (N := 15) hx hb ht i_M t_M t_M_ok n_M hown hK hP hD hS 0 rfl rfl 9 (by decide) (ht _ m_206) (fun _ h9 => h9) rfl (t_M_ok 9 (by decide)) rfl rfl (Nat.le_of_ble_eq_true rfl) d_M_controls_116 (fun H locs hP hD hS => ?_)
                have hP : va_P (dC, dI) fgC [(h0, .inr (3, [.int (nI th), .ref a1, .int (nI n), .int (nI cn), .ref a2, .ref a3, .ref a4, .int (nI kl), .int (nI 1), .int (nI (bN (t 7))), .int (nI ((bs + 1) % 4)), .int (nI 0), .int (nI 0), .int (nI rf), .int (nI ac)])), (a1, .inl (cB, 259, .inl t))] H := hP
                have hD : va_D A [(h0, .inr (3, [.int (nI th), .ref a1, .int (nI n), .int (nI cn), .ref a2, .ref a3, .ref a4, .int (nI kl), .int (nI 1), .int (nI (bN (t 7))), .int (nI ((bs + 1) % 4)), .int (nI 0), .int (nI 0), .int (nI rf), .int (nI ac)])), (a1, .inl (cB, 259, .inl t))] := hD
                refine lv_iload_n hx hb d_M_controls_119 rfl (lv_at hl 1 rfl) ?_
                refine fg_ifb_eq (tgt := 127) hx hb d_M_controls_120 (by decide) (fun c_120 => ?_) (fun c_120 => ?_)
                · refine lv_iconst (v := (nI 4)) hx hb d_M_controls_127 (by decide) ?_
                  exact W.iret (v := (nI 4)) hx hb hr (fun t9 ht9 hW9 => ⟨⟨(nI 4), (4, (1, bN (t 7), (bs + 1) % 4, 0, 0, rf, ac)), rfl, ⟨rfl, by rw [show ctl t k (st, nx, bs, wt, ag, rf, ac) = (4, (1, bN (t 7), (bs + 1) % 4, 0, 0, rf, ac)) from by dsimp only [ctl]; (repeat' split) <;> first | rfl | (exfalso; omega) | (have h3 : st = 3 := (by omega); rw [h3])]; rfl⟩, by rw [ht9]; exact hP, by rw [hAe]; exact hD⟩, hS.F ht9⟩) hS.2.2 d_M_controls_128
                · exact absurd c_120 c_70
        · refine lv_aload_n hx hb d_M_controls_52 rfl (lv_at hl 2 rfl) ?_
          refine fg_calli (wc := [(h0, .inr (3, [.int (nI th), .ref a1, .int (nI n), .int (nI cn), .ref a2, .ref a3, .ref a4, .int (nI kl), .int (nI st), .int (nI nx), .int (nI bs), .int (nI wt), .int (nI ag), .int (nI rf), .int (nI ac)]))]) (wr := [(a1, .inl (cB, 259, .inl t))]) (fun (_ : Unit) => [(h0, .inr (3, [.int (nI th), .ref a1, .int (nI n), .int (nI cn), .ref a2, .ref a3, .ref a4, .int (nI kl), .int (nI st), .int (nI nx), .int (nI bs), .int (nI wt), .int (nI ag), .int (nI (rf + 1)), .int (nI ac)]))]) (va_runV (As := []) (rest := []) ⟨hx, hb, hml, hown, ht⟩ (c_M_refuses l dC dI cB cI cG h0 (.int (nI th)) (.ref a1) (.int (nI n)) (.int (nI cn)) (.ref a2) (.ref a3) (.ref a4) (.int (nI kl)) (.int (nI st)) (.int (nI nx)) (.int (nI bs)) (.int (nI wt)) (.int (nI ag)) (.int (nI ac)) rf s.heap.size) (cwV 0 ht (fg_gV m_274 m_276 m_s9 m_4 m_277) rfl rfl rfl (by decide +kernel) ⟨Nat.le_of_ble_eq_true rfl, Nat.le_of_ble_eq_true rfl⟩) (fg_preV hK (hP.sub [0] rfl) (hD.sub [0] (by decide) rfl) (va_recv hK hP (ci := 3) (q0 := 0) rfl rfl)) rfl rfl hl.1 rfl (lv_room (Nat.le_of_ble_eq_true rfl)) d_M_controls_53 ⟨Nat.le_of_ble_eq_true rfl, Nat.le_of_ble_eq_true rfl⟩) hP hD hS hA [0] [1] rfl rfl (by decide) (by decide) (fun r_53 u H locs hw hP hD hS => ?_)
          obtain rfl : r_53 = nI 0 := hw
          have hP : va_P (dC, dI) fgC [(h0, .inr (3, [.int (nI th), .ref a1, .int (nI n), .int (nI cn), .ref a2, .ref a3, .ref a4, .int (nI kl), .int (nI st), .int (nI nx), .int (nI bs), .int (nI wt), .int (nI ag), .int (nI (rf + 1)), .int (nI ac)])), (a1, .inl (cB, 259, .inl t))] H := hP.sub [1, 0] rfl
          have hD : va_D A [(h0, .inr (3, [.int (nI th), .ref a1, .int (nI n), .int (nI cn), .ref a2, .ref a3, .ref a4, .int (nI kl), .int (nI st), .int (nI nx), .int (nI bs), .int (nI wt), .int (nI ag), .int (nI (rf + 1)), .int (nI ac)])), (a1, .inl (cB, 259, .inl t))] := hD.sub [1, 0] (by decide) rfl
          exact W.iret (v := (nI 0)) hx hb hr (fun t9 ht9 hW9 => ⟨⟨(nI 0), (0, (st, nx, bs, wt, ag, rf + 1, ac)), rfl, ⟨rfl, by rw [show ctl t k (st, nx, bs, wt, ag, rf, ac) = (0, (st, nx, bs, wt, ag, rf, ac)) from by dsimp only [ctl]; (repeat' split) <;> first | rfl | (exfalso; omega) | (have h3 : st = 3 := (by omega); rw [h3])]; rfl⟩, by rw [ht9]; exact hP, by rw [hAe]; exact hD⟩, hS.F ht9⟩) hS.2.2 d_M_controls_56
    · refine lv_iload_n hx hb d_M_controls_20 rfl (lv_at hl 2 rfl) ?_
      refine lv_iconst (v := (nI 3)) hx hb d_M_controls_21 (by decide) ?_
      refine fg_cmp_ne (tgt := 42) hx hb d_M_controls_22 (by decide) (by omega) (by omega) (fun c_22 => ?_) (fun c_22 => ?_)
      · refine lv_iconst (v := (nI 0)) hx hb d_M_controls_42 (by decide) ?_
        exact fg_nm (congrArg nI ((if_neg (by omega)).symm)) j_43
      · refine lv_aload_n hx hb d_M_controls_25 rfl (lv_at hl 1 rfl) ?_
        refine lv_bipush (v := (nI 40)) hx hb d_M_controls_26 (by decide) ?_
        refine lv_bipush (v := (nI 16)) hx hb d_M_controls_28 (by decide) ?_
        refine vp_callSi (va_Run.run (va_runV (As := [.int (nI 40), .int (nI 16)]) (rest := []) ⟨hx, hb, hml, hown, ht⟩ (c_M_bits l dC dI cB cI cG h0 a1 t (.int (nI th)) (.int (nI n)) (.int (nI cn)) (.ref a2) (.ref a3) (.ref a4) (.int (nI kl)) (.int (nI st)) (.int (nI nx)) (.int (nI bs)) (.int (nI wt)) (.int (nI ag)) (.int (nI rf)) (.int (nI ac)) 40 16 s.heap.size (by decide) (by decide)) (cwV 2 ht (fg_gV m_270 m_272 m_s8 m_4 m_273) rfl rfl rfl (by decide +kernel) ⟨Nat.le_of_ble_eq_true rfl, Nat.le_of_ble_eq_true rfl⟩) (fg_preV hK (hP.sub [0, 1] rfl) (hD.sub [0, 1] (by decide) rfl) (va_recv hK hP (ci := 3) (q0 := 0) rfl rfl)) rfl rfl hl.1 rfl (lv_room (Nat.le_of_ble_eq_true rfl)) d_M_controls_30 ⟨Nat.le_of_ble_eq_true rfl, Nat.le_of_ble_eq_true rfl⟩)) (fun r_30 er_30 => ?_)
        obtain rfl : r_30 = (nI (bts t 40 16)) := er_30
        refine fg_nm (y := (nI (bN (t 5) * 256 + bN (t 6)))) (congrArg nI (b_40_16 t)) ?_
        refine lv_ldc (v := 33280) hx hb hown (ht _ m_282) d_M_controls_33 ?_
        refine fg_nm (y := nI 33280) (by decide) ?_
        refine fg_cmp_ne (tgt := 42) hx hb d_M_controls_35 (by decide) (by omega) (by omega) (fun c_35 => ?_) (fun c_35 => ?_)
        · refine lv_iconst (v := (nI 0)) hx hb d_M_controls_42 (by decide) ?_
          exact fg_nm (congrArg nI ((if_neg (by omega)).symm)) j_43
        · refine lv_iconst (v := (nI 1)) hx hb d_M_controls_38 (by decide) ?_
          refine lv_goto (tgt := 43) hx hb d_M_controls_39 (by decide) ?_
          exact fg_nm (congrArg nI ((if_pos (by omega)).symm)) j_43
  · refine lv_iload_n hx hb d_M_controls_0 rfl (lv_at hl 1 rfl) ?_
    refine lv_iconst (v := (nI 1)) hx hb d_M_controls_1 (by decide) ?_
    refine fg_cmp_ne (tgt := 18) hx hb d_M_controls_2 (by decide) (by omega) (by omega) (fun c_2 => ?_) (fun c_2 => ?_)
    · refine lv_iconst (v := (nI 0)) hx hb d_M_controls_18 (by decide) ?_
      exact fg_nm (congrArg nI ((if_neg (by omega)).symm)) j_19
    · refine lv_aload_n hx hb d_M_controls_5 rfl (lv_at hl 0 rfl) ?_
      refine va_get (D := (dC, dI)) (ci := 3) (v := .ref a1) (C := R_M) (T := F_M) (N := 15) hx hb ht i_M hown hK hP 0 rfl rfl 1 (by decide) (ht _ m_198) (fun _ h9 => h9) rfl d_M_controls_6 ?_
      refine lv_iconst (v := (nI 5)) hx hb d_M_controls_9 (by decide) ?_
      refine fg_bald hx hb hK hP 1 0 rfl rfl (by omega) (by decide) d_M_controls_10 ?_
      refine lv_if_ne (tgt := 18) hx hb d_M_controls_11 (by decide) (fun c_11 => ?_) (fun c_11 => ?_)
      · have c_11 := (not_congr (hB.zero 5)).mp c_11
        refine lv_iconst (v := (nI 0)) hx hb d_M_controls_18 (by decide) ?_
        exact fg_nm (congrArg nI ((if_neg (by omega)).symm)) j_19
      · have c_11 := (hB.zero 5).mp c_11
        refine lv_iconst (v := (nI 1)) hx hb d_M_controls_14 (by decide) ?_
        refine lv_goto (tgt := 19) hx hb d_M_controls_15 (by decide) ?_
        exact fg_nm (congrArg nI ((if_pos (by omega)).symm)) j_19
set_option maxHeartbeats 4000000 in
set_option maxRecDepth 100000 in
/-- Model.inOrder(k) -/
theorem c_M_inOrder (l : Launch) (dC : Nat → ClassId) (dI : Nat → Nat → Nat) (cB cI cG : ClassId) (h0 a1 a2 a3 a4 th n cn kl : Nat) (st nx bs wt ag rf ac : Nat) (t q ln : Nat → Int32) (k : Nat) (sz : Nat) (hB : BF t) (hc : cn ≤ 8) (hk : k ≤ 252) (hg : st < 4 ∧ nx < 256 ∧ bs < 4 ∧ wt < 2 ∧ ag < 2) : Met l y_M_inOrder (Cond.code y_M_inOrder b_M_inOrder 3 (some .int) :: w_all) ({ frames := 1, cells := 0, slots := 0, locals := 24 }) (va_Pc [.ref h0, .int (nI k)] (fgPre (dC, dI) (tysA cB cI cG) [(h0, .inr (3, [.int (nI th), .ref a1, .int (nI n), .int (nI cn), .ref a2, .ref a3, .ref a4, .int (nI kl), .int (nI st), .int (nI nx), .int (nI bs), .int (nI wt), .int (nI ag), .int (nI rf), .int (nI ac)])), (a1, .inl (cB, 259, .inl t)), (a2, .inl (cB, 2048, .inl q)), (a3, .inl (cI, 8, .inl ln))] sz)) (va_Qi (fun (r9 : Int32) (u : Nat × GS) => r9 = nI u.1 ∧ u = fin (ino t cn (st, nx, bs, wt, ag, rf, ac))) (fun u t9 => fgPost (dC, dI) [(h0, .inr (3, [.int (nI th), .ref a1, .int (nI n), .int (nI cn), .ref a2, .ref a3, .ref a4, .int (nI kl), .int (nI st), .int (nI nx), .int (nI bs), .int (nI wt), .int (nI ag), .int (nI rf), .int (nI ac)])), (a1, .inl (cB, 259, .inl t)), (a2, .inl (cB, 2048, .inl q)), (a3, .inl (cI, 8, .inl ln))] [(h0, .inr (3, [.int (nI th), .ref a1, .int (nI n), .int (nI (pC u.1 cn)), .ref a2, .ref a3, .ref a4, .int (nI kl), .int (nI u.2.1), .int (nI u.2.2.1), .int (nI u.2.2.2.1), .int (nI u.2.2.2.2.1), .int (nI u.2.2.2.2.2.1), .int (nI u.2.2.2.2.2.2.1), .int (nI u.2.2.2.2.2.2.2)])), (a1, .inl (cB, 259, .inl t)), (a2, .inl (cB, 2048, .inl (pQ u.1 cn k t q))), (a3, .inl (cI, 8, .inl (pL u.1 cn k ln)))] sz t9) (va_A [(h0, .inr (3, [.int (nI th), .ref a1, .int (nI n), .int (nI cn), .ref a2, .ref a3, .ref a4, .int (nI kl), .int (nI st), .int (nI nx), .int (nI bs), .int (nI wt), .int (nI ag), .int (nI rf), .int (nI ac)])), (a1, .inl (cB, 259, .inl t)), (a2, .inl (cB, 2048, .inl q)), (a3, .inl (cI, 8, .inl ln))] sz)) 0 0 (va_A [(h0, .inr (3, [.int (nI th), .ref a1, .int (nI n), .int (nI cn), .ref a2, .ref a3, .ref a4, .int (nI kl), .int (nI st), .int (nI nx), .int (nI bs), .int (nI wt), .int (nI ag), .int (nI rf), .int (nI ac)])), (a1, .inl (cB, 259, .inl t)), (a2, .inl (cB, 2048, .inl q)), (a3, .inl (cI, 8, .inl ln))] sz) := by
  refine Met.ofW (cc := b_M_inOrder) (maxL := 3) (ret := (some .int)) (by decide) rfl ?_
  intro p e s m args below meth c s₁ B hml hv
  obtain ⟨rfl, hsz, hP, hK, hD0⟩ := hv
  have hx := B.exec
  have hb := B.bytes
  have hr := B.returns
  have hts := atoms_spec (ws := (Cond.code y_M_inOrder b_M_inOrder 3 (some .int) :: w_all)) B.pre
  have ht : ∀ w ∈ w_all, w.before _ s = true := fun w h => hts w (List.mem_cons_of_mem _ h)
  have hown : s.vm.findClass R_M = some m.cls := findClass_of_methodNamed B.named
  have hlocks := B.notSynchronized
  subst hsz
  have hD := hD0.self (sz := s.heap.size)
  generalize hAe : va_A [(h0, .inr (3, [.int (nI th), .ref a1, .int (nI n), .int (nI cn), .ref a2, .ref a3, .ref a4, .int (nI kl), .int (nI st), .int (nI nx), .int (nI bs), .int (nI wt), .int (nI ag), .int (nI rf), .int (nI ac)])), (a1, .inl (cB, 259, .inl t)), (a2, .inl (cB, 2048, .inl q)), (a3, .inl (cI, 8, .inl ln))] s.heap.size = A at hD ⊢
  have hA : ∀ q : Nat, s.heap.size ≤ q → A q := fun q h => by rw [← hAe]; exact Or.inr h
  have hS : va_S A s.heap s.heap [] := va_S.rf
  have hl := lv_entry ([.ref h0, .int (nI k)]) (n := 3) (Nat.le_of_ble_eq_true rfl)
  rw [lg_entry_eq]
  generalize (lg_sl ([.ref h0, .int (nI k)]) ++ List.replicate (3 - (lg_sl ([.ref h0, .int (nI k)])).length) Slot.unset).toArray = ls at hl ⊢
  have hl : lv_has ls 3 [(0, .ref h0), (1, .int (nI k))] := hl
  have hb4 := bN_lt (t 4)
  refine lv_aload_n hx hb d_M_inOrder_0 rfl (lv_at hl 0 rfl) ?_
  refine lv_bipush (v := (nI 32)) hx hb d_M_inOrder_1 (by decide) ?_
  refine lv_bipush (v := (nI 8)) hx hb d_M_inOrder_3 (by decide) ?_
  refine vp_callSi (va_Run.run (va_runV (As := [.int (nI 32), .int (nI 8)]) (rest := []) ⟨hx, hb, hml, hown, ht⟩ (c_M_bits l dC dI cB cI cG h0 a1 t (.int (nI th)) (.int (nI n)) (.int (nI cn)) (.ref a2) (.ref a3) (.ref a4) (.int (nI kl)) (.int (nI st)) (.int (nI nx)) (.int (nI bs)) (.int (nI wt)) (.int (nI ag)) (.int (nI rf)) (.int (nI ac)) 32 8 s.heap.size (by decide) (by decide)) (cwV 2 ht (fg_gV m_270 m_272 m_s8 m_4 m_273) rfl rfl rfl (by decide +kernel) ⟨Nat.le_of_ble_eq_true rfl, Nat.le_of_ble_eq_true rfl⟩) (fg_preV hK (hP.sub [0, 1] rfl) (hD.sub [0, 1] (by decide) rfl) (va_recv hK hP (ci := 3) (q0 := 0) rfl rfl)) rfl rfl hl.1 rfl (lv_room (Nat.le_of_ble_eq_true rfl)) d_M_inOrder_5 ⟨Nat.le_of_ble_eq_true rfl, Nat.le_of_ble_eq_true rfl⟩)) (fun r_5 er_5 => ?_)
  obtain rfl : r_5 = (nI (bts t 32 8)) := er_5
  refine fg_nm (y := (nI (bN (t 4)))) (congrArg nI (b_32_8 t)) ?_
  refine lv_aload_n hx hb d_M_inOrder_8 rfl (lv_at hl 0 rfl) ?_
  refine va_get (D := (dC, dI)) (ci := 3) (v := .int (nI nx)) (C := R_M) (T := F_M) (N := 15) hx hb ht i_M hown hK hP 0 rfl rfl 9 (by decide) (ht _ m_206) (fun _ h9 => h9) rfl d_M_inOrder_9 ?_
  refine lv_isub hx hb d_M_inOrder_12 ?_
  refine lv_sipush (v := (nI 256)) hx hb d_M_inOrder_13 (by decide) ?_
  refine lv_iadd hx hb d_M_inOrder_16 ?_
  refine fg_nm (y := (nI (bN (t 4) + 256 - nx))) (fd_m (by omega)) ?_
  refine lv_sipush (v := (nI 256)) hx hb d_M_inOrder_17 (by decide) ?_
  refine fg_irem hx hb d_M_inOrder_20 (by omega) (by decide) (by decide) ?_
  refine fg_nm (y := (nI (fd t nx))) (rfl) ?_
  have hfd : fd t nx < 256 := Nat.mod_lt _ (by decide)
  refine lv_istore_n (lv' := [(2, .int (nI (fd t nx))), (0, .ref h0), (1, .int (nI k))]) hx hb d_M_inOrder_21 rfl hl (by decide) rfl (fun ls hl => ?_)
  refine lv_iload_n hx hb d_M_inOrder_22 rfl (lv_at hl 0 rfl) ?_
  refine fg_if_ne (tgt := 69) hx hb d_M_inOrder_23 (by decide) (by omega) (fun c_23 => ?_) (fun c_23 => ?_)
  · refine lv_iload_n hx hb d_M_inOrder_69 rfl (lv_at hl 0 rfl) ?_
    refine fg_if_ne (tgt := 99) hx hb d_M_inOrder_70 (by decide) (by omega) (fun c_70 => ?_) (fun c_70 => ?_)
    · refine lv_iload_n hx hb d_M_inOrder_99 rfl (lv_at hl 0 rfl) ?_
      refine fg_if_le (tgt := 125) hx hb d_M_inOrder_100 (by decide) (by omega) (fun c_100 => ?_) (fun c_100 => ?_)
      · refine lv_iload_n hx hb d_M_inOrder_125 rfl (lv_at hl 0 rfl) ?_
        refine lv_bipush (v := (nI 9)) hx hb d_M_inOrder_126 (by decide) ?_
        refine fg_cmp_le (tgt := 151) hx hb d_M_inOrder_128 (by decide) (by omega) (by omega) (fun c_128 => ?_) (fun c_128 => ?_)
        · refine lv_iconst (v := (nI 5)) hx hb d_M_inOrder_151 (by decide) ?_
          exact W.iret (v := (nI 5)) hx hb hr (fun t9 ht9 hW9 => ⟨⟨(nI 5), (5, (st, nx, bs, wt, ag, rf, ac)), rfl, ⟨rfl, by rw [show ino t cn (st, nx, bs, wt, ag, rf, ac) = (5, (st, nx, bs, wt, ag, rf, ac)) from by dsimp only [ino]; (repeat' split) <;> first | rfl | (exfalso; omega) | (have h3 : st = 3 := (by omega); rw [h3])]; rfl⟩, by rw [ht9]; exact hP, by rw [hAe]; exact hD⟩, hS.F ht9⟩) hS.2.2 d_M_inOrder_152
        · refine lv_iload_n hx hb d_M_inOrder_131 rfl (lv_at hl 0 rfl) ?_
          refine lv_sipush (v := (nI 246)) hx hb d_M_inOrder_132 (by decide) ?_
          refine fg_cmp_ge (tgt := 151) hx hb d_M_inOrder_135 (by decide) (by omega) (by omega) (fun c_135 => ?_) (fun c_135 => ?_)
          · refine lv_iconst (v := (nI 5)) hx hb d_M_inOrder_151 (by decide) ?_
            exact W.iret (v := (nI 5)) hx hb hr (fun t9 ht9 hW9 => ⟨⟨(nI 5), (5, (st, nx, bs, wt, ag, rf, ac)), rfl, ⟨rfl, by rw [show ino t cn (st, nx, bs, wt, ag, rf, ac) = (5, (st, nx, bs, wt, ag, rf, ac)) from by dsimp only [ino]; (repeat' split) <;> first | rfl | (exfalso; omega) | (have h3 : st = 3 := (by omega); rw [h3])]; rfl⟩, by rw [ht9]; exact hP, by rw [hAe]; exact hD⟩, hS.F ht9⟩) hS.2.2 d_M_inOrder_152
          · refine lv_aload_n hx hb d_M_inOrder_138 rfl (lv_at hl 1 rfl) ?_
            refine va_get (D := (dC, dI)) (ci := 3) (v := .int (nI st)) (C := R_M) (T := F_M) (N := 15) hx hb ht i_M hown hK hP 0 rfl rfl 8 (by decide) (ht _ m_205) (fun _ h9 => h9) rfl d_M_inOrder_139 ?_
            refine lv_iconst (v := (nI 3)) hx hb d_M_inOrder_142 (by decide) ?_
            refine fg_cmp_eq (tgt := 151) hx hb d_M_inOrder_143 (by decide) (by omega) (by omega) (fun c_143 => ?_) (fun c_143 => ?_)
            · refine lv_iconst (v := (nI 5)) hx hb d_M_inOrder_151 (by decide) ?_
              exact W.iret (v := (nI 5)) hx hb hr (fun t9 ht9 hW9 => ⟨⟨(nI 5), (5, (st, nx, bs, wt, ag, rf, ac)), rfl, ⟨rfl, by rw [show ino t cn (st, nx, bs, wt, ag, rf, ac) = (5, (st, nx, bs, wt, ag, rf, ac)) from by dsimp only [ino]; (repeat' split) <;> first | rfl | (exfalso; omega) | (have h3 : st = 3 := (by omega); rw [h3])]; rfl⟩, by rw [ht9]; exact hP, by rw [hAe]; exact hD⟩, hS.F ht9⟩) hS.2.2 d_M_inOrder_152
            · refine lv_aload_n hx hb d_M_inOrder_146 rfl (lv_at hl 1 rfl) ?_
              refine lv_iconst (v := (nI 3)) hx hb d_M_inOrder_147 (by decide) ?_
              refine va_put (D := (dC, dI)) (ci := 3) (v := .int (nI 3)) (ty := .int) (C := R_M) (T := F_M) (N := 15) hx hb ht i_M t_M t_M_ok n_M hown hK hP hD hS 0 rfl rfl 8 (by decide) (ht _ m_205) (fun _ h9 => h9) rfl (t_M_ok 8 (by decide)) rfl rfl (Nat.le_of_ble_eq_true rfl) d_M_inOrder_148 (fun H locs hP hD hS => ?_)
              have hP : va_P (dC, dI) fgC [(h0, .inr (3, [.int (nI th), .ref a1, .int (nI n), .int (nI cn), .ref a2, .ref a3, .ref a4, .int (nI kl), .int (nI 3), .int (nI nx), .int (nI bs), .int (nI wt), .int (nI ag), .int (nI rf), .int (nI ac)])), (a1, .inl (cB, 259, .inl t)), (a2, .inl (cB, 2048, .inl q)), (a3, .inl (cI, 8, .inl ln))] H := hP
              have hD : va_D A [(h0, .inr (3, [.int (nI th), .ref a1, .int (nI n), .int (nI cn), .ref a2, .ref a3, .ref a4, .int (nI kl), .int (nI 3), .int (nI nx), .int (nI bs), .int (nI wt), .int (nI ag), .int (nI rf), .int (nI ac)])), (a1, .inl (cB, 259, .inl t)), (a2, .inl (cB, 2048, .inl q)), (a3, .inl (cI, 8, .inl ln))] := hD
              refine lv_iconst (v := (nI 5)) hx hb d_M_inOrder_151 (by decide) ?_
              exact W.iret (v := (nI 5)) hx hb hr (fun t9 ht9 hW9 => ⟨⟨(nI 5), (5, (3, nx, bs, wt, ag, rf, ac)), rfl, ⟨rfl, by rw [show ino t cn (st, nx, bs, wt, ag, rf, ac) = (5, (3, nx, bs, wt, ag, rf, ac)) from by dsimp only [ino]; (repeat' split) <;> first | rfl | (exfalso; omega) | (have h3 : st = 3 := (by omega); rw [h3])]; rfl⟩, by rw [ht9]; exact hP, by rw [hAe]; exact hD⟩, hS.F ht9⟩) hS.2.2 d_M_inOrder_152
      · refine lv_iload_n hx hb d_M_inOrder_103 rfl (lv_at hl 0 rfl) ?_
        refine lv_bipush (v := (nI 10)) hx hb d_M_inOrder_104 (by decide) ?_
        refine fg_cmp_ge (tgt := 125) hx hb d_M_inOrder_106 (by decide) (by omega) (by omega) (fun c_106 => ?_) (fun c_106 => ?_)
        · refine lv_iload_n hx hb d_M_inOrder_125 rfl (lv_at hl 0 rfl) ?_
          refine lv_bipush (v := (nI 9)) hx hb d_M_inOrder_126 (by decide) ?_
          refine fg_cmp_le (tgt := 151) hx hb d_M_inOrder_128 (by decide) (by omega) (by omega) (fun c_128 => ?_) (fun c_128 => ?_)
          · refine lv_iconst (v := (nI 5)) hx hb d_M_inOrder_151 (by decide) ?_
            exact W.iret (v := (nI 5)) hx hb hr (fun t9 ht9 hW9 => ⟨⟨(nI 5), (5, (st, nx, bs, wt, ag, rf, ac)), rfl, ⟨rfl, by rw [show ino t cn (st, nx, bs, wt, ag, rf, ac) = (5, (st, nx, bs, wt, ag, rf, ac)) from by dsimp only [ino]; (repeat' split) <;> first | rfl | (exfalso; omega) | (have h3 : st = 3 := (by omega); rw [h3])]; rfl⟩, by rw [ht9]; exact hP, by rw [hAe]; exact hD⟩, hS.F ht9⟩) hS.2.2 d_M_inOrder_152
          · refine lv_iload_n hx hb d_M_inOrder_131 rfl (lv_at hl 0 rfl) ?_
            refine lv_sipush (v := (nI 246)) hx hb d_M_inOrder_132 (by decide) ?_
            refine fg_cmp_ge (tgt := 151) hx hb d_M_inOrder_135 (by decide) (by omega) (by omega) (fun c_135 => ?_) (fun c_135 => ?_)
            · refine lv_iconst (v := (nI 5)) hx hb d_M_inOrder_151 (by decide) ?_
              exact W.iret (v := (nI 5)) hx hb hr (fun t9 ht9 hW9 => ⟨⟨(nI 5), (5, (st, nx, bs, wt, ag, rf, ac)), rfl, ⟨rfl, by rw [show ino t cn (st, nx, bs, wt, ag, rf, ac) = (5, (st, nx, bs, wt, ag, rf, ac)) from by dsimp only [ino]; (repeat' split) <;> first | rfl | (exfalso; omega) | (have h3 : st = 3 := (by omega); rw [h3])]; rfl⟩, by rw [ht9]; exact hP, by rw [hAe]; exact hD⟩, hS.F ht9⟩) hS.2.2 d_M_inOrder_152
            · refine lv_aload_n hx hb d_M_inOrder_138 rfl (lv_at hl 1 rfl) ?_
              refine va_get (D := (dC, dI)) (ci := 3) (v := .int (nI st)) (C := R_M) (T := F_M) (N := 15) hx hb ht i_M hown hK hP 0 rfl rfl 8 (by decide) (ht _ m_205) (fun _ h9 => h9) rfl d_M_inOrder_139 ?_
              refine lv_iconst (v := (nI 3)) hx hb d_M_inOrder_142 (by decide) ?_
              refine fg_cmp_eq (tgt := 151) hx hb d_M_inOrder_143 (by decide) (by omega) (by omega) (fun c_143 => ?_) (fun c_143 => ?_)
              · refine lv_iconst (v := (nI 5)) hx hb d_M_inOrder_151 (by decide) ?_
                exact W.iret (v := (nI 5)) hx hb hr (fun t9 ht9 hW9 => ⟨⟨(nI 5), (5, (st, nx, bs, wt, ag, rf, ac)), rfl, ⟨rfl, by rw [show ino t cn (st, nx, bs, wt, ag, rf, ac) = (5, (st, nx, bs, wt, ag, rf, ac)) from by dsimp only [ino]; (repeat' split) <;> first | rfl | (exfalso; omega) | (have h3 : st = 3 := (by omega); rw [h3])]; rfl⟩, by rw [ht9]; exact hP, by rw [hAe]; exact hD⟩, hS.F ht9⟩) hS.2.2 d_M_inOrder_152
              · refine lv_aload_n hx hb d_M_inOrder_146 rfl (lv_at hl 1 rfl) ?_
                refine lv_iconst (v := (nI 3)) hx hb d_M_inOrder_147 (by decide) ?_
                refine va_put (D := (dC, dI)) (ci := 3) (v := .int (nI 3)) (ty := .int) (C := R_M) (T := F_M) (N := 15) hx hb ht i_M t_M t_M_ok n_M hown hK hP hD hS 0 rfl rfl 8 (by decide) (ht _ m_205) (fun _ h9 => h9) rfl (t_M_ok 8 (by decide)) rfl rfl (Nat.le_of_ble_eq_true rfl) d_M_inOrder_148 (fun H locs hP hD hS => ?_)
                have hP : va_P (dC, dI) fgC [(h0, .inr (3, [.int (nI th), .ref a1, .int (nI n), .int (nI cn), .ref a2, .ref a3, .ref a4, .int (nI kl), .int (nI 3), .int (nI nx), .int (nI bs), .int (nI wt), .int (nI ag), .int (nI rf), .int (nI ac)])), (a1, .inl (cB, 259, .inl t)), (a2, .inl (cB, 2048, .inl q)), (a3, .inl (cI, 8, .inl ln))] H := hP
                have hD : va_D A [(h0, .inr (3, [.int (nI th), .ref a1, .int (nI n), .int (nI cn), .ref a2, .ref a3, .ref a4, .int (nI kl), .int (nI 3), .int (nI nx), .int (nI bs), .int (nI wt), .int (nI ag), .int (nI rf), .int (nI ac)])), (a1, .inl (cB, 259, .inl t)), (a2, .inl (cB, 2048, .inl q)), (a3, .inl (cI, 8, .inl ln))] := hD
                refine lv_iconst (v := (nI 5)) hx hb d_M_inOrder_151 (by decide) ?_
                exact W.iret (v := (nI 5)) hx hb hr (fun t9 ht9 hW9 => ⟨⟨(nI 5), (5, (3, nx, bs, wt, ag, rf, ac)), rfl, ⟨rfl, by rw [show ino t cn (st, nx, bs, wt, ag, rf, ac) = (5, (3, nx, bs, wt, ag, rf, ac)) from by dsimp only [ino]; (repeat' split) <;> first | rfl | (exfalso; omega) | (have h3 : st = 3 := (by omega); rw [h3])]; rfl⟩, by rw [ht9]; exact hP, by rw [hAe]; exact hD⟩, hS.F ht9⟩) hS.2.2 d_M_inOrder_152
        · refine lv_aload_n hx hb d_M_inOrder_109 rfl (lv_at hl 1 rfl) ?_
          refine va_get (D := (dC, dI)) (ci := 3) (v := .int (nI st)) (C := R_M) (T := F_M) (N := 15) hx hb ht i_M hown hK hP 0 rfl rfl 8 (by decide) (ht _ m_205) (fun _ h9 => h9) rfl d_M_inOrder_110 ?_
          refine lv_iconst (v := (nI 1)) hx hb d_M_inOrder_113 (by decide) ?_
          refine fg_cmp_ne (tgt := 125) hx hb d_M_inOrder_114 (by decide) (by omega) (by omega) (fun c_114 => ?_) (fun c_114 => ?_)
          · refine lv_iload_n hx hb d_M_inOrder_125 rfl (lv_at hl 0 rfl) ?_
            refine lv_bipush (v := (nI 9)) hx hb d_M_inOrder_126 (by decide) ?_
            refine fg_cmp_le (tgt := 151) hx hb d_M_inOrder_128 (by decide) (by omega) (by omega) (fun c_128 => ?_) (fun c_128 => ?_)
            · refine lv_iconst (v := (nI 5)) hx hb d_M_inOrder_151 (by decide) ?_
              exact W.iret (v := (nI 5)) hx hb hr (fun t9 ht9 hW9 => ⟨⟨(nI 5), (5, (st, nx, bs, wt, ag, rf, ac)), rfl, ⟨rfl, by rw [show ino t cn (st, nx, bs, wt, ag, rf, ac) = (5, (st, nx, bs, wt, ag, rf, ac)) from by dsimp only [ino]; (repeat' split) <;> first | rfl | (exfalso; omega) | (have h3 : st = 3 := (by omega); rw [h3])]; rfl⟩, by rw [ht9]; exact hP, by rw [hAe]; exact hD⟩, hS.F ht9⟩) hS.2.2 d_M_inOrder_152
            · refine lv_iload_n hx hb d_M_inOrder_131 rfl (lv_at hl 0 rfl) ?_
              refine lv_sipush (v := (nI 246)) hx hb d_M_inOrder_132 (by decide) ?_
              refine fg_cmp_ge (tgt := 151) hx hb d_M_inOrder_135 (by decide) (by omega) (by omega) (fun c_135 => ?_) (fun c_135 => ?_)
              · refine lv_iconst (v := (nI 5)) hx hb d_M_inOrder_151 (by decide) ?_
                exact W.iret (v := (nI 5)) hx hb hr (fun t9 ht9 hW9 => ⟨⟨(nI 5), (5, (st, nx, bs, wt, ag, rf, ac)), rfl, ⟨rfl, by rw [show ino t cn (st, nx, bs, wt, ag, rf, ac) = (5, (st, nx, bs, wt, ag, rf, ac)) from by dsimp only [ino]; (repeat' split) <;> first | rfl | (exfalso; omega) | (have h3 : st = 3 := (by omega); rw [h3])]; rfl⟩, by rw [ht9]; exact hP, by rw [hAe]; exact hD⟩, hS.F ht9⟩) hS.2.2 d_M_inOrder_152
              · refine lv_aload_n hx hb d_M_inOrder_138 rfl (lv_at hl 1 rfl) ?_
                refine va_get (D := (dC, dI)) (ci := 3) (v := .int (nI st)) (C := R_M) (T := F_M) (N := 15) hx hb ht i_M hown hK hP 0 rfl rfl 8 (by decide) (ht _ m_205) (fun _ h9 => h9) rfl d_M_inOrder_139 ?_
                refine lv_iconst (v := (nI 3)) hx hb d_M_inOrder_142 (by decide) ?_
                refine fg_cmp_eq (tgt := 151) hx hb d_M_inOrder_143 (by decide) (by omega) (by omega) (fun c_143 => ?_) (fun c_143 => ?_)
                · refine lv_iconst (v := (nI 5)) hx hb d_M_inOrder_151 (by decide) ?_
                  exact W.iret (v := (nI 5)) hx hb hr (fun t9 ht9 hW9 => ⟨⟨(nI 5), (5, (st, nx, bs, wt, ag, rf, ac)), rfl, ⟨rfl, by rw [show ino t cn (st, nx, bs, wt, ag, rf, ac) = (5, (st, nx, bs, wt, ag, rf, ac)) from by dsimp only [ino]; (repeat' split) <;> first | rfl | (exfalso; omega) | (have h3 : st = 3 := (by omega); rw [h3])]; rfl⟩, by rw [ht9]; exact hP, by rw [hAe]; exact hD⟩, hS.F ht9⟩) hS.2.2 d_M_inOrder_152
                · refine lv_aload_n hx hb d_M_inOrder_146 rfl (lv_at hl 1 rfl) ?_
                  refine lv_iconst (v := (nI 3)) hx hb d_M_inOrder_147 (by decide) ?_
                  refine va_put (D := (dC, dI)) (ci := 3) (v := .int (nI 3)) (ty := .int) (C := R_M) (T := F_M) (N := 15) hx hb ht i_M t_M t_M_ok n_M hown hK hP hD hS 0 rfl rfl 8 (by decide) (ht _ m_205) (fun _ h9 => h9) rfl (t_M_ok 8 (by decide)) rfl rfl (Nat.le_of_ble_eq_true rfl) d_M_inOrder_148 (fun H locs hP hD hS => ?_)
                  have hP : va_P (dC, dI) fgC [(h0, .inr (3, [.int (nI th), .ref a1, .int (nI n), .int (nI cn), .ref a2, .ref a3, .ref a4, .int (nI kl), .int (nI 3), .int (nI nx), .int (nI bs), .int (nI wt), .int (nI ag), .int (nI rf), .int (nI ac)])), (a1, .inl (cB, 259, .inl t)), (a2, .inl (cB, 2048, .inl q)), (a3, .inl (cI, 8, .inl ln))] H := hP
                  have hD : va_D A [(h0, .inr (3, [.int (nI th), .ref a1, .int (nI n), .int (nI cn), .ref a2, .ref a3, .ref a4, .int (nI kl), .int (nI 3), .int (nI nx), .int (nI bs), .int (nI wt), .int (nI ag), .int (nI rf), .int (nI ac)])), (a1, .inl (cB, 259, .inl t)), (a2, .inl (cB, 2048, .inl q)), (a3, .inl (cI, 8, .inl ln))] := hD
                  refine lv_iconst (v := (nI 5)) hx hb d_M_inOrder_151 (by decide) ?_
                  exact W.iret (v := (nI 5)) hx hb hr (fun t9 ht9 hW9 => ⟨⟨(nI 5), (5, (3, nx, bs, wt, ag, rf, ac)), rfl, ⟨rfl, by rw [show ino t cn (st, nx, bs, wt, ag, rf, ac) = (5, (3, nx, bs, wt, ag, rf, ac)) from by dsimp only [ino]; (repeat' split) <;> first | rfl | (exfalso; omega) | (have h3 : st = 3 := (by omega); rw [h3])]; rfl⟩, by rw [ht9]; exact hP, by rw [hAe]; exact hD⟩, hS.F ht9⟩) hS.2.2 d_M_inOrder_152
          · refine lv_aload_n hx hb d_M_inOrder_117 rfl (lv_at hl 1 rfl) ?_
            refine lv_iconst (v := (nI 1)) hx hb d_M_inOrder_118 (by decide) ?_
            refine va_put (D := (dC, dI)) (ci := 3) (v := .int (nI 1)) (ty := .boolean) (C := R_M) (T := F_M) (N := 15) hx hb ht i_M t_M t_M_ok n_M hown hK hP hD hS 0 rfl rfl 12 (by decide) (ht _ m_209) (fun _ h9 => h9) rfl (t_M_ok 12 (by decide)) (fg_nZ (by omega)) (fg_fZ (by omega)) (Nat.le_of_ble_eq_true rfl) d_M_inOrder_119 (fun H locs hP hD hS => ?_)
            have hP : va_P (dC, dI) fgC [(h0, .inr (3, [.int (nI th), .ref a1, .int (nI n), .int (nI cn), .ref a2, .ref a3, .ref a4, .int (nI kl), .int (nI st), .int (nI nx), .int (nI bs), .int (nI wt), .int (nI 1), .int (nI rf), .int (nI ac)])), (a1, .inl (cB, 259, .inl t)), (a2, .inl (cB, 2048, .inl q)), (a3, .inl (cI, 8, .inl ln))] H := hP
            have hD : va_D A [(h0, .inr (3, [.int (nI th), .ref a1, .int (nI n), .int (nI cn), .ref a2, .ref a3, .ref a4, .int (nI kl), .int (nI st), .int (nI nx), .int (nI bs), .int (nI wt), .int (nI 1), .int (nI rf), .int (nI ac)])), (a1, .inl (cB, 259, .inl t)), (a2, .inl (cB, 2048, .inl q)), (a3, .inl (cI, 8, .inl ln))] := hD
            refine lv_goto (tgt := 151) hx hb d_M_inOrder_122 (by decide) ?_
            refine lv_iconst (v := (nI 5)) hx hb d_M_inOrder_151 (by decide) ?_
            exact W.iret (v := (nI 5)) hx hb hr (fun t9 ht9 hW9 => ⟨⟨(nI 5), (5, (st, nx, bs, wt, 1, rf, ac)), rfl, ⟨rfl, by rw [show ino t cn (st, nx, bs, wt, ag, rf, ac) = (5, (st, nx, bs, wt, 1, rf, ac)) from by dsimp only [ino]; (repeat' split) <;> first | rfl | (exfalso; omega) | (have h3 : st = 3 := (by omega); rw [h3])]; rfl⟩, by rw [ht9]; exact hP, by rw [hAe]; exact hD⟩, hS.F ht9⟩) hS.2.2 d_M_inOrder_152
    · refine lv_aload_n hx hb d_M_inOrder_73 rfl (lv_at hl 1 rfl) ?_
      refine va_get (D := (dC, dI)) (ci := 3) (v := .int (nI st)) (C := R_M) (T := F_M) (N := 15) hx hb ht i_M hown hK hP 0 rfl rfl 8 (by decide) (ht _ m_205) (fun _ h9 => h9) rfl d_M_inOrder_74 ?_
      refine lv_iconst (v := (nI 1)) hx hb d_M_inOrder_77 (by decide) ?_
      refine fg_cmp_ne (tgt := 99) hx hb d_M_inOrder_78 (by decide) (by omega) (by omega) (fun c_78 => ?_) (fun c_78 => ?_)
      · refine lv_iload_n hx hb d_M_inOrder_99 rfl (lv_at hl 0 rfl) ?_
        refine fg_if_le (tgt := 125) hx hb d_M_inOrder_100 (by decide) (by omega) (fun c_100 => ?_) (fun c_100 => ?_)
        · refine lv_iload_n hx hb d_M_inOrder_125 rfl (lv_at hl 0 rfl) ?_
          refine lv_bipush (v := (nI 9)) hx hb d_M_inOrder_126 (by decide) ?_
          refine fg_cmp_le (tgt := 151) hx hb d_M_inOrder_128 (by decide) (by omega) (by omega) (fun c_128 => ?_) (fun c_128 => ?_)
          · refine lv_iconst (v := (nI 5)) hx hb d_M_inOrder_151 (by decide) ?_
            exact W.iret (v := (nI 5)) hx hb hr (fun t9 ht9 hW9 => ⟨⟨(nI 5), (5, (st, nx, bs, wt, ag, rf, ac)), rfl, ⟨rfl, by rw [show ino t cn (st, nx, bs, wt, ag, rf, ac) = (5, (st, nx, bs, wt, ag, rf, ac)) from by dsimp only [ino]; (repeat' split) <;> first | rfl | (exfalso; omega) | (have h3 : st = 3 := (by omega); rw [h3])]; rfl⟩, by rw [ht9]; exact hP, by rw [hAe]; exact hD⟩, hS.F ht9⟩) hS.2.2 d_M_inOrder_152
          · refine lv_iload_n hx hb d_M_inOrder_131 rfl (lv_at hl 0 rfl) ?_
            refine lv_sipush (v := (nI 246)) hx hb d_M_inOrder_132 (by decide) ?_
            refine fg_cmp_ge (tgt := 151) hx hb d_M_inOrder_135 (by decide) (by omega) (by omega) (fun c_135 => ?_) (fun c_135 => ?_)
            · refine lv_iconst (v := (nI 5)) hx hb d_M_inOrder_151 (by decide) ?_
              exact W.iret (v := (nI 5)) hx hb hr (fun t9 ht9 hW9 => ⟨⟨(nI 5), (5, (st, nx, bs, wt, ag, rf, ac)), rfl, ⟨rfl, by rw [show ino t cn (st, nx, bs, wt, ag, rf, ac) = (5, (st, nx, bs, wt, ag, rf, ac)) from by dsimp only [ino]; (repeat' split) <;> first | rfl | (exfalso; omega) | (have h3 : st = 3 := (by omega); rw [h3])]; rfl⟩, by rw [ht9]; exact hP, by rw [hAe]; exact hD⟩, hS.F ht9⟩) hS.2.2 d_M_inOrder_152
            · refine lv_aload_n hx hb d_M_inOrder_138 rfl (lv_at hl 1 rfl) ?_
              refine va_get (D := (dC, dI)) (ci := 3) (v := .int (nI st)) (C := R_M) (T := F_M) (N := 15) hx hb ht i_M hown hK hP 0 rfl rfl 8 (by decide) (ht _ m_205) (fun _ h9 => h9) rfl d_M_inOrder_139 ?_
              refine lv_iconst (v := (nI 3)) hx hb d_M_inOrder_142 (by decide) ?_
              refine fg_cmp_eq (tgt := 151) hx hb d_M_inOrder_143 (by decide) (by omega) (by omega) (fun c_143 => ?_) (fun c_143 => ?_)
              · refine lv_iconst (v := (nI 5)) hx hb d_M_inOrder_151 (by decide) ?_
                exact W.iret (v := (nI 5)) hx hb hr (fun t9 ht9 hW9 => ⟨⟨(nI 5), (5, (st, nx, bs, wt, ag, rf, ac)), rfl, ⟨rfl, by rw [show ino t cn (st, nx, bs, wt, ag, rf, ac) = (5, (st, nx, bs, wt, ag, rf, ac)) from by dsimp only [ino]; (repeat' split) <;> first | rfl | (exfalso; omega) | (have h3 : st = 3 := (by omega); rw [h3])]; rfl⟩, by rw [ht9]; exact hP, by rw [hAe]; exact hD⟩, hS.F ht9⟩) hS.2.2 d_M_inOrder_152
              · refine lv_aload_n hx hb d_M_inOrder_146 rfl (lv_at hl 1 rfl) ?_
                refine lv_iconst (v := (nI 3)) hx hb d_M_inOrder_147 (by decide) ?_
                refine va_put (D := (dC, dI)) (ci := 3) (v := .int (nI 3)) (ty := .int) (C := R_M) (T := F_M) (N := 15) hx hb ht i_M t_M t_M_ok n_M hown hK hP hD hS 0 rfl rfl 8 (by decide) (ht _ m_205) (fun _ h9 => h9) rfl (t_M_ok 8 (by decide)) rfl rfl (Nat.le_of_ble_eq_true rfl) d_M_inOrder_148 (fun H locs hP hD hS => ?_)
                have hP : va_P (dC, dI) fgC [(h0, .inr (3, [.int (nI th), .ref a1, .int (nI n), .int (nI cn), .ref a2, .ref a3, .ref a4, .int (nI kl), .int (nI 3), .int (nI nx), .int (nI bs), .int (nI wt), .int (nI ag), .int (nI rf), .int (nI ac)])), (a1, .inl (cB, 259, .inl t)), (a2, .inl (cB, 2048, .inl q)), (a3, .inl (cI, 8, .inl ln))] H := hP
                have hD : va_D A [(h0, .inr (3, [.int (nI th), .ref a1, .int (nI n), .int (nI cn), .ref a2, .ref a3, .ref a4, .int (nI kl), .int (nI 3), .int (nI nx), .int (nI bs), .int (nI wt), .int (nI ag), .int (nI rf), .int (nI ac)])), (a1, .inl (cB, 259, .inl t)), (a2, .inl (cB, 2048, .inl q)), (a3, .inl (cI, 8, .inl ln))] := hD
                refine lv_iconst (v := (nI 5)) hx hb d_M_inOrder_151 (by decide) ?_
                exact W.iret (v := (nI 5)) hx hb hr (fun t9 ht9 hW9 => ⟨⟨(nI 5), (5, (3, nx, bs, wt, ag, rf, ac)), rfl, ⟨rfl, by rw [show ino t cn (st, nx, bs, wt, ag, rf, ac) = (5, (3, nx, bs, wt, ag, rf, ac)) from by dsimp only [ino]; (repeat' split) <;> first | rfl | (exfalso; omega) | (have h3 : st = 3 := (by omega); rw [h3])]; rfl⟩, by rw [ht9]; exact hP, by rw [hAe]; exact hD⟩, hS.F ht9⟩) hS.2.2 d_M_inOrder_152
        · refine lv_iload_n hx hb d_M_inOrder_103 rfl (lv_at hl 0 rfl) ?_
          refine lv_bipush (v := (nI 10)) hx hb d_M_inOrder_104 (by decide) ?_
          refine fg_cmp_ge (tgt := 125) hx hb d_M_inOrder_106 (by decide) (by omega) (by omega) (fun c_106 => ?_) (fun c_106 => ?_)
          · refine lv_iload_n hx hb d_M_inOrder_125 rfl (lv_at hl 0 rfl) ?_
            refine lv_bipush (v := (nI 9)) hx hb d_M_inOrder_126 (by decide) ?_
            refine fg_cmp_le (tgt := 151) hx hb d_M_inOrder_128 (by decide) (by omega) (by omega) (fun c_128 => ?_) (fun c_128 => ?_)
            · refine lv_iconst (v := (nI 5)) hx hb d_M_inOrder_151 (by decide) ?_
              exact W.iret (v := (nI 5)) hx hb hr (fun t9 ht9 hW9 => ⟨⟨(nI 5), (5, (st, nx, bs, wt, ag, rf, ac)), rfl, ⟨rfl, by rw [show ino t cn (st, nx, bs, wt, ag, rf, ac) = (5, (st, nx, bs, wt, ag, rf, ac)) from by dsimp only [ino]; (repeat' split) <;> first | rfl | (exfalso; omega) | (have h3 : st = 3 := (by omega); rw [h3])]; rfl⟩, by rw [ht9]; exact hP, by rw [hAe]; exact hD⟩, hS.F ht9⟩) hS.2.2 d_M_inOrder_152
            · refine lv_iload_n hx hb d_M_inOrder_131 rfl (lv_at hl 0 rfl) ?_
              refine lv_sipush (v := (nI 246)) hx hb d_M_inOrder_132 (by decide) ?_
              refine fg_cmp_ge (tgt := 151) hx hb d_M_inOrder_135 (by decide) (by omega) (by omega) (fun c_135 => ?_) (fun c_135 => ?_)
              · refine lv_iconst (v := (nI 5)) hx hb d_M_inOrder_151 (by decide) ?_
                exact W.iret (v := (nI 5)) hx hb hr (fun t9 ht9 hW9 => ⟨⟨(nI 5), (5, (st, nx, bs, wt, ag, rf, ac)), rfl, ⟨rfl, by rw [show ino t cn (st, nx, bs, wt, ag, rf, ac) = (5, (st, nx, bs, wt, ag, rf, ac)) from by dsimp only [ino]; (repeat' split) <;> first | rfl | (exfalso; omega) | (have h3 : st = 3 := (by omega); rw [h3])]; rfl⟩, by rw [ht9]; exact hP, by rw [hAe]; exact hD⟩, hS.F ht9⟩) hS.2.2 d_M_inOrder_152
              · refine lv_aload_n hx hb d_M_inOrder_138 rfl (lv_at hl 1 rfl) ?_
                refine va_get (D := (dC, dI)) (ci := 3) (v := .int (nI st)) (C := R_M) (T := F_M) (N := 15) hx hb ht i_M hown hK hP 0 rfl rfl 8 (by decide) (ht _ m_205) (fun _ h9 => h9) rfl d_M_inOrder_139 ?_
                refine lv_iconst (v := (nI 3)) hx hb d_M_inOrder_142 (by decide) ?_
                refine fg_cmp_eq (tgt := 151) hx hb d_M_inOrder_143 (by decide) (by omega) (by omega) (fun c_143 => ?_) (fun c_143 => ?_)
                · refine lv_iconst (v := (nI 5)) hx hb d_M_inOrder_151 (by decide) ?_
                  exact W.iret (v := (nI 5)) hx hb hr (fun t9 ht9 hW9 => ⟨⟨(nI 5), (5, (st, nx, bs, wt, ag, rf, ac)), rfl, ⟨rfl, by rw [show ino t cn (st, nx, bs, wt, ag, rf, ac) = (5, (st, nx, bs, wt, ag, rf, ac)) from by dsimp only [ino]; (repeat' split) <;> first | rfl | (exfalso; omega) | (have h3 : st = 3 := (by omega); rw [h3])]; rfl⟩, by rw [ht9]; exact hP, by rw [hAe]; exact hD⟩, hS.F ht9⟩) hS.2.2 d_M_inOrder_152
                · refine lv_aload_n hx hb d_M_inOrder_146 rfl (lv_at hl 1 rfl) ?_
                  refine lv_iconst (v := (nI 3)) hx hb d_M_inOrder_147 (by decide) ?_
                  refine va_put (D := (dC, dI)) (ci := 3) (v := .int (nI 3)) (ty := .int) (C := R_M) (T := F_M) (N := 15) hx hb ht i_M t_M t_M_ok n_M hown hK hP hD hS 0 rfl rfl 8 (by decide) (ht _ m_205) (fun _ h9 => h9) rfl (t_M_ok 8 (by decide)) rfl rfl (Nat.le_of_ble_eq_true rfl) d_M_inOrder_148 (fun H locs hP hD hS => ?_)
                  have hP : va_P (dC, dI) fgC [(h0, .inr (3, [.int (nI th), .ref a1, .int (nI n), .int (nI cn), .ref a2, .ref a3, .ref a4, .int (nI kl), .int (nI 3), .int (nI nx), .int (nI bs), .int (nI wt), .int (nI ag), .int (nI rf), .int (nI ac)])), (a1, .inl (cB, 259, .inl t)), (a2, .inl (cB, 2048, .inl q)), (a3, .inl (cI, 8, .inl ln))] H := hP
                  have hD : va_D A [(h0, .inr (3, [.int (nI th), .ref a1, .int (nI n), .int (nI cn), .ref a2, .ref a3, .ref a4, .int (nI kl), .int (nI 3), .int (nI nx), .int (nI bs), .int (nI wt), .int (nI ag), .int (nI rf), .int (nI ac)])), (a1, .inl (cB, 259, .inl t)), (a2, .inl (cB, 2048, .inl q)), (a3, .inl (cI, 8, .inl ln))] := hD
                  refine lv_iconst (v := (nI 5)) hx hb d_M_inOrder_151 (by decide) ?_
                  exact W.iret (v := (nI 5)) hx hb hr (fun t9 ht9 hW9 => ⟨⟨(nI 5), (5, (3, nx, bs, wt, ag, rf, ac)), rfl, ⟨rfl, by rw [show ino t cn (st, nx, bs, wt, ag, rf, ac) = (5, (3, nx, bs, wt, ag, rf, ac)) from by dsimp only [ino]; (repeat' split) <;> first | rfl | (exfalso; omega) | (have h3 : st = 3 := (by omega); rw [h3])]; rfl⟩, by rw [ht9]; exact hP, by rw [hAe]; exact hD⟩, hS.F ht9⟩) hS.2.2 d_M_inOrder_152
          · refine lv_aload_n hx hb d_M_inOrder_109 rfl (lv_at hl 1 rfl) ?_
            refine va_get (D := (dC, dI)) (ci := 3) (v := .int (nI st)) (C := R_M) (T := F_M) (N := 15) hx hb ht i_M hown hK hP 0 rfl rfl 8 (by decide) (ht _ m_205) (fun _ h9 => h9) rfl d_M_inOrder_110 ?_
            refine lv_iconst (v := (nI 1)) hx hb d_M_inOrder_113 (by decide) ?_
            refine fg_cmp_ne (tgt := 125) hx hb d_M_inOrder_114 (by decide) (by omega) (by omega) (fun c_114 => ?_) (fun c_114 => ?_)
            · refine lv_iload_n hx hb d_M_inOrder_125 rfl (lv_at hl 0 rfl) ?_
              refine lv_bipush (v := (nI 9)) hx hb d_M_inOrder_126 (by decide) ?_
              refine fg_cmp_le (tgt := 151) hx hb d_M_inOrder_128 (by decide) (by omega) (by omega) (fun c_128 => ?_) (fun c_128 => ?_)
              · refine lv_iconst (v := (nI 5)) hx hb d_M_inOrder_151 (by decide) ?_
                exact W.iret (v := (nI 5)) hx hb hr (fun t9 ht9 hW9 => ⟨⟨(nI 5), (5, (st, nx, bs, wt, ag, rf, ac)), rfl, ⟨rfl, by rw [show ino t cn (st, nx, bs, wt, ag, rf, ac) = (5, (st, nx, bs, wt, ag, rf, ac)) from by dsimp only [ino]; (repeat' split) <;> first | rfl | (exfalso; omega) | (have h3 : st = 3 := (by omega); rw [h3])]; rfl⟩, by rw [ht9]; exact hP, by rw [hAe]; exact hD⟩, hS.F ht9⟩) hS.2.2 d_M_inOrder_152
              · refine lv_iload_n hx hb d_M_inOrder_131 rfl (lv_at hl 0 rfl) ?_
                refine lv_sipush (v := (nI 246)) hx hb d_M_inOrder_132 (by decide) ?_
                refine fg_cmp_ge (tgt := 151) hx hb d_M_inOrder_135 (by decide) (by omega) (by omega) (fun c_135 => ?_) (fun c_135 => ?_)
                · refine lv_iconst (v := (nI 5)) hx hb d_M_inOrder_151 (by decide) ?_
                  exact W.iret (v := (nI 5)) hx hb hr (fun t9 ht9 hW9 => ⟨⟨(nI 5), (5, (st, nx, bs, wt, ag, rf, ac)), rfl, ⟨rfl, by rw [show ino t cn (st, nx, bs, wt, ag, rf, ac) = (5, (st, nx, bs, wt, ag, rf, ac)) from by dsimp only [ino]; (repeat' split) <;> first | rfl | (exfalso; omega) | (have h3 : st = 3 := (by omega); rw [h3])]; rfl⟩, by rw [ht9]; exact hP, by rw [hAe]; exact hD⟩, hS.F ht9⟩) hS.2.2 d_M_inOrder_152
                · refine lv_aload_n hx hb d_M_inOrder_138 rfl (lv_at hl 1 rfl) ?_
                  refine va_get (D := (dC, dI)) (ci := 3) (v := .int (nI st)) (C := R_M) (T := F_M) (N := 15) hx hb ht i_M hown hK hP 0 rfl rfl 8 (by decide) (ht _ m_205) (fun _ h9 => h9) rfl d_M_inOrder_139 ?_
                  refine lv_iconst (v := (nI 3)) hx hb d_M_inOrder_142 (by decide) ?_
                  refine fg_cmp_eq (tgt := 151) hx hb d_M_inOrder_143 (by decide) (by omega) (by omega) (fun c_143 => ?_) (fun c_143 => ?_)
                  · refine lv_iconst (v := (nI 5)) hx hb d_M_inOrder_151 (by decide) ?_
                    exact W.iret (v := (nI 5)) hx hb hr (fun t9 ht9 hW9 => ⟨⟨(nI 5), (5, (st, nx, bs, wt, ag, rf, ac)), rfl, ⟨rfl, by rw [show ino t cn (st, nx, bs, wt, ag, rf, ac) = (5, (st, nx, bs, wt, ag, rf, ac)) from by dsimp only [ino]; (repeat' split) <;> first | rfl | (exfalso; omega) | (have h3 : st = 3 := (by omega); rw [h3])]; rfl⟩, by rw [ht9]; exact hP, by rw [hAe]; exact hD⟩, hS.F ht9⟩) hS.2.2 d_M_inOrder_152
                  · refine lv_aload_n hx hb d_M_inOrder_146 rfl (lv_at hl 1 rfl) ?_
                    refine lv_iconst (v := (nI 3)) hx hb d_M_inOrder_147 (by decide) ?_
                    refine va_put (D := (dC, dI)) (ci := 3) (v := .int (nI 3)) (ty := .int) (C := R_M) (T := F_M) (N := 15) hx hb ht i_M t_M t_M_ok n_M hown hK hP hD hS 0 rfl rfl 8 (by decide) (ht _ m_205) (fun _ h9 => h9) rfl (t_M_ok 8 (by decide)) rfl rfl (Nat.le_of_ble_eq_true rfl) d_M_inOrder_148 (fun H locs hP hD hS => ?_)
                    have hP : va_P (dC, dI) fgC [(h0, .inr (3, [.int (nI th), .ref a1, .int (nI n), .int (nI cn), .ref a2, .ref a3, .ref a4, .int (nI kl), .int (nI 3), .int (nI nx), .int (nI bs), .int (nI wt), .int (nI ag), .int (nI rf), .int (nI ac)])), (a1, .inl (cB, 259, .inl t)), (a2, .inl (cB, 2048, .inl q)), (a3, .inl (cI, 8, .inl ln))] H := hP
                    have hD : va_D A [(h0, .inr (3, [.int (nI th), .ref a1, .int (nI n), .int (nI cn), .ref a2, .ref a3, .ref a4, .int (nI kl), .int (nI 3), .int (nI nx), .int (nI bs), .int (nI wt), .int (nI ag), .int (nI rf), .int (nI ac)])), (a1, .inl (cB, 259, .inl t)), (a2, .inl (cB, 2048, .inl q)), (a3, .inl (cI, 8, .inl ln))] := hD
                    refine lv_iconst (v := (nI 5)) hx hb d_M_inOrder_151 (by decide) ?_
                    exact W.iret (v := (nI 5)) hx hb hr (fun t9 ht9 hW9 => ⟨⟨(nI 5), (5, (3, nx, bs, wt, ag, rf, ac)), rfl, ⟨rfl, by rw [show ino t cn (st, nx, bs, wt, ag, rf, ac) = (5, (3, nx, bs, wt, ag, rf, ac)) from by dsimp only [ino]; (repeat' split) <;> first | rfl | (exfalso; omega) | (have h3 : st = 3 := (by omega); rw [h3])]; rfl⟩, by rw [ht9]; exact hP, by rw [hAe]; exact hD⟩, hS.F ht9⟩) hS.2.2 d_M_inOrder_152
            · refine lv_aload_n hx hb d_M_inOrder_117 rfl (lv_at hl 1 rfl) ?_
              refine lv_iconst (v := (nI 1)) hx hb d_M_inOrder_118 (by decide) ?_
              refine va_put (D := (dC, dI)) (ci := 3) (v := .int (nI 1)) (ty := .boolean) (C := R_M) (T := F_M) (N := 15) hx hb ht i_M t_M t_M_ok n_M hown hK hP hD hS 0 rfl rfl 12 (by decide) (ht _ m_209) (fun _ h9 => h9) rfl (t_M_ok 12 (by decide)) (fg_nZ (by omega)) (fg_fZ (by omega)) (Nat.le_of_ble_eq_true rfl) d_M_inOrder_119 (fun H locs hP hD hS => ?_)
              have hP : va_P (dC, dI) fgC [(h0, .inr (3, [.int (nI th), .ref a1, .int (nI n), .int (nI cn), .ref a2, .ref a3, .ref a4, .int (nI kl), .int (nI st), .int (nI nx), .int (nI bs), .int (nI wt), .int (nI 1), .int (nI rf), .int (nI ac)])), (a1, .inl (cB, 259, .inl t)), (a2, .inl (cB, 2048, .inl q)), (a3, .inl (cI, 8, .inl ln))] H := hP
              have hD : va_D A [(h0, .inr (3, [.int (nI th), .ref a1, .int (nI n), .int (nI cn), .ref a2, .ref a3, .ref a4, .int (nI kl), .int (nI st), .int (nI nx), .int (nI bs), .int (nI wt), .int (nI 1), .int (nI rf), .int (nI ac)])), (a1, .inl (cB, 259, .inl t)), (a2, .inl (cB, 2048, .inl q)), (a3, .inl (cI, 8, .inl ln))] := hD
              refine lv_goto (tgt := 151) hx hb d_M_inOrder_122 (by decide) ?_
              refine lv_iconst (v := (nI 5)) hx hb d_M_inOrder_151 (by decide) ?_
              exact W.iret (v := (nI 5)) hx hb hr (fun t9 ht9 hW9 => ⟨⟨(nI 5), (5, (st, nx, bs, wt, 1, rf, ac)), rfl, ⟨rfl, by rw [show ino t cn (st, nx, bs, wt, ag, rf, ac) = (5, (st, nx, bs, wt, 1, rf, ac)) from by dsimp only [ino]; (repeat' split) <;> first | rfl | (exfalso; omega) | (have h3 : st = 3 := (by omega); rw [h3])]; rfl⟩, by rw [ht9]; exact hP, by rw [hAe]; exact hD⟩, hS.F ht9⟩) hS.2.2 d_M_inOrder_152
      · refine lv_aload_n hx hb d_M_inOrder_81 rfl (lv_at hl 1 rfl) ?_
        refine lv_iconst (v := (nI 1)) hx hb d_M_inOrder_82 (by decide) ?_
        refine va_put (D := (dC, dI)) (ci := 3) (v := .int (nI 1)) (ty := .boolean) (C := R_M) (T := F_M) (N := 15) hx hb ht i_M t_M t_M_ok n_M hown hK hP hD hS 0 rfl rfl 12 (by decide) (ht _ m_209) (fun _ h9 => h9) rfl (t_M_ok 12 (by decide)) (fg_nZ (by omega)) (fg_fZ (by omega)) (Nat.le_of_ble_eq_true rfl) d_M_inOrder_83 (fun H locs hP hD hS => ?_)
        have hP : va_P (dC, dI) fgC [(h0, .inr (3, [.int (nI th), .ref a1, .int (nI n), .int (nI cn), .ref a2, .ref a3, .ref a4, .int (nI kl), .int (nI st), .int (nI nx), .int (nI bs), .int (nI wt), .int (nI 1), .int (nI rf), .int (nI ac)])), (a1, .inl (cB, 259, .inl t)), (a2, .inl (cB, 2048, .inl q)), (a3, .inl (cI, 8, .inl ln))] H := hP
        have hD : va_D A [(h0, .inr (3, [.int (nI th), .ref a1, .int (nI n), .int (nI cn), .ref a2, .ref a3, .ref a4, .int (nI kl), .int (nI st), .int (nI nx), .int (nI bs), .int (nI wt), .int (nI 1), .int (nI rf), .int (nI ac)])), (a1, .inl (cB, 259, .inl t)), (a2, .inl (cB, 2048, .inl q)), (a3, .inl (cI, 8, .inl ln))] := hD
        refine lv_aload_n hx hb d_M_inOrder_86 rfl (lv_at hl 1 rfl) ?_
        refine lv_iconst (v := (nI 1)) hx hb d_M_inOrder_87 (by decide) ?_
        refine va_put (D := (dC, dI)) (ci := 3) (v := .int (nI 1)) (ty := .boolean) (C := R_M) (T := F_M) (N := 15) hx hb ht i_M t_M t_M_ok n_M hown hK hP hD hS 0 rfl rfl 11 (by decide) (ht _ m_208) (fun _ h9 => h9) rfl (t_M_ok 11 (by decide)) (fg_nZ (by omega)) (fg_fZ (by omega)) (Nat.le_of_ble_eq_true rfl) d_M_inOrder_88 (fun H locs hP hD hS => ?_)
        have hP : va_P (dC, dI) fgC [(h0, .inr (3, [.int (nI th), .ref a1, .int (nI n), .int (nI cn), .ref a2, .ref a3, .ref a4, .int (nI kl), .int (nI st), .int (nI nx), .int (nI bs), .int (nI 1), .int (nI 1), .int (nI rf), .int (nI ac)])), (a1, .inl (cB, 259, .inl t)), (a2, .inl (cB, 2048, .inl q)), (a3, .inl (cI, 8, .inl ln))] H := hP
        have hD : va_D A [(h0, .inr (3, [.int (nI th), .ref a1, .int (nI n), .int (nI cn), .ref a2, .ref a3, .ref a4, .int (nI kl), .int (nI st), .int (nI nx), .int (nI bs), .int (nI 1), .int (nI 1), .int (nI rf), .int (nI ac)])), (a1, .inl (cB, 259, .inl t)), (a2, .inl (cB, 2048, .inl q)), (a3, .inl (cI, 8, .inl ln))] := hD
        refine lv_aload_n hx hb d_M_inOrder_91 rfl (lv_at hl 1 rfl) ?_
        refine lv_iconst (v := (nI 2)) hx hb d_M_inOrder_92 (by decide) ?_
        refine va_put (D := (dC, dI)) (ci := 3) (v := .int (nI 2)) (ty := .int) (C := R_M) (T := F_M) (N := 15) hx hb ht i_M t_M t_M_ok n_M hown hK hP hD hS 0 rfl rfl 8 (by decide) (ht _ m_205) (fun _ h9 => h9) rfl (t_M_ok 8 (by decide)) rfl rfl (Nat.le_of_ble_eq_true rfl) d_M_inOrder_93 (fun H locs hP hD hS => ?_)
        have hP : va_P (dC, dI) fgC [(h0, .inr (3, [.int (nI th), .ref a1, .int (nI n), .int (nI cn), .ref a2, .ref a3, .ref a4, .int (nI kl), .int (nI 2), .int (nI nx), .int (nI bs), .int (nI 1), .int (nI 1), .int (nI rf), .int (nI ac)])), (a1, .inl (cB, 259, .inl t)), (a2, .inl (cB, 2048, .inl q)), (a3, .inl (cI, 8, .inl ln))] H := hP
        have hD : va_D A [(h0, .inr (3, [.int (nI th), .ref a1, .int (nI n), .int (nI cn), .ref a2, .ref a3, .ref a4, .int (nI kl), .int (nI 2), .int (nI nx), .int (nI bs), .int (nI 1), .int (nI 1), .int (nI rf), .int (nI ac)])), (a1, .inl (cB, 259, .inl t)), (a2, .inl (cB, 2048, .inl q)), (a3, .inl (cI, 8, .inl ln))] := hD
        refine lv_goto (tgt := 151) hx hb d_M_inOrder_96 (by decide) ?_
        refine lv_iconst (v := (nI 5)) hx hb d_M_inOrder_151 (by decide) ?_
        exact W.iret (v := (nI 5)) hx hb hr (fun t9 ht9 hW9 => ⟨⟨(nI 5), (5, (2, nx, bs, 1, 1, rf, ac)), rfl, ⟨rfl, by rw [show ino t cn (st, nx, bs, wt, ag, rf, ac) = (5, (2, nx, bs, 1, 1, rf, ac)) from by dsimp only [ino]; (repeat' split) <;> first | rfl | (exfalso; omega) | (have h3 : st = 3 := (by omega); rw [h3])]; rfl⟩, by rw [ht9]; exact hP, by rw [hAe]; exact hD⟩, hS.F ht9⟩) hS.2.2 d_M_inOrder_152
  · refine lv_aload_n hx hb d_M_inOrder_26 rfl (lv_at hl 1 rfl) ?_
    refine va_get (D := (dC, dI)) (ci := 3) (v := .int (nI st)) (C := R_M) (T := F_M) (N := 15) hx hb ht i_M hown hK hP 0 rfl rfl 8 (by decide) (ht _ m_205) (fun _ h9 => h9) rfl d_M_inOrder_27 ?_
    refine lv_iconst (v := (nI 1)) hx hb d_M_inOrder_30 (by decide) ?_
    refine fg_cmp_ne (tgt := 69) hx hb d_M_inOrder_31 (by decide) (by omega) (by omega) (fun c_31 => ?_) (fun c_31 => ?_)
    · refine lv_iload_n hx hb d_M_inOrder_69 rfl (lv_at hl 0 rfl) ?_
      refine fg_if_ne (tgt := 99) hx hb d_M_inOrder_70 (by decide) (by omega) (fun c_70 => ?_) (fun c_70 => ?_)
      · refine lv_iload_n hx hb d_M_inOrder_99 rfl (lv_at hl 0 rfl) ?_
        refine fg_if_le (tgt := 125) hx hb d_M_inOrder_100 (by decide) (by omega) (fun c_100 => ?_) (fun c_100 => ?_)
        · refine lv_iload_n hx hb d_M_inOrder_125 rfl (lv_at hl 0 rfl) ?_
          refine lv_bipush (v := (nI 9)) hx hb d_M_inOrder_126 (by decide) ?_
          refine fg_cmp_le (tgt := 151) hx hb d_M_inOrder_128 (by decide) (by omega) (by omega) (fun c_128 => ?_) (fun c_128 => ?_)
          · refine lv_iconst (v := (nI 5)) hx hb d_M_inOrder_151 (by decide) ?_
            exact W.iret (v := (nI 5)) hx hb hr (fun t9 ht9 hW9 => ⟨⟨(nI 5), (5, (st, nx, bs, wt, ag, rf, ac)), rfl, ⟨rfl, by rw [show ino t cn (st, nx, bs, wt, ag, rf, ac) = (5, (st, nx, bs, wt, ag, rf, ac)) from by dsimp only [ino]; (repeat' split) <;> first | rfl | (exfalso; omega) | (have h3 : st = 3 := (by omega); rw [h3])]; rfl⟩, by rw [ht9]; exact hP, by rw [hAe]; exact hD⟩, hS.F ht9⟩) hS.2.2 d_M_inOrder_152
          · refine lv_iload_n hx hb d_M_inOrder_131 rfl (lv_at hl 0 rfl) ?_
            refine lv_sipush (v := (nI 246)) hx hb d_M_inOrder_132 (by decide) ?_
            refine fg_cmp_ge (tgt := 151) hx hb d_M_inOrder_135 (by decide) (by omega) (by omega) (fun c_135 => ?_) (fun c_135 => ?_)
            · refine lv_iconst (v := (nI 5)) hx hb d_M_inOrder_151 (by decide) ?_
              exact W.iret (v := (nI 5)) hx hb hr (fun t9 ht9 hW9 => ⟨⟨(nI 5), (5, (st, nx, bs, wt, ag, rf, ac)), rfl, ⟨rfl, by rw [show ino t cn (st, nx, bs, wt, ag, rf, ac) = (5, (st, nx, bs, wt, ag, rf, ac)) from by dsimp only [ino]; (repeat' split) <;> first | rfl | (exfalso; omega) | (have h3 : st = 3 := (by omega); rw [h3])]; rfl⟩, by rw [ht9]; exact hP, by rw [hAe]; exact hD⟩, hS.F ht9⟩) hS.2.2 d_M_inOrder_152
            · refine lv_aload_n hx hb d_M_inOrder_138 rfl (lv_at hl 1 rfl) ?_
              refine va_get (D := (dC, dI)) (ci := 3) (v := .int (nI st)) (C := R_M) (T := F_M) (N := 15) hx hb ht i_M hown hK hP 0 rfl rfl 8 (by decide) (ht _ m_205) (fun _ h9 => h9) rfl d_M_inOrder_139 ?_
              refine lv_iconst (v := (nI 3)) hx hb d_M_inOrder_142 (by decide) ?_
              refine fg_cmp_eq (tgt := 151) hx hb d_M_inOrder_143 (by decide) (by omega) (by omega) (fun c_143 => ?_) (fun c_143 => ?_)
              · refine lv_iconst (v := (nI 5)) hx hb d_M_inOrder_151 (by decide) ?_
                exact W.iret (v := (nI 5)) hx hb hr (fun t9 ht9 hW9 => ⟨⟨(nI 5), (5, (st, nx, bs, wt, ag, rf, ac)), rfl, ⟨rfl, by rw [show ino t cn (st, nx, bs, wt, ag, rf, ac) = (5, (st, nx, bs, wt, ag, rf, ac)) from by dsimp only [ino]; (repeat' split) <;> first | rfl | (exfalso; omega) | (have h3 : st = 3 := (by omega); rw [h3])]; rfl⟩, by rw [ht9]; exact hP, by rw [hAe]; exact hD⟩, hS.F ht9⟩) hS.2.2 d_M_inOrder_152
              · refine lv_aload_n hx hb d_M_inOrder_146 rfl (lv_at hl 1 rfl) ?_
                refine lv_iconst (v := (nI 3)) hx hb d_M_inOrder_147 (by decide) ?_
                refine va_put (D := (dC, dI)) (ci := 3) (v := .int (nI 3)) (ty := .int) (C := R_M) (T := F_M) (N := 15) hx hb ht i_M t_M t_M_ok n_M hown hK hP hD hS 0 rfl rfl 8 (by decide) (ht _ m_205) (fun _ h9 => h9) rfl (t_M_ok 8 (by decide)) rfl rfl (Nat.le_of_ble_eq_true rfl) d_M_inOrder_148 (fun H locs hP hD hS => ?_)
                have hP : va_P (dC, dI) fgC [(h0, .inr (3, [.int (nI th), .ref a1, .int (nI n), .int (nI cn), .ref a2, .ref a3, .ref a4, .int (nI kl), .int (nI 3), .int (nI nx), .int (nI bs), .int (nI wt), .int (nI ag), .int (nI rf), .int (nI ac)])), (a1, .inl (cB, 259, .inl t)), (a2, .inl (cB, 2048, .inl q)), (a3, .inl (cI, 8, .inl ln))] H := hP
                have hD : va_D A [(h0, .inr (3, [.int (nI th), .ref a1, .int (nI n), .int (nI cn), .ref a2, .ref a3, .ref a4, .int (nI kl), .int (nI 3), .int (nI nx), .int (nI bs), .int (nI wt), .int (nI ag), .int (nI rf), .int (nI ac)])), (a1, .inl (cB, 259, .inl t)), (a2, .inl (cB, 2048, .inl q)), (a3, .inl (cI, 8, .inl ln))] := hD
                refine lv_iconst (v := (nI 5)) hx hb d_M_inOrder_151 (by decide) ?_
                exact W.iret (v := (nI 5)) hx hb hr (fun t9 ht9 hW9 => ⟨⟨(nI 5), (5, (3, nx, bs, wt, ag, rf, ac)), rfl, ⟨rfl, by rw [show ino t cn (st, nx, bs, wt, ag, rf, ac) = (5, (3, nx, bs, wt, ag, rf, ac)) from by dsimp only [ino]; (repeat' split) <;> first | rfl | (exfalso; omega) | (have h3 : st = 3 := (by omega); rw [h3])]; rfl⟩, by rw [ht9]; exact hP, by rw [hAe]; exact hD⟩, hS.F ht9⟩) hS.2.2 d_M_inOrder_152
        · refine lv_iload_n hx hb d_M_inOrder_103 rfl (lv_at hl 0 rfl) ?_
          refine lv_bipush (v := (nI 10)) hx hb d_M_inOrder_104 (by decide) ?_
          refine fg_cmp_ge (tgt := 125) hx hb d_M_inOrder_106 (by decide) (by omega) (by omega) (fun c_106 => ?_) (fun c_106 => ?_)
          · refine lv_iload_n hx hb d_M_inOrder_125 rfl (lv_at hl 0 rfl) ?_
            refine lv_bipush (v := (nI 9)) hx hb d_M_inOrder_126 (by decide) ?_
            refine fg_cmp_le (tgt := 151) hx hb d_M_inOrder_128 (by decide) (by omega) (by omega) (fun c_128 => ?_) (fun c_128 => ?_)
            · refine lv_iconst (v := (nI 5)) hx hb d_M_inOrder_151 (by decide) ?_
              exact W.iret (v := (nI 5)) hx hb hr (fun t9 ht9 hW9 => ⟨⟨(nI 5), (5, (st, nx, bs, wt, ag, rf, ac)), rfl, ⟨rfl, by rw [show ino t cn (st, nx, bs, wt, ag, rf, ac) = (5, (st, nx, bs, wt, ag, rf, ac)) from by dsimp only [ino]; (repeat' split) <;> first | rfl | (exfalso; omega) | (have h3 : st = 3 := (by omega); rw [h3])]; rfl⟩, by rw [ht9]; exact hP, by rw [hAe]; exact hD⟩, hS.F ht9⟩) hS.2.2 d_M_inOrder_152
            · refine lv_iload_n hx hb d_M_inOrder_131 rfl (lv_at hl 0 rfl) ?_
              refine lv_sipush (v := (nI 246)) hx hb d_M_inOrder_132 (by decide) ?_
              refine fg_cmp_ge (tgt := 151) hx hb d_M_inOrder_135 (by decide) (by omega) (by omega) (fun c_135 => ?_) (fun c_135 => ?_)
              · refine lv_iconst (v := (nI 5)) hx hb d_M_inOrder_151 (by decide) ?_
                exact W.iret (v := (nI 5)) hx hb hr (fun t9 ht9 hW9 => ⟨⟨(nI 5), (5, (st, nx, bs, wt, ag, rf, ac)), rfl, ⟨rfl, by rw [show ino t cn (st, nx, bs, wt, ag, rf, ac) = (5, (st, nx, bs, wt, ag, rf, ac)) from by dsimp only [ino]; (repeat' split) <;> first | rfl | (exfalso; omega) | (have h3 : st = 3 := (by omega); rw [h3])]; rfl⟩, by rw [ht9]; exact hP, by rw [hAe]; exact hD⟩, hS.F ht9⟩) hS.2.2 d_M_inOrder_152
              · refine lv_aload_n hx hb d_M_inOrder_138 rfl (lv_at hl 1 rfl) ?_
                refine va_get (D := (dC, dI)) (ci := 3) (v := .int (nI st)) (C := R_M) (T := F_M) (N := 15) hx hb ht i_M hown hK hP 0 rfl rfl 8 (by decide) (ht _ m_205) (fun _ h9 => h9) rfl d_M_inOrder_139 ?_
                refine lv_iconst (v := (nI 3)) hx hb d_M_inOrder_142 (by decide) ?_
                refine fg_cmp_eq (tgt := 151) hx hb d_M_inOrder_143 (by decide) (by omega) (by omega) (fun c_143 => ?_) (fun c_143 => ?_)
                · refine lv_iconst (v := (nI 5)) hx hb d_M_inOrder_151 (by decide) ?_
                  exact W.iret (v := (nI 5)) hx hb hr (fun t9 ht9 hW9 => ⟨⟨(nI 5), (5, (st, nx, bs, wt, ag, rf, ac)), rfl, ⟨rfl, by rw [show ino t cn (st, nx, bs, wt, ag, rf, ac) = (5, (st, nx, bs, wt, ag, rf, ac)) from by dsimp only [ino]; (repeat' split) <;> first | rfl | (exfalso; omega) | (have h3 : st = 3 := (by omega); rw [h3])]; rfl⟩, by rw [ht9]; exact hP, by rw [hAe]; exact hD⟩, hS.F ht9⟩) hS.2.2 d_M_inOrder_152
                · refine lv_aload_n hx hb d_M_inOrder_146 rfl (lv_at hl 1 rfl) ?_
                  refine lv_iconst (v := (nI 3)) hx hb d_M_inOrder_147 (by decide) ?_
                  refine va_put (D := (dC, dI)) (ci := 3) (v := .int (nI 3)) (ty := .int) (C := R_M) (T := F_M) (N := 15) hx hb ht i_M t_M t_M_ok n_M hown hK hP hD hS 0 rfl rfl 8 (by decide) (ht _ m_205) (fun _ h9 => h9) rfl (t_M_ok 8 (by decide)) rfl rfl (Nat.le_of_ble_eq_true rfl) d_M_inOrder_148 (fun H locs hP hD hS => ?_)
                  have hP : va_P (dC, dI) fgC [(h0, .inr (3, [.int (nI th), .ref a1, .int (nI n), .int (nI cn), .ref a2, .ref a3, .ref a4, .int (nI kl), .int (nI 3), .int (nI nx), .int (nI bs), .int (nI wt), .int (nI ag), .int (nI rf), .int (nI ac)])), (a1, .inl (cB, 259, .inl t)), (a2, .inl (cB, 2048, .inl q)), (a3, .inl (cI, 8, .inl ln))] H := hP
                  have hD : va_D A [(h0, .inr (3, [.int (nI th), .ref a1, .int (nI n), .int (nI cn), .ref a2, .ref a3, .ref a4, .int (nI kl), .int (nI 3), .int (nI nx), .int (nI bs), .int (nI wt), .int (nI ag), .int (nI rf), .int (nI ac)])), (a1, .inl (cB, 259, .inl t)), (a2, .inl (cB, 2048, .inl q)), (a3, .inl (cI, 8, .inl ln))] := hD
                  refine lv_iconst (v := (nI 5)) hx hb d_M_inOrder_151 (by decide) ?_
                  exact W.iret (v := (nI 5)) hx hb hr (fun t9 ht9 hW9 => ⟨⟨(nI 5), (5, (3, nx, bs, wt, ag, rf, ac)), rfl, ⟨rfl, by rw [show ino t cn (st, nx, bs, wt, ag, rf, ac) = (5, (3, nx, bs, wt, ag, rf, ac)) from by dsimp only [ino]; (repeat' split) <;> first | rfl | (exfalso; omega) | (have h3 : st = 3 := (by omega); rw [h3])]; rfl⟩, by rw [ht9]; exact hP, by rw [hAe]; exact hD⟩, hS.F ht9⟩) hS.2.2 d_M_inOrder_152
          · refine lv_aload_n hx hb d_M_inOrder_109 rfl (lv_at hl 1 rfl) ?_
            refine va_get (D := (dC, dI)) (ci := 3) (v := .int (nI st)) (C := R_M) (T := F_M) (N := 15) hx hb ht i_M hown hK hP 0 rfl rfl 8 (by decide) (ht _ m_205) (fun _ h9 => h9) rfl d_M_inOrder_110 ?_
            refine lv_iconst (v := (nI 1)) hx hb d_M_inOrder_113 (by decide) ?_
            refine fg_cmp_ne (tgt := 125) hx hb d_M_inOrder_114 (by decide) (by omega) (by omega) (fun c_114 => ?_) (fun c_114 => ?_)
            · refine lv_iload_n hx hb d_M_inOrder_125 rfl (lv_at hl 0 rfl) ?_
              refine lv_bipush (v := (nI 9)) hx hb d_M_inOrder_126 (by decide) ?_
              refine fg_cmp_le (tgt := 151) hx hb d_M_inOrder_128 (by decide) (by omega) (by omega) (fun c_128 => ?_) (fun c_128 => ?_)
              · refine lv_iconst (v := (nI 5)) hx hb d_M_inOrder_151 (by decide) ?_
                exact W.iret (v := (nI 5)) hx hb hr (fun t9 ht9 hW9 => ⟨⟨(nI 5), (5, (st, nx, bs, wt, ag, rf, ac)), rfl, ⟨rfl, by rw [show ino t cn (st, nx, bs, wt, ag, rf, ac) = (5, (st, nx, bs, wt, ag, rf, ac)) from by dsimp only [ino]; (repeat' split) <;> first | rfl | (exfalso; omega) | (have h3 : st = 3 := (by omega); rw [h3])]; rfl⟩, by rw [ht9]; exact hP, by rw [hAe]; exact hD⟩, hS.F ht9⟩) hS.2.2 d_M_inOrder_152
              · refine lv_iload_n hx hb d_M_inOrder_131 rfl (lv_at hl 0 rfl) ?_
                refine lv_sipush (v := (nI 246)) hx hb d_M_inOrder_132 (by decide) ?_
                refine fg_cmp_ge (tgt := 151) hx hb d_M_inOrder_135 (by decide) (by omega) (by omega) (fun c_135 => ?_) (fun c_135 => ?_)
                · refine lv_iconst (v := (nI 5)) hx hb d_M_inOrder_151 (by decide) ?_
                  exact W.iret (v := (nI 5)) hx hb hr (fun t9 ht9 hW9 => ⟨⟨(nI 5), (5, (st, nx, bs, wt, ag, rf, ac)), rfl, ⟨rfl, by rw [show ino t cn (st, nx, bs, wt, ag, rf, ac) = (5, (st, nx, bs, wt, ag, rf, ac)) from by dsimp only [ino]; (repeat' split) <;> first | rfl | (exfalso; omega) | (have h3 : st = 3 := (by omega); rw [h3])]; rfl⟩, by rw [ht9]; exact hP, by rw [hAe]; exact hD⟩, hS.F ht9⟩) hS.2.2 d_M_inOrder_152
                · refine lv_aload_n hx hb d_M_inOrder_138 rfl (lv_at hl 1 rfl) ?_
                  refine va_get (D := (dC, dI)) (ci := 3) (v := .int (nI st)) (C := R_M) (T := F_M) (N := 15) hx hb ht i_M hown hK hP 0 rfl rfl 8 (by decide) (ht _ m_205) (fun _ h9 => h9) rfl d_M_inOrder_139 ?_
                  refine lv_iconst (v := (nI 3)) hx hb d_M_inOrder_142 (by decide) ?_
                  refine fg_cmp_eq (tgt := 151) hx hb d_M_inOrder_143 (by decide) (by omega) (by omega) (fun c_143 => ?_) (fun c_143 => ?_)
                  · refine lv_iconst (v := (nI 5)) hx hb d_M_inOrder_151 (by decide) ?_
                    exact W.iret (v := (nI 5)) hx hb hr (fun t9 ht9 hW9 => ⟨⟨(nI 5), (5, (st, nx, bs, wt, ag, rf, ac)), rfl, ⟨rfl, by rw [show ino t cn (st, nx, bs, wt, ag, rf, ac) = (5, (st, nx, bs, wt, ag, rf, ac)) from by dsimp only [ino]; (repeat' split) <;> first | rfl | (exfalso; omega) | (have h3 : st = 3 := (by omega); rw [h3])]; rfl⟩, by rw [ht9]; exact hP, by rw [hAe]; exact hD⟩, hS.F ht9⟩) hS.2.2 d_M_inOrder_152
                  · refine lv_aload_n hx hb d_M_inOrder_146 rfl (lv_at hl 1 rfl) ?_
                    refine lv_iconst (v := (nI 3)) hx hb d_M_inOrder_147 (by decide) ?_
                    refine va_put (D := (dC, dI)) (ci := 3) (v := .int (nI 3)) (ty := .int) (C := R_M) (T := F_M) (N := 15) hx hb ht i_M t_M t_M_ok n_M hown hK hP hD hS 0 rfl rfl 8 (by decide) (ht _ m_205) (fun _ h9 => h9) rfl (t_M_ok 8 (by decide)) rfl rfl (Nat.le_of_ble_eq_true rfl) d_M_inOrder_148 (fun H locs hP hD hS => ?_)
                    have hP : va_P (dC, dI) fgC [(h0, .inr (3, [.int (nI th), .ref a1, .int (nI n), .int (nI cn), .ref a2, .ref a3, .ref a4, .int (nI kl), .int (nI 3), .int (nI nx), .int (nI bs), .int (nI wt), .int (nI ag), .int (nI rf), .int (nI ac)])), (a1, .inl (cB, 259, .inl t)), (a2, .inl (cB, 2048, .inl q)), (a3, .inl (cI, 8, .inl ln))] H := hP
                    have hD : va_D A [(h0, .inr (3, [.int (nI th), .ref a1, .int (nI n), .int (nI cn), .ref a2, .ref a3, .ref a4, .int (nI kl), .int (nI 3), .int (nI nx), .int (nI bs), .int (nI wt), .int (nI ag), .int (nI rf), .int (nI ac)])), (a1, .inl (cB, 259, .inl t)), (a2, .inl (cB, 2048, .inl q)), (a3, .inl (cI, 8, .inl ln))] := hD
                    refine lv_iconst (v := (nI 5)) hx hb d_M_inOrder_151 (by decide) ?_
                    exact W.iret (v := (nI 5)) hx hb hr (fun t9 ht9 hW9 => ⟨⟨(nI 5), (5, (3, nx, bs, wt, ag, rf, ac)), rfl, ⟨rfl, by rw [show ino t cn (st, nx, bs, wt, ag, rf, ac) = (5, (3, nx, bs, wt, ag, rf, ac)) from by dsimp only [ino]; (repeat' split) <;> first | rfl | (exfalso; omega) | (have h3 : st = 3 := (by omega); rw [h3])]; rfl⟩, by rw [ht9]; exact hP, by rw [hAe]; exact hD⟩, hS.F ht9⟩) hS.2.2 d_M_inOrder_152
            · refine lv_aload_n hx hb d_M_inOrder_117 rfl (lv_at hl 1 rfl) ?_
              refine lv_iconst (v := (nI 1)) hx hb d_M_inOrder_118 (by decide) ?_
              refine va_put (D := (dC, dI)) (ci := 3) (v := .int (nI 1)) (ty := .boolean) (C := R_M) (T := F_M) (N := 15) hx hb ht i_M t_M t_M_ok n_M hown hK hP hD hS 0 rfl rfl 12 (by decide) (ht _ m_209) (fun _ h9 => h9) rfl (t_M_ok 12 (by decide)) (fg_nZ (by omega)) (fg_fZ (by omega)) (Nat.le_of_ble_eq_true rfl) d_M_inOrder_119 (fun H locs hP hD hS => ?_)
              have hP : va_P (dC, dI) fgC [(h0, .inr (3, [.int (nI th), .ref a1, .int (nI n), .int (nI cn), .ref a2, .ref a3, .ref a4, .int (nI kl), .int (nI st), .int (nI nx), .int (nI bs), .int (nI wt), .int (nI 1), .int (nI rf), .int (nI ac)])), (a1, .inl (cB, 259, .inl t)), (a2, .inl (cB, 2048, .inl q)), (a3, .inl (cI, 8, .inl ln))] H := hP
              have hD : va_D A [(h0, .inr (3, [.int (nI th), .ref a1, .int (nI n), .int (nI cn), .ref a2, .ref a3, .ref a4, .int (nI kl), .int (nI st), .int (nI nx), .int (nI bs), .int (nI wt), .int (nI 1), .int (nI rf), .int (nI ac)])), (a1, .inl (cB, 259, .inl t)), (a2, .inl (cB, 2048, .inl q)), (a3, .inl (cI, 8, .inl ln))] := hD
              refine lv_goto (tgt := 151) hx hb d_M_inOrder_122 (by decide) ?_
              refine lv_iconst (v := (nI 5)) hx hb d_M_inOrder_151 (by decide) ?_
              exact W.iret (v := (nI 5)) hx hb hr (fun t9 ht9 hW9 => ⟨⟨(nI 5), (5, (st, nx, bs, wt, 1, rf, ac)), rfl, ⟨rfl, by rw [show ino t cn (st, nx, bs, wt, ag, rf, ac) = (5, (st, nx, bs, wt, 1, rf, ac)) from by dsimp only [ino]; (repeat' split) <;> first | rfl | (exfalso; omega) | (have h3 : st = 3 := (by omega); rw [h3])]; rfl⟩, by rw [ht9]; exact hP, by rw [hAe]; exact hD⟩, hS.F ht9⟩) hS.2.2 d_M_inOrder_152
      · refine lv_aload_n hx hb d_M_inOrder_73 rfl (lv_at hl 1 rfl) ?_
        refine va_get (D := (dC, dI)) (ci := 3) (v := .int (nI st)) (C := R_M) (T := F_M) (N := 15) hx hb ht i_M hown hK hP 0 rfl rfl 8 (by decide) (ht _ m_205) (fun _ h9 => h9) rfl d_M_inOrder_74 ?_
        refine lv_iconst (v := (nI 1)) hx hb d_M_inOrder_77 (by decide) ?_
        refine fg_cmp_ne (tgt := 99) hx hb d_M_inOrder_78 (by decide) (by omega) (by omega) (fun c_78 => ?_) (fun c_78 => ?_)
        · refine lv_iload_n hx hb d_M_inOrder_99 rfl (lv_at hl 0 rfl) ?_
          refine fg_if_le (tgt := 125) hx hb d_M_inOrder_100 (by decide) (by omega) (fun c_100 => ?_) (fun c_100 => ?_)
          · refine lv_iload_n hx hb d_M_inOrder_125 rfl (lv_at hl 0 rfl) ?_
            refine lv_bipush (v := (nI 9)) hx hb d_M_inOrder_126 (by decide) ?_
            refine fg_cmp_le (tgt := 151) hx hb d_M_inOrder_128 (by decide) (by omega) (by omega) (fun c_128 => ?_) (fun c_128 => ?_)
            · refine lv_iconst (v := (nI 5)) hx hb d_M_inOrder_151 (by decide) ?_
              exact W.iret (v := (nI 5)) hx hb hr (fun t9 ht9 hW9 => ⟨⟨(nI 5), (5, (st, nx, bs, wt, ag, rf, ac)), rfl, ⟨rfl, by rw [show ino t cn (st, nx, bs, wt, ag, rf, ac) = (5, (st, nx, bs, wt, ag, rf, ac)) from by dsimp only [ino]; (repeat' split) <;> first | rfl | (exfalso; omega) | (have h3 : st = 3 := (by omega); rw [h3])]; rfl⟩, by rw [ht9]; exact hP, by rw [hAe]; exact hD⟩, hS.F ht9⟩) hS.2.2 d_M_inOrder_152
            · refine lv_iload_n hx hb d_M_inOrder_131 rfl (lv_at hl 0 rfl) ?_
              refine lv_sipush (v := (nI 246)) hx hb d_M_inOrder_132 (by decide) ?_
              refine fg_cmp_ge (tgt := 151) hx hb d_M_inOrder_135 (by decide) (by omega) (by omega) (fun c_135 => ?_) (fun c_135 => ?_)
              · refine lv_iconst (v := (nI 5)) hx hb d_M_inOrder_151 (by decide) ?_
                exact W.iret (v := (nI 5)) hx hb hr (fun t9 ht9 hW9 => ⟨⟨(nI 5), (5, (st, nx, bs, wt, ag, rf, ac)), rfl, ⟨rfl, by rw [show ino t cn (st, nx, bs, wt, ag, rf, ac) = (5, (st, nx, bs, wt, ag, rf, ac)) from by dsimp only [ino]; (repeat' split) <;> first | rfl | (exfalso; omega) | (have h3 : st = 3 := (by omega); rw [h3])]; rfl⟩, by rw [ht9]; exact hP, by rw [hAe]; exact hD⟩, hS.F ht9⟩) hS.2.2 d_M_inOrder_152
              · refine lv_aload_n hx hb d_M_inOrder_138 rfl (lv_at hl 1 rfl) ?_
                refine va_get (D := (dC, dI)) (ci := 3) (v := .int (nI st)) (C := R_M) (T := F_M) (N := 15) hx hb ht i_M hown hK hP 0 rfl rfl 8 (by decide) (ht _ m_205) (fun _ h9 => h9) rfl d_M_inOrder_139 ?_
                refine lv_iconst (v := (nI 3)) hx hb d_M_inOrder_142 (by decide) ?_
                refine fg_cmp_eq (tgt := 151) hx hb d_M_inOrder_143 (by decide) (by omega) (by omega) (fun c_143 => ?_) (fun c_143 => ?_)
                · refine lv_iconst (v := (nI 5)) hx hb d_M_inOrder_151 (by decide) ?_
                  exact W.iret (v := (nI 5)) hx hb hr (fun t9 ht9 hW9 => ⟨⟨(nI 5), (5, (st, nx, bs, wt, ag, rf, ac)), rfl, ⟨rfl, by rw [show ino t cn (st, nx, bs, wt, ag, rf, ac) = (5, (st, nx, bs, wt, ag, rf, ac)) from by dsimp only [ino]; (repeat' split) <;> first | rfl | (exfalso; omega) | (have h3 : st = 3 := (by omega); rw [h3])]; rfl⟩, by rw [ht9]; exact hP, by rw [hAe]; exact hD⟩, hS.F ht9⟩) hS.2.2 d_M_inOrder_152
                · refine lv_aload_n hx hb d_M_inOrder_146 rfl (lv_at hl 1 rfl) ?_
                  refine lv_iconst (v := (nI 3)) hx hb d_M_inOrder_147 (by decide) ?_
                  refine va_put (D := (dC, dI)) (ci := 3) (v := .int (nI 3)) (ty := .int) (C := R_M) (T := F_M) (N := 15) hx hb ht i_M t_M t_M_ok n_M hown hK hP hD hS 0 rfl rfl 8 (by decide) (ht _ m_205) (fun _ h9 => h9) rfl (t_M_ok 8 (by decide)) rfl rfl (Nat.le_of_ble_eq_true rfl) d_M_inOrder_148 (fun H locs hP hD hS => ?_)
                  have hP : va_P (dC, dI) fgC [(h0, .inr (3, [.int (nI th), .ref a1, .int (nI n), .int (nI cn), .ref a2, .ref a3, .ref a4, .int (nI kl), .int (nI 3), .int (nI nx), .int (nI bs), .int (nI wt), .int (nI ag), .int (nI rf), .int (nI ac)])), (a1, .inl (cB, 259, .inl t)), (a2, .inl (cB, 2048, .inl q)), (a3, .inl (cI, 8, .inl ln))] H := hP
                  have hD : va_D A [(h0, .inr (3, [.int (nI th), .ref a1, .int (nI n), .int (nI cn), .ref a2, .ref a3, .ref a4, .int (nI kl), .int (nI 3), .int (nI nx), .int (nI bs), .int (nI wt), .int (nI ag), .int (nI rf), .int (nI ac)])), (a1, .inl (cB, 259, .inl t)), (a2, .inl (cB, 2048, .inl q)), (a3, .inl (cI, 8, .inl ln))] := hD
                  refine lv_iconst (v := (nI 5)) hx hb d_M_inOrder_151 (by decide) ?_
                  exact W.iret (v := (nI 5)) hx hb hr (fun t9 ht9 hW9 => ⟨⟨(nI 5), (5, (3, nx, bs, wt, ag, rf, ac)), rfl, ⟨rfl, by rw [show ino t cn (st, nx, bs, wt, ag, rf, ac) = (5, (3, nx, bs, wt, ag, rf, ac)) from by dsimp only [ino]; (repeat' split) <;> first | rfl | (exfalso; omega) | (have h3 : st = 3 := (by omega); rw [h3])]; rfl⟩, by rw [ht9]; exact hP, by rw [hAe]; exact hD⟩, hS.F ht9⟩) hS.2.2 d_M_inOrder_152
          · refine lv_iload_n hx hb d_M_inOrder_103 rfl (lv_at hl 0 rfl) ?_
            refine lv_bipush (v := (nI 10)) hx hb d_M_inOrder_104 (by decide) ?_
            refine fg_cmp_ge (tgt := 125) hx hb d_M_inOrder_106 (by decide) (by omega) (by omega) (fun c_106 => ?_) (fun c_106 => ?_)
            · refine lv_iload_n hx hb d_M_inOrder_125 rfl (lv_at hl 0 rfl) ?_
              refine lv_bipush (v := (nI 9)) hx hb d_M_inOrder_126 (by decide) ?_
              refine fg_cmp_le (tgt := 151) hx hb d_M_inOrder_128 (by decide) (by omega) (by omega) (fun c_128 => ?_) (fun c_128 => ?_)
              · refine lv_iconst (v := (nI 5)) hx hb d_M_inOrder_151 (by decide) ?_
                exact W.iret (v := (nI 5)) hx hb hr (fun t9 ht9 hW9 => ⟨⟨(nI 5), (5, (st, nx, bs, wt, ag, rf, ac)), rfl, ⟨rfl, by rw [show ino t cn (st, nx, bs, wt, ag, rf, ac) = (5, (st, nx, bs, wt, ag, rf, ac)) from by dsimp only [ino]; (repeat' split) <;> first | rfl | (exfalso; omega) | (have h3 : st = 3 := (by omega); rw [h3])]; rfl⟩, by rw [ht9]; exact hP, by rw [hAe]; exact hD⟩, hS.F ht9⟩) hS.2.2 d_M_inOrder_152
              · refine lv_iload_n hx hb d_M_inOrder_131 rfl (lv_at hl 0 rfl) ?_
                refine lv_sipush (v := (nI 246)) hx hb d_M_inOrder_132 (by decide) ?_
                refine fg_cmp_ge (tgt := 151) hx hb d_M_inOrder_135 (by decide) (by omega) (by omega) (fun c_135 => ?_) (fun c_135 => ?_)
                · refine lv_iconst (v := (nI 5)) hx hb d_M_inOrder_151 (by decide) ?_
                  exact W.iret (v := (nI 5)) hx hb hr (fun t9 ht9 hW9 => ⟨⟨(nI 5), (5, (st, nx, bs, wt, ag, rf, ac)), rfl, ⟨rfl, by rw [show ino t cn (st, nx, bs, wt, ag, rf, ac) = (5, (st, nx, bs, wt, ag, rf, ac)) from by dsimp only [ino]; (repeat' split) <;> first | rfl | (exfalso; omega) | (have h3 : st = 3 := (by omega); rw [h3])]; rfl⟩, by rw [ht9]; exact hP, by rw [hAe]; exact hD⟩, hS.F ht9⟩) hS.2.2 d_M_inOrder_152
                · refine lv_aload_n hx hb d_M_inOrder_138 rfl (lv_at hl 1 rfl) ?_
                  refine va_get (D := (dC, dI)) (ci := 3) (v := .int (nI st)) (C := R_M) (T := F_M) (N := 15) hx hb ht i_M hown hK hP 0 rfl rfl 8 (by decide) (ht _ m_205) (fun _ h9 => h9) rfl d_M_inOrder_139 ?_
                  refine lv_iconst (v := (nI 3)) hx hb d_M_inOrder_142 (by decide) ?_
                  refine fg_cmp_eq (tgt := 151) hx hb d_M_inOrder_143 (by decide) (by omega) (by omega) (fun c_143 => ?_) (fun c_143 => ?_)
                  · refine lv_iconst (v := (nI 5)) hx hb d_M_inOrder_151 (by decide) ?_
                    exact W.iret (v := (nI 5)) hx hb hr (fun t9 ht9 hW9 => ⟨⟨(nI 5), (5, (st, nx, bs, wt, ag, rf, ac)), rfl, ⟨rfl, by rw [show ino t cn (st, nx, bs, wt, ag, rf, ac) = (5, (st, nx, bs, wt, ag, rf, ac)) from by dsimp only [ino]; (repeat' split) <;> first | rfl | (exfalso; omega) | (have h3 : st = 3 := (by omega); rw [h3])]; rfl⟩, by rw [ht9]; exact hP, by rw [hAe]; exact hD⟩, hS.F ht9⟩) hS.2.2 d_M_inOrder_152
                  · refine lv_aload_n hx hb d_M_inOrder_146 rfl (lv_at hl 1 rfl) ?_
                    refine lv_iconst (v := (nI 3)) hx hb d_M_inOrder_147 (by decide) ?_
                    refine va_put (D := (dC, dI)) (ci := 3) (v := .int (nI 3)) (ty := .int) (C := R_M) (T := F_M) (N := 15) hx hb ht i_M t_M t_M_ok n_M hown hK hP hD hS 0 rfl rfl 8 (by decide) (ht _ m_205) (fun _ h9 => h9) rfl (t_M_ok 8 (by decide)) rfl rfl (Nat.le_of_ble_eq_true rfl) d_M_inOrder_148 (fun H locs hP hD hS => ?_)
                    have hP : va_P (dC, dI) fgC [(h0, .inr (3, [.int (nI th), .ref a1, .int (nI n), .int (nI cn), .ref a2, .ref a3, .ref a4, .int (nI kl), .int (nI 3), .int (nI nx), .int (nI bs), .int (nI wt), .int (nI ag), .int (nI rf), .int (nI ac)])), (a1, .inl (cB, 259, .inl t)), (a2, .inl (cB, 2048, .inl q)), (a3, .inl (cI, 8, .inl ln))] H := hP
                    have hD : va_D A [(h0, .inr (3, [.int (nI th), .ref a1, .int (nI n), .int (nI cn), .ref a2, .ref a3, .ref a4, .int (nI kl), .int (nI 3), .int (nI nx), .int (nI bs), .int (nI wt), .int (nI ag), .int (nI rf), .int (nI ac)])), (a1, .inl (cB, 259, .inl t)), (a2, .inl (cB, 2048, .inl q)), (a3, .inl (cI, 8, .inl ln))] := hD
                    refine lv_iconst (v := (nI 5)) hx hb d_M_inOrder_151 (by decide) ?_
                    exact W.iret (v := (nI 5)) hx hb hr (fun t9 ht9 hW9 => ⟨⟨(nI 5), (5, (3, nx, bs, wt, ag, rf, ac)), rfl, ⟨rfl, by rw [show ino t cn (st, nx, bs, wt, ag, rf, ac) = (5, (3, nx, bs, wt, ag, rf, ac)) from by dsimp only [ino]; (repeat' split) <;> first | rfl | (exfalso; omega) | (have h3 : st = 3 := (by omega); rw [h3])]; rfl⟩, by rw [ht9]; exact hP, by rw [hAe]; exact hD⟩, hS.F ht9⟩) hS.2.2 d_M_inOrder_152
            · refine lv_aload_n hx hb d_M_inOrder_109 rfl (lv_at hl 1 rfl) ?_
              refine va_get (D := (dC, dI)) (ci := 3) (v := .int (nI st)) (C := R_M) (T := F_M) (N := 15) hx hb ht i_M hown hK hP 0 rfl rfl 8 (by decide) (ht _ m_205) (fun _ h9 => h9) rfl d_M_inOrder_110 ?_
              refine lv_iconst (v := (nI 1)) hx hb d_M_inOrder_113 (by decide) ?_
              refine fg_cmp_ne (tgt := 125) hx hb d_M_inOrder_114 (by decide) (by omega) (by omega) (fun c_114 => ?_) (fun c_114 => ?_)
              · refine lv_iload_n hx hb d_M_inOrder_125 rfl (lv_at hl 0 rfl) ?_
                refine lv_bipush (v := (nI 9)) hx hb d_M_inOrder_126 (by decide) ?_
                refine fg_cmp_le (tgt := 151) hx hb d_M_inOrder_128 (by decide) (by omega) (by omega) (fun c_128 => ?_) (fun c_128 => ?_)
                · refine lv_iconst (v := (nI 5)) hx hb d_M_inOrder_151 (by decide) ?_
                  exact W.iret (v := (nI 5)) hx hb hr (fun t9 ht9 hW9 => ⟨⟨(nI 5), (5, (st, nx, bs, wt, ag, rf, ac)), rfl, ⟨rfl, by rw [show ino t cn (st, nx, bs, wt, ag, rf, ac) = (5, (st, nx, bs, wt, ag, rf, ac)) from by dsimp only [ino]; (repeat' split) <;> first | rfl | (exfalso; omega) | (have h3 : st = 3 := (by omega); rw [h3])]; rfl⟩, by rw [ht9]; exact hP, by rw [hAe]; exact hD⟩, hS.F ht9⟩) hS.2.2 d_M_inOrder_152
                · refine lv_iload_n hx hb d_M_inOrder_131 rfl (lv_at hl 0 rfl) ?_
                  refine lv_sipush (v := (nI 246)) hx hb d_M_inOrder_132 (by decide) ?_
                  refine fg_cmp_ge (tgt := 151) hx hb d_M_inOrder_135 (by decide) (by omega) (by omega) (fun c_135 => ?_) (fun c_135 => ?_)
                  · refine lv_iconst (v := (nI 5)) hx hb d_M_inOrder_151 (by decide) ?_
                    exact W.iret (v := (nI 5)) hx hb hr (fun t9 ht9 hW9 => ⟨⟨(nI 5), (5, (st, nx, bs, wt, ag, rf, ac)), rfl, ⟨rfl, by rw [show ino t cn (st, nx, bs, wt, ag, rf, ac) = (5, (st, nx, bs, wt, ag, rf, ac)) from by dsimp only [ino]; (repeat' split) <;> first | rfl | (exfalso; omega) | (have h3 : st = 3 := (by omega); rw [h3])]; rfl⟩, by rw [ht9]; exact hP, by rw [hAe]; exact hD⟩, hS.F ht9⟩) hS.2.2 d_M_inOrder_152
                  · refine lv_aload_n hx hb d_M_inOrder_138 rfl (lv_at hl 1 rfl) ?_
                    refine va_get (D := (dC, dI)) (ci := 3) (v := .int (nI st)) (C := R_M) (T := F_M) (N := 15) hx hb ht i_M hown hK hP 0 rfl rfl 8 (by decide) (ht _ m_205) (fun _ h9 => h9) rfl d_M_inOrder_139 ?_
                    refine lv_iconst (v := (nI 3)) hx hb d_M_inOrder_142 (by decide) ?_
                    refine fg_cmp_eq (tgt := 151) hx hb d_M_inOrder_143 (by decide) (by omega) (by omega) (fun c_143 => ?_) (fun c_143 => ?_)
                    · refine lv_iconst (v := (nI 5)) hx hb d_M_inOrder_151 (by decide) ?_
                      exact W.iret (v := (nI 5)) hx hb hr (fun t9 ht9 hW9 => ⟨⟨(nI 5), (5, (st, nx, bs, wt, ag, rf, ac)), rfl, ⟨rfl, by rw [show ino t cn (st, nx, bs, wt, ag, rf, ac) = (5, (st, nx, bs, wt, ag, rf, ac)) from by dsimp only [ino]; (repeat' split) <;> first | rfl | (exfalso; omega) | (have h3 : st = 3 := (by omega); rw [h3])]; rfl⟩, by rw [ht9]; exact hP, by rw [hAe]; exact hD⟩, hS.F ht9⟩) hS.2.2 d_M_inOrder_152
                    · refine lv_aload_n hx hb d_M_inOrder_146 rfl (lv_at hl 1 rfl) ?_
                      refine lv_iconst (v := (nI 3)) hx hb d_M_inOrder_147 (by decide) ?_
                      refine va_put (D := (dC, dI)) (ci := 3) (v := .int (nI 3)) (ty := .int) (C := R_M) (T := F_M) (N := 15) hx hb ht i_M t_M t_M_ok n_M hown hK hP hD hS 0 rfl rfl 8 (by decide) (ht _ m_205) (fun _ h9 => h9) rfl (t_M_ok 8 (by decide)) rfl rfl (Nat.le_of_ble_eq_true rfl) d_M_inOrder_148 (fun H locs hP hD hS => ?_)
                      have hP : va_P (dC, dI) fgC [(h0, .inr (3, [.int (nI th), .ref a1, .int (nI n), .int (nI cn), .ref a2, .ref a3, .ref a4, .int (nI kl), .int (nI 3), .int (nI nx), .int (nI bs), .int (nI wt), .int (nI ag), .int (nI rf), .int (nI ac)])), (a1, .inl (cB, 259, .inl t)), (a2, .inl (cB, 2048, .inl q)), (a3, .inl (cI, 8, .inl ln))] H := hP
                      have hD : va_D A [(h0, .inr (3, [.int (nI th), .ref a1, .int (nI n), .int (nI cn), .ref a2, .ref a3, .ref a4, .int (nI kl), .int (nI 3), .int (nI nx), .int (nI bs), .int (nI wt), .int (nI ag), .int (nI rf), .int (nI ac)])), (a1, .inl (cB, 259, .inl t)), (a2, .inl (cB, 2048, .inl q)), (a3, .inl (cI, 8, .inl ln))] := hD
                      refine lv_iconst (v := (nI 5)) hx hb d_M_inOrder_151 (by decide) ?_
                      exact W.iret (v := (nI 5)) hx hb hr (fun t9 ht9 hW9 => ⟨⟨(nI 5), (5, (3, nx, bs, wt, ag, rf, ac)), rfl, ⟨rfl, by rw [show ino t cn (st, nx, bs, wt, ag, rf, ac) = (5, (3, nx, bs, wt, ag, rf, ac)) from by dsimp only [ino]; (repeat' split) <;> first | rfl | (exfalso; omega) | (have h3 : st = 3 := (by omega); rw [h3])]; rfl⟩, by rw [ht9]; exact hP, by rw [hAe]; exact hD⟩, hS.F ht9⟩) hS.2.2 d_M_inOrder_152
              · refine lv_aload_n hx hb d_M_inOrder_117 rfl (lv_at hl 1 rfl) ?_
                refine lv_iconst (v := (nI 1)) hx hb d_M_inOrder_118 (by decide) ?_
                refine va_put (D := (dC, dI)) (ci := 3) (v := .int (nI 1)) (ty := .boolean) (C := R_M) (T := F_M) (N := 15) hx hb ht i_M t_M t_M_ok n_M hown hK hP hD hS 0 rfl rfl 12 (by decide) (ht _ m_209) (fun _ h9 => h9) rfl (t_M_ok 12 (by decide)) (fg_nZ (by omega)) (fg_fZ (by omega)) (Nat.le_of_ble_eq_true rfl) d_M_inOrder_119 (fun H locs hP hD hS => ?_)
                have hP : va_P (dC, dI) fgC [(h0, .inr (3, [.int (nI th), .ref a1, .int (nI n), .int (nI cn), .ref a2, .ref a3, .ref a4, .int (nI kl), .int (nI st), .int (nI nx), .int (nI bs), .int (nI wt), .int (nI 1), .int (nI rf), .int (nI ac)])), (a1, .inl (cB, 259, .inl t)), (a2, .inl (cB, 2048, .inl q)), (a3, .inl (cI, 8, .inl ln))] H := hP
                have hD : va_D A [(h0, .inr (3, [.int (nI th), .ref a1, .int (nI n), .int (nI cn), .ref a2, .ref a3, .ref a4, .int (nI kl), .int (nI st), .int (nI nx), .int (nI bs), .int (nI wt), .int (nI 1), .int (nI rf), .int (nI ac)])), (a1, .inl (cB, 259, .inl t)), (a2, .inl (cB, 2048, .inl q)), (a3, .inl (cI, 8, .inl ln))] := hD
                refine lv_goto (tgt := 151) hx hb d_M_inOrder_122 (by decide) ?_
                refine lv_iconst (v := (nI 5)) hx hb d_M_inOrder_151 (by decide) ?_
                exact W.iret (v := (nI 5)) hx hb hr (fun t9 ht9 hW9 => ⟨⟨(nI 5), (5, (st, nx, bs, wt, 1, rf, ac)), rfl, ⟨rfl, by rw [show ino t cn (st, nx, bs, wt, ag, rf, ac) = (5, (st, nx, bs, wt, 1, rf, ac)) from by dsimp only [ino]; (repeat' split) <;> first | rfl | (exfalso; omega) | (have h3 : st = 3 := (by omega); rw [h3])]; rfl⟩, by rw [ht9]; exact hP, by rw [hAe]; exact hD⟩, hS.F ht9⟩) hS.2.2 d_M_inOrder_152
        · refine lv_aload_n hx hb d_M_inOrder_81 rfl (lv_at hl 1 rfl) ?_
          refine lv_iconst (v := (nI 1)) hx hb d_M_inOrder_82 (by decide) ?_
          refine va_put (D := (dC, dI)) (ci := 3) (v := .int (nI 1)) (ty := .boolean) (C := R_M) (T := F_M) (N := 15) hx hb ht i_M t_M t_M_ok n_M hown hK hP hD hS 0 rfl rfl 12 (by decide) (ht _ m_209) (fun _ h9 => h9) rfl (t_M_ok 12 (by decide)) (fg_nZ (by omega)) (fg_fZ (by omega)) (Nat.le_of_ble_eq_true rfl) d_M_inOrder_83 (fun H locs hP hD hS => ?_)
          have hP : va_P (dC, dI) fgC [(h0, .inr (3, [.int (nI th), .ref a1, .int (nI n), .int (nI cn), .ref a2, .ref a3, .ref a4, .int (nI kl), .int (nI st), .int (nI nx), .int (nI bs), .int (nI wt), .int (nI 1), .int (nI rf), .int (nI ac)])), (a1, .inl (cB, 259, .inl t)), (a2, .inl (cB, 2048, .inl q)), (a3, .inl (cI, 8, .inl ln))] H := hP
          have hD : va_D A [(h0, .inr (3, [.int (nI th), .ref a1, .int (nI n), .int (nI cn), .ref a2, .ref a3, .ref a4, .int (nI kl), .int (nI st), .int (nI nx), .int (nI bs), .int (nI wt), .int (nI 1), .int (nI rf), .int (nI ac)])), (a1, .inl (cB, 259, .inl t)), (a2, .inl (cB, 2048, .inl q)), (a3, .inl (cI, 8, .inl ln))] := hD
          refine lv_aload_n hx hb d_M_inOrder_86 rfl (lv_at hl 1 rfl) ?_
          refine lv_iconst (v := (nI 1)) hx hb d_M_inOrder_87 (by decide) ?_
          refine va_put (D := (dC, dI)) (ci := 3) (v := .int (nI 1)) (ty := .boolean) (C := R_M) (T := F_M) (N := 15) hx hb ht i_M t_M t_M_ok n_M hown hK hP hD hS 0 rfl rfl 11 (by decide) (ht _ m_208) (fun _ h9 => h9) rfl (t_M_ok 11 (by decide)) (fg_nZ (by omega)) (fg_fZ (by omega)) (Nat.le_of_ble_eq_true rfl) d_M_inOrder_88 (fun H locs hP hD hS => ?_)
          have hP : va_P (dC, dI) fgC [(h0, .inr (3, [.int (nI th), .ref a1, .int (nI n), .int (nI cn), .ref a2, .ref a3, .ref a4, .int (nI kl), .int (nI st), .int (nI nx), .int (nI bs), .int (nI 1), .int (nI 1), .int (nI rf), .int (nI ac)])), (a1, .inl (cB, 259, .inl t)), (a2, .inl (cB, 2048, .inl q)), (a3, .inl (cI, 8, .inl ln))] H := hP
          have hD : va_D A [(h0, .inr (3, [.int (nI th), .ref a1, .int (nI n), .int (nI cn), .ref a2, .ref a3, .ref a4, .int (nI kl), .int (nI st), .int (nI nx), .int (nI bs), .int (nI 1), .int (nI 1), .int (nI rf), .int (nI ac)])), (a1, .inl (cB, 259, .inl t)), (a2, .inl (cB, 2048, .inl q)), (a3, .inl (cI, 8, .inl ln))] := hD
          refine lv_aload_n hx hb d_M_inOrder_91 rfl (lv_at hl 1 rfl) ?_
          refine lv_iconst (v := (nI 2)) hx hb d_M_inOrder_92 (by decide) ?_
          refine va_put (D := (dC, dI)) (ci := 3) (v := .int (nI 2)) (ty := .int) (C := R_M) (T := F_M) (N := 15) hx hb ht i_M t_M t_M_ok n_M hown hK hP hD hS 0 rfl rfl 8 (by decide) (ht _ m_205) (fun _ h9 => h9) rfl (t_M_ok 8 (by decide)) rfl rfl (Nat.le_of_ble_eq_true rfl) d_M_inOrder_93 (fun H locs hP hD hS => ?_)
          have hP : va_P (dC, dI) fgC [(h0, .inr (3, [.int (nI th), .ref a1, .int (nI n), .int (nI cn), .ref a2, .ref a3, .ref a4, .int (nI kl), .int (nI 2), .int (nI nx), .int (nI bs), .int (nI 1), .int (nI 1), .int (nI rf), .int (nI ac)])), (a1, .inl (cB, 259, .inl t)), (a2, .inl (cB, 2048, .inl q)), (a3, .inl (cI, 8, .inl ln))] H := hP
          have hD : va_D A [(h0, .inr (3, [.int (nI th), .ref a1, .int (nI n), .int (nI cn), .ref a2, .ref a3, .ref a4, .int (nI kl), .int (nI 2), .int (nI nx), .int (nI bs), .int (nI 1), .int (nI 1), .int (nI rf), .int (nI ac)])), (a1, .inl (cB, 259, .inl t)), (a2, .inl (cB, 2048, .inl q)), (a3, .inl (cI, 8, .inl ln))] := hD
          refine lv_goto (tgt := 151) hx hb d_M_inOrder_96 (by decide) ?_
          refine lv_iconst (v := (nI 5)) hx hb d_M_inOrder_151 (by decide) ?_
          exact W.iret (v := (nI 5)) hx hb hr (fun t9 ht9 hW9 => ⟨⟨(nI 5), (5, (2, nx, bs, 1, 1, rf, ac)), rfl, ⟨rfl, by rw [show ino t cn (st, nx, bs, wt, ag, rf, ac) = (5, (2, nx, bs, 1, 1, rf, ac)) from by dsimp only [ino]; (repeat' split) <;> first | rfl | (exfalso; omega) | (have h3 : st = 3 := (by omega); rw [h3])]; rfl⟩, by rw [ht9]; exact hP, by rw [hAe]; exact hD⟩, hS.F ht9⟩) hS.2.2 d_M_inOrder_152
    · refine lv_aload_n hx hb d_M_inOrder_34 rfl (lv_at hl 1 rfl) ?_
      refine va_get (D := (dC, dI)) (ci := 3) (v := .int (nI cn)) (C := R_M) (T := F_M) (N := 15) hx hb ht i_M hown hK hP 0 rfl rfl 3 (by decide) (ht _ m_200) (fun _ h9 => h9) rfl d_M_inOrder_35 ?_
      refine lv_bipush (v := (nI 8)) hx hb d_M_inOrder_38 (by decide) ?_
      refine fg_cmp_ge (tgt := 69) hx hb d_M_inOrder_40 (by decide) (by omega) (by omega) (fun c_40 => ?_) (fun c_40 => ?_)
      · refine lv_iload_n hx hb d_M_inOrder_69 rfl (lv_at hl 0 rfl) ?_
        refine fg_if_ne (tgt := 99) hx hb d_M_inOrder_70 (by decide) (by omega) (fun c_70 => ?_) (fun c_70 => ?_)
        · refine lv_iload_n hx hb d_M_inOrder_99 rfl (lv_at hl 0 rfl) ?_
          refine fg_if_le (tgt := 125) hx hb d_M_inOrder_100 (by decide) (by omega) (fun c_100 => ?_) (fun c_100 => ?_)
          · refine lv_iload_n hx hb d_M_inOrder_125 rfl (lv_at hl 0 rfl) ?_
            refine lv_bipush (v := (nI 9)) hx hb d_M_inOrder_126 (by decide) ?_
            refine fg_cmp_le (tgt := 151) hx hb d_M_inOrder_128 (by decide) (by omega) (by omega) (fun c_128 => ?_) (fun c_128 => ?_)
            · refine lv_iconst (v := (nI 5)) hx hb d_M_inOrder_151 (by decide) ?_
              exact W.iret (v := (nI 5)) hx hb hr (fun t9 ht9 hW9 => ⟨⟨(nI 5), (5, (st, nx, bs, wt, ag, rf, ac)), rfl, ⟨rfl, by rw [show ino t cn (st, nx, bs, wt, ag, rf, ac) = (5, (st, nx, bs, wt, ag, rf, ac)) from by dsimp only [ino]; (repeat' split) <;> first | rfl | (exfalso; omega) | (have h3 : st = 3 := (by omega); rw [h3])]; rfl⟩, by rw [ht9]; exact hP, by rw [hAe]; exact hD⟩, hS.F ht9⟩) hS.2.2 d_M_inOrder_152
            · refine lv_iload_n hx hb d_M_inOrder_131 rfl (lv_at hl 0 rfl) ?_
              refine lv_sipush (v := (nI 246)) hx hb d_M_inOrder_132 (by decide) ?_
              refine fg_cmp_ge (tgt := 151) hx hb d_M_inOrder_135 (by decide) (by omega) (by omega) (fun c_135 => ?_) (fun c_135 => ?_)
              · refine lv_iconst (v := (nI 5)) hx hb d_M_inOrder_151 (by decide) ?_
                exact W.iret (v := (nI 5)) hx hb hr (fun t9 ht9 hW9 => ⟨⟨(nI 5), (5, (st, nx, bs, wt, ag, rf, ac)), rfl, ⟨rfl, by rw [show ino t cn (st, nx, bs, wt, ag, rf, ac) = (5, (st, nx, bs, wt, ag, rf, ac)) from by dsimp only [ino]; (repeat' split) <;> first | rfl | (exfalso; omega) | (have h3 : st = 3 := (by omega); rw [h3])]; rfl⟩, by rw [ht9]; exact hP, by rw [hAe]; exact hD⟩, hS.F ht9⟩) hS.2.2 d_M_inOrder_152
              · refine lv_aload_n hx hb d_M_inOrder_138 rfl (lv_at hl 1 rfl) ?_
                refine va_get (D := (dC, dI)) (ci := 3) (v := .int (nI st)) (C := R_M) (T := F_M) (N := 15) hx hb ht i_M hown hK hP 0 rfl rfl 8 (by decide) (ht _ m_205) (fun _ h9 => h9) rfl d_M_inOrder_139 ?_
                refine lv_iconst (v := (nI 3)) hx hb d_M_inOrder_142 (by decide) ?_
                refine fg_cmp_eq (tgt := 151) hx hb d_M_inOrder_143 (by decide) (by omega) (by omega) (fun c_143 => ?_) (fun c_143 => ?_)
                · refine lv_iconst (v := (nI 5)) hx hb d_M_inOrder_151 (by decide) ?_
                  exact W.iret (v := (nI 5)) hx hb hr (fun t9 ht9 hW9 => ⟨⟨(nI 5), (5, (st, nx, bs, wt, ag, rf, ac)), rfl, ⟨rfl, by rw [show ino t cn (st, nx, bs, wt, ag, rf, ac) = (5, (st, nx, bs, wt, ag, rf, ac)) from by dsimp only [ino]; (repeat' split) <;> first | rfl | (exfalso; omega) | (have h3 : st = 3 := (by omega); rw [h3])]; rfl⟩, by rw [ht9]; exact hP, by rw [hAe]; exact hD⟩, hS.F ht9⟩) hS.2.2 d_M_inOrder_152
                · refine lv_aload_n hx hb d_M_inOrder_146 rfl (lv_at hl 1 rfl) ?_
                  refine lv_iconst (v := (nI 3)) hx hb d_M_inOrder_147 (by decide) ?_
                  refine va_put (D := (dC, dI)) (ci := 3) (v := .int (nI 3)) (ty := .int) (C := R_M) (T := F_M) (N := 15) hx hb ht i_M t_M t_M_ok n_M hown hK hP hD hS 0 rfl rfl 8 (by decide) (ht _ m_205) (fun _ h9 => h9) rfl (t_M_ok 8 (by decide)) rfl rfl (Nat.le_of_ble_eq_true rfl) d_M_inOrder_148 (fun H locs hP hD hS => ?_)
                  have hP : va_P (dC, dI) fgC [(h0, .inr (3, [.int (nI th), .ref a1, .int (nI n), .int (nI cn), .ref a2, .ref a3, .ref a4, .int (nI kl), .int (nI 3), .int (nI nx), .int (nI bs), .int (nI wt), .int (nI ag), .int (nI rf), .int (nI ac)])), (a1, .inl (cB, 259, .inl t)), (a2, .inl (cB, 2048, .inl q)), (a3, .inl (cI, 8, .inl ln))] H := hP
                  have hD : va_D A [(h0, .inr (3, [.int (nI th), .ref a1, .int (nI n), .int (nI cn), .ref a2, .ref a3, .ref a4, .int (nI kl), .int (nI 3), .int (nI nx), .int (nI bs), .int (nI wt), .int (nI ag), .int (nI rf), .int (nI ac)])), (a1, .inl (cB, 259, .inl t)), (a2, .inl (cB, 2048, .inl q)), (a3, .inl (cI, 8, .inl ln))] := hD
                  refine lv_iconst (v := (nI 5)) hx hb d_M_inOrder_151 (by decide) ?_
                  exact W.iret (v := (nI 5)) hx hb hr (fun t9 ht9 hW9 => ⟨⟨(nI 5), (5, (3, nx, bs, wt, ag, rf, ac)), rfl, ⟨rfl, by rw [show ino t cn (st, nx, bs, wt, ag, rf, ac) = (5, (3, nx, bs, wt, ag, rf, ac)) from by dsimp only [ino]; (repeat' split) <;> first | rfl | (exfalso; omega) | (have h3 : st = 3 := (by omega); rw [h3])]; rfl⟩, by rw [ht9]; exact hP, by rw [hAe]; exact hD⟩, hS.F ht9⟩) hS.2.2 d_M_inOrder_152
          · refine lv_iload_n hx hb d_M_inOrder_103 rfl (lv_at hl 0 rfl) ?_
            refine lv_bipush (v := (nI 10)) hx hb d_M_inOrder_104 (by decide) ?_
            refine fg_cmp_ge (tgt := 125) hx hb d_M_inOrder_106 (by decide) (by omega) (by omega) (fun c_106 => ?_) (fun c_106 => ?_)
            · refine lv_iload_n hx hb d_M_inOrder_125 rfl (lv_at hl 0 rfl) ?_
              refine lv_bipush (v := (nI 9)) hx hb d_M_inOrder_126 (by decide) ?_
              refine fg_cmp_le (tgt := 151) hx hb d_M_inOrder_128 (by decide) (by omega) (by omega) (fun c_128 => ?_) (fun c_128 => ?_)
              · refine lv_iconst (v := (nI 5)) hx hb d_M_inOrder_151 (by decide) ?_
                exact W.iret (v := (nI 5)) hx hb hr (fun t9 ht9 hW9 => ⟨⟨(nI 5), (5, (st, nx, bs, wt, ag, rf, ac)), rfl, ⟨rfl, by rw [show ino t cn (st, nx, bs, wt, ag, rf, ac) = (5, (st, nx, bs, wt, ag, rf, ac)) from by dsimp only [ino]; (repeat' split) <;> first | rfl | (exfalso; omega) | (have h3 : st = 3 := (by omega); rw [h3])]; rfl⟩, by rw [ht9]; exact hP, by rw [hAe]; exact hD⟩, hS.F ht9⟩) hS.2.2 d_M_inOrder_152
              · refine lv_iload_n hx hb d_M_inOrder_131 rfl (lv_at hl 0 rfl) ?_
                refine lv_sipush (v := (nI 246)) hx hb d_M_inOrder_132 (by decide) ?_
                refine fg_cmp_ge (tgt := 151) hx hb d_M_inOrder_135 (by decide) (by omega) (by omega) (fun c_135 => ?_) (fun c_135 => ?_)
                · refine lv_iconst (v := (nI 5)) hx hb d_M_inOrder_151 (by decide) ?_
                  exact W.iret (v := (nI 5)) hx hb hr (fun t9 ht9 hW9 => ⟨⟨(nI 5), (5, (st, nx, bs, wt, ag, rf, ac)), rfl, ⟨rfl, by rw [show ino t cn (st, nx, bs, wt, ag, rf, ac) = (5, (st, nx, bs, wt, ag, rf, ac)) from by dsimp only [ino]; (repeat' split) <;> first | rfl | (exfalso; omega) | (have h3 : st = 3 := (by omega); rw [h3])]; rfl⟩, by rw [ht9]; exact hP, by rw [hAe]; exact hD⟩, hS.F ht9⟩) hS.2.2 d_M_inOrder_152
                · refine lv_aload_n hx hb d_M_inOrder_138 rfl (lv_at hl 1 rfl) ?_
                  refine va_get (D := (dC, dI)) (ci := 3) (v := .int (nI st)) (C := R_M) (T := F_M) (N := 15) hx hb ht i_M hown hK hP 0 rfl rfl 8 (by decide) (ht _ m_205) (fun _ h9 => h9) rfl d_M_inOrder_139 ?_
                  refine lv_iconst (v := (nI 3)) hx hb d_M_inOrder_142 (by decide) ?_
                  refine fg_cmp_eq (tgt := 151) hx hb d_M_inOrder_143 (by decide) (by omega) (by omega) (fun c_143 => ?_) (fun c_143 => ?_)
                  · refine lv_iconst (v := (nI 5)) hx hb d_M_inOrder_151 (by decide) ?_
                    exact W.iret (v := (nI 5)) hx hb hr (fun t9 ht9 hW9 => ⟨⟨(nI 5), (5, (st, nx, bs, wt, ag, rf, ac)), rfl, ⟨rfl, by rw [show ino t cn (st, nx, bs, wt, ag, rf, ac) = (5, (st, nx, bs, wt, ag, rf, ac)) from by dsimp only [ino]; (repeat' split) <;> first | rfl | (exfalso; omega) | (have h3 : st = 3 := (by omega); rw [h3])]; rfl⟩, by rw [ht9]; exact hP, by rw [hAe]; exact hD⟩, hS.F ht9⟩) hS.2.2 d_M_inOrder_152
                  · refine lv_aload_n hx hb d_M_inOrder_146 rfl (lv_at hl 1 rfl) ?_
                    refine lv_iconst (v := (nI 3)) hx hb d_M_inOrder_147 (by decide) ?_
                    refine va_put (D := (dC, dI)) (ci := 3) (v := .int (nI 3)) (ty := .int) (C := R_M) (T := F_M) (N := 15) hx hb ht i_M t_M t_M_ok n_M hown hK hP hD hS 0 rfl rfl 8 (by decide) (ht _ m_205) (fun _ h9 => h9) rfl (t_M_ok 8 (by decide)) rfl rfl (Nat.le_of_ble_eq_true rfl) d_M_inOrder_148 (fun H locs hP hD hS => ?_)
                    have hP : va_P (dC, dI) fgC [(h0, .inr (3, [.int (nI th), .ref a1, .int (nI n), .int (nI cn), .ref a2, .ref a3, .ref a4, .int (nI kl), .int (nI 3), .int (nI nx), .int (nI bs), .int (nI wt), .int (nI ag), .int (nI rf), .int (nI ac)])), (a1, .inl (cB, 259, .inl t)), (a2, .inl (cB, 2048, .inl q)), (a3, .inl (cI, 8, .inl ln))] H := hP
                    have hD : va_D A [(h0, .inr (3, [.int (nI th), .ref a1, .int (nI n), .int (nI cn), .ref a2, .ref a3, .ref a4, .int (nI kl), .int (nI 3), .int (nI nx), .int (nI bs), .int (nI wt), .int (nI ag), .int (nI rf), .int (nI ac)])), (a1, .inl (cB, 259, .inl t)), (a2, .inl (cB, 2048, .inl q)), (a3, .inl (cI, 8, .inl ln))] := hD
                    refine lv_iconst (v := (nI 5)) hx hb d_M_inOrder_151 (by decide) ?_
                    exact W.iret (v := (nI 5)) hx hb hr (fun t9 ht9 hW9 => ⟨⟨(nI 5), (5, (3, nx, bs, wt, ag, rf, ac)), rfl, ⟨rfl, by rw [show ino t cn (st, nx, bs, wt, ag, rf, ac) = (5, (3, nx, bs, wt, ag, rf, ac)) from by dsimp only [ino]; (repeat' split) <;> first | rfl | (exfalso; omega) | (have h3 : st = 3 := (by omega); rw [h3])]; rfl⟩, by rw [ht9]; exact hP, by rw [hAe]; exact hD⟩, hS.F ht9⟩) hS.2.2 d_M_inOrder_152
            · refine lv_aload_n hx hb d_M_inOrder_109 rfl (lv_at hl 1 rfl) ?_
              refine va_get (D := (dC, dI)) (ci := 3) (v := .int (nI st)) (C := R_M) (T := F_M) (N := 15) hx hb ht i_M hown hK hP 0 rfl rfl 8 (by decide) (ht _ m_205) (fun _ h9 => h9) rfl d_M_inOrder_110 ?_
              refine lv_iconst (v := (nI 1)) hx hb d_M_inOrder_113 (by decide) ?_
              refine fg_cmp_ne (tgt := 125) hx hb d_M_inOrder_114 (by decide) (by omega) (by omega) (fun c_114 => ?_) (fun c_114 => ?_)
              · refine lv_iload_n hx hb d_M_inOrder_125 rfl (lv_at hl 0 rfl) ?_
                refine lv_bipush (v := (nI 9)) hx hb d_M_inOrder_126 (by decide) ?_
                refine fg_cmp_le (tgt := 151) hx hb d_M_inOrder_128 (by decide) (by omega) (by omega) (fun c_128 => ?_) (fun c_128 => ?_)
                · refine lv_iconst (v := (nI 5)) hx hb d_M_inOrder_151 (by decide) ?_
                  exact W.iret (v := (nI 5)) hx hb hr (fun t9 ht9 hW9 => ⟨⟨(nI 5), (5, (st, nx, bs, wt, ag, rf, ac)), rfl, ⟨rfl, by rw [show ino t cn (st, nx, bs, wt, ag, rf, ac) = (5, (st, nx, bs, wt, ag, rf, ac)) from by dsimp only [ino]; (repeat' split) <;> first | rfl | (exfalso; omega) | (have h3 : st = 3 := (by omega); rw [h3])]; rfl⟩, by rw [ht9]; exact hP, by rw [hAe]; exact hD⟩, hS.F ht9⟩) hS.2.2 d_M_inOrder_152
                · refine lv_iload_n hx hb d_M_inOrder_131 rfl (lv_at hl 0 rfl) ?_
                  refine lv_sipush (v := (nI 246)) hx hb d_M_inOrder_132 (by decide) ?_
                  refine fg_cmp_ge (tgt := 151) hx hb d_M_inOrder_135 (by decide) (by omega) (by omega) (fun c_135 => ?_) (fun c_135 => ?_)
                  · refine lv_iconst (v := (nI 5)) hx hb d_M_inOrder_151 (by decide) ?_
                    exact W.iret (v := (nI 5)) hx hb hr (fun t9 ht9 hW9 => ⟨⟨(nI 5), (5, (st, nx, bs, wt, ag, rf, ac)), rfl, ⟨rfl, by rw [show ino t cn (st, nx, bs, wt, ag, rf, ac) = (5, (st, nx, bs, wt, ag, rf, ac)) from by dsimp only [ino]; (repeat' split) <;> first | rfl | (exfalso; omega) | (have h3 : st = 3 := (by omega); rw [h3])]; rfl⟩, by rw [ht9]; exact hP, by rw [hAe]; exact hD⟩, hS.F ht9⟩) hS.2.2 d_M_inOrder_152
                  · refine lv_aload_n hx hb d_M_inOrder_138 rfl (lv_at hl 1 rfl) ?_
                    refine va_get (D := (dC, dI)) (ci := 3) (v := .int (nI st)) (C := R_M) (T := F_M) (N := 15) hx hb ht i_M hown hK hP 0 rfl rfl 8 (by decide) (ht _ m_205) (fun _ h9 => h9) rfl d_M_inOrder_139 ?_
                    refine lv_iconst (v := (nI 3)) hx hb d_M_inOrder_142 (by decide) ?_
                    refine fg_cmp_eq (tgt := 151) hx hb d_M_inOrder_143 (by decide) (by omega) (by omega) (fun c_143 => ?_) (fun c_143 => ?_)
                    · refine lv_iconst (v := (nI 5)) hx hb d_M_inOrder_151 (by decide) ?_
                      exact W.iret (v := (nI 5)) hx hb hr (fun t9 ht9 hW9 => ⟨⟨(nI 5), (5, (st, nx, bs, wt, ag, rf, ac)), rfl, ⟨rfl, by rw [show ino t cn (st, nx, bs, wt, ag, rf, ac) = (5, (st, nx, bs, wt, ag, rf, ac)) from by dsimp only [ino]; (repeat' split) <;> first | rfl | (exfalso; omega) | (have h3 : st = 3 := (by omega); rw [h3])]; rfl⟩, by rw [ht9]; exact hP, by rw [hAe]; exact hD⟩, hS.F ht9⟩) hS.2.2 d_M_inOrder_152
                    · refine lv_aload_n hx hb d_M_inOrder_146 rfl (lv_at hl 1 rfl) ?_
                      refine lv_iconst (v := (nI 3)) hx hb d_M_inOrder_147 (by decide) ?_
                      refine va_put (D := (dC, dI)) (ci := 3) (v := .int (nI 3)) (ty := .int) (C := R_M) (T := F_M) (N := 15) hx hb ht i_M t_M t_M_ok n_M hown hK hP hD hS 0 rfl rfl 8 (by decide) (ht _ m_205) (fun _ h9 => h9) rfl (t_M_ok 8 (by decide)) rfl rfl (Nat.le_of_ble_eq_true rfl) d_M_inOrder_148 (fun H locs hP hD hS => ?_)
                      have hP : va_P (dC, dI) fgC [(h0, .inr (3, [.int (nI th), .ref a1, .int (nI n), .int (nI cn), .ref a2, .ref a3, .ref a4, .int (nI kl), .int (nI 3), .int (nI nx), .int (nI bs), .int (nI wt), .int (nI ag), .int (nI rf), .int (nI ac)])), (a1, .inl (cB, 259, .inl t)), (a2, .inl (cB, 2048, .inl q)), (a3, .inl (cI, 8, .inl ln))] H := hP
                      have hD : va_D A [(h0, .inr (3, [.int (nI th), .ref a1, .int (nI n), .int (nI cn), .ref a2, .ref a3, .ref a4, .int (nI kl), .int (nI 3), .int (nI nx), .int (nI bs), .int (nI wt), .int (nI ag), .int (nI rf), .int (nI ac)])), (a1, .inl (cB, 259, .inl t)), (a2, .inl (cB, 2048, .inl q)), (a3, .inl (cI, 8, .inl ln))] := hD
                      refine lv_iconst (v := (nI 5)) hx hb d_M_inOrder_151 (by decide) ?_
                      exact W.iret (v := (nI 5)) hx hb hr (fun t9 ht9 hW9 => ⟨⟨(nI 5), (5, (3, nx, bs, wt, ag, rf, ac)), rfl, ⟨rfl, by rw [show ino t cn (st, nx, bs, wt, ag, rf, ac) = (5, (3, nx, bs, wt, ag, rf, ac)) from by dsimp only [ino]; (repeat' split) <;> first | rfl | (exfalso; omega) | (have h3 : st = 3 := (by omega); rw [h3])]; rfl⟩, by rw [ht9]; exact hP, by rw [hAe]; exact hD⟩, hS.F ht9⟩) hS.2.2 d_M_inOrder_152
              · refine lv_aload_n hx hb d_M_inOrder_117 rfl (lv_at hl 1 rfl) ?_
                refine lv_iconst (v := (nI 1)) hx hb d_M_inOrder_118 (by decide) ?_
                refine va_put (D := (dC, dI)) (ci := 3) (v := .int (nI 1)) (ty := .boolean) (C := R_M) (T := F_M) (N := 15) hx hb ht i_M t_M t_M_ok n_M hown hK hP hD hS 0 rfl rfl 12 (by decide) (ht _ m_209) (fun _ h9 => h9) rfl (t_M_ok 12 (by decide)) (fg_nZ (by omega)) (fg_fZ (by omega)) (Nat.le_of_ble_eq_true rfl) d_M_inOrder_119 (fun H locs hP hD hS => ?_)
                have hP : va_P (dC, dI) fgC [(h0, .inr (3, [.int (nI th), .ref a1, .int (nI n), .int (nI cn), .ref a2, .ref a3, .ref a4, .int (nI kl), .int (nI st), .int (nI nx), .int (nI bs), .int (nI wt), .int (nI 1), .int (nI rf), .int (nI ac)])), (a1, .inl (cB, 259, .inl t)), (a2, .inl (cB, 2048, .inl q)), (a3, .inl (cI, 8, .inl ln))] H := hP
                have hD : va_D A [(h0, .inr (3, [.int (nI th), .ref a1, .int (nI n), .int (nI cn), .ref a2, .ref a3, .ref a4, .int (nI kl), .int (nI st), .int (nI nx), .int (nI bs), .int (nI wt), .int (nI 1), .int (nI rf), .int (nI ac)])), (a1, .inl (cB, 259, .inl t)), (a2, .inl (cB, 2048, .inl q)), (a3, .inl (cI, 8, .inl ln))] := hD
                refine lv_goto (tgt := 151) hx hb d_M_inOrder_122 (by decide) ?_
                refine lv_iconst (v := (nI 5)) hx hb d_M_inOrder_151 (by decide) ?_
                exact W.iret (v := (nI 5)) hx hb hr (fun t9 ht9 hW9 => ⟨⟨(nI 5), (5, (st, nx, bs, wt, 1, rf, ac)), rfl, ⟨rfl, by rw [show ino t cn (st, nx, bs, wt, ag, rf, ac) = (5, (st, nx, bs, wt, 1, rf, ac)) from by dsimp only [ino]; (repeat' split) <;> first | rfl | (exfalso; omega) | (have h3 : st = 3 := (by omega); rw [h3])]; rfl⟩, by rw [ht9]; exact hP, by rw [hAe]; exact hD⟩, hS.F ht9⟩) hS.2.2 d_M_inOrder_152
        · refine lv_aload_n hx hb d_M_inOrder_73 rfl (lv_at hl 1 rfl) ?_
          refine va_get (D := (dC, dI)) (ci := 3) (v := .int (nI st)) (C := R_M) (T := F_M) (N := 15) hx hb ht i_M hown hK hP 0 rfl rfl 8 (by decide) (ht _ m_205) (fun _ h9 => h9) rfl d_M_inOrder_74 ?_
          refine lv_iconst (v := (nI 1)) hx hb d_M_inOrder_77 (by decide) ?_
          refine fg_cmp_ne (tgt := 99) hx hb d_M_inOrder_78 (by decide) (by omega) (by omega) (fun c_78 => ?_) (fun c_78 => ?_)
          · refine lv_iload_n hx hb d_M_inOrder_99 rfl (lv_at hl 0 rfl) ?_
            refine fg_if_le (tgt := 125) hx hb d_M_inOrder_100 (by decide) (by omega) (fun c_100 => ?_) (fun c_100 => ?_)
            · refine lv_iload_n hx hb d_M_inOrder_125 rfl (lv_at hl 0 rfl) ?_
              refine lv_bipush (v := (nI 9)) hx hb d_M_inOrder_126 (by decide) ?_
              refine fg_cmp_le (tgt := 151) hx hb d_M_inOrder_128 (by decide) (by omega) (by omega) (fun c_128 => ?_) (fun c_128 => ?_)
              · refine lv_iconst (v := (nI 5)) hx hb d_M_inOrder_151 (by decide) ?_
                exact W.iret (v := (nI 5)) hx hb hr (fun t9 ht9 hW9 => ⟨⟨(nI 5), (5, (st, nx, bs, wt, ag, rf, ac)), rfl, ⟨rfl, by rw [show ino t cn (st, nx, bs, wt, ag, rf, ac) = (5, (st, nx, bs, wt, ag, rf, ac)) from by dsimp only [ino]; (repeat' split) <;> first | rfl | (exfalso; omega) | (have h3 : st = 3 := (by omega); rw [h3])]; rfl⟩, by rw [ht9]; exact hP, by rw [hAe]; exact hD⟩, hS.F ht9⟩) hS.2.2 d_M_inOrder_152
              · refine lv_iload_n hx hb d_M_inOrder_131 rfl (lv_at hl 0 rfl) ?_
                refine lv_sipush (v := (nI 246)) hx hb d_M_inOrder_132 (by decide) ?_
                refine fg_cmp_ge (tgt := 151) hx hb d_M_inOrder_135 (by decide) (by omega) (by omega) (fun c_135 => ?_) (fun c_135 => ?_)
                · refine lv_iconst (v := (nI 5)) hx hb d_M_inOrder_151 (by decide) ?_
                  exact W.iret (v := (nI 5)) hx hb hr (fun t9 ht9 hW9 => ⟨⟨(nI 5), (5, (st, nx, bs, wt, ag, rf, ac)), rfl, ⟨rfl, by rw [show ino t cn (st, nx, bs, wt, ag, rf, ac) = (5, (st, nx, bs, wt, ag, rf, ac)) from by dsimp only [ino]; (repeat' split) <;> first | rfl | (exfalso; omega) | (have h3 : st = 3 := (by omega); rw [h3])]; rfl⟩, by rw [ht9]; exact hP, by rw [hAe]; exact hD⟩, hS.F ht9⟩) hS.2.2 d_M_inOrder_152
                · refine lv_aload_n hx hb d_M_inOrder_138 rfl (lv_at hl 1 rfl) ?_
                  refine va_get (D := (dC, dI)) (ci := 3) (v := .int (nI st)) (C := R_M) (T := F_M) (N := 15) hx hb ht i_M hown hK hP 0 rfl rfl 8 (by decide) (ht _ m_205) (fun _ h9 => h9) rfl d_M_inOrder_139 ?_
                  refine lv_iconst (v := (nI 3)) hx hb d_M_inOrder_142 (by decide) ?_
                  refine fg_cmp_eq (tgt := 151) hx hb d_M_inOrder_143 (by decide) (by omega) (by omega) (fun c_143 => ?_) (fun c_143 => ?_)
                  · refine lv_iconst (v := (nI 5)) hx hb d_M_inOrder_151 (by decide) ?_
                    exact W.iret (v := (nI 5)) hx hb hr (fun t9 ht9 hW9 => ⟨⟨(nI 5), (5, (st, nx, bs, wt, ag, rf, ac)), rfl, ⟨rfl, by rw [show ino t cn (st, nx, bs, wt, ag, rf, ac) = (5, (st, nx, bs, wt, ag, rf, ac)) from by dsimp only [ino]; (repeat' split) <;> first | rfl | (exfalso; omega) | (have h3 : st = 3 := (by omega); rw [h3])]; rfl⟩, by rw [ht9]; exact hP, by rw [hAe]; exact hD⟩, hS.F ht9⟩) hS.2.2 d_M_inOrder_152
                  · refine lv_aload_n hx hb d_M_inOrder_146 rfl (lv_at hl 1 rfl) ?_
                    refine lv_iconst (v := (nI 3)) hx hb d_M_inOrder_147 (by decide) ?_
                    refine va_put (D := (dC, dI)) (ci := 3) (v := .int (nI 3)) (ty := .int) (C := R_M) (T := F_M) (N := 15) hx hb ht i_M t_M t_M_ok n_M hown hK hP hD hS 0 rfl rfl 8 (by decide) (ht _ m_205) (fun _ h9 => h9) rfl (t_M_ok 8 (by decide)) rfl rfl (Nat.le_of_ble_eq_true rfl) d_M_inOrder_148 (fun H locs hP hD hS => ?_)
                    have hP : va_P (dC, dI) fgC [(h0, .inr (3, [.int (nI th), .ref a1, .int (nI n), .int (nI cn), .ref a2, .ref a3, .ref a4, .int (nI kl), .int (nI 3), .int (nI nx), .int (nI bs), .int (nI wt), .int (nI ag), .int (nI rf), .int (nI ac)])), (a1, .inl (cB, 259, .inl t)), (a2, .inl (cB, 2048, .inl q)), (a3, .inl (cI, 8, .inl ln))] H := hP
                    have hD : va_D A [(h0, .inr (3, [.int (nI th), .ref a1, .int (nI n), .int (nI cn), .ref a2, .ref a3, .ref a4, .int (nI kl), .int (nI 3), .int (nI nx), .int (nI bs), .int (nI wt), .int (nI ag), .int (nI rf), .int (nI ac)])), (a1, .inl (cB, 259, .inl t)), (a2, .inl (cB, 2048, .inl q)), (a3, .inl (cI, 8, .inl ln))] := hD
                    refine lv_iconst (v := (nI 5)) hx hb d_M_inOrder_151 (by decide) ?_
                    exact W.iret (v := (nI 5)) hx hb hr (fun t9 ht9 hW9 => ⟨⟨(nI 5), (5, (3, nx, bs, wt, ag, rf, ac)), rfl, ⟨rfl, by rw [show ino t cn (st, nx, bs, wt, ag, rf, ac) = (5, (3, nx, bs, wt, ag, rf, ac)) from by dsimp only [ino]; (repeat' split) <;> first | rfl | (exfalso; omega) | (have h3 : st = 3 := (by omega); rw [h3])]; rfl⟩, by rw [ht9]; exact hP, by rw [hAe]; exact hD⟩, hS.F ht9⟩) hS.2.2 d_M_inOrder_152
            · refine lv_iload_n hx hb d_M_inOrder_103 rfl (lv_at hl 0 rfl) ?_
              refine lv_bipush (v := (nI 10)) hx hb d_M_inOrder_104 (by decide) ?_
              refine fg_cmp_ge (tgt := 125) hx hb d_M_inOrder_106 (by decide) (by omega) (by omega) (fun c_106 => ?_) (fun c_106 => ?_)
              · refine lv_iload_n hx hb d_M_inOrder_125 rfl (lv_at hl 0 rfl) ?_
                refine lv_bipush (v := (nI 9)) hx hb d_M_inOrder_126 (by decide) ?_
                refine fg_cmp_le (tgt := 151) hx hb d_M_inOrder_128 (by decide) (by omega) (by omega) (fun c_128 => ?_) (fun c_128 => ?_)
                · refine lv_iconst (v := (nI 5)) hx hb d_M_inOrder_151 (by decide) ?_
                  exact W.iret (v := (nI 5)) hx hb hr (fun t9 ht9 hW9 => ⟨⟨(nI 5), (5, (st, nx, bs, wt, ag, rf, ac)), rfl, ⟨rfl, by rw [show ino t cn (st, nx, bs, wt, ag, rf, ac) = (5, (st, nx, bs, wt, ag, rf, ac)) from by dsimp only [ino]; (repeat' split) <;> first | rfl | (exfalso; omega) | (have h3 : st = 3 := (by omega); rw [h3])]; rfl⟩, by rw [ht9]; exact hP, by rw [hAe]; exact hD⟩, hS.F ht9⟩) hS.2.2 d_M_inOrder_152
                · refine lv_iload_n hx hb d_M_inOrder_131 rfl (lv_at hl 0 rfl) ?_
                  refine lv_sipush (v := (nI 246)) hx hb d_M_inOrder_132 (by decide) ?_
                  refine fg_cmp_ge (tgt := 151) hx hb d_M_inOrder_135 (by decide) (by omega) (by omega) (fun c_135 => ?_) (fun c_135 => ?_)
                  · refine lv_iconst (v := (nI 5)) hx hb d_M_inOrder_151 (by decide) ?_
                    exact W.iret (v := (nI 5)) hx hb hr (fun t9 ht9 hW9 => ⟨⟨(nI 5), (5, (st, nx, bs, wt, ag, rf, ac)), rfl, ⟨rfl, by rw [show ino t cn (st, nx, bs, wt, ag, rf, ac) = (5, (st, nx, bs, wt, ag, rf, ac)) from by dsimp only [ino]; (repeat' split) <;> first | rfl | (exfalso; omega) | (have h3 : st = 3 := (by omega); rw [h3])]; rfl⟩, by rw [ht9]; exact hP, by rw [hAe]; exact hD⟩, hS.F ht9⟩) hS.2.2 d_M_inOrder_152
                  · refine lv_aload_n hx hb d_M_inOrder_138 rfl (lv_at hl 1 rfl) ?_
                    refine va_get (D := (dC, dI)) (ci := 3) (v := .int (nI st)) (C := R_M) (T := F_M) (N := 15) hx hb ht i_M hown hK hP 0 rfl rfl 8 (by decide) (ht _ m_205) (fun _ h9 => h9) rfl d_M_inOrder_139 ?_
                    refine lv_iconst (v := (nI 3)) hx hb d_M_inOrder_142 (by decide) ?_
                    refine fg_cmp_eq (tgt := 151) hx hb d_M_inOrder_143 (by decide) (by omega) (by omega) (fun c_143 => ?_) (fun c_143 => ?_)
                    · refine lv_iconst (v := (nI 5)) hx hb d_M_inOrder_151 (by decide) ?_
                      exact W.iret (v := (nI 5)) hx hb hr (fun t9 ht9 hW9 => ⟨⟨(nI 5), (5, (st, nx, bs, wt, ag, rf, ac)), rfl, ⟨rfl, by rw [show ino t cn (st, nx, bs, wt, ag, rf, ac) = (5, (st, nx, bs, wt, ag, rf, ac)) from by dsimp only [ino]; (repeat' split) <;> first | rfl | (exfalso; omega) | (have h3 : st = 3 := (by omega); rw [h3])]; rfl⟩, by rw [ht9]; exact hP, by rw [hAe]; exact hD⟩, hS.F ht9⟩) hS.2.2 d_M_inOrder_152
                    · refine lv_aload_n hx hb d_M_inOrder_146 rfl (lv_at hl 1 rfl) ?_
                      refine lv_iconst (v := (nI 3)) hx hb d_M_inOrder_147 (by decide) ?_
                      refine va_put (D := (dC, dI)) (ci := 3) (v := .int (nI 3)) (ty := .int) (C := R_M) (T := F_M) (N := 15) hx hb ht i_M t_M t_M_ok n_M hown hK hP hD hS 0 rfl rfl 8 (by decide) (ht _ m_205) (fun _ h9 => h9) rfl (t_M_ok 8 (by decide)) rfl rfl (Nat.le_of_ble_eq_true rfl) d_M_inOrder_148 (fun H locs hP hD hS => ?_)
                      have hP : va_P (dC, dI) fgC [(h0, .inr (3, [.int (nI th), .ref a1, .int (nI n), .int (nI cn), .ref a2, .ref a3, .ref a4, .int (nI kl), .int (nI 3), .int (nI nx), .int (nI bs), .int (nI wt), .int (nI ag), .int (nI rf), .int (nI ac)])), (a1, .inl (cB, 259, .inl t)), (a2, .inl (cB, 2048, .inl q)), (a3, .inl (cI, 8, .inl ln))] H := hP
                      have hD : va_D A [(h0, .inr (3, [.int (nI th), .ref a1, .int (nI n), .int (nI cn), .ref a2, .ref a3, .ref a4, .int (nI kl), .int (nI 3), .int (nI nx), .int (nI bs), .int (nI wt), .int (nI ag), .int (nI rf), .int (nI ac)])), (a1, .inl (cB, 259, .inl t)), (a2, .inl (cB, 2048, .inl q)), (a3, .inl (cI, 8, .inl ln))] := hD
                      refine lv_iconst (v := (nI 5)) hx hb d_M_inOrder_151 (by decide) ?_
                      exact W.iret (v := (nI 5)) hx hb hr (fun t9 ht9 hW9 => ⟨⟨(nI 5), (5, (3, nx, bs, wt, ag, rf, ac)), rfl, ⟨rfl, by rw [show ino t cn (st, nx, bs, wt, ag, rf, ac) = (5, (3, nx, bs, wt, ag, rf, ac)) from by dsimp only [ino]; (repeat' split) <;> first | rfl | (exfalso; omega) | (have h3 : st = 3 := (by omega); rw [h3])]; rfl⟩, by rw [ht9]; exact hP, by rw [hAe]; exact hD⟩, hS.F ht9⟩) hS.2.2 d_M_inOrder_152
              · refine lv_aload_n hx hb d_M_inOrder_109 rfl (lv_at hl 1 rfl) ?_
                refine va_get (D := (dC, dI)) (ci := 3) (v := .int (nI st)) (C := R_M) (T := F_M) (N := 15) hx hb ht i_M hown hK hP 0 rfl rfl 8 (by decide) (ht _ m_205) (fun _ h9 => h9) rfl d_M_inOrder_110 ?_
                refine lv_iconst (v := (nI 1)) hx hb d_M_inOrder_113 (by decide) ?_
                refine fg_cmp_ne (tgt := 125) hx hb d_M_inOrder_114 (by decide) (by omega) (by omega) (fun c_114 => ?_) (fun c_114 => ?_)
                · refine lv_iload_n hx hb d_M_inOrder_125 rfl (lv_at hl 0 rfl) ?_
                  refine lv_bipush (v := (nI 9)) hx hb d_M_inOrder_126 (by decide) ?_
                  refine fg_cmp_le (tgt := 151) hx hb d_M_inOrder_128 (by decide) (by omega) (by omega) (fun c_128 => ?_) (fun c_128 => ?_)
                  · refine lv_iconst (v := (nI 5)) hx hb d_M_inOrder_151 (by decide) ?_
                    exact W.iret (v := (nI 5)) hx hb hr (fun t9 ht9 hW9 => ⟨⟨(nI 5), (5, (st, nx, bs, wt, ag, rf, ac)), rfl, ⟨rfl, by rw [show ino t cn (st, nx, bs, wt, ag, rf, ac) = (5, (st, nx, bs, wt, ag, rf, ac)) from by dsimp only [ino]; (repeat' split) <;> first | rfl | (exfalso; omega) | (have h3 : st = 3 := (by omega); rw [h3])]; rfl⟩, by rw [ht9]; exact hP, by rw [hAe]; exact hD⟩, hS.F ht9⟩) hS.2.2 d_M_inOrder_152
                  · refine lv_iload_n hx hb d_M_inOrder_131 rfl (lv_at hl 0 rfl) ?_
                    refine lv_sipush (v := (nI 246)) hx hb d_M_inOrder_132 (by decide) ?_
                    refine fg_cmp_ge (tgt := 151) hx hb d_M_inOrder_135 (by decide) (by omega) (by omega) (fun c_135 => ?_) (fun c_135 => ?_)
                    · refine lv_iconst (v := (nI 5)) hx hb d_M_inOrder_151 (by decide) ?_
                      exact W.iret (v := (nI 5)) hx hb hr (fun t9 ht9 hW9 => ⟨⟨(nI 5), (5, (st, nx, bs, wt, ag, rf, ac)), rfl, ⟨rfl, by rw [show ino t cn (st, nx, bs, wt, ag, rf, ac) = (5, (st, nx, bs, wt, ag, rf, ac)) from by dsimp only [ino]; (repeat' split) <;> first | rfl | (exfalso; omega) | (have h3 : st = 3 := (by omega); rw [h3])]; rfl⟩, by rw [ht9]; exact hP, by rw [hAe]; exact hD⟩, hS.F ht9⟩) hS.2.2 d_M_inOrder_152
                    · refine lv_aload_n hx hb d_M_inOrder_138 rfl (lv_at hl 1 rfl) ?_
                      refine va_get (D := (dC, dI)) (ci := 3) (v := .int (nI st)) (C := R_M) (T := F_M) (N := 15) hx hb ht i_M hown hK hP 0 rfl rfl 8 (by decide) (ht _ m_205) (fun _ h9 => h9) rfl d_M_inOrder_139 ?_
                      refine lv_iconst (v := (nI 3)) hx hb d_M_inOrder_142 (by decide) ?_
                      refine fg_cmp_eq (tgt := 151) hx hb d_M_inOrder_143 (by decide) (by omega) (by omega) (fun c_143 => ?_) (fun c_143 => ?_)
                      · refine lv_iconst (v := (nI 5)) hx hb d_M_inOrder_151 (by decide) ?_
                        exact W.iret (v := (nI 5)) hx hb hr (fun t9 ht9 hW9 => ⟨⟨(nI 5), (5, (st, nx, bs, wt, ag, rf, ac)), rfl, ⟨rfl, by rw [show ino t cn (st, nx, bs, wt, ag, rf, ac) = (5, (st, nx, bs, wt, ag, rf, ac)) from by dsimp only [ino]; (repeat' split) <;> first | rfl | (exfalso; omega) | (have h3 : st = 3 := (by omega); rw [h3])]; rfl⟩, by rw [ht9]; exact hP, by rw [hAe]; exact hD⟩, hS.F ht9⟩) hS.2.2 d_M_inOrder_152
                      · refine lv_aload_n hx hb d_M_inOrder_146 rfl (lv_at hl 1 rfl) ?_
                        refine lv_iconst (v := (nI 3)) hx hb d_M_inOrder_147 (by decide) ?_
                        refine va_put (D := (dC, dI)) (ci := 3) (v := .int (nI 3)) (ty := .int) (C := R_M) (T := F_M) (N := 15) hx hb ht i_M t_M t_M_ok n_M hown hK hP hD hS 0 rfl rfl 8 (by decide) (ht _ m_205) (fun _ h9 => h9) rfl (t_M_ok 8 (by decide)) rfl rfl (Nat.le_of_ble_eq_true rfl) d_M_inOrder_148 (fun H locs hP hD hS => ?_)
                        have hP : va_P (dC, dI) fgC [(h0, .inr (3, [.int (nI th), .ref a1, .int (nI n), .int (nI cn), .ref a2, .ref a3, .ref a4, .int (nI kl), .int (nI 3), .int (nI nx), .int (nI bs), .int (nI wt), .int (nI ag), .int (nI rf), .int (nI ac)])), (a1, .inl (cB, 259, .inl t)), (a2, .inl (cB, 2048, .inl q)), (a3, .inl (cI, 8, .inl ln))] H := hP
                        have hD : va_D A [(h0, .inr (3, [.int (nI th), .ref a1, .int (nI n), .int (nI cn), .ref a2, .ref a3, .ref a4, .int (nI kl), .int (nI 3), .int (nI nx), .int (nI bs), .int (nI wt), .int (nI ag), .int (nI rf), .int (nI ac)])), (a1, .inl (cB, 259, .inl t)), (a2, .inl (cB, 2048, .inl q)), (a3, .inl (cI, 8, .inl ln))] := hD
                        refine lv_iconst (v := (nI 5)) hx hb d_M_inOrder_151 (by decide) ?_
                        exact W.iret (v := (nI 5)) hx hb hr (fun t9 ht9 hW9 => ⟨⟨(nI 5), (5, (3, nx, bs, wt, ag, rf, ac)), rfl, ⟨rfl, by rw [show ino t cn (st, nx, bs, wt, ag, rf, ac) = (5, (3, nx, bs, wt, ag, rf, ac)) from by dsimp only [ino]; (repeat' split) <;> first | rfl | (exfalso; omega) | (have h3 : st = 3 := (by omega); rw [h3])]; rfl⟩, by rw [ht9]; exact hP, by rw [hAe]; exact hD⟩, hS.F ht9⟩) hS.2.2 d_M_inOrder_152
                · refine lv_aload_n hx hb d_M_inOrder_117 rfl (lv_at hl 1 rfl) ?_
                  refine lv_iconst (v := (nI 1)) hx hb d_M_inOrder_118 (by decide) ?_
                  refine va_put (D := (dC, dI)) (ci := 3) (v := .int (nI 1)) (ty := .boolean) (C := R_M) (T := F_M) (N := 15) hx hb ht i_M t_M t_M_ok n_M hown hK hP hD hS 0 rfl rfl 12 (by decide) (ht _ m_209) (fun _ h9 => h9) rfl (t_M_ok 12 (by decide)) (fg_nZ (by omega)) (fg_fZ (by omega)) (Nat.le_of_ble_eq_true rfl) d_M_inOrder_119 (fun H locs hP hD hS => ?_)
                  have hP : va_P (dC, dI) fgC [(h0, .inr (3, [.int (nI th), .ref a1, .int (nI n), .int (nI cn), .ref a2, .ref a3, .ref a4, .int (nI kl), .int (nI st), .int (nI nx), .int (nI bs), .int (nI wt), .int (nI 1), .int (nI rf), .int (nI ac)])), (a1, .inl (cB, 259, .inl t)), (a2, .inl (cB, 2048, .inl q)), (a3, .inl (cI, 8, .inl ln))] H := hP
                  have hD : va_D A [(h0, .inr (3, [.int (nI th), .ref a1, .int (nI n), .int (nI cn), .ref a2, .ref a3, .ref a4, .int (nI kl), .int (nI st), .int (nI nx), .int (nI bs), .int (nI wt), .int (nI 1), .int (nI rf), .int (nI ac)])), (a1, .inl (cB, 259, .inl t)), (a2, .inl (cB, 2048, .inl q)), (a3, .inl (cI, 8, .inl ln))] := hD
                  refine lv_goto (tgt := 151) hx hb d_M_inOrder_122 (by decide) ?_
                  refine lv_iconst (v := (nI 5)) hx hb d_M_inOrder_151 (by decide) ?_
                  exact W.iret (v := (nI 5)) hx hb hr (fun t9 ht9 hW9 => ⟨⟨(nI 5), (5, (st, nx, bs, wt, 1, rf, ac)), rfl, ⟨rfl, by rw [show ino t cn (st, nx, bs, wt, ag, rf, ac) = (5, (st, nx, bs, wt, 1, rf, ac)) from by dsimp only [ino]; (repeat' split) <;> first | rfl | (exfalso; omega) | (have h3 : st = 3 := (by omega); rw [h3])]; rfl⟩, by rw [ht9]; exact hP, by rw [hAe]; exact hD⟩, hS.F ht9⟩) hS.2.2 d_M_inOrder_152
          · refine lv_aload_n hx hb d_M_inOrder_81 rfl (lv_at hl 1 rfl) ?_
            refine lv_iconst (v := (nI 1)) hx hb d_M_inOrder_82 (by decide) ?_
            refine va_put (D := (dC, dI)) (ci := 3) (v := .int (nI 1)) (ty := .boolean) (C := R_M) (T := F_M) (N := 15) hx hb ht i_M t_M t_M_ok n_M hown hK hP hD hS 0 rfl rfl 12 (by decide) (ht _ m_209) (fun _ h9 => h9) rfl (t_M_ok 12 (by decide)) (fg_nZ (by omega)) (fg_fZ (by omega)) (Nat.le_of_ble_eq_true rfl) d_M_inOrder_83 (fun H locs hP hD hS => ?_)
            have hP : va_P (dC, dI) fgC [(h0, .inr (3, [.int (nI th), .ref a1, .int (nI n), .int (nI cn), .ref a2, .ref a3, .ref a4, .int (nI kl), .int (nI st), .int (nI nx), .int (nI bs), .int (nI wt), .int (nI 1), .int (nI rf), .int (nI ac)])), (a1, .inl (cB, 259, .inl t)), (a2, .inl (cB, 2048, .inl q)), (a3, .inl (cI, 8, .inl ln))] H := hP
            have hD : va_D A [(h0, .inr (3, [.int (nI th), .ref a1, .int (nI n), .int (nI cn), .ref a2, .ref a3, .ref a4, .int (nI kl), .int (nI st), .int (nI nx), .int (nI bs), .int (nI wt), .int (nI 1), .int (nI rf), .int (nI ac)])), (a1, .inl (cB, 259, .inl t)), (a2, .inl (cB, 2048, .inl q)), (a3, .inl (cI, 8, .inl ln))] := hD
            refine lv_aload_n hx hb d_M_inOrder_86 rfl (lv_at hl 1 rfl) ?_
            refine lv_iconst (v := (nI 1)) hx hb d_M_inOrder_87 (by decide) ?_
            refine va_put (D := (dC, dI)) (ci := 3) (v := .int (nI 1)) (ty := .boolean) (C := R_M) (T := F_M) (N := 15) hx hb ht i_M t_M t_M_ok n_M hown hK hP hD hS 0 rfl rfl 11 (by decide) (ht _ m_208) (fun _ h9 => h9) rfl (t_M_ok 11 (by decide)) (fg_nZ (by omega)) (fg_fZ (by omega)) (Nat.le_of_ble_eq_true rfl) d_M_inOrder_88 (fun H locs hP hD hS => ?_)
            have hP : va_P (dC, dI) fgC [(h0, .inr (3, [.int (nI th), .ref a1, .int (nI n), .int (nI cn), .ref a2, .ref a3, .ref a4, .int (nI kl), .int (nI st), .int (nI nx), .int (nI bs), .int (nI 1), .int (nI 1), .int (nI rf), .int (nI ac)])), (a1, .inl (cB, 259, .inl t)), (a2, .inl (cB, 2048, .inl q)), (a3, .inl (cI, 8, .inl ln))] H := hP
            have hD : va_D A [(h0, .inr (3, [.int (nI th), .ref a1, .int (nI n), .int (nI cn), .ref a2, .ref a3, .ref a4, .int (nI kl), .int (nI st), .int (nI nx), .int (nI bs), .int (nI 1), .int (nI 1), .int (nI rf), .int (nI ac)])), (a1, .inl (cB, 259, .inl t)), (a2, .inl (cB, 2048, .inl q)), (a3, .inl (cI, 8, .inl ln))] := hD
            refine lv_aload_n hx hb d_M_inOrder_91 rfl (lv_at hl 1 rfl) ?_
            refine lv_iconst (v := (nI 2)) hx hb d_M_inOrder_92 (by decide) ?_
            refine va_put (D := (dC, dI)) (ci := 3) (v := .int (nI 2)) (ty := .int) (C := R_M) (T := F_M) (N := 15) hx hb ht i_M t_M t_M_ok n_M hown hK hP hD hS 0 rfl rfl 8 (by decide) (ht _ m_205) (fun _ h9 => h9) rfl (t_M_ok 8 (by decide)) rfl rfl (Nat.le_of_ble_eq_true rfl) d_M_inOrder_93 (fun H locs hP hD hS => ?_)
            have hP : va_P (dC, dI) fgC [(h0, .inr (3, [.int (nI th), .ref a1, .int (nI n), .int (nI cn), .ref a2, .ref a3, .ref a4, .int (nI kl), .int (nI 2), .int (nI nx), .int (nI bs), .int (nI 1), .int (nI 1), .int (nI rf), .int (nI ac)])), (a1, .inl (cB, 259, .inl t)), (a2, .inl (cB, 2048, .inl q)), (a3, .inl (cI, 8, .inl ln))] H := hP
            have hD : va_D A [(h0, .inr (3, [.int (nI th), .ref a1, .int (nI n), .int (nI cn), .ref a2, .ref a3, .ref a4, .int (nI kl), .int (nI 2), .int (nI nx), .int (nI bs), .int (nI 1), .int (nI 1), .int (nI rf), .int (nI ac)])), (a1, .inl (cB, 259, .inl t)), (a2, .inl (cB, 2048, .inl q)), (a3, .inl (cI, 8, .inl ln))] := hD
            refine lv_goto (tgt := 151) hx hb d_M_inOrder_96 (by decide) ?_
            refine lv_iconst (v := (nI 5)) hx hb d_M_inOrder_151 (by decide) ?_
            exact W.iret (v := (nI 5)) hx hb hr (fun t9 ht9 hW9 => ⟨⟨(nI 5), (5, (2, nx, bs, 1, 1, rf, ac)), rfl, ⟨rfl, by rw [show ino t cn (st, nx, bs, wt, ag, rf, ac) = (5, (2, nx, bs, 1, 1, rf, ac)) from by dsimp only [ino]; (repeat' split) <;> first | rfl | (exfalso; omega) | (have h3 : st = 3 := (by omega); rw [h3])]; rfl⟩, by rw [ht9]; exact hP, by rw [hAe]; exact hD⟩, hS.F ht9⟩) hS.2.2 d_M_inOrder_152
      · refine lv_aload_n hx hb d_M_inOrder_43 rfl (lv_at hl 1 rfl) ?_
        refine lv_iload_n hx hb d_M_inOrder_44 rfl (lv_at hl 2 rfl) ?_
        refine fg_callv (wc := [(h0, .inr (3, [.int (nI th), .ref a1, .int (nI n), .int (nI cn), .ref a2, .ref a3, .ref a4, .int (nI kl), .int (nI st), .int (nI nx), .int (nI bs), .int (nI wt), .int (nI ag), .int (nI rf), .int (nI ac)])), (a1, .inl (cB, 259, .inl t)), (a2, .inl (cB, 2048, .inl q)), (a3, .inl (cI, 8, .inl ln))]) (wr := []) (fun (_ : Unit) => [(h0, .inr (3, [.int (nI th), .ref a1, .int (nI n), .int (nI (cn + 1)), .ref a2, .ref a3, .ref a4, .int (nI kl), .int (nI st), .int (nI nx), .int (nI bs), .int (nI wt), .int (nI ag), .int (nI rf), .int (nI (ac + 1))])), (a1, .inl (cB, 259, .inl t)), (a2, .inl (cB, 2048, .inl (va_cpy t q 5 (256 * cn) k))), (a3, .inl (cI, 8, .inl (upd ln cn (nI k))))]) (va_runV (As := [.int (nI k)]) (rest := []) ⟨hx, hb, hml, hown, ht⟩ (c_M_comes l dC dI cB cI cG h0 a1 a2 a3 a4 th n cn kl st nx bs wt ag rf ac t q ln k s.heap.size hB (by omega) (by omega)) (cwV 1 ht (fg_gV m_287 m_289 m_s12 m_4 m_290) rfl rfl rfl (by decide +kernel) ⟨Nat.le_of_ble_eq_true rfl, Nat.le_of_ble_eq_true rfl⟩) (fg_preV hK (hP.sub [0, 1, 2, 3] rfl) (hD.sub [0, 1, 2, 3] (by decide) rfl) (va_recv hK hP (ci := 3) (q0 := 0) rfl rfl)) rfl rfl hl.1 rfl (lv_room (Nat.le_of_ble_eq_true rfl)) d_M_inOrder_45 ⟨Nat.le_of_ble_eq_true rfl, Nat.le_of_ble_eq_true rfl⟩) hP hD hS hA [0, 1, 2, 3] [] rfl rfl (by decide) (by decide) (fun u H locs hw hP hD hS => ?_)
        have hP : va_P (dC, dI) fgC [(h0, .inr (3, [.int (nI th), .ref a1, .int (nI n), .int (nI (cn + 1)), .ref a2, .ref a3, .ref a4, .int (nI kl), .int (nI st), .int (nI nx), .int (nI bs), .int (nI wt), .int (nI ag), .int (nI rf), .int (nI (ac + 1))])), (a1, .inl (cB, 259, .inl t)), (a2, .inl (cB, 2048, .inl (va_cpy t q 5 (256 * cn) k))), (a3, .inl (cI, 8, .inl (upd ln cn (nI k))))] H := hP.sub [0, 1, 2, 3] rfl
        have hD : va_D A [(h0, .inr (3, [.int (nI th), .ref a1, .int (nI n), .int (nI (cn + 1)), .ref a2, .ref a3, .ref a4, .int (nI kl), .int (nI st), .int (nI nx), .int (nI bs), .int (nI wt), .int (nI ag), .int (nI rf), .int (nI (ac + 1))])), (a1, .inl (cB, 259, .inl t)), (a2, .inl (cB, 2048, .inl (va_cpy t q 5 (256 * cn) k))), (a3, .inl (cI, 8, .inl (upd ln cn (nI k))))] := hD.sub [0, 1, 2, 3] (by decide) rfl
        refine lv_aload_n hx hb d_M_inOrder_48 rfl (lv_at hl 1 rfl) ?_
        refine lv_aload_n hx hb d_M_inOrder_49 rfl (lv_at hl 1 rfl) ?_
        refine va_get (D := (dC, dI)) (ci := 3) (v := .int (nI nx)) (C := R_M) (T := F_M) (N := 15) hx hb ht i_M hown hK hP 0 rfl rfl 9 (by decide) (ht _ m_206) (fun _ h9 => h9) rfl d_M_inOrder_50 ?_
        refine lv_iconst (v := (nI 1)) hx hb d_M_inOrder_53 (by decide) ?_
        refine fg_iadd hx hb d_M_inOrder_54 ?_
        refine lv_sipush (v := (nI 256)) hx hb d_M_inOrder_55 (by decide) ?_
        refine fg_irem hx hb d_M_inOrder_58 (by omega) (by decide) (by decide) ?_
        refine va_put (D := (dC, dI)) (ci := 3) (v := .int (nI ((nx + 1) % 256))) (ty := .int) (C := R_M) (T := F_M) (N := 15) hx hb ht i_M t_M t_M_ok n_M hown hK hP hD hS 0 rfl rfl 9 (by decide) (ht _ m_206) (fun _ h9 => h9) rfl (t_M_ok 9 (by decide)) rfl rfl (Nat.le_of_ble_eq_true rfl) d_M_inOrder_59 (fun H locs hP hD hS => ?_)
        have hP : va_P (dC, dI) fgC [(h0, .inr (3, [.int (nI th), .ref a1, .int (nI n), .int (nI (cn + 1)), .ref a2, .ref a3, .ref a4, .int (nI kl), .int (nI st), .int (nI ((nx + 1) % 256)), .int (nI bs), .int (nI wt), .int (nI ag), .int (nI rf), .int (nI (ac + 1))])), (a1, .inl (cB, 259, .inl t)), (a2, .inl (cB, 2048, .inl (va_cpy t q 5 (256 * cn) k))), (a3, .inl (cI, 8, .inl (upd ln cn (nI k))))] H := hP
        have hD : va_D A [(h0, .inr (3, [.int (nI th), .ref a1, .int (nI n), .int (nI (cn + 1)), .ref a2, .ref a3, .ref a4, .int (nI kl), .int (nI st), .int (nI ((nx + 1) % 256)), .int (nI bs), .int (nI wt), .int (nI ag), .int (nI rf), .int (nI (ac + 1))])), (a1, .inl (cB, 259, .inl t)), (a2, .inl (cB, 2048, .inl (va_cpy t q 5 (256 * cn) k))), (a3, .inl (cI, 8, .inl (upd ln cn (nI k))))] := hD
        refine lv_aload_n hx hb d_M_inOrder_62 rfl (lv_at hl 1 rfl) ?_
        refine lv_iconst (v := (nI 0)) hx hb d_M_inOrder_63 (by decide) ?_
        refine va_put (D := (dC, dI)) (ci := 3) (v := .int (nI 0)) (ty := .boolean) (C := R_M) (T := F_M) (N := 15) hx hb ht i_M t_M t_M_ok n_M hown hK hP hD hS 0 rfl rfl 12 (by decide) (ht _ m_209) (fun _ h9 => h9) rfl (t_M_ok 12 (by decide)) (fg_nZ (by omega)) (fg_fZ (by omega)) (Nat.le_of_ble_eq_true rfl) d_M_inOrder_64 (fun H locs hP hD hS => ?_)
        have hP : va_P (dC, dI) fgC [(h0, .inr (3, [.int (nI th), .ref a1, .int (nI n), .int (nI (cn + 1)), .ref a2, .ref a3, .ref a4, .int (nI kl), .int (nI st), .int (nI ((nx + 1) % 256)), .int (nI bs), .int (nI wt), .int (nI 0), .int (nI rf), .int (nI (ac + 1))])), (a1, .inl (cB, 259, .inl t)), (a2, .inl (cB, 2048, .inl (va_cpy t q 5 (256 * cn) k))), (a3, .inl (cI, 8, .inl (upd ln cn (nI k))))] H := hP
        have hD : va_D A [(h0, .inr (3, [.int (nI th), .ref a1, .int (nI n), .int (nI (cn + 1)), .ref a2, .ref a3, .ref a4, .int (nI kl), .int (nI st), .int (nI ((nx + 1) % 256)), .int (nI bs), .int (nI wt), .int (nI 0), .int (nI rf), .int (nI (ac + 1))])), (a1, .inl (cB, 259, .inl t)), (a2, .inl (cB, 2048, .inl (va_cpy t q 5 (256 * cn) k))), (a3, .inl (cI, 8, .inl (upd ln cn (nI k))))] := hD
        refine lv_iconst (v := (nI 1)) hx hb d_M_inOrder_67 (by decide) ?_
        exact W.iret (v := (nI 1)) hx hb hr (fun t9 ht9 hW9 => ⟨⟨(nI 1), (1, (st, (nx + 1) % 256, bs, wt, 0, rf, ac + 1)), rfl, ⟨rfl, by rw [show ino t cn (st, nx, bs, wt, ag, rf, ac) = (1, (st, (nx + 1) % 256, bs, wt, 0, rf, ac)) from by dsimp only [ino]; (repeat' split) <;> first | rfl | (exfalso; omega) | (have h3 : st = 3 := (by omega); rw [h3])]; rfl⟩, by rw [ht9]; exact hP, by rw [hAe]; exact hD⟩, hS.F ht9⟩) hS.2.2 d_M_inOrder_68
set_option maxHeartbeats 4000000 in
set_option maxRecDepth 100000 in
/-- Model.frame() -/
theorem c_M_frame (l : Launch) (dC : Nat → ClassId) (dI : Nat → Nat → Nat) (cB cI cG : ClassId) (h0 a1 a2 a3 a4 th n cn kl : Nat) (st nx bs wt ag rf ac : Nat) (t q ln : Nat → Int32) (sz : Nat) (hB : BF t) (hc : cn ≤ 8) (hn : n ≤ 259) (hg : st < 4 ∧ nx < 256 ∧ bs < 4 ∧ wt < 2 ∧ ag < 2) : Met l y_M_frame (Cond.code y_M_frame b_M_frame 3 (some .int) :: w_all) ({ frames := 2, cells := 0, slots := 0, locals := 48 }) (va_Pc [.ref h0] (fgPre (dC, dI) (tysA cB cI cG) [(h0, .inr (3, [.int (nI th), .ref a1, .int (nI n), .int (nI cn), .ref a2, .ref a3, .ref a4, .int (nI kl), .int (nI st), .int (nI nx), .int (nI bs), .int (nI wt), .int (nI ag), .int (nI rf), .int (nI ac)])), (a1, .inl (cB, 259, .inl t)), (a2, .inl (cB, 2048, .inl q)), (a3, .inl (cI, 8, .inl ln))] sz)) (va_Qi (fun (r9 : Int32) (u : Nat × GS) => r9 = nI u.1 ∧ u = fr t n cn (st, nx, bs, wt, ag, rf, ac)) (fun u t9 => fgPost (dC, dI) [(h0, .inr (3, [.int (nI th), .ref a1, .int (nI n), .int (nI cn), .ref a2, .ref a3, .ref a4, .int (nI kl), .int (nI st), .int (nI nx), .int (nI bs), .int (nI wt), .int (nI ag), .int (nI rf), .int (nI ac)])), (a1, .inl (cB, 259, .inl t)), (a2, .inl (cB, 2048, .inl q)), (a3, .inl (cI, 8, .inl ln))] [(h0, .inr (3, [.int (nI 0), .ref a1, .int (nI 0), .int (nI (pC u.1 cn)), .ref a2, .ref a3, .ref a4, .int (nI kl), .int (nI u.2.1), .int (nI u.2.2.1), .int (nI u.2.2.2.1), .int (nI u.2.2.2.2.1), .int (nI u.2.2.2.2.2.1), .int (nI u.2.2.2.2.2.2.1), .int (nI u.2.2.2.2.2.2.2)])), (a1, .inl (cB, 259, .inl t)), (a2, .inl (cB, 2048, .inl (pQ u.1 cn (fL t - 6) t q))), (a3, .inl (cI, 8, .inl (pL u.1 cn (fL t - 6) ln)))] sz t9) (va_A [(h0, .inr (3, [.int (nI th), .ref a1, .int (nI n), .int (nI cn), .ref a2, .ref a3, .ref a4, .int (nI kl), .int (nI st), .int (nI nx), .int (nI bs), .int (nI wt), .int (nI ag), .int (nI rf), .int (nI ac)])), (a1, .inl (cB, 259, .inl t)), (a2, .inl (cB, 2048, .inl q)), (a3, .inl (cI, 8, .inl ln))] sz)) 0 0 (va_A [(h0, .inr (3, [.int (nI th), .ref a1, .int (nI n), .int (nI cn), .ref a2, .ref a3, .ref a4, .int (nI kl), .int (nI st), .int (nI nx), .int (nI bs), .int (nI wt), .int (nI ag), .int (nI rf), .int (nI ac)])), (a1, .inl (cB, 259, .inl t)), (a2, .inl (cB, 2048, .inl q)), (a3, .inl (cI, 8, .inl ln))] sz) := by
  refine Met.ofW (cc := b_M_frame) (maxL := 3) (ret := (some .int)) (by decide) rfl ?_
  intro p e s m args below meth c s₁ B hml hv
  obtain ⟨rfl, hsz, hP, hK, hD0⟩ := hv
  have hx := B.exec
  have hb := B.bytes
  have hr := B.returns
  have hts := atoms_spec (ws := (Cond.code y_M_frame b_M_frame 3 (some .int) :: w_all)) B.pre
  have ht : ∀ w ∈ w_all, w.before _ s = true := fun w h => hts w (List.mem_cons_of_mem _ h)
  have hown : s.vm.findClass R_M = some m.cls := findClass_of_methodNamed B.named
  have hlocks := B.notSynchronized
  subst hsz
  have hD := hD0.self (sz := s.heap.size)
  generalize hAe : va_A [(h0, .inr (3, [.int (nI th), .ref a1, .int (nI n), .int (nI cn), .ref a2, .ref a3, .ref a4, .int (nI kl), .int (nI st), .int (nI nx), .int (nI bs), .int (nI wt), .int (nI ag), .int (nI rf), .int (nI ac)])), (a1, .inl (cB, 259, .inl t)), (a2, .inl (cB, 2048, .inl q)), (a3, .inl (cI, 8, .inl ln))] s.heap.size = A at hD ⊢
  have hA : ∀ q : Nat, s.heap.size ≤ q → A q := fun q h => by rw [← hAe]; exact Or.inr h
  have hS : va_S A s.heap s.heap [] := va_S.rf
  have hl := lv_entry ([.ref h0]) (n := 3) (Nat.le_of_ble_eq_true rfl)
  rw [lg_entry_eq]
  generalize (lg_sl ([.ref h0]) ++ List.replicate (3 - (lg_sl ([.ref h0])).length) Slot.unset).toArray = ls at hl ⊢
  have hl : lv_has ls 3 [(0, .ref h0)] := hl
  have hfL := fL_lt t
  have hb00 := bN_lt (t 0)
  refine lv_aload_n hx hb d_M_frame_0 rfl (lv_at hl 0 rfl) ?_
  refine lv_iconst (v := (nI 0)) hx hb d_M_frame_1 (by decide) ?_
  refine va_put (D := (dC, dI)) (ci := 3) (v := .int (nI 0)) (ty := .int) (C := R_M) (T := F_M) (N := 15) hx hb ht i_M t_M t_M_ok n_M hown hK hP hD hS 0 rfl rfl 0 (by decide) (ht _ m_197) (fun _ h9 => h9) rfl (t_M_ok 0 (by decide)) rfl rfl (Nat.le_of_ble_eq_true rfl) d_M_frame_2 (fun H locs hP hD hS => ?_)
  have hP : va_P (dC, dI) fgC [(h0, .inr (3, [.int (nI 0), .ref a1, .int (nI n), .int (nI cn), .ref a2, .ref a3, .ref a4, .int (nI kl), .int (nI st), .int (nI nx), .int (nI bs), .int (nI wt), .int (nI ag), .int (nI rf), .int (nI ac)])), (a1, .inl (cB, 259, .inl t)), (a2, .inl (cB, 2048, .inl q)), (a3, .inl (cI, 8, .inl ln))] H := hP
  have hD : va_D A [(h0, .inr (3, [.int (nI 0), .ref a1, .int (nI n), .int (nI cn), .ref a2, .ref a3, .ref a4, .int (nI kl), .int (nI st), .int (nI nx), .int (nI bs), .int (nI wt), .int (nI ag), .int (nI rf), .int (nI ac)])), (a1, .inl (cB, 259, .inl t)), (a2, .inl (cB, 2048, .inl q)), (a3, .inl (cI, 8, .inl ln))] := hD
  refine lv_aload_n hx hb d_M_frame_5 rfl (lv_at hl 0 rfl) ?_
  refine lv_aload_n hx hb d_M_frame_6 rfl (lv_at hl 0 rfl) ?_
  refine va_get (D := (dC, dI)) (ci := 3) (v := .int (nI n)) (C := R_M) (T := F_M) (N := 15) hx hb ht i_M hown hK hP 0 rfl rfl 2 (by decide) (ht _ m_199) (fun _ h9 => h9) rfl d_M_frame_7 ?_
  refine vp_callSi (va_Run.run (va_runV (As := [.int (nI n)]) (rest := []) ⟨hx, hb, hml, hown, ht⟩ (c_M_valid l dC dI cB cI cG h0 a1 t (.int (nI 0)) (.int (nI n)) (.int (nI cn)) (.ref a2) (.ref a3) (.ref a4) (.int (nI kl)) (.int (nI st)) (.int (nI nx)) (.int (nI bs)) (.int (nI wt)) (.int (nI ag)) (.int (nI rf)) (.int (nI ac)) n H.size hn) (cwV 1 ht (fg_gV m_266 m_268 m_s7 m_4 m_269) rfl rfl rfl (by decide +kernel) ⟨Nat.le_of_ble_eq_true rfl, Nat.le_of_ble_eq_true rfl⟩) (fg_preV hK (hP.sub [0, 1] rfl) (hD.sub [0, 1] (by decide) rfl) (va_recv hK hP (ci := 3) (q0 := 0) rfl rfl)) rfl rfl hl.1 rfl (lv_room (Nat.le_of_ble_eq_true rfl)) d_M_frame_10 ⟨Nat.le_of_ble_eq_true rfl, Nat.le_of_ble_eq_true rfl⟩)) (fun r_10 er_10 => ?_)
  obtain rfl : r_10 = (nI (vlen t n)) := er_10
  by_cases hok : fOK t n ∧ ¬ bN (t 0) / 16 % 4 = 1
  · have hok2 : 8 ≤ n ∧ 7 ≤ fL t ∧ fL t + 1 ≤ n := ⟨hok.1.1, hok.1.2.2.2.2.2.1, hok.1.2.2.2.2.2.2.1⟩
    refine fg_nm (y := (nI (fL t))) (congrArg nI (by rw [vlen_eq, if_pos hok])) ?_
    refine lv_istore_n (lv' := [(1, .int (nI (fL t))), (0, .ref h0)]) hx hb d_M_frame_13 rfl hl (by decide) rfl (fun ls hl => ?_)
    refine lv_aload_n hx hb d_M_frame_14 rfl (lv_at hl 1 rfl) ?_
    refine lv_iconst (v := (nI 0)) hx hb d_M_frame_15 (by decide) ?_
    refine va_put (D := (dC, dI)) (ci := 3) (v := .int (nI 0)) (ty := .int) (C := R_M) (T := F_M) (N := 15) hx hb ht i_M t_M t_M_ok n_M hown hK hP hD hS 0 rfl rfl 2 (by decide) (ht _ m_199) (fun _ h9 => h9) rfl (t_M_ok 2 (by decide)) rfl rfl (Nat.le_of_ble_eq_true rfl) d_M_frame_16 (fun H locs hP hD hS => ?_)
    have hP : va_P (dC, dI) fgC [(h0, .inr (3, [.int (nI 0), .ref a1, .int (nI 0), .int (nI cn), .ref a2, .ref a3, .ref a4, .int (nI kl), .int (nI st), .int (nI nx), .int (nI bs), .int (nI wt), .int (nI ag), .int (nI rf), .int (nI ac)])), (a1, .inl (cB, 259, .inl t)), (a2, .inl (cB, 2048, .inl q)), (a3, .inl (cI, 8, .inl ln))] H := hP
    have hD : va_D A [(h0, .inr (3, [.int (nI 0), .ref a1, .int (nI 0), .int (nI cn), .ref a2, .ref a3, .ref a4, .int (nI kl), .int (nI st), .int (nI nx), .int (nI bs), .int (nI wt), .int (nI ag), .int (nI rf), .int (nI ac)])), (a1, .inl (cB, 259, .inl t)), (a2, .inl (cB, 2048, .inl q)), (a3, .inl (cI, 8, .inl ln))] := hD
    refine lv_iload_n hx hb d_M_frame_19 rfl (lv_at hl 0 rfl) ?_
    refine lv_bipush (v := (nI 6)) hx hb d_M_frame_20 (by decide) ?_
    refine fg_isub hx hb d_M_frame_22 (by omega) ?_
    refine lv_istore_n (lv' := [(2, .int (nI ((fL t) - 6))), (1, .int (nI (fL t))), (0, .ref h0)]) hx hb d_M_frame_23 rfl hl (by decide) rfl (fun ls hl => ?_)
    refine lv_iload_n hx hb d_M_frame_24 rfl (lv_at hl 1 rfl) ?_
    refine fg_if_ne (tgt := 33) hx hb d_M_frame_25 (by decide) (by omega) (fun c_25 => ?_) (fun c_25 => ?_)
    · refine lv_aload_n hx hb d_M_frame_33 rfl (lv_at hl 2 rfl) ?_
      refine lv_iconst (v := (nI 2)) hx hb d_M_frame_34 (by decide) ?_
      refine lv_iconst (v := (nI 2)) hx hb d_M_frame_35 (by decide) ?_
      refine vp_callSi (va_Run.run (va_runV (As := [.int (nI 2), .int (nI 2)]) (rest := []) ⟨hx, hb, hml, hown, ht⟩ (c_M_bits l dC dI cB cI cG h0 a1 t (.int (nI 0)) (.int (nI 0)) (.int (nI cn)) (.ref a2) (.ref a3) (.ref a4) (.int (nI kl)) (.int (nI st)) (.int (nI nx)) (.int (nI bs)) (.int (nI wt)) (.int (nI ag)) (.int (nI rf)) (.int (nI ac)) 2 2 H.size (by decide) (by decide)) (cwV 2 ht (fg_gV m_270 m_272 m_s8 m_4 m_273) rfl rfl rfl (by decide +kernel) ⟨Nat.le_of_ble_eq_true rfl, Nat.le_of_ble_eq_true rfl⟩) (fg_preV hK (hP.sub [0, 1] rfl) (hD.sub [0, 1] (by decide) rfl) (va_recv hK hP (ci := 3) (q0 := 0) rfl rfl)) rfl rfl hl.1 rfl (lv_room (Nat.le_of_ble_eq_true rfl)) d_M_frame_36 ⟨Nat.le_of_ble_eq_true rfl, Nat.le_of_ble_eq_true rfl⟩)) (fun r_36 er_36 => ?_)
      obtain rfl : r_36 = (nI (bts t 2 2)) := er_36
      refine fg_nm (y := (nI (bN (t 0) / 16 % 4))) (congrArg nI (b_2_2 t)) ?_
      refine lv_iconst (v := (nI 3)) hx hb d_M_frame_39 (by decide) ?_
      refine fg_cmp_ne (tgt := 49) hx hb d_M_frame_40 (by decide) (by omega) (by omega) (fun c_40 => ?_) (fun c_40 => ?_)
      · refine lv_aload_n hx hb d_M_frame_49 rfl (lv_at hl 2 rfl) ?_
        refine lv_iconst (v := (nI 2)) hx hb d_M_frame_50 (by decide) ?_
        refine lv_iconst (v := (nI 1)) hx hb d_M_frame_51 (by decide) ?_
        refine vp_callSi (va_Run.run (va_runV (As := [.int (nI 2), .int (nI 1)]) (rest := []) ⟨hx, hb, hml, hown, ht⟩ (c_M_bits l dC dI cB cI cG h0 a1 t (.int (nI 0)) (.int (nI 0)) (.int (nI cn)) (.ref a2) (.ref a3) (.ref a4) (.int (nI kl)) (.int (nI st)) (.int (nI nx)) (.int (nI bs)) (.int (nI wt)) (.int (nI ag)) (.int (nI rf)) (.int (nI ac)) 2 1 H.size (by decide) (by decide)) (cwV 2 ht (fg_gV m_270 m_272 m_s8 m_4 m_273) rfl rfl rfl (by decide +kernel) ⟨Nat.le_of_ble_eq_true rfl, Nat.le_of_ble_eq_true rfl⟩) (fg_preV hK (hP.sub [0, 1] rfl) (hD.sub [0, 1] (by decide) rfl) (va_recv hK hP (ci := 3) (q0 := 0) rfl rfl)) rfl rfl hl.1 rfl (lv_room (Nat.le_of_ble_eq_true rfl)) d_M_frame_52 ⟨Nat.le_of_ble_eq_true rfl, Nat.le_of_ble_eq_true rfl⟩)) (fun r_52 er_52 => ?_)
        obtain rfl : r_52 = (nI (bts t 2 1)) := er_52
        refine fg_nm (y := (nI (bN (t 0) / 32 % 2))) (congrArg nI (b_2_1 t)) ?_
        refine fg_if_ne (tgt := 64) hx hb d_M_frame_55 (by decide) (by omega) (fun c_55 => ?_) (fun c_55 => ?_)
        · refine lv_aload_n hx hb d_M_frame_64 rfl (lv_at hl 2 rfl) ?_
          refine va_get (D := (dC, dI)) (ci := 3) (v := .int (nI cn)) (C := R_M) (T := F_M) (N := 15) hx hb ht i_M hown hK hP 0 rfl rfl 3 (by decide) (ht _ m_200) (fun _ h9 => h9) rfl d_M_frame_65 ?_
          refine lv_bipush (v := (nI 8)) hx hb d_M_frame_68 (by decide) ?_
          refine fg_cmp_ne (tgt := 78) hx hb d_M_frame_70 (by decide) (by omega) (by omega) (fun c_70 => ?_) (fun c_70 => ?_)
          · refine lv_aload_n hx hb d_M_frame_78 rfl (lv_at hl 2 rfl) ?_
            refine lv_iload_n hx hb d_M_frame_79 rfl (lv_at hl 0 rfl) ?_
            refine fg_callv (wc := [(h0, .inr (3, [.int (nI 0), .ref a1, .int (nI 0), .int (nI cn), .ref a2, .ref a3, .ref a4, .int (nI kl), .int (nI st), .int (nI nx), .int (nI bs), .int (nI wt), .int (nI ag), .int (nI rf), .int (nI ac)])), (a1, .inl (cB, 259, .inl t)), (a2, .inl (cB, 2048, .inl q)), (a3, .inl (cI, 8, .inl ln))]) (wr := []) (fun (_ : Unit) => [(h0, .inr (3, [.int (nI 0), .ref a1, .int (nI 0), .int (nI (cn + 1)), .ref a2, .ref a3, .ref a4, .int (nI kl), .int (nI st), .int (nI nx), .int (nI bs), .int (nI wt), .int (nI ag), .int (nI rf), .int (nI (ac + 1))])), (a1, .inl (cB, 259, .inl t)), (a2, .inl (cB, 2048, .inl (va_cpy t q 5 (256 * cn) (fL t - 6)))), (a3, .inl (cI, 8, .inl (upd ln cn (nI (fL t - 6)))))]) (va_runV (As := [.int (nI ((fL t) - 6))]) (rest := []) ⟨hx, hb, hml, hown, ht⟩ (c_M_comes l dC dI cB cI cG h0 a1 a2 a3 a4 0 0 cn kl st nx bs wt ag rf ac t q ln (fL t - 6) H.size hB (by omega) (by omega)) (cwV 1 ht (fg_gV m_287 m_289 m_s12 m_4 m_290) rfl rfl rfl (by decide +kernel) ⟨Nat.le_of_ble_eq_true rfl, Nat.le_of_ble_eq_true rfl⟩) (fg_preV hK (hP.sub [0, 1, 2, 3] rfl) (hD.sub [0, 1, 2, 3] (by decide) rfl) (va_recv hK hP (ci := 3) (q0 := 0) rfl rfl)) rfl rfl hl.1 rfl (lv_room (Nat.le_of_ble_eq_true rfl)) d_M_frame_80 ⟨Nat.le_of_ble_eq_true rfl, Nat.le_of_ble_eq_true rfl⟩) hP hD hS hA [0, 1, 2, 3] [] rfl rfl (by decide) (by decide) (fun u H locs hw hP hD hS => ?_)
            have hP : va_P (dC, dI) fgC [(h0, .inr (3, [.int (nI 0), .ref a1, .int (nI 0), .int (nI (cn + 1)), .ref a2, .ref a3, .ref a4, .int (nI kl), .int (nI st), .int (nI nx), .int (nI bs), .int (nI wt), .int (nI ag), .int (nI rf), .int (nI (ac + 1))])), (a1, .inl (cB, 259, .inl t)), (a2, .inl (cB, 2048, .inl (va_cpy t q 5 (256 * cn) (fL t - 6)))), (a3, .inl (cI, 8, .inl (upd ln cn (nI (fL t - 6)))))] H := hP.sub [0, 1, 2, 3] rfl
            have hD : va_D A [(h0, .inr (3, [.int (nI 0), .ref a1, .int (nI 0), .int (nI (cn + 1)), .ref a2, .ref a3, .ref a4, .int (nI kl), .int (nI st), .int (nI nx), .int (nI bs), .int (nI wt), .int (nI ag), .int (nI rf), .int (nI (ac + 1))])), (a1, .inl (cB, 259, .inl t)), (a2, .inl (cB, 2048, .inl (va_cpy t q 5 (256 * cn) (fL t - 6)))), (a3, .inl (cI, 8, .inl (upd ln cn (nI (fL t - 6)))))] := hD.sub [0, 1, 2, 3] (by decide) rfl
            refine lv_aload_n hx hb d_M_frame_83 rfl (lv_at hl 2 rfl) ?_
            refine lv_aload_n hx hb d_M_frame_84 rfl (lv_at hl 2 rfl) ?_
            refine va_get (D := (dC, dI)) (ci := 3) (v := .int (nI bs)) (C := R_M) (T := F_M) (N := 15) hx hb ht i_M hown hK hP 0 rfl rfl 10 (by decide) (ht _ m_207) (fun _ h9 => h9) rfl d_M_frame_85 ?_
            refine lv_iconst (v := (nI 1)) hx hb d_M_frame_88 (by decide) ?_
            refine fg_iadd hx hb d_M_frame_89 ?_
            refine lv_iconst (v := (nI 4)) hx hb d_M_frame_90 (by decide) ?_
            refine fg_irem hx hb d_M_frame_91 (by omega) (by decide) (by decide) ?_
            refine va_put (D := (dC, dI)) (ci := 3) (v := .int (nI ((bs + 1) % 4))) (ty := .int) (C := R_M) (T := F_M) (N := 15) hx hb ht i_M t_M t_M_ok n_M hown hK hP hD hS 0 rfl rfl 10 (by decide) (ht _ m_207) (fun _ h9 => h9) rfl (t_M_ok 10 (by decide)) rfl rfl (Nat.le_of_ble_eq_true rfl) d_M_frame_92 (fun H locs hP hD hS => ?_)
            have hP : va_P (dC, dI) fgC [(h0, .inr (3, [.int (nI 0), .ref a1, .int (nI 0), .int (nI (cn + 1)), .ref a2, .ref a3, .ref a4, .int (nI kl), .int (nI st), .int (nI nx), .int (nI ((bs + 1) % 4)), .int (nI wt), .int (nI ag), .int (nI rf), .int (nI (ac + 1))])), (a1, .inl (cB, 259, .inl t)), (a2, .inl (cB, 2048, .inl (va_cpy t q 5 (256 * cn) (fL t - 6)))), (a3, .inl (cI, 8, .inl (upd ln cn (nI (fL t - 6)))))] H := hP
            have hD : va_D A [(h0, .inr (3, [.int (nI 0), .ref a1, .int (nI 0), .int (nI (cn + 1)), .ref a2, .ref a3, .ref a4, .int (nI kl), .int (nI st), .int (nI nx), .int (nI ((bs + 1) % 4)), .int (nI wt), .int (nI ag), .int (nI rf), .int (nI (ac + 1))])), (a1, .inl (cB, 259, .inl t)), (a2, .inl (cB, 2048, .inl (va_cpy t q 5 (256 * cn) (fL t - 6)))), (a3, .inl (cI, 8, .inl (upd ln cn (nI (fL t - 6)))))] := hD
            refine lv_iconst (v := (nI 2)) hx hb d_M_frame_95 (by decide) ?_
            exact W.iret (v := (nI 2)) hx hb hr (fun t9 ht9 hW9 => ⟨⟨(nI 2), (2, (st, nx, (bs + 1) % 4, wt, ag, rf, ac + 1)), rfl, ⟨rfl, by unfold fr; rw [show fr0 t n cn (st, nx, bs, wt, ag, rf, ac) = (2, (st, nx, (bs + 1) % 4, wt, ag, rf, ac)) from by unfold fr0; rw [if_neg (fun q => by rcases q with q | q; exact q hok.1; exact hok.2 q), if_neg (by omega), if_neg (by omega)]; dsimp only [bes]; rw [if_neg (by omega)]]; rfl⟩, by rw [ht9]; exact hP, by rw [hAe]; exact hD⟩, hS.F ht9⟩) hS.2.2 d_M_frame_96
          · refine lv_aload_n hx hb d_M_frame_73 rfl (lv_at hl 2 rfl) ?_
            refine fg_calli (wc := [(h0, .inr (3, [.int (nI 0), .ref a1, .int (nI 0), .int (nI cn), .ref a2, .ref a3, .ref a4, .int (nI kl), .int (nI st), .int (nI nx), .int (nI bs), .int (nI wt), .int (nI ag), .int (nI rf), .int (nI ac)]))]) (wr := [(a1, .inl (cB, 259, .inl t)), (a2, .inl (cB, 2048, .inl q)), (a3, .inl (cI, 8, .inl ln))]) (fun (_ : Unit) => [(h0, .inr (3, [.int (nI 0), .ref a1, .int (nI 0), .int (nI cn), .ref a2, .ref a3, .ref a4, .int (nI kl), .int (nI st), .int (nI nx), .int (nI bs), .int (nI wt), .int (nI ag), .int (nI (rf + 1)), .int (nI ac)]))]) (va_runV (As := []) (rest := []) ⟨hx, hb, hml, hown, ht⟩ (c_M_refuses l dC dI cB cI cG h0 (.int (nI 0)) (.ref a1) (.int (nI 0)) (.int (nI cn)) (.ref a2) (.ref a3) (.ref a4) (.int (nI kl)) (.int (nI st)) (.int (nI nx)) (.int (nI bs)) (.int (nI wt)) (.int (nI ag)) (.int (nI ac)) rf H.size) (cwV 0 ht (fg_gV m_274 m_276 m_s9 m_4 m_277) rfl rfl rfl (by decide +kernel) ⟨Nat.le_of_ble_eq_true rfl, Nat.le_of_ble_eq_true rfl⟩) (fg_preV hK (hP.sub [0] rfl) (hD.sub [0] (by decide) rfl) (va_recv hK hP (ci := 3) (q0 := 0) rfl rfl)) rfl rfl hl.1 rfl (lv_room (Nat.le_of_ble_eq_true rfl)) d_M_frame_74 ⟨Nat.le_of_ble_eq_true rfl, Nat.le_of_ble_eq_true rfl⟩) hP hD hS hA [0] [1, 2, 3] rfl rfl (by decide) (by decide) (fun r_74 u H locs hw hP hD hS => ?_)
            obtain rfl : r_74 = nI 0 := hw
            have hP : va_P (dC, dI) fgC [(h0, .inr (3, [.int (nI 0), .ref a1, .int (nI 0), .int (nI cn), .ref a2, .ref a3, .ref a4, .int (nI kl), .int (nI st), .int (nI nx), .int (nI bs), .int (nI wt), .int (nI ag), .int (nI (rf + 1)), .int (nI ac)])), (a1, .inl (cB, 259, .inl t)), (a2, .inl (cB, 2048, .inl q)), (a3, .inl (cI, 8, .inl ln))] H := hP.sub [3, 0, 1, 2] rfl
            have hD : va_D A [(h0, .inr (3, [.int (nI 0), .ref a1, .int (nI 0), .int (nI cn), .ref a2, .ref a3, .ref a4, .int (nI kl), .int (nI st), .int (nI nx), .int (nI bs), .int (nI wt), .int (nI ag), .int (nI (rf + 1)), .int (nI ac)])), (a1, .inl (cB, 259, .inl t)), (a2, .inl (cB, 2048, .inl q)), (a3, .inl (cI, 8, .inl ln))] := hD.sub [3, 0, 1, 2] (by decide) rfl
            exact W.iret (v := (nI 0)) hx hb hr (fun t9 ht9 hW9 => ⟨⟨(nI 0), (0, (st, nx, bs, wt, ag, rf + 1, ac)), rfl, ⟨rfl, by unfold fr; rw [show fr0 t n cn (st, nx, bs, wt, ag, rf, ac) = (0, (st, nx, bs, wt, ag, rf, ac)) from by unfold fr0; rw [if_neg (fun q => by rcases q with q | q; exact q hok.1; exact hok.2 q), if_neg (by omega), if_neg (by omega)]; dsimp only [bes]; rw [if_pos (by omega)]]; rfl⟩, by rw [ht9]; exact hP, by rw [hAe]; exact hD⟩, hS.F ht9⟩) hS.2.2 d_M_frame_77
        · refine lv_aload_n hx hb d_M_frame_58 rfl (lv_at hl 2 rfl) ?_
          refine lv_iload_n hx hb d_M_frame_59 rfl (lv_at hl 0 rfl) ?_
          refine fg_calli (wc := [(h0, .inr (3, [.int (nI 0), .ref a1, .int (nI 0), .int (nI cn), .ref a2, .ref a3, .ref a4, .int (nI kl), .int (nI st), .int (nI nx), .int (nI bs), .int (nI wt), .int (nI ag), .int (nI rf), .int (nI ac)])), (a1, .inl (cB, 259, .inl t)), (a2, .inl (cB, 2048, .inl q)), (a3, .inl (cI, 8, .inl ln))]) (wr := []) (fun (u : Nat × GS) => [(h0, .inr (3, [.int (nI 0), .ref a1, .int (nI 0), .int (nI (pC u.1 cn)), .ref a2, .ref a3, .ref a4, .int (nI kl), .int (nI u.2.1), .int (nI u.2.2.1), .int (nI u.2.2.2.1), .int (nI u.2.2.2.2.1), .int (nI u.2.2.2.2.2.1), .int (nI u.2.2.2.2.2.2.1), .int (nI u.2.2.2.2.2.2.2)])), (a1, .inl (cB, 259, .inl t)), (a2, .inl (cB, 2048, .inl (pQ u.1 cn (fL t - 6) t q))), (a3, .inl (cI, 8, .inl (pL u.1 cn (fL t - 6) ln)))]) (va_runV (As := [.int (nI ((fL t) - 6))]) (rest := []) ⟨hx, hb, hml, hown, ht⟩ (c_M_inOrder l dC dI cB cI cG h0 a1 a2 a3 a4 0 0 cn kl st nx bs wt ag rf ac t q ln (fL t - 6) H.size hB hc (by omega) hg) (cwV 1 ht (fg_gV m_283 m_285 m_s11 m_4 m_286) rfl rfl rfl (by decide +kernel) ⟨Nat.le_of_ble_eq_true rfl, Nat.le_of_ble_eq_true rfl⟩) (fg_preV hK (hP.sub [0, 1, 2, 3] rfl) (hD.sub [0, 1, 2, 3] (by decide) rfl) (va_recv hK hP (ci := 3) (q0 := 0) rfl rfl)) rfl rfl hl.1 rfl (lv_room (Nat.le_of_ble_eq_true rfl)) d_M_frame_60 ⟨Nat.le_of_ble_eq_true rfl, Nat.le_of_ble_eq_true rfl⟩) hP hD hS hA [0, 1, 2, 3] [] rfl rfl (by decide) (by decide) (fun r_60 u H locs hw hP hD hS => ?_)
          obtain ⟨hr2, hu⟩ := hw
          obtain rfl : r_60 = nI u.1 := hr2
          have hP : va_P (dC, dI) fgC [(h0, .inr (3, [.int (nI 0), .ref a1, .int (nI 0), .int (nI (pC u.1 cn)), .ref a2, .ref a3, .ref a4, .int (nI kl), .int (nI u.2.1), .int (nI u.2.2.1), .int (nI u.2.2.2.1), .int (nI u.2.2.2.2.1), .int (nI u.2.2.2.2.2.1), .int (nI u.2.2.2.2.2.2.1), .int (nI u.2.2.2.2.2.2.2)])), (a1, .inl (cB, 259, .inl t)), (a2, .inl (cB, 2048, .inl (pQ u.1 cn (fL t - 6) t q))), (a3, .inl (cI, 8, .inl (pL u.1 cn (fL t - 6) ln)))] H := hP.sub [0, 1, 2, 3] rfl
          have hD : va_D A [(h0, .inr (3, [.int (nI 0), .ref a1, .int (nI 0), .int (nI (pC u.1 cn)), .ref a2, .ref a3, .ref a4, .int (nI kl), .int (nI u.2.1), .int (nI u.2.2.1), .int (nI u.2.2.2.1), .int (nI u.2.2.2.2.1), .int (nI u.2.2.2.2.2.1), .int (nI u.2.2.2.2.2.2.1), .int (nI u.2.2.2.2.2.2.2)])), (a1, .inl (cB, 259, .inl t)), (a2, .inl (cB, 2048, .inl (pQ u.1 cn (fL t - 6) t q))), (a3, .inl (cI, 8, .inl (pL u.1 cn (fL t - 6) ln)))] := hD.sub [0, 1, 2, 3] (by decide) rfl
          exact W.iret (v := (nI u.1)) hx hb hr (fun t9 ht9 hW9 => ⟨⟨(nI u.1), u, rfl, ⟨rfl, by unfold fr; rw [show fr0 t n cn (st, nx, bs, wt, ag, rf, ac) = ino t cn (st, nx, bs, wt, ag, rf, ac) from by unfold fr0; rw [if_neg (fun q => by rcases q with q | q; exact q hok.1; exact hok.2 q), if_neg (by omega), if_pos (by omega)]]; exact hu⟩, by rw [ht9]; exact hP, by rw [hAe]; exact hD⟩, hS.F ht9⟩) hS.2.2 d_M_frame_63
      · refine lv_aload_n hx hb d_M_frame_43 rfl (lv_at hl 2 rfl) ?_
        refine lv_iload_n hx hb d_M_frame_44 rfl (lv_at hl 0 rfl) ?_
        refine fg_calli (wc := [(h0, .inr (3, [.int (nI 0), .ref a1, .int (nI 0), .int (nI cn), .ref a2, .ref a3, .ref a4, .int (nI kl), .int (nI st), .int (nI nx), .int (nI bs), .int (nI wt), .int (nI ag), .int (nI rf), .int (nI ac)])), (a1, .inl (cB, 259, .inl t))]) (wr := [(a2, .inl (cB, 2048, .inl q)), (a3, .inl (cI, 8, .inl ln))]) (fun (u : Nat × GS) => [(h0, .inr (3, [.int (nI 0), .ref a1, .int (nI 0), .int (nI cn), .ref a2, .ref a3, .ref a4, .int (nI kl), .int (nI u.2.1), .int (nI u.2.2.1), .int (nI u.2.2.2.1), .int (nI u.2.2.2.2.1), .int (nI u.2.2.2.2.2.1), .int (nI u.2.2.2.2.2.2.1), .int (nI u.2.2.2.2.2.2.2)])), (a1, .inl (cB, 259, .inl t))]) (va_runV (As := [.int (nI ((fL t) - 6))]) (rest := []) ⟨hx, hb, hml, hown, ht⟩ (c_M_controls l dC dI cB cI cG h0 a1 a2 a3 a4 0 0 cn kl st nx bs wt ag rf ac t (fL t - 6) H.size hB (by omega) hg) (cwV 1 ht (fg_gV m_278 m_280 m_s10 m_4 m_281) rfl rfl rfl (by decide +kernel) ⟨Nat.le_of_ble_eq_true rfl, Nat.le_of_ble_eq_true rfl⟩) (fg_preV hK (hP.sub [0, 1] rfl) (hD.sub [0, 1] (by decide) rfl) (va_recv hK hP (ci := 3) (q0 := 0) rfl rfl)) rfl rfl hl.1 rfl (lv_room (Nat.le_of_ble_eq_true rfl)) d_M_frame_45 ⟨Nat.le_of_ble_eq_true rfl, Nat.le_of_ble_eq_true rfl⟩) hP hD hS hA [0, 1] [2, 3] rfl rfl (by decide) (by decide) (fun r_45 u H locs hw hP hD hS => ?_)
        obtain ⟨hr2, hu⟩ := hw
        obtain rfl : r_45 = nI u.1 := hr2
        have hP : va_P (dC, dI) fgC [(h0, .inr (3, [.int (nI 0), .ref a1, .int (nI 0), .int (nI cn), .ref a2, .ref a3, .ref a4, .int (nI kl), .int (nI u.2.1), .int (nI u.2.2.1), .int (nI u.2.2.2.1), .int (nI u.2.2.2.2.1), .int (nI u.2.2.2.2.2.1), .int (nI u.2.2.2.2.2.2.1), .int (nI u.2.2.2.2.2.2.2)])), (a1, .inl (cB, 259, .inl t)), (a2, .inl (cB, 2048, .inl q)), (a3, .inl (cI, 8, .inl ln))] H := hP.sub [2, 3, 0, 1] rfl
        have hD : va_D A [(h0, .inr (3, [.int (nI 0), .ref a1, .int (nI 0), .int (nI cn), .ref a2, .ref a3, .ref a4, .int (nI kl), .int (nI u.2.1), .int (nI u.2.2.1), .int (nI u.2.2.2.1), .int (nI u.2.2.2.2.1), .int (nI u.2.2.2.2.2.1), .int (nI u.2.2.2.2.2.2.1), .int (nI u.2.2.2.2.2.2.2)])), (a1, .inl (cB, 259, .inl t)), (a2, .inl (cB, 2048, .inl q)), (a3, .inl (cI, 8, .inl ln))] := hD.sub [2, 3, 0, 1] (by decide) rfl
        have hnp : ¬ (u.1 = 1 ∨ u.1 = 2) := by have h := ctl_w t (fL t - 6) (st, nx, bs, wt, ag, rf, ac); rw [hu]; show ¬ ((ctl t (fL t - 6) (st, nx, bs, wt, ag, rf, ac)).1 = 1 ∨ (ctl t (fL t - 6) (st, nx, bs, wt, ag, rf, ac)).1 = 2); omega
        have hP : va_P (dC, dI) fgC [(h0, .inr (3, [.int (nI 0), .ref a1, .int (nI 0), .int (nI (pC u.1 cn)), .ref a2, .ref a3, .ref a4, .int (nI kl), .int (nI u.2.1), .int (nI u.2.2.1), .int (nI u.2.2.2.1), .int (nI u.2.2.2.2.1), .int (nI u.2.2.2.2.2.1), .int (nI u.2.2.2.2.2.2.1), .int (nI u.2.2.2.2.2.2.2)])), (a1, .inl (cB, 259, .inl t)), (a2, .inl (cB, 2048, .inl (pQ u.1 cn (fL t - 6) t q))), (a3, .inl (cI, 8, .inl (pL u.1 cn (fL t - 6) ln)))] H := by unfold pC pQ pL; rw [if_neg hnp, if_neg hnp, if_neg hnp]; exact hP
        have hD : va_D A [(h0, .inr (3, [.int (nI 0), .ref a1, .int (nI 0), .int (nI (pC u.1 cn)), .ref a2, .ref a3, .ref a4, .int (nI kl), .int (nI u.2.1), .int (nI u.2.2.1), .int (nI u.2.2.2.1), .int (nI u.2.2.2.2.1), .int (nI u.2.2.2.2.2.1), .int (nI u.2.2.2.2.2.2.1), .int (nI u.2.2.2.2.2.2.2)])), (a1, .inl (cB, 259, .inl t)), (a2, .inl (cB, 2048, .inl (pQ u.1 cn (fL t - 6) t q))), (a3, .inl (cI, 8, .inl (pL u.1 cn (fL t - 6) ln)))] := by unfold pC pQ pL; rw [if_neg hnp, if_neg hnp, if_neg hnp]; exact hD
        exact W.iret (v := (nI u.1)) hx hb hr (fun t9 ht9 hW9 => ⟨⟨(nI u.1), u, rfl, ⟨rfl, by unfold fr; rw [show fr0 t n cn (st, nx, bs, wt, ag, rf, ac) = ctl t (fL t - 6) (st, nx, bs, wt, ag, rf, ac) from by unfold fr0; rw [if_neg (fun q => by rcases q with q | q; exact q hok.1; exact hok.2 q), if_pos (by omega)]]; exact hu⟩, by rw [ht9]; exact hP, by rw [hAe]; exact hD⟩, hS.F ht9⟩) hS.2.2 d_M_frame_48
    · exact absurd c_25 (by omega)
  · refine fg_nm (y := (nI 0)) (congrArg nI (by rw [vlen_eq, if_neg hok])) ?_
    refine lv_istore_n (lv' := [(1, .int (nI 0)), (0, .ref h0)]) hx hb d_M_frame_13 rfl hl (by decide) rfl (fun ls hl => ?_)
    refine lv_aload_n hx hb d_M_frame_14 rfl (lv_at hl 1 rfl) ?_
    refine lv_iconst (v := (nI 0)) hx hb d_M_frame_15 (by decide) ?_
    refine va_put (D := (dC, dI)) (ci := 3) (v := .int (nI 0)) (ty := .int) (C := R_M) (T := F_M) (N := 15) hx hb ht i_M t_M t_M_ok n_M hown hK hP hD hS 0 rfl rfl 2 (by decide) (ht _ m_199) (fun _ h9 => h9) rfl (t_M_ok 2 (by decide)) rfl rfl (Nat.le_of_ble_eq_true rfl) d_M_frame_16 (fun H locs hP hD hS => ?_)
    have hP : va_P (dC, dI) fgC [(h0, .inr (3, [.int (nI 0), .ref a1, .int (nI 0), .int (nI cn), .ref a2, .ref a3, .ref a4, .int (nI kl), .int (nI st), .int (nI nx), .int (nI bs), .int (nI wt), .int (nI ag), .int (nI rf), .int (nI ac)])), (a1, .inl (cB, 259, .inl t)), (a2, .inl (cB, 2048, .inl q)), (a3, .inl (cI, 8, .inl ln))] H := hP
    have hD : va_D A [(h0, .inr (3, [.int (nI 0), .ref a1, .int (nI 0), .int (nI cn), .ref a2, .ref a3, .ref a4, .int (nI kl), .int (nI st), .int (nI nx), .int (nI bs), .int (nI wt), .int (nI ag), .int (nI rf), .int (nI ac)])), (a1, .inl (cB, 259, .inl t)), (a2, .inl (cB, 2048, .inl q)), (a3, .inl (cI, 8, .inl ln))] := hD
    refine lv_iload_n hx hb d_M_frame_19 rfl (lv_at hl 0 rfl) ?_
    refine lv_bipush (v := (nI 6)) hx hb d_M_frame_20 (by decide) ?_
    refine lv_isub hx hb d_M_frame_22 ?_
    refine lv_istore_n (lv' := [(2, .int ((nI 0) - (nI 6))), (1, .int (nI 0)), (0, .ref h0)]) hx hb d_M_frame_23 rfl hl (by decide) rfl (fun ls hl => ?_)
    refine lv_iload_n hx hb d_M_frame_24 rfl (lv_at hl 1 rfl) ?_
    refine fg_if_ne (tgt := 33) hx hb d_M_frame_25 (by decide) (by omega) (fun c_25 => ?_) (fun c_25 => ?_)
    · exact absurd rfl c_25
    · refine lv_aload_n hx hb d_M_frame_28 rfl (lv_at hl 2 rfl) ?_
      refine fg_calli (wc := [(h0, .inr (3, [.int (nI 0), .ref a1, .int (nI 0), .int (nI cn), .ref a2, .ref a3, .ref a4, .int (nI kl), .int (nI st), .int (nI nx), .int (nI bs), .int (nI wt), .int (nI ag), .int (nI rf), .int (nI ac)]))]) (wr := [(a1, .inl (cB, 259, .inl t)), (a2, .inl (cB, 2048, .inl q)), (a3, .inl (cI, 8, .inl ln))]) (fun (_ : Unit) => [(h0, .inr (3, [.int (nI 0), .ref a1, .int (nI 0), .int (nI cn), .ref a2, .ref a3, .ref a4, .int (nI kl), .int (nI st), .int (nI nx), .int (nI bs), .int (nI wt), .int (nI ag), .int (nI (rf + 1)), .int (nI ac)]))]) (va_runV (As := []) (rest := []) ⟨hx, hb, hml, hown, ht⟩ (c_M_refuses l dC dI cB cI cG h0 (.int (nI 0)) (.ref a1) (.int (nI 0)) (.int (nI cn)) (.ref a2) (.ref a3) (.ref a4) (.int (nI kl)) (.int (nI st)) (.int (nI nx)) (.int (nI bs)) (.int (nI wt)) (.int (nI ag)) (.int (nI ac)) rf H.size) (cwV 0 ht (fg_gV m_274 m_276 m_s9 m_4 m_277) rfl rfl rfl (by decide +kernel) ⟨Nat.le_of_ble_eq_true rfl, Nat.le_of_ble_eq_true rfl⟩) (fg_preV hK (hP.sub [0] rfl) (hD.sub [0] (by decide) rfl) (va_recv hK hP (ci := 3) (q0 := 0) rfl rfl)) rfl rfl hl.1 rfl (lv_room (Nat.le_of_ble_eq_true rfl)) d_M_frame_29 ⟨Nat.le_of_ble_eq_true rfl, Nat.le_of_ble_eq_true rfl⟩) hP hD hS hA [0] [1, 2, 3] rfl rfl (by decide) (by decide) (fun r_29 u H locs hw hP hD hS => ?_)
      obtain rfl : r_29 = nI 0 := hw
      have hP : va_P (dC, dI) fgC [(h0, .inr (3, [.int (nI 0), .ref a1, .int (nI 0), .int (nI cn), .ref a2, .ref a3, .ref a4, .int (nI kl), .int (nI st), .int (nI nx), .int (nI bs), .int (nI wt), .int (nI ag), .int (nI (rf + 1)), .int (nI ac)])), (a1, .inl (cB, 259, .inl t)), (a2, .inl (cB, 2048, .inl q)), (a3, .inl (cI, 8, .inl ln))] H := hP.sub [3, 0, 1, 2] rfl
      have hD : va_D A [(h0, .inr (3, [.int (nI 0), .ref a1, .int (nI 0), .int (nI cn), .ref a2, .ref a3, .ref a4, .int (nI kl), .int (nI st), .int (nI nx), .int (nI bs), .int (nI wt), .int (nI ag), .int (nI (rf + 1)), .int (nI ac)])), (a1, .inl (cB, 259, .inl t)), (a2, .inl (cB, 2048, .inl q)), (a3, .inl (cI, 8, .inl ln))] := hD.sub [3, 0, 1, 2] (by decide) rfl
      exact W.iret (v := (nI 0)) hx hb hr (fun t9 ht9 hW9 => ⟨⟨(nI 0), (0, (st, nx, bs, wt, ag, rf + 1, ac)), rfl, ⟨rfl, by unfold fr; rw [show fr0 t n cn (st, nx, bs, wt, ag, rf, ac) = (0, (st, nx, bs, wt, ag, rf, ac)) from by unfold fr0; rw [if_pos (by rcases Classical.not_and_iff_not_or_not.mp hok with q | q; exact Or.inl q; exact Or.inr (Classical.not_not.mp q))]]; rfl⟩, by rw [ht9]; exact hP, by rw [hAe]; exact hD⟩, hS.F ht9⟩) hS.2.2 d_M_frame_32
end
section
theorem wrd_m (st nx bs wt ag : Nat) : 512 * (4 * (2 * (2 * (2 * (1 * 256 * 4) + (if st = 3 then 1 else 0)) + (if ¬ wt = 0 then 1 else 0)) + (if ¬ ag = 0 then 1 else 0)) + bs) + nx = wrd st nx bs wt ag := by
  unfold wrd
  generalize (if st = 3 then 1 else 0) = x1
  generalize (if ¬ wt = 0 then 1 else 0) = x2
  generalize (if ¬ ag = 0 then 1 else 0) = x3
  omega
/-- what about(x) answers -/
def abt (st nx cn rf ac : Nat) (x : Int32) : Int32 := if x = 0 then nI st else if x = nI 1 then nI nx else if x = nI 2 then nI cn else if x = nI 3 then nI rf else if x = nI 4 then nI ac else -1
theorem cpy_z {f g : Nat → Int32} {i : Nat} : upd (va_cpy f g 0 0 i) i (f i) = va_cpy f g 0 0 (i + 1) := by
  have h := cpy_s (f := f) (g := g) (a := 0) (b := 0) (i := i)
  rw [Nat.zero_add] at h
  exact h
theorem cpy_up {f g : Nat → Int32} {a i : Nat} : upd (va_cpy f g a 0 i) i (f (i + a)) = va_cpy f g a 0 (i + 1) := by
  have h := cpy_s (f := f) (g := g) (a := a) (b := 0) (i := i)
  rw [Nat.zero_add, Nat.add_comm a i] at h
  exact h
theorem cpy_up1 {f g : Nat → Int32} {i : Nat} : upd (va_cpy f g 1 0 i) i (f (i + 1)) = va_cpy f g 1 0 (i + 1) := cpy_up
set_option maxHeartbeats 4000000 in
set_option maxRecDepth 100000 in
/-- Model.length() -/
theorem c_M_length (l : Launch) (dC : Nat → ClassId) (dI : Nat → Nat → Nat) (cB cI cG : ClassId) (h0 a1 a2 a3 a4 th n cn kl : Nat) (st nx bs wt ag rf ac : Nat) (sz : Nat) : Met l y_M_length (Cond.code y_M_length b_M_length 1 (some .int) :: w_all) ({ frames := 0, cells := 0, slots := 0, locals := 0 }) (va_Pc [.ref h0] (fgPre (dC, dI) (tysA cB cI cG) [(h0, .inr (3, [.int (nI th), .ref a1, .int (nI n), .int (nI cn), .ref a2, .ref a3, .ref a4, .int (nI kl), .int (nI st), .int (nI nx), .int (nI bs), .int (nI wt), .int (nI ag), .int (nI rf), .int (nI ac)]))] sz)) (va_Qi (fun (r9 : Int32) (_ : Unit) => r9 = nI n) (fun _ t9 => fgPost (dC, dI) [(h0, .inr (3, [.int (nI th), .ref a1, .int (nI n), .int (nI cn), .ref a2, .ref a3, .ref a4, .int (nI kl), .int (nI st), .int (nI nx), .int (nI bs), .int (nI wt), .int (nI ag), .int (nI rf), .int (nI ac)]))] [(h0, .inr (3, [.int (nI 0), .ref a1, .int (nI n), .int (nI cn), .ref a2, .ref a3, .ref a4, .int (nI kl), .int (nI st), .int (nI nx), .int (nI bs), .int (nI wt), .int (nI ag), .int (nI rf), .int (nI ac)]))] sz t9) (va_A [(h0, .inr (3, [.int (nI th), .ref a1, .int (nI n), .int (nI cn), .ref a2, .ref a3, .ref a4, .int (nI kl), .int (nI st), .int (nI nx), .int (nI bs), .int (nI wt), .int (nI ag), .int (nI rf), .int (nI ac)]))] sz)) 0 0 (va_A [(h0, .inr (3, [.int (nI th), .ref a1, .int (nI n), .int (nI cn), .ref a2, .ref a3, .ref a4, .int (nI kl), .int (nI st), .int (nI nx), .int (nI bs), .int (nI wt), .int (nI ag), .int (nI rf), .int (nI ac)]))] sz) := by
  refine Met.ofW (cc := b_M_length) (maxL := 1) (ret := (some .int)) (by decide) rfl ?_
  intro p e s m args below meth c s₁ B hml hv
  obtain ⟨rfl, hsz, hP, hK, hD0⟩ := hv
  have hx := B.exec
  have hb := B.bytes
  have hr := B.returns
  have hts := atoms_spec (ws := (Cond.code y_M_length b_M_length 1 (some .int) :: w_all)) B.pre
  have ht : ∀ w ∈ w_all, w.before _ s = true := fun w h => hts w (List.mem_cons_of_mem _ h)
  have hown : s.vm.findClass R_M = some m.cls := findClass_of_methodNamed B.named
  have hlocks := B.notSynchronized
  subst hsz
  have hD := hD0.self (sz := s.heap.size)
  generalize hAe : va_A [(h0, .inr (3, [.int (nI th), .ref a1, .int (nI n), .int (nI cn), .ref a2, .ref a3, .ref a4, .int (nI kl), .int (nI st), .int (nI nx), .int (nI bs), .int (nI wt), .int (nI ag), .int (nI rf), .int (nI ac)]))] s.heap.size = A at hD ⊢
  have hA : ∀ q : Nat, s.heap.size ≤ q → A q := fun q h => by rw [← hAe]; exact Or.inr h
  have hS : va_S A s.heap s.heap [] := va_S.rf
  have hl := lv_entry ([.ref h0]) (n := 1) (Nat.le_of_ble_eq_true rfl)
  rw [lg_entry_eq]
  generalize (lg_sl ([.ref h0]) ++ List.replicate (1 - (lg_sl ([.ref h0])).length) Slot.unset).toArray = ls at hl ⊢
  have hl : lv_has ls 1 [(0, .ref h0)] := hl
  refine lv_aload_n hx hb d_M_length_0 rfl (lv_at hl 0 rfl) ?_
  refine lv_iconst (v := (nI 0)) hx hb d_M_length_1 (by decide) ?_
  refine va_put (D := (dC, dI)) (ci := 3) (v := .int (nI 0)) (ty := .int) (C := R_M) (T := F_M) (N := 15) hx hb ht i_M t_M t_M_ok n_M hown hK hP hD hS 0 rfl rfl 0 (by decide) (ht _ m_197) (fun _ h9 => h9) rfl (t_M_ok 0 (by decide)) rfl rfl (Nat.le_of_ble_eq_true rfl) d_M_length_2 (fun H locs hP hD hS => ?_)
  have hP : va_P (dC, dI) fgC [(h0, .inr (3, [.int (nI 0), .ref a1, .int (nI n), .int (nI cn), .ref a2, .ref a3, .ref a4, .int (nI kl), .int (nI st), .int (nI nx), .int (nI bs), .int (nI wt), .int (nI ag), .int (nI rf), .int (nI ac)]))] H := hP
  have hD : va_D A [(h0, .inr (3, [.int (nI 0), .ref a1, .int (nI n), .int (nI cn), .ref a2, .ref a3, .ref a4, .int (nI kl), .int (nI st), .int (nI nx), .int (nI bs), .int (nI wt), .int (nI ag), .int (nI rf), .int (nI ac)]))] := hD
  refine lv_aload_n hx hb d_M_length_5 rfl (lv_at hl 0 rfl) ?_
  refine va_get (D := (dC, dI)) (ci := 3) (v := .int (nI n)) (C := R_M) (T := F_M) (N := 15) hx hb ht i_M hown hK hP 0 rfl rfl 2 (by decide) (ht _ m_199) (fun _ h9 => h9) rfl d_M_length_6 ?_
  exact W.iret (v := (nI n)) hx hb hr (fun t9 ht9 hW9 => ⟨⟨(nI n), (), rfl, rfl, by rw [ht9]; exact hP, by rw [hAe]; exact hD⟩, hS.F ht9⟩) hS.2.2 d_M_length_9
set_option maxHeartbeats 4000000 in
set_option maxRecDepth 100000 in
/-- Model.byteAt(x) -/
theorem c_M_byteAt (l : Launch) (dC : Nat → ClassId) (dI : Nat → Nat → Nat) (cB cI cG : ClassId) (h0 a1 a2 a3 a4 th n cn kl : Nat) (st nx bs wt ag rf ac : Nat) (T : Nat → Int32) (x : Int32) (sz : Nat) (hkl : kl ≤ 252) : Met l y_M_byteAt (Cond.code y_M_byteAt b_M_byteAt 2 (some .int) :: w_all) ({ frames := 0, cells := 0, slots := 0, locals := 0 }) (va_Pc [.ref h0, .int x] (fgPre (dC, dI) (tysA cB cI cG) [(h0, .inr (3, [.int (nI th), .ref a1, .int (nI n), .int (nI cn), .ref a2, .ref a3, .ref a4, .int (nI kl), .int (nI st), .int (nI nx), .int (nI bs), .int (nI wt), .int (nI ag), .int (nI rf), .int (nI ac)])), (a4, .inl (cB, 256, .inl T))] sz)) (va_Qi (fun (r9 : Int32) (_ : Unit) => r9 = bya T kl x) (fun _ t9 => fgPost (dC, dI) [(h0, .inr (3, [.int (nI th), .ref a1, .int (nI n), .int (nI cn), .ref a2, .ref a3, .ref a4, .int (nI kl), .int (nI st), .int (nI nx), .int (nI bs), .int (nI wt), .int (nI ag), .int (nI rf), .int (nI ac)])), (a4, .inl (cB, 256, .inl T))] [(h0, .inr (3, [.int (nI 0), .ref a1, .int (nI n), .int (nI cn), .ref a2, .ref a3, .ref a4, .int (nI kl), .int (nI st), .int (nI nx), .int (nI bs), .int (nI wt), .int (nI ag), .int (nI rf), .int (nI ac)])), (a4, .inl (cB, 256, .inl T))] sz t9) (va_A [(h0, .inr (3, [.int (nI th), .ref a1, .int (nI n), .int (nI cn), .ref a2, .ref a3, .ref a4, .int (nI kl), .int (nI st), .int (nI nx), .int (nI bs), .int (nI wt), .int (nI ag), .int (nI rf), .int (nI ac)])), (a4, .inl (cB, 256, .inl T))] sz)) 0 0 (va_A [(h0, .inr (3, [.int (nI th), .ref a1, .int (nI n), .int (nI cn), .ref a2, .ref a3, .ref a4, .int (nI kl), .int (nI st), .int (nI nx), .int (nI bs), .int (nI wt), .int (nI ag), .int (nI rf), .int (nI ac)])), (a4, .inl (cB, 256, .inl T))] sz) := by
  refine Met.ofW (cc := b_M_byteAt) (maxL := 2) (ret := (some .int)) (by decide) rfl ?_
  intro p e s m args below meth c s₁ B hml hv
  obtain ⟨rfl, hsz, hP, hK, hD0⟩ := hv
  have hx := B.exec
  have hb := B.bytes
  have hr := B.returns
  have hts := atoms_spec (ws := (Cond.code y_M_byteAt b_M_byteAt 2 (some .int) :: w_all)) B.pre
  have ht : ∀ w ∈ w_all, w.before _ s = true := fun w h => hts w (List.mem_cons_of_mem _ h)
  have hown : s.vm.findClass R_M = some m.cls := findClass_of_methodNamed B.named
  have hlocks := B.notSynchronized
  subst hsz
  have hD := hD0.self (sz := s.heap.size)
  generalize hAe : va_A [(h0, .inr (3, [.int (nI th), .ref a1, .int (nI n), .int (nI cn), .ref a2, .ref a3, .ref a4, .int (nI kl), .int (nI st), .int (nI nx), .int (nI bs), .int (nI wt), .int (nI ag), .int (nI rf), .int (nI ac)])), (a4, .inl (cB, 256, .inl T))] s.heap.size = A at hD ⊢
  have hA : ∀ q : Nat, s.heap.size ≤ q → A q := fun q h => by rw [← hAe]; exact Or.inr h
  have hS : va_S A s.heap s.heap [] := va_S.rf
  have hl := lv_entry ([.ref h0, .int x]) (n := 2) (Nat.le_of_ble_eq_true rfl)
  rw [lg_entry_eq]
  generalize (lg_sl ([.ref h0, .int x]) ++ List.replicate (2 - (lg_sl ([.ref h0, .int x])).length) Slot.unset).toArray = ls at hl ⊢
  have hl : lv_has ls 2 [(0, .ref h0), (1, .int x)] := hl
  refine lv_aload_n hx hb d_M_byteAt_0 rfl (lv_at hl 0 rfl) ?_
  refine lv_iconst (v := (nI 0)) hx hb d_M_byteAt_1 (by decide) ?_
  refine va_put (D := (dC, dI)) (ci := 3) (v := .int (nI 0)) (ty := .int) (C := R_M) (T := F_M) (N := 15) hx hb ht i_M t_M t_M_ok n_M hown hK hP hD hS 0 rfl rfl 0 (by decide) (ht _ m_197) (fun _ h9 => h9) rfl (t_M_ok 0 (by decide)) rfl rfl (Nat.le_of_ble_eq_true rfl) d_M_byteAt_2 (fun H locs hP hD hS => ?_)
  have hP : va_P (dC, dI) fgC [(h0, .inr (3, [.int (nI 0), .ref a1, .int (nI n), .int (nI cn), .ref a2, .ref a3, .ref a4, .int (nI kl), .int (nI st), .int (nI nx), .int (nI bs), .int (nI wt), .int (nI ag), .int (nI rf), .int (nI ac)])), (a4, .inl (cB, 256, .inl T))] H := hP
  have hD : va_D A [(h0, .inr (3, [.int (nI 0), .ref a1, .int (nI n), .int (nI cn), .ref a2, .ref a3, .ref a4, .int (nI kl), .int (nI st), .int (nI nx), .int (nI bs), .int (nI wt), .int (nI ag), .int (nI rf), .int (nI ac)])), (a4, .inl (cB, 256, .inl T))] := hD
  refine lv_iload_n hx hb d_M_byteAt_5 rfl (lv_at hl 1 rfl) ?_
  refine lv_if_lt (tgt := 30) hx hb d_M_byteAt_6 (by decide) (fun c_6 => ?_) (fun c_6 => ?_)
  · refine lv_iconst (v := (-1)) hx hb d_M_byteAt_30 (by decide) ?_
    exact W.iret (v := (-1)) hx hb hr (fun t9 ht9 hW9 => ⟨⟨(-1), (), rfl, (bya_neg c_6).symm, by rw [ht9]; exact hP, by rw [hAe]; exact hD⟩, hS.F ht9⟩) hS.2.2 d_M_byteAt_31
  · obtain ⟨j, hj, rfl⟩ := nI_of c_6
    refine lv_iload_n hx hb d_M_byteAt_9 rfl (lv_at hl 1 rfl) ?_
    refine lv_aload_n hx hb d_M_byteAt_10 rfl (lv_at hl 0 rfl) ?_
    refine va_get (D := (dC, dI)) (ci := 3) (v := .int (nI kl)) (C := R_M) (T := F_M) (N := 15) hx hb ht i_M hown hK hP 0 rfl rfl 7 (by decide) (ht _ m_204) (fun _ h9 => h9) rfl d_M_byteAt_11 ?_
    refine fg_cmp_ge (tgt := 30) hx hb d_M_byteAt_14 (by decide) (by omega) (by omega) (fun c_14 => ?_) (fun c_14 => ?_)
    · refine lv_iconst (v := (-1)) hx hb d_M_byteAt_30 (by decide) ?_
      exact W.iret (v := (-1)) hx hb hr (fun t9 ht9 hW9 => ⟨⟨(-1), (), rfl, (bya_out hj (by omega)).symm, by rw [ht9]; exact hP, by rw [hAe]; exact hD⟩, hS.F ht9⟩) hS.2.2 d_M_byteAt_31
    · refine lv_aload_n hx hb d_M_byteAt_17 rfl (lv_at hl 0 rfl) ?_
      refine va_get (D := (dC, dI)) (ci := 3) (v := .ref a4) (C := R_M) (T := F_M) (N := 15) hx hb ht i_M hown hK hP 0 rfl rfl 6 (by decide) (ht _ m_203) (fun _ h9 => h9) rfl d_M_byteAt_18 ?_
      refine lv_iload_n hx hb d_M_byteAt_21 rfl (lv_at hl 1 rfl) ?_
      refine fg_bald hx hb hK hP 1 0 rfl rfl (by omega) (by decide) d_M_byteAt_22 ?_
      refine lv_sipush (v := (nI 255)) hx hb d_M_byteAt_23 (by decide) ?_
      refine fg_iand255 hx hb d_M_byteAt_26 ?_
      have hbN_26 := bN_lt (T j)
      refine lv_goto (tgt := 31) hx hb d_M_byteAt_27 (by decide) ?_
      exact W.iret (v := (nI (bN (T j)))) hx hb hr (fun t9 ht9 hW9 => ⟨⟨(nI (bN (T j))), (), rfl, (bya_in hj (by omega)).symm, by rw [ht9]; exact hP, by rw [hAe]; exact hD⟩, hS.F ht9⟩) hS.2.2 d_M_byteAt_31
set_option maxHeartbeats 4000000 in
set_option maxRecDepth 100000 in
/-- Model.release() -/
theorem c_M_release (l : Launch) (dC : Nat → ClassId) (dI : Nat → Nat → Nat) (cB cI cG : ClassId) (h0 a1 a2 a3 a4 th n cn kl : Nat) (st nx bs wt ag rf ac : Nat) (sz : Nat) (hg : st < 4 ∧ nx < 256 ∧ bs < 4 ∧ wt < 2 ∧ ag < 2) : Met l y_M_release (Cond.code y_M_release b_M_release 2 (some .boolean) :: w_all) ({ frames := 0, cells := 0, slots := 0, locals := 0 }) (va_Pc [.ref h0] (fgPre (dC, dI) (tysA cB cI cG) [(h0, .inr (3, [.int (nI th), .ref a1, .int (nI n), .int (nI cn), .ref a2, .ref a3, .ref a4, .int (nI kl), .int (nI st), .int (nI nx), .int (nI bs), .int (nI wt), .int (nI ag), .int (nI rf), .int (nI ac)]))] sz)) (va_Qi (fun (r : Int32) (u : Nat) => r = nI (if ¬ wt = 0 ∨ st = 2 then 1 else 0) ∧ u = if st = 2 then 1 else st) (fun u t9 => fgPost (dC, dI) [(h0, .inr (3, [.int (nI th), .ref a1, .int (nI n), .int (nI cn), .ref a2, .ref a3, .ref a4, .int (nI kl), .int (nI st), .int (nI nx), .int (nI bs), .int (nI wt), .int (nI ag), .int (nI rf), .int (nI ac)]))] [(h0, .inr (3, [.int (nI 0), .ref a1, .int (nI n), .int (nI cn), .ref a2, .ref a3, .ref a4, .int (nI kl), .int (nI u), .int (nI nx), .int (nI bs), .int (nI 0), .int (nI ag), .int (nI rf), .int (nI ac)]))] sz t9) (va_A [(h0, .inr (3, [.int (nI th), .ref a1, .int (nI n), .int (nI cn), .ref a2, .ref a3, .ref a4, .int (nI kl), .int (nI st), .int (nI nx), .int (nI bs), .int (nI wt), .int (nI ag), .int (nI rf), .int (nI ac)]))] sz)) 0 0 (va_A [(h0, .inr (3, [.int (nI th), .ref a1, .int (nI n), .int (nI cn), .ref a2, .ref a3, .ref a4, .int (nI kl), .int (nI st), .int (nI nx), .int (nI bs), .int (nI wt), .int (nI ag), .int (nI rf), .int (nI ac)]))] sz) := by
  refine Met.ofW (cc := b_M_release) (maxL := 2) (ret := (some .boolean)) (by decide) rfl ?_
  intro p e s m args below meth c s₁ B hml hv
  obtain ⟨rfl, hsz, hP, hK, hD0⟩ := hv
  have hx := B.exec
  have hb := B.bytes
  have hr := B.returns
  have hts := atoms_spec (ws := (Cond.code y_M_release b_M_release 2 (some .boolean) :: w_all)) B.pre
  have ht : ∀ w ∈ w_all, w.before _ s = true := fun w h => hts w (List.mem_cons_of_mem _ h)
  have hown : s.vm.findClass R_M = some m.cls := findClass_of_methodNamed B.named
  have hlocks := B.notSynchronized
  subst hsz
  have hD := hD0.self (sz := s.heap.size)
  generalize hAe : va_A [(h0, .inr (3, [.int (nI th), .ref a1, .int (nI n), .int (nI cn), .ref a2, .ref a3, .ref a4, .int (nI kl), .int (nI st), .int (nI nx), .int (nI bs), .int (nI wt), .int (nI ag), .int (nI rf), .int (nI ac)]))] s.heap.size = A at hD ⊢
  have hA : ∀ q : Nat, s.heap.size ≤ q → A q := fun q h => by rw [← hAe]; exact Or.inr h
  have hS : va_S A s.heap s.heap [] := va_S.rf
  have hl := lv_entry ([.ref h0]) (n := 2) (Nat.le_of_ble_eq_true rfl)
  rw [lg_entry_eq]
  generalize (lg_sl ([.ref h0]) ++ List.replicate (2 - (lg_sl ([.ref h0])).length) Slot.unset).toArray = ls at hl ⊢
  have hl : lv_has ls 2 [(0, .ref h0)] := hl
  refine lv_aload_n hx hb d_M_release_0 rfl (lv_at hl 0 rfl) ?_
  refine lv_iconst (v := (nI 0)) hx hb d_M_release_1 (by decide) ?_
  refine va_put (D := (dC, dI)) (ci := 3) (v := .int (nI 0)) (ty := .int) (C := R_M) (T := F_M) (N := 15) hx hb ht i_M t_M t_M_ok n_M hown hK hP hD hS 0 rfl rfl 0 (by decide) (ht _ m_197) (fun _ h9 => h9) rfl (t_M_ok 0 (by decide)) rfl rfl (Nat.le_of_ble_eq_true rfl) d_M_release_2 (fun H locs hP hD hS => ?_)
  have hP : va_P (dC, dI) fgC [(h0, .inr (3, [.int (nI 0), .ref a1, .int (nI n), .int (nI cn), .ref a2, .ref a3, .ref a4, .int (nI kl), .int (nI st), .int (nI nx), .int (nI bs), .int (nI wt), .int (nI ag), .int (nI rf), .int (nI ac)]))] H := hP
  have hD : va_D A [(h0, .inr (3, [.int (nI 0), .ref a1, .int (nI n), .int (nI cn), .ref a2, .ref a3, .ref a4, .int (nI kl), .int (nI st), .int (nI nx), .int (nI bs), .int (nI wt), .int (nI ag), .int (nI rf), .int (nI ac)]))] := hD
  refine fg_cut (F0 m 25 ls [.int (nI (if ¬ wt = 0 ∨ st = 2 then 1 else 0))]) ?_ (fun j_25 => ?_)
  · refine lv_istore_n (lv' := [(1, .int (nI (if ¬ wt = 0 ∨ st = 2 then 1 else 0))), (0, .ref h0)]) hx hb d_M_release_25 rfl hl (by decide) rfl (fun ls hl => ?_)
    refine lv_aload_n hx hb d_M_release_26 rfl (lv_at hl 1 rfl) ?_
    refine lv_iconst (v := (nI 0)) hx hb d_M_release_27 (by decide) ?_
    refine va_put (D := (dC, dI)) (ci := 3) (v := .int (nI 0)) (ty := .boolean) (C := R_M) (T := F_M) (N := 15) hx hb ht i_M t_M t_M_ok n_M hown hK hP hD hS 0 rfl rfl 11 (by decide) (ht _ m_208) (fun _ h9 => h9) rfl (t_M_ok 11 (by decide)) (fg_nZ (by omega)) (fg_fZ (by omega)) (Nat.le_of_ble_eq_true rfl) d_M_release_28 (fun H locs hP hD hS => ?_)
    have hP : va_P (dC, dI) fgC [(h0, .inr (3, [.int (nI 0), .ref a1, .int (nI n), .int (nI cn), .ref a2, .ref a3, .ref a4, .int (nI kl), .int (nI st), .int (nI nx), .int (nI bs), .int (nI 0), .int (nI ag), .int (nI rf), .int (nI ac)]))] H := hP
    have hD : va_D A [(h0, .inr (3, [.int (nI 0), .ref a1, .int (nI n), .int (nI cn), .ref a2, .ref a3, .ref a4, .int (nI kl), .int (nI st), .int (nI nx), .int (nI bs), .int (nI 0), .int (nI ag), .int (nI rf), .int (nI ac)]))] := hD
    refine lv_aload_n hx hb d_M_release_31 rfl (lv_at hl 1 rfl) ?_
    refine lv_aload_n hx hb d_M_release_32 rfl (lv_at hl 1 rfl) ?_
    refine va_get (D := (dC, dI)) (ci := 3) (v := .int (nI st)) (C := R_M) (T := F_M) (N := 15) hx hb ht i_M hown hK hP 0 rfl rfl 8 (by decide) (ht _ m_205) (fun _ h9 => h9) rfl d_M_release_33 ?_
    refine lv_iconst (v := (nI 2)) hx hb d_M_release_36 (by decide) ?_
    refine fg_cmp_ne (tgt := 44) hx hb d_M_release_37 (by decide) (by omega) (by omega) (fun c_37 => ?_) (fun c_37 => ?_)
    · refine lv_aload_n hx hb d_M_release_44 rfl (lv_at hl 1 rfl) ?_
      refine va_get (D := (dC, dI)) (ci := 3) (v := .int (nI st)) (C := R_M) (T := F_M) (N := 15) hx hb ht i_M hown hK hP 0 rfl rfl 8 (by decide) (ht _ m_205) (fun _ h9 => h9) rfl d_M_release_45 ?_
      refine va_put (D := (dC, dI)) (ci := 3) (v := .int (nI st)) (ty := .int) (C := R_M) (T := F_M) (N := 15) hx hb ht i_M t_M t_M_ok n_M hown hK hP hD hS 0 rfl rfl 8 (by decide) (ht _ m_205) (fun _ h9 => h9) rfl (t_M_ok 8 (by decide)) rfl rfl (Nat.le_of_ble_eq_true rfl) d_M_release_48 (fun H locs hP hD hS => ?_)
      have hP : va_P (dC, dI) fgC [(h0, .inr (3, [.int (nI 0), .ref a1, .int (nI n), .int (nI cn), .ref a2, .ref a3, .ref a4, .int (nI kl), .int (nI st), .int (nI nx), .int (nI bs), .int (nI 0), .int (nI ag), .int (nI rf), .int (nI ac)]))] H := hP
      have hD : va_D A [(h0, .inr (3, [.int (nI 0), .ref a1, .int (nI n), .int (nI cn), .ref a2, .ref a3, .ref a4, .int (nI kl), .int (nI st), .int (nI nx), .int (nI bs), .int (nI 0), .int (nI ag), .int (nI rf), .int (nI ac)]))] := hD
      refine lv_iload_n hx hb d_M_release_51 rfl (lv_at hl 0 rfl) ?_
      exact W.zret (ty := .boolean) (v := (nI (if ¬ wt = 0 ∨ st = 2 then 1 else 0))) hx hb hr (fg_nZ (by (repeat' split) <;> omega)) (fun t9 ht9 hW9 => ⟨⟨(nI (if ¬ wt = 0 ∨ st = 2 then 1 else 0)), st, rfl, ⟨rfl, (if_neg c_37).symm⟩, by rw [ht9]; exact hP, by rw [hAe]; exact hD⟩, hS.F ht9⟩) hS.2.2 d_M_release_52
    · refine lv_iconst (v := (nI 1)) hx hb d_M_release_40 (by decide) ?_
      refine lv_goto (tgt := 48) hx hb d_M_release_41 (by decide) ?_
      refine va_put (D := (dC, dI)) (ci := 3) (v := .int (nI 1)) (ty := .int) (C := R_M) (T := F_M) (N := 15) hx hb ht i_M t_M t_M_ok n_M hown hK hP hD hS 0 rfl rfl 8 (by decide) (ht _ m_205) (fun _ h9 => h9) rfl (t_M_ok 8 (by decide)) rfl rfl (Nat.le_of_ble_eq_true rfl) d_M_release_48 (fun H locs hP hD hS => ?_)
      have hP : va_P (dC, dI) fgC [(h0, .inr (3, [.int (nI 0), .ref a1, .int (nI n), .int (nI cn), .ref a2, .ref a3, .ref a4, .int (nI kl), .int (nI 1), .int (nI nx), .int (nI bs), .int (nI 0), .int (nI ag), .int (nI rf), .int (nI ac)]))] H := hP
      have hD : va_D A [(h0, .inr (3, [.int (nI 0), .ref a1, .int (nI n), .int (nI cn), .ref a2, .ref a3, .ref a4, .int (nI kl), .int (nI 1), .int (nI nx), .int (nI bs), .int (nI 0), .int (nI ag), .int (nI rf), .int (nI ac)]))] := hD
      refine lv_iload_n hx hb d_M_release_51 rfl (lv_at hl 0 rfl) ?_
      exact W.zret (ty := .boolean) (v := (nI (if ¬ wt = 0 ∨ st = 2 then 1 else 0))) hx hb hr (fg_nZ (by (repeat' split) <;> omega)) (fun t9 ht9 hW9 => ⟨⟨(nI (if ¬ wt = 0 ∨ st = 2 then 1 else 0)), 1, rfl, ⟨rfl, (if_pos c_37).symm⟩, by rw [ht9]; exact hP, by rw [hAe]; exact hD⟩, hS.F ht9⟩) hS.2.2 d_M_release_52
  · refine lv_aload_n hx hb d_M_release_5 rfl (lv_at hl 0 rfl) ?_
    refine va_get (D := (dC, dI)) (ci := 3) (v := .int (nI wt)) (C := R_M) (T := F_M) (N := 15) hx hb ht i_M hown hK hP 0 rfl rfl 11 (by decide) (ht _ m_208) (fun _ h9 => h9) rfl d_M_release_6 ?_
    refine fg_if_ne (tgt := 20) hx hb d_M_release_9 (by decide) (by omega) (fun c_9 => ?_) (fun c_9 => ?_)
    · refine lv_iconst (v := (nI 1)) hx hb d_M_release_20 (by decide) ?_
      refine lv_goto (tgt := 25) hx hb d_M_release_21 (by decide) ?_
      exact fg_nm (congrArg nI ((if_pos (by omega)).symm)) j_25
    · refine lv_aload_n hx hb d_M_release_12 rfl (lv_at hl 0 rfl) ?_
      refine va_get (D := (dC, dI)) (ci := 3) (v := .int (nI st)) (C := R_M) (T := F_M) (N := 15) hx hb ht i_M hown hK hP 0 rfl rfl 8 (by decide) (ht _ m_205) (fun _ h9 => h9) rfl d_M_release_13 ?_
      refine lv_iconst (v := (nI 2)) hx hb d_M_release_16 (by decide) ?_
      refine fg_cmp_ne (tgt := 24) hx hb d_M_release_17 (by decide) (by omega) (by omega) (fun c_17 => ?_) (fun c_17 => ?_)
      · refine lv_iconst (v := (nI 0)) hx hb d_M_release_24 (by decide) ?_
        exact fg_nm (congrArg nI ((if_neg (by omega)).symm)) j_25
      · refine lv_iconst (v := (nI 1)) hx hb d_M_release_20 (by decide) ?_
        refine lv_goto (tgt := 25) hx hb d_M_release_21 (by decide) ?_
        exact fg_nm (congrArg nI ((if_pos (by omega)).symm)) j_25
set_option maxHeartbeats 4000000 in
set_option maxRecDepth 100000 in
/-- Model.word() -/
theorem c_M_word (l : Launch) (dC : Nat → ClassId) (dI : Nat → Nat → Nat) (cB cI cG : ClassId) (h0 a1 a2 a3 a4 th n cn kl : Nat) (st nx bs wt ag rf ac : Nat) (sz : Nat) (hg : st < 4 ∧ nx < 256 ∧ bs < 4 ∧ wt < 2 ∧ ag < 2) : Met l y_M_word (Cond.code y_M_word b_M_word 2 (some .int) :: w_all) ({ frames := 0, cells := 0, slots := 0, locals := 0 }) (va_Pc [.ref h0] (fgPre (dC, dI) (tysA cB cI cG) [(h0, .inr (3, [.int (nI th), .ref a1, .int (nI n), .int (nI cn), .ref a2, .ref a3, .ref a4, .int (nI kl), .int (nI st), .int (nI nx), .int (nI bs), .int (nI wt), .int (nI ag), .int (nI rf), .int (nI ac)]))] sz)) (va_Qi (fun (r9 : Int32) (_ : Unit) => r9 = nI (wrd st nx bs wt ag)) (fun _ t9 => fgPost (dC, dI) [(h0, .inr (3, [.int (nI th), .ref a1, .int (nI n), .int (nI cn), .ref a2, .ref a3, .ref a4, .int (nI kl), .int (nI st), .int (nI nx), .int (nI bs), .int (nI wt), .int (nI ag), .int (nI rf), .int (nI ac)]))] [(h0, .inr (3, [.int (nI 0), .ref a1, .int (nI n), .int (nI cn), .ref a2, .ref a3, .ref a4, .int (nI kl), .int (nI st), .int (nI nx), .int (nI bs), .int (nI wt), .int (nI ag), .int (nI rf), .int (nI ac)]))] sz t9) (va_A [(h0, .inr (3, [.int (nI th), .ref a1, .int (nI n), .int (nI cn), .ref a2, .ref a3, .ref a4, .int (nI kl), .int (nI st), .int (nI nx), .int (nI bs), .int (nI wt), .int (nI ag), .int (nI rf), .int (nI ac)]))] sz)) 0 0 (va_A [(h0, .inr (3, [.int (nI th), .ref a1, .int (nI n), .int (nI cn), .ref a2, .ref a3, .ref a4, .int (nI kl), .int (nI st), .int (nI nx), .int (nI bs), .int (nI wt), .int (nI ag), .int (nI rf), .int (nI ac)]))] sz) := by
  refine Met.ofW (cc := b_M_word) (maxL := 2) (ret := (some .int)) (by decide) rfl ?_
  intro p e s m args below meth c s₁ B hml hv
  obtain ⟨rfl, hsz, hP, hK, hD0⟩ := hv
  have hx := B.exec
  have hb := B.bytes
  have hr := B.returns
  have hts := atoms_spec (ws := (Cond.code y_M_word b_M_word 2 (some .int) :: w_all)) B.pre
  have ht : ∀ w ∈ w_all, w.before _ s = true := fun w h => hts w (List.mem_cons_of_mem _ h)
  have hown : s.vm.findClass R_M = some m.cls := findClass_of_methodNamed B.named
  have hlocks := B.notSynchronized
  subst hsz
  have hD := hD0.self (sz := s.heap.size)
  generalize hAe : va_A [(h0, .inr (3, [.int (nI th), .ref a1, .int (nI n), .int (nI cn), .ref a2, .ref a3, .ref a4, .int (nI kl), .int (nI st), .int (nI nx), .int (nI bs), .int (nI wt), .int (nI ag), .int (nI rf), .int (nI ac)]))] s.heap.size = A at hD ⊢
  have hA : ∀ q : Nat, s.heap.size ≤ q → A q := fun q h => by rw [← hAe]; exact Or.inr h
  have hS : va_S A s.heap s.heap [] := va_S.rf
  have hl := lv_entry ([.ref h0]) (n := 2) (Nat.le_of_ble_eq_true rfl)
  rw [lg_entry_eq]
  generalize (lg_sl ([.ref h0]) ++ List.replicate (2 - (lg_sl ([.ref h0])).length) Slot.unset).toArray = ls at hl ⊢
  have hl : lv_has ls 2 [(0, .ref h0)] := hl
  refine lv_aload_n hx hb d_M_word_0 rfl (lv_at hl 0 rfl) ?_
  refine lv_iconst (v := (nI 0)) hx hb d_M_word_1 (by decide) ?_
  refine va_put (D := (dC, dI)) (ci := 3) (v := .int (nI 0)) (ty := .int) (C := R_M) (T := F_M) (N := 15) hx hb ht i_M t_M t_M_ok n_M hown hK hP hD hS 0 rfl rfl 0 (by decide) (ht _ m_197) (fun _ h9 => h9) rfl (t_M_ok 0 (by decide)) rfl rfl (Nat.le_of_ble_eq_true rfl) d_M_word_2 (fun H locs hP hD hS => ?_)
  have hP : va_P (dC, dI) fgC [(h0, .inr (3, [.int (nI 0), .ref a1, .int (nI n), .int (nI cn), .ref a2, .ref a3, .ref a4, .int (nI kl), .int (nI st), .int (nI nx), .int (nI bs), .int (nI wt), .int (nI ag), .int (nI rf), .int (nI ac)]))] H := hP
  have hD : va_D A [(h0, .inr (3, [.int (nI 0), .ref a1, .int (nI n), .int (nI cn), .ref a2, .ref a3, .ref a4, .int (nI kl), .int (nI st), .int (nI nx), .int (nI bs), .int (nI wt), .int (nI ag), .int (nI rf), .int (nI ac)]))] := hD
  refine lv_iconst (v := (nI 1)) hx hb d_M_word_5 (by decide) ?_
  refine lv_istore_n (lv' := [(1, .int (nI 1)), (0, .ref h0)]) hx hb d_M_word_6 rfl hl (by decide) rfl (fun ls hl => ?_)
  refine lv_iconst (v := (nI 2)) hx hb d_M_word_7 (by decide) ?_
  refine lv_iload_n hx hb d_M_word_8 rfl (lv_at hl 0 rfl) ?_
  refine lv_sipush (v := (nI 256)) hx hb d_M_word_9 (by decide) ?_
  refine fg_imul hx hb d_M_word_12 ?_
  refine lv_iconst (v := (nI 4)) hx hb d_M_word_13 (by decide) ?_
  refine fg_imul hx hb d_M_word_14 ?_
  refine fg_imul hx hb d_M_word_15 ?_
  refine fg_cut (F0 m 29 ls [.int (nI (if st = 3 then 1 else 0)), .int (nI (2 * ((1 * 256) * 4)))]) ?_ (fun j_29 => ?_)
  · refine fg_iadd hx hb d_M_word_29 ?_
    refine lv_istore_n (lv' := [(1, .int (nI ((2 * ((1 * 256) * 4)) + (if st = 3 then 1 else 0)))), (0, .ref h0)]) hx hb d_M_word_30 rfl hl (by decide) rfl (fun ls hl => ?_)
    refine lv_iconst (v := (nI 2)) hx hb d_M_word_31 (by decide) ?_
    refine lv_iload_n hx hb d_M_word_32 rfl (lv_at hl 0 rfl) ?_
    refine fg_imul hx hb d_M_word_33 ?_
    refine fg_cut (F0 m 46 ls [.int (nI (if ¬ wt = 0 then 1 else 0)), .int (nI (2 * ((2 * ((1 * 256) * 4)) + (if st = 3 then 1 else 0))))]) ?_ (fun j_46 => ?_)
    · refine fg_iadd hx hb d_M_word_46 ?_
      refine lv_istore_n (lv' := [(1, .int (nI ((2 * ((2 * ((1 * 256) * 4)) + (if st = 3 then 1 else 0))) + (if ¬ wt = 0 then 1 else 0)))), (0, .ref h0)]) hx hb d_M_word_47 rfl hl (by decide) rfl (fun ls hl => ?_)
      refine lv_iconst (v := (nI 2)) hx hb d_M_word_48 (by decide) ?_
      refine lv_iload_n hx hb d_M_word_49 rfl (lv_at hl 0 rfl) ?_
      refine fg_imul hx hb d_M_word_50 ?_
      refine fg_cut (F0 m 63 ls [.int (nI (if ¬ ag = 0 then 1 else 0)), .int (nI (2 * ((2 * ((2 * ((1 * 256) * 4)) + (if st = 3 then 1 else 0))) + (if ¬ wt = 0 then 1 else 0))))]) ?_ (fun j_63 => ?_)
      · refine fg_iadd hx hb d_M_word_63 ?_
        refine lv_istore_n (lv' := [(1, .int (nI ((2 * ((2 * ((2 * ((1 * 256) * 4)) + (if st = 3 then 1 else 0))) + (if ¬ wt = 0 then 1 else 0))) + (if ¬ ag = 0 then 1 else 0)))), (0, .ref h0)]) hx hb d_M_word_64 rfl hl (by decide) rfl (fun ls hl => ?_)
        refine lv_iconst (v := (nI 4)) hx hb d_M_word_65 (by decide) ?_
        refine lv_iload_n hx hb d_M_word_66 rfl (lv_at hl 0 rfl) ?_
        refine fg_imul hx hb d_M_word_67 ?_
        refine lv_aload_n hx hb d_M_word_68 rfl (lv_at hl 1 rfl) ?_
        refine va_get (D := (dC, dI)) (ci := 3) (v := .int (nI bs)) (C := R_M) (T := F_M) (N := 15) hx hb ht i_M hown hK hP 0 rfl rfl 10 (by decide) (ht _ m_207) (fun _ h9 => h9) rfl d_M_word_69 ?_
        refine fg_iadd hx hb d_M_word_72 ?_
        refine lv_istore_n (lv' := [(1, .int (nI ((4 * ((2 * ((2 * ((2 * ((1 * 256) * 4)) + (if st = 3 then 1 else 0))) + (if ¬ wt = 0 then 1 else 0))) + (if ¬ ag = 0 then 1 else 0))) + bs))), (0, .ref h0)]) hx hb d_M_word_73 rfl hl (by decide) rfl (fun ls hl => ?_)
        refine lv_sipush (v := (nI 512)) hx hb d_M_word_74 (by decide) ?_
        refine lv_iload_n hx hb d_M_word_77 rfl (lv_at hl 0 rfl) ?_
        refine fg_imul hx hb d_M_word_78 ?_
        refine lv_aload_n hx hb d_M_word_79 rfl (lv_at hl 1 rfl) ?_
        refine va_get (D := (dC, dI)) (ci := 3) (v := .int (nI nx)) (C := R_M) (T := F_M) (N := 15) hx hb ht i_M hown hK hP 0 rfl rfl 9 (by decide) (ht _ m_206) (fun _ h9 => h9) rfl d_M_word_80 ?_
        refine fg_iadd hx hb d_M_word_83 ?_
        exact W.iret (v := (nI ((512 * ((4 * ((2 * ((2 * ((2 * ((1 * 256) * 4)) + (if st = 3 then 1 else 0))) + (if ¬ wt = 0 then 1 else 0))) + (if ¬ ag = 0 then 1 else 0))) + bs)) + nx))) hx hb hr (fun t9 ht9 hW9 => ⟨⟨(nI ((512 * ((4 * ((2 * ((2 * ((2 * ((1 * 256) * 4)) + (if st = 3 then 1 else 0))) + (if ¬ wt = 0 then 1 else 0))) + (if ¬ ag = 0 then 1 else 0))) + bs)) + nx)), (), rfl, congrArg nI (wrd_m st nx bs wt ag), by rw [ht9]; exact hP, by rw [hAe]; exact hD⟩, hS.F ht9⟩) hS.2.2 d_M_word_84
      · refine lv_aload_n hx hb d_M_word_51 rfl (lv_at hl 1 rfl) ?_
        refine va_get (D := (dC, dI)) (ci := 3) (v := .int (nI ag)) (C := R_M) (T := F_M) (N := 15) hx hb ht i_M hown hK hP 0 rfl rfl 12 (by decide) (ht _ m_209) (fun _ h9 => h9) rfl d_M_word_52 ?_
        refine fg_if_eq (tgt := 62) hx hb d_M_word_55 (by decide) (by omega) (fun c_55 => ?_) (fun c_55 => ?_)
        · refine lv_iconst (v := (nI 0)) hx hb d_M_word_62 (by decide) ?_
          exact fg_nm (congrArg nI ((if_neg (by omega)).symm)) j_63
        · refine lv_iconst (v := (nI 1)) hx hb d_M_word_58 (by decide) ?_
          refine lv_goto (tgt := 63) hx hb d_M_word_59 (by decide) ?_
          exact fg_nm (congrArg nI ((if_pos (by omega)).symm)) j_63
    · refine lv_aload_n hx hb d_M_word_34 rfl (lv_at hl 1 rfl) ?_
      refine va_get (D := (dC, dI)) (ci := 3) (v := .int (nI wt)) (C := R_M) (T := F_M) (N := 15) hx hb ht i_M hown hK hP 0 rfl rfl 11 (by decide) (ht _ m_208) (fun _ h9 => h9) rfl d_M_word_35 ?_
      refine fg_if_eq (tgt := 45) hx hb d_M_word_38 (by decide) (by omega) (fun c_38 => ?_) (fun c_38 => ?_)
      · refine lv_iconst (v := (nI 0)) hx hb d_M_word_45 (by decide) ?_
        exact fg_nm (congrArg nI ((if_neg (by omega)).symm)) j_46
      · refine lv_iconst (v := (nI 1)) hx hb d_M_word_41 (by decide) ?_
        refine lv_goto (tgt := 46) hx hb d_M_word_42 (by decide) ?_
        exact fg_nm (congrArg nI ((if_pos (by omega)).symm)) j_46
  · refine lv_aload_n hx hb d_M_word_16 rfl (lv_at hl 1 rfl) ?_
    refine va_get (D := (dC, dI)) (ci := 3) (v := .int (nI st)) (C := R_M) (T := F_M) (N := 15) hx hb ht i_M hown hK hP 0 rfl rfl 8 (by decide) (ht _ m_205) (fun _ h9 => h9) rfl d_M_word_17 ?_
    refine lv_iconst (v := (nI 3)) hx hb d_M_word_20 (by decide) ?_
    refine fg_cmp_ne (tgt := 28) hx hb d_M_word_21 (by decide) (by omega) (by omega) (fun c_21 => ?_) (fun c_21 => ?_)
    · refine lv_iconst (v := (nI 0)) hx hb d_M_word_28 (by decide) ?_
      exact fg_nm (congrArg nI ((if_neg (by omega)).symm)) j_29
    · refine lv_iconst (v := (nI 1)) hx hb d_M_word_24 (by decide) ?_
      refine lv_goto (tgt := 29) hx hb d_M_word_25 (by decide) ?_
      exact fg_nm (congrArg nI ((if_pos (by omega)).symm)) j_29
set_option maxHeartbeats 4000000 in
set_option maxRecDepth 100000 in
/-- Model.about(x) -/
theorem c_M_about (l : Launch) (dC : Nat → ClassId) (dI : Nat → Nat → Nat) (cB cI cG : ClassId) (h0 a1 a2 a3 a4 th n cn kl : Nat) (st nx bs wt ag rf ac : Nat) (x : Int32) (sz : Nat) : Met l y_M_about (Cond.code y_M_about b_M_about 2 (some .int) :: w_all) ({ frames := 0, cells := 0, slots := 0, locals := 0 }) (va_Pc [.ref h0, .int x] (fgPre (dC, dI) (tysA cB cI cG) [(h0, .inr (3, [.int (nI th), .ref a1, .int (nI n), .int (nI cn), .ref a2, .ref a3, .ref a4, .int (nI kl), .int (nI st), .int (nI nx), .int (nI bs), .int (nI wt), .int (nI ag), .int (nI rf), .int (nI ac)]))] sz)) (va_Qi (fun (r9 : Int32) (_ : Unit) => r9 = abt st nx cn rf ac x) (fun _ t9 => fgPost (dC, dI) [(h0, .inr (3, [.int (nI th), .ref a1, .int (nI n), .int (nI cn), .ref a2, .ref a3, .ref a4, .int (nI kl), .int (nI st), .int (nI nx), .int (nI bs), .int (nI wt), .int (nI ag), .int (nI rf), .int (nI ac)]))] [(h0, .inr (3, [.int (nI 0), .ref a1, .int (nI n), .int (nI cn), .ref a2, .ref a3, .ref a4, .int (nI kl), .int (nI st), .int (nI nx), .int (nI bs), .int (nI wt), .int (nI ag), .int (nI rf), .int (nI ac)]))] sz t9) (va_A [(h0, .inr (3, [.int (nI th), .ref a1, .int (nI n), .int (nI cn), .ref a2, .ref a3, .ref a4, .int (nI kl), .int (nI st), .int (nI nx), .int (nI bs), .int (nI wt), .int (nI ag), .int (nI rf), .int (nI ac)]))] sz)) 0 0 (va_A [(h0, .inr (3, [.int (nI th), .ref a1, .int (nI n), .int (nI cn), .ref a2, .ref a3, .ref a4, .int (nI kl), .int (nI st), .int (nI nx), .int (nI bs), .int (nI wt), .int (nI ag), .int (nI rf), .int (nI ac)]))] sz) := by
  refine Met.ofW (cc := b_M_about) (maxL := 2) (ret := (some .int)) (by decide) rfl ?_
  intro p e s m args below meth c s₁ B hml hv
  obtain ⟨rfl, hsz, hP, hK, hD0⟩ := hv
  have hx := B.exec
  have hb := B.bytes
  have hr := B.returns
  have hts := atoms_spec (ws := (Cond.code y_M_about b_M_about 2 (some .int) :: w_all)) B.pre
  have ht : ∀ w ∈ w_all, w.before _ s = true := fun w h => hts w (List.mem_cons_of_mem _ h)
  have hown : s.vm.findClass R_M = some m.cls := findClass_of_methodNamed B.named
  have hlocks := B.notSynchronized
  subst hsz
  have hD := hD0.self (sz := s.heap.size)
  generalize hAe : va_A [(h0, .inr (3, [.int (nI th), .ref a1, .int (nI n), .int (nI cn), .ref a2, .ref a3, .ref a4, .int (nI kl), .int (nI st), .int (nI nx), .int (nI bs), .int (nI wt), .int (nI ag), .int (nI rf), .int (nI ac)]))] s.heap.size = A at hD ⊢
  have hA : ∀ q : Nat, s.heap.size ≤ q → A q := fun q h => by rw [← hAe]; exact Or.inr h
  have hS : va_S A s.heap s.heap [] := va_S.rf
  have hl := lv_entry ([.ref h0, .int x]) (n := 2) (Nat.le_of_ble_eq_true rfl)
  rw [lg_entry_eq]
  generalize (lg_sl ([.ref h0, .int x]) ++ List.replicate (2 - (lg_sl ([.ref h0, .int x])).length) Slot.unset).toArray = ls at hl ⊢
  have hl : lv_has ls 2 [(0, .ref h0), (1, .int x)] := hl
  refine lv_aload_n hx hb d_M_about_0 rfl (lv_at hl 0 rfl) ?_
  refine lv_iconst (v := (nI 0)) hx hb d_M_about_1 (by decide) ?_
  refine va_put (D := (dC, dI)) (ci := 3) (v := .int (nI 0)) (ty := .int) (C := R_M) (T := F_M) (N := 15) hx hb ht i_M t_M t_M_ok n_M hown hK hP hD hS 0 rfl rfl 0 (by decide) (ht _ m_197) (fun _ h9 => h9) rfl (t_M_ok 0 (by decide)) rfl rfl (Nat.le_of_ble_eq_true rfl) d_M_about_2 (fun H locs hP hD hS => ?_)
  have hP : va_P (dC, dI) fgC [(h0, .inr (3, [.int (nI 0), .ref a1, .int (nI n), .int (nI cn), .ref a2, .ref a3, .ref a4, .int (nI kl), .int (nI st), .int (nI nx), .int (nI bs), .int (nI wt), .int (nI ag), .int (nI rf), .int (nI ac)]))] H := hP
  have hD : va_D A [(h0, .inr (3, [.int (nI 0), .ref a1, .int (nI n), .int (nI cn), .ref a2, .ref a3, .ref a4, .int (nI kl), .int (nI st), .int (nI nx), .int (nI bs), .int (nI wt), .int (nI ag), .int (nI rf), .int (nI ac)]))] := hD
  refine lv_iload_n hx hb d_M_about_5 rfl (lv_at hl 1 rfl) ?_
  refine lv_if_ne (tgt := 16) hx hb d_M_about_6 (by decide) (fun c_6 => ?_) (fun c_6 => ?_)
  · refine lv_iload_n hx hb d_M_about_16 rfl (lv_at hl 1 rfl) ?_
    refine lv_iconst (v := (nI 1)) hx hb d_M_about_17 (by decide) ?_
    refine lv_icmp_ne (tgt := 28) hx hb d_M_about_18 (by decide) (fun c_18 => ?_) (fun c_18 => ?_)
    · refine lv_iload_n hx hb d_M_about_28 rfl (lv_at hl 1 rfl) ?_
      refine lv_iconst (v := (nI 2)) hx hb d_M_about_29 (by decide) ?_
      refine lv_icmp_ne (tgt := 40) hx hb d_M_about_30 (by decide) (fun c_30 => ?_) (fun c_30 => ?_)
      · refine lv_iload_n hx hb d_M_about_40 rfl (lv_at hl 1 rfl) ?_
        refine lv_iconst (v := (nI 3)) hx hb d_M_about_41 (by decide) ?_
        refine lv_icmp_ne (tgt := 52) hx hb d_M_about_42 (by decide) (fun c_42 => ?_) (fun c_42 => ?_)
        · refine lv_iload_n hx hb d_M_about_52 rfl (lv_at hl 1 rfl) ?_
          refine lv_iconst (v := (nI 4)) hx hb d_M_about_53 (by decide) ?_
          refine lv_icmp_ne (tgt := 64) hx hb d_M_about_54 (by decide) (fun c_54 => ?_) (fun c_54 => ?_)
          · refine lv_iconst (v := (-1)) hx hb d_M_about_64 (by decide) ?_
            exact W.iret (v := (-1)) hx hb hr (fun t9 ht9 hW9 => ⟨⟨(-1), (), rfl, (by unfold abt; rw [if_neg c_6, if_neg c_18, if_neg c_30, if_neg c_42, if_neg c_54]), by rw [ht9]; exact hP, by rw [hAe]; exact hD⟩, hS.F ht9⟩) hS.2.2 d_M_about_65
          · refine lv_aload_n hx hb d_M_about_57 rfl (lv_at hl 0 rfl) ?_
            refine va_get (D := (dC, dI)) (ci := 3) (v := .int (nI ac)) (C := R_M) (T := F_M) (N := 15) hx hb ht i_M hown hK hP 0 rfl rfl 14 (by decide) (ht _ m_211) (fun _ h9 => h9) rfl d_M_about_58 ?_
            refine lv_goto (tgt := 65) hx hb d_M_about_61 (by decide) ?_
            exact W.iret (v := (nI ac)) hx hb hr (fun t9 ht9 hW9 => ⟨⟨(nI ac), (), rfl, (by unfold abt; rw [if_neg c_6, if_neg c_18, if_neg c_30, if_neg c_42, if_pos c_54]), by rw [ht9]; exact hP, by rw [hAe]; exact hD⟩, hS.F ht9⟩) hS.2.2 d_M_about_65
        · refine lv_aload_n hx hb d_M_about_45 rfl (lv_at hl 0 rfl) ?_
          refine va_get (D := (dC, dI)) (ci := 3) (v := .int (nI rf)) (C := R_M) (T := F_M) (N := 15) hx hb ht i_M hown hK hP 0 rfl rfl 13 (by decide) (ht _ m_210) (fun _ h9 => h9) rfl d_M_about_46 ?_
          refine lv_goto (tgt := 65) hx hb d_M_about_49 (by decide) ?_
          exact W.iret (v := (nI rf)) hx hb hr (fun t9 ht9 hW9 => ⟨⟨(nI rf), (), rfl, (by unfold abt; rw [if_neg c_6, if_neg c_18, if_neg c_30, if_pos c_42]), by rw [ht9]; exact hP, by rw [hAe]; exact hD⟩, hS.F ht9⟩) hS.2.2 d_M_about_65
      · refine lv_aload_n hx hb d_M_about_33 rfl (lv_at hl 0 rfl) ?_
        refine va_get (D := (dC, dI)) (ci := 3) (v := .int (nI cn)) (C := R_M) (T := F_M) (N := 15) hx hb ht i_M hown hK hP 0 rfl rfl 3 (by decide) (ht _ m_200) (fun _ h9 => h9) rfl d_M_about_34 ?_
        refine lv_goto (tgt := 65) hx hb d_M_about_37 (by decide) ?_
        exact W.iret (v := (nI cn)) hx hb hr (fun t9 ht9 hW9 => ⟨⟨(nI cn), (), rfl, (by unfold abt; rw [if_neg c_6, if_neg c_18, if_pos c_30]), by rw [ht9]; exact hP, by rw [hAe]; exact hD⟩, hS.F ht9⟩) hS.2.2 d_M_about_65
    · refine lv_aload_n hx hb d_M_about_21 rfl (lv_at hl 0 rfl) ?_
      refine va_get (D := (dC, dI)) (ci := 3) (v := .int (nI nx)) (C := R_M) (T := F_M) (N := 15) hx hb ht i_M hown hK hP 0 rfl rfl 9 (by decide) (ht _ m_206) (fun _ h9 => h9) rfl d_M_about_22 ?_
      refine lv_goto (tgt := 65) hx hb d_M_about_25 (by decide) ?_
      exact W.iret (v := (nI nx)) hx hb hr (fun t9 ht9 hW9 => ⟨⟨(nI nx), (), rfl, (by unfold abt; rw [if_neg c_6, if_pos c_18]), by rw [ht9]; exact hP, by rw [hAe]; exact hD⟩, hS.F ht9⟩) hS.2.2 d_M_about_65
  · refine lv_aload_n hx hb d_M_about_9 rfl (lv_at hl 0 rfl) ?_
    refine va_get (D := (dC, dI)) (ci := 3) (v := .int (nI st)) (C := R_M) (T := F_M) (N := 15) hx hb ht i_M hown hK hP 0 rfl rfl 8 (by decide) (ht _ m_205) (fun _ h9 => h9) rfl d_M_about_10 ?_
    refine lv_goto (tgt := 65) hx hb d_M_about_13 (by decide) ?_
    exact W.iret (v := (nI st)) hx hb hr (fun t9 ht9 hW9 => ⟨⟨(nI st), (), rfl, (by unfold abt; rw [if_pos c_6]), by rw [ht9]; exact hP, by rw [hAe]; exact hD⟩, hS.F ht9⟩) hS.2.2 d_M_about_65
set_option maxHeartbeats 4000000 in
set_option maxRecDepth 100000 in
/-- Model.give(wl, x) -/
theorem c_M_give (l : Launch) (dC : Nat → ClassId) (dI : Nat → Nat → Nat) (cB cI cG : ClassId) (h0 a1 a2 a3 a4 th n cn kl : Nat) (st nx bs wt ag rf ac : Nat) (t : Nat → Int32) (wl : Int64) (x : Int32) (sz : Nat) (hn : n ≤ 259) : Met l y_M_give (Cond.code y_M_give b_M_give 5 (some .boolean) :: w_all) ({ frames := 0, cells := 0, slots := 0, locals := 0 }) (va_Pc [.ref h0, .long wl, .int x] (fgPre (dC, dI) (tysA cB cI cG) [(h0, .inr (3, [.int (nI th), .ref a1, .int (nI n), .int (nI cn), .ref a2, .ref a3, .ref a4, .int (nI kl), .int (nI st), .int (nI nx), .int (nI bs), .int (nI wt), .int (nI ag), .int (nI rf), .int (nI ac)])), (a1, .inl (cB, 259, .inl t))] sz)) (va_Qi (fun (r9 : Int32) (u : Nat) => r9 = nI (if u = 0 then 0 else 1) ∧ u = gvK n x) (fun u t9 => fgPost (dC, dI) [(h0, .inr (3, [.int (nI th), .ref a1, .int (nI n), .int (nI cn), .ref a2, .ref a3, .ref a4, .int (nI kl), .int (nI st), .int (nI nx), .int (nI bs), .int (nI wt), .int (nI ag), .int (nI rf), .int (nI ac)])), (a1, .inl (cB, 259, .inl t))] [(h0, .inr (3, [.int (nI 0), .ref a1, .int (nI (n + u)), .int (nI cn), .ref a2, .ref a3, .ref a4, .int (nI kl), .int (nI st), .int (nI nx), .int (nI bs), .int (nI wt), .int (nI ag), .int (nI rf), .int (nI ac)])), (a1, .inl (cB, 259, .inl (gv t n wl u)))] sz t9) (va_A [(h0, .inr (3, [.int (nI th), .ref a1, .int (nI n), .int (nI cn), .ref a2, .ref a3, .ref a4, .int (nI kl), .int (nI st), .int (nI nx), .int (nI bs), .int (nI wt), .int (nI ag), .int (nI rf), .int (nI ac)])), (a1, .inl (cB, 259, .inl t))] sz)) 0 0 (va_A [(h0, .inr (3, [.int (nI th), .ref a1, .int (nI n), .int (nI cn), .ref a2, .ref a3, .ref a4, .int (nI kl), .int (nI st), .int (nI nx), .int (nI bs), .int (nI wt), .int (nI ag), .int (nI rf), .int (nI ac)])), (a1, .inl (cB, 259, .inl t))] sz) := by
  refine Met.ofW (cc := b_M_give) (maxL := 5) (ret := (some .boolean)) (by decide) rfl ?_
  intro p e s m args below meth c s₁ B hml hv
  obtain ⟨rfl, hsz, hP, hK, hD0⟩ := hv
  have hx := B.exec
  have hb := B.bytes
  have hr := B.returns
  have hts := atoms_spec (ws := (Cond.code y_M_give b_M_give 5 (some .boolean) :: w_all)) B.pre
  have ht : ∀ w ∈ w_all, w.before _ s = true := fun w h => hts w (List.mem_cons_of_mem _ h)
  have hown : s.vm.findClass R_M = some m.cls := findClass_of_methodNamed B.named
  have hlocks := B.notSynchronized
  subst hsz
  have hD := hD0.self (sz := s.heap.size)
  generalize hAe : va_A [(h0, .inr (3, [.int (nI th), .ref a1, .int (nI n), .int (nI cn), .ref a2, .ref a3, .ref a4, .int (nI kl), .int (nI st), .int (nI nx), .int (nI bs), .int (nI wt), .int (nI ag), .int (nI rf), .int (nI ac)])), (a1, .inl (cB, 259, .inl t))] s.heap.size = A at hD ⊢
  have hA : ∀ q : Nat, s.heap.size ≤ q → A q := fun q h => by rw [← hAe]; exact Or.inr h
  have hS : va_S A s.heap s.heap [] := va_S.rf
  have hl := lv_entry ([.ref h0, .long wl, .int x]) (n := 5) (Nat.le_of_ble_eq_true rfl)
  rw [lg_entry_eq]
  generalize (lg_sl ([.ref h0, .long wl, .int x]) ++ List.replicate (5 - (lg_sl ([.ref h0, .long wl, .int x])).length) Slot.unset).toArray = ls at hl ⊢
  have hl : lv_has ls 5 [(0, .ref h0), (1, .long wl), (3, .int x)] := hl
  refine lv_aload_n hx hb d_M_give_0 rfl (lv_at hl 0 rfl) ?_
  refine lv_iconst (v := (nI 0)) hx hb d_M_give_1 (by decide) ?_
  refine va_put (D := (dC, dI)) (ci := 3) (v := .int (nI 0)) (ty := .int) (C := R_M) (T := F_M) (N := 15) hx hb ht i_M t_M t_M_ok n_M hown hK hP hD hS 0 rfl rfl 0 (by decide) (ht _ m_197) (fun _ h9 => h9) rfl (t_M_ok 0 (by decide)) rfl rfl (Nat.le_of_ble_eq_true rfl) d_M_give_2 (fun H locs hP hD hS => ?_)
  have hP : va_P (dC, dI) fgC [(h0, .inr (3, [.int (nI 0), .ref a1, .int (nI n), .int (nI cn), .ref a2, .ref a3, .ref a4, .int (nI kl), .int (nI st), .int (nI nx), .int (nI bs), .int (nI wt), .int (nI ag), .int (nI rf), .int (nI ac)])), (a1, .inl (cB, 259, .inl t))] H := hP
  have hD : va_D A [(h0, .inr (3, [.int (nI 0), .ref a1, .int (nI n), .int (nI cn), .ref a2, .ref a3, .ref a4, .int (nI kl), .int (nI st), .int (nI nx), .int (nI bs), .int (nI wt), .int (nI ag), .int (nI rf), .int (nI ac)])), (a1, .inl (cB, 259, .inl t))] := hD
  refine lv_iload_n hx hb d_M_give_5 rfl (lv_at hl 2 rfl) ?_
  refine lv_iconst (v := (nI 1)) hx hb d_M_give_6 (by decide) ?_
  refine lv_icmp_lt (tgt := 28) hx hb d_M_give_7 (by decide) (fun c_7 => ?_) (fun c_7 => ?_)
  · refine lv_iconst (v := (nI 0)) hx hb d_M_give_28 (by decide) ?_
    exact W.zret (ty := .boolean) (v := (nI 0)) hx hb hr (fg_nZ (by omega)) (fun t9 ht9 hW9 => ⟨⟨(nI 0), 0, rfl, ⟨rfl, (gvK_lt c_7).symm⟩, by rw [ht9]; exact hP, by rw [hAe]; exact hD⟩, hS.F ht9⟩) hS.2.2 d_M_give_29
  · refine lv_iload_n hx hb d_M_give_10 rfl (lv_at hl 2 rfl) ?_
    refine lv_bipush (v := (nI 8)) hx hb d_M_give_11 (by decide) ?_
    refine lv_icmp_gt (tgt := 28) hx hb d_M_give_13 (by decide) (fun c_13 => ?_) (fun c_13 => ?_)
    · refine lv_iconst (v := (nI 0)) hx hb d_M_give_28 (by decide) ?_
      exact W.zret (ty := .boolean) (v := (nI 0)) hx hb hr (fg_nZ (by omega)) (fun t9 ht9 hW9 => ⟨⟨(nI 0), 0, rfl, ⟨rfl, (gvK_gt c_13).symm⟩, by rw [ht9]; exact hP, by rw [hAe]; exact hD⟩, hS.F ht9⟩) hS.2.2 d_M_give_29
    · obtain ⟨k, hk1, hk8, rfl⟩ := fg_rng c_7 c_13
      refine lv_aload_n hx hb d_M_give_16 rfl (lv_at hl 0 rfl) ?_
      refine va_get (D := (dC, dI)) (ci := 3) (v := .int (nI n)) (C := R_M) (T := F_M) (N := 15) hx hb ht i_M hown hK hP 0 rfl rfl 2 (by decide) (ht _ m_199) (fun _ h9 => h9) rfl d_M_give_17 ?_
      refine lv_sipush (v := (nI 259)) hx hb d_M_give_20 (by decide) ?_
      refine lv_iload_n hx hb d_M_give_23 rfl (lv_at hl 2 rfl) ?_
      refine fg_isub hx hb d_M_give_24 (by omega) ?_
      refine fg_cmp_le (tgt := 30) hx hb d_M_give_25 (by decide) (by omega) (by omega) (fun c_25 => ?_) (fun c_25 => ?_)
      · refine lv_iconst (v := (nI 0)) hx hb d_M_give_30 (by decide) ?_
        refine lv_istore (lv' := [(4, .int (nI 0)), (0, .ref h0), (1, .long wl), (3, .int (nI k))]) hx hb d_M_give_31 hl (by decide) rfl (fun ls hl => ?_)
        refine fg_loop (fun d ls H1 locs1 => ∃ i, i + d = k ∧ lv_has ls 5 [(0, .ref h0), (1, .long wl), (3, .int (nI k)), (4, .int (nI i))] ∧ va_P (dC, dI) fgC [(h0, .inr (3, [.int (nI 0), .ref a1, .int (nI n), .int (nI cn), .ref a2, .ref a3, .ref a4, .int (nI kl), .int (nI st), .int (nI nx), .int (nI bs), .int (nI wt), .int (nI ag), .int (nI rf), .int (nI ac)])), (a1, .inl (cB, 259, .inl (gv t n wl i)))] H1 ∧ va_D A [(h0, .inr (3, [.int (nI 0), .ref a1, .int (nI n), .int (nI cn), .ref a2, .ref a3, .ref a4, .int (nI kl), .int (nI st), .int (nI nx), .int (nI bs), .int (nI wt), .int (nI ag), .int (nI rf), .int (nI ac)])), (a1, .inl (cB, 259, .inl (gv t n wl i)))] ∧ va_S A s.heap H1 locs1) (fun d ih ls H locs hI => ?_) k ⟨0, by omega, lv_sub hl [1, 2, 3, 0] rfl, hP, hD, hS⟩
        obtain ⟨i, hi, hl, hP, hD, hS⟩ := hI
        refine lv_iload hx hb d_M_give_33 (lv_at hl 3 rfl) ?_
        refine lv_iload_n hx hb d_M_give_35 rfl (lv_at hl 2 rfl) ?_
        refine fg_cmp_ge (tgt := 69) hx hb d_M_give_36 (by decide) (by omega) (by omega) (fun c_36 => ?_) (fun c_36 => ?_)
        · refine lv_aload_n hx hb d_M_give_69 rfl (lv_at hl 0 rfl) ?_
          refine lv_dup hx hb d_M_give_70 rfl ?_
          refine va_get (D := (dC, dI)) (ci := 3) (v := .int (nI n)) (C := R_M) (T := F_M) (N := 15) hx hb ht i_M hown hK hP 0 rfl rfl 2 (by decide) (ht _ m_199) (fun _ h9 => h9) rfl d_M_give_71 ?_
          refine lv_iload_n hx hb d_M_give_74 rfl (lv_at hl 2 rfl) ?_
          refine fg_iadd hx hb d_M_give_75 ?_
          refine va_put (D := (dC, dI)) (ci := 3) (v := .int (nI (n + k))) (ty := .int) (C := R_M) (T := F_M) (N := 15) hx hb ht i_M t_M t_M_ok n_M hown hK hP hD hS 0 rfl rfl 2 (by decide) (ht _ m_199) (fun _ h9 => h9) rfl (t_M_ok 2 (by decide)) rfl rfl (Nat.le_of_ble_eq_true rfl) d_M_give_76 (fun H locs hP hD hS => ?_)
          have hP : va_P (dC, dI) fgC [(h0, .inr (3, [.int (nI 0), .ref a1, .int (nI (n + k)), .int (nI cn), .ref a2, .ref a3, .ref a4, .int (nI kl), .int (nI st), .int (nI nx), .int (nI bs), .int (nI wt), .int (nI ag), .int (nI rf), .int (nI ac)])), (a1, .inl (cB, 259, .inl (gv t n wl i)))] H := hP
          have hD : va_D A [(h0, .inr (3, [.int (nI 0), .ref a1, .int (nI (n + k)), .int (nI cn), .ref a2, .ref a3, .ref a4, .int (nI kl), .int (nI st), .int (nI nx), .int (nI bs), .int (nI wt), .int (nI ag), .int (nI rf), .int (nI ac)])), (a1, .inl (cB, 259, .inl (gv t n wl i)))] := hD
          refine lv_iconst (v := (nI 1)) hx hb d_M_give_79 (by decide) ?_
          obtain rfl : i = k := by omega
          exact W.zret (ty := .boolean) (v := (nI 1)) hx hb hr (fg_nZ (by omega)) (fun t9 ht9 hW9 => ⟨⟨(nI 1), i, rfl, ⟨(by rw [if_neg (by omega)]), (gvK_in hk1 hk8 (by omega)).symm⟩, by rw [ht9]; exact hP, by rw [hAe]; exact hD⟩, hS.F ht9⟩) hS.2.2 d_M_give_80
        · refine lv_aload_n hx hb d_M_give_39 rfl (lv_at hl 0 rfl) ?_
          refine va_get (D := (dC, dI)) (ci := 3) (v := .ref a1) (C := R_M) (T := F_M) (N := 15) hx hb ht i_M hown hK hP 0 rfl rfl 1 (by decide) (ht _ m_198) (fun _ h9 => h9) rfl d_M_give_40 ?_
          refine lv_aload_n hx hb d_M_give_43 rfl (lv_at hl 0 rfl) ?_
          refine va_get (D := (dC, dI)) (ci := 3) (v := .int (nI n)) (C := R_M) (T := F_M) (N := 15) hx hb ht i_M hown hK hP 0 rfl rfl 2 (by decide) (ht _ m_199) (fun _ h9 => h9) rfl d_M_give_44 ?_
          refine lv_iload hx hb d_M_give_47 (lv_at hl 3 rfl) ?_
          refine fg_iadd hx hb d_M_give_49 ?_
          refine lv_lload_n hx hb d_M_give_50 rfl (lv_at hl 1 rfl) ?_
          refine lv_bipush (v := (nI 56)) hx hb d_M_give_51 (by decide) ?_
          refine lv_bipush (v := (nI 8)) hx hb d_M_give_53 (by decide) ?_
          refine lv_iload hx hb d_M_give_55 (lv_at hl 3 rfl) ?_
          refine fg_imul hx hb d_M_give_57 ?_
          refine fg_isub hx hb d_M_give_58 (by omega) ?_
          refine lv_lshr (v := wl >>> ((nI (56 - (8 * i))).toInt64 &&& 63)) hx hb d_M_give_59 rfl ?_
          refine lv_l2i (v := (wl >>> ((nI (56 - (8 * i))).toInt64 &&& 63)).toInt32) hx hb d_M_give_60 rfl ?_
          refine lv_i2b (v := ((wl >>> ((nI (56 - (8 * i))).toInt64 &&& 63)).toInt32).toInt8.toInt32) hx hb d_M_give_61 rfl ?_
          refine fg_bast (y := ((wl >>> ((nI (56 - (8 * i))).toInt64 &&& 63)).toInt32).toInt8.toInt32) hx hb hK hP hD hS 1 0 rfl rfl (by omega) (by decide) (pk_vb _) d_M_give_62 (fun H locs hP hD hS => ?_)
          have hP : va_P (dC, dI) fgC [(h0, .inr (3, [.int (nI 0), .ref a1, .int (nI n), .int (nI cn), .ref a2, .ref a3, .ref a4, .int (nI kl), .int (nI st), .int (nI nx), .int (nI bs), .int (nI wt), .int (nI ag), .int (nI rf), .int (nI ac)])), (a1, .inl (cB, 259, .inl (upd (gv t n wl i) (n + i) (((wl >>> ((nI (56 - (8 * i))).toInt64 &&& 63)).toInt32).toInt8.toInt32))))] H := hP
          have hD : va_D A [(h0, .inr (3, [.int (nI 0), .ref a1, .int (nI n), .int (nI cn), .ref a2, .ref a3, .ref a4, .int (nI kl), .int (nI st), .int (nI nx), .int (nI bs), .int (nI wt), .int (nI ag), .int (nI rf), .int (nI ac)])), (a1, .inl (cB, 259, .inl (upd (gv t n wl i) (n + i) (((wl >>> ((nI (56 - (8 * i))).toInt64 &&& 63)).toInt32).toInt8.toInt32))))] := hD
          refine fg_iinc (n := 1) (k := 3) (lv' := [(4, .int (nI (i + 1))), (0, .ref h0), (1, .long wl), (3, .int (nI k))]) hx hb d_M_give_63 hl rfl (by decide) rfl (fun ls hl => ?_)
          refine lv_goto (tgt := 33) hx hb d_M_give_66 (by decide) ?_
          exact ih (d - 1) (by omega) _ _ _ ⟨i + 1, by omega, lv_sub hl [1, 2, 3, 0] rfl, hP, hD, hS⟩
      · refine lv_iconst (v := (nI 0)) hx hb d_M_give_28 (by decide) ?_
        exact W.zret (ty := .boolean) (v := (nI 0)) hx hb hr (fg_nZ (by omega)) (fun t9 ht9 hW9 => ⟨⟨(nI 0), 0, rfl, ⟨rfl, (gvK_out hk8 (by omega)).symm⟩, by rw [ht9]; exact hP, by rw [hAe]; exact hD⟩, hS.F ht9⟩) hS.2.2 d_M_give_29
set_option maxHeartbeats 4000000 in
set_option maxRecDepth 100000 in
/-- Model.seal() -/
theorem c_M_seal (l : Launch) (dC : Nat → ClassId) (dI : Nat → Nat → Nat) (cB cI cG : ClassId) (h0 a1 a2 a3 a4 th n cn kl : Nat) (st nx bs wt ag rf ac : Nat) (t : Nat → Int32) (sz : Nat) (hn : n ≤ 259) : Met l y_M_seal (Cond.code y_M_seal b_M_seal 2 (some .boolean) :: w_all) ({ frames := 1, cells := 0, slots := 0, locals := 24 }) (va_Pc [.ref h0] (fgPre (dC, dI) (tysA cB cI cG) [(h0, .inr (3, [.int (nI th), .ref a1, .int (nI n), .int (nI cn), .ref a2, .ref a3, .ref a4, .int (nI kl), .int (nI st), .int (nI nx), .int (nI bs), .int (nI wt), .int (nI ag), .int (nI rf), .int (nI ac)])), (a1, .inl (cB, 259, .inl t))] sz)) (va_Qi (fun (r9 : Int32) (u : Nat × (Nat → Int32)) => r9 = nI (if n ≤ 257 then 1 else 0) ∧ u = if n ≤ 257 then (n + 2, sld t n) else (n, t)) (fun u t9 => fgPost (dC, dI) [(h0, .inr (3, [.int (nI th), .ref a1, .int (nI n), .int (nI cn), .ref a2, .ref a3, .ref a4, .int (nI kl), .int (nI st), .int (nI nx), .int (nI bs), .int (nI wt), .int (nI ag), .int (nI rf), .int (nI ac)])), (a1, .inl (cB, 259, .inl t))] [(h0, .inr (3, [.int (nI 0), .ref a1, .int (nI u.1), .int (nI cn), .ref a2, .ref a3, .ref a4, .int (nI kl), .int (nI st), .int (nI nx), .int (nI bs), .int (nI wt), .int (nI ag), .int (nI rf), .int (nI ac)])), (a1, .inl (cB, 259, .inl u.2))] sz t9) (va_A [(h0, .inr (3, [.int (nI th), .ref a1, .int (nI n), .int (nI cn), .ref a2, .ref a3, .ref a4, .int (nI kl), .int (nI st), .int (nI nx), .int (nI bs), .int (nI wt), .int (nI ag), .int (nI rf), .int (nI ac)])), (a1, .inl (cB, 259, .inl t))] sz)) 0 0 (va_A [(h0, .inr (3, [.int (nI th), .ref a1, .int (nI n), .int (nI cn), .ref a2, .ref a3, .ref a4, .int (nI kl), .int (nI st), .int (nI nx), .int (nI bs), .int (nI wt), .int (nI ag), .int (nI rf), .int (nI ac)])), (a1, .inl (cB, 259, .inl t))] sz) := by
  refine Met.ofW (cc := b_M_seal) (maxL := 2) (ret := (some .boolean)) (by decide) rfl ?_
  intro p e s m args below meth c s₁ B hml hv
  obtain ⟨rfl, hsz, hP, hK, hD0⟩ := hv
  have hx := B.exec
  have hb := B.bytes
  have hr := B.returns
  have hts := atoms_spec (ws := (Cond.code y_M_seal b_M_seal 2 (some .boolean) :: w_all)) B.pre
  have ht : ∀ w ∈ w_all, w.before _ s = true := fun w h => hts w (List.mem_cons_of_mem _ h)
  have hown : s.vm.findClass R_M = some m.cls := findClass_of_methodNamed B.named
  have hlocks := B.notSynchronized
  subst hsz
  have hD := hD0.self (sz := s.heap.size)
  generalize hAe : va_A [(h0, .inr (3, [.int (nI th), .ref a1, .int (nI n), .int (nI cn), .ref a2, .ref a3, .ref a4, .int (nI kl), .int (nI st), .int (nI nx), .int (nI bs), .int (nI wt), .int (nI ag), .int (nI rf), .int (nI ac)])), (a1, .inl (cB, 259, .inl t))] s.heap.size = A at hD ⊢
  have hA : ∀ q : Nat, s.heap.size ≤ q → A q := fun q h => by rw [← hAe]; exact Or.inr h
  have hS : va_S A s.heap s.heap [] := va_S.rf
  have hl := lv_entry ([.ref h0]) (n := 2) (Nat.le_of_ble_eq_true rfl)
  rw [lg_entry_eq]
  generalize (lg_sl ([.ref h0]) ++ List.replicate (2 - (lg_sl ([.ref h0])).length) Slot.unset).toArray = ls at hl ⊢
  have hl : lv_has ls 2 [(0, .ref h0)] := hl
  refine lv_aload_n hx hb d_M_seal_0 rfl (lv_at hl 0 rfl) ?_
  refine lv_iconst (v := (nI 0)) hx hb d_M_seal_1 (by decide) ?_
  refine va_put (D := (dC, dI)) (ci := 3) (v := .int (nI 0)) (ty := .int) (C := R_M) (T := F_M) (N := 15) hx hb ht i_M t_M t_M_ok n_M hown hK hP hD hS 0 rfl rfl 0 (by decide) (ht _ m_197) (fun _ h9 => h9) rfl (t_M_ok 0 (by decide)) rfl rfl (Nat.le_of_ble_eq_true rfl) d_M_seal_2 (fun H locs hP hD hS => ?_)
  have hP : va_P (dC, dI) fgC [(h0, .inr (3, [.int (nI 0), .ref a1, .int (nI n), .int (nI cn), .ref a2, .ref a3, .ref a4, .int (nI kl), .int (nI st), .int (nI nx), .int (nI bs), .int (nI wt), .int (nI ag), .int (nI rf), .int (nI ac)])), (a1, .inl (cB, 259, .inl t))] H := hP
  have hD : va_D A [(h0, .inr (3, [.int (nI 0), .ref a1, .int (nI n), .int (nI cn), .ref a2, .ref a3, .ref a4, .int (nI kl), .int (nI st), .int (nI nx), .int (nI bs), .int (nI wt), .int (nI ag), .int (nI rf), .int (nI ac)])), (a1, .inl (cB, 259, .inl t))] := hD
  refine lv_aload_n hx hb d_M_seal_5 rfl (lv_at hl 0 rfl) ?_
  refine va_get (D := (dC, dI)) (ci := 3) (v := .int (nI n)) (C := R_M) (T := F_M) (N := 15) hx hb ht i_M hown hK hP 0 rfl rfl 2 (by decide) (ht _ m_199) (fun _ h9 => h9) rfl d_M_seal_6 ?_
  refine lv_sipush (v := (nI 257)) hx hb d_M_seal_9 (by decide) ?_
  refine fg_cmp_le (tgt := 17) hx hb d_M_seal_12 (by decide) (by omega) (by omega) (fun c_12 => ?_) (fun c_12 => ?_)
  · refine lv_aload_n hx hb d_M_seal_17 rfl (lv_at hl 0 rfl) ?_
    refine lv_aload_n hx hb d_M_seal_18 rfl (lv_at hl 0 rfl) ?_
    refine va_get (D := (dC, dI)) (ci := 3) (v := .int (nI n)) (C := R_M) (T := F_M) (N := 15) hx hb ht i_M hown hK hP 0 rfl rfl 2 (by decide) (ht _ m_199) (fun _ h9 => h9) rfl d_M_seal_19 ?_
    refine vp_callSi (va_Run.run (va_runV (As := [.int (nI n)]) (rest := []) ⟨hx, hb, hml, hown, ht⟩ (c_M_check l dC dI cB cI cG h0 a1 t (.int (nI 0)) (.int (nI n)) (.int (nI cn)) (.ref a2) (.ref a3) (.ref a4) (.int (nI kl)) (.int (nI st)) (.int (nI nx)) (.int (nI bs)) (.int (nI wt)) (.int (nI ag)) (.int (nI rf)) (.int (nI ac)) n H.size (by omega)) (cwV 1 ht (fg_gV m_251 m_253 m_s6 m_4 m_254) rfl rfl rfl (by decide +kernel) ⟨Nat.le_of_ble_eq_true rfl, Nat.le_of_ble_eq_true rfl⟩) (fg_preV hK (hP.sub [0, 1] rfl) (hD.sub [0, 1] (by decide) rfl) (va_recv hK hP (ci := 3) (q0 := 0) rfl rfl)) rfl rfl hl.1 rfl (lv_room (Nat.le_of_ble_eq_true rfl)) d_M_seal_22 ⟨Nat.le_of_ble_eq_true rfl, Nat.le_of_ble_eq_true rfl⟩)) (fun r_22 er_22 => ?_)
    obtain rfl : r_22 = (nI (crc t n)) := er_22
    have hcr := crc_lt t n
    refine lv_istore_n (lv' := [(1, .int (nI (crc t n))), (0, .ref h0)]) hx hb d_M_seal_25 rfl hl (by decide) rfl (fun ls hl => ?_)
    refine lv_aload_n hx hb d_M_seal_26 rfl (lv_at hl 1 rfl) ?_
    refine va_get (D := (dC, dI)) (ci := 3) (v := .ref a1) (C := R_M) (T := F_M) (N := 15) hx hb ht i_M hown hK hP 0 rfl rfl 1 (by decide) (ht _ m_198) (fun _ h9 => h9) rfl d_M_seal_27 ?_
    refine lv_aload_n hx hb d_M_seal_30 rfl (lv_at hl 1 rfl) ?_
    refine va_get (D := (dC, dI)) (ci := 3) (v := .int (nI n)) (C := R_M) (T := F_M) (N := 15) hx hb ht i_M hown hK hP 0 rfl rfl 2 (by decide) (ht _ m_199) (fun _ h9 => h9) rfl d_M_seal_31 ?_
    refine lv_iload_n hx hb d_M_seal_34 rfl (lv_at hl 0 rfl) ?_
    refine lv_sipush (v := (nI 256)) hx hb d_M_seal_35 (by decide) ?_
    refine fg_idiv hx hb d_M_seal_38 (by omega) (by decide) (by decide) ?_
    refine lv_i2b (v := (nI ((crc t n) / 256)).toInt8.toInt32) hx hb d_M_seal_39 rfl ?_
    refine fg_bast (y := (nI ((crc t n) / 256)).toInt8.toInt32) hx hb hK hP hD hS 1 0 rfl rfl (by omega) (by decide) (pk_vb _) d_M_seal_40 (fun H locs hP hD hS => ?_)
    have hP : va_P (dC, dI) fgC [(h0, .inr (3, [.int (nI 0), .ref a1, .int (nI n), .int (nI cn), .ref a2, .ref a3, .ref a4, .int (nI kl), .int (nI st), .int (nI nx), .int (nI bs), .int (nI wt), .int (nI ag), .int (nI rf), .int (nI ac)])), (a1, .inl (cB, 259, .inl (upd t n ((nI ((crc t n) / 256)).toInt8.toInt32))))] H := hP
    have hD : va_D A [(h0, .inr (3, [.int (nI 0), .ref a1, .int (nI n), .int (nI cn), .ref a2, .ref a3, .ref a4, .int (nI kl), .int (nI st), .int (nI nx), .int (nI bs), .int (nI wt), .int (nI ag), .int (nI rf), .int (nI ac)])), (a1, .inl (cB, 259, .inl (upd t n ((nI ((crc t n) / 256)).toInt8.toInt32))))] := hD
    refine lv_aload_n hx hb d_M_seal_41 rfl (lv_at hl 1 rfl) ?_
    refine va_get (D := (dC, dI)) (ci := 3) (v := .ref a1) (C := R_M) (T := F_M) (N := 15) hx hb ht i_M hown hK hP 0 rfl rfl 1 (by decide) (ht _ m_198) (fun _ h9 => h9) rfl d_M_seal_42 ?_
    refine lv_aload_n hx hb d_M_seal_45 rfl (lv_at hl 1 rfl) ?_
    refine va_get (D := (dC, dI)) (ci := 3) (v := .int (nI n)) (C := R_M) (T := F_M) (N := 15) hx hb ht i_M hown hK hP 0 rfl rfl 2 (by decide) (ht _ m_199) (fun _ h9 => h9) rfl d_M_seal_46 ?_
    refine lv_iconst (v := (nI 1)) hx hb d_M_seal_49 (by decide) ?_
    refine fg_iadd hx hb d_M_seal_50 ?_
    refine lv_iload_n hx hb d_M_seal_51 rfl (lv_at hl 0 rfl) ?_
    refine lv_i2b (v := (nI (crc t n)).toInt8.toInt32) hx hb d_M_seal_52 rfl ?_
    refine fg_bast (y := (nI (crc t n)).toInt8.toInt32) hx hb hK hP hD hS 1 0 rfl rfl (by omega) (by decide) (pk_vb _) d_M_seal_53 (fun H locs hP hD hS => ?_)
    have hP : va_P (dC, dI) fgC [(h0, .inr (3, [.int (nI 0), .ref a1, .int (nI n), .int (nI cn), .ref a2, .ref a3, .ref a4, .int (nI kl), .int (nI st), .int (nI nx), .int (nI bs), .int (nI wt), .int (nI ag), .int (nI rf), .int (nI ac)])), (a1, .inl (cB, 259, .inl (upd (upd t n ((nI ((crc t n) / 256)).toInt8.toInt32)) (n + 1) ((nI (crc t n)).toInt8.toInt32))))] H := hP
    have hD : va_D A [(h0, .inr (3, [.int (nI 0), .ref a1, .int (nI n), .int (nI cn), .ref a2, .ref a3, .ref a4, .int (nI kl), .int (nI st), .int (nI nx), .int (nI bs), .int (nI wt), .int (nI ag), .int (nI rf), .int (nI ac)])), (a1, .inl (cB, 259, .inl (upd (upd t n ((nI ((crc t n) / 256)).toInt8.toInt32)) (n + 1) ((nI (crc t n)).toInt8.toInt32))))] := hD
    refine lv_aload_n hx hb d_M_seal_54 rfl (lv_at hl 1 rfl) ?_
    refine lv_dup hx hb d_M_seal_55 rfl ?_
    refine va_get (D := (dC, dI)) (ci := 3) (v := .int (nI n)) (C := R_M) (T := F_M) (N := 15) hx hb ht i_M hown hK hP 0 rfl rfl 2 (by decide) (ht _ m_199) (fun _ h9 => h9) rfl d_M_seal_56 ?_
    refine lv_iconst (v := (nI 2)) hx hb d_M_seal_59 (by decide) ?_
    refine fg_iadd hx hb d_M_seal_60 ?_
    refine va_put (D := (dC, dI)) (ci := 3) (v := .int (nI (n + 2))) (ty := .int) (C := R_M) (T := F_M) (N := 15) hx hb ht i_M t_M t_M_ok n_M hown hK hP hD hS 0 rfl rfl 2 (by decide) (ht _ m_199) (fun _ h9 => h9) rfl (t_M_ok 2 (by decide)) rfl rfl (Nat.le_of_ble_eq_true rfl) d_M_seal_61 (fun H locs hP hD hS => ?_)
    have hP : va_P (dC, dI) fgC [(h0, .inr (3, [.int (nI 0), .ref a1, .int (nI (n + 2)), .int (nI cn), .ref a2, .ref a3, .ref a4, .int (nI kl), .int (nI st), .int (nI nx), .int (nI bs), .int (nI wt), .int (nI ag), .int (nI rf), .int (nI ac)])), (a1, .inl (cB, 259, .inl (upd (upd t n ((nI ((crc t n) / 256)).toInt8.toInt32)) (n + 1) ((nI (crc t n)).toInt8.toInt32))))] H := hP
    have hD : va_D A [(h0, .inr (3, [.int (nI 0), .ref a1, .int (nI (n + 2)), .int (nI cn), .ref a2, .ref a3, .ref a4, .int (nI kl), .int (nI st), .int (nI nx), .int (nI bs), .int (nI wt), .int (nI ag), .int (nI rf), .int (nI ac)])), (a1, .inl (cB, 259, .inl (upd (upd t n ((nI ((crc t n) / 256)).toInt8.toInt32)) (n + 1) ((nI (crc t n)).toInt8.toInt32))))] := hD
    refine lv_iconst (v := (nI 1)) hx hb d_M_seal_64 (by decide) ?_
    exact W.zret (ty := .boolean) (v := (nI 1)) hx hb hr (fg_nZ (by omega)) (fun t9 ht9 hW9 => ⟨⟨(nI 1), (n + 2, sld t n), rfl, ⟨by rw [if_pos (by omega)], by rw [if_pos (by omega)]⟩, by rw [ht9]; exact hP, by rw [hAe]; exact hD⟩, hS.F ht9⟩) hS.2.2 d_M_seal_65
  · refine lv_iconst (v := (nI 0)) hx hb d_M_seal_15 (by decide) ?_
    exact W.zret (ty := .boolean) (v := (nI 0)) hx hb hr (fg_nZ (by omega)) (fun t9 ht9 hW9 => ⟨⟨(nI 0), (n, t), rfl, ⟨by rw [if_neg (by omega)], by rw [if_neg (by omega)]⟩, by rw [ht9]; exact hP, by rw [hAe]; exact hD⟩, hS.F ht9⟩) hS.2.2 d_M_seal_16
set_option maxHeartbeats 4000000 in
set_option maxRecDepth 100000 in
/-- Model.take() -/
theorem c_M_take (l : Launch) (dC : Nat → ClassId) (dI : Nat → Nat → Nat) (cB cI cG : ClassId) (h0 a1 a2 a3 a4 th n cn kl : Nat) (st nx bs wt ag rf ac : Nat) (q ln T : Nat → Int32) (k : Nat) (sz : Nat) (hB : BF q) (hc : cn ≤ 8) (hk : 0 < cn → ln 0 = nI k ∧ k ≤ 252) : Met l y_M_take (Cond.code y_M_take b_M_take 2 (some .int) :: w_all) ({ frames := 0, cells := 0, slots := 0, locals := 0 }) (va_Pc [.ref h0] (fgPre (dC, dI) (tysA cB cI cG) [(h0, .inr (3, [.int (nI th), .ref a1, .int (nI n), .int (nI cn), .ref a2, .ref a3, .ref a4, .int (nI kl), .int (nI st), .int (nI nx), .int (nI bs), .int (nI wt), .int (nI ag), .int (nI rf), .int (nI ac)])), (a2, .inl (cB, 2048, .inl q)), (a3, .inl (cI, 8, .inl ln)), (a4, .inl (cB, 256, .inl T))] sz)) (va_Qi (fun (r9 : Int32) (u : Nat × (Nat → Int32) × (Nat → Int32) × (Nat → Int32) × Nat) => (cn = 0 ∧ r9 = -1 ∧ u = (cn, q, ln, T, kl)) ∨ (0 < cn ∧ r9 = nI k ∧ u = (cn - 1, va_cpy q q 256 0 (256 * (cn - 1)), va_cpy ln ln 1 0 (cn - 1), va_cpy q T 0 0 k, k))) (fun u t9 => fgPost (dC, dI) [(h0, .inr (3, [.int (nI th), .ref a1, .int (nI n), .int (nI cn), .ref a2, .ref a3, .ref a4, .int (nI kl), .int (nI st), .int (nI nx), .int (nI bs), .int (nI wt), .int (nI ag), .int (nI rf), .int (nI ac)])), (a2, .inl (cB, 2048, .inl q)), (a3, .inl (cI, 8, .inl ln)), (a4, .inl (cB, 256, .inl T))] [(h0, .inr (3, [.int (nI 0), .ref a1, .int (nI n), .int (nI u.1), .ref a2, .ref a3, .ref a4, .int (nI u.2.2.2.2), .int (nI st), .int (nI nx), .int (nI bs), .int (nI wt), .int (nI ag), .int (nI rf), .int (nI ac)])), (a2, .inl (cB, 2048, .inl u.2.1)), (a3, .inl (cI, 8, .inl u.2.2.1)), (a4, .inl (cB, 256, .inl u.2.2.2.1))] sz t9) (va_A [(h0, .inr (3, [.int (nI th), .ref a1, .int (nI n), .int (nI cn), .ref a2, .ref a3, .ref a4, .int (nI kl), .int (nI st), .int (nI nx), .int (nI bs), .int (nI wt), .int (nI ag), .int (nI rf), .int (nI ac)])), (a2, .inl (cB, 2048, .inl q)), (a3, .inl (cI, 8, .inl ln)), (a4, .inl (cB, 256, .inl T))] sz)) 0 0 (va_A [(h0, .inr (3, [.int (nI th), .ref a1, .int (nI n), .int (nI cn), .ref a2, .ref a3, .ref a4, .int (nI kl), .int (nI st), .int (nI nx), .int (nI bs), .int (nI wt), .int (nI ag), .int (nI rf), .int (nI ac)])), (a2, .inl (cB, 2048, .inl q)), (a3, .inl (cI, 8, .inl ln)), (a4, .inl (cB, 256, .inl T))] sz) := by
  refine Met.ofW (cc := b_M_take) (maxL := 2) (ret := (some .int)) (by decide) rfl ?_
  intro p e s m args below meth c s₁ B hml hv
  obtain ⟨rfl, hsz, hP, hK, hD0⟩ := hv
  have hx := B.exec
  have hb := B.bytes
  have hr := B.returns
  have hts := atoms_spec (ws := (Cond.code y_M_take b_M_take 2 (some .int) :: w_all)) B.pre
  have ht : ∀ w ∈ w_all, w.before _ s = true := fun w h => hts w (List.mem_cons_of_mem _ h)
  have hown : s.vm.findClass R_M = some m.cls := findClass_of_methodNamed B.named
  have hlocks := B.notSynchronized
  subst hsz
  have hD := hD0.self (sz := s.heap.size)
  generalize hAe : va_A [(h0, .inr (3, [.int (nI th), .ref a1, .int (nI n), .int (nI cn), .ref a2, .ref a3, .ref a4, .int (nI kl), .int (nI st), .int (nI nx), .int (nI bs), .int (nI wt), .int (nI ag), .int (nI rf), .int (nI ac)])), (a2, .inl (cB, 2048, .inl q)), (a3, .inl (cI, 8, .inl ln)), (a4, .inl (cB, 256, .inl T))] s.heap.size = A at hD ⊢
  have hA : ∀ q : Nat, s.heap.size ≤ q → A q := fun q h => by rw [← hAe]; exact Or.inr h
  have hS : va_S A s.heap s.heap [] := va_S.rf
  have hl := lv_entry ([.ref h0]) (n := 2) (Nat.le_of_ble_eq_true rfl)
  rw [lg_entry_eq]
  generalize (lg_sl ([.ref h0]) ++ List.replicate (2 - (lg_sl ([.ref h0])).length) Slot.unset).toArray = ls at hl ⊢
  have hl : lv_has ls 2 [(0, .ref h0)] := hl
  refine lv_aload_n hx hb d_M_take_0 rfl (lv_at hl 0 rfl) ?_
  refine lv_iconst (v := (nI 0)) hx hb d_M_take_1 (by decide) ?_
  refine va_put (D := (dC, dI)) (ci := 3) (v := .int (nI 0)) (ty := .int) (C := R_M) (T := F_M) (N := 15) hx hb ht i_M t_M t_M_ok n_M hown hK hP hD hS 0 rfl rfl 0 (by decide) (ht _ m_197) (fun _ h9 => h9) rfl (t_M_ok 0 (by decide)) rfl rfl (Nat.le_of_ble_eq_true rfl) d_M_take_2 (fun H locs hP hD hS => ?_)
  have hP : va_P (dC, dI) fgC [(h0, .inr (3, [.int (nI 0), .ref a1, .int (nI n), .int (nI cn), .ref a2, .ref a3, .ref a4, .int (nI kl), .int (nI st), .int (nI nx), .int (nI bs), .int (nI wt), .int (nI ag), .int (nI rf), .int (nI ac)])), (a2, .inl (cB, 2048, .inl q)), (a3, .inl (cI, 8, .inl ln)), (a4, .inl (cB, 256, .inl T))] H := hP
  have hD : va_D A [(h0, .inr (3, [.int (nI 0), .ref a1, .int (nI n), .int (nI cn), .ref a2, .ref a3, .ref a4, .int (nI kl), .int (nI st), .int (nI nx), .int (nI bs), .int (nI wt), .int (nI ag), .int (nI rf), .int (nI ac)])), (a2, .inl (cB, 2048, .inl q)), (a3, .inl (cI, 8, .inl ln)), (a4, .inl (cB, 256, .inl T))] := hD
  refine lv_aload_n hx hb d_M_take_5 rfl (lv_at hl 0 rfl) ?_
  refine va_get (D := (dC, dI)) (ci := 3) (v := .int (nI cn)) (C := R_M) (T := F_M) (N := 15) hx hb ht i_M hown hK hP 0 rfl rfl 3 (by decide) (ht _ m_200) (fun _ h9 => h9) rfl d_M_take_6 ?_
  refine fg_if_ne (tgt := 14) hx hb d_M_take_9 (by decide) (by omega) (fun c_9 => ?_) (fun c_9 => ?_)
  · have hcp : 0 < cn := by omega
    obtain ⟨hk1, hk2⟩ := hk hcp
    refine lv_aload_n hx hb d_M_take_14 rfl (lv_at hl 0 rfl) ?_
    refine lv_aload_n hx hb d_M_take_15 rfl (lv_at hl 0 rfl) ?_
    refine va_get (D := (dC, dI)) (ci := 3) (v := .ref a3) (C := R_M) (T := F_M) (N := 15) hx hb ht i_M hown hK hP 0 rfl rfl 5 (by decide) (ht _ m_202) (fun _ h9 => h9) rfl d_M_take_16 ?_
    refine lv_iconst (v := (nI 0)) hx hb d_M_take_19 (by decide) ?_
    refine fg_iald hx hb hK hP 2 1 rfl rfl (by omega) (by decide) d_M_take_20 ?_
    refine fg_nm (y := (nI k)) (hk1) ?_
    refine va_put (D := (dC, dI)) (ci := 3) (v := .int (nI k)) (ty := .int) (C := R_M) (T := F_M) (N := 15) hx hb ht i_M t_M t_M_ok n_M hown hK hP hD hS 0 rfl rfl 7 (by decide) (ht _ m_204) (fun _ h9 => h9) rfl (t_M_ok 7 (by decide)) rfl rfl (Nat.le_of_ble_eq_true rfl) d_M_take_21 (fun H locs hP hD hS => ?_)
    have hP : va_P (dC, dI) fgC [(h0, .inr (3, [.int (nI 0), .ref a1, .int (nI n), .int (nI cn), .ref a2, .ref a3, .ref a4, .int (nI k), .int (nI st), .int (nI nx), .int (nI bs), .int (nI wt), .int (nI ag), .int (nI rf), .int (nI ac)])), (a2, .inl (cB, 2048, .inl q)), (a3, .inl (cI, 8, .inl ln)), (a4, .inl (cB, 256, .inl T))] H := hP
    have hD : va_D A [(h0, .inr (3, [.int (nI 0), .ref a1, .int (nI n), .int (nI cn), .ref a2, .ref a3, .ref a4, .int (nI k), .int (nI st), .int (nI nx), .int (nI bs), .int (nI wt), .int (nI ag), .int (nI rf), .int (nI ac)])), (a2, .inl (cB, 2048, .inl q)), (a3, .inl (cI, 8, .inl ln)), (a4, .inl (cB, 256, .inl T))] := hD
    refine lv_iconst (v := (nI 0)) hx hb d_M_take_24 (by decide) ?_
    refine lv_istore_n (lv' := [(1, .int (nI 0)), (0, .ref h0)]) hx hb d_M_take_25 rfl hl (by decide) rfl (fun ls hl => ?_)
    rw [← (cpy_0 (f := q) (g := T) (a := 0) (b := 0))] at hP hD
    refine fg_loop (fun d ls H1 locs1 => ∃ i, i + d = k ∧ lv_has ls 2 [(0, .ref h0), (1, .int (nI i))] ∧ va_P (dC, dI) fgC [(h0, .inr (3, [.int (nI 0), .ref a1, .int (nI n), .int (nI cn), .ref a2, .ref a3, .ref a4, .int (nI k), .int (nI st), .int (nI nx), .int (nI bs), .int (nI wt), .int (nI ag), .int (nI rf), .int (nI ac)])), (a2, .inl (cB, 2048, .inl q)), (a3, .inl (cI, 8, .inl ln)), (a4, .inl (cB, 256, .inl (va_cpy q T 0 0 i)))] H1 ∧ va_D A [(h0, .inr (3, [.int (nI 0), .ref a1, .int (nI n), .int (nI cn), .ref a2, .ref a3, .ref a4, .int (nI k), .int (nI st), .int (nI nx), .int (nI bs), .int (nI wt), .int (nI ag), .int (nI rf), .int (nI ac)])), (a2, .inl (cB, 2048, .inl q)), (a3, .inl (cI, 8, .inl ln)), (a4, .inl (cB, 256, .inl (va_cpy q T 0 0 i)))] ∧ va_S A s.heap H1 locs1) (fun d26 ih26 ls H locs hI => ?_) (k) ⟨0, by omega, lv_sub hl [1, 0] rfl, hP, hD, hS⟩
    obtain ⟨i, hi26, hl, hP, hD, hS⟩ := hI
    refine lv_iload_n hx hb d_M_take_26 rfl (lv_at hl 1 rfl) ?_
    refine lv_aload_n hx hb d_M_take_27 rfl (lv_at hl 0 rfl) ?_
    refine va_get (D := (dC, dI)) (ci := 3) (v := .int (nI k)) (C := R_M) (T := F_M) (N := 15) hx hb ht i_M hown hK hP 0 rfl rfl 7 (by decide) (ht _ m_204) (fun _ h9 => h9) rfl d_M_take_28 ?_
    refine fg_cmp_ge (tgt := 52) hx hb d_M_take_31 (by decide) (by omega) (by omega) (fun c_31 => ?_) (fun c_31 => ?_)
    · obtain rfl : i = k := by omega
      refine lv_aload_n hx hb d_M_take_52 rfl (lv_at hl 0 rfl) ?_
      refine lv_dup hx hb d_M_take_53 rfl ?_
      refine va_get (D := (dC, dI)) (ci := 3) (v := .int (nI cn)) (C := R_M) (T := F_M) (N := 15) hx hb ht i_M hown hK hP 0 rfl rfl 3 (by decide) (ht _ m_200) (fun _ h9 => h9) rfl d_M_take_54 ?_
      refine lv_iconst (v := (nI 1)) hx hb d_M_take_57 (by decide) ?_
      refine fg_isub hx hb d_M_take_58 (by omega) ?_
      refine va_put (D := (dC, dI)) (ci := 3) (v := .int (nI (cn - 1))) (ty := .int) (C := R_M) (T := F_M) (N := 15) hx hb ht i_M t_M t_M_ok n_M hown hK hP hD hS 0 rfl rfl 3 (by decide) (ht _ m_200) (fun _ h9 => h9) rfl (t_M_ok 3 (by decide)) rfl rfl (Nat.le_of_ble_eq_true rfl) d_M_take_59 (fun H locs hP hD hS => ?_)
      have hP : va_P (dC, dI) fgC [(h0, .inr (3, [.int (nI 0), .ref a1, .int (nI n), .int (nI (cn - 1)), .ref a2, .ref a3, .ref a4, .int (nI i), .int (nI st), .int (nI nx), .int (nI bs), .int (nI wt), .int (nI ag), .int (nI rf), .int (nI ac)])), (a2, .inl (cB, 2048, .inl q)), (a3, .inl (cI, 8, .inl ln)), (a4, .inl (cB, 256, .inl (va_cpy q T 0 0 i)))] H := hP
      have hD : va_D A [(h0, .inr (3, [.int (nI 0), .ref a1, .int (nI n), .int (nI (cn - 1)), .ref a2, .ref a3, .ref a4, .int (nI i), .int (nI st), .int (nI nx), .int (nI bs), .int (nI wt), .int (nI ag), .int (nI rf), .int (nI ac)])), (a2, .inl (cB, 2048, .inl q)), (a3, .inl (cI, 8, .inl ln)), (a4, .inl (cB, 256, .inl (va_cpy q T 0 0 i)))] := hD
      refine lv_iconst (v := (nI 0)) hx hb d_M_take_62 (by decide) ?_
      refine lv_istore_n (lv' := [(1, .int (nI 0)), (0, .ref h0)]) hx hb d_M_take_63 rfl hl (by decide) rfl (fun ls hl => ?_)
      rw [← (cpy_0 (f := ln) (g := ln) (a := 1) (b := 0))] at hP hD
      refine fg_loop (fun d ls H1 locs1 => ∃ j, j + d = cn - 1 ∧ lv_has ls 2 [(0, .ref h0), (1, .int (nI j))] ∧ va_P (dC, dI) fgC [(h0, .inr (3, [.int (nI 0), .ref a1, .int (nI n), .int (nI (cn - 1)), .ref a2, .ref a3, .ref a4, .int (nI i), .int (nI st), .int (nI nx), .int (nI bs), .int (nI wt), .int (nI ag), .int (nI rf), .int (nI ac)])), (a2, .inl (cB, 2048, .inl q)), (a3, .inl (cI, 8, .inl (va_cpy ln ln 1 0 j))), (a4, .inl (cB, 256, .inl (va_cpy q T 0 0 i)))] H1 ∧ va_D A [(h0, .inr (3, [.int (nI 0), .ref a1, .int (nI n), .int (nI (cn - 1)), .ref a2, .ref a3, .ref a4, .int (nI i), .int (nI st), .int (nI nx), .int (nI bs), .int (nI wt), .int (nI ag), .int (nI rf), .int (nI ac)])), (a2, .inl (cB, 2048, .inl q)), (a3, .inl (cI, 8, .inl (va_cpy ln ln 1 0 j))), (a4, .inl (cB, 256, .inl (va_cpy q T 0 0 i)))] ∧ va_S A s.heap H1 locs1) (fun d64 ih64 ls H locs hI => ?_) (cn - 1) ⟨0, by omega, lv_sub hl [1, 0] rfl, hP, hD, hS⟩
      obtain ⟨j, hi64, hl, hP, hD, hS⟩ := hI
      refine lv_iload_n hx hb d_M_take_64 rfl (lv_at hl 1 rfl) ?_
      refine lv_aload_n hx hb d_M_take_65 rfl (lv_at hl 0 rfl) ?_
      refine va_get (D := (dC, dI)) (ci := 3) (v := .int (nI (cn - 1))) (C := R_M) (T := F_M) (N := 15) hx hb ht i_M hown hK hP 0 rfl rfl 3 (by decide) (ht _ m_200) (fun _ h9 => h9) rfl d_M_take_66 ?_
      refine fg_cmp_ge (tgt := 92) hx hb d_M_take_69 (by decide) (by omega) (by omega) (fun c_69 => ?_) (fun c_69 => ?_)
      · have hj9 : j = cn - 1 := by omega
        rw [hj9] at hP hD hl
        have hP : va_P (dC, dI) fgC [(h0, .inr (3, [.int (nI 0), .ref a1, .int (nI n), .int (nI (cn - 1)), .ref a2, .ref a3, .ref a4, .int (nI i), .int (nI st), .int (nI nx), .int (nI bs), .int (nI wt), .int (nI ag), .int (nI rf), .int (nI ac)])), (a2, .inl (cB, 2048, .inl q)), (a3, .inl (cI, 8, .inl (va_cpy ln ln 1 0 (cn - 1)))), (a4, .inl (cB, 256, .inl (va_cpy q T 0 0 i)))] H := hP
        have hD : va_D A [(h0, .inr (3, [.int (nI 0), .ref a1, .int (nI n), .int (nI (cn - 1)), .ref a2, .ref a3, .ref a4, .int (nI i), .int (nI st), .int (nI nx), .int (nI bs), .int (nI wt), .int (nI ag), .int (nI rf), .int (nI ac)])), (a2, .inl (cB, 2048, .inl q)), (a3, .inl (cI, 8, .inl (va_cpy ln ln 1 0 (cn - 1)))), (a4, .inl (cB, 256, .inl (va_cpy q T 0 0 i)))] := hD
        refine lv_iconst (v := (nI 0)) hx hb d_M_take_92 (by decide) ?_
        refine lv_istore_n (lv' := [(1, .int (nI 0)), (0, .ref h0)]) hx hb d_M_take_93 rfl hl (by decide) rfl (fun ls hl => ?_)
        rw [← (cpy_0 (f := q) (g := q) (a := 256) (b := 0))] at hP hD
        refine fg_loop (fun d ls H1 locs1 => ∃ v, v + d = 256 * (cn - 1) ∧ lv_has ls 2 [(0, .ref h0), (1, .int (nI v))] ∧ va_P (dC, dI) fgC [(h0, .inr (3, [.int (nI 0), .ref a1, .int (nI n), .int (nI (cn - 1)), .ref a2, .ref a3, .ref a4, .int (nI i), .int (nI st), .int (nI nx), .int (nI bs), .int (nI wt), .int (nI ag), .int (nI rf), .int (nI ac)])), (a2, .inl (cB, 2048, .inl (va_cpy q q 256 0 v))), (a3, .inl (cI, 8, .inl (va_cpy ln ln 1 0 (cn - 1)))), (a4, .inl (cB, 256, .inl (va_cpy q T 0 0 i)))] H1 ∧ va_D A [(h0, .inr (3, [.int (nI 0), .ref a1, .int (nI n), .int (nI (cn - 1)), .ref a2, .ref a3, .ref a4, .int (nI i), .int (nI st), .int (nI nx), .int (nI bs), .int (nI wt), .int (nI ag), .int (nI rf), .int (nI ac)])), (a2, .inl (cB, 2048, .inl (va_cpy q q 256 0 v))), (a3, .inl (cI, 8, .inl (va_cpy ln ln 1 0 (cn - 1)))), (a4, .inl (cB, 256, .inl (va_cpy q T 0 0 i)))] ∧ va_S A s.heap H1 locs1) (fun d94 ih94 ls H locs hI => ?_) (256 * (cn - 1)) ⟨0, by omega, lv_sub hl [1, 0] rfl, hP, hD, hS⟩
        obtain ⟨v, hi94, hl, hP, hD, hS⟩ := hI
        refine lv_iload_n hx hb d_M_take_94 rfl (lv_at hl 1 rfl) ?_
        refine lv_sipush (v := (nI 256)) hx hb d_M_take_95 (by decide) ?_
        refine lv_aload_n hx hb d_M_take_98 rfl (lv_at hl 0 rfl) ?_
        refine va_get (D := (dC, dI)) (ci := 3) (v := .int (nI (cn - 1))) (C := R_M) (T := F_M) (N := 15) hx hb ht i_M hown hK hP 0 rfl rfl 3 (by decide) (ht _ m_200) (fun _ h9 => h9) rfl d_M_take_99 ?_
        refine fg_imul hx hb d_M_take_102 ?_
        refine fg_cmp_ge (tgt := 128) hx hb d_M_take_103 (by decide) (by omega) (by omega) (fun c_103 => ?_) (fun c_103 => ?_)
        · have hv9 : v = 256 * (cn - 1) := by omega
          rw [hv9] at hP hD hl
          have hP : va_P (dC, dI) fgC [(h0, .inr (3, [.int (nI 0), .ref a1, .int (nI n), .int (nI (cn - 1)), .ref a2, .ref a3, .ref a4, .int (nI i), .int (nI st), .int (nI nx), .int (nI bs), .int (nI wt), .int (nI ag), .int (nI rf), .int (nI ac)])), (a2, .inl (cB, 2048, .inl (va_cpy q q 256 0 (256 * (cn - 1))))), (a3, .inl (cI, 8, .inl (va_cpy ln ln 1 0 (cn - 1)))), (a4, .inl (cB, 256, .inl (va_cpy q T 0 0 i)))] H := hP
          have hD : va_D A [(h0, .inr (3, [.int (nI 0), .ref a1, .int (nI n), .int (nI (cn - 1)), .ref a2, .ref a3, .ref a4, .int (nI i), .int (nI st), .int (nI nx), .int (nI bs), .int (nI wt), .int (nI ag), .int (nI rf), .int (nI ac)])), (a2, .inl (cB, 2048, .inl (va_cpy q q 256 0 (256 * (cn - 1))))), (a3, .inl (cI, 8, .inl (va_cpy ln ln 1 0 (cn - 1)))), (a4, .inl (cB, 256, .inl (va_cpy q T 0 0 i)))] := hD
          refine lv_aload_n hx hb d_M_take_128 rfl (lv_at hl 0 rfl) ?_
          refine va_get (D := (dC, dI)) (ci := 3) (v := .int (nI i)) (C := R_M) (T := F_M) (N := 15) hx hb ht i_M hown hK hP 0 rfl rfl 7 (by decide) (ht _ m_204) (fun _ h9 => h9) rfl d_M_take_129 ?_
          exact W.iret (v := (nI i)) hx hb hr (fun t9 ht9 hW9 => ⟨⟨(nI i), (cn - 1, va_cpy q q 256 0 (256 * (cn - 1)), va_cpy ln ln 1 0 (cn - 1), va_cpy q T 0 0 i, i), rfl, Or.inr ⟨by omega, rfl, rfl⟩, by rw [ht9]; exact hP, by rw [hAe]; exact hD⟩, hS.F ht9⟩) hS.2.2 d_M_take_132
        · refine lv_aload_n hx hb d_M_take_106 rfl (lv_at hl 0 rfl) ?_
          refine va_get (D := (dC, dI)) (ci := 3) (v := .ref a2) (C := R_M) (T := F_M) (N := 15) hx hb ht i_M hown hK hP 0 rfl rfl 4 (by decide) (ht _ m_201) (fun _ h9 => h9) rfl d_M_take_107 ?_
          refine lv_iload_n hx hb d_M_take_110 rfl (lv_at hl 1 rfl) ?_
          refine lv_aload_n hx hb d_M_take_111 rfl (lv_at hl 0 rfl) ?_
          refine va_get (D := (dC, dI)) (ci := 3) (v := .ref a2) (C := R_M) (T := F_M) (N := 15) hx hb ht i_M hown hK hP 0 rfl rfl 4 (by decide) (ht _ m_201) (fun _ h9 => h9) rfl d_M_take_112 ?_
          refine lv_iload_n hx hb d_M_take_115 rfl (lv_at hl 1 rfl) ?_
          refine lv_sipush (v := (nI 256)) hx hb d_M_take_116 (by decide) ?_
          refine fg_iadd hx hb d_M_take_119 ?_
          refine fg_bald hx hb hK hP 1 0 rfl rfl (by omega) (by decide) d_M_take_120 ?_
          refine fg_nm (y := (q (v + 256))) (pk_cpy_out (Or.inr (by omega))) ?_
          refine fg_bast (y := q (v + 256)) hx hb hK hP hD hS 1 0 rfl rfl (by omega) (by decide) (hB.nar _) d_M_take_121 (fun H locs hP hD hS => ?_)
          have hP : va_P (dC, dI) fgC [(h0, .inr (3, [.int (nI 0), .ref a1, .int (nI n), .int (nI (cn - 1)), .ref a2, .ref a3, .ref a4, .int (nI i), .int (nI st), .int (nI nx), .int (nI bs), .int (nI wt), .int (nI ag), .int (nI rf), .int (nI ac)])), (a2, .inl (cB, 2048, .inl (upd (va_cpy q q 256 0 v) v (q (v + 256))))), (a3, .inl (cI, 8, .inl (va_cpy ln ln 1 0 (cn - 1)))), (a4, .inl (cB, 256, .inl (va_cpy q T 0 0 i)))] H := hP
          have hD : va_D A [(h0, .inr (3, [.int (nI 0), .ref a1, .int (nI n), .int (nI (cn - 1)), .ref a2, .ref a3, .ref a4, .int (nI i), .int (nI st), .int (nI nx), .int (nI bs), .int (nI wt), .int (nI ag), .int (nI rf), .int (nI ac)])), (a2, .inl (cB, 2048, .inl (upd (va_cpy q q 256 0 v) v (q (v + 256))))), (a3, .inl (cI, 8, .inl (va_cpy ln ln 1 0 (cn - 1)))), (a4, .inl (cB, 256, .inl (va_cpy q T 0 0 i)))] := hD
          refine fg_iinc (n := 1) (k := 1) (lv' := [(1, .int (nI (v + 1))), (0, .ref h0)]) hx hb d_M_take_122 hl rfl (by decide) rfl (fun ls hl => ?_)
          refine lv_goto (tgt := 94) hx hb d_M_take_125 (by decide) ?_
          rw [cpy_up] at hP hD
          exact ih94 (d94 - 1) (by omega) _ _ _ ⟨v + 1, by omega, lv_sub hl [1, 0] rfl, hP, hD, hS⟩
      · refine lv_aload_n hx hb d_M_take_72 rfl (lv_at hl 0 rfl) ?_
        refine va_get (D := (dC, dI)) (ci := 3) (v := .ref a3) (C := R_M) (T := F_M) (N := 15) hx hb ht i_M hown hK hP 0 rfl rfl 5 (by decide) (ht _ m_202) (fun _ h9 => h9) rfl d_M_take_73 ?_
        refine lv_iload_n hx hb d_M_take_76 rfl (lv_at hl 1 rfl) ?_
        refine lv_aload_n hx hb d_M_take_77 rfl (lv_at hl 0 rfl) ?_
        refine va_get (D := (dC, dI)) (ci := 3) (v := .ref a3) (C := R_M) (T := F_M) (N := 15) hx hb ht i_M hown hK hP 0 rfl rfl 5 (by decide) (ht _ m_202) (fun _ h9 => h9) rfl d_M_take_78 ?_
        refine lv_iload_n hx hb d_M_take_81 rfl (lv_at hl 1 rfl) ?_
        refine lv_iconst (v := (nI 1)) hx hb d_M_take_82 (by decide) ?_
        refine fg_iadd hx hb d_M_take_83 ?_
        refine fg_iald hx hb hK hP 2 1 rfl rfl (by omega) (by decide) d_M_take_84 ?_
        refine fg_nm (y := (ln (j + 1))) (pk_cpy_out (Or.inr (by omega))) ?_
        refine fg_iast hx hb hK hP hD hS 2 1 rfl rfl (by omega) (by decide) d_M_take_85 (fun H locs hP hD hS => ?_)
        have hP : va_P (dC, dI) fgC [(h0, .inr (3, [.int (nI 0), .ref a1, .int (nI n), .int (nI (cn - 1)), .ref a2, .ref a3, .ref a4, .int (nI i), .int (nI st), .int (nI nx), .int (nI bs), .int (nI wt), .int (nI ag), .int (nI rf), .int (nI ac)])), (a2, .inl (cB, 2048, .inl q)), (a3, .inl (cI, 8, .inl (upd (va_cpy ln ln 1 0 j) j (ln (j + 1))))), (a4, .inl (cB, 256, .inl (va_cpy q T 0 0 i)))] H := hP
        have hD : va_D A [(h0, .inr (3, [.int (nI 0), .ref a1, .int (nI n), .int (nI (cn - 1)), .ref a2, .ref a3, .ref a4, .int (nI i), .int (nI st), .int (nI nx), .int (nI bs), .int (nI wt), .int (nI ag), .int (nI rf), .int (nI ac)])), (a2, .inl (cB, 2048, .inl q)), (a3, .inl (cI, 8, .inl (upd (va_cpy ln ln 1 0 j) j (ln (j + 1))))), (a4, .inl (cB, 256, .inl (va_cpy q T 0 0 i)))] := hD
        refine fg_iinc (n := 1) (k := 1) (lv' := [(1, .int (nI (j + 1))), (0, .ref h0)]) hx hb d_M_take_86 hl rfl (by decide) rfl (fun ls hl => ?_)
        refine lv_goto (tgt := 64) hx hb d_M_take_89 (by decide) ?_
        rw [cpy_up1] at hP hD
        exact ih64 (d64 - 1) (by omega) _ _ _ ⟨j + 1, by omega, lv_sub hl [1, 0] rfl, hP, hD, hS⟩
    · refine lv_aload_n hx hb d_M_take_34 rfl (lv_at hl 0 rfl) ?_
      refine va_get (D := (dC, dI)) (ci := 3) (v := .ref a4) (C := R_M) (T := F_M) (N := 15) hx hb ht i_M hown hK hP 0 rfl rfl 6 (by decide) (ht _ m_203) (fun _ h9 => h9) rfl d_M_take_35 ?_
      refine lv_iload_n hx hb d_M_take_38 rfl (lv_at hl 1 rfl) ?_
      refine lv_aload_n hx hb d_M_take_39 rfl (lv_at hl 0 rfl) ?_
      refine va_get (D := (dC, dI)) (ci := 3) (v := .ref a2) (C := R_M) (T := F_M) (N := 15) hx hb ht i_M hown hK hP 0 rfl rfl 4 (by decide) (ht _ m_201) (fun _ h9 => h9) rfl d_M_take_40 ?_
      refine lv_iload_n hx hb d_M_take_43 rfl (lv_at hl 1 rfl) ?_
      refine fg_bald hx hb hK hP 1 0 rfl rfl (by omega) (by decide) d_M_take_44 ?_
      refine fg_bast (y := q i) hx hb hK hP hD hS 3 0 rfl rfl (by omega) (by decide) (hB.nar _) d_M_take_45 (fun H locs hP hD hS => ?_)
      have hP : va_P (dC, dI) fgC [(h0, .inr (3, [.int (nI 0), .ref a1, .int (nI n), .int (nI cn), .ref a2, .ref a3, .ref a4, .int (nI k), .int (nI st), .int (nI nx), .int (nI bs), .int (nI wt), .int (nI ag), .int (nI rf), .int (nI ac)])), (a2, .inl (cB, 2048, .inl q)), (a3, .inl (cI, 8, .inl ln)), (a4, .inl (cB, 256, .inl (upd (va_cpy q T 0 0 i) i (q i))))] H := hP
      have hD : va_D A [(h0, .inr (3, [.int (nI 0), .ref a1, .int (nI n), .int (nI cn), .ref a2, .ref a3, .ref a4, .int (nI k), .int (nI st), .int (nI nx), .int (nI bs), .int (nI wt), .int (nI ag), .int (nI rf), .int (nI ac)])), (a2, .inl (cB, 2048, .inl q)), (a3, .inl (cI, 8, .inl ln)), (a4, .inl (cB, 256, .inl (upd (va_cpy q T 0 0 i) i (q i))))] := hD
      refine fg_iinc (n := 1) (k := 1) (lv' := [(1, .int (nI (i + 1))), (0, .ref h0)]) hx hb d_M_take_46 hl rfl (by decide) rfl (fun ls hl => ?_)
      refine lv_goto (tgt := 26) hx hb d_M_take_49 (by decide) ?_
      have hP := hP; have hD := hD; rw [cpy_z] at hP hD
      exact ih26 (d26 - 1) (by omega) _ _ _ ⟨i + 1, by omega, lv_sub hl [1, 0] rfl, hP, hD, hS⟩
  · refine lv_iconst (v := (-1)) hx hb d_M_take_12 (by decide) ?_
    exact W.iret (v := (-1)) hx hb hr (fun t9 ht9 hW9 => ⟨⟨(-1), (cn, q, ln, T, kl), rfl, Or.inl ⟨by omega, rfl, rfl⟩, by rw [ht9]; exact hP, by rw [hAe]; exact hD⟩, hS.F ht9⟩) hS.2.2 d_M_take_13
end
section
/-! ===== multianewarray of two dimensions: a row of my own (the kit has none) ===== -/
/-- the outer array when i rows hang in it; a row; the state then -/
def mgO (cG : ClassId) (N b i : Nat) : Cell := arrV cG N (fun j => if j < i then .ref (b + 1 + j) else .null)
def mgR (cB : ClassId) (M : Nat) : Cell := arrV cB M (fun _ => .int 0)
def mgS (T : State) (cG cB : ClassId) (N M : Nat) : Nat → State
  | 0 => T.pushCell (mgO cG N T.heap.size 0)
  | i + 1 => ((mgS T cG cB N M i).pushCell (mgR cB M)).setCell T.heap.size (mgO cG N T.heap.size (i + 1))
theorem mgO_step (cG : ClassId) (N b i : Nat) : (mgO cG N b i).setSlot i (.ref (b + 1 + i)) = mgO cG N b (i + 1) := by
  unfold mgO
  rw [arrV_store]
  congr 1
  funext j
  unfold updV
  by_cases h : j = i
  · subst h
    rw [if_pos rfl, if_pos (by omega)]
  · rw [if_neg h]
    dsimp only
    by_cases h2 : j < i
    · rw [if_pos h2, if_pos (by omega)]
    · rw [if_neg h2, if_neg (by omega)]
theorem mgO_size (cG : ClassId) (N b i : Nat) : (mgO cG N b i).slots.size = N := arrV_size _ _ _
theorem mgR_size (cB : ClassId) (M : Nat) : (mgR cB M).slots.size = M := arrV_size _ _ _
theorem mgS_all (T : State) (cG cB : ClassId) (N M : Nat) : ∀ i, (mgS T cG cB N M i).heap.size = T.heap.size + 1 + i ∧ (mgS T cG cB N M i).vm = T.vm ∧ (mgS T cG cB N M i).slotsUsed = T.slotsUsed + N + i * M ∧ (mgS T cG cB N M i).heap[T.heap.size]? = some (mgO cG N T.heap.size i) ∧
    (∀ a, a < T.heap.size → (mgS T cG cB N M i).heap[a]? = T.heap[a]?) ∧ ∀ j, j < i → (mgS T cG cB N M i).heap[T.heap.size + 1 + j]? = some (mgR cB M)
  | 0 => by
    refine ⟨?_, rfl, ?_, ?_, fun a ha => ?_, fun j hj => absurd hj (Nat.not_lt_zero j)⟩
    · simp [mgS]
    · show T.slotsUsed + (mgO cG N T.heap.size 0).slots.size = _
      rw [mgO_size]
      omega
    · exact State.heap_pushCell_size _ _
    · exact State.heap_pushCell_of_lt _ _ ha
  | i + 1 => by
    obtain ⟨h1, h2, h3, h4, h5, h6⟩ := mgS_all T cG cB N M i
    have hlt : T.heap.size < (mgS T cG cB N M i).heap.size := by omega
    have hz : ((mgS T cG cB N M i).pushCell (mgR cB M)).heap.size = T.heap.size + 1 + i + 1 := by simp [h1]
    have hat : ((mgS T cG cB N M i).pushCell (mgR cB M)).heap[T.heap.size]? = some (mgO cG N T.heap.size i) := by
      rw [State.heap_pushCell_of_lt _ _ hlt]
      exact h4
    refine ⟨?_, h2, ?_, State.heap_setCell_self hat, fun a ha => ?_, fun j hj => ?_⟩
    · show (((mgS T cG cB N M i).pushCell (mgR cB M)).setCell T.heap.size _).heap.size = _
      rw [size_setCell, hz]
      omega
    · show (mgS T cG cB N M i).slotsUsed + (mgR cB M).slots.size = _
      rw [h3, mgR_size, Nat.succ_mul]
      omega
    · show (((mgS T cG cB N M i).pushCell (mgR cB M)).setCell T.heap.size _).heap[a]? = _
      have hlt2 : a < (mgS T cG cB N M i).heap.size := by omega
      rw [State.heap_setCell_other (show T.heap.size ≠ a by omega), State.heap_pushCell_of_lt _ _ hlt2]
      exact h5 a ha
    · show (((mgS T cG cB N M i).pushCell (mgR cB M)).setCell T.heap.size _).heap[T.heap.size + 1 + j]? = _
      rw [State.heap_setCell_other (show T.heap.size ≠ T.heap.size + 1 + j by omega)]
      by_cases hji : j < i
      · have hlt2 : T.heap.size + 1 + j < (mgS T cG cB N M i).heap.size := by omega
        rw [State.heap_pushCell_of_lt _ _ hlt2]
        exact h6 j hji
      · rw [show T.heap.size + 1 + j = (mgS T cG cB N M i).heap.size by omega]
        exact State.heap_pushCell_size _ _
theorem mgS_top (T : State) (f : JFrame) (cG cB : ClassId) (N M : Nat) : ∀ i, mgS (T.setTop f) cG cB N M i = (mgS T cG cB N M i).setTop f
  | 0 => rfl
  | i + 1 => by
    show ((mgS (T.setTop f) cG cB N M i).pushCell (mgR cB M)).setCell T.heap.size _ = _
    rw [mgS_top T f cG cB N M i]
    rfl
section MGW
variable {E : CtlPost} {e : Env}
/-- a loop over a, a + 1, .. : the states it runs through are F a, F (a + 1), .. -/
theorem mg_for {f : Nat → PUnit → Sem (ForInStep PUnit)} (F : Nat → State) (N : Nat) {Q : PUnit → Pre} (hq : ∀ d acts, Q PUnit.unit d acts (F N))
    (body : ∀ i, i < N → ∀ (d : Bool) (acts : List Action) (Q' : ForInStep PUnit → Pre), (∀ d' acts', Q' (.yield PUnit.unit) d' acts' (F (i + 1))) → wp (f i PUnit.unit) Q' E e d acts (F i)) : ∀ (k a : Nat), a + k = N → ∀ (d : Bool) (acts : List Action), wp (forIn (List.range' a k) PUnit.unit f) Q E e d acts (F a)
  | 0, a, h, d, acts => by
    have ha : a = N := h
    rw [ha]
    exact hq d acts
  | k + 1, a, h, d, acts => by
    rw [List.range'_succ, List.forIn_cons, wp_bind']
    exact body a (by omega) d acts _ (fun d' acts' => mg_for F N hq body k (a + 1) (by omega) d' acts')
variable {d : Bool} {acts : List Action} {s : State}
/-- a row is made -/
theorem mg_row {cB cc : ClassId} {kB : Class} {M : Nat} (hM : M < 2 ^ 31) (hkB : s.vm.classes[cB]? = some kB) (hkindB : kB.kind = .array cc .byte) (hl2 : ¬ M > e.platform.arrayLengthLimit) (hb2 : ¬ M * componentBytes .byte > e.platform.maxHeapBytes)
    (hc : s.heap.size < e.platform.maxCells) (hs : s.slotsUsed + M ≤ e.platform.maxSlots) {Q : Addr → Pre} (hq : ∀ acts', Q s.heap.size d acts' (s.pushCell (mgR cB M))) : wp (multianewarray.make cB [nI M]) Q E e d acts s := by
  have hz : ¬ nI M < 0 := nI_pos hM
  have hcl : (nI M).toNatClampNeg = M := nI_clamp hM
  unfold multianewarray.make
  simp only [wp_bind', Jvm.W.ite, hz, if_false, wp_pure', Jvm.W.theClass]
  refine ⟨kB, hkB, ?_⟩
  rw [hkindB]
  show wp (Jvm.newArray cB (nI M).toNatClampNeg (.int 0)) _ E e d acts s
  rw [hcl]
  refine Jvm.W.newArray_of hkB hkindB hl2 hb2 hc hs rfl (fun acts' => ?_)
  have h := hq acts'
  unfold mgR at h
  rw [← arrV_new] at h
  exact h
/-- 'make' of N rows of M bytes: the states are mgS s .. 0, 1, .. N -/
theorem mg_make {cG cB cc : ClassId} {kG kB : Class} {N M : Nat} (hN : N < 2 ^ 31) (hM : M < 2 ^ 31) (hkG : s.vm.classes[cG]? = some kG) (hkindG : kG.kind = .array cB (.array .byte)) (hkB : s.vm.classes[cB]? = some kB) (hkindB : kB.kind = .array cc .byte)
    (hl1 : ¬ N > e.platform.arrayLengthLimit) (hb1 : ¬ N * componentBytes (.array .byte) > e.platform.maxHeapBytes) (hl2 : ¬ M > e.platform.arrayLengthLimit) (hb2 : ¬ M * componentBytes .byte > e.platform.maxHeapBytes)
    (hc : s.heap.size + 1 + N ≤ e.platform.maxCells) (hs : s.slotsUsed + N + N * M ≤ e.platform.maxSlots) {Q : Addr → Pre} (hq : ∀ d' acts', Q s.heap.size d' acts' (mgS s cG cB N M N)) :
    wp (multianewarray.make cG [nI N, nI M]) Q E e d acts s := by
  have hz : ¬ nI N < 0 := nI_pos hN
  have hcl : (nI N).toNatClampNeg = N := nI_clamp hN
  have hzM : ¬ nI M < 0 := nI_pos hM
  have hone : List.find? (fun x => decide (x < 0)) [nI M] = none := by
    rw [List.find?_cons_of_neg (by simpa using hzM)]
    rfl
  unfold multianewarray.make
  simp only [wp_bind', Jvm.W.ite, hz, if_false, wp_pure', Jvm.W.theClass]
  refine ⟨kG, hkG, ?_⟩
  rw [hkindG]
  dsimp only
  rw [wp_bind', hcl]
  refine Jvm.W.newArray_of hkG hkindG hl1 hb1 (by omega) (Nat.le_trans (Nat.le_add_right _ (N * M)) hs) rfl (fun acts' => ?_)
  have hstart : s.pushCell { cls := cG, slots := Array.replicate N .null } = mgS s cG cB N M 0 := congrArg s.pushCell (arrV_new cG N .null)
  rw [hstart, hone]
  simp only [ite_self, wp_bind', wp_pure', Std.Legacy.Range.forIn_eq_forIn_range', Std.Legacy.Range.size, Nat.sub_zero, Nat.add_sub_cancel, Nat.div_one]
  refine mg_for (mgS s cG cB N M) N (fun d' acts' => hq d' acts') (fun i hi d' acts' Q' hn => ?_) N 0 (by omega) d acts'
  obtain ⟨g1, g2, g3, g4, g5, g6⟩ := mgS_all s cG cB N M i
  have hle : i * M + M ≤ N * M := by
    have := Nat.mul_le_mul_right M (show i + 1 ≤ N from hi)
    rw [Nat.succ_mul] at this
    exact this
  rw [wp_bind']
  refine mg_row hM (by rw [g2]; exact hkB) hkindB hl2 hb2 (by omega) (by omega) (fun acts'' => ?_)
  have hlt : s.heap.size < (mgS s cG cB N M i).heap.size := by omega
  rw [wp_bind', Jvm.W.writeLoc]
  refine ⟨mgO cG N s.heap.size i, (State.heap_pushCell_of_lt _ _ hlt).trans g4, (fun h => by cases h), by rw [mgO_size]; exact hi, ?_, ?_⟩
  · show State.fitsSlot _ cG .none i _ = true
    simp [State.fitsSlot, State.slotType?, g2, hkG, hkindG, fits]
  · rw [wp_pure', g1, mgO_step]
    exact hn _ _
end MGW
section MGR
variable {p : Program} {l : Launch} {e : Env} {R : Room} {s : State} {m : MethodId} {args : Array Value} {below : List Frame} {meth : Method} {c : Code} {T : State} {locs : List Loc} {cells slots : Nat}
theorem mgS_stand (X : Stand p l e R s m args below meth c T locs cells slots) (cG cB : ClassId) (N M : Nat) : ∀ i, Stand p l e R s m args below meth c (mgS T cG cB N M i) (locs ++ (List.range i).map (fun j => (⟨T.heap.size, j⟩ : Loc))) (cells + 1 + i) (slots + N + i * M)
  | 0 => by
    have h := X.pushed (mgO cG N T.heap.size 0)
    rw [mgO_size] at h
    simpa [mgS] using h
  | i + 1 => by
    have Xi := mgS_stand X cG cB N M i
    obtain ⟨g1, g2, g3, g4, g5, g6⟩ := mgS_all T cG cB N M i
    have hat : ((mgS T cG cB N M i).pushCell (mgR cB M)).heap[T.heap.size]? = some (mgO cG N T.heap.size i) := by
      have hlt2 : T.heap.size < (mgS T cG cB N M i).heap.size := by omega
      rw [State.heap_pushCell_of_lt _ _ hlt2]
      exact g4
    have h := (Xi.pushed (mgR cB M)).stored hat i (.ref (T.heap.size + 1 + i))
    rw [mgR_size, mgO_step] at h
    rw [show (List.range (i + 1)).map (fun j => (⟨T.heap.size, j⟩ : Loc)) = (List.range i).map (fun j => (⟨T.heap.size, j⟩ : Loc)) ++ [⟨T.heap.size, i⟩] by simp [List.range_succ], ← List.append_assoc, show slots + N + (i + 1) * M = slots + N + i * M + M by rw [Nat.succ_mul]; omega]
    exact h
theorem mg_step (X : Stand p l e R s m args below meth c T locs cells slots) (hexec : p.tables.exec = Jvm.exec) {own nm : String} {index : Nat} (hown : s.vm.findClass own = some m.cls) (hclink : (Cond.classLink own index nm).before args s = true) {cG cB cc : ClassId} {kG kB : Class} (hnm : s.vm.findClass nm = some cG)
    (hkG : s.vm.classes[cG]? = some kG) (hkindG : kG.kind = .array cB (.array .byte)) (hkB : s.vm.classes[cB]? = some kB) (hkindB : kB.kind = .array cc .byte)
    {g : JFrame} (hg : g.method = m) (hdg : decode c.code g.pc = .ok (.multianewarray index 2, 4)) {N M : Nat} {rest : List Value} (hstack : g.stack = .int (nI M) :: .int (nI N) :: rest) (hN : N < 100000) (hM : M < 100000) (hcells : cells + (1 + N) ≤ R.cells) (hslots : slots + (N + N * M) ≤ R.slots) :
    ∃ vm₁ : Vm, Stand p l e R s m args below meth c (mgS (T.setVm vm₁) cG cB N M N) (locs ++ (List.range N).map (fun j => (⟨T.heap.size, j⟩ : Loc))) (cells + 1 + N) (slots + N + N * M) ∧
      ∀ target, Steps p.tables e below ((mgS (T.setVm vm₁) cG cB N M N).setTop { g with pc := g.pc + 4, stack := .ref T.heap.size :: rest }) target → Steps p.tables e below (T.setTop g) target := by
  subst hg
  have hpl : e.platform.magicAccessors = ({} : Platform).magicAccessors := by rw [X.admits.platform]
  obtain ⟨c0, hf0, hcl⟩ := Cond.classLink_spec hown hclink e.platform hpl
  cases hnm.symm.trans hf0
  obtain ⟨hg₁, hwarm₁, hready₁⟩ := State.classEntry (e := e) X.warmed hcl
  generalize T.vm.noted g.method.cls index (.cls cG) = vm₁ at hg₁ hwarm₁ hready₁
  have hal : s.vm.Alike vm₁ := hwarm₁.alike
  obtain ⟨kG₁, hkG₁, heG⟩ := hal.2.2 _ _ hkG
  obtain ⟨kB₁, hkB₁, heB⟩ := hal.2.2 _ _ hkB
  have X₁ := X.noted hwarm₁
  obtain ⟨hr1, hr2⟩ := X.roomAbove hcells hslots
  have XF := mgS_stand X₁ cG cB N M N
  refine ⟨vm₁, XF, fun target hrest => ?_⟩
  have hlim := Launch.admits_arrayLengthLimit X.admits
  have hby := Launch.admits_maxHeapBytes X.admits
  have hpop : g.stack = [Value.int (nI N), .int (nI M)].reverse ++ rest := hstack
  jvm_step X.here [hexec, hdg]
  unfold multianewarray.sem
  rw [wp_bind', Jvm.W.resolveClassAt_links (State.method?_setTop g X.here.top) hg₁, show (T.setTop g).setVm vm₁ = (T.setVm vm₁).setTop g from rfl, wp_bind', show (2 : Nat) = [Value.int (nI N), .int (nI M)].length from rfl, Op.popN_top (args := [.int (nI N), .int (nI M)]) X₁.here.top hpop]
  simp only [List.mapM_cons, List.mapM_nil, wp_bind', wp_pure']
  refine mg_make (kG := kG₁) (kB := kB₁) (cc := cc) (by omega) (by omega) hkG₁ (by rw [heG]; exact hkindG) hkB₁ (by rw [heB]; exact hkindB) (by rw [hlim]; omega) (by rw [hby]; show ¬ N * 4 > 536870912; omega) (by rw [hlim]; omega) (by rw [hby]; show ¬ M * 1 > 536870912; omega) (by show T.heap.size + 1 + N ≤ _; omega) (by show T.slotsUsed + N + N * M ≤ _; omega) (fun d' acts' => ?_)
  rw [mgS_top, wp_bind', Jvm.W.mark, Jvm.W.pushRef]
  refine ⟨_, State.topJava?_setTop' _ XF.here.top, ?_⟩
  rw [State.setTop_setTop]
  simp [jvm, XF.here.top]
  exact hrest
end MGR
end
section
/-! what the nest's links and the grid's class are: it goes with a state, not with the words -/
def fgN (cB cG : ClassId) (U : State) : Prop := (∃ kA : Class, U.vm.classes[cG]? = some kA ∧ kA.kind = .array cB (.array .byte)) ∧ va_Nw (Cond.methodLinkNest R_X 18 y_Qinit R_X) U ∧ va_Nw (Cond.fieldLinkNest R_X 61 R_G "state" "I" R_X) U ∧ va_Nw (Cond.fieldLinkNest R_X 64 R_G "next" "I" R_X) U ∧ va_Nw (Cond.fieldLinkNest R_X 67 R_Q "count" "I" R_X) U ∧ va_Nw (Cond.fieldLinkNest R_X 70 R_G "refused" "I" R_X) U ∧ va_Nw (Cond.fieldLinkNest R_X 73 R_G "accepted" "I" R_X) U
theorem fgN.warm {cB cG : ClassId} {s U : State} (hW : s.WarmedH U.vm) (h : fgN cB cG s) : fgN cB cG U := by
  obtain ⟨⟨kA, h1, h2⟩, h3, h4, h5, h6, h7, h8⟩ := h
  obtain ⟨k', hk', he⟩ := hW.alike.2.2 _ _ h1
  exact ⟨⟨k', hk', by rw [he]; exact h2⟩, va_Nw.warmM hW h3, va_Nw.warmF hW h4, va_Nw.warmF hW h5, va_Nw.warmF hW h6, va_Nw.warmF hW h7, va_Nw.warmF hW h8⟩
theorem fgN.same {cB cG : ClassId} {u U : State} (h : u.vm = U.vm) (hn : fgN cB cG u) : fgN cB cG U := by
  obtain ⟨h1, h3, h4, h5, h6, h7, h8⟩ := hn
  exact ⟨by rw [← h]; exact h1, va_Nw.same rfl h h3, va_Nw.same rfl h h4, va_Nw.same rfl h h5, va_Nw.same rfl h h6, va_Nw.same rfl h h7, va_Nw.same rfl h h8⟩
def fgPreN (D : va_G) (tys : List (ClassId × FieldType)) (cB cG : ClassId) (wc : va_W) (sz : Nat) (U : State) : Prop := fgPre D tys wc sz U ∧ fgN cB cG U
theorem fg_blindN {av : List Value} {D : va_G} {tys : List (ClassId × FieldType)} {cB cG : ClassId} {wc : va_W} {sz : Nat} : FrameBlind (va_Pc av (fgPreN D tys cB cG wc sz)) := fun a U g mk q => ⟨q.1, (fg_blind a U g mk ⟨q.1, q.2.1⟩).2, fgN.same rfl q.2.2⟩
section FGX
variable {p : Program} {l : Launch} {e : Env} {R : Room} {s : State} {m : MethodId} {args : Array Value} {below : List Frame} {meth : Method} {c : Code} {H : Heap} {locs : List Loc} {cells slots : Nat} {Q : State → Prop}
variable {cc : ByteArray} {pc : Nat} {ls : Array Slot} {rest : List Value} {D : va_G} {A : Nat → Prop} {tys : List (ClassId × FieldType)} {ws wc : va_W} {H0 : Heap} {cB cG : ClassId} {cl : List vw_C}
theorem fg_preSN {As : List Value} (hN : fgN cB cG s) (hK : va_K D fgC tys s) (hP : va_P D fgC wc H) (hD : va_D A wc) : PreS s H (va_Pc As (fgPreN D tys cB cG wc H.size)) As :=
  ⟨fg_blindN, fun U hU hW => ⟨rfl, ((fg_preS (As := As) hK hP hD).2 U hU hW).2, hN.warm hW⟩⟩
theorem fg_preVN {As : List Value} {C : String} {b : Nat} (hN : fgN cB cG s) (hK : va_K D fgC tys s) (hP : va_P D fgC wc H) (hD : va_D A wc) (hr : ∃ cell : Cell, H[b]? = some cell ∧ cell.vm.isStatics = false ∧ s.vm.findClass C = some cell.cls) : PreV s H C b (va_Pc (.ref b :: As) (fgPreN D tys cB cG wc H.size)) As :=
  ⟨fg_blindN, hr, fun U hU hW => ⟨rfl, ((fg_preS (As := As) hK hP hD).2 U hU hW).2, hN.warm hW⟩⟩
theorem fg_newa {atype : ArrayType} {ty : FieldType} (hty : newarray.typeOf atype = ty) (hdv : defaultValue ty = .int 0) (harr : (Cond.arrayClass ty).before args s = true) (hx : p.tables.exec = Jvm.exec) (hb : c.code = cc) (hK : va_K D cl tys s) (hP : va_P D cl ws H) (hD : va_D A ws) (hS : va_S A H0 H locs) (hA : ∀ q, H0.size ≤ q → A q) (t0 : Nat) {cA0 : ClassId} (ht : tys[t0]? = some (cA0, ty)) (hra : ∀ c' : ClassId, va_RA s c' ty → s.vm.findClass ("[" ++ ty.toString) = some c')
    {N' : Nat} (hN : N' < 2 ^ 31) (hbytes : N' * componentBytes ty ≤ 536870912) (hcells : cells + 1 ≤ R.cells) (hslots : slots + N' ≤ R.slots) (hdg : decode cc pc = .ok (.newarray atype, 2))
    (kk : ∀ (q : Nat) (H1 : Heap), va_P D cl (ws ++ [(q, .inl (cA0, N', .inl (fun _ => 0)))]) H1 → va_D A (ws ++ [(q, .inl (cA0, N', .inl (fun _ => 0)))]) → va_S A H0 H1 locs → W p l e R s m args below meth c H1 locs (cells + 1) (slots + N') Q (F0 m (pc + 2) ls (.ref q :: rest))) : W p l e R s m args below meth c H locs cells slots Q (F0 m pc ls (.int (nI N') :: rest)) := by
  subst hty
  refine va_newa hx hb harr rfl hK hP hD hS hA (a0 := (N', .inl (fun _ => 0))) (fun cA => by rw [vp_cell_i, hdv]) (nI_pos hN) (nI_clamp hN) hbytes hcells hslots hdg (fun q cA H1 hK1 hP1 hD1 hS1 => ?_)
  have e : cA = cA0 := Option.some.inj ((hra cA (hK1.2 tys.length (cA, newarray.typeOf atype) (by simp)).2).symm.trans (hra cA0 (hK.2 t0 _ ht).2))
  rw [e] at hP1 hD1
  exact kk q H1 hP1 hD1 hS1
theorem arrV_cg {cI : ClassId} {n : Nat} {f g : Nat → Value} (h : ∀ j, j < n → f j = g j) : arrV cI n f = arrV cI n g := by
  unfold arrV
  have e : (fun j : Fin n => f j.val) = fun j : Fin n => g j.val := funext (fun j => h j.val j.isLt)
  rw [e]
theorem rwL_at {r : Nat → Nat} {Rr : Nat → Nat → Int32} {k : Nat} {x : Nat × va_E} (h : (rwL cB r Rr)[k]? = some x) : k < 8 ∧ x = (r k, .inl (cB, 252, .inl (Rr k))) := by
  have hk : k < 8 := by
    have h1 := (List.getElem?_eq_some_iff.mp h).1
    simpa [rwL] using h1
  refine ⟨hk, ?_⟩
  simp [rwL, hk] at h
  exact h.symm
theorem fg_multi (hx : p.tables.exec = Jvm.exec) (hb : c.code = cc) {own nm : String} {index : Nat} (hown : s.vm.findClass own = some m.cls) (hclink : (Cond.classLink own index nm).before args s = true) (hK : va_K D cl tys s) (t0 t2 : Nat) (ht0 : tys[t0]? = some (cB, .byte)) (ht2 : tys[t2]? = some (cG, .array .byte)) (hnm : "[" ++ (FieldType.array .byte).toString = nm) (hG : ∃ kA : Class, s.vm.classes[cG]? = some kA ∧ kA.kind = .array cB (.array .byte))
    (hP : va_P D cl ws H) (hD : va_D A ws) (hS : va_S A H0 H locs) (hA : ∀ q, H0.size ≤ q → A q) (hcells : cells + (1 + 8) ≤ R.cells) (hslots : slots + (8 + 8 * 252) ≤ R.slots) (hdg : decode cc pc = .ok (.multianewarray index 2, 4))
    (kk : ∀ (q : Nat) (r : Nat → Nat) (H1 : Heap) (locs1 : List Loc), va_P D cl (ws ++ [(q, .inl (cG, 8, .inr (.inr (.inr (.inr (fun k => some (r k)))))))] ++ rwL cB r (fun _ _ => 0)) H1 → va_D A (ws ++ [(q, .inl (cG, 8, .inr (.inr (.inr (.inr (fun k => some (r k)))))))] ++ rwL cB r (fun _ _ => 0)) → va_S A H0 H1 locs1 → W p l e R s m args below meth c H1 locs1 (cells + 1 + 8) (slots + 8 + 8 * 252) Q (F0 m (pc + 4) ls (.ref q :: rest))) : W p l e R s m args below meth c H locs cells slots Q (F0 m pc ls (.int (nI 252) :: .int (nI 8) :: rest)) := by
  subst hnm
  intro T hT X
  obtain ⟨kG, hkG, hkindG⟩ := hG
  obtain ⟨-, kB, hkB, c2, hkindB⟩ := (hK.2 t0 _ ht0).1 0 (fun _ => .null)
  obtain ⟨vm₁, X', st⟩ := mg_step X hx hown hclink (hK.2 t2 _ ht2).2 hkG hkindG hkB hkindB (g := F0 m pc ls (.int (nI 252) :: .int (nI 8) :: rest)) rfl (by rw [hb]; exact hdg) (N := 8) (M := 252) (rest := rest) rfl (by decide) (by decide) hcells hslots
  obtain ⟨g1, -, -, g4, g5, g6⟩ := mgS_all (T.setVm vm₁) cG cB 8 252 8
  have eT : (T.setVm vm₁).heap = H := hT
  rw [eT] at g1 g4 g5 g6
  generalize hH1 : (mgS (T.setVm vm₁) cG cB 8 252 8).heap = H1 at g1 g4 g5 g6
  have hk : ∀ (k : Nat) (x : Nat × va_E), ws[k]? = some x → x.1 < H.size := fun k x hx => (hP k x hx).lt
  have hAn : ∀ q, H.size ≤ q → A q := fun q h => hA q (Nat.le_trans hS.1 h)
  have hP1 : va_P D cl ws H1 := hP.kept (fun k x hx => g5 x.1 (hk k x hx))
  have hcG : vp_cell cG (8, .inr (.inr (.inr (.inr (fun k => some (H.size + 1 + k)))))) = mgO cG 8 H.size 8 := by
    rw [vp_cell_q]
    exact arrV_cg (fun j hj => by rw [if_pos hj]; rfl)
  have hP2 : va_P D cl (ws ++ [(H.size, .inl (cG, 8, .inr (.inr (.inr (.inr (fun k => some (H.size + 1 + k)))))))]) H1 := hP1.app (fun k x hx => by
    have hz : k < 1 := (List.getElem?_eq_some_iff.mp hx).1
    rw [show k = 0 by omega] at hx
    cases hx
    show H1[H.size]? = some (vp_cell _ _)
    rw [hcG]
    exact g4)
  have hP3 : va_P D cl (ws ++ [(H.size, .inl (cG, 8, .inr (.inr (.inr (.inr (fun k => some (H.size + 1 + k)))))))] ++ rwL cB (fun k => H.size + 1 + k) (fun _ _ => 0)) H1 := hP2.app (fun k x hx => by
    obtain ⟨hk8, rfl⟩ := rwL_at hx
    exact g6 k hk8)
  have hD2 : va_D A (ws ++ [(H.size, .inl (cG, 8, .inr (.inr (.inr (.inr (fun k => some (H.size + 1 + k)))))))]) := hD.push hP rfl (hAn _ (Nat.le_refl _))
  have hD3 : va_D A (ws ++ [(H.size, .inl (cG, 8, .inr (.inr (.inr (.inr (fun k => some (H.size + 1 + k)))))))] ++ rwL cB (fun k => H.size + 1 + k) (fun _ _ => 0)) := by
    refine hD2.app ⟨fun i j x y hi hj hxy => ?_, fun k x hx => ?_⟩ (fun i j x y hi hj hxy => ?_)
    · obtain ⟨-, rfl⟩ := rwL_at hi
      obtain ⟨-, rfl⟩ := rwL_at hj
      have : H.size + 1 + i = H.size + 1 + j := hxy
      omega
    · obtain ⟨-, rfl⟩ := rwL_at hx
      exact hAn _ (by show H.size ≤ H.size + 1 + k; omega)
    · obtain ⟨-, rfl⟩ := rwL_at hj
      have hx1 : x.1 ≤ H.size := by
        by_cases hl : i < ws.length
        · rw [List.getElem?_append_left hl] at hi
          exact Nat.le_of_lt (hk i x hi)
        · rw [List.getElem?_append_right (by omega)] at hi
          have hz : i - ws.length < 1 := (List.getElem?_eq_some_iff.mp hi).1
          rw [show i - ws.length = 0 by omega] at hi
          cases hi
          exact Nat.le_refl _
      have : x.1 = H.size + 1 + j := hxy
      omega
  have hS3 : va_S A H0 H1 (locs ++ (List.range 8).map (fun j => (⟨T.heap.size, j⟩ : Loc))) := by
    refine ⟨Nat.le_trans hS.1 (by omega), fun q h1 h2 => (g5 q (Nat.lt_of_lt_of_le h1 hS.1)).trans (hS.2.1 q h1 h2), fun x hx => ?_⟩
    rcases List.mem_append.mp hx with h | h
    · exact hS.2.2 x h
    · obtain ⟨j, -, rfl⟩ := List.mem_map.mp h
      exact hAn _ (by rw [hT]; exact Nat.le_refl _)
  obtain ⟨t, a1, b1⟩ := kk H.size (fun k => H.size + 1 + k) H1 _ hP3 hD3 hS3 _ hH1 X'
  rw [hT] at st
  exact ⟨t, st t a1, b1⟩
end FGX
theorem sw_out {x : Int32} (h0 : ¬ x = 0) (h1 : ¬ x = nI 1) (h2 : ¬ x = nI 2) (h3 : ¬ x = nI 3) (h4 : ¬ x = nI 4) : x.toInt < 0 ∨ 4 < x.toInt := by
  have e : ∀ k : Nat, k < 2 ^ 31 → ¬ x = nI k → ¬ x.toInt = k := fun k hk h q => h (Int32.toInt_inj.mp (by rw [nI_toInt hk]; exact q))
  have g0 := e 0 (by decide) (by rw [nI_0]; exact h0)
  have g1 := e 1 (by decide) h1
  have g2 := e 2 (by decide) h2
  have g3 := e 3 (by decide) h3
  have g4 := e 4 (by decide) h4
  omega
set_option maxHeartbeats 4000000 in
set_option maxRecDepth 100000 in
/-- FrameGate.about(x) -/
theorem c_X_about (l : Launch) (dC : Nat → ClassId) (dI : Nat → Nat → Nat) (cB cI cG : ClassId) (ox tp tk ga qu qr qs n kl f cn : Nat) (x : Int32) (st nx bs wt ag rf ac : Nat) (sz : Nat) : Met l y_X_about (Cond.code y_X_about b_X_about 2 (some .int) :: w_all) ({ frames := 0, cells := 0, slots := 0, locals := 0 }) (va_Pc [.ref ox, .int x] (fgPreN (dC, dI) (tysA cB cI cG) cB cG [(ox, .inr (2, [.ref tp, .int (nI n), .ref tk, .int (nI kl), .ref qu, .ref ga])), (ga, .inr (1, [.ref qu, .int (nI st), .int (nI nx), .int (nI bs), .int (nI wt), .int (nI ag), .int (nI rf), .int (nI ac)])), (qu, .inr (0, [.ref qr, .ref qs, .int (nI f), .int (nI cn)]))] sz)) (vp_Si (fun r => r = abt st nx cn rf ac x)) 0 0 (fun _ => False) := by
  refine Met.ofW (cc := b_X_about) (maxL := 2) (ret := (some .int)) (by decide) rfl ?_
  intro p e s m args below meth c s₁ B hml hv
  obtain ⟨rfl, ⟨hsz, hP, hK, hD0⟩, hN⟩ := hv
  have hx := B.exec
  have hb := B.bytes
  have hr := B.returns
  have hts := atoms_spec (ws := (Cond.code y_X_about b_X_about 2 (some .int) :: w_all)) B.pre
  have ht : ∀ w ∈ w_all, w.before _ s = true := fun w h => hts w (List.mem_cons_of_mem _ h)
  have hown : s.vm.findClass R_X = some m.cls := findClass_of_methodNamed B.named
  have hlocks := B.notSynchronized
  subst hsz
  have hD := hD0
  have hl := lv_entry ([.ref ox, .int x]) (n := 2) (Nat.le_of_ble_eq_true rfl)
  rw [lg_entry_eq]
  generalize (lg_sl ([.ref ox, .int x]) ++ List.replicate (2 - (lg_sl ([.ref ox, .int x])).length) Slot.unset).toArray = ls at hl ⊢
  have hl : lv_has ls 2 [(0, .ref ox), (1, .int x)] := hl
  obtain ⟨hgr, hn_17, hn_47, hn_49, hn_27, hn_54, hn_56⟩ := hN
  refine lv_iload_n hx hb d_X_about_0 rfl (lv_at hl 1 rfl) ?_
  by_cases hx0 : x = 0
  · subst hx0
    refine lv_tableIn (off := 35) (tgt := 36) hx hb d_X_about_1 (by decide) (by decide) rfl (by decide) ?_
    refine lv_aload_n hx hb d_X_about_36 rfl (lv_at hl 0 rfl) ?_
    refine va_get (D := (dC, dI)) (ci := 2) (v := .ref ga) (C := R_X) (T := F_X) (N := 6) hx hb ht i_X hown hK hP 0 rfl rfl 5 (by decide) (ht _ m_79) (fun _ h9 => h9) rfl d_X_about_37 ?_
    refine va_getN (D := (dC, dI)) (ci := 1) (v := .int (nI st)) (C := R_G) (T := F_G) (N := 8) hx hb ht i_G hown hK hP 1 rfl rfl 1 (by decide) (va_Nw.use rfl hn_47) (fun _ h9 => h9) rfl d_X_about_40 ?_
    exact W.iret (v := (nI st)) hx hb hr (fun t9 ht9 hW9 => ⟨(nI st), rfl, (by unfold abt; rw [if_pos rfl]), ht9⟩) (fun q h => by cases h) d_X_about_43
  by_cases hx1 : x = nI 1
  · subst hx1
    refine lv_tableIn (off := 43) (tgt := 44) hx hb d_X_about_1 (by decide) (by decide) rfl (by decide) ?_
    refine lv_aload_n hx hb d_X_about_44 rfl (lv_at hl 0 rfl) ?_
    refine va_get (D := (dC, dI)) (ci := 2) (v := .ref ga) (C := R_X) (T := F_X) (N := 6) hx hb ht i_X hown hK hP 0 rfl rfl 5 (by decide) (ht _ m_79) (fun _ h9 => h9) rfl d_X_about_45 ?_
    refine va_getN (D := (dC, dI)) (ci := 1) (v := .int (nI nx)) (C := R_G) (T := F_G) (N := 8) hx hb ht i_G hown hK hP 1 rfl rfl 2 (by decide) (va_Nw.use rfl hn_49) (fun _ h9 => h9) rfl d_X_about_48 ?_
    exact W.iret (v := (nI nx)) hx hb hr (fun t9 ht9 hW9 => ⟨(nI nx), rfl, (by unfold abt; rw [if_neg (by decide), if_pos rfl]), ht9⟩) (fun q h => by cases h) d_X_about_51
  by_cases hx2 : x = nI 2
  · subst hx2
    refine lv_tableIn (off := 51) (tgt := 52) hx hb d_X_about_1 (by decide) (by decide) rfl (by decide) ?_
    refine lv_aload_n hx hb d_X_about_52 rfl (lv_at hl 0 rfl) ?_
    refine va_get (D := (dC, dI)) (ci := 2) (v := .ref qu) (C := R_X) (T := F_X) (N := 6) hx hb ht i_X hown hK hP 0 rfl rfl 4 (by decide) (ht _ m_78) (fun _ h9 => h9) rfl d_X_about_53 ?_
    refine va_getN (D := (dC, dI)) (ci := 0) (v := .int (nI cn)) (C := R_Q) (T := F_Q) (N := 4) hx hb ht i_Q hown hK hP 2 rfl rfl 3 (by decide) (va_Nw.use rfl hn_27) (fun _ h9 => h9) rfl d_X_about_56 ?_
    exact W.iret (v := (nI cn)) hx hb hr (fun t9 ht9 hW9 => ⟨(nI cn), rfl, (by unfold abt; rw [if_neg (by decide), if_neg (by decide), if_pos rfl]), ht9⟩) (fun q h => by cases h) d_X_about_59
  by_cases hx3 : x = nI 3
  · subst hx3
    refine lv_tableIn (off := 59) (tgt := 60) hx hb d_X_about_1 (by decide) (by decide) rfl (by decide) ?_
    refine lv_aload_n hx hb d_X_about_60 rfl (lv_at hl 0 rfl) ?_
    refine va_get (D := (dC, dI)) (ci := 2) (v := .ref ga) (C := R_X) (T := F_X) (N := 6) hx hb ht i_X hown hK hP 0 rfl rfl 5 (by decide) (ht _ m_79) (fun _ h9 => h9) rfl d_X_about_61 ?_
    refine va_getN (D := (dC, dI)) (ci := 1) (v := .int (nI rf)) (C := R_G) (T := F_G) (N := 8) hx hb ht i_G hown hK hP 1 rfl rfl 6 (by decide) (va_Nw.use rfl hn_54) (fun _ h9 => h9) rfl d_X_about_64 ?_
    exact W.iret (v := (nI rf)) hx hb hr (fun t9 ht9 hW9 => ⟨(nI rf), rfl, (by unfold abt; rw [if_neg (by decide), if_neg (by decide), if_neg (by decide), if_pos rfl]), ht9⟩) (fun q h => by cases h) d_X_about_67
  by_cases hx4 : x = nI 4
  · subst hx4
    refine lv_tableIn (off := 67) (tgt := 68) hx hb d_X_about_1 (by decide) (by decide) rfl (by decide) ?_
    refine lv_aload_n hx hb d_X_about_68 rfl (lv_at hl 0 rfl) ?_
    refine va_get (D := (dC, dI)) (ci := 2) (v := .ref ga) (C := R_X) (T := F_X) (N := 6) hx hb ht i_X hown hK hP 0 rfl rfl 5 (by decide) (ht _ m_79) (fun _ h9 => h9) rfl d_X_about_69 ?_
    refine va_getN (D := (dC, dI)) (ci := 1) (v := .int (nI ac)) (C := R_G) (T := F_G) (N := 8) hx hb ht i_G hown hK hP 1 rfl rfl 7 (by decide) (va_Nw.use rfl hn_56) (fun _ h9 => h9) rfl d_X_about_72 ?_
    exact W.iret (v := (nI ac)) hx hb hr (fun t9 ht9 hW9 => ⟨(nI ac), rfl, (by unfold abt; rw [if_neg (by decide), if_neg (by decide), if_neg (by decide), if_neg (by decide), if_pos rfl]), ht9⟩) (fun q h => by cases h) d_X_about_75
  refine lv_tableOut (tgt := 76) hx hb d_X_about_1 (sw_out hx0 hx1 hx2 hx3 hx4) (by decide) ?_
  refine lv_iconst (v := (-1)) hx hb d_X_about_76 (by decide) ?_
  exact W.iret (v := (-1)) hx hb hr (fun t9 ht9 hW9 => ⟨(-1), rfl, (by unfold abt; rw [if_neg hx0, if_neg hx1, if_neg hx2, if_neg hx3, if_neg hx4]), ht9⟩) (fun q h => by cases h) d_X_about_77
set_option maxHeartbeats 4000000 in
set_option maxRecDepth 100000 in
/-- Gate(queue) -/
theorem c_Ginit (l : Launch) (dC : Nat → ClassId) (dI : Nat → Nat → Nat) (cB cI cG : ClassId) (ga qu : Nat) (sz : Nat) : Met l y_Ginit (Cond.code y_Ginit b_Ginit 2 none :: w_all) ({ frames := 1, cells := 0, slots := 0, locals := 12 }) (va_Pc [.ref ga, .ref qu] (fgPre (dC, dI) (tysA cB cI cG) [(ga, .inr (1, [.null, .int (nI 0), .int (nI 0), .int (nI 0), .int (nI 0), .int (nI 0), .int (nI 0), .int (nI 0)]))] sz)) (va_Qv (fun (_ : Unit) => True) (fun _ t9 => fgPost (dC, dI) [(ga, .inr (1, [.null, .int (nI 0), .int (nI 0), .int (nI 0), .int (nI 0), .int (nI 0), .int (nI 0), .int (nI 0)]))] [(ga, .inr (1, [.ref qu, .int (nI 1), .int (nI 0), .int (nI 0), .int (nI 0), .int (nI 0), .int (nI 0), .int (nI 0)]))] sz t9) (va_A [(ga, .inr (1, [.null, .int (nI 0), .int (nI 0), .int (nI 0), .int (nI 0), .int (nI 0), .int (nI 0), .int (nI 0)]))] sz)) 0 0 (va_A [(ga, .inr (1, [.null, .int (nI 0), .int (nI 0), .int (nI 0), .int (nI 0), .int (nI 0), .int (nI 0), .int (nI 0)]))] sz) := by
  refine Met.ofW (cc := b_Ginit) (maxL := 2) (ret := none) (by decide) rfl ?_
  intro p e s m args below meth c s₁ B hml hv
  obtain ⟨rfl, hsz, hP, hK, hD0⟩ := hv
  have hx := B.exec
  have hb := B.bytes
  have hr := B.returns
  have hts := atoms_spec (ws := (Cond.code y_Ginit b_Ginit 2 none :: w_all)) B.pre
  have ht : ∀ w ∈ w_all, w.before _ s = true := fun w h => hts w (List.mem_cons_of_mem _ h)
  have hown : s.vm.findClass R_G = some m.cls := findClass_of_methodNamed B.named
  have hlocks := B.notSynchronized
  have hin : meth.name = "<init>" := (name_of_methodNamed B.named B.method).1
  subst hsz
  have hD := hD0.self (sz := s.heap.size)
  generalize hAe : va_A [(ga, .inr (1, [.null, .int (nI 0), .int (nI 0), .int (nI 0), .int (nI 0), .int (nI 0), .int (nI 0), .int (nI 0)]))] s.heap.size = A at hD ⊢
  have hA : ∀ q : Nat, s.heap.size ≤ q → A q := fun q h => by rw [← hAe]; exact Or.inr h
  have hS : va_S A s.heap s.heap [] := va_S.rf
  have hl := lv_entry ([.ref ga, .ref qu]) (n := 2) (Nat.le_of_ble_eq_true rfl)
  rw [lg_entry_eq]
  generalize (lg_sl ([.ref ga, .ref qu]) ++ List.replicate (2 - (lg_sl ([.ref ga, .ref qu])).length) Slot.unset).toArray = ls at hl ⊢
  have hl : lv_has ls 2 [(0, .ref ga), (1, .ref qu)] := hl
  refine lv_aload_n hx hb d_Ginit_0 rfl (lv_at hl 0 rfl) ?_
  refine W.objInit hx hb hown (ht _ m_44) (ht _ m_13) (ht _ m_14) rfl (by rw [hml]; exact hl.1) rfl d_Ginit_1 (Nat.le_of_ble_eq_true rfl) (Nat.le_of_ble_eq_true rfl) ?_
  refine W.eq (g2 := F0 m 4 ls []) rfl ?_
  refine lv_aload_n hx hb d_Ginit_4 rfl (lv_at hl 0 rfl) ?_
  refine lv_iconst (v := (nI 1)) hx hb d_Ginit_5 (by decide) ?_
  refine va_put (D := (dC, dI)) (ci := 1) (v := .int (nI 1)) (ty := .int) (C := R_G) (T := F_G) (N := 8) hx hb ht i_G t_G t_G_ok n_G hown hK hP hD hS 0 rfl rfl 1 (by decide) (ht _ m_46) (fun _ h9 => h9) rfl (t_G_ok 1 (by decide)) rfl rfl (Nat.le_of_ble_eq_true rfl) d_Ginit_6 (fun H locs hP hD hS => ?_)
  have hP : va_P (dC, dI) fgC [(ga, .inr (1, [.null, .int (nI 1), .int (nI 0), .int (nI 0), .int (nI 0), .int (nI 0), .int (nI 0), .int (nI 0)]))] H := hP
  have hD : va_D A [(ga, .inr (1, [.null, .int (nI 1), .int (nI 0), .int (nI 0), .int (nI 0), .int (nI 0), .int (nI 0), .int (nI 0)]))] := hD
  refine lv_aload_n hx hb d_Ginit_9 rfl (lv_at hl 0 rfl) ?_
  refine lv_aload_n hx hb d_Ginit_10 rfl (lv_at hl 1 rfl) ?_
  refine va_putF (D := (dC, dI)) (ci := 1) (v := .ref qu) (ty := .object "FrameGate$Queue") (C := R_G) (T := F_G) (N := 8) hx hb ht i_G t_G t_G_ok n_G hown hK hP hD hS 0 rfl rfl 0 (by decide) (ht _ m_45) (fun _ h9 => h9) rfl hin rfl (t_G_ok 0 (by decide)) rfl rfl (Nat.le_of_ble_eq_true rfl) d_Ginit_11 (fun H locs hP hD hS => ?_)
  have hP : va_P (dC, dI) fgC [(ga, .inr (1, [.ref qu, .int (nI 1), .int (nI 0), .int (nI 0), .int (nI 0), .int (nI 0), .int (nI 0), .int (nI 0)]))] H := hP
  have hD : va_D A [(ga, .inr (1, [.ref qu, .int (nI 1), .int (nI 0), .int (nI 0), .int (nI 0), .int (nI 0), .int (nI 0), .int (nI 0)]))] := hD
  exact W.vret hx hb hr (fun t9 ht9 hW9 => ⟨⟨(), rfl, trivial, by rw [ht9]; exact hP, by rw [hAe]; exact hD⟩, hS.F ht9⟩) hS.2.2 d_Ginit_14
set_option maxHeartbeats 4000000 in
set_option maxRecDepth 100000 in
/-- Queue() -/
theorem c_Qinit (l : Launch) (dC : Nat → ClassId) (dI : Nat → Nat → Nat) (cB cI cG : ClassId) (qu : Nat) (sz : Nat) : Met l y_Qinit (Cond.code y_Qinit b_Qinit 1 none :: w_all) ({ frames := 1, cells := 10, slots := 2032, locals := 12 }) (va_Pc [.ref qu] (fgPreN (dC, dI) (tysA cB cI cG) cB cG [(qu, .inr (0, [.null, .null, .int (nI 0), .int (nI 0)]))] sz)) (va_Qv (fun (_ : Nat × Nat × (Nat → Nat)) => True) (fun u t9 => fgPost (dC, dI) [(qu, .inr (0, [.null, .null, .int (nI 0), .int (nI 0)]))] ([(qu, .inr (0, [.ref u.1, .ref u.2.1, .int (nI 0), .int (nI 0)])), (u.1, .inl (cG, 8, .inr (.inr (.inr (.inr (fun k => some (u.2.2 k))))))), (u.2.1, .inl (cI, 8, .inl (fun _ => 0)))] ++ rwL cB u.2.2 (fun _ _ => 0) ++ []) sz t9) (va_A [(qu, .inr (0, [.null, .null, .int (nI 0), .int (nI 0)]))] sz)) 10 2032 (va_A [(qu, .inr (0, [.null, .null, .int (nI 0), .int (nI 0)]))] sz) := by
  refine Met.ofW (cc := b_Qinit) (maxL := 1) (ret := none) (by decide) rfl ?_
  intro p e s m args below meth c s₁ B hml hv
  obtain ⟨rfl, ⟨hsz, hP, hK, hD0⟩, hN⟩ := hv
  have hx := B.exec
  have hb := B.bytes
  have hr := B.returns
  have hts := atoms_spec (ws := (Cond.code y_Qinit b_Qinit 1 none :: w_all)) B.pre
  have ht : ∀ w ∈ w_all, w.before _ s = true := fun w h => hts w (List.mem_cons_of_mem _ h)
  have hown : s.vm.findClass R_Q = some m.cls := findClass_of_methodNamed B.named
  have hlocks := B.notSynchronized
  have hin : meth.name = "<init>" := (name_of_methodNamed B.named B.method).1
  subst hsz
  have hD := hD0.self (sz := s.heap.size)
  generalize hAe : va_A [(qu, .inr (0, [.null, .null, .int (nI 0), .int (nI 0)]))] s.heap.size = A at hD ⊢
  have hA : ∀ q : Nat, s.heap.size ≤ q → A q := fun q h => by rw [← hAe]; exact Or.inr h
  have hS : va_S A s.heap s.heap [] := va_S.rf
  have hl := lv_entry ([.ref qu]) (n := 1) (Nat.le_of_ble_eq_true rfl)
  rw [lg_entry_eq]
  generalize (lg_sl ([.ref qu]) ++ List.replicate (1 - (lg_sl ([.ref qu])).length) Slot.unset).toArray = ls at hl ⊢
  have hl : lv_has ls 1 [(0, .ref qu)] := hl
  have hgr := hN.1
  refine lv_aload_n hx hb d_Qinit_0 rfl (lv_at hl 0 rfl) ?_
  refine W.objInit hx hb hown (ht _ m_20) (ht _ m_13) (ht _ m_14) rfl (by rw [hml]; exact hl.1) rfl d_Qinit_1 (Nat.le_of_ble_eq_true rfl) (Nat.le_of_ble_eq_true rfl) ?_
  refine W.eq (g2 := F0 m 4 ls []) rfl ?_
  refine lv_aload_n hx hb d_Qinit_4 rfl (lv_at hl 0 rfl) ?_
  refine lv_bipush (v := (nI 8)) hx hb d_Qinit_5 (by decide) ?_
  refine lv_sipush (v := (nI 252)) hx hb d_Qinit_7 (by decide) ?_
  refine fg_multi hx hb hown (ht _ m_21) hK 0 2 rfl rfl rfl hgr hP hD hS hA (Nat.le_of_ble_eq_true rfl) (Nat.le_of_ble_eq_true rfl) d_Qinit_10 (fun qr r H locs hP hD hS => ?_)
  have hP : va_P (dC, dI) fgC ([(qu, .inr (0, [.null, .null, .int (nI 0), .int (nI 0)])), (qr, .inl (cG, 8, .inr (.inr (.inr (.inr (fun k => some (r k)))))))] ++ rwL cB r (fun _ _ => 0) ++ []) H := hP
  have hD : va_D A ([(qu, .inr (0, [.null, .null, .int (nI 0), .int (nI 0)])), (qr, .inl (cG, 8, .inr (.inr (.inr (.inr (fun k => some (r k)))))))] ++ rwL cB r (fun _ _ => 0) ++ []) := hD
  refine va_putF (D := (dC, dI)) (ci := 0) (v := .ref qr) (ty := .array (.array .byte)) (C := R_Q) (T := F_Q) (N := 4) hx hb ht i_Q t_Q t_Q_ok n_Q hown hK hP hD hS 0 rfl rfl 0 (by decide) (ht _ m_23) (fun _ h9 => h9) rfl hin rfl (t_Q_ok 0 (by decide)) rfl rfl (Nat.le_of_ble_eq_true rfl) d_Qinit_14 (fun H locs hP hD hS => ?_)
  have hP : va_P (dC, dI) fgC ([(qu, .inr (0, [.ref qr, .null, .int (nI 0), .int (nI 0)])), (qr, .inl (cG, 8, .inr (.inr (.inr (.inr (fun k => some (r k)))))))] ++ rwL cB r (fun _ _ => 0) ++ []) H := hP
  have hD : va_D A ([(qu, .inr (0, [.ref qr, .null, .int (nI 0), .int (nI 0)])), (qr, .inl (cG, 8, .inr (.inr (.inr (.inr (fun k => some (r k)))))))] ++ rwL cB r (fun _ _ => 0) ++ []) := hD
  refine lv_aload_n hx hb d_Qinit_17 rfl (lv_at hl 0 rfl) ?_
  refine lv_bipush (v := (nI 8)) hx hb d_Qinit_18 (by decide) ?_
  refine fg_newa (ty := .int) rfl rfl (ht _ m_38) hx hb hK hP hD hS hA 1 rfl (fun _ h => h) (N' := 8) (by decide) (by decide) (Nat.le_of_ble_eq_true rfl) (Nat.le_of_ble_eq_true rfl) d_Qinit_20 (fun qs H hP hD hS => ?_)
  have hP : va_P (dC, dI) fgC ([(qu, .inr (0, [.ref qr, .null, .int (nI 0), .int (nI 0)])), (qr, .inl (cG, 8, .inr (.inr (.inr (.inr (fun k => some (r k)))))))] ++ rwL cB r (fun _ _ => 0) ++ [(qs, .inl (cI, 8, .inl (fun _ => 0)))]) H := hP
  have hD : va_D A ([(qu, .inr (0, [.ref qr, .null, .int (nI 0), .int (nI 0)])), (qr, .inl (cG, 8, .inr (.inr (.inr (.inr (fun k => some (r k)))))))] ++ rwL cB r (fun _ _ => 0) ++ [(qs, .inl (cI, 8, .inl (fun _ => 0)))]) := hD
  refine va_putF (D := (dC, dI)) (ci := 0) (v := .ref qs) (ty := .array .int) (C := R_Q) (T := F_Q) (N := 4) hx hb ht i_Q t_Q t_Q_ok n_Q hown hK hP hD hS 0 rfl rfl 1 (by decide) (ht _ m_24) (fun _ h9 => h9) rfl hin rfl (t_Q_ok 1 (by decide)) rfl rfl (Nat.le_of_ble_eq_true rfl) d_Qinit_22 (fun H locs hP hD hS => ?_)
  have hP : va_P (dC, dI) fgC ([(qu, .inr (0, [.ref qr, .ref qs, .int (nI 0), .int (nI 0)])), (qr, .inl (cG, 8, .inr (.inr (.inr (.inr (fun k => some (r k)))))))] ++ rwL cB r (fun _ _ => 0) ++ [(qs, .inl (cI, 8, .inl (fun _ => 0)))]) H := hP
  have hD : va_D A ([(qu, .inr (0, [.ref qr, .ref qs, .int (nI 0), .int (nI 0)])), (qr, .inl (cG, 8, .inr (.inr (.inr (.inr (fun k => some (r k)))))))] ++ rwL cB r (fun _ _ => 0) ++ [(qs, .inl (cI, 8, .inl (fun _ => 0)))]) := hD
  refine W.widen (k := 10) (n := 2032) (Nat.le_of_ble_eq_true rfl) (Nat.le_of_ble_eq_true rfl) ?_
  have hP : va_P (dC, dI) fgC ([(qu, .inr (0, [.ref qr, .ref qs, .int (nI 0), .int (nI 0)])), (qr, .inl (cG, 8, .inr (.inr (.inr (.inr (fun k => some (r k))))))), (qs, .inl (cI, 8, .inl (fun _ => 0)))] ++ rwL cB r (fun _ _ => 0) ++ []) H := hP.sub [0, 1, 10, 2, 3, 4, 5, 6, 7, 8, 9] rfl
  have hD : va_D A ([(qu, .inr (0, [.ref qr, .ref qs, .int (nI 0), .int (nI 0)])), (qr, .inl (cG, 8, .inr (.inr (.inr (.inr (fun k => some (r k))))))), (qs, .inl (cI, 8, .inl (fun _ => 0)))] ++ rwL cB r (fun _ _ => 0) ++ []) := hD.sub [0, 1, 10, 2, 3, 4, 5, 6, 7, 8, 9] (by decide) rfl
  exact W.vret hx hb hr (fun t9 ht9 hW9 => ⟨⟨(qr, qs, r), rfl, trivial, by rw [ht9]; exact hP, by rw [hAe]; exact hD⟩, hS.F ht9⟩) hS.2.2 d_Qinit_25
set_option maxHeartbeats 4000000 in
set_option maxRecDepth 100000 in
/-- Model() -/
theorem c_Minit (l : Launch) (dC : Nat → ClassId) (dI : Nat → Nat → Nat) (cB cI cG : ClassId) (h0 : Nat) (sz : Nat) : Met l y_Minit (Cond.code y_Minit b_Minit 1 none :: w_all) ({ frames := 1, cells := 4, slots := 2571, locals := 12 }) (va_Pc [.ref h0] (fgPre (dC, dI) (tysA cB cI cG) [(h0, .inr (3, [.int (nI 0), .null, .int (nI 0), .int (nI 0), .null, .null, .null, .int (nI 0), .int (nI 0), .int (nI 0), .int (nI 0), .int (nI 0), .int (nI 0), .int (nI 0), .int (nI 0)]))] sz)) (va_Qv (fun (_ : Nat × Nat × Nat × Nat) => True) (fun u t9 => fgPost (dC, dI) [(h0, .inr (3, [.int (nI 0), .null, .int (nI 0), .int (nI 0), .null, .null, .null, .int (nI 0), .int (nI 0), .int (nI 0), .int (nI 0), .int (nI 0), .int (nI 0), .int (nI 0), .int (nI 0)]))] [(h0, .inr (3, [.int (nI 0), .ref u.1, .int (nI 0), .int (nI 0), .ref u.2.1, .ref u.2.2.1, .ref u.2.2.2, .int (nI 0), .int (nI 1), .int (nI 0), .int (nI 0), .int (nI 0), .int (nI 0), .int (nI 0), .int (nI 0)])), (u.1, .inl (cB, 259, .inl (fun _ => 0))), (u.2.1, .inl (cB, 2048, .inl (fun _ => 0))), (u.2.2.1, .inl (cI, 8, .inl (fun _ => 0))), (u.2.2.2, .inl (cB, 256, .inl (fun _ => 0)))] sz t9) (va_A [(h0, .inr (3, [.int (nI 0), .null, .int (nI 0), .int (nI 0), .null, .null, .null, .int (nI 0), .int (nI 0), .int (nI 0), .int (nI 0), .int (nI 0), .int (nI 0), .int (nI 0), .int (nI 0)]))] sz)) 4 2571 (va_A [(h0, .inr (3, [.int (nI 0), .null, .int (nI 0), .int (nI 0), .null, .null, .null, .int (nI 0), .int (nI 0), .int (nI 0), .int (nI 0), .int (nI 0), .int (nI 0), .int (nI 0), .int (nI 0)]))] sz) := by
  refine Met.ofW (cc := b_Minit) (maxL := 1) (ret := none) (by decide) rfl ?_
  intro p e s m args below meth c s₁ B hml hv
  obtain ⟨rfl, hsz, hP, hK, hD0⟩ := hv
  have hx := B.exec
  have hb := B.bytes
  have hr := B.returns
  have hts := atoms_spec (ws := (Cond.code y_Minit b_Minit 1 none :: w_all)) B.pre
  have ht : ∀ w ∈ w_all, w.before _ s = true := fun w h => hts w (List.mem_cons_of_mem _ h)
  have hown : s.vm.findClass R_M = some m.cls := findClass_of_methodNamed B.named
  have hlocks := B.notSynchronized
  have hin : meth.name = "<init>" := (name_of_methodNamed B.named B.method).1
  subst hsz
  have hD := hD0.self (sz := s.heap.size)
  generalize hAe : va_A [(h0, .inr (3, [.int (nI 0), .null, .int (nI 0), .int (nI 0), .null, .null, .null, .int (nI 0), .int (nI 0), .int (nI 0), .int (nI 0), .int (nI 0), .int (nI 0), .int (nI 0), .int (nI 0)]))] s.heap.size = A at hD ⊢
  have hA : ∀ q : Nat, s.heap.size ≤ q → A q := fun q h => by rw [← hAe]; exact Or.inr h
  have hS : va_S A s.heap s.heap [] := va_S.rf
  have hl := lv_entry ([.ref h0]) (n := 1) (Nat.le_of_ble_eq_true rfl)
  rw [lg_entry_eq]
  generalize (lg_sl ([.ref h0]) ++ List.replicate (1 - (lg_sl ([.ref h0])).length) Slot.unset).toArray = ls at hl ⊢
  have hl : lv_has ls 1 [(0, .ref h0)] := hl
  refine lv_aload_n hx hb d_Minit_0 rfl (lv_at hl 0 rfl) ?_
  refine W.objInit hx hb hown (ht _ m_196) (ht _ m_13) (ht _ m_14) rfl (by rw [hml]; exact hl.1) rfl d_Minit_1 (Nat.le_of_ble_eq_true rfl) (Nat.le_of_ble_eq_true rfl) ?_
  refine W.eq (g2 := F0 m 4 ls []) rfl ?_
  refine lv_aload_n hx hb d_Minit_4 rfl (lv_at hl 0 rfl) ?_
  refine lv_sipush (v := (nI 259)) hx hb d_Minit_5 (by decide) ?_
  refine fg_newa (ty := .byte) rfl rfl (ht _ m_37) hx hb hK hP hD hS hA 0 rfl (fun _ h => h) (N' := 259) (by decide) (by decide) (Nat.le_of_ble_eq_true rfl) (Nat.le_of_ble_eq_true rfl) d_Minit_8 (fun a1 H hP hD hS => ?_)
  have hP : va_P (dC, dI) fgC [(h0, .inr (3, [.int (nI 0), .null, .int (nI 0), .int (nI 0), .null, .null, .null, .int (nI 0), .int (nI 0), .int (nI 0), .int (nI 0), .int (nI 0), .int (nI 0), .int (nI 0), .int (nI 0)])), (a1, .inl (cB, 259, .inl (fun _ => 0)))] H := hP
  have hD : va_D A [(h0, .inr (3, [.int (nI 0), .null, .int (nI 0), .int (nI 0), .null, .null, .null, .int (nI 0), .int (nI 0), .int (nI 0), .int (nI 0), .int (nI 0), .int (nI 0), .int (nI 0), .int (nI 0)])), (a1, .inl (cB, 259, .inl (fun _ => 0)))] := hD
  refine va_putF (D := (dC, dI)) (ci := 3) (v := .ref a1) (ty := .array .byte) (C := R_M) (T := F_M) (N := 15) hx hb ht i_M t_M t_M_ok n_M hown hK hP hD hS 0 rfl rfl 1 (by decide) (ht _ m_198) (fun _ h9 => h9) rfl hin rfl (t_M_ok 1 (by decide)) rfl rfl (Nat.le_of_ble_eq_true rfl) d_Minit_10 (fun H locs hP hD hS => ?_)
  have hP : va_P (dC, dI) fgC [(h0, .inr (3, [.int (nI 0), .ref a1, .int (nI 0), .int (nI 0), .null, .null, .null, .int (nI 0), .int (nI 0), .int (nI 0), .int (nI 0), .int (nI 0), .int (nI 0), .int (nI 0), .int (nI 0)])), (a1, .inl (cB, 259, .inl (fun _ => 0)))] H := hP
  have hD : va_D A [(h0, .inr (3, [.int (nI 0), .ref a1, .int (nI 0), .int (nI 0), .null, .null, .null, .int (nI 0), .int (nI 0), .int (nI 0), .int (nI 0), .int (nI 0), .int (nI 0), .int (nI 0), .int (nI 0)])), (a1, .inl (cB, 259, .inl (fun _ => 0)))] := hD
  refine lv_aload_n hx hb d_Minit_13 rfl (lv_at hl 0 rfl) ?_
  refine lv_sipush (v := (nI 2048)) hx hb d_Minit_14 (by decide) ?_
  refine fg_newa (ty := .byte) rfl rfl (ht _ m_37) hx hb hK hP hD hS hA 0 rfl (fun _ h => h) (N' := 2048) (by decide) (by decide) (Nat.le_of_ble_eq_true rfl) (Nat.le_of_ble_eq_true rfl) d_Minit_17 (fun a2 H hP hD hS => ?_)
  have hP : va_P (dC, dI) fgC [(h0, .inr (3, [.int (nI 0), .ref a1, .int (nI 0), .int (nI 0), .null, .null, .null, .int (nI 0), .int (nI 0), .int (nI 0), .int (nI 0), .int (nI 0), .int (nI 0), .int (nI 0), .int (nI 0)])), (a1, .inl (cB, 259, .inl (fun _ => 0))), (a2, .inl (cB, 2048, .inl (fun _ => 0)))] H := hP
  have hD : va_D A [(h0, .inr (3, [.int (nI 0), .ref a1, .int (nI 0), .int (nI 0), .null, .null, .null, .int (nI 0), .int (nI 0), .int (nI 0), .int (nI 0), .int (nI 0), .int (nI 0), .int (nI 0), .int (nI 0)])), (a1, .inl (cB, 259, .inl (fun _ => 0))), (a2, .inl (cB, 2048, .inl (fun _ => 0)))] := hD
  refine va_putF (D := (dC, dI)) (ci := 3) (v := .ref a2) (ty := .array .byte) (C := R_M) (T := F_M) (N := 15) hx hb ht i_M t_M t_M_ok n_M hown hK hP hD hS 0 rfl rfl 4 (by decide) (ht _ m_201) (fun _ h9 => h9) rfl hin rfl (t_M_ok 4 (by decide)) rfl rfl (Nat.le_of_ble_eq_true rfl) d_Minit_19 (fun H locs hP hD hS => ?_)
  have hP : va_P (dC, dI) fgC [(h0, .inr (3, [.int (nI 0), .ref a1, .int (nI 0), .int (nI 0), .ref a2, .null, .null, .int (nI 0), .int (nI 0), .int (nI 0), .int (nI 0), .int (nI 0), .int (nI 0), .int (nI 0), .int (nI 0)])), (a1, .inl (cB, 259, .inl (fun _ => 0))), (a2, .inl (cB, 2048, .inl (fun _ => 0)))] H := hP
  have hD : va_D A [(h0, .inr (3, [.int (nI 0), .ref a1, .int (nI 0), .int (nI 0), .ref a2, .null, .null, .int (nI 0), .int (nI 0), .int (nI 0), .int (nI 0), .int (nI 0), .int (nI 0), .int (nI 0), .int (nI 0)])), (a1, .inl (cB, 259, .inl (fun _ => 0))), (a2, .inl (cB, 2048, .inl (fun _ => 0)))] := hD
  refine lv_aload_n hx hb d_Minit_22 rfl (lv_at hl 0 rfl) ?_
  refine lv_bipush (v := (nI 8)) hx hb d_Minit_23 (by decide) ?_
  refine fg_newa (ty := .int) rfl rfl (ht _ m_38) hx hb hK hP hD hS hA 1 rfl (fun _ h => h) (N' := 8) (by decide) (by decide) (Nat.le_of_ble_eq_true rfl) (Nat.le_of_ble_eq_true rfl) d_Minit_25 (fun a3 H hP hD hS => ?_)
  have hP : va_P (dC, dI) fgC [(h0, .inr (3, [.int (nI 0), .ref a1, .int (nI 0), .int (nI 0), .ref a2, .null, .null, .int (nI 0), .int (nI 0), .int (nI 0), .int (nI 0), .int (nI 0), .int (nI 0), .int (nI 0), .int (nI 0)])), (a1, .inl (cB, 259, .inl (fun _ => 0))), (a2, .inl (cB, 2048, .inl (fun _ => 0))), (a3, .inl (cI, 8, .inl (fun _ => 0)))] H := hP
  have hD : va_D A [(h0, .inr (3, [.int (nI 0), .ref a1, .int (nI 0), .int (nI 0), .ref a2, .null, .null, .int (nI 0), .int (nI 0), .int (nI 0), .int (nI 0), .int (nI 0), .int (nI 0), .int (nI 0), .int (nI 0)])), (a1, .inl (cB, 259, .inl (fun _ => 0))), (a2, .inl (cB, 2048, .inl (fun _ => 0))), (a3, .inl (cI, 8, .inl (fun _ => 0)))] := hD
  refine va_putF (D := (dC, dI)) (ci := 3) (v := .ref a3) (ty := .array .int) (C := R_M) (T := F_M) (N := 15) hx hb ht i_M t_M t_M_ok n_M hown hK hP hD hS 0 rfl rfl 5 (by decide) (ht _ m_202) (fun _ h9 => h9) rfl hin rfl (t_M_ok 5 (by decide)) rfl rfl (Nat.le_of_ble_eq_true rfl) d_Minit_27 (fun H locs hP hD hS => ?_)
  have hP : va_P (dC, dI) fgC [(h0, .inr (3, [.int (nI 0), .ref a1, .int (nI 0), .int (nI 0), .ref a2, .ref a3, .null, .int (nI 0), .int (nI 0), .int (nI 0), .int (nI 0), .int (nI 0), .int (nI 0), .int (nI 0), .int (nI 0)])), (a1, .inl (cB, 259, .inl (fun _ => 0))), (a2, .inl (cB, 2048, .inl (fun _ => 0))), (a3, .inl (cI, 8, .inl (fun _ => 0)))] H := hP
  have hD : va_D A [(h0, .inr (3, [.int (nI 0), .ref a1, .int (nI 0), .int (nI 0), .ref a2, .ref a3, .null, .int (nI 0), .int (nI 0), .int (nI 0), .int (nI 0), .int (nI 0), .int (nI 0), .int (nI 0), .int (nI 0)])), (a1, .inl (cB, 259, .inl (fun _ => 0))), (a2, .inl (cB, 2048, .inl (fun _ => 0))), (a3, .inl (cI, 8, .inl (fun _ => 0)))] := hD
  refine lv_aload_n hx hb d_Minit_30 rfl (lv_at hl 0 rfl) ?_
  refine lv_sipush (v := (nI 256)) hx hb d_Minit_31 (by decide) ?_
  refine fg_newa (ty := .byte) rfl rfl (ht _ m_37) hx hb hK hP hD hS hA 0 rfl (fun _ h => h) (N' := 256) (by decide) (by decide) (Nat.le_of_ble_eq_true rfl) (Nat.le_of_ble_eq_true rfl) d_Minit_34 (fun a4 H hP hD hS => ?_)
  have hP : va_P (dC, dI) fgC [(h0, .inr (3, [.int (nI 0), .ref a1, .int (nI 0), .int (nI 0), .ref a2, .ref a3, .null, .int (nI 0), .int (nI 0), .int (nI 0), .int (nI 0), .int (nI 0), .int (nI 0), .int (nI 0), .int (nI 0)])), (a1, .inl (cB, 259, .inl (fun _ => 0))), (a2, .inl (cB, 2048, .inl (fun _ => 0))), (a3, .inl (cI, 8, .inl (fun _ => 0))), (a4, .inl (cB, 256, .inl (fun _ => 0)))] H := hP
  have hD : va_D A [(h0, .inr (3, [.int (nI 0), .ref a1, .int (nI 0), .int (nI 0), .ref a2, .ref a3, .null, .int (nI 0), .int (nI 0), .int (nI 0), .int (nI 0), .int (nI 0), .int (nI 0), .int (nI 0), .int (nI 0)])), (a1, .inl (cB, 259, .inl (fun _ => 0))), (a2, .inl (cB, 2048, .inl (fun _ => 0))), (a3, .inl (cI, 8, .inl (fun _ => 0))), (a4, .inl (cB, 256, .inl (fun _ => 0)))] := hD
  refine va_putF (D := (dC, dI)) (ci := 3) (v := .ref a4) (ty := .array .byte) (C := R_M) (T := F_M) (N := 15) hx hb ht i_M t_M t_M_ok n_M hown hK hP hD hS 0 rfl rfl 6 (by decide) (ht _ m_203) (fun _ h9 => h9) rfl hin rfl (t_M_ok 6 (by decide)) rfl rfl (Nat.le_of_ble_eq_true rfl) d_Minit_36 (fun H locs hP hD hS => ?_)
  have hP : va_P (dC, dI) fgC [(h0, .inr (3, [.int (nI 0), .ref a1, .int (nI 0), .int (nI 0), .ref a2, .ref a3, .ref a4, .int (nI 0), .int (nI 0), .int (nI 0), .int (nI 0), .int (nI 0), .int (nI 0), .int (nI 0), .int (nI 0)])), (a1, .inl (cB, 259, .inl (fun _ => 0))), (a2, .inl (cB, 2048, .inl (fun _ => 0))), (a3, .inl (cI, 8, .inl (fun _ => 0))), (a4, .inl (cB, 256, .inl (fun _ => 0)))] H := hP
  have hD : va_D A [(h0, .inr (3, [.int (nI 0), .ref a1, .int (nI 0), .int (nI 0), .ref a2, .ref a3, .ref a4, .int (nI 0), .int (nI 0), .int (nI 0), .int (nI 0), .int (nI 0), .int (nI 0), .int (nI 0), .int (nI 0)])), (a1, .inl (cB, 259, .inl (fun _ => 0))), (a2, .inl (cB, 2048, .inl (fun _ => 0))), (a3, .inl (cI, 8, .inl (fun _ => 0))), (a4, .inl (cB, 256, .inl (fun _ => 0)))] := hD
  refine lv_aload_n hx hb d_Minit_39 rfl (lv_at hl 0 rfl) ?_
  refine lv_iconst (v := (nI 1)) hx hb d_Minit_40 (by decide) ?_
  refine va_put (D := (dC, dI)) (ci := 3) (v := .int (nI 1)) (ty := .int) (C := R_M) (T := F_M) (N := 15) hx hb ht i_M t_M t_M_ok n_M hown hK hP hD hS 0 rfl rfl 8 (by decide) (ht _ m_205) (fun _ h9 => h9) rfl (t_M_ok 8 (by decide)) rfl rfl (Nat.le_of_ble_eq_true rfl) d_Minit_41 (fun H locs hP hD hS => ?_)
  have hP : va_P (dC, dI) fgC [(h0, .inr (3, [.int (nI 0), .ref a1, .int (nI 0), .int (nI 0), .ref a2, .ref a3, .ref a4, .int (nI 0), .int (nI 1), .int (nI 0), .int (nI 0), .int (nI 0), .int (nI 0), .int (nI 0), .int (nI 0)])), (a1, .inl (cB, 259, .inl (fun _ => 0))), (a2, .inl (cB, 2048, .inl (fun _ => 0))), (a3, .inl (cI, 8, .inl (fun _ => 0))), (a4, .inl (cB, 256, .inl (fun _ => 0)))] H := hP
  have hD : va_D A [(h0, .inr (3, [.int (nI 0), .ref a1, .int (nI 0), .int (nI 0), .ref a2, .ref a3, .ref a4, .int (nI 0), .int (nI 1), .int (nI 0), .int (nI 0), .int (nI 0), .int (nI 0), .int (nI 0), .int (nI 0)])), (a1, .inl (cB, 259, .inl (fun _ => 0))), (a2, .inl (cB, 2048, .inl (fun _ => 0))), (a3, .inl (cI, 8, .inl (fun _ => 0))), (a4, .inl (cB, 256, .inl (fun _ => 0)))] := hD
  refine W.widen (k := 4) (n := 2571) (Nat.le_of_ble_eq_true rfl) (Nat.le_of_ble_eq_true rfl) ?_
  exact W.vret hx hb hr (fun t9 ht9 hW9 => ⟨⟨(a1, a2, a3, a4), rfl, trivial, by rw [ht9]; exact hP, by rw [hAe]; exact hD⟩, hS.F ht9⟩) hS.2.2 d_Minit_44
set_option maxHeartbeats 4000000 in
set_option maxRecDepth 100000 in
/-- FrameGate() -/
theorem c_Xinit (l : Launch) (dC : Nat → ClassId) (dI : Nat → Nat → Nat) (cB cI cG : ClassId) (ox : Nat) (sz : Nat) : Met l y_Xinit (Cond.code y_Xinit b_Xinit 1 none :: w_all) ({ frames := 2, cells := 14, slots := 2555, locals := 33 }) (va_Pc [.ref ox] (fgPreN (dC, dI) (tysA cB cI cG) cB cG [(ox, .inr (2, [.null, .int (nI 0), .null, .int (nI 0), .null, .null]))] sz)) (va_Qv (fun (_ : Nat × Nat × Nat × Nat × Nat × Nat × (Nat → Nat)) => True) (fun u t9 => fgPost (dC, dI) [(ox, .inr (2, [.null, .int (nI 0), .null, .int (nI 0), .null, .null]))] ([(ox, .inr (2, [.ref u.1, .int (nI 0), .ref u.2.1, .int (nI 0), .ref u.2.2.1, .ref u.2.2.2.2.2.1])), (u.1, .inl (cB, 259, .inl (fun _ => 0))), (u.2.1, .inl (cB, 252, .inl (fun _ => 0))), (u.2.2.2.2.2.1, .inr (1, [.ref u.2.2.1, .int (nI 1), .int (nI 0), .int (nI 0), .int (nI 0), .int (nI 0), .int (nI 0), .int (nI 0)])), (u.2.2.1, .inr (0, [.ref u.2.2.2.1, .ref u.2.2.2.2.1, .int (nI 0), .int (nI 0)])), (u.2.2.2.1, .inl (cG, 8, .inr (.inr (.inr (.inr (fun k => some (u.2.2.2.2.2.2 k))))))), (u.2.2.2.2.1, .inl (cI, 8, .inl (fun _ => 0)))] ++ rwL cB u.2.2.2.2.2.2 (fun _ _ => 0) ++ []) sz t9) (va_A [(ox, .inr (2, [.null, .int (nI 0), .null, .int (nI 0), .null, .null]))] sz)) 14 2555 (va_A [(ox, .inr (2, [.null, .int (nI 0), .null, .int (nI 0), .null, .null]))] sz) := by
  refine Met.ofW (cc := b_Xinit) (maxL := 1) (ret := none) (by decide) rfl ?_
  intro p e s m args below meth c s₁ B hml hv
  obtain ⟨rfl, ⟨hsz, hP, hK, hD0⟩, hN⟩ := hv
  have hx := B.exec
  have hb := B.bytes
  have hr := B.returns
  have hts := atoms_spec (ws := (Cond.code y_Xinit b_Xinit 1 none :: w_all)) B.pre
  have ht : ∀ w ∈ w_all, w.before _ s = true := fun w h => hts w (List.mem_cons_of_mem _ h)
  have hown : s.vm.findClass R_X = some m.cls := findClass_of_methodNamed B.named
  have hlocks := B.notSynchronized
  have hin : meth.name = "<init>" := (name_of_methodNamed B.named B.method).1
  subst hsz
  have hD := hD0.self (sz := s.heap.size)
  generalize hAe : va_A [(ox, .inr (2, [.null, .int (nI 0), .null, .int (nI 0), .null, .null]))] s.heap.size = A at hD ⊢
  have hA : ∀ q : Nat, s.heap.size ≤ q → A q := fun q h => by rw [← hAe]; exact Or.inr h
  have hS : va_S A s.heap s.heap [] := va_S.rf
  have hl := lv_entry ([.ref ox]) (n := 1) (Nat.le_of_ble_eq_true rfl)
  rw [lg_entry_eq]
  generalize (lg_sl ([.ref ox]) ++ List.replicate (1 - (lg_sl ([.ref ox])).length) Slot.unset).toArray = ls at hl ⊢
  have hl : lv_has ls 1 [(0, .ref ox)] := hl
  refine lv_aload_n hx hb d_Xinit_0 rfl (lv_at hl 0 rfl) ?_
  refine W.objInit hx hb hown (ht _ m_12) (ht _ m_13) (ht _ m_14) rfl (by rw [hml]; exact hl.1) rfl d_Xinit_1 (Nat.le_of_ble_eq_true rfl) (Nat.le_of_ble_eq_true rfl) ?_
  refine W.eq (g2 := F0 m 4 ls []) rfl ?_
  refine lv_aload_n hx hb d_Xinit_4 rfl (lv_at hl 0 rfl) ?_
  refine lv_sipush (v := (nI 259)) hx hb d_Xinit_5 (by decide) ?_
  refine fg_newa (ty := .byte) rfl rfl (ht _ m_37) hx hb hK hP hD hS hA 0 rfl (fun _ h => h) (N' := 259) (by decide) (by decide) (Nat.le_of_ble_eq_true rfl) (Nat.le_of_ble_eq_true rfl) d_Xinit_8 (fun tp H hP hD hS => ?_)
  have hP : va_P (dC, dI) fgC [(ox, .inr (2, [.null, .int (nI 0), .null, .int (nI 0), .null, .null])), (tp, .inl (cB, 259, .inl (fun _ => 0)))] H := hP
  have hD : va_D A [(ox, .inr (2, [.null, .int (nI 0), .null, .int (nI 0), .null, .null])), (tp, .inl (cB, 259, .inl (fun _ => 0)))] := hD
  refine va_putF (D := (dC, dI)) (ci := 2) (v := .ref tp) (ty := .array .byte) (C := R_X) (T := F_X) (N := 6) hx hb ht i_X t_X t_X_ok n_X hown hK hP hD hS 0 rfl rfl 0 (by decide) (ht _ m_74) (fun _ h9 => h9) rfl hin rfl (t_X_ok 0 (by decide)) rfl rfl (Nat.le_of_ble_eq_true rfl) d_Xinit_10 (fun H locs hP hD hS => ?_)
  have hP : va_P (dC, dI) fgC [(ox, .inr (2, [.ref tp, .int (nI 0), .null, .int (nI 0), .null, .null])), (tp, .inl (cB, 259, .inl (fun _ => 0)))] H := hP
  have hD : va_D A [(ox, .inr (2, [.ref tp, .int (nI 0), .null, .int (nI 0), .null, .null])), (tp, .inl (cB, 259, .inl (fun _ => 0)))] := hD
  refine lv_aload_n hx hb d_Xinit_13 rfl (lv_at hl 0 rfl) ?_
  refine lv_sipush (v := (nI 252)) hx hb d_Xinit_14 (by decide) ?_
  refine fg_newa (ty := .byte) rfl rfl (ht _ m_37) hx hb hK hP hD hS hA 0 rfl (fun _ h => h) (N' := 252) (by decide) (by decide) (Nat.le_of_ble_eq_true rfl) (Nat.le_of_ble_eq_true rfl) d_Xinit_17 (fun tk H hP hD hS => ?_)
  have hP : va_P (dC, dI) fgC [(ox, .inr (2, [.ref tp, .int (nI 0), .null, .int (nI 0), .null, .null])), (tp, .inl (cB, 259, .inl (fun _ => 0))), (tk, .inl (cB, 252, .inl (fun _ => 0)))] H := hP
  have hD : va_D A [(ox, .inr (2, [.ref tp, .int (nI 0), .null, .int (nI 0), .null, .null])), (tp, .inl (cB, 259, .inl (fun _ => 0))), (tk, .inl (cB, 252, .inl (fun _ => 0)))] := hD
  refine va_putF (D := (dC, dI)) (ci := 2) (v := .ref tk) (ty := .array .byte) (C := R_X) (T := F_X) (N := 6) hx hb ht i_X t_X t_X_ok n_X hown hK hP hD hS 0 rfl rfl 2 (by decide) (ht _ m_76) (fun _ h9 => h9) rfl hin rfl (t_X_ok 2 (by decide)) rfl rfl (Nat.le_of_ble_eq_true rfl) d_Xinit_19 (fun H locs hP hD hS => ?_)
  have hP : va_P (dC, dI) fgC [(ox, .inr (2, [.ref tp, .int (nI 0), .ref tk, .int (nI 0), .null, .null])), (tp, .inl (cB, 259, .inl (fun _ => 0))), (tk, .inl (cB, 252, .inl (fun _ => 0)))] H := hP
  have hD : va_D A [(ox, .inr (2, [.ref tp, .int (nI 0), .ref tk, .int (nI 0), .null, .null])), (tp, .inl (cB, 259, .inl (fun _ => 0))), (tk, .inl (cB, 252, .inl (fun _ => 0)))] := hD
  refine lv_aload_n hx hb d_Xinit_22 rfl (lv_at hl 0 rfl) ?_
  refine va_new (ci := 0) (fs := [.null, .null, .int (nI 0), .int (nI 0)]) (C := R_Q) (T := F_Q) (N := 4) hx hb ht i_Q t_Q t_Q_ok hown (ht _ m_15) (ht _ m_16) (ht _ m_2) hK hP hD hS hA rfl (fun j hj => by rcases (show j = 0 ∨ j = 1 ∨ j = 2 ∨ j = 3 by omega) with rfl | rfl | rfl | rfl <;> rfl) (Nat.le_of_ble_eq_true rfl) (Nat.le_of_ble_eq_true rfl) d_Xinit_23 (fun qu H hP hD hS => ?_)
  have hP : va_P (dC, dI) fgC [(ox, .inr (2, [.ref tp, .int (nI 0), .ref tk, .int (nI 0), .null, .null])), (tp, .inl (cB, 259, .inl (fun _ => 0))), (tk, .inl (cB, 252, .inl (fun _ => 0))), (qu, .inr (0, [.null, .null, .int (nI 0), .int (nI 0)]))] H := hP
  have hD : va_D A [(ox, .inr (2, [.ref tp, .int (nI 0), .ref tk, .int (nI 0), .null, .null])), (tp, .inl (cB, 259, .inl (fun _ => 0))), (tk, .inl (cB, 252, .inl (fun _ => 0))), (qu, .inr (0, [.null, .null, .int (nI 0), .int (nI 0)]))] := hD
  refine lv_dup hx hb d_Xinit_26 rfl ?_
  refine fg_callv (wc := [(qu, .inr (0, [.null, .null, .int (nI 0), .int (nI 0)]))]) (wr := [(ox, .inr (2, [.ref tp, .int (nI 0), .ref tk, .int (nI 0), .null, .null])), (tp, .inl (cB, 259, .inl (fun _ => 0))), (tk, .inl (cB, 252, .inl (fun _ => 0)))]) (fun (u : Nat × Nat × (Nat → Nat)) => ([(qu, .inr (0, [.ref u.1, .ref u.2.1, .int (nI 0), .int (nI 0)])), (u.1, .inl (cG, 8, .inr (.inr (.inr (.inr (fun k => some (u.2.2 k))))))), (u.2.1, .inl (cI, 8, .inl (fun _ => 0)))] ++ rwL cB u.2.2 (fun _ _ => 0) ++ [])) (va_runIN (As := []) (rest := [.ref qu, .ref ox]) ⟨hx, hb, hml, hown, ht⟩ (c_Qinit l dC dI cB cI cG qu H.size) ⟨va_cnB 0 ht (fg_gI m_19) rfl rfl rfl hN.2.1 (ht _ m_2) (by decide +kernel) ⟨Nat.le_of_ble_eq_true rfl, Nat.le_of_ble_eq_true rfl⟩, rfl, ht _ m_18⟩ (fg_preSN hN hK (hP.sub [3] rfl) (hD.sub [3] (by decide) rfl)) rfl rfl hl.1 rfl (lv_room (Nat.le_of_ble_eq_true rfl)) d_Xinit_27 ⟨Nat.le_of_ble_eq_true rfl, Nat.le_of_ble_eq_true rfl⟩) hP hD hS hA [3] [0, 1, 2] rfl rfl (by decide) (by decide) (fun u H locs hw hP hD hS => ?_)
  obtain ⟨qr, qs, r⟩ := u
  have hP : va_P (dC, dI) fgC ([(ox, .inr (2, [.ref tp, .int (nI 0), .ref tk, .int (nI 0), .null, .null])), (tp, .inl (cB, 259, .inl (fun _ => 0))), (tk, .inl (cB, 252, .inl (fun _ => 0))), (qu, .inr (0, [.ref qr, .ref qs, .int (nI 0), .int (nI 0)])), (qr, .inl (cG, 8, .inr (.inr (.inr (.inr (fun k => some (r k))))))), (qs, .inl (cI, 8, .inl (fun _ => 0)))] ++ rwL cB r (fun _ _ => 0) ++ []) H := hP
  have hD : va_D A ([(ox, .inr (2, [.ref tp, .int (nI 0), .ref tk, .int (nI 0), .null, .null])), (tp, .inl (cB, 259, .inl (fun _ => 0))), (tk, .inl (cB, 252, .inl (fun _ => 0))), (qu, .inr (0, [.ref qr, .ref qs, .int (nI 0), .int (nI 0)])), (qr, .inl (cG, 8, .inr (.inr (.inr (.inr (fun k => some (r k))))))), (qs, .inl (cI, 8, .inl (fun _ => 0)))] ++ rwL cB r (fun _ _ => 0) ++ []) := hD
  refine va_putF (D := (dC, dI)) (ci := 2) (v := .ref qu) (ty := .object "FrameGate$Queue") (C := R_X) (T := F_X) (N := 6) hx hb ht i_X t_X t_X_ok n_X hown hK hP hD hS 0 rfl rfl 4 (by decide) (ht _ m_78) (fun _ h9 => h9) rfl hin rfl (t_X_ok 4 (by decide)) rfl rfl (Nat.le_of_ble_eq_true rfl) d_Xinit_30 (fun H locs hP hD hS => ?_)
  have hP : va_P (dC, dI) fgC ([(ox, .inr (2, [.ref tp, .int (nI 0), .ref tk, .int (nI 0), .ref qu, .null])), (tp, .inl (cB, 259, .inl (fun _ => 0))), (tk, .inl (cB, 252, .inl (fun _ => 0))), (qu, .inr (0, [.ref qr, .ref qs, .int (nI 0), .int (nI 0)])), (qr, .inl (cG, 8, .inr (.inr (.inr (.inr (fun k => some (r k))))))), (qs, .inl (cI, 8, .inl (fun _ => 0)))] ++ rwL cB r (fun _ _ => 0) ++ []) H := hP
  have hD : va_D A ([(ox, .inr (2, [.ref tp, .int (nI 0), .ref tk, .int (nI 0), .ref qu, .null])), (tp, .inl (cB, 259, .inl (fun _ => 0))), (tk, .inl (cB, 252, .inl (fun _ => 0))), (qu, .inr (0, [.ref qr, .ref qs, .int (nI 0), .int (nI 0)])), (qr, .inl (cG, 8, .inr (.inr (.inr (.inr (fun k => some (r k))))))), (qs, .inl (cI, 8, .inl (fun _ => 0)))] ++ rwL cB r (fun _ _ => 0) ++ []) := hD
  refine lv_aload_n hx hb d_Xinit_33 rfl (lv_at hl 0 rfl) ?_
  refine va_new (ci := 1) (fs := [.null, .int (nI 0), .int (nI 0), .int (nI 0), .int (nI 0), .int (nI 0), .int (nI 0), .int (nI 0)]) (C := R_G) (T := F_G) (N := 8) hx hb ht i_G t_G t_G_ok hown (ht _ m_39) (ht _ m_40) (ht _ m_3) hK hP hD hS hA rfl (fun j hj => by rcases (show j = 0 ∨ j = 1 ∨ j = 2 ∨ j = 3 ∨ j = 4 ∨ j = 5 ∨ j = 6 ∨ j = 7 by omega) with rfl | rfl | rfl | rfl | rfl | rfl | rfl | rfl <;> rfl) (Nat.le_of_ble_eq_true rfl) (Nat.le_of_ble_eq_true rfl) d_Xinit_34 (fun ga H hP hD hS => ?_)
  have hP : va_P (dC, dI) fgC ([(ox, .inr (2, [.ref tp, .int (nI 0), .ref tk, .int (nI 0), .ref qu, .null])), (tp, .inl (cB, 259, .inl (fun _ => 0))), (tk, .inl (cB, 252, .inl (fun _ => 0))), (qu, .inr (0, [.ref qr, .ref qs, .int (nI 0), .int (nI 0)])), (qr, .inl (cG, 8, .inr (.inr (.inr (.inr (fun k => some (r k))))))), (qs, .inl (cI, 8, .inl (fun _ => 0)))] ++ rwL cB r (fun _ _ => 0) ++ [(ga, .inr (1, [.null, .int (nI 0), .int (nI 0), .int (nI 0), .int (nI 0), .int (nI 0), .int (nI 0), .int (nI 0)]))]) H := hP
  have hD : va_D A ([(ox, .inr (2, [.ref tp, .int (nI 0), .ref tk, .int (nI 0), .ref qu, .null])), (tp, .inl (cB, 259, .inl (fun _ => 0))), (tk, .inl (cB, 252, .inl (fun _ => 0))), (qu, .inr (0, [.ref qr, .ref qs, .int (nI 0), .int (nI 0)])), (qr, .inl (cG, 8, .inr (.inr (.inr (.inr (fun k => some (r k))))))), (qs, .inl (cI, 8, .inl (fun _ => 0)))] ++ rwL cB r (fun _ _ => 0) ++ [(ga, .inr (1, [.null, .int (nI 0), .int (nI 0), .int (nI 0), .int (nI 0), .int (nI 0), .int (nI 0), .int (nI 0)]))]) := hD
  refine lv_dup hx hb d_Xinit_37 rfl ?_
  refine lv_aload_n hx hb d_Xinit_38 rfl (lv_at hl 0 rfl) ?_
  refine va_get (D := (dC, dI)) (ci := 2) (v := .ref qu) (C := R_X) (T := F_X) (N := 6) hx hb ht i_X hown hK hP 0 rfl rfl 4 (by decide) (ht _ m_78) (fun _ h9 => h9) rfl d_Xinit_39 ?_
  refine fg_callv (wc := [(ga, .inr (1, [.null, .int (nI 0), .int (nI 0), .int (nI 0), .int (nI 0), .int (nI 0), .int (nI 0), .int (nI 0)]))]) (wr := ([(ox, .inr (2, [.ref tp, .int (nI 0), .ref tk, .int (nI 0), .ref qu, .null])), (tp, .inl (cB, 259, .inl (fun _ => 0))), (tk, .inl (cB, 252, .inl (fun _ => 0))), (qu, .inr (0, [.ref qr, .ref qs, .int (nI 0), .int (nI 0)])), (qr, .inl (cG, 8, .inr (.inr (.inr (.inr (fun k => some (r k))))))), (qs, .inl (cI, 8, .inl (fun _ => 0)))] ++ rwL cB r (fun _ _ => 0) ++ [])) (fun (_ : Unit) => [(ga, .inr (1, [.ref qu, .int (nI 1), .int (nI 0), .int (nI 0), .int (nI 0), .int (nI 0), .int (nI 0), .int (nI 0)]))]) (va_runI (As := [.ref qu]) (rest := [.ref ga, .ref ox]) ⟨hx, hb, hml, hown, ht⟩ (c_Ginit l dC dI cB cI cG ga qu H.size) (cwI 1 ht (fg_gI m_43) rfl rfl rfl (ht _ m_3) (ht _ m_41) (ht _ m_42) rfl (by decide +kernel) ⟨Nat.le_of_ble_eq_true rfl, Nat.le_of_ble_eq_true rfl⟩) (fg_preS hK (hP.sub [14] rfl) (hD.sub [14] (by decide) rfl)) rfl rfl hl.1 rfl (lv_room (Nat.le_of_ble_eq_true rfl)) d_Xinit_42 ⟨Nat.le_of_ble_eq_true rfl, Nat.le_of_ble_eq_true rfl⟩) hP hD hS hA [14] [0, 1, 2, 3, 4, 5, 6, 7, 8, 9, 10, 11, 12, 13] rfl rfl (by decide) (by decide) (fun u H locs hw hP hD hS => ?_)
  have hP : va_P (dC, dI) fgC ([(ox, .inr (2, [.ref tp, .int (nI 0), .ref tk, .int (nI 0), .ref qu, .null])), (tp, .inl (cB, 259, .inl (fun _ => 0))), (tk, .inl (cB, 252, .inl (fun _ => 0))), (qu, .inr (0, [.ref qr, .ref qs, .int (nI 0), .int (nI 0)])), (qr, .inl (cG, 8, .inr (.inr (.inr (.inr (fun k => some (r k))))))), (qs, .inl (cI, 8, .inl (fun _ => 0)))] ++ rwL cB r (fun _ _ => 0) ++ [(ga, .inr (1, [.ref qu, .int (nI 1), .int (nI 0), .int (nI 0), .int (nI 0), .int (nI 0), .int (nI 0), .int (nI 0)]))]) H := hP.sub [0, 1, 2, 3, 4, 5, 6, 7, 8, 9, 10, 11, 12, 13, 14] rfl
  have hD : va_D A ([(ox, .inr (2, [.ref tp, .int (nI 0), .ref tk, .int (nI 0), .ref qu, .null])), (tp, .inl (cB, 259, .inl (fun _ => 0))), (tk, .inl (cB, 252, .inl (fun _ => 0))), (qu, .inr (0, [.ref qr, .ref qs, .int (nI 0), .int (nI 0)])), (qr, .inl (cG, 8, .inr (.inr (.inr (.inr (fun k => some (r k))))))), (qs, .inl (cI, 8, .inl (fun _ => 0)))] ++ rwL cB r (fun _ _ => 0) ++ [(ga, .inr (1, [.ref qu, .int (nI 1), .int (nI 0), .int (nI 0), .int (nI 0), .int (nI 0), .int (nI 0), .int (nI 0)]))]) := hD.sub [0, 1, 2, 3, 4, 5, 6, 7, 8, 9, 10, 11, 12, 13, 14] (by decide) rfl
  refine va_putF (D := (dC, dI)) (ci := 2) (v := .ref ga) (ty := .object "FrameGate$Gate") (C := R_X) (T := F_X) (N := 6) hx hb ht i_X t_X t_X_ok n_X hown hK hP hD hS 0 rfl rfl 5 (by decide) (ht _ m_79) (fun _ h9 => h9) rfl hin rfl (t_X_ok 5 (by decide)) rfl rfl (Nat.le_of_ble_eq_true rfl) d_Xinit_45 (fun H locs hP hD hS => ?_)
  have hP : va_P (dC, dI) fgC ([(ox, .inr (2, [.ref tp, .int (nI 0), .ref tk, .int (nI 0), .ref qu, .ref ga])), (tp, .inl (cB, 259, .inl (fun _ => 0))), (tk, .inl (cB, 252, .inl (fun _ => 0))), (qu, .inr (0, [.ref qr, .ref qs, .int (nI 0), .int (nI 0)])), (qr, .inl (cG, 8, .inr (.inr (.inr (.inr (fun k => some (r k))))))), (qs, .inl (cI, 8, .inl (fun _ => 0)))] ++ rwL cB r (fun _ _ => 0) ++ [(ga, .inr (1, [.ref qu, .int (nI 1), .int (nI 0), .int (nI 0), .int (nI 0), .int (nI 0), .int (nI 0), .int (nI 0)]))]) H := hP
  have hD : va_D A ([(ox, .inr (2, [.ref tp, .int (nI 0), .ref tk, .int (nI 0), .ref qu, .ref ga])), (tp, .inl (cB, 259, .inl (fun _ => 0))), (tk, .inl (cB, 252, .inl (fun _ => 0))), (qu, .inr (0, [.ref qr, .ref qs, .int (nI 0), .int (nI 0)])), (qr, .inl (cG, 8, .inr (.inr (.inr (.inr (fun k => some (r k))))))), (qs, .inl (cI, 8, .inl (fun _ => 0)))] ++ rwL cB r (fun _ _ => 0) ++ [(ga, .inr (1, [.ref qu, .int (nI 1), .int (nI 0), .int (nI 0), .int (nI 0), .int (nI 0), .int (nI 0), .int (nI 0)]))]) := hD
  refine W.widen (k := 14) (n := 2555) (Nat.le_of_ble_eq_true rfl) (Nat.le_of_ble_eq_true rfl) ?_
  have hP : va_P (dC, dI) fgC ([(ox, .inr (2, [.ref tp, .int (nI 0), .ref tk, .int (nI 0), .ref qu, .ref ga])), (tp, .inl (cB, 259, .inl (fun _ => 0))), (tk, .inl (cB, 252, .inl (fun _ => 0))), (ga, .inr (1, [.ref qu, .int (nI 1), .int (nI 0), .int (nI 0), .int (nI 0), .int (nI 0), .int (nI 0), .int (nI 0)])), (qu, .inr (0, [.ref qr, .ref qs, .int (nI 0), .int (nI 0)])), (qr, .inl (cG, 8, .inr (.inr (.inr (.inr (fun k => some (r k))))))), (qs, .inl (cI, 8, .inl (fun _ => 0)))] ++ rwL cB r (fun _ _ => 0) ++ []) H := hP.sub [0, 1, 2, 14, 3, 4, 5, 6, 7, 8, 9, 10, 11, 12, 13] rfl
  have hD : va_D A ([(ox, .inr (2, [.ref tp, .int (nI 0), .ref tk, .int (nI 0), .ref qu, .ref ga])), (tp, .inl (cB, 259, .inl (fun _ => 0))), (tk, .inl (cB, 252, .inl (fun _ => 0))), (ga, .inr (1, [.ref qu, .int (nI 1), .int (nI 0), .int (nI 0), .int (nI 0), .int (nI 0), .int (nI 0), .int (nI 0)])), (qu, .inr (0, [.ref qr, .ref qs, .int (nI 0), .int (nI 0)])), (qr, .inl (cG, 8, .inr (.inr (.inr (.inr (fun k => some (r k))))))), (qs, .inl (cI, 8, .inl (fun _ => 0)))] ++ rwL cB r (fun _ _ => 0) ++ []) := hD.sub [0, 1, 2, 14, 3, 4, 5, 6, 7, 8, 9, 10, 11, 12, 13] (by decide) rfl
  exact W.vret hx hb hr (fun t9 ht9 hW9 => ⟨⟨(tp, tk, qu, qr, qs, ga, r), rfl, trivial, by rw [ht9]; exact hP, by rw [hAe]; exact hD⟩, hS.F ht9⟩) hS.2.2 d_Xinit_48
end
section
section FGSL
variable {p : Program} {l : Launch} {e : Env} {R : Room} {s : State} {m : MethodId} {args : Array Value} {below : List Frame} {meth : Method} {c : Code} {H : Heap} {locs : List Loc} {cells slots : Nat} {Q : State → Prop}
variable {cc : ByteArray} {pc : Nat} {ls : Array Slot} {rest : List Value} {A : Nat → Prop} {H0 : Heap}
theorem fg_sld (hx : p.tables.exec = Jvm.exec) (hb : c.code = cc) {b L : Nat} {xs : Nat → Int32} (hX : va_X b L xs s H0) (hbl : b < H0.size) (hbA : ¬ A b) (hS : va_S A H0 H locs) {i : Nat} (hin : i < L) (hL : L < 2 ^ 31) (hdg : decode cc pc = .ok (.iaload, 1))
    (kk : W p l e R s m args below meth c H locs cells slots Q (F0 m (pc + 1) ls (.int (xs i) :: rest))) : W p l e R s m args below meth c H locs cells slots Q (F0 m pc ls (.int (nI i) :: .ref b :: rest)) :=
  va_sld hx hb hX hbl hbA hS (vp_in_nI hin hL) hdg (by rw [nI_clamp (by omega)]; exact kk)
end FGSL
/-! the invariant between the two sides -/
def LI (n f cn kl : Nat) (t T TM S q ln : Nat → Int32) (Rr : Nat → Nat → Int32) (g : GS) : Prop := n ≤ 259 ∧ BF t ∧ (∀ a, BF (Rr a)) ∧ BF q ∧ kl ≤ 252 ∧ (∀ j, j < kl → T j = TM j) ∧ QR f cn Rr S q ln ∧ gOK g
theorem LI_give {n f cn kl : Nat} {t T TM S q ln : Nat → Int32} {Rr : Nat → Nat → Int32} {g : GS} (h : LI n f cn kl t T TM S q ln Rr g) (wl : Int64) (x : Int32) : LI (n + gvK n x) f cn kl (gv t n wl (gvK n x)) T TM S q ln Rr g :=
  ⟨gvK_le n x h.1, h.2.1.gv n wl _, h.2.2⟩
theorem LI_seal {n f cn kl : Nat} {t T TM S q ln : Nat → Int32} {Rr : Nat → Nat → Int32} {g : GS} (h : LI n f cn kl t T TM S q ln Rr g) : LI (if n ≤ 257 then (n + 2, sld t n) else (n, t)).1 f cn kl (if n ≤ 257 then (n + 2, sld t n) else (n, t)).2 T TM S q ln Rr g := by
  by_cases h2 : n ≤ 257
  · rw [if_pos h2]
    exact ⟨by show n + 2 ≤ 259; omega, h.2.1.sld n, h.2.2⟩
  · rw [if_neg h2]
    exact h
theorem ino_put {t : Nat → Int32} {c : Nat} {g : GS} (h : (ino t c g).1 = 1 ∨ (ino t c g).1 = 2) : c ≠ 8 := by
  intro hc
  unfold ino at h
  rw [if_pos hc] at h
  repeat' split at h
  all_goals simp at h
theorem fr_put {t : Nat → Int32} {n c : Nat} {g : GS} (h : (fr t n c g).1 = 1 ∨ (fr t n c g).1 = 2) : fOK t n ∧ c ≠ 8 := by
  have h : (fr0 t n c g).1 = 1 ∨ (fr0 t n c g).1 = 2 := h
  unfold fr0 at h
  by_cases h1 : ¬ fOK t n ∨ bN (t 0) / 16 % 4 = 1
  · rw [if_pos h1] at h
    simp at h
  · rw [if_neg h1] at h
    have hok : fOK t n := Classical.not_not.mp (fun q => h1 (Or.inl q))
    refine ⟨hok, ?_⟩
    split at h
    · have := ctl_w t (fL t - 6) g
      omega
    · split at h
      · exact ino_put h
      · intro hc
        unfold bes at h
        rw [if_pos hc] at h
        simp at h
theorem LI_frame {n f cn kl : Nat} {t T TM S q ln : Nat → Int32} {Rr : Nat → Nat → Int32} {g : GS} (h : LI n f cn kl t T TM S q ln Rr g) :
    LI 0 f (pC (fr t n cn g).1 cn) kl t T TM (pS (fr t n cn g).1 f cn (fL t - 6) S) (pQ (fr t n cn g).1 cn (fL t - 6) t q) (pL (fr t n cn g).1 cn (fL t - 6) ln) (pR (fr t n cn g).1 f cn (fL t - 6) t Rr) (fr t n cn g).2 := by
  obtain ⟨hn, hB, hBR, hBq, hkl, hTT, hQR, hg⟩ := h
  have hg2 : gOK (fr t n cn g).2 := gOK_fr hg
  by_cases hw : (fr t n cn g).1 = 1 ∨ (fr t n cn g).1 = 2
  · obtain ⟨hok, hc8⟩ := fr_put hw
    have h7 : fL t + 1 ≤ n := hok.2.2.2.2.2.2.1
    have hc := hQR.2.1
    unfold pC pS pQ pL pR
    rw [if_pos hw, if_pos hw, if_pos hw, if_pos hw, if_pos hw]
    refine ⟨by omega, hB, fun a => ?_, hB.cpy hBq _ _ _, hkl, hTT, QR_put hQR (by omega) (by omega), hg2⟩
    by_cases ha : a = (f + cn) % 8
    · rw [ha, va_up_self]
      exact hB.cpy (hBR _) _ _ _
    · rw [va_up_ne _ _ ha]
      exact hBR a
  · unfold pC pS pQ pL pR
    rw [if_neg hw, if_neg hw, if_neg hw, if_neg hw, if_neg hw]
    exact ⟨by omega, hB, hBR, hBq, hkl, hTT, hQR, hg2⟩
theorem QR_head {f c : Nat} {R : Nat → Nat → Int32} {S q ln : Nat → Int32} (h : QR f c R S q ln) : ∃ k, (0 < c → S f = nI k ∧ k ≤ 252) ∧ (0 < c → ln 0 = nI k ∧ k ≤ 252) ∧ (0 < c → ∀ j, j < k → R f j = q j) := by
  obtain ⟨h1, h2, h3⟩ := h
  by_cases hc : 0 < c
  · obtain ⟨k, g1, g2, g3, g4⟩ := h3 0 hc
    rw [show (f + 0) % 8 = f by omega] at g2 g4
    exact ⟨k, fun _ => ⟨g2, g1⟩, fun _ => ⟨g3, g1⟩, fun _ j hj => (g4 j hj).trans (by rw [show 256 * 0 + j = j by omega])⟩
  · exact ⟨0, fun h => absurd h hc, fun h => absurd h hc, fun h => absurd h hc⟩
theorem LI_take {n f cn kl k : Nat} {t T TM S q ln : Nat → Int32} {Rr : Nat → Nat → Int32} {g : GS} (h : LI n f cn kl t T TM S q ln Rr g) (hc : 0 < cn) (hk : k ≤ 252) (hj : ∀ j, j < k → Rr f j = q j) :
    LI n ((f + 1) % 8) (cn - 1) k t (va_cpy (Rr f) T 0 0 k) (va_cpy q TM 0 0 k) S (va_cpy q q 256 0 (256 * (cn - 1))) (va_cpy ln ln 1 0 (cn - 1)) Rr g := by
  obtain ⟨hn, hB, hBR, hBq, hkl, hTT, hQR, hg⟩ := h
  refine ⟨hn, hB, hBR, hBq.cpy hBq _ _ _, hk, fun j h1 => ?_, QR_take hQR hc, hg⟩
  rw [sb_cpy0 h1, sb_cpy0 h1]
  exact hj j h1
theorem LI_rel {n f cn kl st nx bs wt ag rf ac : Nat} {t T TM S q ln : Nat → Int32} {Rr : Nat → Nat → Int32} (h : LI n f cn kl t T TM S q ln Rr (st, nx, bs, wt, ag, rf, ac)) : LI n f cn kl t T TM S q ln Rr (if st = 2 then 1 else st, nx, bs, 0, ag, rf, ac) := by
  obtain ⟨hn, hB, hBR, hBq, hkl, hTT, hQR, g1, g2, g3, g4, g5⟩ := h
  refine ⟨hn, hB, hBR, hBq, hkl, hTT, hQR, ?_, g2, g3, by show 0 < 2; omega, g5⟩
  show (if st = 2 then 1 else st) < 4
  have : st < 4 := g1
  split <;> omega
/-! THE CLAIM OUT OF ONE WALK OF THE LAW'S BODY. Your part is whole_start (and what it stands on); all else here is the same for every law, but numbers. -/
def lw_P (b : Addr) (xs : List Int32) (args : Array Value) (s : State) : Prop := args = #[.ref b] ∧ s.IntsAt b xs ∧ xs.length ≤ 2048 ∧ (Jvm.Cond.and given_1 narrow_1).before args s = true
def lw_Q (_ : Array Value) (s : State) (o : Outcome) (t : State) : Prop := o = .returned (some (.int 1)) ∧ Framed s o t [] 600000 7302250
def lw_Z (below : List Frame) (a : Array Value) (s : State) : State → Prop := fun t => ∃ o, t.status = .running ∧ Ended t below o ∧ lw_Q a s o t
/-- the law's own end, with 1 on the stack, nothing written that was there before, its room as the claim has it -/
theorem lw_ret {p : Program} {l : Launch} {e : Env} {s : State} {m : MethodId} {below : List Frame} {meth : Method} {c : Code} {b : Nat} (hx : p.tables.exec = Jvm.exec) (hb : c.code = code) (hr : meth.sig.returnType = ret) (hlocks : meth.locks = false) {pc : Nat} {H : Heap} {ls : Array Slot} (hdg : decode code pc = .ok (.ireturn, 1)) : W p l e room_1 s m #[Value.ref b] below meth c H [] 600000 7302250 (lw_Z below #[Value.ref b] s) (F0 m pc ls [.int 1]) := by
  intro T hT X
  obtain ⟨fs, hret, hrun, hended, hW, hframe⟩ := X.leave (v := some (.int 1)) (hlocks := hlocks) (fun h => by rw [hr] at h; cases h)
  have hmeth' : T.vm.method? m = some meth := X.method'
  refine ⟨T.setFrames fs, ?_, .returned (some (.int 1)), hrun, hended, rfl, ⟨_, rfl⟩, hW, hframe⟩
  jvm_step X.here [X.here.top, hx, hb, hdg, hmeth', hr, ret, narrow_b1]
  (try refine ⟨rfl, ?_⟩); (try refine ⟨rfl, ?_⟩)
  first | (intro acts; rw [hret _ acts rfl rfl rfl]) | rw [hret _ _ rfl rfl rfl]
  exact Steps.refl _
/-- what holds at the law's entry: the machine, the code, the tables' words (any of lw_tbl by 'hts w (by decide +kernel)'), the script of L ints xs at the cell b, what the Statement gives of the start (any of its parts by flat_of_before) -/
def lw_At (p : Program) (s : State) (m : MethodId) (meth : Method) (c : Code) (b L : Nat) (xs : Nat → Int32) : Prop :=
  p.tables.exec = Jvm.exec ∧ c.code = code ∧ meth.sig.returnType = ret ∧ c.maxLocals = 4 ∧ s.vm.findClass R_law = some m.cls ∧ (∀ w ∈ lw_tbl, w.before #[Value.ref b] s = true) ∧ va_X b L xs s s.heap ∧ b < s.heap.size ∧ meth.locks = false ∧ (Jvm.Cond.and given_1 narrow_1).before #[Value.ref b] s = true
set_option maxHeartbeats 8000000 in
set_option maxRecDepth 100000 in
/-- THE LAW'S LOOP: at its head, v ints read, the two sides agree -/
theorem law_loop {p : Program} {l : Launch} {e : Env} {s : State} {m : MethodId} {below : List Frame} {meth : Method} {c : Code} {dC : Nat → ClassId} {dI : Nat → Nat → Nat} {cB cI cG : ClassId} {b L : Nat} {xs : Nat → Int32} (hL : L ≤ 2048) (C0 : lw_At p s m meth c b L xs) (hK : va_K (dC, dI) fgC (tysA cB cI cG) s) (hN : fgN cB cG s) (ox tp tk ga qu qr qs h0 a1 a2 a3 a4 : Nat) (r : Nat → Nat) (ls : Array Slot) (H : Heap) (locs : List Loc) (d : Nat)
    (hI : (fun (d : Nat) (ls : Array Slot) (H1 : Heap) (locs1 : List Loc) => ∃ (v th n f cn kl : Nat) (t T TM S q ln : Nat → Int32) (Rr : Nat → Nat → Int32) (st nx bs wt ag rf ac : Nat), v + d = L + 8 ∧ v ≤ L + 4 ∧ LI n f cn kl t T TM S q ln Rr (st, nx, bs, wt, ag, rf, ac) ∧ lv_has ls 4 [(0, .ref b), (1, .ref ox), (2, .ref h0), (3, .int (nI v))] ∧ va_P (dC, dI) fgC ([(ox, .inr (2, [.ref tp, .int (nI n), .ref tk, .int (nI kl), .ref qu, .ref ga])), (tp, .inl (cB, 259, .inl t)), (tk, .inl (cB, 252, .inl T)), (ga, .inr (1, [.ref qu, .int (nI st), .int (nI nx), .int (nI bs), .int (nI wt), .int (nI ag), .int (nI rf), .int (nI ac)])), (qu, .inr (0, [.ref qr, .ref qs, .int (nI f), .int (nI cn)])), (qr, .inl (cG, 8, .inr (.inr (.inr (.inr (fun k => some (r k))))))), (qs, .inl (cI, 8, .inl S))] ++ rwL cB r Rr ++ [(h0, .inr (3, [.int (nI th), .ref a1, .int (nI n), .int (nI cn), .ref a2, .ref a3, .ref a4, .int (nI kl), .int (nI st), .int (nI nx), .int (nI bs), .int (nI wt), .int (nI ag), .int (nI rf), .int (nI ac)])), (a1, .inl (cB, 259, .inl t)), (a2, .inl (cB, 2048, .inl q)), (a3, .inl (cI, 8, .inl ln)), (a4, .inl (cB, 256, .inl TM))]) H1 ∧ va_D (fun q : Nat => s.heap.size ≤ q) ([(ox, .inr (2, [.ref tp, .int (nI n), .ref tk, .int (nI kl), .ref qu, .ref ga])), (tp, .inl (cB, 259, .inl t)), (tk, .inl (cB, 252, .inl T)), (ga, .inr (1, [.ref qu, .int (nI st), .int (nI nx), .int (nI bs), .int (nI wt), .int (nI ag), .int (nI rf), .int (nI ac)])), (qu, .inr (0, [.ref qr, .ref qs, .int (nI f), .int (nI cn)])), (qr, .inl (cG, 8, .inr (.inr (.inr (.inr (fun k => some (r k))))))), (qs, .inl (cI, 8, .inl S))] ++ rwL cB r Rr ++ [(h0, .inr (3, [.int (nI th), .ref a1, .int (nI n), .int (nI cn), .ref a2, .ref a3, .ref a4, .int (nI kl), .int (nI st), .int (nI nx), .int (nI bs), .int (nI wt), .int (nI ag), .int (nI rf), .int (nI ac)])), (a1, .inl (cB, 259, .inl t)), (a2, .inl (cB, 2048, .inl q)), (a3, .inl (cI, 8, .inl ln)), (a4, .inl (cB, 256, .inl TM))]) ∧ va_S (fun q : Nat => s.heap.size ≤ q) s.heap H1 locs1) d ls H locs) : W p l e room_1 s m #[Value.ref b] below meth c H locs 600000 7302250 (lw_Z below #[Value.ref b] s) (F0 m 18 ls []) := by
  obtain ⟨hx, hb, hr, hml, hown, hts, hX, hbl, hlocks, hgv⟩ := C0
  have ht : ∀ w ∈ w_all, w.before #[Value.ref b] s = true := fun w h => hts w (w_sub w h)
  have hA : ∀ q : Nat, s.heap.size ≤ q → (fun q : Nat => s.heap.size ≤ q) q := fun _ h => h
  have hbA : ¬ (fun q : Nat => s.heap.size ≤ q) b := Nat.not_le.mpr hbl
  generalize hAe : (fun q : Nat => s.heap.size ≤ q) = A at hI hA hbA
  have hAf : ∀ q, A q → s.heap.size ≤ q := fun q h => by rw [← hAe] at h; exact h
  refine fg_loop (fun d ls H1 locs1 => ∃ (v th n f cn kl : Nat) (t T TM S q ln : Nat → Int32) (Rr : Nat → Nat → Int32) (st nx bs wt ag rf ac : Nat), v + d = L + 8 ∧ v ≤ L + 4 ∧ LI n f cn kl t T TM S q ln Rr (st, nx, bs, wt, ag, rf, ac) ∧ lv_has ls 4 [(0, .ref b), (1, .ref ox), (2, .ref h0), (3, .int (nI v))] ∧ va_P (dC, dI) fgC ([(ox, .inr (2, [.ref tp, .int (nI n), .ref tk, .int (nI kl), .ref qu, .ref ga])), (tp, .inl (cB, 259, .inl t)), (tk, .inl (cB, 252, .inl T)), (ga, .inr (1, [.ref qu, .int (nI st), .int (nI nx), .int (nI bs), .int (nI wt), .int (nI ag), .int (nI rf), .int (nI ac)])), (qu, .inr (0, [.ref qr, .ref qs, .int (nI f), .int (nI cn)])), (qr, .inl (cG, 8, .inr (.inr (.inr (.inr (fun k => some (r k))))))), (qs, .inl (cI, 8, .inl S))] ++ rwL cB r Rr ++ [(h0, .inr (3, [.int (nI th), .ref a1, .int (nI n), .int (nI cn), .ref a2, .ref a3, .ref a4, .int (nI kl), .int (nI st), .int (nI nx), .int (nI bs), .int (nI wt), .int (nI ag), .int (nI rf), .int (nI ac)])), (a1, .inl (cB, 259, .inl t)), (a2, .inl (cB, 2048, .inl q)), (a3, .inl (cI, 8, .inl ln)), (a4, .inl (cB, 256, .inl TM))]) H1 ∧ va_D A ([(ox, .inr (2, [.ref tp, .int (nI n), .ref tk, .int (nI kl), .ref qu, .ref ga])), (tp, .inl (cB, 259, .inl t)), (tk, .inl (cB, 252, .inl T)), (ga, .inr (1, [.ref qu, .int (nI st), .int (nI nx), .int (nI bs), .int (nI wt), .int (nI ag), .int (nI rf), .int (nI ac)])), (qu, .inr (0, [.ref qr, .ref qs, .int (nI f), .int (nI cn)])), (qr, .inl (cG, 8, .inr (.inr (.inr (.inr (fun k => some (r k))))))), (qs, .inl (cI, 8, .inl S))] ++ rwL cB r Rr ++ [(h0, .inr (3, [.int (nI th), .ref a1, .int (nI n), .int (nI cn), .ref a2, .ref a3, .ref a4, .int (nI kl), .int (nI st), .int (nI nx), .int (nI bs), .int (nI wt), .int (nI ag), .int (nI rf), .int (nI ac)])), (a1, .inl (cB, 259, .inl t)), (a2, .inl (cB, 2048, .inl q)), (a3, .inl (cI, 8, .inl ln)), (a4, .inl (cB, 256, .inl TM))]) ∧ va_S A s.heap H1 locs1) (fun d ih ls H locs hI => ?_) d hI
  obtain ⟨v, th, n, f, cn, kl, t, T, TM, S, q, ln, Rr, st, nx, bs, wt, ag, rf, ac, hd, hv, hI, hl, hP, hD, hS⟩ := hI
  obtain ⟨hn, hB, hBR, hBq, hkl, hTT, hQR, hg⟩ := id hI
  have hg : st < 4 ∧ nx < 256 ∧ bs < 4 ∧ wt < 2 ∧ ag < 2 := hg
  have hf : f < 8 := hQR.1
  have hc : cn ≤ 8 := hQR.2.1
  refine lv_iload_n hx hb d_L_law_18 rfl (lv_at hl 3 rfl) ?_
  refine lv_aload_n hx hb d_L_law_19 rfl (lv_at hl 0 rfl) ?_
  refine va_slen hx hb hX hbl hbA hS d_L_law_20 ?_
  refine lv_iconst (v := (nI 4)) hx hb d_L_law_21 (by decide) ?_
  by_cases h4 : 4 ≤ L
  · refine fg_isub hx hb d_L_law_22 (by omega) ?_
    refine fg_cmp_gt (tgt := 277) hx hb d_L_law_23 (by decide) (by omega) (by omega) (fun c_23 => ?_) (fun c_23 => ?_)
    · refine lv_iconst (v := (nI 1)) hx hb d_L_law_277 (by decide) ?_
      refine va_forget (fun q hq => hAf _ (hS.2.2 q hq)) ?_
      exact lw_ret hx hb hr hlocks d_L_law_278
    · refine lv_aload_n hx hb d_L_law_26 rfl (lv_at hl 0 rfl) ?_
      refine lv_iload_n hx hb d_L_law_27 rfl (lv_at hl 3 rfl) ?_
      refine fg_sld hx hb hX hbl hbA hS (by omega) (by omega) d_L_law_28 ?_
      refine lv_bipush (v := (nI 15)) hx hb d_L_law_29 (by decide) ?_
      refine lv_iand hx hb d_L_law_31 ?_
      obtain ⟨y, hy16, hye⟩ := pk_andE (xs v) (m := nI 15) 4 (by decide)
      refine fg_nm (y := nI y) hye ?_
      by_cases hy0 : y = 0
      · rw [hy0]
        refine lv_tableIn (off := 52) (tgt := 84) hx hb d_L_law_32 (by decide) (by decide) rfl (by decide) ?_
        refine lv_aload_n hx hb d_L_law_84 rfl (lv_at hl 1 rfl) ?_
        refine lv_aload_n hx hb d_L_law_85 rfl (lv_at hl 0 rfl) ?_
        refine lv_iload_n hx hb d_L_law_86 rfl (lv_at hl 3 rfl) ?_
        refine lv_iconst (v := (nI 1)) hx hb d_L_law_87 (by decide) ?_
        refine fg_iadd hx hb d_L_law_88 ?_
        refine fg_sld hx hb hX hbl hbA hS (by omega) (by omega) d_L_law_89 ?_
        refine lv_i2l (v := (xs (v + 1)).toInt64) hx hb d_L_law_90 rfl ?_
        refine lv_bipush (v := (nI 32)) hx hb d_L_law_91 (by decide) ?_
        refine lv_lshl (v := ((xs (v + 1)).toInt64) <<< ((nI 32).toInt64 &&& 63)) hx hb d_L_law_93 rfl ?_
        refine lv_aload_n hx hb d_L_law_94 rfl (lv_at hl 0 rfl) ?_
        refine lv_iload_n hx hb d_L_law_95 rfl (lv_at hl 3 rfl) ?_
        refine lv_iconst (v := (nI 2)) hx hb d_L_law_96 (by decide) ?_
        refine fg_iadd hx hb d_L_law_97 ?_
        refine fg_sld hx hb hX hbl hbA hS (by omega) (by omega) d_L_law_98 ?_
        refine lv_i2l (v := (xs (v + 2)).toInt64) hx hb d_L_law_99 rfl ?_
        refine lv_ldc2 (v := 4294967295) hx hb hown (ht _ m_311) d_L_law_100 ?_
        refine lv_land hx hb d_L_law_103 ?_
        refine lv_lor hx hb d_L_law_104 ?_
        refine lv_aload_n hx hb d_L_law_105 rfl (lv_at hl 0 rfl) ?_
        refine lv_iload_n hx hb d_L_law_106 rfl (lv_at hl 3 rfl) ?_
        refine lv_iconst (v := (nI 3)) hx hb d_L_law_107 (by decide) ?_
        refine fg_iadd hx hb d_L_law_108 ?_
        refine fg_sld hx hb hX hbl hbA hS (by omega) (by omega) d_L_law_109 ?_
        refine fg_calli (wc := [(ox, .inr (2, [.ref tp, .int (nI n), .ref tk, .int (nI kl), .ref qu, .ref ga])), (tp, .inl (cB, 259, .inl t))]) (wr := ([(tk, .inl (cB, 252, .inl T)), (ga, .inr (1, [.ref qu, .int (nI st), .int (nI nx), .int (nI bs), .int (nI wt), .int (nI ag), .int (nI rf), .int (nI ac)])), (qu, .inr (0, [.ref qr, .ref qs, .int (nI f), .int (nI cn)])), (qr, .inl (cG, 8, .inr (.inr (.inr (.inr (fun k => some (r k))))))), (qs, .inl (cI, 8, .inl S))] ++ rwL cB r Rr ++ [(h0, .inr (3, [.int (nI th), .ref a1, .int (nI n), .int (nI cn), .ref a2, .ref a3, .ref a4, .int (nI kl), .int (nI st), .int (nI nx), .int (nI bs), .int (nI wt), .int (nI ag), .int (nI rf), .int (nI ac)])), (a1, .inl (cB, 259, .inl t)), (a2, .inl (cB, 2048, .inl q)), (a3, .inl (cI, 8, .inl ln)), (a4, .inl (cB, 256, .inl TM))])) (fun (u : Nat) => [(ox, .inr (2, [.ref tp, .int (nI (n + u)), .ref tk, .int (nI kl), .ref qu, .ref ga])), (tp, .inl (cB, 259, .inl (gv t n (((xs (v + 1)).toInt64 <<< ((nI 32).toInt64 &&& 63)) ||| ((xs (v + 2)).toInt64 &&& 4294967295)) u)))]) (va_runV (As := [.long ((((xs (v + 1)).toInt64) <<< ((nI 32).toInt64 &&& 63)) ||| (((xs (v + 2)).toInt64) &&& 4294967295)), .int (xs (v + 3))]) (rest := []) ⟨hx, hb, hml, hown, ht⟩ (c_X_give l dC dI cB cI cG ox tp tk qu ga n kl t (((xs (v + 1)).toInt64 <<< ((nI 32).toInt64 &&& 63)) ||| ((xs (v + 2)).toInt64 &&& 4294967295)) (xs (v + 3)) H.size hn) (cwV 2 ht (fg_gV m_93 m_94 m_95 m_1 m_96) rfl rfl rfl (by decide +kernel) ⟨Nat.le_of_ble_eq_true rfl, Nat.le_of_ble_eq_true rfl⟩) (fg_preV hK (hP.sub [0, 1] rfl) (hD.sub [0, 1] (by decide) rfl) (va_recv hK hP (ci := 2) (q0 := 0) rfl rfl)) rfl rfl hl.1 rfl (lv_room (Nat.le_of_ble_eq_true rfl)) d_L_law_110 ⟨Nat.le_of_ble_eq_true rfl, Nat.le_of_ble_eq_true rfl⟩) hP hD hS hA [0, 1] [2, 3, 4, 5, 6, 7, 8, 9, 10, 11, 12, 13, 14, 15, 16, 17, 18, 19] rfl rfl (by decide) (by decide) (fun r_110 u H locs hw hP hD hS => ?_)
        obtain ⟨hr2, rfl⟩ := hw
        obtain rfl : r_110 = nI (if (gvK n (xs (v + 3))) = 0 then 0 else 1) := hr2
        have hP : va_P (dC, dI) fgC ([(ox, .inr (2, [.ref tp, .int (nI (n + (gvK n (xs (v + 3))))), .ref tk, .int (nI kl), .ref qu, .ref ga])), (tp, .inl (cB, 259, .inl (gv t n (((xs (v + 1)).toInt64 <<< ((nI 32).toInt64 &&& 63)) ||| ((xs (v + 2)).toInt64 &&& 4294967295)) (gvK n (xs (v + 3)))))), (tk, .inl (cB, 252, .inl T)), (ga, .inr (1, [.ref qu, .int (nI st), .int (nI nx), .int (nI bs), .int (nI wt), .int (nI ag), .int (nI rf), .int (nI ac)])), (qu, .inr (0, [.ref qr, .ref qs, .int (nI f), .int (nI cn)])), (qr, .inl (cG, 8, .inr (.inr (.inr (.inr (fun k => some (r k))))))), (qs, .inl (cI, 8, .inl S))] ++ rwL cB r Rr ++ [(h0, .inr (3, [.int (nI th), .ref a1, .int (nI n), .int (nI cn), .ref a2, .ref a3, .ref a4, .int (nI kl), .int (nI st), .int (nI nx), .int (nI bs), .int (nI wt), .int (nI ag), .int (nI rf), .int (nI ac)])), (a1, .inl (cB, 259, .inl t)), (a2, .inl (cB, 2048, .inl q)), (a3, .inl (cI, 8, .inl ln)), (a4, .inl (cB, 256, .inl TM))]) H := hP.sub [18, 19, 0, 1, 2, 3, 4, 5, 6, 7, 8, 9, 10, 11, 12, 13, 14, 15, 16, 17] rfl
        have hD : va_D A ([(ox, .inr (2, [.ref tp, .int (nI (n + (gvK n (xs (v + 3))))), .ref tk, .int (nI kl), .ref qu, .ref ga])), (tp, .inl (cB, 259, .inl (gv t n (((xs (v + 1)).toInt64 <<< ((nI 32).toInt64 &&& 63)) ||| ((xs (v + 2)).toInt64 &&& 4294967295)) (gvK n (xs (v + 3)))))), (tk, .inl (cB, 252, .inl T)), (ga, .inr (1, [.ref qu, .int (nI st), .int (nI nx), .int (nI bs), .int (nI wt), .int (nI ag), .int (nI rf), .int (nI ac)])), (qu, .inr (0, [.ref qr, .ref qs, .int (nI f), .int (nI cn)])), (qr, .inl (cG, 8, .inr (.inr (.inr (.inr (fun k => some (r k))))))), (qs, .inl (cI, 8, .inl S))] ++ rwL cB r Rr ++ [(h0, .inr (3, [.int (nI th), .ref a1, .int (nI n), .int (nI cn), .ref a2, .ref a3, .ref a4, .int (nI kl), .int (nI st), .int (nI nx), .int (nI bs), .int (nI wt), .int (nI ag), .int (nI rf), .int (nI ac)])), (a1, .inl (cB, 259, .inl t)), (a2, .inl (cB, 2048, .inl q)), (a3, .inl (cI, 8, .inl ln)), (a4, .inl (cB, 256, .inl TM))]) := hD.sub [18, 19, 0, 1, 2, 3, 4, 5, 6, 7, 8, 9, 10, 11, 12, 13, 14, 15, 16, 17] (by decide) rfl
        refine lv_aload_n hx hb d_L_law_113 rfl (lv_at hl 2 rfl) ?_
        refine lv_aload_n hx hb d_L_law_114 rfl (lv_at hl 0 rfl) ?_
        refine lv_iload_n hx hb d_L_law_115 rfl (lv_at hl 3 rfl) ?_
        refine lv_iconst (v := (nI 1)) hx hb d_L_law_116 (by decide) ?_
        refine fg_iadd hx hb d_L_law_117 ?_
        refine fg_sld hx hb hX hbl hbA hS (by omega) (by omega) d_L_law_118 ?_
        refine lv_i2l (v := (xs (v + 1)).toInt64) hx hb d_L_law_119 rfl ?_
        refine lv_bipush (v := (nI 32)) hx hb d_L_law_120 (by decide) ?_
        refine lv_lshl (v := ((xs (v + 1)).toInt64) <<< ((nI 32).toInt64 &&& 63)) hx hb d_L_law_122 rfl ?_
        refine lv_aload_n hx hb d_L_law_123 rfl (lv_at hl 0 rfl) ?_
        refine lv_iload_n hx hb d_L_law_124 rfl (lv_at hl 3 rfl) ?_
        refine lv_iconst (v := (nI 2)) hx hb d_L_law_125 (by decide) ?_
        refine fg_iadd hx hb d_L_law_126 ?_
        refine fg_sld hx hb hX hbl hbA hS (by omega) (by omega) d_L_law_127 ?_
        refine lv_i2l (v := (xs (v + 2)).toInt64) hx hb d_L_law_128 rfl ?_
        refine lv_ldc2 (v := 4294967295) hx hb hown (ht _ m_311) d_L_law_129 ?_
        refine lv_land hx hb d_L_law_132 ?_
        refine lv_lor hx hb d_L_law_133 ?_
        refine lv_aload_n hx hb d_L_law_134 rfl (lv_at hl 0 rfl) ?_
        refine lv_iload_n hx hb d_L_law_135 rfl (lv_at hl 3 rfl) ?_
        refine lv_iconst (v := (nI 3)) hx hb d_L_law_136 (by decide) ?_
        refine fg_iadd hx hb d_L_law_137 ?_
        refine fg_sld hx hb hX hbl hbA hS (by omega) (by omega) d_L_law_138 ?_
        refine fg_calli (wc := [(h0, .inr (3, [.int (nI th), .ref a1, .int (nI n), .int (nI cn), .ref a2, .ref a3, .ref a4, .int (nI kl), .int (nI st), .int (nI nx), .int (nI bs), .int (nI wt), .int (nI ag), .int (nI rf), .int (nI ac)])), (a1, .inl (cB, 259, .inl t))]) (wr := ([(ox, .inr (2, [.ref tp, .int (nI (n + (gvK n (xs (v + 3))))), .ref tk, .int (nI kl), .ref qu, .ref ga])), (tp, .inl (cB, 259, .inl (gv t n (((xs (v + 1)).toInt64 <<< ((nI 32).toInt64 &&& 63)) ||| ((xs (v + 2)).toInt64 &&& 4294967295)) (gvK n (xs (v + 3)))))), (tk, .inl (cB, 252, .inl T)), (ga, .inr (1, [.ref qu, .int (nI st), .int (nI nx), .int (nI bs), .int (nI wt), .int (nI ag), .int (nI rf), .int (nI ac)])), (qu, .inr (0, [.ref qr, .ref qs, .int (nI f), .int (nI cn)])), (qr, .inl (cG, 8, .inr (.inr (.inr (.inr (fun k => some (r k))))))), (qs, .inl (cI, 8, .inl S))] ++ rwL cB r Rr ++ [(a2, .inl (cB, 2048, .inl q)), (a3, .inl (cI, 8, .inl ln)), (a4, .inl (cB, 256, .inl TM))])) (fun (u : Nat) => [(h0, .inr (3, [.int (nI 0), .ref a1, .int (nI (n + u)), .int (nI cn), .ref a2, .ref a3, .ref a4, .int (nI kl), .int (nI st), .int (nI nx), .int (nI bs), .int (nI wt), .int (nI ag), .int (nI rf), .int (nI ac)])), (a1, .inl (cB, 259, .inl (gv t n (((xs (v + 1)).toInt64 <<< ((nI 32).toInt64 &&& 63)) ||| ((xs (v + 2)).toInt64 &&& 4294967295)) u)))]) (va_runV (As := [.long ((((xs (v + 1)).toInt64) <<< ((nI 32).toInt64 &&& 63)) ||| (((xs (v + 2)).toInt64) &&& 4294967295)), .int (xs (v + 3))]) (rest := [.int (nI (if (gvK n (xs (v + 3))) = 0 then 0 else 1))]) ⟨hx, hb, hml, hown, ht⟩ (c_M_give l dC dI cB cI cG h0 a1 a2 a3 a4 th n cn kl st nx bs wt ag rf ac t (((xs (v + 1)).toInt64 <<< ((nI 32).toInt64 &&& 63)) ||| ((xs (v + 2)).toInt64 &&& 4294967295)) (xs (v + 3)) H.size hn) (cwV 2 ht (fg_gV m_243 m_244 m_245 m_4 m_246) rfl rfl rfl (by decide +kernel) ⟨Nat.le_of_ble_eq_true rfl, Nat.le_of_ble_eq_true rfl⟩) (fg_preV hK (hP.sub [15, 16] rfl) (hD.sub [15, 16] (by decide) rfl) (va_recv hK hP (ci := 3) (q0 := 15) rfl rfl)) rfl rfl hl.1 rfl (lv_room (Nat.le_of_ble_eq_true rfl)) d_L_law_139 ⟨Nat.le_of_ble_eq_true rfl, Nat.le_of_ble_eq_true rfl⟩) hP hD hS hA [15, 16] [0, 1, 2, 3, 4, 5, 6, 7, 8, 9, 10, 11, 12, 13, 14, 17, 18, 19] rfl rfl (by decide) (by decide) (fun r_139 u H locs hw hP hD hS => ?_)
        obtain ⟨hr2, rfl⟩ := hw
        obtain rfl : r_139 = nI (if (gvK n (xs (v + 3))) = 0 then 0 else 1) := hr2
        have hP : va_P (dC, dI) fgC ([(ox, .inr (2, [.ref tp, .int (nI (n + (gvK n (xs (v + 3))))), .ref tk, .int (nI kl), .ref qu, .ref ga])), (tp, .inl (cB, 259, .inl (gv t n (((xs (v + 1)).toInt64 <<< ((nI 32).toInt64 &&& 63)) ||| ((xs (v + 2)).toInt64 &&& 4294967295)) (gvK n (xs (v + 3)))))), (tk, .inl (cB, 252, .inl T)), (ga, .inr (1, [.ref qu, .int (nI st), .int (nI nx), .int (nI bs), .int (nI wt), .int (nI ag), .int (nI rf), .int (nI ac)])), (qu, .inr (0, [.ref qr, .ref qs, .int (nI f), .int (nI cn)])), (qr, .inl (cG, 8, .inr (.inr (.inr (.inr (fun k => some (r k))))))), (qs, .inl (cI, 8, .inl S))] ++ rwL cB r Rr ++ [(h0, .inr (3, [.int (nI 0), .ref a1, .int (nI (n + (gvK n (xs (v + 3))))), .int (nI cn), .ref a2, .ref a3, .ref a4, .int (nI kl), .int (nI st), .int (nI nx), .int (nI bs), .int (nI wt), .int (nI ag), .int (nI rf), .int (nI ac)])), (a1, .inl (cB, 259, .inl (gv t n (((xs (v + 1)).toInt64 <<< ((nI 32).toInt64 &&& 63)) ||| ((xs (v + 2)).toInt64 &&& 4294967295)) (gvK n (xs (v + 3)))))), (a2, .inl (cB, 2048, .inl q)), (a3, .inl (cI, 8, .inl ln)), (a4, .inl (cB, 256, .inl TM))]) H := hP.sub [0, 1, 2, 3, 4, 5, 6, 7, 8, 9, 10, 11, 12, 13, 14, 18, 19, 15, 16, 17] rfl
        have hD : va_D A ([(ox, .inr (2, [.ref tp, .int (nI (n + (gvK n (xs (v + 3))))), .ref tk, .int (nI kl), .ref qu, .ref ga])), (tp, .inl (cB, 259, .inl (gv t n (((xs (v + 1)).toInt64 <<< ((nI 32).toInt64 &&& 63)) ||| ((xs (v + 2)).toInt64 &&& 4294967295)) (gvK n (xs (v + 3)))))), (tk, .inl (cB, 252, .inl T)), (ga, .inr (1, [.ref qu, .int (nI st), .int (nI nx), .int (nI bs), .int (nI wt), .int (nI ag), .int (nI rf), .int (nI ac)])), (qu, .inr (0, [.ref qr, .ref qs, .int (nI f), .int (nI cn)])), (qr, .inl (cG, 8, .inr (.inr (.inr (.inr (fun k => some (r k))))))), (qs, .inl (cI, 8, .inl S))] ++ rwL cB r Rr ++ [(h0, .inr (3, [.int (nI 0), .ref a1, .int (nI (n + (gvK n (xs (v + 3))))), .int (nI cn), .ref a2, .ref a3, .ref a4, .int (nI kl), .int (nI st), .int (nI nx), .int (nI bs), .int (nI wt), .int (nI ag), .int (nI rf), .int (nI ac)])), (a1, .inl (cB, 259, .inl (gv t n (((xs (v + 1)).toInt64 <<< ((nI 32).toInt64 &&& 63)) ||| ((xs (v + 2)).toInt64 &&& 4294967295)) (gvK n (xs (v + 3)))))), (a2, .inl (cB, 2048, .inl q)), (a3, .inl (cI, 8, .inl ln)), (a4, .inl (cB, 256, .inl TM))]) := hD.sub [0, 1, 2, 3, 4, 5, 6, 7, 8, 9, 10, 11, 12, 13, 14, 18, 19, 15, 16, 17] (by decide) rfl
        refine lv_icmp_eq (tgt := 271) hx hb d_L_law_142 (by decide) (fun c_142 => ?_) (fun c_142 => ?_)
        · refine fg_iinc (n := 4) (k := 3) (lv' := [(3, .int (nI (v + 4))), (0, .ref b), (1, .ref ox), (2, .ref h0)]) hx hb d_L_law_271 hl rfl (by decide) rfl (fun ls hl => ?_)
          refine lv_goto (tgt := 18) hx hb d_L_law_274 (by decide) ?_
          exact ih (d - 4) (by omega) _ _ _ ⟨v + 4, 0, (n + (gvK n (xs (v + 3)))), f, cn, kl, (gv t n (((xs (v + 1)).toInt64 <<< ((nI 32).toInt64 &&& 63)) ||| ((xs (v + 2)).toInt64 &&& 4294967295)) (gvK n (xs (v + 3)))), T, TM, S, q, ln, Rr, st, nx, bs, wt, ag, rf, ac, by omega, by omega, LI_give hI _ _, lv_sub hl [1, 2, 3, 0] rfl, hP, hD, hS⟩
        · exact absurd rfl c_142
      by_cases hy1 : y = 1
      · rw [hy1]
        refine lv_tableIn (off := 115) (tgt := 147) hx hb d_L_law_32 (by decide) (by decide) rfl (by decide) ?_
        refine lv_aload_n hx hb d_L_law_147 rfl (lv_at hl 1 rfl) ?_
        refine fg_calli (wc := [(ox, .inr (2, [.ref tp, .int (nI n), .ref tk, .int (nI kl), .ref qu, .ref ga])), (tp, .inl (cB, 259, .inl t))]) (wr := ([(tk, .inl (cB, 252, .inl T)), (ga, .inr (1, [.ref qu, .int (nI st), .int (nI nx), .int (nI bs), .int (nI wt), .int (nI ag), .int (nI rf), .int (nI ac)])), (qu, .inr (0, [.ref qr, .ref qs, .int (nI f), .int (nI cn)])), (qr, .inl (cG, 8, .inr (.inr (.inr (.inr (fun k => some (r k))))))), (qs, .inl (cI, 8, .inl S))] ++ rwL cB r Rr ++ [(h0, .inr (3, [.int (nI th), .ref a1, .int (nI n), .int (nI cn), .ref a2, .ref a3, .ref a4, .int (nI kl), .int (nI st), .int (nI nx), .int (nI bs), .int (nI wt), .int (nI ag), .int (nI rf), .int (nI ac)])), (a1, .inl (cB, 259, .inl t)), (a2, .inl (cB, 2048, .inl q)), (a3, .inl (cI, 8, .inl ln)), (a4, .inl (cB, 256, .inl TM))])) (fun (u : Nat × (Nat → Int32)) => [(ox, .inr (2, [.ref tp, .int (nI u.1), .ref tk, .int (nI kl), .ref qu, .ref ga])), (tp, .inl (cB, 259, .inl u.2))]) (va_runV (As := []) (rest := []) ⟨hx, hb, hml, hown, ht⟩ (c_X_seal l dC dI cB cI cG ox tp tk qu ga n kl t H.size hn) (cwV 0 ht (fg_gV m_97 m_98 m_99 m_1 m_100) rfl rfl rfl (by decide +kernel) ⟨Nat.le_of_ble_eq_true rfl, Nat.le_of_ble_eq_true rfl⟩) (fg_preV hK (hP.sub [0, 1] rfl) (hD.sub [0, 1] (by decide) rfl) (va_recv hK hP (ci := 2) (q0 := 0) rfl rfl)) rfl rfl hl.1 rfl (lv_room (Nat.le_of_ble_eq_true rfl)) d_L_law_148 ⟨Nat.le_of_ble_eq_true rfl, Nat.le_of_ble_eq_true rfl⟩) hP hD hS hA [0, 1] [2, 3, 4, 5, 6, 7, 8, 9, 10, 11, 12, 13, 14, 15, 16, 17, 18, 19] rfl rfl (by decide) (by decide) (fun r_148 u H locs hw hP hD hS => ?_)
        obtain ⟨hr2, rfl⟩ := hw
        obtain rfl : r_148 = nI (if n ≤ 257 then 1 else 0) := hr2
        have hP : va_P (dC, dI) fgC ([(ox, .inr (2, [.ref tp, .int (nI ((if n ≤ 257 then (n + 2, sld t n) else (n, t)).1)), .ref tk, .int (nI kl), .ref qu, .ref ga])), (tp, .inl (cB, 259, .inl ((if n ≤ 257 then (n + 2, sld t n) else (n, t)).2))), (tk, .inl (cB, 252, .inl T)), (ga, .inr (1, [.ref qu, .int (nI st), .int (nI nx), .int (nI bs), .int (nI wt), .int (nI ag), .int (nI rf), .int (nI ac)])), (qu, .inr (0, [.ref qr, .ref qs, .int (nI f), .int (nI cn)])), (qr, .inl (cG, 8, .inr (.inr (.inr (.inr (fun k => some (r k))))))), (qs, .inl (cI, 8, .inl S))] ++ rwL cB r Rr ++ [(h0, .inr (3, [.int (nI th), .ref a1, .int (nI n), .int (nI cn), .ref a2, .ref a3, .ref a4, .int (nI kl), .int (nI st), .int (nI nx), .int (nI bs), .int (nI wt), .int (nI ag), .int (nI rf), .int (nI ac)])), (a1, .inl (cB, 259, .inl t)), (a2, .inl (cB, 2048, .inl q)), (a3, .inl (cI, 8, .inl ln)), (a4, .inl (cB, 256, .inl TM))]) H := hP.sub [18, 19, 0, 1, 2, 3, 4, 5, 6, 7, 8, 9, 10, 11, 12, 13, 14, 15, 16, 17] rfl
        have hD : va_D A ([(ox, .inr (2, [.ref tp, .int (nI ((if n ≤ 257 then (n + 2, sld t n) else (n, t)).1)), .ref tk, .int (nI kl), .ref qu, .ref ga])), (tp, .inl (cB, 259, .inl ((if n ≤ 257 then (n + 2, sld t n) else (n, t)).2))), (tk, .inl (cB, 252, .inl T)), (ga, .inr (1, [.ref qu, .int (nI st), .int (nI nx), .int (nI bs), .int (nI wt), .int (nI ag), .int (nI rf), .int (nI ac)])), (qu, .inr (0, [.ref qr, .ref qs, .int (nI f), .int (nI cn)])), (qr, .inl (cG, 8, .inr (.inr (.inr (.inr (fun k => some (r k))))))), (qs, .inl (cI, 8, .inl S))] ++ rwL cB r Rr ++ [(h0, .inr (3, [.int (nI th), .ref a1, .int (nI n), .int (nI cn), .ref a2, .ref a3, .ref a4, .int (nI kl), .int (nI st), .int (nI nx), .int (nI bs), .int (nI wt), .int (nI ag), .int (nI rf), .int (nI ac)])), (a1, .inl (cB, 259, .inl t)), (a2, .inl (cB, 2048, .inl q)), (a3, .inl (cI, 8, .inl ln)), (a4, .inl (cB, 256, .inl TM))]) := hD.sub [18, 19, 0, 1, 2, 3, 4, 5, 6, 7, 8, 9, 10, 11, 12, 13, 14, 15, 16, 17] (by decide) rfl
        refine lv_aload_n hx hb d_L_law_151 rfl (lv_at hl 2 rfl) ?_
        refine fg_calli (wc := [(h0, .inr (3, [.int (nI th), .ref a1, .int (nI n), .int (nI cn), .ref a2, .ref a3, .ref a4, .int (nI kl), .int (nI st), .int (nI nx), .int (nI bs), .int (nI wt), .int (nI ag), .int (nI rf), .int (nI ac)])), (a1, .inl (cB, 259, .inl t))]) (wr := ([(ox, .inr (2, [.ref tp, .int (nI ((if n ≤ 257 then (n + 2, sld t n) else (n, t)).1)), .ref tk, .int (nI kl), .ref qu, .ref ga])), (tp, .inl (cB, 259, .inl ((if n ≤ 257 then (n + 2, sld t n) else (n, t)).2))), (tk, .inl (cB, 252, .inl T)), (ga, .inr (1, [.ref qu, .int (nI st), .int (nI nx), .int (nI bs), .int (nI wt), .int (nI ag), .int (nI rf), .int (nI ac)])), (qu, .inr (0, [.ref qr, .ref qs, .int (nI f), .int (nI cn)])), (qr, .inl (cG, 8, .inr (.inr (.inr (.inr (fun k => some (r k))))))), (qs, .inl (cI, 8, .inl S))] ++ rwL cB r Rr ++ [(a2, .inl (cB, 2048, .inl q)), (a3, .inl (cI, 8, .inl ln)), (a4, .inl (cB, 256, .inl TM))])) (fun (u : Nat × (Nat → Int32)) => [(h0, .inr (3, [.int (nI 0), .ref a1, .int (nI u.1), .int (nI cn), .ref a2, .ref a3, .ref a4, .int (nI kl), .int (nI st), .int (nI nx), .int (nI bs), .int (nI wt), .int (nI ag), .int (nI rf), .int (nI ac)])), (a1, .inl (cB, 259, .inl u.2))]) (va_runV (As := []) (rest := [.int (nI (if n ≤ 257 then 1 else 0))]) ⟨hx, hb, hml, hown, ht⟩ (c_M_seal l dC dI cB cI cG h0 a1 a2 a3 a4 th n cn kl st nx bs wt ag rf ac t H.size hn) (cwV 0 ht (fg_gV m_247 m_248 m_249 m_4 m_250) rfl rfl rfl (by decide +kernel) ⟨Nat.le_of_ble_eq_true rfl, Nat.le_of_ble_eq_true rfl⟩) (fg_preV hK (hP.sub [15, 16] rfl) (hD.sub [15, 16] (by decide) rfl) (va_recv hK hP (ci := 3) (q0 := 15) rfl rfl)) rfl rfl hl.1 rfl (lv_room (Nat.le_of_ble_eq_true rfl)) d_L_law_152 ⟨Nat.le_of_ble_eq_true rfl, Nat.le_of_ble_eq_true rfl⟩) hP hD hS hA [15, 16] [0, 1, 2, 3, 4, 5, 6, 7, 8, 9, 10, 11, 12, 13, 14, 17, 18, 19] rfl rfl (by decide) (by decide) (fun r_152 u H locs hw hP hD hS => ?_)
        obtain ⟨hr2, rfl⟩ := hw
        obtain rfl : r_152 = nI (if n ≤ 257 then 1 else 0) := hr2
        have hP : va_P (dC, dI) fgC ([(ox, .inr (2, [.ref tp, .int (nI ((if n ≤ 257 then (n + 2, sld t n) else (n, t)).1)), .ref tk, .int (nI kl), .ref qu, .ref ga])), (tp, .inl (cB, 259, .inl ((if n ≤ 257 then (n + 2, sld t n) else (n, t)).2))), (tk, .inl (cB, 252, .inl T)), (ga, .inr (1, [.ref qu, .int (nI st), .int (nI nx), .int (nI bs), .int (nI wt), .int (nI ag), .int (nI rf), .int (nI ac)])), (qu, .inr (0, [.ref qr, .ref qs, .int (nI f), .int (nI cn)])), (qr, .inl (cG, 8, .inr (.inr (.inr (.inr (fun k => some (r k))))))), (qs, .inl (cI, 8, .inl S))] ++ rwL cB r Rr ++ [(h0, .inr (3, [.int (nI 0), .ref a1, .int (nI ((if n ≤ 257 then (n + 2, sld t n) else (n, t)).1)), .int (nI cn), .ref a2, .ref a3, .ref a4, .int (nI kl), .int (nI st), .int (nI nx), .int (nI bs), .int (nI wt), .int (nI ag), .int (nI rf), .int (nI ac)])), (a1, .inl (cB, 259, .inl ((if n ≤ 257 then (n + 2, sld t n) else (n, t)).2))), (a2, .inl (cB, 2048, .inl q)), (a3, .inl (cI, 8, .inl ln)), (a4, .inl (cB, 256, .inl TM))]) H := hP.sub [0, 1, 2, 3, 4, 5, 6, 7, 8, 9, 10, 11, 12, 13, 14, 18, 19, 15, 16, 17] rfl
        have hD : va_D A ([(ox, .inr (2, [.ref tp, .int (nI ((if n ≤ 257 then (n + 2, sld t n) else (n, t)).1)), .ref tk, .int (nI kl), .ref qu, .ref ga])), (tp, .inl (cB, 259, .inl ((if n ≤ 257 then (n + 2, sld t n) else (n, t)).2))), (tk, .inl (cB, 252, .inl T)), (ga, .inr (1, [.ref qu, .int (nI st), .int (nI nx), .int (nI bs), .int (nI wt), .int (nI ag), .int (nI rf), .int (nI ac)])), (qu, .inr (0, [.ref qr, .ref qs, .int (nI f), .int (nI cn)])), (qr, .inl (cG, 8, .inr (.inr (.inr (.inr (fun k => some (r k))))))), (qs, .inl (cI, 8, .inl S))] ++ rwL cB r Rr ++ [(h0, .inr (3, [.int (nI 0), .ref a1, .int (nI ((if n ≤ 257 then (n + 2, sld t n) else (n, t)).1)), .int (nI cn), .ref a2, .ref a3, .ref a4, .int (nI kl), .int (nI st), .int (nI nx), .int (nI bs), .int (nI wt), .int (nI ag), .int (nI rf), .int (nI ac)])), (a1, .inl (cB, 259, .inl ((if n ≤ 257 then (n + 2, sld t n) else (n, t)).2))), (a2, .inl (cB, 2048, .inl q)), (a3, .inl (cI, 8, .inl ln)), (a4, .inl (cB, 256, .inl TM))]) := hD.sub [0, 1, 2, 3, 4, 5, 6, 7, 8, 9, 10, 11, 12, 13, 14, 18, 19, 15, 16, 17] (by decide) rfl
        refine lv_icmp_eq (tgt := 271) hx hb d_L_law_155 (by decide) (fun c_155 => ?_) (fun c_155 => ?_)
        · refine fg_iinc (n := 4) (k := 3) (lv' := [(3, .int (nI (v + 4))), (0, .ref b), (1, .ref ox), (2, .ref h0)]) hx hb d_L_law_271 hl rfl (by decide) rfl (fun ls hl => ?_)
          refine lv_goto (tgt := 18) hx hb d_L_law_274 (by decide) ?_
          exact ih (d - 4) (by omega) _ _ _ ⟨v + 4, 0, ((if n ≤ 257 then (n + 2, sld t n) else (n, t)).1), f, cn, kl, ((if n ≤ 257 then (n + 2, sld t n) else (n, t)).2), T, TM, S, q, ln, Rr, st, nx, bs, wt, ag, rf, ac, by omega, by omega, LI_seal hI, lv_sub hl [1, 2, 3, 0] rfl, hP, hD, hS⟩
        · exact absurd rfl c_155
      by_cases hy2 : y = 2
      · rw [hy2]
        refine lv_tableIn (off := 128) (tgt := 160) hx hb d_L_law_32 (by decide) (by decide) rfl (by decide) ?_
        refine lv_aload_n hx hb d_L_law_160 rfl (lv_at hl 1 rfl) ?_
        refine vp_callSi (va_Run.run (va_runV (As := []) (rest := []) ⟨hx, hb, hml, hown, ht⟩ (c_X_length l dC dI cB cI cG ox tp tk qu ga n kl H.size) (cwV 0 ht (fg_gV m_107 m_108 m_109 m_1 m_110) rfl rfl rfl (by decide +kernel) ⟨Nat.le_of_ble_eq_true rfl, Nat.le_of_ble_eq_true rfl⟩) (fg_preV hK (hP.sub [0] rfl) (hD.sub [0] (by decide) rfl) (va_recv hK hP (ci := 2) (q0 := 0) rfl rfl)) rfl rfl hl.1 rfl (lv_room (Nat.le_of_ble_eq_true rfl)) d_L_law_161 ⟨Nat.le_of_ble_eq_true rfl, Nat.le_of_ble_eq_true rfl⟩)) (fun r_161 er_161 => ?_)
        obtain rfl : r_161 = (nI n) := er_161
        refine lv_aload_n hx hb d_L_law_164 rfl (lv_at hl 2 rfl) ?_
        refine fg_calli (wc := [(h0, .inr (3, [.int (nI th), .ref a1, .int (nI n), .int (nI cn), .ref a2, .ref a3, .ref a4, .int (nI kl), .int (nI st), .int (nI nx), .int (nI bs), .int (nI wt), .int (nI ag), .int (nI rf), .int (nI ac)]))]) (wr := ([(ox, .inr (2, [.ref tp, .int (nI n), .ref tk, .int (nI kl), .ref qu, .ref ga])), (tp, .inl (cB, 259, .inl t)), (tk, .inl (cB, 252, .inl T)), (ga, .inr (1, [.ref qu, .int (nI st), .int (nI nx), .int (nI bs), .int (nI wt), .int (nI ag), .int (nI rf), .int (nI ac)])), (qu, .inr (0, [.ref qr, .ref qs, .int (nI f), .int (nI cn)])), (qr, .inl (cG, 8, .inr (.inr (.inr (.inr (fun k => some (r k))))))), (qs, .inl (cI, 8, .inl S))] ++ rwL cB r Rr ++ [(a1, .inl (cB, 259, .inl t)), (a2, .inl (cB, 2048, .inl q)), (a3, .inl (cI, 8, .inl ln)), (a4, .inl (cB, 256, .inl TM))])) (fun (u : Unit) => [(h0, .inr (3, [.int (nI 0), .ref a1, .int (nI n), .int (nI cn), .ref a2, .ref a3, .ref a4, .int (nI kl), .int (nI st), .int (nI nx), .int (nI bs), .int (nI wt), .int (nI ag), .int (nI rf), .int (nI ac)]))]) (va_runV (As := []) (rest := [.int (nI n)]) ⟨hx, hb, hml, hown, ht⟩ (c_M_length l dC dI cB cI cG h0 a1 a2 a3 a4 th n cn kl st nx bs wt ag rf ac H.size) (cwV 0 ht (fg_gV m_258 m_259 m_260 m_4 m_261) rfl rfl rfl (by decide +kernel) ⟨Nat.le_of_ble_eq_true rfl, Nat.le_of_ble_eq_true rfl⟩) (fg_preV hK (hP.sub [15] rfl) (hD.sub [15] (by decide) rfl) (va_recv hK hP (ci := 3) (q0 := 15) rfl rfl)) rfl rfl hl.1 rfl (lv_room (Nat.le_of_ble_eq_true rfl)) d_L_law_165 ⟨Nat.le_of_ble_eq_true rfl, Nat.le_of_ble_eq_true rfl⟩) hP hD hS hA [15] [0, 1, 2, 3, 4, 5, 6, 7, 8, 9, 10, 11, 12, 13, 14, 16, 17, 18, 19] rfl rfl (by decide) (by decide) (fun r_165 u H locs hw hP hD hS => ?_)
        obtain rfl : r_165 = nI n := hw
        have hP : va_P (dC, dI) fgC ([(ox, .inr (2, [.ref tp, .int (nI n), .ref tk, .int (nI kl), .ref qu, .ref ga])), (tp, .inl (cB, 259, .inl t)), (tk, .inl (cB, 252, .inl T)), (ga, .inr (1, [.ref qu, .int (nI st), .int (nI nx), .int (nI bs), .int (nI wt), .int (nI ag), .int (nI rf), .int (nI ac)])), (qu, .inr (0, [.ref qr, .ref qs, .int (nI f), .int (nI cn)])), (qr, .inl (cG, 8, .inr (.inr (.inr (.inr (fun k => some (r k))))))), (qs, .inl (cI, 8, .inl S))] ++ rwL cB r Rr ++ [(h0, .inr (3, [.int (nI 0), .ref a1, .int (nI n), .int (nI cn), .ref a2, .ref a3, .ref a4, .int (nI kl), .int (nI st), .int (nI nx), .int (nI bs), .int (nI wt), .int (nI ag), .int (nI rf), .int (nI ac)])), (a1, .inl (cB, 259, .inl t)), (a2, .inl (cB, 2048, .inl q)), (a3, .inl (cI, 8, .inl ln)), (a4, .inl (cB, 256, .inl TM))]) H := hP.sub [0, 1, 2, 3, 4, 5, 6, 7, 8, 9, 10, 11, 12, 13, 14, 19, 15, 16, 17, 18] rfl
        have hD : va_D A ([(ox, .inr (2, [.ref tp, .int (nI n), .ref tk, .int (nI kl), .ref qu, .ref ga])), (tp, .inl (cB, 259, .inl t)), (tk, .inl (cB, 252, .inl T)), (ga, .inr (1, [.ref qu, .int (nI st), .int (nI nx), .int (nI bs), .int (nI wt), .int (nI ag), .int (nI rf), .int (nI ac)])), (qu, .inr (0, [.ref qr, .ref qs, .int (nI f), .int (nI cn)])), (qr, .inl (cG, 8, .inr (.inr (.inr (.inr (fun k => some (r k))))))), (qs, .inl (cI, 8, .inl S))] ++ rwL cB r Rr ++ [(h0, .inr (3, [.int (nI 0), .ref a1, .int (nI n), .int (nI cn), .ref a2, .ref a3, .ref a4, .int (nI kl), .int (nI st), .int (nI nx), .int (nI bs), .int (nI wt), .int (nI ag), .int (nI rf), .int (nI ac)])), (a1, .inl (cB, 259, .inl t)), (a2, .inl (cB, 2048, .inl q)), (a3, .inl (cI, 8, .inl ln)), (a4, .inl (cB, 256, .inl TM))]) := hD.sub [0, 1, 2, 3, 4, 5, 6, 7, 8, 9, 10, 11, 12, 13, 14, 19, 15, 16, 17, 18] (by decide) rfl
        refine lv_icmp_eq (tgt := 271) hx hb d_L_law_168 (by decide) (fun c_168 => ?_) (fun c_168 => ?_)
        · refine fg_iinc (n := 4) (k := 3) (lv' := [(3, .int (nI (v + 4))), (0, .ref b), (1, .ref ox), (2, .ref h0)]) hx hb d_L_law_271 hl rfl (by decide) rfl (fun ls hl => ?_)
          refine lv_goto (tgt := 18) hx hb d_L_law_274 (by decide) ?_
          exact ih (d - 4) (by omega) _ _ _ ⟨v + 4, 0, n, f, cn, kl, t, T, TM, S, q, ln, Rr, st, nx, bs, wt, ag, rf, ac, by omega, by omega, hI, lv_sub hl [1, 2, 3, 0] rfl, hP, hD, hS⟩
        · exact absurd rfl c_168
      by_cases hy3 : y = 3
      · rw [hy3]
        refine lv_tableIn (off := 141) (tgt := 173) hx hb d_L_law_32 (by decide) (by decide) rfl (by decide) ?_
        refine lv_aload_n hx hb d_L_law_173 rfl (lv_at hl 1 rfl) ?_
        refine fg_calli (wc := ([(ox, .inr (2, [.ref tp, .int (nI n), .ref tk, .int (nI kl), .ref qu, .ref ga])), (tp, .inl (cB, 259, .inl t)), (ga, .inr (1, [.ref qu, .int (nI st), .int (nI nx), .int (nI bs), .int (nI wt), .int (nI ag), .int (nI rf), .int (nI ac)])), (qu, .inr (0, [.ref qr, .ref qs, .int (nI f), .int (nI cn)])), (qr, .inl (cG, 8, .inr (.inr (.inr (.inr (fun k => some (r k))))))), (qs, .inl (cI, 8, .inl S))] ++ rwL cB r Rr ++ [])) (wr := [(tk, .inl (cB, 252, .inl T)), (h0, .inr (3, [.int (nI th), .ref a1, .int (nI n), .int (nI cn), .ref a2, .ref a3, .ref a4, .int (nI kl), .int (nI st), .int (nI nx), .int (nI bs), .int (nI wt), .int (nI ag), .int (nI rf), .int (nI ac)])), (a1, .inl (cB, 259, .inl t)), (a2, .inl (cB, 2048, .inl q)), (a3, .inl (cI, 8, .inl ln)), (a4, .inl (cB, 256, .inl TM))]) (fun (u : Nat × GS) => ([(ox, .inr (2, [.ref tp, .int (nI 0), .ref tk, .int (nI kl), .ref qu, .ref ga])), (tp, .inl (cB, 259, .inl t)), (ga, .inr (1, [.ref qu, .int (nI u.2.1), .int (nI u.2.2.1), .int (nI u.2.2.2.1), .int (nI u.2.2.2.2.1), .int (nI u.2.2.2.2.2.1), .int (nI u.2.2.2.2.2.2.1), .int (nI u.2.2.2.2.2.2.2)])), (qu, .inr (0, [.ref qr, .ref qs, .int (nI f), .int (nI (pC u.1 cn))])), (qr, .inl (cG, 8, .inr (.inr (.inr (.inr (fun k => some (r k))))))), (qs, .inl (cI, 8, .inl (pS u.1 f cn (fL t - 6) S)))] ++ rwL cB r (pR u.1 f cn (fL t - 6) t Rr) ++ [])) (va_runV (As := []) (rest := []) ⟨hx, hb, hml, hown, ht⟩ (c_X_frame l dC dI cB cI cG ox tp tk ga qu qr qs r Rr S t f cn n kl st nx bs wt ag rf ac H.size hB hf hc hn hg) (cwV 0 ht (fg_gV m_111 m_112 m_113 m_1 m_114) rfl rfl rfl (by decide +kernel) ⟨Nat.le_of_ble_eq_true rfl, Nat.le_of_ble_eq_true rfl⟩) (fg_preV hK (hP.sub [0, 1, 3, 4, 5, 6, 7, 8, 9, 10, 11, 12, 13, 14] rfl) (hD.sub [0, 1, 3, 4, 5, 6, 7, 8, 9, 10, 11, 12, 13, 14] (by decide) rfl) (va_recv hK hP (ci := 2) (q0 := 0) rfl rfl)) rfl rfl hl.1 rfl (lv_room (Nat.le_of_ble_eq_true rfl)) d_L_law_174 ⟨Nat.le_of_ble_eq_true rfl, Nat.le_of_ble_eq_true rfl⟩) hP hD hS hA [0, 1, 3, 4, 5, 6, 7, 8, 9, 10, 11, 12, 13, 14] [2, 15, 16, 17, 18, 19] rfl rfl (by decide) (by decide) (fun r_174 u H locs hw hP hD hS => ?_)
        obtain ⟨hr2, rfl⟩ := hw
        obtain rfl : r_174 = nI (fr t n cn (st, nx, bs, wt, ag, rf, ac)).1 := hr2
        have hP : va_P (dC, dI) fgC ([(ox, .inr (2, [.ref tp, .int (nI 0), .ref tk, .int (nI kl), .ref qu, .ref ga])), (tp, .inl (cB, 259, .inl t)), (tk, .inl (cB, 252, .inl T)), (ga, .inr (1, [.ref qu, .int (nI ((fr t n cn (st, nx, bs, wt, ag, rf, ac)).2.1)), .int (nI ((fr t n cn (st, nx, bs, wt, ag, rf, ac)).2.2.1)), .int (nI ((fr t n cn (st, nx, bs, wt, ag, rf, ac)).2.2.2.1)), .int (nI ((fr t n cn (st, nx, bs, wt, ag, rf, ac)).2.2.2.2.1)), .int (nI ((fr t n cn (st, nx, bs, wt, ag, rf, ac)).2.2.2.2.2.1)), .int (nI ((fr t n cn (st, nx, bs, wt, ag, rf, ac)).2.2.2.2.2.2.1)), .int (nI ((fr t n cn (st, nx, bs, wt, ag, rf, ac)).2.2.2.2.2.2.2))])), (qu, .inr (0, [.ref qr, .ref qs, .int (nI f), .int (nI (pC ((fr t n cn (st, nx, bs, wt, ag, rf, ac)).1) cn))])), (qr, .inl (cG, 8, .inr (.inr (.inr (.inr (fun k => some (r k))))))), (qs, .inl (cI, 8, .inl (pS ((fr t n cn (st, nx, bs, wt, ag, rf, ac)).1) f cn (fL t - 6) S)))] ++ rwL cB r (pR ((fr t n cn (st, nx, bs, wt, ag, rf, ac)).1) f cn (fL t - 6) t Rr) ++ [(h0, .inr (3, [.int (nI th), .ref a1, .int (nI n), .int (nI cn), .ref a2, .ref a3, .ref a4, .int (nI kl), .int (nI st), .int (nI nx), .int (nI bs), .int (nI wt), .int (nI ag), .int (nI rf), .int (nI ac)])), (a1, .inl (cB, 259, .inl t)), (a2, .inl (cB, 2048, .inl q)), (a3, .inl (cI, 8, .inl ln)), (a4, .inl (cB, 256, .inl TM))]) H := hP.sub [6, 7, 0, 8, 9, 10, 11, 12, 13, 14, 15, 16, 17, 18, 19, 1, 2, 3, 4, 5] rfl
        have hD : va_D A ([(ox, .inr (2, [.ref tp, .int (nI 0), .ref tk, .int (nI kl), .ref qu, .ref ga])), (tp, .inl (cB, 259, .inl t)), (tk, .inl (cB, 252, .inl T)), (ga, .inr (1, [.ref qu, .int (nI ((fr t n cn (st, nx, bs, wt, ag, rf, ac)).2.1)), .int (nI ((fr t n cn (st, nx, bs, wt, ag, rf, ac)).2.2.1)), .int (nI ((fr t n cn (st, nx, bs, wt, ag, rf, ac)).2.2.2.1)), .int (nI ((fr t n cn (st, nx, bs, wt, ag, rf, ac)).2.2.2.2.1)), .int (nI ((fr t n cn (st, nx, bs, wt, ag, rf, ac)).2.2.2.2.2.1)), .int (nI ((fr t n cn (st, nx, bs, wt, ag, rf, ac)).2.2.2.2.2.2.1)), .int (nI ((fr t n cn (st, nx, bs, wt, ag, rf, ac)).2.2.2.2.2.2.2))])), (qu, .inr (0, [.ref qr, .ref qs, .int (nI f), .int (nI (pC ((fr t n cn (st, nx, bs, wt, ag, rf, ac)).1) cn))])), (qr, .inl (cG, 8, .inr (.inr (.inr (.inr (fun k => some (r k))))))), (qs, .inl (cI, 8, .inl (pS ((fr t n cn (st, nx, bs, wt, ag, rf, ac)).1) f cn (fL t - 6) S)))] ++ rwL cB r (pR ((fr t n cn (st, nx, bs, wt, ag, rf, ac)).1) f cn (fL t - 6) t Rr) ++ [(h0, .inr (3, [.int (nI th), .ref a1, .int (nI n), .int (nI cn), .ref a2, .ref a3, .ref a4, .int (nI kl), .int (nI st), .int (nI nx), .int (nI bs), .int (nI wt), .int (nI ag), .int (nI rf), .int (nI ac)])), (a1, .inl (cB, 259, .inl t)), (a2, .inl (cB, 2048, .inl q)), (a3, .inl (cI, 8, .inl ln)), (a4, .inl (cB, 256, .inl TM))]) := hD.sub [6, 7, 0, 8, 9, 10, 11, 12, 13, 14, 15, 16, 17, 18, 19, 1, 2, 3, 4, 5] (by decide) rfl
        refine lv_aload_n hx hb d_L_law_177 rfl (lv_at hl 2 rfl) ?_
        refine fg_calli (wc := [(h0, .inr (3, [.int (nI th), .ref a1, .int (nI n), .int (nI cn), .ref a2, .ref a3, .ref a4, .int (nI kl), .int (nI st), .int (nI nx), .int (nI bs), .int (nI wt), .int (nI ag), .int (nI rf), .int (nI ac)])), (a1, .inl (cB, 259, .inl t)), (a2, .inl (cB, 2048, .inl q)), (a3, .inl (cI, 8, .inl ln))]) (wr := ([(ox, .inr (2, [.ref tp, .int (nI 0), .ref tk, .int (nI kl), .ref qu, .ref ga])), (tp, .inl (cB, 259, .inl t)), (tk, .inl (cB, 252, .inl T)), (ga, .inr (1, [.ref qu, .int (nI ((fr t n cn (st, nx, bs, wt, ag, rf, ac)).2.1)), .int (nI ((fr t n cn (st, nx, bs, wt, ag, rf, ac)).2.2.1)), .int (nI ((fr t n cn (st, nx, bs, wt, ag, rf, ac)).2.2.2.1)), .int (nI ((fr t n cn (st, nx, bs, wt, ag, rf, ac)).2.2.2.2.1)), .int (nI ((fr t n cn (st, nx, bs, wt, ag, rf, ac)).2.2.2.2.2.1)), .int (nI ((fr t n cn (st, nx, bs, wt, ag, rf, ac)).2.2.2.2.2.2.1)), .int (nI ((fr t n cn (st, nx, bs, wt, ag, rf, ac)).2.2.2.2.2.2.2))])), (qu, .inr (0, [.ref qr, .ref qs, .int (nI f), .int (nI (pC ((fr t n cn (st, nx, bs, wt, ag, rf, ac)).1) cn))])), (qr, .inl (cG, 8, .inr (.inr (.inr (.inr (fun k => some (r k))))))), (qs, .inl (cI, 8, .inl (pS ((fr t n cn (st, nx, bs, wt, ag, rf, ac)).1) f cn (fL t - 6) S)))] ++ rwL cB r (pR ((fr t n cn (st, nx, bs, wt, ag, rf, ac)).1) f cn (fL t - 6) t Rr) ++ [(a4, .inl (cB, 256, .inl TM))])) (fun (u : Nat × GS) => [(h0, .inr (3, [.int (nI 0), .ref a1, .int (nI 0), .int (nI (pC u.1 cn)), .ref a2, .ref a3, .ref a4, .int (nI kl), .int (nI u.2.1), .int (nI u.2.2.1), .int (nI u.2.2.2.1), .int (nI u.2.2.2.2.1), .int (nI u.2.2.2.2.2.1), .int (nI u.2.2.2.2.2.2.1), .int (nI u.2.2.2.2.2.2.2)])), (a1, .inl (cB, 259, .inl t)), (a2, .inl (cB, 2048, .inl (pQ u.1 cn (fL t - 6) t q))), (a3, .inl (cI, 8, .inl (pL u.1 cn (fL t - 6) ln)))]) (va_runV (As := []) (rest := [.int (nI (fr t n cn (st, nx, bs, wt, ag, rf, ac)).1)]) ⟨hx, hb, hml, hown, ht⟩ (c_M_frame l dC dI cB cI cG h0 a1 a2 a3 a4 th n cn kl st nx bs wt ag rf ac t q ln H.size hB hc hn hg) (cwV 0 ht (fg_gV m_262 m_263 m_264 m_4 m_265) rfl rfl rfl (by decide +kernel) ⟨Nat.le_of_ble_eq_true rfl, Nat.le_of_ble_eq_true rfl⟩) (fg_preV hK (hP.sub [15, 16, 17, 18] rfl) (hD.sub [15, 16, 17, 18] (by decide) rfl) (va_recv hK hP (ci := 3) (q0 := 15) rfl rfl)) rfl rfl hl.1 rfl (lv_room (Nat.le_of_ble_eq_true rfl)) d_L_law_178 ⟨Nat.le_of_ble_eq_true rfl, Nat.le_of_ble_eq_true rfl⟩) hP hD hS hA [15, 16, 17, 18] [0, 1, 2, 3, 4, 5, 6, 7, 8, 9, 10, 11, 12, 13, 14, 19] rfl rfl (by decide) (by decide) (fun r_178 u H locs hw hP hD hS => ?_)
        obtain ⟨hr2, rfl⟩ := hw
        obtain rfl : r_178 = nI (fr t n cn (st, nx, bs, wt, ag, rf, ac)).1 := hr2
        have hP : va_P (dC, dI) fgC ([(ox, .inr (2, [.ref tp, .int (nI 0), .ref tk, .int (nI kl), .ref qu, .ref ga])), (tp, .inl (cB, 259, .inl t)), (tk, .inl (cB, 252, .inl T)), (ga, .inr (1, [.ref qu, .int (nI ((fr t n cn (st, nx, bs, wt, ag, rf, ac)).2.1)), .int (nI ((fr t n cn (st, nx, bs, wt, ag, rf, ac)).2.2.1)), .int (nI ((fr t n cn (st, nx, bs, wt, ag, rf, ac)).2.2.2.1)), .int (nI ((fr t n cn (st, nx, bs, wt, ag, rf, ac)).2.2.2.2.1)), .int (nI ((fr t n cn (st, nx, bs, wt, ag, rf, ac)).2.2.2.2.2.1)), .int (nI ((fr t n cn (st, nx, bs, wt, ag, rf, ac)).2.2.2.2.2.2.1)), .int (nI ((fr t n cn (st, nx, bs, wt, ag, rf, ac)).2.2.2.2.2.2.2))])), (qu, .inr (0, [.ref qr, .ref qs, .int (nI f), .int (nI (pC ((fr t n cn (st, nx, bs, wt, ag, rf, ac)).1) cn))])), (qr, .inl (cG, 8, .inr (.inr (.inr (.inr (fun k => some (r k))))))), (qs, .inl (cI, 8, .inl (pS ((fr t n cn (st, nx, bs, wt, ag, rf, ac)).1) f cn (fL t - 6) S)))] ++ rwL cB r (pR ((fr t n cn (st, nx, bs, wt, ag, rf, ac)).1) f cn (fL t - 6) t Rr) ++ [(h0, .inr (3, [.int (nI 0), .ref a1, .int (nI 0), .int (nI (pC ((fr t n cn (st, nx, bs, wt, ag, rf, ac)).1) cn)), .ref a2, .ref a3, .ref a4, .int (nI kl), .int (nI ((fr t n cn (st, nx, bs, wt, ag, rf, ac)).2.1)), .int (nI ((fr t n cn (st, nx, bs, wt, ag, rf, ac)).2.2.1)), .int (nI ((fr t n cn (st, nx, bs, wt, ag, rf, ac)).2.2.2.1)), .int (nI ((fr t n cn (st, nx, bs, wt, ag, rf, ac)).2.2.2.2.1)), .int (nI ((fr t n cn (st, nx, bs, wt, ag, rf, ac)).2.2.2.2.2.1)), .int (nI ((fr t n cn (st, nx, bs, wt, ag, rf, ac)).2.2.2.2.2.2.1)), .int (nI ((fr t n cn (st, nx, bs, wt, ag, rf, ac)).2.2.2.2.2.2.2))])), (a1, .inl (cB, 259, .inl t)), (a2, .inl (cB, 2048, .inl (pQ ((fr t n cn (st, nx, bs, wt, ag, rf, ac)).1) cn (fL t - 6) t q))), (a3, .inl (cI, 8, .inl (pL ((fr t n cn (st, nx, bs, wt, ag, rf, ac)).1) cn (fL t - 6) ln))), (a4, .inl (cB, 256, .inl TM))]) H := hP.sub [0, 1, 2, 3, 4, 5, 6, 7, 8, 9, 10, 11, 12, 13, 14, 16, 17, 18, 19, 15] rfl
        have hD : va_D A ([(ox, .inr (2, [.ref tp, .int (nI 0), .ref tk, .int (nI kl), .ref qu, .ref ga])), (tp, .inl (cB, 259, .inl t)), (tk, .inl (cB, 252, .inl T)), (ga, .inr (1, [.ref qu, .int (nI ((fr t n cn (st, nx, bs, wt, ag, rf, ac)).2.1)), .int (nI ((fr t n cn (st, nx, bs, wt, ag, rf, ac)).2.2.1)), .int (nI ((fr t n cn (st, nx, bs, wt, ag, rf, ac)).2.2.2.1)), .int (nI ((fr t n cn (st, nx, bs, wt, ag, rf, ac)).2.2.2.2.1)), .int (nI ((fr t n cn (st, nx, bs, wt, ag, rf, ac)).2.2.2.2.2.1)), .int (nI ((fr t n cn (st, nx, bs, wt, ag, rf, ac)).2.2.2.2.2.2.1)), .int (nI ((fr t n cn (st, nx, bs, wt, ag, rf, ac)).2.2.2.2.2.2.2))])), (qu, .inr (0, [.ref qr, .ref qs, .int (nI f), .int (nI (pC ((fr t n cn (st, nx, bs, wt, ag, rf, ac)).1) cn))])), (qr, .inl (cG, 8, .inr (.inr (.inr (.inr (fun k => some (r k))))))), (qs, .inl (cI, 8, .inl (pS ((fr t n cn (st, nx, bs, wt, ag, rf, ac)).1) f cn (fL t - 6) S)))] ++ rwL cB r (pR ((fr t n cn (st, nx, bs, wt, ag, rf, ac)).1) f cn (fL t - 6) t Rr) ++ [(h0, .inr (3, [.int (nI 0), .ref a1, .int (nI 0), .int (nI (pC ((fr t n cn (st, nx, bs, wt, ag, rf, ac)).1) cn)), .ref a2, .ref a3, .ref a4, .int (nI kl), .int (nI ((fr t n cn (st, nx, bs, wt, ag, rf, ac)).2.1)), .int (nI ((fr t n cn (st, nx, bs, wt, ag, rf, ac)).2.2.1)), .int (nI ((fr t n cn (st, nx, bs, wt, ag, rf, ac)).2.2.2.1)), .int (nI ((fr t n cn (st, nx, bs, wt, ag, rf, ac)).2.2.2.2.1)), .int (nI ((fr t n cn (st, nx, bs, wt, ag, rf, ac)).2.2.2.2.2.1)), .int (nI ((fr t n cn (st, nx, bs, wt, ag, rf, ac)).2.2.2.2.2.2.1)), .int (nI ((fr t n cn (st, nx, bs, wt, ag, rf, ac)).2.2.2.2.2.2.2))])), (a1, .inl (cB, 259, .inl t)), (a2, .inl (cB, 2048, .inl (pQ ((fr t n cn (st, nx, bs, wt, ag, rf, ac)).1) cn (fL t - 6) t q))), (a3, .inl (cI, 8, .inl (pL ((fr t n cn (st, nx, bs, wt, ag, rf, ac)).1) cn (fL t - 6) ln))), (a4, .inl (cB, 256, .inl TM))]) := hD.sub [0, 1, 2, 3, 4, 5, 6, 7, 8, 9, 10, 11, 12, 13, 14, 16, 17, 18, 19, 15] (by decide) rfl
        refine lv_icmp_eq (tgt := 271) hx hb d_L_law_181 (by decide) (fun c_181 => ?_) (fun c_181 => ?_)
        · refine fg_iinc (n := 4) (k := 3) (lv' := [(3, .int (nI (v + 4))), (0, .ref b), (1, .ref ox), (2, .ref h0)]) hx hb d_L_law_271 hl rfl (by decide) rfl (fun ls hl => ?_)
          refine lv_goto (tgt := 18) hx hb d_L_law_274 (by decide) ?_
          exact ih (d - 4) (by omega) _ _ _ ⟨v + 4, 0, 0, f, (pC (fr t n cn (st, nx, bs, wt, ag, rf, ac)).1 cn), kl, t, T, TM, (pS (fr t n cn (st, nx, bs, wt, ag, rf, ac)).1 f cn (fL t - 6) S), (pQ (fr t n cn (st, nx, bs, wt, ag, rf, ac)).1 cn (fL t - 6) t q), (pL (fr t n cn (st, nx, bs, wt, ag, rf, ac)).1 cn (fL t - 6) ln), (pR (fr t n cn (st, nx, bs, wt, ag, rf, ac)).1 f cn (fL t - 6) t Rr), (fr t n cn (st, nx, bs, wt, ag, rf, ac)).2.1, (fr t n cn (st, nx, bs, wt, ag, rf, ac)).2.2.1, (fr t n cn (st, nx, bs, wt, ag, rf, ac)).2.2.2.1, (fr t n cn (st, nx, bs, wt, ag, rf, ac)).2.2.2.2.1, (fr t n cn (st, nx, bs, wt, ag, rf, ac)).2.2.2.2.2.1, (fr t n cn (st, nx, bs, wt, ag, rf, ac)).2.2.2.2.2.2.1, (fr t n cn (st, nx, bs, wt, ag, rf, ac)).2.2.2.2.2.2.2, by omega, by omega, LI_frame hI, lv_sub hl [1, 2, 3, 0] rfl, hP, hD, hS⟩
        · exact absurd rfl c_181
      by_cases hy4 : y = 4
      · rw [hy4]
        refine lv_tableIn (off := 154) (tgt := 186) hx hb d_L_law_32 (by decide) (by decide) rfl (by decide) ?_
        refine lv_aload_n hx hb d_L_law_186 rfl (lv_at hl 1 rfl) ?_
        obtain ⟨k, hkX, hkM, hkj⟩ := QR_head hQR
        refine fg_calli (wc := ([(ox, .inr (2, [.ref tp, .int (nI n), .ref tk, .int (nI kl), .ref qu, .ref ga])), (tk, .inl (cB, 252, .inl T)), (qu, .inr (0, [.ref qr, .ref qs, .int (nI f), .int (nI cn)])), (qr, .inl (cG, 8, .inr (.inr (.inr (.inr (fun k => some (r k))))))), (qs, .inl (cI, 8, .inl S))] ++ rwL cB r Rr ++ [])) (wr := [(tp, .inl (cB, 259, .inl t)), (ga, .inr (1, [.ref qu, .int (nI st), .int (nI nx), .int (nI bs), .int (nI wt), .int (nI ag), .int (nI rf), .int (nI ac)])), (h0, .inr (3, [.int (nI th), .ref a1, .int (nI n), .int (nI cn), .ref a2, .ref a3, .ref a4, .int (nI kl), .int (nI st), .int (nI nx), .int (nI bs), .int (nI wt), .int (nI ag), .int (nI rf), .int (nI ac)])), (a1, .inl (cB, 259, .inl t)), (a2, .inl (cB, 2048, .inl q)), (a3, .inl (cI, 8, .inl ln)), (a4, .inl (cB, 256, .inl TM))]) (fun (u : Nat × Nat × (Nat → Int32) × Nat) => ([(ox, .inr (2, [.ref tp, .int (nI n), .ref tk, .int (nI u.2.2.2), .ref qu, .ref ga])), (tk, .inl (cB, 252, .inl u.2.2.1)), (qu, .inr (0, [.ref qr, .ref qs, .int (nI u.1), .int (nI u.2.1)])), (qr, .inl (cG, 8, .inr (.inr (.inr (.inr (fun k => some (r k))))))), (qs, .inl (cI, 8, .inl S))] ++ rwL cB r Rr ++ [])) (va_runV (As := []) (rest := []) ⟨hx, hb, hml, hown, ht⟩ (c_X_take l dC dI cB cI cG ox tp tk ga qu qr qs r Rr S T f cn n kl k H.size hBR hf hc hkX) (cwV 0 ht (fg_gV m_158 m_159 m_160 m_1 m_161) rfl rfl rfl (by decide +kernel) ⟨Nat.le_of_ble_eq_true rfl, Nat.le_of_ble_eq_true rfl⟩) (fg_preV hK (hP.sub [0, 2, 4, 5, 6, 7, 8, 9, 10, 11, 12, 13, 14] rfl) (hD.sub [0, 2, 4, 5, 6, 7, 8, 9, 10, 11, 12, 13, 14] (by decide) rfl) (va_recv hK hP (ci := 2) (q0 := 0) rfl rfl)) rfl rfl hl.1 rfl (lv_room (Nat.le_of_ble_eq_true rfl)) d_L_law_187 ⟨Nat.le_of_ble_eq_true rfl, Nat.le_of_ble_eq_true rfl⟩) hP hD hS hA [0, 2, 4, 5, 6, 7, 8, 9, 10, 11, 12, 13, 14] [1, 3, 15, 16, 17, 18, 19] rfl rfl (by decide) (by decide) (fun r_187 u H locs hw hP hD hS => ?_)
        have hP : va_P (dC, dI) fgC ([(ox, .inr (2, [.ref tp, .int (nI n), .ref tk, .int (nI u.2.2.2), .ref qu, .ref ga])), (tp, .inl (cB, 259, .inl t)), (tk, .inl (cB, 252, .inl u.2.2.1)), (ga, .inr (1, [.ref qu, .int (nI st), .int (nI nx), .int (nI bs), .int (nI wt), .int (nI ag), .int (nI rf), .int (nI ac)])), (qu, .inr (0, [.ref qr, .ref qs, .int (nI u.1), .int (nI u.2.1)])), (qr, .inl (cG, 8, .inr (.inr (.inr (.inr (fun k => some (r k))))))), (qs, .inl (cI, 8, .inl S))] ++ rwL cB r Rr ++ [(h0, .inr (3, [.int (nI th), .ref a1, .int (nI n), .int (nI cn), .ref a2, .ref a3, .ref a4, .int (nI kl), .int (nI st), .int (nI nx), .int (nI bs), .int (nI wt), .int (nI ag), .int (nI rf), .int (nI ac)])), (a1, .inl (cB, 259, .inl t)), (a2, .inl (cB, 2048, .inl q)), (a3, .inl (cI, 8, .inl ln)), (a4, .inl (cB, 256, .inl TM))]) H := hP.sub [7, 0, 8, 1, 9, 10, 11, 12, 13, 14, 15, 16, 17, 18, 19, 2, 3, 4, 5, 6] rfl
        have hD : va_D A ([(ox, .inr (2, [.ref tp, .int (nI n), .ref tk, .int (nI u.2.2.2), .ref qu, .ref ga])), (tp, .inl (cB, 259, .inl t)), (tk, .inl (cB, 252, .inl u.2.2.1)), (ga, .inr (1, [.ref qu, .int (nI st), .int (nI nx), .int (nI bs), .int (nI wt), .int (nI ag), .int (nI rf), .int (nI ac)])), (qu, .inr (0, [.ref qr, .ref qs, .int (nI u.1), .int (nI u.2.1)])), (qr, .inl (cG, 8, .inr (.inr (.inr (.inr (fun k => some (r k))))))), (qs, .inl (cI, 8, .inl S))] ++ rwL cB r Rr ++ [(h0, .inr (3, [.int (nI th), .ref a1, .int (nI n), .int (nI cn), .ref a2, .ref a3, .ref a4, .int (nI kl), .int (nI st), .int (nI nx), .int (nI bs), .int (nI wt), .int (nI ag), .int (nI rf), .int (nI ac)])), (a1, .inl (cB, 259, .inl t)), (a2, .inl (cB, 2048, .inl q)), (a3, .inl (cI, 8, .inl ln)), (a4, .inl (cB, 256, .inl TM))]) := hD.sub [7, 0, 8, 1, 9, 10, 11, 12, 13, 14, 15, 16, 17, 18, 19, 2, 3, 4, 5, 6] (by decide) rfl
        rcases hw with ⟨h0c, hr2, rfl⟩ | ⟨h0c, hr2, rfl⟩
        · obtain rfl : r_187 = -1 := hr2
          have hP : va_P (dC, dI) fgC ([(ox, .inr (2, [.ref tp, .int (nI n), .ref tk, .int (nI kl), .ref qu, .ref ga])), (tp, .inl (cB, 259, .inl t)), (tk, .inl (cB, 252, .inl T)), (ga, .inr (1, [.ref qu, .int (nI st), .int (nI nx), .int (nI bs), .int (nI wt), .int (nI ag), .int (nI rf), .int (nI ac)])), (qu, .inr (0, [.ref qr, .ref qs, .int (nI f), .int (nI cn)])), (qr, .inl (cG, 8, .inr (.inr (.inr (.inr (fun k => some (r k))))))), (qs, .inl (cI, 8, .inl S))] ++ rwL cB r Rr ++ [(h0, .inr (3, [.int (nI th), .ref a1, .int (nI n), .int (nI cn), .ref a2, .ref a3, .ref a4, .int (nI kl), .int (nI st), .int (nI nx), .int (nI bs), .int (nI wt), .int (nI ag), .int (nI rf), .int (nI ac)])), (a1, .inl (cB, 259, .inl t)), (a2, .inl (cB, 2048, .inl q)), (a3, .inl (cI, 8, .inl ln)), (a4, .inl (cB, 256, .inl TM))]) H := hP
          have hD : va_D A ([(ox, .inr (2, [.ref tp, .int (nI n), .ref tk, .int (nI kl), .ref qu, .ref ga])), (tp, .inl (cB, 259, .inl t)), (tk, .inl (cB, 252, .inl T)), (ga, .inr (1, [.ref qu, .int (nI st), .int (nI nx), .int (nI bs), .int (nI wt), .int (nI ag), .int (nI rf), .int (nI ac)])), (qu, .inr (0, [.ref qr, .ref qs, .int (nI f), .int (nI cn)])), (qr, .inl (cG, 8, .inr (.inr (.inr (.inr (fun k => some (r k))))))), (qs, .inl (cI, 8, .inl S))] ++ rwL cB r Rr ++ [(h0, .inr (3, [.int (nI th), .ref a1, .int (nI n), .int (nI cn), .ref a2, .ref a3, .ref a4, .int (nI kl), .int (nI st), .int (nI nx), .int (nI bs), .int (nI wt), .int (nI ag), .int (nI rf), .int (nI ac)])), (a1, .inl (cB, 259, .inl t)), (a2, .inl (cB, 2048, .inl q)), (a3, .inl (cI, 8, .inl ln)), (a4, .inl (cB, 256, .inl TM))]) := hD
          refine lv_aload_n hx hb d_L_law_190 rfl (lv_at hl 2 rfl) ?_
          refine fg_calli (wc := [(h0, .inr (3, [.int (nI th), .ref a1, .int (nI n), .int (nI cn), .ref a2, .ref a3, .ref a4, .int (nI kl), .int (nI st), .int (nI nx), .int (nI bs), .int (nI wt), .int (nI ag), .int (nI rf), .int (nI ac)])), (a2, .inl (cB, 2048, .inl q)), (a3, .inl (cI, 8, .inl ln)), (a4, .inl (cB, 256, .inl TM))]) (wr := ([(ox, .inr (2, [.ref tp, .int (nI n), .ref tk, .int (nI kl), .ref qu, .ref ga])), (tp, .inl (cB, 259, .inl t)), (tk, .inl (cB, 252, .inl T)), (ga, .inr (1, [.ref qu, .int (nI st), .int (nI nx), .int (nI bs), .int (nI wt), .int (nI ag), .int (nI rf), .int (nI ac)])), (qu, .inr (0, [.ref qr, .ref qs, .int (nI f), .int (nI cn)])), (qr, .inl (cG, 8, .inr (.inr (.inr (.inr (fun k => some (r k))))))), (qs, .inl (cI, 8, .inl S))] ++ rwL cB r Rr ++ [(a1, .inl (cB, 259, .inl t))])) (fun (u : Nat × (Nat → Int32) × (Nat → Int32) × (Nat → Int32) × Nat) => [(h0, .inr (3, [.int (nI 0), .ref a1, .int (nI n), .int (nI u.1), .ref a2, .ref a3, .ref a4, .int (nI u.2.2.2.2), .int (nI st), .int (nI nx), .int (nI bs), .int (nI wt), .int (nI ag), .int (nI rf), .int (nI ac)])), (a2, .inl (cB, 2048, .inl u.2.1)), (a3, .inl (cI, 8, .inl u.2.2.1)), (a4, .inl (cB, 256, .inl u.2.2.2.1))]) (va_runV (As := []) (rest := [.int (-1)]) ⟨hx, hb, hml, hown, ht⟩ (c_M_take l dC dI cB cI cG h0 a1 a2 a3 a4 th n cn kl st nx bs wt ag rf ac q ln TM k H.size hBq hc hkM) (cwV 0 ht (fg_gV m_291 m_292 m_293 m_4 m_294) rfl rfl rfl (by decide +kernel) ⟨Nat.le_of_ble_eq_true rfl, Nat.le_of_ble_eq_true rfl⟩) (fg_preV hK (hP.sub [15, 17, 18, 19] rfl) (hD.sub [15, 17, 18, 19] (by decide) rfl) (va_recv hK hP (ci := 3) (q0 := 15) rfl rfl)) rfl rfl hl.1 rfl (lv_room (Nat.le_of_ble_eq_true rfl)) d_L_law_191 ⟨Nat.le_of_ble_eq_true rfl, Nat.le_of_ble_eq_true rfl⟩) hP hD hS hA [15, 17, 18, 19] [0, 1, 2, 3, 4, 5, 6, 7, 8, 9, 10, 11, 12, 13, 14, 16] rfl rfl (by decide) (by decide) (fun r_191 u H locs hw hP hD hS => ?_)
          have hP : va_P (dC, dI) fgC ([(ox, .inr (2, [.ref tp, .int (nI n), .ref tk, .int (nI kl), .ref qu, .ref ga])), (tp, .inl (cB, 259, .inl t)), (tk, .inl (cB, 252, .inl T)), (ga, .inr (1, [.ref qu, .int (nI st), .int (nI nx), .int (nI bs), .int (nI wt), .int (nI ag), .int (nI rf), .int (nI ac)])), (qu, .inr (0, [.ref qr, .ref qs, .int (nI f), .int (nI cn)])), (qr, .inl (cG, 8, .inr (.inr (.inr (.inr (fun k => some (r k))))))), (qs, .inl (cI, 8, .inl S))] ++ rwL cB r Rr ++ [(h0, .inr (3, [.int (nI 0), .ref a1, .int (nI n), .int (nI u.1), .ref a2, .ref a3, .ref a4, .int (nI u.2.2.2.2), .int (nI st), .int (nI nx), .int (nI bs), .int (nI wt), .int (nI ag), .int (nI rf), .int (nI ac)])), (a1, .inl (cB, 259, .inl t)), (a2, .inl (cB, 2048, .inl u.2.1)), (a3, .inl (cI, 8, .inl u.2.2.1)), (a4, .inl (cB, 256, .inl u.2.2.2.1))]) H := hP.sub [0, 1, 2, 3, 4, 5, 6, 7, 8, 9, 10, 11, 12, 13, 14, 16, 15, 17, 18, 19] rfl
          have hD : va_D A ([(ox, .inr (2, [.ref tp, .int (nI n), .ref tk, .int (nI kl), .ref qu, .ref ga])), (tp, .inl (cB, 259, .inl t)), (tk, .inl (cB, 252, .inl T)), (ga, .inr (1, [.ref qu, .int (nI st), .int (nI nx), .int (nI bs), .int (nI wt), .int (nI ag), .int (nI rf), .int (nI ac)])), (qu, .inr (0, [.ref qr, .ref qs, .int (nI f), .int (nI cn)])), (qr, .inl (cG, 8, .inr (.inr (.inr (.inr (fun k => some (r k))))))), (qs, .inl (cI, 8, .inl S))] ++ rwL cB r Rr ++ [(h0, .inr (3, [.int (nI 0), .ref a1, .int (nI n), .int (nI u.1), .ref a2, .ref a3, .ref a4, .int (nI u.2.2.2.2), .int (nI st), .int (nI nx), .int (nI bs), .int (nI wt), .int (nI ag), .int (nI rf), .int (nI ac)])), (a1, .inl (cB, 259, .inl t)), (a2, .inl (cB, 2048, .inl u.2.1)), (a3, .inl (cI, 8, .inl u.2.2.1)), (a4, .inl (cB, 256, .inl u.2.2.2.1))]) := hD.sub [0, 1, 2, 3, 4, 5, 6, 7, 8, 9, 10, 11, 12, 13, 14, 16, 15, 17, 18, 19] (by decide) rfl
          rcases hw with ⟨h1c, hr2, rfl⟩ | ⟨h1c, hr2, rfl⟩
          · obtain rfl : r_191 = -1 := hr2
            have hP : va_P (dC, dI) fgC ([(ox, .inr (2, [.ref tp, .int (nI n), .ref tk, .int (nI kl), .ref qu, .ref ga])), (tp, .inl (cB, 259, .inl t)), (tk, .inl (cB, 252, .inl T)), (ga, .inr (1, [.ref qu, .int (nI st), .int (nI nx), .int (nI bs), .int (nI wt), .int (nI ag), .int (nI rf), .int (nI ac)])), (qu, .inr (0, [.ref qr, .ref qs, .int (nI f), .int (nI cn)])), (qr, .inl (cG, 8, .inr (.inr (.inr (.inr (fun k => some (r k))))))), (qs, .inl (cI, 8, .inl S))] ++ rwL cB r Rr ++ [(h0, .inr (3, [.int (nI 0), .ref a1, .int (nI n), .int (nI cn), .ref a2, .ref a3, .ref a4, .int (nI kl), .int (nI st), .int (nI nx), .int (nI bs), .int (nI wt), .int (nI ag), .int (nI rf), .int (nI ac)])), (a1, .inl (cB, 259, .inl t)), (a2, .inl (cB, 2048, .inl q)), (a3, .inl (cI, 8, .inl ln)), (a4, .inl (cB, 256, .inl TM))]) H := hP
            have hD : va_D A ([(ox, .inr (2, [.ref tp, .int (nI n), .ref tk, .int (nI kl), .ref qu, .ref ga])), (tp, .inl (cB, 259, .inl t)), (tk, .inl (cB, 252, .inl T)), (ga, .inr (1, [.ref qu, .int (nI st), .int (nI nx), .int (nI bs), .int (nI wt), .int (nI ag), .int (nI rf), .int (nI ac)])), (qu, .inr (0, [.ref qr, .ref qs, .int (nI f), .int (nI cn)])), (qr, .inl (cG, 8, .inr (.inr (.inr (.inr (fun k => some (r k))))))), (qs, .inl (cI, 8, .inl S))] ++ rwL cB r Rr ++ [(h0, .inr (3, [.int (nI 0), .ref a1, .int (nI n), .int (nI cn), .ref a2, .ref a3, .ref a4, .int (nI kl), .int (nI st), .int (nI nx), .int (nI bs), .int (nI wt), .int (nI ag), .int (nI rf), .int (nI ac)])), (a1, .inl (cB, 259, .inl t)), (a2, .inl (cB, 2048, .inl q)), (a3, .inl (cI, 8, .inl ln)), (a4, .inl (cB, 256, .inl TM))]) := hD
            refine lv_icmp_eq (tgt := 271) hx hb d_L_law_194 (by decide) (fun c_194 => ?_) (fun c_194 => ?_)
            · refine fg_iinc (n := 4) (k := 3) (lv' := [(3, .int (nI (v + 4))), (0, .ref b), (1, .ref ox), (2, .ref h0)]) hx hb d_L_law_271 hl rfl (by decide) rfl (fun ls hl => ?_)
              refine lv_goto (tgt := 18) hx hb d_L_law_274 (by decide) ?_
              exact ih (d - 4) (by omega) _ _ _ ⟨v + 4, 0, n, f, cn, kl, t, T, TM, S, q, ln, Rr, st, nx, bs, wt, ag, rf, ac, by omega, by omega, hI, lv_sub hl [1, 2, 3, 0] rfl, hP, hD, hS⟩
            · exact absurd rfl c_194
          · exact absurd h0c (by omega)
        · obtain rfl : r_187 = nI k := hr2
          have hP : va_P (dC, dI) fgC ([(ox, .inr (2, [.ref tp, .int (nI n), .ref tk, .int (nI k), .ref qu, .ref ga])), (tp, .inl (cB, 259, .inl t)), (tk, .inl (cB, 252, .inl (va_cpy (Rr f) T 0 0 k))), (ga, .inr (1, [.ref qu, .int (nI st), .int (nI nx), .int (nI bs), .int (nI wt), .int (nI ag), .int (nI rf), .int (nI ac)])), (qu, .inr (0, [.ref qr, .ref qs, .int (nI ((f + 1) % 8)), .int (nI (cn - 1))])), (qr, .inl (cG, 8, .inr (.inr (.inr (.inr (fun k => some (r k))))))), (qs, .inl (cI, 8, .inl S))] ++ rwL cB r Rr ++ [(h0, .inr (3, [.int (nI th), .ref a1, .int (nI n), .int (nI cn), .ref a2, .ref a3, .ref a4, .int (nI kl), .int (nI st), .int (nI nx), .int (nI bs), .int (nI wt), .int (nI ag), .int (nI rf), .int (nI ac)])), (a1, .inl (cB, 259, .inl t)), (a2, .inl (cB, 2048, .inl q)), (a3, .inl (cI, 8, .inl ln)), (a4, .inl (cB, 256, .inl TM))]) H := hP
          have hD : va_D A ([(ox, .inr (2, [.ref tp, .int (nI n), .ref tk, .int (nI k), .ref qu, .ref ga])), (tp, .inl (cB, 259, .inl t)), (tk, .inl (cB, 252, .inl (va_cpy (Rr f) T 0 0 k))), (ga, .inr (1, [.ref qu, .int (nI st), .int (nI nx), .int (nI bs), .int (nI wt), .int (nI ag), .int (nI rf), .int (nI ac)])), (qu, .inr (0, [.ref qr, .ref qs, .int (nI ((f + 1) % 8)), .int (nI (cn - 1))])), (qr, .inl (cG, 8, .inr (.inr (.inr (.inr (fun k => some (r k))))))), (qs, .inl (cI, 8, .inl S))] ++ rwL cB r Rr ++ [(h0, .inr (3, [.int (nI th), .ref a1, .int (nI n), .int (nI cn), .ref a2, .ref a3, .ref a4, .int (nI kl), .int (nI st), .int (nI nx), .int (nI bs), .int (nI wt), .int (nI ag), .int (nI rf), .int (nI ac)])), (a1, .inl (cB, 259, .inl t)), (a2, .inl (cB, 2048, .inl q)), (a3, .inl (cI, 8, .inl ln)), (a4, .inl (cB, 256, .inl TM))]) := hD
          refine lv_aload_n hx hb d_L_law_190 rfl (lv_at hl 2 rfl) ?_
          refine fg_calli (wc := [(h0, .inr (3, [.int (nI th), .ref a1, .int (nI n), .int (nI cn), .ref a2, .ref a3, .ref a4, .int (nI kl), .int (nI st), .int (nI nx), .int (nI bs), .int (nI wt), .int (nI ag), .int (nI rf), .int (nI ac)])), (a2, .inl (cB, 2048, .inl q)), (a3, .inl (cI, 8, .inl ln)), (a4, .inl (cB, 256, .inl TM))]) (wr := ([(ox, .inr (2, [.ref tp, .int (nI n), .ref tk, .int (nI k), .ref qu, .ref ga])), (tp, .inl (cB, 259, .inl t)), (tk, .inl (cB, 252, .inl (va_cpy (Rr f) T 0 0 k))), (ga, .inr (1, [.ref qu, .int (nI st), .int (nI nx), .int (nI bs), .int (nI wt), .int (nI ag), .int (nI rf), .int (nI ac)])), (qu, .inr (0, [.ref qr, .ref qs, .int (nI ((f + 1) % 8)), .int (nI (cn - 1))])), (qr, .inl (cG, 8, .inr (.inr (.inr (.inr (fun k => some (r k))))))), (qs, .inl (cI, 8, .inl S))] ++ rwL cB r Rr ++ [(a1, .inl (cB, 259, .inl t))])) (fun (u : Nat × (Nat → Int32) × (Nat → Int32) × (Nat → Int32) × Nat) => [(h0, .inr (3, [.int (nI 0), .ref a1, .int (nI n), .int (nI u.1), .ref a2, .ref a3, .ref a4, .int (nI u.2.2.2.2), .int (nI st), .int (nI nx), .int (nI bs), .int (nI wt), .int (nI ag), .int (nI rf), .int (nI ac)])), (a2, .inl (cB, 2048, .inl u.2.1)), (a3, .inl (cI, 8, .inl u.2.2.1)), (a4, .inl (cB, 256, .inl u.2.2.2.1))]) (va_runV (As := []) (rest := [.int (nI k)]) ⟨hx, hb, hml, hown, ht⟩ (c_M_take l dC dI cB cI cG h0 a1 a2 a3 a4 th n cn kl st nx bs wt ag rf ac q ln TM k H.size hBq hc hkM) (cwV 0 ht (fg_gV m_291 m_292 m_293 m_4 m_294) rfl rfl rfl (by decide +kernel) ⟨Nat.le_of_ble_eq_true rfl, Nat.le_of_ble_eq_true rfl⟩) (fg_preV hK (hP.sub [15, 17, 18, 19] rfl) (hD.sub [15, 17, 18, 19] (by decide) rfl) (va_recv hK hP (ci := 3) (q0 := 15) rfl rfl)) rfl rfl hl.1 rfl (lv_room (Nat.le_of_ble_eq_true rfl)) d_L_law_191 ⟨Nat.le_of_ble_eq_true rfl, Nat.le_of_ble_eq_true rfl⟩) hP hD hS hA [15, 17, 18, 19] [0, 1, 2, 3, 4, 5, 6, 7, 8, 9, 10, 11, 12, 13, 14, 16] rfl rfl (by decide) (by decide) (fun r_191 u H locs hw hP hD hS => ?_)
          have hP : va_P (dC, dI) fgC ([(ox, .inr (2, [.ref tp, .int (nI n), .ref tk, .int (nI k), .ref qu, .ref ga])), (tp, .inl (cB, 259, .inl t)), (tk, .inl (cB, 252, .inl (va_cpy (Rr f) T 0 0 k))), (ga, .inr (1, [.ref qu, .int (nI st), .int (nI nx), .int (nI bs), .int (nI wt), .int (nI ag), .int (nI rf), .int (nI ac)])), (qu, .inr (0, [.ref qr, .ref qs, .int (nI ((f + 1) % 8)), .int (nI (cn - 1))])), (qr, .inl (cG, 8, .inr (.inr (.inr (.inr (fun k => some (r k))))))), (qs, .inl (cI, 8, .inl S))] ++ rwL cB r Rr ++ [(h0, .inr (3, [.int (nI 0), .ref a1, .int (nI n), .int (nI u.1), .ref a2, .ref a3, .ref a4, .int (nI u.2.2.2.2), .int (nI st), .int (nI nx), .int (nI bs), .int (nI wt), .int (nI ag), .int (nI rf), .int (nI ac)])), (a1, .inl (cB, 259, .inl t)), (a2, .inl (cB, 2048, .inl u.2.1)), (a3, .inl (cI, 8, .inl u.2.2.1)), (a4, .inl (cB, 256, .inl u.2.2.2.1))]) H := hP.sub [0, 1, 2, 3, 4, 5, 6, 7, 8, 9, 10, 11, 12, 13, 14, 16, 15, 17, 18, 19] rfl
          have hD : va_D A ([(ox, .inr (2, [.ref tp, .int (nI n), .ref tk, .int (nI k), .ref qu, .ref ga])), (tp, .inl (cB, 259, .inl t)), (tk, .inl (cB, 252, .inl (va_cpy (Rr f) T 0 0 k))), (ga, .inr (1, [.ref qu, .int (nI st), .int (nI nx), .int (nI bs), .int (nI wt), .int (nI ag), .int (nI rf), .int (nI ac)])), (qu, .inr (0, [.ref qr, .ref qs, .int (nI ((f + 1) % 8)), .int (nI (cn - 1))])), (qr, .inl (cG, 8, .inr (.inr (.inr (.inr (fun k => some (r k))))))), (qs, .inl (cI, 8, .inl S))] ++ rwL cB r Rr ++ [(h0, .inr (3, [.int (nI 0), .ref a1, .int (nI n), .int (nI u.1), .ref a2, .ref a3, .ref a4, .int (nI u.2.2.2.2), .int (nI st), .int (nI nx), .int (nI bs), .int (nI wt), .int (nI ag), .int (nI rf), .int (nI ac)])), (a1, .inl (cB, 259, .inl t)), (a2, .inl (cB, 2048, .inl u.2.1)), (a3, .inl (cI, 8, .inl u.2.2.1)), (a4, .inl (cB, 256, .inl u.2.2.2.1))]) := hD.sub [0, 1, 2, 3, 4, 5, 6, 7, 8, 9, 10, 11, 12, 13, 14, 16, 15, 17, 18, 19] (by decide) rfl
          rcases hw with ⟨h1c, hr2, rfl⟩ | ⟨h1c, hr2, rfl⟩
          · exact absurd h0c (by omega)
          · obtain rfl : r_191 = nI k := hr2
            have hP : va_P (dC, dI) fgC ([(ox, .inr (2, [.ref tp, .int (nI n), .ref tk, .int (nI k), .ref qu, .ref ga])), (tp, .inl (cB, 259, .inl t)), (tk, .inl (cB, 252, .inl (va_cpy (Rr f) T 0 0 k))), (ga, .inr (1, [.ref qu, .int (nI st), .int (nI nx), .int (nI bs), .int (nI wt), .int (nI ag), .int (nI rf), .int (nI ac)])), (qu, .inr (0, [.ref qr, .ref qs, .int (nI ((f + 1) % 8)), .int (nI (cn - 1))])), (qr, .inl (cG, 8, .inr (.inr (.inr (.inr (fun k => some (r k))))))), (qs, .inl (cI, 8, .inl S))] ++ rwL cB r Rr ++ [(h0, .inr (3, [.int (nI 0), .ref a1, .int (nI n), .int (nI (cn - 1)), .ref a2, .ref a3, .ref a4, .int (nI k), .int (nI st), .int (nI nx), .int (nI bs), .int (nI wt), .int (nI ag), .int (nI rf), .int (nI ac)])), (a1, .inl (cB, 259, .inl t)), (a2, .inl (cB, 2048, .inl (va_cpy q q 256 0 (256 * (cn - 1))))), (a3, .inl (cI, 8, .inl (va_cpy ln ln 1 0 (cn - 1)))), (a4, .inl (cB, 256, .inl (va_cpy q TM 0 0 k)))]) H := hP
            have hD : va_D A ([(ox, .inr (2, [.ref tp, .int (nI n), .ref tk, .int (nI k), .ref qu, .ref ga])), (tp, .inl (cB, 259, .inl t)), (tk, .inl (cB, 252, .inl (va_cpy (Rr f) T 0 0 k))), (ga, .inr (1, [.ref qu, .int (nI st), .int (nI nx), .int (nI bs), .int (nI wt), .int (nI ag), .int (nI rf), .int (nI ac)])), (qu, .inr (0, [.ref qr, .ref qs, .int (nI ((f + 1) % 8)), .int (nI (cn - 1))])), (qr, .inl (cG, 8, .inr (.inr (.inr (.inr (fun k => some (r k))))))), (qs, .inl (cI, 8, .inl S))] ++ rwL cB r Rr ++ [(h0, .inr (3, [.int (nI 0), .ref a1, .int (nI n), .int (nI (cn - 1)), .ref a2, .ref a3, .ref a4, .int (nI k), .int (nI st), .int (nI nx), .int (nI bs), .int (nI wt), .int (nI ag), .int (nI rf), .int (nI ac)])), (a1, .inl (cB, 259, .inl t)), (a2, .inl (cB, 2048, .inl (va_cpy q q 256 0 (256 * (cn - 1))))), (a3, .inl (cI, 8, .inl (va_cpy ln ln 1 0 (cn - 1)))), (a4, .inl (cB, 256, .inl (va_cpy q TM 0 0 k)))]) := hD
            refine lv_icmp_eq (tgt := 271) hx hb d_L_law_194 (by decide) (fun c_194 => ?_) (fun c_194 => ?_)
            · refine fg_iinc (n := 4) (k := 3) (lv' := [(3, .int (nI (v + 4))), (0, .ref b), (1, .ref ox), (2, .ref h0)]) hx hb d_L_law_271 hl rfl (by decide) rfl (fun ls hl => ?_)
              refine lv_goto (tgt := 18) hx hb d_L_law_274 (by decide) ?_
              exact ih (d - 4) (by omega) _ _ _ ⟨v + 4, 0, n, ((f + 1) % 8), (cn - 1), k, t, (va_cpy (Rr f) T 0 0 k), (va_cpy q TM 0 0 k), S, (va_cpy q q 256 0 (256 * (cn - 1))), (va_cpy ln ln 1 0 (cn - 1)), Rr, st, nx, bs, wt, ag, rf, ac, by omega, by omega, LI_take hI h0c (hkX h0c).2 (hkj h0c), lv_sub hl [1, 2, 3, 0] rfl, hP, hD, hS⟩
            · exact absurd rfl c_194
      by_cases hy5 : y = 5
      · rw [hy5]
        refine lv_tableIn (off := 167) (tgt := 199) hx hb d_L_law_32 (by decide) (by decide) rfl (by decide) ?_
        refine lv_aload_n hx hb d_L_law_199 rfl (lv_at hl 1 rfl) ?_
        refine lv_aload_n hx hb d_L_law_200 rfl (lv_at hl 0 rfl) ?_
        refine lv_iload_n hx hb d_L_law_201 rfl (lv_at hl 3 rfl) ?_
        refine lv_iconst (v := (nI 1)) hx hb d_L_law_202 (by decide) ?_
        refine fg_iadd hx hb d_L_law_203 ?_
        refine fg_sld hx hb hX hbl hbA hS (by omega) (by omega) d_L_law_204 ?_
        refine vp_callSi (va_Run.run (va_runV (As := [.int (xs (v + 1))]) (rest := []) ⟨hx, hb, hml, hown, ht⟩ (c_X_byteAt l dC dI cB cI cG ox tp tk qu ga n kl T (xs (v + 1)) H.size hkl) (cwV 1 ht (fg_gV m_166 m_167 m_168 m_1 m_169) rfl rfl rfl (by decide +kernel) ⟨Nat.le_of_ble_eq_true rfl, Nat.le_of_ble_eq_true rfl⟩) (fg_preV hK (hP.sub [0, 2] rfl) (hD.sub [0, 2] (by decide) rfl) (va_recv hK hP (ci := 2) (q0 := 0) rfl rfl)) rfl rfl hl.1 rfl (lv_room (Nat.le_of_ble_eq_true rfl)) d_L_law_205 ⟨Nat.le_of_ble_eq_true rfl, Nat.le_of_ble_eq_true rfl⟩)) (fun r_205 er_205 => ?_)
        obtain rfl : r_205 = (bya T kl (xs (v + 1))) := er_205
        refine lv_aload_n hx hb d_L_law_208 rfl (lv_at hl 2 rfl) ?_
        refine lv_aload_n hx hb d_L_law_209 rfl (lv_at hl 0 rfl) ?_
        refine lv_iload_n hx hb d_L_law_210 rfl (lv_at hl 3 rfl) ?_
        refine lv_iconst (v := (nI 1)) hx hb d_L_law_211 (by decide) ?_
        refine fg_iadd hx hb d_L_law_212 ?_
        refine fg_sld hx hb hX hbl hbA hS (by omega) (by omega) d_L_law_213 ?_
        refine fg_calli (wc := [(h0, .inr (3, [.int (nI th), .ref a1, .int (nI n), .int (nI cn), .ref a2, .ref a3, .ref a4, .int (nI kl), .int (nI st), .int (nI nx), .int (nI bs), .int (nI wt), .int (nI ag), .int (nI rf), .int (nI ac)])), (a4, .inl (cB, 256, .inl TM))]) (wr := ([(ox, .inr (2, [.ref tp, .int (nI n), .ref tk, .int (nI kl), .ref qu, .ref ga])), (tp, .inl (cB, 259, .inl t)), (tk, .inl (cB, 252, .inl T)), (ga, .inr (1, [.ref qu, .int (nI st), .int (nI nx), .int (nI bs), .int (nI wt), .int (nI ag), .int (nI rf), .int (nI ac)])), (qu, .inr (0, [.ref qr, .ref qs, .int (nI f), .int (nI cn)])), (qr, .inl (cG, 8, .inr (.inr (.inr (.inr (fun k => some (r k))))))), (qs, .inl (cI, 8, .inl S))] ++ rwL cB r Rr ++ [(a1, .inl (cB, 259, .inl t)), (a2, .inl (cB, 2048, .inl q)), (a3, .inl (cI, 8, .inl ln))])) (fun (u : Unit) => [(h0, .inr (3, [.int (nI 0), .ref a1, .int (nI n), .int (nI cn), .ref a2, .ref a3, .ref a4, .int (nI kl), .int (nI st), .int (nI nx), .int (nI bs), .int (nI wt), .int (nI ag), .int (nI rf), .int (nI ac)])), (a4, .inl (cB, 256, .inl TM))]) (va_runV (As := [.int (xs (v + 1))]) (rest := [.int (bya T kl (xs (v + 1)))]) ⟨hx, hb, hml, hown, ht⟩ (c_M_byteAt l dC dI cB cI cG h0 a1 a2 a3 a4 th n cn kl st nx bs wt ag rf ac TM (xs (v + 1)) H.size hkl) (cwV 1 ht (fg_gV m_295 m_296 m_297 m_4 m_298) rfl rfl rfl (by decide +kernel) ⟨Nat.le_of_ble_eq_true rfl, Nat.le_of_ble_eq_true rfl⟩) (fg_preV hK (hP.sub [15, 19] rfl) (hD.sub [15, 19] (by decide) rfl) (va_recv hK hP (ci := 3) (q0 := 15) rfl rfl)) rfl rfl hl.1 rfl (lv_room (Nat.le_of_ble_eq_true rfl)) d_L_law_214 ⟨Nat.le_of_ble_eq_true rfl, Nat.le_of_ble_eq_true rfl⟩) hP hD hS hA [15, 19] [0, 1, 2, 3, 4, 5, 6, 7, 8, 9, 10, 11, 12, 13, 14, 16, 17, 18] rfl rfl (by decide) (by decide) (fun r_214 u H locs hw hP hD hS => ?_)
        obtain rfl : r_214 = bya TM kl (xs (v + 1)) := hw
        have hP : va_P (dC, dI) fgC ([(ox, .inr (2, [.ref tp, .int (nI n), .ref tk, .int (nI kl), .ref qu, .ref ga])), (tp, .inl (cB, 259, .inl t)), (tk, .inl (cB, 252, .inl T)), (ga, .inr (1, [.ref qu, .int (nI st), .int (nI nx), .int (nI bs), .int (nI wt), .int (nI ag), .int (nI rf), .int (nI ac)])), (qu, .inr (0, [.ref qr, .ref qs, .int (nI f), .int (nI cn)])), (qr, .inl (cG, 8, .inr (.inr (.inr (.inr (fun k => some (r k))))))), (qs, .inl (cI, 8, .inl S))] ++ rwL cB r Rr ++ [(h0, .inr (3, [.int (nI 0), .ref a1, .int (nI n), .int (nI cn), .ref a2, .ref a3, .ref a4, .int (nI kl), .int (nI st), .int (nI nx), .int (nI bs), .int (nI wt), .int (nI ag), .int (nI rf), .int (nI ac)])), (a1, .inl (cB, 259, .inl t)), (a2, .inl (cB, 2048, .inl q)), (a3, .inl (cI, 8, .inl ln)), (a4, .inl (cB, 256, .inl TM))]) H := hP.sub [0, 1, 2, 3, 4, 5, 6, 7, 8, 9, 10, 11, 12, 13, 14, 18, 15, 16, 17, 19] rfl
        have hD : va_D A ([(ox, .inr (2, [.ref tp, .int (nI n), .ref tk, .int (nI kl), .ref qu, .ref ga])), (tp, .inl (cB, 259, .inl t)), (tk, .inl (cB, 252, .inl T)), (ga, .inr (1, [.ref qu, .int (nI st), .int (nI nx), .int (nI bs), .int (nI wt), .int (nI ag), .int (nI rf), .int (nI ac)])), (qu, .inr (0, [.ref qr, .ref qs, .int (nI f), .int (nI cn)])), (qr, .inl (cG, 8, .inr (.inr (.inr (.inr (fun k => some (r k))))))), (qs, .inl (cI, 8, .inl S))] ++ rwL cB r Rr ++ [(h0, .inr (3, [.int (nI 0), .ref a1, .int (nI n), .int (nI cn), .ref a2, .ref a3, .ref a4, .int (nI kl), .int (nI st), .int (nI nx), .int (nI bs), .int (nI wt), .int (nI ag), .int (nI rf), .int (nI ac)])), (a1, .inl (cB, 259, .inl t)), (a2, .inl (cB, 2048, .inl q)), (a3, .inl (cI, 8, .inl ln)), (a4, .inl (cB, 256, .inl TM))]) := hD.sub [0, 1, 2, 3, 4, 5, 6, 7, 8, 9, 10, 11, 12, 13, 14, 18, 15, 16, 17, 19] (by decide) rfl
        refine lv_icmp_eq (tgt := 271) hx hb d_L_law_217 (by decide) (fun c_217 => ?_) (fun c_217 => ?_)
        · refine fg_iinc (n := 4) (k := 3) (lv' := [(3, .int (nI (v + 4))), (0, .ref b), (1, .ref ox), (2, .ref h0)]) hx hb d_L_law_271 hl rfl (by decide) rfl (fun ls hl => ?_)
          refine lv_goto (tgt := 18) hx hb d_L_law_274 (by decide) ?_
          exact ih (d - 4) (by omega) _ _ _ ⟨v + 4, 0, n, f, cn, kl, t, T, TM, S, q, ln, Rr, st, nx, bs, wt, ag, rf, ac, by omega, by omega, hI, lv_sub hl [1, 2, 3, 0] rfl, hP, hD, hS⟩
        · exact absurd (bya_eq hTT _) c_217
      by_cases hy6 : y = 6
      · rw [hy6]
        refine lv_tableIn (off := 190) (tgt := 222) hx hb d_L_law_32 (by decide) (by decide) rfl (by decide) ?_
        refine lv_aload_n hx hb d_L_law_222 rfl (lv_at hl 1 rfl) ?_
        refine fg_calli (wc := [(ox, .inr (2, [.ref tp, .int (nI n), .ref tk, .int (nI kl), .ref qu, .ref ga])), (ga, .inr (1, [.ref qu, .int (nI st), .int (nI nx), .int (nI bs), .int (nI wt), .int (nI ag), .int (nI rf), .int (nI ac)]))]) (wr := ([(tp, .inl (cB, 259, .inl t)), (tk, .inl (cB, 252, .inl T)), (qu, .inr (0, [.ref qr, .ref qs, .int (nI f), .int (nI cn)])), (qr, .inl (cG, 8, .inr (.inr (.inr (.inr (fun k => some (r k))))))), (qs, .inl (cI, 8, .inl S))] ++ rwL cB r Rr ++ [(h0, .inr (3, [.int (nI th), .ref a1, .int (nI n), .int (nI cn), .ref a2, .ref a3, .ref a4, .int (nI kl), .int (nI st), .int (nI nx), .int (nI bs), .int (nI wt), .int (nI ag), .int (nI rf), .int (nI ac)])), (a1, .inl (cB, 259, .inl t)), (a2, .inl (cB, 2048, .inl q)), (a3, .inl (cI, 8, .inl ln)), (a4, .inl (cB, 256, .inl TM))])) (fun (u : Nat) => [(ox, .inr (2, [.ref tp, .int (nI n), .ref tk, .int (nI kl), .ref qu, .ref ga])), (ga, .inr (1, [.ref qu, .int (nI u), .int (nI nx), .int (nI bs), .int (nI 0), .int (nI ag), .int (nI rf), .int (nI ac)]))]) (va_runV (As := []) (rest := []) ⟨hx, hb, hml, hown, ht⟩ (c_X_release l dC dI cB cI cG ox tp tk qu ga n kl st nx bs wt ag rf ac H.size hg) (cwV 0 ht (fg_gV m_170 m_171 m_172 m_1 m_173) rfl rfl rfl (by decide +kernel) ⟨Nat.le_of_ble_eq_true rfl, Nat.le_of_ble_eq_true rfl⟩) (fg_preV hK (hP.sub [0, 3] rfl) (hD.sub [0, 3] (by decide) rfl) (va_recv hK hP (ci := 2) (q0 := 0) rfl rfl)) rfl rfl hl.1 rfl (lv_room (Nat.le_of_ble_eq_true rfl)) d_L_law_223 ⟨Nat.le_of_ble_eq_true rfl, Nat.le_of_ble_eq_true rfl⟩) hP hD hS hA [0, 3] [1, 2, 4, 5, 6, 7, 8, 9, 10, 11, 12, 13, 14, 15, 16, 17, 18, 19] rfl rfl (by decide) (by decide) (fun r_223 u H locs hw hP hD hS => ?_)
        obtain ⟨hr2, rfl⟩ := hw
        obtain rfl : r_223 = nI (if ¬ wt = 0 ∨ st = 2 then 1 else 0) := hr2
        have hP : va_P (dC, dI) fgC ([(ox, .inr (2, [.ref tp, .int (nI n), .ref tk, .int (nI kl), .ref qu, .ref ga])), (tp, .inl (cB, 259, .inl t)), (tk, .inl (cB, 252, .inl T)), (ga, .inr (1, [.ref qu, .int (nI (if st = 2 then 1 else st)), .int (nI nx), .int (nI bs), .int (nI 0), .int (nI ag), .int (nI rf), .int (nI ac)])), (qu, .inr (0, [.ref qr, .ref qs, .int (nI f), .int (nI cn)])), (qr, .inl (cG, 8, .inr (.inr (.inr (.inr (fun k => some (r k))))))), (qs, .inl (cI, 8, .inl S))] ++ rwL cB r Rr ++ [(h0, .inr (3, [.int (nI th), .ref a1, .int (nI n), .int (nI cn), .ref a2, .ref a3, .ref a4, .int (nI kl), .int (nI st), .int (nI nx), .int (nI bs), .int (nI wt), .int (nI ag), .int (nI rf), .int (nI ac)])), (a1, .inl (cB, 259, .inl t)), (a2, .inl (cB, 2048, .inl q)), (a3, .inl (cI, 8, .inl ln)), (a4, .inl (cB, 256, .inl TM))]) H := hP.sub [18, 0, 1, 19, 2, 3, 4, 5, 6, 7, 8, 9, 10, 11, 12, 13, 14, 15, 16, 17] rfl
        have hD : va_D A ([(ox, .inr (2, [.ref tp, .int (nI n), .ref tk, .int (nI kl), .ref qu, .ref ga])), (tp, .inl (cB, 259, .inl t)), (tk, .inl (cB, 252, .inl T)), (ga, .inr (1, [.ref qu, .int (nI (if st = 2 then 1 else st)), .int (nI nx), .int (nI bs), .int (nI 0), .int (nI ag), .int (nI rf), .int (nI ac)])), (qu, .inr (0, [.ref qr, .ref qs, .int (nI f), .int (nI cn)])), (qr, .inl (cG, 8, .inr (.inr (.inr (.inr (fun k => some (r k))))))), (qs, .inl (cI, 8, .inl S))] ++ rwL cB r Rr ++ [(h0, .inr (3, [.int (nI th), .ref a1, .int (nI n), .int (nI cn), .ref a2, .ref a3, .ref a4, .int (nI kl), .int (nI st), .int (nI nx), .int (nI bs), .int (nI wt), .int (nI ag), .int (nI rf), .int (nI ac)])), (a1, .inl (cB, 259, .inl t)), (a2, .inl (cB, 2048, .inl q)), (a3, .inl (cI, 8, .inl ln)), (a4, .inl (cB, 256, .inl TM))]) := hD.sub [18, 0, 1, 19, 2, 3, 4, 5, 6, 7, 8, 9, 10, 11, 12, 13, 14, 15, 16, 17] (by decide) rfl
        refine lv_aload_n hx hb d_L_law_226 rfl (lv_at hl 2 rfl) ?_
        refine fg_calli (wc := [(h0, .inr (3, [.int (nI th), .ref a1, .int (nI n), .int (nI cn), .ref a2, .ref a3, .ref a4, .int (nI kl), .int (nI st), .int (nI nx), .int (nI bs), .int (nI wt), .int (nI ag), .int (nI rf), .int (nI ac)]))]) (wr := ([(ox, .inr (2, [.ref tp, .int (nI n), .ref tk, .int (nI kl), .ref qu, .ref ga])), (tp, .inl (cB, 259, .inl t)), (tk, .inl (cB, 252, .inl T)), (ga, .inr (1, [.ref qu, .int (nI (if st = 2 then 1 else st)), .int (nI nx), .int (nI bs), .int (nI 0), .int (nI ag), .int (nI rf), .int (nI ac)])), (qu, .inr (0, [.ref qr, .ref qs, .int (nI f), .int (nI cn)])), (qr, .inl (cG, 8, .inr (.inr (.inr (.inr (fun k => some (r k))))))), (qs, .inl (cI, 8, .inl S))] ++ rwL cB r Rr ++ [(a1, .inl (cB, 259, .inl t)), (a2, .inl (cB, 2048, .inl q)), (a3, .inl (cI, 8, .inl ln)), (a4, .inl (cB, 256, .inl TM))])) (fun (u : Nat) => [(h0, .inr (3, [.int (nI 0), .ref a1, .int (nI n), .int (nI cn), .ref a2, .ref a3, .ref a4, .int (nI kl), .int (nI u), .int (nI nx), .int (nI bs), .int (nI 0), .int (nI ag), .int (nI rf), .int (nI ac)]))]) (va_runV (As := []) (rest := [.int (nI (if ¬ wt = 0 ∨ st = 2 then 1 else 0))]) ⟨hx, hb, hml, hown, ht⟩ (c_M_release l dC dI cB cI cG h0 a1 a2 a3 a4 th n cn kl st nx bs wt ag rf ac H.size hg) (cwV 0 ht (fg_gV m_299 m_300 m_301 m_4 m_302) rfl rfl rfl (by decide +kernel) ⟨Nat.le_of_ble_eq_true rfl, Nat.le_of_ble_eq_true rfl⟩) (fg_preV hK (hP.sub [15] rfl) (hD.sub [15] (by decide) rfl) (va_recv hK hP (ci := 3) (q0 := 15) rfl rfl)) rfl rfl hl.1 rfl (lv_room (Nat.le_of_ble_eq_true rfl)) d_L_law_227 ⟨Nat.le_of_ble_eq_true rfl, Nat.le_of_ble_eq_true rfl⟩) hP hD hS hA [15] [0, 1, 2, 3, 4, 5, 6, 7, 8, 9, 10, 11, 12, 13, 14, 16, 17, 18, 19] rfl rfl (by decide) (by decide) (fun r_227 u H locs hw hP hD hS => ?_)
        obtain ⟨hr2, rfl⟩ := hw
        obtain rfl : r_227 = nI (if ¬ wt = 0 ∨ st = 2 then 1 else 0) := hr2
        have hP : va_P (dC, dI) fgC ([(ox, .inr (2, [.ref tp, .int (nI n), .ref tk, .int (nI kl), .ref qu, .ref ga])), (tp, .inl (cB, 259, .inl t)), (tk, .inl (cB, 252, .inl T)), (ga, .inr (1, [.ref qu, .int (nI (if st = 2 then 1 else st)), .int (nI nx), .int (nI bs), .int (nI 0), .int (nI ag), .int (nI rf), .int (nI ac)])), (qu, .inr (0, [.ref qr, .ref qs, .int (nI f), .int (nI cn)])), (qr, .inl (cG, 8, .inr (.inr (.inr (.inr (fun k => some (r k))))))), (qs, .inl (cI, 8, .inl S))] ++ rwL cB r Rr ++ [(h0, .inr (3, [.int (nI 0), .ref a1, .int (nI n), .int (nI cn), .ref a2, .ref a3, .ref a4, .int (nI kl), .int (nI (if st = 2 then 1 else st)), .int (nI nx), .int (nI bs), .int (nI 0), .int (nI ag), .int (nI rf), .int (nI ac)])), (a1, .inl (cB, 259, .inl t)), (a2, .inl (cB, 2048, .inl q)), (a3, .inl (cI, 8, .inl ln)), (a4, .inl (cB, 256, .inl TM))]) H := hP.sub [0, 1, 2, 3, 4, 5, 6, 7, 8, 9, 10, 11, 12, 13, 14, 19, 15, 16, 17, 18] rfl
        have hD : va_D A ([(ox, .inr (2, [.ref tp, .int (nI n), .ref tk, .int (nI kl), .ref qu, .ref ga])), (tp, .inl (cB, 259, .inl t)), (tk, .inl (cB, 252, .inl T)), (ga, .inr (1, [.ref qu, .int (nI (if st = 2 then 1 else st)), .int (nI nx), .int (nI bs), .int (nI 0), .int (nI ag), .int (nI rf), .int (nI ac)])), (qu, .inr (0, [.ref qr, .ref qs, .int (nI f), .int (nI cn)])), (qr, .inl (cG, 8, .inr (.inr (.inr (.inr (fun k => some (r k))))))), (qs, .inl (cI, 8, .inl S))] ++ rwL cB r Rr ++ [(h0, .inr (3, [.int (nI 0), .ref a1, .int (nI n), .int (nI cn), .ref a2, .ref a3, .ref a4, .int (nI kl), .int (nI (if st = 2 then 1 else st)), .int (nI nx), .int (nI bs), .int (nI 0), .int (nI ag), .int (nI rf), .int (nI ac)])), (a1, .inl (cB, 259, .inl t)), (a2, .inl (cB, 2048, .inl q)), (a3, .inl (cI, 8, .inl ln)), (a4, .inl (cB, 256, .inl TM))]) := hD.sub [0, 1, 2, 3, 4, 5, 6, 7, 8, 9, 10, 11, 12, 13, 14, 19, 15, 16, 17, 18] (by decide) rfl
        refine lv_icmp_eq (tgt := 271) hx hb d_L_law_230 (by decide) (fun c_230 => ?_) (fun c_230 => ?_)
        · refine fg_iinc (n := 4) (k := 3) (lv' := [(3, .int (nI (v + 4))), (0, .ref b), (1, .ref ox), (2, .ref h0)]) hx hb d_L_law_271 hl rfl (by decide) rfl (fun ls hl => ?_)
          refine lv_goto (tgt := 18) hx hb d_L_law_274 (by decide) ?_
          exact ih (d - 4) (by omega) _ _ _ ⟨v + 4, 0, n, f, cn, kl, t, T, TM, S, q, ln, Rr, (if st = 2 then 1 else st), nx, bs, 0, ag, rf, ac, by omega, by omega, LI_rel hI, lv_sub hl [1, 2, 3, 0] rfl, hP, hD, hS⟩
        · exact absurd rfl c_230
      by_cases hy7 : y = 7
      · rw [hy7]
        refine lv_tableIn (off := 203) (tgt := 235) hx hb d_L_law_32 (by decide) (by decide) rfl (by decide) ?_
        refine lv_aload_n hx hb d_L_law_235 rfl (lv_at hl 1 rfl) ?_
        refine vp_callSi (va_Run.run (va_runV (As := []) (rest := []) ⟨hx, hb, hml, hown, ht⟩ (c_X_word l dC dI cB cI cG ox tp tk qu ga n kl st nx bs wt ag rf ac H.size hg) (cwV 0 ht (fg_gV m_178 m_179 m_180 m_1 m_181) rfl rfl rfl (by decide +kernel) ⟨Nat.le_of_ble_eq_true rfl, Nat.le_of_ble_eq_true rfl⟩) (fg_preV hK (hP.sub [0, 3] rfl) (hD.sub [0, 3] (by decide) rfl) (va_recv hK hP (ci := 2) (q0 := 0) rfl rfl)) rfl rfl hl.1 rfl (lv_room (Nat.le_of_ble_eq_true rfl)) d_L_law_236 ⟨Nat.le_of_ble_eq_true rfl, Nat.le_of_ble_eq_true rfl⟩)) (fun r_236 er_236 => ?_)
        obtain rfl : r_236 = (nI (wrd st nx bs wt ag)) := er_236
        refine lv_aload_n hx hb d_L_law_239 rfl (lv_at hl 2 rfl) ?_
        refine fg_calli (wc := [(h0, .inr (3, [.int (nI th), .ref a1, .int (nI n), .int (nI cn), .ref a2, .ref a3, .ref a4, .int (nI kl), .int (nI st), .int (nI nx), .int (nI bs), .int (nI wt), .int (nI ag), .int (nI rf), .int (nI ac)]))]) (wr := ([(ox, .inr (2, [.ref tp, .int (nI n), .ref tk, .int (nI kl), .ref qu, .ref ga])), (tp, .inl (cB, 259, .inl t)), (tk, .inl (cB, 252, .inl T)), (ga, .inr (1, [.ref qu, .int (nI st), .int (nI nx), .int (nI bs), .int (nI wt), .int (nI ag), .int (nI rf), .int (nI ac)])), (qu, .inr (0, [.ref qr, .ref qs, .int (nI f), .int (nI cn)])), (qr, .inl (cG, 8, .inr (.inr (.inr (.inr (fun k => some (r k))))))), (qs, .inl (cI, 8, .inl S))] ++ rwL cB r Rr ++ [(a1, .inl (cB, 259, .inl t)), (a2, .inl (cB, 2048, .inl q)), (a3, .inl (cI, 8, .inl ln)), (a4, .inl (cB, 256, .inl TM))])) (fun (u : Unit) => [(h0, .inr (3, [.int (nI 0), .ref a1, .int (nI n), .int (nI cn), .ref a2, .ref a3, .ref a4, .int (nI kl), .int (nI st), .int (nI nx), .int (nI bs), .int (nI wt), .int (nI ag), .int (nI rf), .int (nI ac)]))]) (va_runV (As := []) (rest := [.int (nI (wrd st nx bs wt ag))]) ⟨hx, hb, hml, hown, ht⟩ (c_M_word l dC dI cB cI cG h0 a1 a2 a3 a4 th n cn kl st nx bs wt ag rf ac H.size hg) (cwV 0 ht (fg_gV m_303 m_304 m_305 m_4 m_306) rfl rfl rfl (by decide +kernel) ⟨Nat.le_of_ble_eq_true rfl, Nat.le_of_ble_eq_true rfl⟩) (fg_preV hK (hP.sub [15] rfl) (hD.sub [15] (by decide) rfl) (va_recv hK hP (ci := 3) (q0 := 15) rfl rfl)) rfl rfl hl.1 rfl (lv_room (Nat.le_of_ble_eq_true rfl)) d_L_law_240 ⟨Nat.le_of_ble_eq_true rfl, Nat.le_of_ble_eq_true rfl⟩) hP hD hS hA [15] [0, 1, 2, 3, 4, 5, 6, 7, 8, 9, 10, 11, 12, 13, 14, 16, 17, 18, 19] rfl rfl (by decide) (by decide) (fun r_240 u H locs hw hP hD hS => ?_)
        obtain rfl : r_240 = nI (wrd st nx bs wt ag) := hw
        have hP : va_P (dC, dI) fgC ([(ox, .inr (2, [.ref tp, .int (nI n), .ref tk, .int (nI kl), .ref qu, .ref ga])), (tp, .inl (cB, 259, .inl t)), (tk, .inl (cB, 252, .inl T)), (ga, .inr (1, [.ref qu, .int (nI st), .int (nI nx), .int (nI bs), .int (nI wt), .int (nI ag), .int (nI rf), .int (nI ac)])), (qu, .inr (0, [.ref qr, .ref qs, .int (nI f), .int (nI cn)])), (qr, .inl (cG, 8, .inr (.inr (.inr (.inr (fun k => some (r k))))))), (qs, .inl (cI, 8, .inl S))] ++ rwL cB r Rr ++ [(h0, .inr (3, [.int (nI 0), .ref a1, .int (nI n), .int (nI cn), .ref a2, .ref a3, .ref a4, .int (nI kl), .int (nI st), .int (nI nx), .int (nI bs), .int (nI wt), .int (nI ag), .int (nI rf), .int (nI ac)])), (a1, .inl (cB, 259, .inl t)), (a2, .inl (cB, 2048, .inl q)), (a3, .inl (cI, 8, .inl ln)), (a4, .inl (cB, 256, .inl TM))]) H := hP.sub [0, 1, 2, 3, 4, 5, 6, 7, 8, 9, 10, 11, 12, 13, 14, 19, 15, 16, 17, 18] rfl
        have hD : va_D A ([(ox, .inr (2, [.ref tp, .int (nI n), .ref tk, .int (nI kl), .ref qu, .ref ga])), (tp, .inl (cB, 259, .inl t)), (tk, .inl (cB, 252, .inl T)), (ga, .inr (1, [.ref qu, .int (nI st), .int (nI nx), .int (nI bs), .int (nI wt), .int (nI ag), .int (nI rf), .int (nI ac)])), (qu, .inr (0, [.ref qr, .ref qs, .int (nI f), .int (nI cn)])), (qr, .inl (cG, 8, .inr (.inr (.inr (.inr (fun k => some (r k))))))), (qs, .inl (cI, 8, .inl S))] ++ rwL cB r Rr ++ [(h0, .inr (3, [.int (nI 0), .ref a1, .int (nI n), .int (nI cn), .ref a2, .ref a3, .ref a4, .int (nI kl), .int (nI st), .int (nI nx), .int (nI bs), .int (nI wt), .int (nI ag), .int (nI rf), .int (nI ac)])), (a1, .inl (cB, 259, .inl t)), (a2, .inl (cB, 2048, .inl q)), (a3, .inl (cI, 8, .inl ln)), (a4, .inl (cB, 256, .inl TM))]) := hD.sub [0, 1, 2, 3, 4, 5, 6, 7, 8, 9, 10, 11, 12, 13, 14, 19, 15, 16, 17, 18] (by decide) rfl
        refine lv_icmp_eq (tgt := 271) hx hb d_L_law_243 (by decide) (fun c_243 => ?_) (fun c_243 => ?_)
        · refine fg_iinc (n := 4) (k := 3) (lv' := [(3, .int (nI (v + 4))), (0, .ref b), (1, .ref ox), (2, .ref h0)]) hx hb d_L_law_271 hl rfl (by decide) rfl (fun ls hl => ?_)
          refine lv_goto (tgt := 18) hx hb d_L_law_274 (by decide) ?_
          exact ih (d - 4) (by omega) _ _ _ ⟨v + 4, 0, n, f, cn, kl, t, T, TM, S, q, ln, Rr, st, nx, bs, wt, ag, rf, ac, by omega, by omega, hI, lv_sub hl [1, 2, 3, 0] rfl, hP, hD, hS⟩
        · exact absurd rfl c_243
      by_cases hy8 : y = 8
      · rw [hy8]
        refine lv_tableIn (off := 216) (tgt := 248) hx hb d_L_law_32 (by decide) (by decide) rfl (by decide) ?_
        refine lv_aload_n hx hb d_L_law_248 rfl (lv_at hl 1 rfl) ?_
        refine lv_aload_n hx hb d_L_law_249 rfl (lv_at hl 0 rfl) ?_
        refine lv_iload_n hx hb d_L_law_250 rfl (lv_at hl 3 rfl) ?_
        refine lv_iconst (v := (nI 1)) hx hb d_L_law_251 (by decide) ?_
        refine fg_iadd hx hb d_L_law_252 ?_
        refine fg_sld hx hb hX hbl hbA hS (by omega) (by omega) d_L_law_253 ?_
        refine vp_callSi (va_Run.run (va_runV (As := [.int (xs (v + 1))]) (rest := []) ⟨hx, hb, hml, hown, ht⟩ (c_X_about l dC dI cB cI cG ox tp tk ga qu qr qs n kl f cn (xs (v + 1)) st nx bs wt ag rf ac H.size) (cwV 1 ht (fg_gV m_187 m_188 m_189 m_1 m_190) rfl rfl rfl (by decide +kernel) ⟨Nat.le_of_ble_eq_true rfl, Nat.le_of_ble_eq_true rfl⟩) (fg_preVN hN hK (hP.sub [0, 3, 4] rfl) (hD.sub [0, 3, 4] (by decide) rfl) (va_recv hK hP (ci := 2) (q0 := 0) rfl rfl)) rfl rfl hl.1 rfl (lv_room (Nat.le_of_ble_eq_true rfl)) d_L_law_254 ⟨Nat.le_of_ble_eq_true rfl, Nat.le_of_ble_eq_true rfl⟩)) (fun r_254 er_254 => ?_)
        obtain rfl : r_254 = (abt st nx cn rf ac (xs (v + 1))) := er_254
        refine lv_aload_n hx hb d_L_law_257 rfl (lv_at hl 2 rfl) ?_
        refine lv_aload_n hx hb d_L_law_258 rfl (lv_at hl 0 rfl) ?_
        refine lv_iload_n hx hb d_L_law_259 rfl (lv_at hl 3 rfl) ?_
        refine lv_iconst (v := (nI 1)) hx hb d_L_law_260 (by decide) ?_
        refine fg_iadd hx hb d_L_law_261 ?_
        refine fg_sld hx hb hX hbl hbA hS (by omega) (by omega) d_L_law_262 ?_
        refine fg_calli (wc := [(h0, .inr (3, [.int (nI th), .ref a1, .int (nI n), .int (nI cn), .ref a2, .ref a3, .ref a4, .int (nI kl), .int (nI st), .int (nI nx), .int (nI bs), .int (nI wt), .int (nI ag), .int (nI rf), .int (nI ac)]))]) (wr := ([(ox, .inr (2, [.ref tp, .int (nI n), .ref tk, .int (nI kl), .ref qu, .ref ga])), (tp, .inl (cB, 259, .inl t)), (tk, .inl (cB, 252, .inl T)), (ga, .inr (1, [.ref qu, .int (nI st), .int (nI nx), .int (nI bs), .int (nI wt), .int (nI ag), .int (nI rf), .int (nI ac)])), (qu, .inr (0, [.ref qr, .ref qs, .int (nI f), .int (nI cn)])), (qr, .inl (cG, 8, .inr (.inr (.inr (.inr (fun k => some (r k))))))), (qs, .inl (cI, 8, .inl S))] ++ rwL cB r Rr ++ [(a1, .inl (cB, 259, .inl t)), (a2, .inl (cB, 2048, .inl q)), (a3, .inl (cI, 8, .inl ln)), (a4, .inl (cB, 256, .inl TM))])) (fun (u : Unit) => [(h0, .inr (3, [.int (nI 0), .ref a1, .int (nI n), .int (nI cn), .ref a2, .ref a3, .ref a4, .int (nI kl), .int (nI st), .int (nI nx), .int (nI bs), .int (nI wt), .int (nI ag), .int (nI rf), .int (nI ac)]))]) (va_runV (As := [.int (xs (v + 1))]) (rest := [.int (abt st nx cn rf ac (xs (v + 1)))]) ⟨hx, hb, hml, hown, ht⟩ (c_M_about l dC dI cB cI cG h0 a1 a2 a3 a4 th n cn kl st nx bs wt ag rf ac (xs (v + 1)) H.size) (cwV 1 ht (fg_gV m_307 m_308 m_309 m_4 m_310) rfl rfl rfl (by decide +kernel) ⟨Nat.le_of_ble_eq_true rfl, Nat.le_of_ble_eq_true rfl⟩) (fg_preV hK (hP.sub [15] rfl) (hD.sub [15] (by decide) rfl) (va_recv hK hP (ci := 3) (q0 := 15) rfl rfl)) rfl rfl hl.1 rfl (lv_room (Nat.le_of_ble_eq_true rfl)) d_L_law_263 ⟨Nat.le_of_ble_eq_true rfl, Nat.le_of_ble_eq_true rfl⟩) hP hD hS hA [15] [0, 1, 2, 3, 4, 5, 6, 7, 8, 9, 10, 11, 12, 13, 14, 16, 17, 18, 19] rfl rfl (by decide) (by decide) (fun r_263 u H locs hw hP hD hS => ?_)
        obtain rfl : r_263 = abt st nx cn rf ac (xs (v + 1)) := hw
        have hP : va_P (dC, dI) fgC ([(ox, .inr (2, [.ref tp, .int (nI n), .ref tk, .int (nI kl), .ref qu, .ref ga])), (tp, .inl (cB, 259, .inl t)), (tk, .inl (cB, 252, .inl T)), (ga, .inr (1, [.ref qu, .int (nI st), .int (nI nx), .int (nI bs), .int (nI wt), .int (nI ag), .int (nI rf), .int (nI ac)])), (qu, .inr (0, [.ref qr, .ref qs, .int (nI f), .int (nI cn)])), (qr, .inl (cG, 8, .inr (.inr (.inr (.inr (fun k => some (r k))))))), (qs, .inl (cI, 8, .inl S))] ++ rwL cB r Rr ++ [(h0, .inr (3, [.int (nI 0), .ref a1, .int (nI n), .int (nI cn), .ref a2, .ref a3, .ref a4, .int (nI kl), .int (nI st), .int (nI nx), .int (nI bs), .int (nI wt), .int (nI ag), .int (nI rf), .int (nI ac)])), (a1, .inl (cB, 259, .inl t)), (a2, .inl (cB, 2048, .inl q)), (a3, .inl (cI, 8, .inl ln)), (a4, .inl (cB, 256, .inl TM))]) H := hP.sub [0, 1, 2, 3, 4, 5, 6, 7, 8, 9, 10, 11, 12, 13, 14, 19, 15, 16, 17, 18] rfl
        have hD : va_D A ([(ox, .inr (2, [.ref tp, .int (nI n), .ref tk, .int (nI kl), .ref qu, .ref ga])), (tp, .inl (cB, 259, .inl t)), (tk, .inl (cB, 252, .inl T)), (ga, .inr (1, [.ref qu, .int (nI st), .int (nI nx), .int (nI bs), .int (nI wt), .int (nI ag), .int (nI rf), .int (nI ac)])), (qu, .inr (0, [.ref qr, .ref qs, .int (nI f), .int (nI cn)])), (qr, .inl (cG, 8, .inr (.inr (.inr (.inr (fun k => some (r k))))))), (qs, .inl (cI, 8, .inl S))] ++ rwL cB r Rr ++ [(h0, .inr (3, [.int (nI 0), .ref a1, .int (nI n), .int (nI cn), .ref a2, .ref a3, .ref a4, .int (nI kl), .int (nI st), .int (nI nx), .int (nI bs), .int (nI wt), .int (nI ag), .int (nI rf), .int (nI ac)])), (a1, .inl (cB, 259, .inl t)), (a2, .inl (cB, 2048, .inl q)), (a3, .inl (cI, 8, .inl ln)), (a4, .inl (cB, 256, .inl TM))]) := hD.sub [0, 1, 2, 3, 4, 5, 6, 7, 8, 9, 10, 11, 12, 13, 14, 19, 15, 16, 17, 18] (by decide) rfl
        refine lv_icmp_eq (tgt := 271) hx hb d_L_law_266 (by decide) (fun c_266 => ?_) (fun c_266 => ?_)
        · refine fg_iinc (n := 4) (k := 3) (lv' := [(3, .int (nI (v + 4))), (0, .ref b), (1, .ref ox), (2, .ref h0)]) hx hb d_L_law_271 hl rfl (by decide) rfl (fun ls hl => ?_)
          refine lv_goto (tgt := 18) hx hb d_L_law_274 (by decide) ?_
          exact ih (d - 4) (by omega) _ _ _ ⟨v + 4, 0, n, f, cn, kl, t, T, TM, S, q, ln, Rr, st, nx, bs, wt, ag, rf, ac, by omega, by omega, hI, lv_sub hl [1, 2, 3, 0] rfl, hP, hD, hS⟩
        · exact absurd rfl c_266
      refine lv_tableOut (tgt := 271) hx hb d_L_law_32 (Or.inr (by rw [nI_toInt (by omega)]; omega)) (by decide) ?_
      refine fg_iinc (n := 4) (k := 3) (lv' := [(3, .int (nI (v + 4))), (0, .ref b), (1, .ref ox), (2, .ref h0)]) hx hb d_L_law_271 hl rfl (by decide) rfl (fun ls hl => ?_)
      refine lv_goto (tgt := 18) hx hb d_L_law_274 (by decide) ?_
      exact ih (d - 4) (by omega) _ _ _ ⟨v + 4, th, n, f, cn, kl, t, T, TM, S, q, ln, Rr, st, nx, bs, wt, ag, rf, ac, by omega, by omega, hI, lv_sub hl [1, 2, 3, 0] rfl, hP, hD, hS⟩
  · refine lv_isub hx hb d_L_law_22 ?_
    refine lv_icmp_gt (tgt := 277) hx hb d_L_law_23 (by decide) (fun c_23 => ?_) (fun c_23 => ?_)
    · refine lv_iconst (v := (nI 1)) hx hb d_L_law_277 (by decide) ?_
      refine va_forget (fun q hq => hAf _ (hS.2.2 q hq)) ?_
      exact lw_ret hx hb hr hlocks d_L_law_278
    · exact absurd (Int32.lt_of_lt_of_le (pk_sneg (by decide) (by omega)) (nI_pos' (by omega))) c_23
end
section
theorem LI_0 : LI 0 0 0 0 (fun _ => 0) (fun _ => 0) (fun _ => 0) (fun _ => 0) (fun _ => 0) (fun _ => 0) (fun _ _ => 0) (1, 0, 0, 0, 0, 0, 0) := ⟨by omega, BF.z0, fun _ => BF.z0, BF.z0, by omega, fun _ _ => rfl, QR_0, by decide, by decide, by decide, by decide, by decide⟩
set_option maxHeartbeats 4000000 in
set_option maxRecDepth 100000 in
/-- THE LAW, from its entry -/
theorem whole_start {p : Program} {e : Env} {s : State} {m : MethodId} {below : List Frame} {meth : Method} {c : Code} (l : Launch) {b L : Nat} {xs : Nat → Int32} (hL : L ≤ 2048) (C0 : lw_At p s m meth c b L xs) : W p l e room_1 s m #[Value.ref b] below meth c s.heap [] 0 0 (lw_Z below #[Value.ref b] s) (entryFrame m ([Value.ref b] : List Value).toArray 4) := by
  obtain ⟨hx, hb, hr, hml, hown, hts, hX, hbl, hlocks, hgv⟩ := id C0
  have ht : ∀ w ∈ w_all, w.before #[Value.ref b] s = true := fun w h => hts w (w_sub w h)
  have hA : ∀ q : Nat, s.heap.size ≤ q → (fun q : Nat => s.heap.size ≤ q) q := fun _ h => h
  obtain ⟨c0, iS0, hKn0⟩ := u_known (C := R_Q) (T := F_Q) (N := 4) (n := 4) ht i_Q (ht _ m_16)
  obtain ⟨c1, iS1, hKn1⟩ := u_known (C := R_G) (T := F_G) (N := 8) (n := 8) ht i_G (ht _ m_40)
  obtain ⟨c2, iS2, hKn2⟩ := u_known (C := R_X) (T := F_X) (N := 6) (n := 6) ht i_X (ht _ m_8)
  obtain ⟨c3, iS3, hKn3⟩ := u_known (C := R_M) (T := F_M) (N := 15) (n := 15) ht i_M (ht _ m_192)
  obtain ⟨dC, dI, hKc⟩ : ∃ (dC : Nat → ClassId) (dI : Nat → Nat → Nat), ∀ (k : Nat) (q : vw_C), fgC[k]? = some q → u_Kn s q.1 q.2.1 q.2.2 (dC k) (dI k) := by
    refine ⟨fun k => if k = 0 then c0 else if k = 1 then c1 else if k = 2 then c2 else c3, fun k => if k = 0 then iS0 else if k = 1 then iS1 else if k = 2 then iS2 else iS3, ?_⟩
    intro k q hq
    match k, hq with
    | 0, hq => cases hq; exact hKn0
    | 1, hq => cases hq; exact hKn1
    | 2, hq => cases hq; exact hKn2
    | 3, hq => cases hq; exact hKn3
    | k + 4, hq => simp [fgC] at hq
  obtain ⟨cB, kB, cmB, hfB, hkB, hkindB⟩ := Cond.arrayClass_spec (ht _ m_37)
  obtain ⟨cI, kI, cmI, hfI, hkI, hkindI⟩ := Cond.arrayClass_spec (ht _ m_38)
  obtain ⟨cB2, cG, kG, hfB2, -, hkG, hkindG, hfG⟩ := arrayOverA_spec (hts _ l_22)
  have hBe : cB2 = cB := Option.some.inj (hfB2.symm.trans hfB)
  rw [hBe] at hkindG
  have hK : va_K (dC, dI) fgC (tysA cB cI cG) s := by
    refine ⟨hKc, fun k q h => ?_⟩
    match k, h with
    | 0, h => cases h; exact ⟨fun N z => ⟨fun k h => (by cases h), kB, hkB, cmB, hkindB⟩, hfB⟩
    | 1, h => cases h; exact ⟨fun N z => ⟨fun k h => (by cases h), kI, hkI, cmI, hkindI⟩, hfI⟩
    | 2, h => cases h; exact ⟨fun N z => ⟨fun k h => (by cases h), kG, hkG, cB, hkindG⟩, hfG⟩
    | k + 3, h => simp [tysA] at h
  have hN : fgN cB cG s := ⟨⟨kG, hkG, hkindG⟩, va_Nw.of rfl (hts _ l_17), va_Nw.of rfl (hts _ l_47), va_Nw.of rfl (hts _ l_49), va_Nw.of rfl (hts _ l_27), va_Nw.of rfl (hts _ l_54), va_Nw.of rfl (hts _ l_56)⟩
  obtain ⟨A, hAe⟩ : ∃ A : Nat → Prop, A = fun q : Nat => s.heap.size ≤ q := ⟨_, rfl⟩
  rw [← hAe] at hA
  have hS : va_S A s.heap s.heap [] := va_S.rf
  have hP : va_P (dC, dI) fgC [] s.heap := fun k q h => by simp at h
  have hD : va_D A [] := ⟨fun i j p q h => by simp at h, fun k q h => by simp at h⟩
  have hl := lv_entry ([.ref b]) (n := 4) (Nat.le_of_ble_eq_true rfl)
  rw [lg_entry_eq]
  generalize (lg_sl ([.ref b]) ++ List.replicate (4 - (lg_sl ([.ref b])).length) Slot.unset).toArray = ls at hl ⊢
  have hl : lv_has ls 4 [(0, .ref b)] := hl
  refine va_new (ci := 2) (fs := [.null, .int (nI 0), .null, .int (nI 0), .null, .null]) (C := R_X) (T := F_X) (N := 6) hx hb ht i_X t_X t_X_ok hown (ht _ m_7) (ht _ m_8) (ht _ m_1) hK hP hD hS hA rfl (fun j hj => by rcases (show j = 0 ∨ j = 1 ∨ j = 2 ∨ j = 3 ∨ j = 4 ∨ j = 5 by omega) with rfl | rfl | rfl | rfl | rfl | rfl <;> rfl) (Nat.le_of_ble_eq_true rfl) (Nat.le_of_ble_eq_true rfl) d_L_law_0 (fun ox H hP hD hS => ?_)
  have hP : va_P (dC, dI) fgC [(ox, .inr (2, [.null, .int (nI 0), .null, .int (nI 0), .null, .null]))] H := hP
  have hD : va_D A [(ox, .inr (2, [.null, .int (nI 0), .null, .int (nI 0), .null, .null]))] := hD
  refine lv_dup hx hb d_L_law_3 rfl ?_
  refine fg_callv (wc := [(ox, .inr (2, [.null, .int (nI 0), .null, .int (nI 0), .null, .null]))]) (wr := []) (fun (u : Nat × Nat × Nat × Nat × Nat × Nat × (Nat → Nat)) => ([(ox, .inr (2, [.ref u.1, .int (nI 0), .ref u.2.1, .int (nI 0), .ref u.2.2.1, .ref u.2.2.2.2.2.1])), (u.1, .inl (cB, 259, .inl (fun _ => 0))), (u.2.1, .inl (cB, 252, .inl (fun _ => 0))), (u.2.2.2.2.2.1, .inr (1, [.ref u.2.2.1, .int (nI 1), .int (nI 0), .int (nI 0), .int (nI 0), .int (nI 0), .int (nI 0), .int (nI 0)])), (u.2.2.1, .inr (0, [.ref u.2.2.2.1, .ref u.2.2.2.2.1, .int (nI 0), .int (nI 0)])), (u.2.2.2.1, .inl (cG, 8, .inr (.inr (.inr (.inr (fun k => some (u.2.2.2.2.2.2 k))))))), (u.2.2.2.2.1, .inl (cI, 8, .inl (fun _ => 0)))] ++ rwL cB u.2.2.2.2.2.2 (fun _ _ => 0) ++ [])) (va_runI (As := []) (rest := [.ref ox]) ⟨hx, hb, hml, hown, ht⟩ (c_Xinit l dC dI cB cI cG ox H.size) (cwI 0 ht (fg_gI m_11) rfl rfl rfl (ht _ m_1) (ht _ m_9) (ht _ m_10) rfl (by decide +kernel) ⟨Nat.le_of_ble_eq_true rfl, Nat.le_of_ble_eq_true rfl⟩) (fg_preSN hN hK (hP.sub [0] rfl) (hD.sub [0] (by decide) rfl)) rfl rfl hl.1 rfl (lv_room (Nat.le_of_ble_eq_true rfl)) d_L_law_4 ⟨Nat.le_of_ble_eq_true rfl, Nat.le_of_ble_eq_true rfl⟩) hP hD hS hA [0] [] rfl rfl (by decide) (by decide) (fun u H locs hw hP hD hS => ?_)
  obtain ⟨tp, tk, qu, qr, qs, ga, r⟩ := u
  have hP : va_P (dC, dI) fgC ([(ox, .inr (2, [.ref tp, .int (nI 0), .ref tk, .int (nI 0), .ref qu, .ref ga])), (tp, .inl (cB, 259, .inl (fun _ => 0))), (tk, .inl (cB, 252, .inl (fun _ => 0))), (ga, .inr (1, [.ref qu, .int (nI 1), .int (nI 0), .int (nI 0), .int (nI 0), .int (nI 0), .int (nI 0), .int (nI 0)])), (qu, .inr (0, [.ref qr, .ref qs, .int (nI 0), .int (nI 0)])), (qr, .inl (cG, 8, .inr (.inr (.inr (.inr (fun k => some (r k))))))), (qs, .inl (cI, 8, .inl (fun _ => 0)))] ++ rwL cB r (fun _ _ => 0) ++ []) H := hP.sub [0, 1, 2, 3, 4, 5, 6, 7, 8, 9, 10, 11, 12, 13, 14] rfl
  have hD : va_D A ([(ox, .inr (2, [.ref tp, .int (nI 0), .ref tk, .int (nI 0), .ref qu, .ref ga])), (tp, .inl (cB, 259, .inl (fun _ => 0))), (tk, .inl (cB, 252, .inl (fun _ => 0))), (ga, .inr (1, [.ref qu, .int (nI 1), .int (nI 0), .int (nI 0), .int (nI 0), .int (nI 0), .int (nI 0), .int (nI 0)])), (qu, .inr (0, [.ref qr, .ref qs, .int (nI 0), .int (nI 0)])), (qr, .inl (cG, 8, .inr (.inr (.inr (.inr (fun k => some (r k))))))), (qs, .inl (cI, 8, .inl (fun _ => 0)))] ++ rwL cB r (fun _ _ => 0) ++ []) := hD.sub [0, 1, 2, 3, 4, 5, 6, 7, 8, 9, 10, 11, 12, 13, 14] (by decide) rfl
  refine lv_astore_n (lv' := [(1, .ref ox), (0, .ref b)]) hx hb d_L_law_7 rfl hl (by decide) rfl (fun ls hl => ?_)
  refine va_new (ci := 3) (fs := [.int (nI 0), .null, .int (nI 0), .int (nI 0), .null, .null, .null, .int (nI 0), .int (nI 0), .int (nI 0), .int (nI 0), .int (nI 0), .int (nI 0), .int (nI 0), .int (nI 0)]) (C := R_M) (T := F_M) (N := 15) hx hb ht i_M t_M t_M_ok hown (ht _ m_191) (ht _ m_192) (ht _ m_4) hK hP hD hS hA rfl (fun j hj => by rcases (show j = 0 ∨ j = 1 ∨ j = 2 ∨ j = 3 ∨ j = 4 ∨ j = 5 ∨ j = 6 ∨ j = 7 ∨ j = 8 ∨ j = 9 ∨ j = 10 ∨ j = 11 ∨ j = 12 ∨ j = 13 ∨ j = 14 by omega) with rfl | rfl | rfl | rfl | rfl | rfl | rfl | rfl | rfl | rfl | rfl | rfl | rfl | rfl | rfl <;> rfl) (Nat.le_of_ble_eq_true rfl) (Nat.le_of_ble_eq_true rfl) d_L_law_8 (fun h0 H hP hD hS => ?_)
  have hP : va_P (dC, dI) fgC ([(ox, .inr (2, [.ref tp, .int (nI 0), .ref tk, .int (nI 0), .ref qu, .ref ga])), (tp, .inl (cB, 259, .inl (fun _ => 0))), (tk, .inl (cB, 252, .inl (fun _ => 0))), (ga, .inr (1, [.ref qu, .int (nI 1), .int (nI 0), .int (nI 0), .int (nI 0), .int (nI 0), .int (nI 0), .int (nI 0)])), (qu, .inr (0, [.ref qr, .ref qs, .int (nI 0), .int (nI 0)])), (qr, .inl (cG, 8, .inr (.inr (.inr (.inr (fun k => some (r k))))))), (qs, .inl (cI, 8, .inl (fun _ => 0)))] ++ rwL cB r (fun _ _ => 0) ++ [(h0, .inr (3, [.int (nI 0), .null, .int (nI 0), .int (nI 0), .null, .null, .null, .int (nI 0), .int (nI 0), .int (nI 0), .int (nI 0), .int (nI 0), .int (nI 0), .int (nI 0), .int (nI 0)]))]) H := hP
  have hD : va_D A ([(ox, .inr (2, [.ref tp, .int (nI 0), .ref tk, .int (nI 0), .ref qu, .ref ga])), (tp, .inl (cB, 259, .inl (fun _ => 0))), (tk, .inl (cB, 252, .inl (fun _ => 0))), (ga, .inr (1, [.ref qu, .int (nI 1), .int (nI 0), .int (nI 0), .int (nI 0), .int (nI 0), .int (nI 0), .int (nI 0)])), (qu, .inr (0, [.ref qr, .ref qs, .int (nI 0), .int (nI 0)])), (qr, .inl (cG, 8, .inr (.inr (.inr (.inr (fun k => some (r k))))))), (qs, .inl (cI, 8, .inl (fun _ => 0)))] ++ rwL cB r (fun _ _ => 0) ++ [(h0, .inr (3, [.int (nI 0), .null, .int (nI 0), .int (nI 0), .null, .null, .null, .int (nI 0), .int (nI 0), .int (nI 0), .int (nI 0), .int (nI 0), .int (nI 0), .int (nI 0), .int (nI 0)]))]) := hD
  refine lv_dup hx hb d_L_law_11 rfl ?_
  refine fg_callv (wc := [(h0, .inr (3, [.int (nI 0), .null, .int (nI 0), .int (nI 0), .null, .null, .null, .int (nI 0), .int (nI 0), .int (nI 0), .int (nI 0), .int (nI 0), .int (nI 0), .int (nI 0), .int (nI 0)]))]) (wr := ([(ox, .inr (2, [.ref tp, .int (nI 0), .ref tk, .int (nI 0), .ref qu, .ref ga])), (tp, .inl (cB, 259, .inl (fun _ => 0))), (tk, .inl (cB, 252, .inl (fun _ => 0))), (ga, .inr (1, [.ref qu, .int (nI 1), .int (nI 0), .int (nI 0), .int (nI 0), .int (nI 0), .int (nI 0), .int (nI 0)])), (qu, .inr (0, [.ref qr, .ref qs, .int (nI 0), .int (nI 0)])), (qr, .inl (cG, 8, .inr (.inr (.inr (.inr (fun k => some (r k))))))), (qs, .inl (cI, 8, .inl (fun _ => 0)))] ++ rwL cB r (fun _ _ => 0) ++ [])) (fun (u : Nat × Nat × Nat × Nat) => [(h0, .inr (3, [.int (nI 0), .ref u.1, .int (nI 0), .int (nI 0), .ref u.2.1, .ref u.2.2.1, .ref u.2.2.2, .int (nI 0), .int (nI 1), .int (nI 0), .int (nI 0), .int (nI 0), .int (nI 0), .int (nI 0), .int (nI 0)])), (u.1, .inl (cB, 259, .inl (fun _ => 0))), (u.2.1, .inl (cB, 2048, .inl (fun _ => 0))), (u.2.2.1, .inl (cI, 8, .inl (fun _ => 0))), (u.2.2.2, .inl (cB, 256, .inl (fun _ => 0)))]) (va_runI (As := []) (rest := [.ref h0]) ⟨hx, hb, hml, hown, ht⟩ (c_Minit l dC dI cB cI cG h0 H.size) (cwI 0 ht (fg_gI m_195) rfl rfl rfl (ht _ m_4) (ht _ m_193) (ht _ m_194) rfl (by decide +kernel) ⟨Nat.le_of_ble_eq_true rfl, Nat.le_of_ble_eq_true rfl⟩) (fg_preS hK (hP.sub [15] rfl) (hD.sub [15] (by decide) rfl)) rfl rfl hl.1 rfl (lv_room (Nat.le_of_ble_eq_true rfl)) d_L_law_12 ⟨Nat.le_of_ble_eq_true rfl, Nat.le_of_ble_eq_true rfl⟩) hP hD hS hA [15] [0, 1, 2, 3, 4, 5, 6, 7, 8, 9, 10, 11, 12, 13, 14] rfl rfl (by decide) (by decide) (fun u H locs hw hP hD hS => ?_)
  obtain ⟨a1, a2, a3, a4⟩ := u
  have hP : va_P (dC, dI) fgC ([(ox, .inr (2, [.ref tp, .int (nI 0), .ref tk, .int (nI 0), .ref qu, .ref ga])), (tp, .inl (cB, 259, .inl (fun _ => 0))), (tk, .inl (cB, 252, .inl (fun _ => 0))), (ga, .inr (1, [.ref qu, .int (nI 1), .int (nI 0), .int (nI 0), .int (nI 0), .int (nI 0), .int (nI 0), .int (nI 0)])), (qu, .inr (0, [.ref qr, .ref qs, .int (nI 0), .int (nI 0)])), (qr, .inl (cG, 8, .inr (.inr (.inr (.inr (fun k => some (r k))))))), (qs, .inl (cI, 8, .inl (fun _ => 0)))] ++ rwL cB r (fun _ _ => 0) ++ [(h0, .inr (3, [.int (nI 0), .ref a1, .int (nI 0), .int (nI 0), .ref a2, .ref a3, .ref a4, .int (nI 0), .int (nI 1), .int (nI 0), .int (nI 0), .int (nI 0), .int (nI 0), .int (nI 0), .int (nI 0)])), (a1, .inl (cB, 259, .inl (fun _ => 0))), (a2, .inl (cB, 2048, .inl (fun _ => 0))), (a3, .inl (cI, 8, .inl (fun _ => 0))), (a4, .inl (cB, 256, .inl (fun _ => 0)))]) H := hP.sub [0, 1, 2, 3, 4, 5, 6, 7, 8, 9, 10, 11, 12, 13, 14, 15, 16, 17, 18, 19] rfl
  have hD : va_D A ([(ox, .inr (2, [.ref tp, .int (nI 0), .ref tk, .int (nI 0), .ref qu, .ref ga])), (tp, .inl (cB, 259, .inl (fun _ => 0))), (tk, .inl (cB, 252, .inl (fun _ => 0))), (ga, .inr (1, [.ref qu, .int (nI 1), .int (nI 0), .int (nI 0), .int (nI 0), .int (nI 0), .int (nI 0), .int (nI 0)])), (qu, .inr (0, [.ref qr, .ref qs, .int (nI 0), .int (nI 0)])), (qr, .inl (cG, 8, .inr (.inr (.inr (.inr (fun k => some (r k))))))), (qs, .inl (cI, 8, .inl (fun _ => 0)))] ++ rwL cB r (fun _ _ => 0) ++ [(h0, .inr (3, [.int (nI 0), .ref a1, .int (nI 0), .int (nI 0), .ref a2, .ref a3, .ref a4, .int (nI 0), .int (nI 1), .int (nI 0), .int (nI 0), .int (nI 0), .int (nI 0), .int (nI 0), .int (nI 0)])), (a1, .inl (cB, 259, .inl (fun _ => 0))), (a2, .inl (cB, 2048, .inl (fun _ => 0))), (a3, .inl (cI, 8, .inl (fun _ => 0))), (a4, .inl (cB, 256, .inl (fun _ => 0)))]) := hD.sub [0, 1, 2, 3, 4, 5, 6, 7, 8, 9, 10, 11, 12, 13, 14, 15, 16, 17, 18, 19] (by decide) rfl
  refine lv_astore_n (lv' := [(2, .ref h0), (1, .ref ox), (0, .ref b)]) hx hb d_L_law_15 rfl hl (by decide) rfl (fun ls hl => ?_)
  refine lv_iconst (v := (nI 0)) hx hb d_L_law_16 (by decide) ?_
  refine lv_istore_n (lv' := [(3, .int (nI 0)), (2, .ref h0), (1, .ref ox), (0, .ref b)]) hx hb d_L_law_17 rfl hl (by decide) rfl (fun ls hl => ?_)
  refine W.widen (k := 600000) (n := 7302250) (Nat.le_of_ble_eq_true rfl) (Nat.le_of_ble_eq_true rfl) ?_
  rw [hAe] at hD hS
  exact law_loop hL C0 hK hN ox tp tk ga qu qr qs h0 a1 a2 a3 a4 r ls H locs (L + 8) ⟨0, 0, 0, 0, 0, 0, (fun _ => 0), (fun _ => 0), (fun _ => 0), (fun _ => 0), (fun _ => 0), (fun _ => 0), (fun _ _ => 0), 1, 0, 0, 0, 0, 0, 0, by omega, by omega, LI_0, lv_sub hl [3, 2, 1, 0] rfl, hP, hD, hS⟩
-- ===== YOUR PART ENDS =====
set_option maxHeartbeats 4000000 in
theorem lw_walk (l : Launch) (b : Addr) (xs : List Int32) : MetFree l x (headSpec (Jvm.Cond.code x code maxLocals ret :: tables_1) room_1) (lw_P b xs) (fun _ _ _ _ _ => True) lw_Q := by
  refine MetFree.of_bodyS (code := code) (maxLocals := maxLocals) (ret := ret) (by decide) ?_ ?_
  · intro args s m h hn
    obtain ⟨meth, c, h1, h2, h3, h4, h5, h6, -, -⟩ := Cond.code_spec hn (atoms_spec (ws := Jvm.Cond.code x code maxLocals ret :: tables_1) h _ List.mem_cons_self)
    exact ⟨meth, c, h1, h2, h3, h4, h5, h6⟩
  · intro p e s m args below meth c s₁ B hml0 hP _
    obtain ⟨rfl, hx, hbd, hgv⟩ := hP
    obtain ⟨scr, harrAt, hlist, hof, hsmall⟩ := hx
    obtain ⟨hcb, hkn, -, -⟩ := State.arrayAt?_spec harrAt
    have hown : s.vm.findClass R_law = some m.cls := findClass_of_methodNamed B.named
    have hts0 : ∀ c ∈ (Jvm.Cond.code x code maxLocals ret :: tables_1), c.before #[Value.ref b] s = true := atoms_spec (ws := Jvm.Cond.code x code maxLocals ret :: tables_1) B.pre
    have hts : ∀ w ∈ lw_tbl, w.before #[Value.ref b] s = true := k2_hts_sels lw_privs (fun w hw => hts0 w (List.mem_cons_of_mem _ hw)) lw_privs_ok
    have hml : c.maxLocals = 4 := B.maxLocals_eq (hts0 _ List.mem_cons_self)
    have X₀ : Stand p l e room_1 s m #[Value.ref b] below meth c s₁ [] 0 0 := Stand.of_body B
    have hh0 : s₁.heap = s.heap := by rw [B.state]; rfl
    have hsz : scr.slots.size = xs.length := by rw [← Array.length_toList, hlist, List.length_map]
    have hval : ∀ j : Nat, j < xs.length → scr.slots[j]? = some (.int (xs.getD j 0)) := fun j hj => by
      rw [← Array.getElem?_toList, hlist]
      simp [hj]
    have hbl : b < s.heap.size := (Array.getElem?_eq_some_iff.mp hcb).1
    have hX : va_X b xs.length (fun j => xs.getD j 0) s s.heap := ⟨scr, hcb, hof, hkn, hsz, hval⟩
    have K : W p l e room_1 s m #[Value.ref b] below meth c s₁.heap [] 0 0 (lw_Z below #[Value.ref b] s) (entryFrame m ([Value.ref b] : List Value).toArray 4) := by
      rw [hh0]
      exact whole_start l hbd ⟨B.exec, B.bytes, B.returns, hml, hown, hts, hX, hbl, B.notSynchronized, hgv⟩
    obtain ⟨t, a1, o, b1, b2, b3⟩ := K s₁ rfl X₀
    exact ⟨t, o, a1, b1, b2, b3⟩
theorem lw_pre_spec {args : Array Value} {s : State} (h : (Jvm.Cond.and given_1 narrow_1).before args s = true) (hr : rest_1_c.before args s = true) : ∃ (b : Addr) (xs : List Int32), lw_P b xs args s := by
  have hs := flat_of_before _ h
  have hq := flat_of_before _ hr
  have hc : (Cond.count 1).before args s = true := hs _ (by decide +kernel)
  have harr : (Cond.arrayOf (.arg 0) .int).before args s = true := hs _ (by decide +kernel)
  have hle : (Cond.le (.length (.arg 0)) (.int 2048)).before args s = true := hs _ (by decide +kernel)
  have hlen : (Cond.isInt (.length (.arg 0))).before args s = true := hq _ (by decide +kernel)
  have hall : (Cond.all (.arg 0) (.isInt (.elem (.arg 0) (.index 0)))).before args s = true := hq _ (by decide +kernel)
  obtain ⟨b, xs, hb, hx⟩ := State.ints_of_pre rfl harr hlen hall
  have hsm : xs.length < 2 ^ 31 := hx.choose_spec.2.2.2
  have hev : (Term.length (.arg 0)).eval args s none [] s = some (.int xs.length.toInt32) := hx.length_eval hb
  have hv := Cond.le_ints hev (show (Term.int 2048).eval args s none [] s = some (.int 2048) from rfl)
  have hd : xs.length.toInt32 ≤ 2048 := by
    simpa [Cond.before, Cond.holds, hv] using hle
  have hN : xs.length ≤ 2048 := (Int32.ofNat_le_ofNat hsm (by decide)).mp (show Int32.ofNat xs.length ≤ Int32.ofNat 2048 from hd)
  exact ⟨b, xs, Cond.one_arg hc (show args[0]? = some (.ref b) from hb), hx, hN, h⟩
theorem lw_comes (l : Launch) : Comes l x (Jvm.Cond.code x code maxLocals ret :: tables_1) room_1 (fun tb e args s => Calls_1 tb e args s ∧ rest_1 tb e args s ∧ Pre_1 tb e args s)
    (fun _ _ args s o t => lw_Q args s o t) := by
  intro p e ha hc hk s m args below hf hfit hheap happ hpre
  obtain ⟨b, xs, hP⟩ := lw_pre_spec hpre.2.2 hpre.2.1
  obtain ⟨k, o, h1, h2, h3, hQ⟩ := lw_walk l b xs p e ha hc hk s m args below hf ((Spec.applies_iff_loose hf).mp happ).1 hP trivial
  exact ⟨k, o, h1, h2, h3, hQ⟩
theorem lw_frame {s t : State} {o : Outcome} {args : Array Value} (h : Framed s o t [] 600000 7302250) :
    Framed s o t (fieldLocs frame_1_writes args s ++ arrayLocs frame_1_arrays args s ++ staticLocs frame_1_statics s) 600000 7302250 := h
theorem lw_limb (L : Cond) (hL : ∀ (args : Array Value) (s t : State), L.after args s (.returned (some (.int 1))) t = true) :
    ArmFor flags0 classFile x code maxLocals ret World_1 tables_1 room_1 Calls_1 rest_1 Pre_1
      (fun tb e a s o t => postC L tb e a s o t ∧ Framed s o t (fieldLocs frame_1_writes a s ++ arrayLocs frame_1_arrays a s ++ staticLocs frame_1_statics s) 600000 7302250) := by
  intro l _ _ _ p e ha hc hk s m args below hf hfit hheap happ hpre
  obtain ⟨k, o, h1, h2, h3, rfl, hF⟩ := lw_comes l p e ha hc hk s m args below hf hfit hheap happ hpre
  exact ⟨k, _, h1, h2, h3, hL args s _, lw_frame hF⟩
theorem i_vc : Claimed_1_1 ∧ Claimed_1_2 := ⟨lw_limb limb_1_1 (fun args s t => by simp [limb_1_1, Cond.after, Cond.holds, Cond.value]), lw_limb limb_1_2 (fun args s t => Cond.after_iff.mpr (by
  first | (rw [show limb_1_2 = Cond.eq .result (.int 1) from rfl, Cond.eq_ints (x := 1) (y := 1) rfl rfl]; simp; done) | (simp [limb_1_2, Cond.value, Term.eval]; done)))⟩
end
