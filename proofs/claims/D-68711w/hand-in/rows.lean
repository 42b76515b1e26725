section
def lw_okq (q : MethodName × Nat) : Prop := (q.1.cls ≠ "java/lang/invoke/MethodHandle" ∧ q.1.cls ≠ "java/lang/invoke/VarHandle") ∧ Cond.instantiable q.1.cls q.2 ∈ tables_1 ∧ Cond.privateMethod q.1 ∈ tables_1 ∧ Cond.instanceMethod q.1 ∈ tables_1
theorem lw_p0 : lw_okq (⟨"CodeBlocks$Receiver", "block", "()Z"⟩, 14) := ⟨⟨by decide +kernel, by decide +kernel⟩, List.mem_of_getElem? (i := 15) (by decide +kernel), List.mem_of_getElem? (i := 135) (by decide +kernel), List.mem_of_getElem? (i := 136) (by decide +kernel)⟩
theorem lw_p1 : lw_okq (⟨"CodeBlocks$Receiver", "end", "()Z"⟩, 14) := ⟨⟨by decide +kernel, by decide +kernel⟩, List.mem_of_getElem? (i := 15) (by decide +kernel), List.mem_of_getElem? (i := 144) (by decide +kernel), List.mem_of_getElem? (i := 145) (by decide +kernel)⟩
theorem lw_p2 : lw_okq (⟨"CodeBlocks$Receiver", "mark", "()V"⟩, 14) := ⟨⟨by decide +kernel, by decide +kernel⟩, List.mem_of_getElem? (i := 15) (by decide +kernel), List.mem_of_getElem? (i := 152) (by decide +kernel), List.mem_of_getElem? (i := 153) (by decide +kernel)⟩
theorem lw_p3 : lw_okq (⟨"CodeBlocks$Sender", "lay", "(J)V"⟩, 4) := ⟨⟨by decide +kernel, by decide +kernel⟩, List.mem_of_getElem? (i := 87) (by decide +kernel), List.mem_of_getElem? (i := 193) (by decide +kernel), List.mem_of_getElem? (i := 194) (by decide +kernel)⟩
theorem lw_p4 : lw_okq (⟨"CodeBlocksModel", "begins", "(I)V"⟩, 14) := ⟨⟨by decide +kernel, by decide +kernel⟩, List.mem_of_getElem? (i := 202) (by decide +kernel), List.mem_of_getElem? (i := 256) (by decide +kernel), List.mem_of_getElem? (i := 257) (by decide +kernel)⟩
theorem lw_p5 : lw_okq (⟨"CodeBlocksModel", "bit", "(I)I"⟩, 14) := ⟨⟨by decide +kernel, by decide +kernel⟩, List.mem_of_getElem? (i := 202) (by decide +kernel), List.mem_of_getElem? (i := 268) (by decide +kernel), List.mem_of_getElem? (i := 269) (by decide +kernel)⟩
theorem lw_p6 : lw_okq (⟨"CodeBlocksModel", "block", "()I"⟩, 14) := ⟨⟨by decide +kernel, by decide +kernel⟩, List.mem_of_getElem? (i := 202) (by decide +kernel), List.mem_of_getElem? (i := 272) (by decide +kernel), List.mem_of_getElem? (i := 273) (by decide +kernel)⟩
theorem lw_p7 : lw_okq (⟨"CodeBlocksModel", "wrong", "()I"⟩, 14) := ⟨⟨by decide +kernel, by decide +kernel⟩, List.mem_of_getElem? (i := 202) (by decide +kernel), List.mem_of_getElem? (i := 276) (by decide +kernel), List.mem_of_getElem? (i := 277) (by decide +kernel)⟩
theorem lw_p8 : lw_okq (⟨"CodeBlocksModel", "divided", "(I)Z"⟩, 14) := ⟨⟨by decide +kernel, by decide +kernel⟩, List.mem_of_getElem? (i := 202) (by decide +kernel), List.mem_of_getElem? (i := 280) (by decide +kernel), List.mem_of_getElem? (i := 281) (by decide +kernel)⟩
theorem lw_p9 : lw_okq (⟨"CodeBlocksModel", "ends", "()V"⟩, 14) := ⟨⟨by decide +kernel, by decide +kernel⟩, List.mem_of_getElem? (i := 202) (by decide +kernel), List.mem_of_getElem? (i := 284) (by decide +kernel), List.mem_of_getElem? (i := 285) (by decide +kernel)⟩
theorem lw_p10 : lw_okq (⟨"CodeBlocksModel", "look", "()V"⟩, 14) := ⟨⟨by decide +kernel, by decide +kernel⟩, List.mem_of_getElem? (i := 202) (by decide +kernel), List.mem_of_getElem? (i := 288) (by decide +kernel), List.mem_of_getElem? (i := 289) (by decide +kernel)⟩
theorem lw_p11 : lw_okq (⟨"CodeBlocksModel", "out", "(I)V"⟩, 14) := ⟨⟨by decide +kernel, by decide +kernel⟩, List.mem_of_getElem? (i := 202) (by decide +kernel), List.mem_of_getElem? (i := 317) (by decide +kernel), List.mem_of_getElem? (i := 318) (by decide +kernel)⟩
theorem lw_p12 : lw_okq (⟨"CodeBlocksModel", "check", "(I)I"⟩, 14) := ⟨⟨by decide +kernel, by decide +kernel⟩, List.mem_of_getElem? (i := 202) (by decide +kernel), List.mem_of_getElem? (i := 321) (by decide +kernel), List.mem_of_getElem? (i := 322) (by decide +kernel)⟩
def lw_privs_1 : List (MethodName × Nat) := [(⟨"CodeBlocks$Receiver", "block", "()Z"⟩, 14), (⟨"CodeBlocks$Receiver", "end", "()Z"⟩, 14), (⟨"CodeBlocks$Receiver", "mark", "()V"⟩, 14), (⟨"CodeBlocks$Sender", "lay", "(J)V"⟩, 4), (⟨"CodeBlocksModel", "begins", "(I)V"⟩, 14), (⟨"CodeBlocksModel", "bit", "(I)I"⟩, 14), (⟨"CodeBlocksModel", "block", "()I"⟩, 14), (⟨"CodeBlocksModel", "wrong", "()I"⟩, 14), (⟨"CodeBlocksModel", "divided", "(I)Z"⟩, 14), (⟨"CodeBlocksModel", "ends", "()V"⟩, 14), (⟨"CodeBlocksModel", "look", "()V"⟩, 14), (⟨"CodeBlocksModel", "out", "(I)V"⟩, 14), (⟨"CodeBlocksModel", "check", "(I)I"⟩, 14)]
theorem lw_r1 : ∀ q ∈ lw_privs_1, lw_okq q := List.forall_mem_cons.mpr ⟨lw_p0, List.forall_mem_cons.mpr ⟨lw_p1, List.forall_mem_cons.mpr ⟨lw_p2, List.forall_mem_cons.mpr ⟨lw_p3, List.forall_mem_cons.mpr ⟨lw_p4, List.forall_mem_cons.mpr ⟨lw_p5, List.forall_mem_cons.mpr ⟨lw_p6, List.forall_mem_cons.mpr ⟨lw_p7, List.forall_mem_cons.mpr ⟨lw_p8, List.forall_mem_cons.mpr ⟨lw_p9, List.forall_mem_cons.mpr ⟨lw_p10, List.forall_mem_cons.mpr ⟨lw_p11, List.forall_mem_cons.mpr ⟨lw_p12, fun _ h => absurd h List.not_mem_nil⟩⟩⟩⟩⟩⟩⟩⟩⟩⟩⟩⟩⟩
def lw_privs : List (MethodName × Nat) := lw_privs_1
def lw_tbl : List Cond := k2_sels lw_privs ++ tables_1
theorem lw_privs_ok : ∀ q ∈ lw_privs, lw_okq q := lw_r1
end
section
def R_X : String := "CodeBlocks"
def R_C : String := "CodeBlocks$Code"
def R_R : String := "CodeBlocks$Receiver"
def R_S : String := "CodeBlocks$Sender"
def R_M : String := "CodeBlocksModel"
def R_law : String := "CodeBlocksLaw"
/- fields of CodeBlocks: 0 receiver, 1 sender -/
def F_X : u_T := fun k => match k with
  | 0 => ("CodeBlocks", "receiver", "LCodeBlocks$Receiver;", true)
  | _ => ("CodeBlocks", "sender", "LCodeBlocks$Sender;", true)
def t_X : Nat → FieldType := fun k => match k with
  | 0 => .object "CodeBlocks$Receiver"
  | _ => .object "CodeBlocks$Sender"
/- fields of CodeBlocks$Code: 0 wrong -/
def F_C : u_T := fun k => match k with
  | _ => ("CodeBlocks$Code", "wrong", "[B", true)
def t_C : Nat → FieldType := fun k => match k with
  | _ => .array .byte
/- fields of CodeBlocks$Receiver: 0 code, 1 row, 2 received, 3 state, 4 size, 5 filled, 6 seen, 7 mends, 8 bits, 9 began, 10 ended, 11 blocks, 12 mended, 13 marks -/
def F_R : u_T := fun k => match k with
  | 0 => ("CodeBlocks$Receiver", "code", "LCodeBlocks$Code;", true)
  | 1 => ("CodeBlocks$Receiver", "row", "[B", false)
  | 2 => ("CodeBlocks$Receiver", "received", "[B", false)
  | 3 => ("CodeBlocks$Receiver", "state", "I", false)
  | 4 => ("CodeBlocks$Receiver", "size", "I", false)
  | 5 => ("CodeBlocks$Receiver", "filled", "I", false)
  | 6 => ("CodeBlocks$Receiver", "seen", "I", false)
  | 7 => ("CodeBlocks$Receiver", "mends", "Z", false)
  | 8 => ("CodeBlocks$Receiver", "bits", "J", false)
  | 9 => ("CodeBlocks$Receiver", "began", "I", false)
  | 10 => ("CodeBlocks$Receiver", "ended", "I", false)
  | 11 => ("CodeBlocks$Receiver", "blocks", "I", false)
  | 12 => ("CodeBlocks$Receiver", "mended", "I", false)
  | _ => ("CodeBlocks$Receiver", "marks", "I", false)
def t_R : Nat → FieldType := fun k => match k with
  | 0 => .object "CodeBlocks$Code"
  | 1 => .array .byte
  | 2 => .array .byte
  | 3 => .int
  | 4 => .int
  | 5 => .int
  | 6 => .int
  | 7 => .boolean
  | 8 => .long
  | 9 => .int
  | 10 => .int
  | 11 => .int
  | 12 => .int
  | _ => .int
/- fields of CodeBlocks$Sender: 0 row, 1 sent, 2 filled, 3 size -/
def F_S : u_T := fun k => match k with
  | 0 => ("CodeBlocks$Sender", "row", "[B", true)
  | 1 => ("CodeBlocks$Sender", "sent", "[B", true)
  | 2 => ("CodeBlocks$Sender", "filled", "I", false)
  | _ => ("CodeBlocks$Sender", "size", "I", false)
def t_S : Nat → FieldType := fun k => match k with
  | 0 => .array .byte
  | 1 => .array .byte
  | 2 => .int
  | _ => .int
/- fields of CodeBlocksModel: 0 thrown, 1 state, 2 mends, 3 bits, 4 many, 5 row, 6 rows, 7 received, 8 size, 9 wanted, 10 wants, 11 sent, 12 sends, 13 counts -/
def F_M : u_T := fun k => match k with
  | 0 => ("CodeBlocksModel", "thrown", "I", false)
  | 1 => ("CodeBlocksModel", "state", "I", false)
  | 2 => ("CodeBlocksModel", "mends", "Z", false)
  | 3 => ("CodeBlocksModel", "bits", "[I", true)
  | 4 => ("CodeBlocksModel", "many", "I", false)
  | 5 => ("CodeBlocksModel", "row", "[I", true)
  | 6 => ("CodeBlocksModel", "rows", "I", false)
  | 7 => ("CodeBlocksModel", "received", "[I", true)
  | 8 => ("CodeBlocksModel", "size", "I", false)
  | 9 => ("CodeBlocksModel", "wanted", "[I", true)
  | 10 => ("CodeBlocksModel", "wants", "I", false)
  | 11 => ("CodeBlocksModel", "sent", "[I", true)
  | 12 => ("CodeBlocksModel", "sends", "I", false)
  | _ => ("CodeBlocksModel", "counts", "[I", true)
def t_M : Nat → FieldType := fun k => match k with
  | 0 => .int
  | 1 => .int
  | 2 => .boolean
  | 3 => .array .int
  | 4 => .int
  | 5 => .array .int
  | 6 => .int
  | 7 => .array .int
  | 8 => .int
  | 9 => .array .int
  | 10 => .int
  | 11 => .array .int
  | 12 => .int
  | _ => .array .int
abbrev classes : List vw_C := [(R_X, F_X, 2), (R_C, F_C, 1), (R_R, F_R, 14), (R_S, F_S, 4), (R_M, F_M, 14)]
abbrev b_X_init : ByteArray := prog_1_method_1_code
def y_X_init : MethodName := ⟨"CodeBlocks", "<init>", "()V"⟩
abbrev b_C_init : ByteArray := prog_2_method_1_code
def y_C_init : MethodName := ⟨"CodeBlocks$Code", "<init>", "()V"⟩
abbrev b_C_step : ByteArray := prog_2_method_2_code
def y_C_step : MethodName := ⟨"CodeBlocks$Code", "step", "(II)I"⟩
abbrev b_R_init : ByteArray := prog_3_method_1_code
def y_R_init : MethodName := ⟨"CodeBlocks$Receiver", "<init>", "(LCodeBlocks$Code;)V"⟩
abbrev b_S_init : ByteArray := prog_4_method_1_code
def y_S_init : MethodName := ⟨"CodeBlocks$Sender", "<init>", "()V"⟩
abbrev b_X_turn : ByteArray := prog_1_method_2_code
def y_X_turn : MethodName := ⟨"CodeBlocks", "turn", "(Z)Z"⟩
abbrev b_R_search : ByteArray := prog_3_method_2_code
def y_R_search : MethodName := ⟨"CodeBlocks$Receiver", "search", "()V"⟩
abbrev b_X_mending : ByteArray := prog_1_method_3_code
def y_X_mending : MethodName := ⟨"CodeBlocks", "mending", "(Z)V"⟩
abbrev b_X_take : ByteArray := prog_1_method_4_code
def y_X_take : MethodName := ⟨"CodeBlocks", "take", "(IJ)I"⟩
abbrev b_R_take : ByteArray := prog_3_method_3_code
def y_R_take : MethodName := ⟨"CodeBlocks$Receiver", "take", "(I)Z"⟩
abbrev b_R_block : ByteArray := prog_3_method_5_code
def y_R_block : MethodName := ⟨"CodeBlocks$Receiver", "block", "()Z"⟩
abbrev b_C_look : ByteArray := prog_2_method_4_code
def y_C_look : MethodName := ⟨"CodeBlocks$Code", "look", "(J)I"⟩
abbrev b_R_end : ByteArray := prog_3_method_6_code
def y_R_end : MethodName := ⟨"CodeBlocks$Receiver", "end", "()Z"⟩
abbrev b_C_data : ByteArray := prog_2_method_5_code
def y_C_data : MethodName := ⟨"CodeBlocks$Code", "data", "(JI)J"⟩
abbrev b_R_mark : ByteArray := prog_3_method_4_code
def y_R_mark : MethodName := ⟨"CodeBlocks$Receiver", "mark", "()V"⟩
abbrev b_X_state : ByteArray := prog_1_method_5_code
def y_X_state : MethodName := ⟨"CodeBlocks", "state", "()I"⟩
abbrev b_X_count : ByteArray := prog_1_method_6_code
def y_X_count : MethodName := ⟨"CodeBlocks", "count", "(I)I"⟩
abbrev b_X_size : ByteArray := prog_1_method_7_code
def y_X_size : MethodName := ⟨"CodeBlocks", "size", "()I"⟩
abbrev b_X_byteAt : ByteArray := prog_1_method_8_code
def y_X_byteAt : MethodName := ⟨"CodeBlocks", "byteAt", "(I)I"⟩
abbrev b_X_put : ByteArray := prog_1_method_9_code
def y_X_put : MethodName := ⟨"CodeBlocks", "put", "(I)I"⟩
abbrev b_S_put : ByteArray := prog_4_method_2_code
def y_S_put : MethodName := ⟨"CodeBlocks$Sender", "put", "(I)I"⟩
abbrev b_X_send : ByteArray := prog_1_method_10_code
def y_X_send : MethodName := ⟨"CodeBlocks", "send", "()I"⟩
abbrev b_S_send : ByteArray := prog_4_method_4_code
def y_S_send : MethodName := ⟨"CodeBlocks$Sender", "send", "()I"⟩
abbrev b_C_block : ByteArray := prog_2_method_3_code
def y_C_block : MethodName := ⟨"CodeBlocks$Code", "block", "(J)J"⟩
abbrev b_S_lay : ByteArray := prog_4_method_3_code
def y_S_lay : MethodName := ⟨"CodeBlocks$Sender", "lay", "(J)V"⟩
abbrev b_X_sent : ByteArray := prog_1_method_11_code
def y_X_sent : MethodName := ⟨"CodeBlocks", "sent", "(I)I"⟩
abbrev b_M_init : ByteArray := prog_6_method_1_code
def y_M_init : MethodName := ⟨"CodeBlocksModel", "<init>", "()V"⟩
abbrev b_M_turn : ByteArray := prog_6_method_10_code
def y_M_turn : MethodName := ⟨"CodeBlocksModel", "turn", "(Z)Z"⟩
abbrev b_M_begins : ByteArray := prog_6_method_5_code
def y_M_begins : MethodName := ⟨"CodeBlocksModel", "begins", "(I)V"⟩
abbrev b_M_mending : ByteArray := prog_6_method_11_code
def y_M_mending : MethodName := ⟨"CodeBlocksModel", "mending", "(Z)V"⟩
abbrev b_M_take : ByteArray := prog_6_method_12_code
def y_M_take : MethodName := ⟨"CodeBlocksModel", "take", "(IJ)I"⟩
abbrev b_M_bit : ByteArray := prog_6_method_9_code
def y_M_bit : MethodName := ⟨"CodeBlocksModel", "bit", "(I)I"⟩
abbrev b_M_block : ByteArray := prog_6_method_7_code
def y_M_block : MethodName := ⟨"CodeBlocksModel", "block", "()I"⟩
abbrev b_M_wrong : ByteArray := prog_6_method_4_code
def y_M_wrong : MethodName := ⟨"CodeBlocksModel", "wrong", "()I"⟩
abbrev b_M_divided : ByteArray := prog_6_method_3_code
def y_M_divided : MethodName := ⟨"CodeBlocksModel", "divided", "(I)Z"⟩
abbrev b_M_ends : ByteArray := prog_6_method_6_code
def y_M_ends : MethodName := ⟨"CodeBlocksModel", "ends", "()V"⟩
abbrev b_M_look : ByteArray := prog_6_method_8_code
def y_M_look : MethodName := ⟨"CodeBlocksModel", "look", "()V"⟩
abbrev b_M_state : ByteArray := prog_6_method_13_code
def y_M_state : MethodName := ⟨"CodeBlocksModel", "state", "()I"⟩
abbrev b_M_count : ByteArray := prog_6_method_14_code
def y_M_count : MethodName := ⟨"CodeBlocksModel", "count", "(I)I"⟩
abbrev b_M_size : ByteArray := prog_6_method_15_code
def y_M_size : MethodName := ⟨"CodeBlocksModel", "size", "()I"⟩
abbrev b_M_byteAt : ByteArray := prog_6_method_16_code
def y_M_byteAt : MethodName := ⟨"CodeBlocksModel", "byteAt", "(I)I"⟩
abbrev b_M_put : ByteArray := prog_6_method_17_code
def y_M_put : MethodName := ⟨"CodeBlocksModel", "put", "(I)I"⟩
abbrev b_M_send : ByteArray := prog_6_method_20_code
def y_M_send : MethodName := ⟨"CodeBlocksModel", "send", "()I"⟩
abbrev b_M_out : ByteArray := prog_6_method_18_code
def y_M_out : MethodName := ⟨"CodeBlocksModel", "out", "(I)V"⟩
abbrev b_M_check : ByteArray := prog_6_method_19_code
def y_M_check : MethodName := ⟨"CodeBlocksModel", "check", "(I)I"⟩
abbrev b_M_sent : ByteArray := prog_6_method_21_code
def y_M_sent : MethodName := ⟨"CodeBlocksModel", "sent", "(I)I"⟩
/- the words that a callee may be handed: the good ones of the tables -/
def tb : List Cond := lw_tbl.filter goodWord
theorem tb_in {w : Cond} (h : w ∈ tables_1) (g : goodWord w = true) : w ∈ tb := List.mem_filter.mpr ⟨List.mem_append_right _ h, g⟩
theorem tb_sel {w : Cond} (h : w ∈ k2_sels lw_privs) (g : goodWord w = true) : w ∈ tb := List.mem_filter.mpr ⟨List.mem_append_left _ h, g⟩
theorem tb_good : GoodIn tb tb := fun w h => ⟨h, good_of_word (List.mem_filter.mp h).2⟩
theorem k_0 : (.initialized "CodeBlocksLaw" : Cond) ∈ tb := tb_in (List.mem_of_getElem? (i := 0) (by decide +kernel)) rfl
theorem k_1 : (.initialized "CodeBlocks" : Cond) ∈ tb := tb_in (List.mem_of_getElem? (i := 1) (by decide +kernel)) rfl
theorem k_2 : (.initialized "CodeBlocks$Receiver" : Cond) ∈ tb := tb_in (List.mem_of_getElem? (i := 2) (by decide +kernel)) rfl
theorem k_3 : (.initialized "CodeBlocks$Code" : Cond) ∈ tb := tb_in (List.mem_of_getElem? (i := 3) (by decide +kernel)) rfl
theorem k_4 : (.initialized "CodeBlocks$Sender" : Cond) ∈ tb := tb_in (List.mem_of_getElem? (i := 4) (by decide +kernel)) rfl
theorem k_5 : (.initialized "CodeBlocksModel" : Cond) ∈ tb := tb_in (List.mem_of_getElem? (i := 5) (by decide +kernel)) rfl
theorem k_6 : (.classLink "CodeBlocksLaw" 7 "CodeBlocks" : Cond) ∈ tb := tb_in (List.mem_of_getElem? (i := 6) (by decide +kernel)) rfl
theorem k_7 : (.instantiable "CodeBlocks" 2 : Cond) ∈ tb := tb_in (List.mem_of_getElem? (i := 7) (by decide +kernel)) rfl
theorem k_8 : (.methodLink "CodeBlocksLaw" 9 y_X_init : Cond) ∈ tb := tb_in (List.mem_of_getElem? (i := 8) (by decide +kernel)) rfl
theorem k_9 : (.instanceMethod y_X_init : Cond) ∈ tb := tb_in (List.mem_of_getElem? (i := 9) (by decide +kernel)) rfl
theorem k_10 : (.code y_X_init prog_1_method_1_code 1 none : Cond) ∈ tb := tb_in (List.mem_of_getElem? (i := 10) (by decide +kernel)) rfl
theorem k_11 : (.methodLink "CodeBlocks" 1 objectInit : Cond) ∈ tb := tb_in (List.mem_of_getElem? (i := 11) (by decide +kernel)) rfl
theorem k_12 : (.instanceMethod objectInit : Cond) ∈ tb := tb_in (List.mem_of_getElem? (i := 12) (by decide +kernel)) rfl
theorem k_13 : (.code objectInit ⟨#[0xb1]⟩ 1 none : Cond) ∈ tb := tb_in (List.mem_of_getElem? (i := 13) (by decide +kernel)) rfl
theorem k_14 : (.classLink "CodeBlocks" 7 "CodeBlocks$Receiver" : Cond) ∈ tb := tb_in (List.mem_of_getElem? (i := 14) (by decide +kernel)) rfl
theorem k_15 : (.instantiable "CodeBlocks$Receiver" 14 : Cond) ∈ tb := tb_in (List.mem_of_getElem? (i := 15) (by decide +kernel)) rfl
theorem k_16 : (.classLink "CodeBlocks" 9 "CodeBlocks$Code" : Cond) ∈ tb := tb_in (List.mem_of_getElem? (i := 16) (by decide +kernel)) rfl
theorem k_17 : (.instantiable "CodeBlocks$Code" 1 : Cond) ∈ tb := tb_in (List.mem_of_getElem? (i := 17) (by decide +kernel)) rfl
theorem k_18 : (.methodLink "CodeBlocks" 11 y_C_init : Cond) ∈ tb := tb_in (List.mem_of_getElem? (i := 18) (by decide +kernel)) rfl
theorem k_19 : (.instanceMethod y_C_init : Cond) ∈ tb := tb_in (List.mem_of_getElem? (i := 19) (by decide +kernel)) rfl
theorem k_20 : (.code y_C_init prog_2_method_1_code 3 none : Cond) ∈ tb := tb_in (List.mem_of_getElem? (i := 20) (by decide +kernel)) rfl
theorem k_21 : (.methodLink "CodeBlocks$Code" 3 objectInit : Cond) ∈ tb := tb_in (List.mem_of_getElem? (i := 21) (by decide +kernel)) rfl
theorem k_22 : (.methodLink "CodeBlocks$Code" 15 y_C_step : Cond) ∈ tb := tb_in (List.mem_of_getElem? (i := 22) (by decide +kernel)) rfl
theorem k_23 : (.static y_C_step : Cond) ∈ tb := tb_in (List.mem_of_getElem? (i := 23) (by decide +kernel)) rfl
theorem k_24 : (.code y_C_step prog_2_method_2_code 3 (some .int) : Cond) ∈ tb := tb_in (List.mem_of_getElem? (i := 24) (by decide +kernel)) rfl
theorem k_25 : (.fieldLink "CodeBlocks$Code" 11 "CodeBlocks$Code" "wrong" "[B" : Cond) ∈ tb := tb_in (List.mem_of_getElem? (i := 25) (by decide +kernel)) rfl
theorem k_29 : (.arrayClass .byte : Cond) ∈ tb := tb_in (List.mem_of_getElem? (i := 29) (by decide +kernel)) rfl
theorem k_30 : (.methodLink "CodeBlocks" 12 y_R_init : Cond) ∈ tb := tb_in (List.mem_of_getElem? (i := 30) (by decide +kernel)) rfl
theorem k_31 : (.instanceMethod y_R_init : Cond) ∈ tb := tb_in (List.mem_of_getElem? (i := 31) (by decide +kernel)) rfl
theorem k_32 : (.code y_R_init prog_3_method_1_code 2 none : Cond) ∈ tb := tb_in (List.mem_of_getElem? (i := 32) (by decide +kernel)) rfl
theorem k_33 : (.methodLink "CodeBlocks$Receiver" 1 objectInit : Cond) ∈ tb := tb_in (List.mem_of_getElem? (i := 33) (by decide +kernel)) rfl
theorem k_34 : (.fieldLink "CodeBlocks$Receiver" 16 "CodeBlocks$Receiver" "code" "LCodeBlocks$Code;" : Cond) ∈ tb := tb_in (List.mem_of_getElem? (i := 34) (by decide +kernel)) rfl
theorem k_35 : (.fieldLink "CodeBlocks$Receiver" 9 "CodeBlocks$Receiver" "row" "[B" : Cond) ∈ tb := tb_in (List.mem_of_getElem? (i := 35) (by decide +kernel)) rfl
theorem k_36 : (.fieldLink "CodeBlocks$Receiver" 13 "CodeBlocks$Receiver" "received" "[B" : Cond) ∈ tb := tb_in (List.mem_of_getElem? (i := 36) (by decide +kernel)) rfl
theorem k_38 : (.fieldLink "CodeBlocks$Receiver" 20 "CodeBlocks$Receiver" "state" "I" : Cond) ∈ tb := tb_in (List.mem_of_getElem? (i := 38) (by decide +kernel)) rfl
theorem k_40 : (.fieldLink "CodeBlocks$Receiver" 75 "CodeBlocks$Receiver" "size" "I" : Cond) ∈ tb := tb_in (List.mem_of_getElem? (i := 40) (by decide +kernel)) rfl
theorem k_42 : (.fieldLink "CodeBlocks$Receiver" 27 "CodeBlocks$Receiver" "filled" "I" : Cond) ∈ tb := tb_in (List.mem_of_getElem? (i := 42) (by decide +kernel)) rfl
theorem k_43 : (.fieldLink "CodeBlocks$Receiver" 24 "CodeBlocks$Receiver" "seen" "I" : Cond) ∈ tb := tb_in (List.mem_of_getElem? (i := 43) (by decide +kernel)) rfl
theorem k_45 : (.fieldLink "CodeBlocks$Receiver" 43 "CodeBlocks$Receiver" "mends" "Z" : Cond) ∈ tb := tb_in (List.mem_of_getElem? (i := 45) (by decide +kernel)) rfl
theorem k_46 : (.fieldLink "CodeBlocks$Receiver" 30 "CodeBlocks$Receiver" "bits" "J" : Cond) ∈ tb := tb_in (List.mem_of_getElem? (i := 46) (by decide +kernel)) rfl
theorem k_47 : (.fieldLink "CodeBlocks$Receiver" 50 "CodeBlocks$Receiver" "began" "I" : Cond) ∈ tb := tb_in (List.mem_of_getElem? (i := 47) (by decide +kernel)) rfl
theorem k_50 : (.fieldLink "CodeBlocks$Receiver" 72 "CodeBlocks$Receiver" "ended" "I" : Cond) ∈ tb := tb_in (List.mem_of_getElem? (i := 50) (by decide +kernel)) rfl
theorem k_51 : (.fieldLink "CodeBlocks$Receiver" 66 "CodeBlocks$Receiver" "blocks" "I" : Cond) ∈ tb := tb_in (List.mem_of_getElem? (i := 51) (by decide +kernel)) rfl
theorem k_53 : (.fieldLink "CodeBlocks$Receiver" 69 "CodeBlocks$Receiver" "mended" "I" : Cond) ∈ tb := tb_in (List.mem_of_getElem? (i := 53) (by decide +kernel)) rfl
theorem k_55 : (.fieldLink "CodeBlocks$Receiver" 47 "CodeBlocks$Receiver" "marks" "I" : Cond) ∈ tb := tb_in (List.mem_of_getElem? (i := 55) (by decide +kernel)) rfl
theorem k_86 : (.classLink "CodeBlocks" 21 "CodeBlocks$Sender" : Cond) ∈ tb := tb_in (List.mem_of_getElem? (i := 86) (by decide +kernel)) rfl
theorem k_87 : (.instantiable "CodeBlocks$Sender" 4 : Cond) ∈ tb := tb_in (List.mem_of_getElem? (i := 87) (by decide +kernel)) rfl
theorem k_89 : (.instanceMethod y_S_init : Cond) ∈ tb := tb_in (List.mem_of_getElem? (i := 89) (by decide +kernel)) rfl
theorem k_90 : (.code y_S_init prog_4_method_1_code 1 none : Cond) ∈ tb := tb_in (List.mem_of_getElem? (i := 90) (by decide +kernel)) rfl
theorem k_91 : (.methodLink "CodeBlocks$Sender" 3 objectInit : Cond) ∈ tb := tb_in (List.mem_of_getElem? (i := 91) (by decide +kernel)) rfl
theorem k_92 : (.fieldLink "CodeBlocks$Sender" 11 "CodeBlocks$Sender" "row" "[B" : Cond) ∈ tb := tb_in (List.mem_of_getElem? (i := 92) (by decide +kernel)) rfl
theorem k_93 : (.fieldLink "CodeBlocks$Sender" 17 "CodeBlocks$Sender" "sent" "[B" : Cond) ∈ tb := tb_in (List.mem_of_getElem? (i := 93) (by decide +kernel)) rfl
theorem k_95 : (.fieldLink "CodeBlocks$Sender" 20 "CodeBlocks$Sender" "filled" "I" : Cond) ∈ tb := tb_in (List.mem_of_getElem? (i := 95) (by decide +kernel)) rfl
theorem k_96 : (.fieldLink "CodeBlocks$Sender" 24 "CodeBlocks$Sender" "size" "I" : Cond) ∈ tb := tb_in (List.mem_of_getElem? (i := 96) (by decide +kernel)) rfl
theorem k_107 : (.fieldLink "CodeBlocks" 15 "CodeBlocks" "receiver" "LCodeBlocks$Receiver;" : Cond) ∈ tb := tb_in (List.mem_of_getElem? (i := 107) (by decide +kernel)) rfl
theorem k_108 : (.fieldLink "CodeBlocks" 24 "CodeBlocks" "sender" "LCodeBlocks$Sender;" : Cond) ∈ tb := tb_in (List.mem_of_getElem? (i := 108) (by decide +kernel)) rfl
theorem k_114 : (.methodLink "CodeBlocksLaw" 13 y_X_turn : Cond) ∈ tb := tb_in (List.mem_of_getElem? (i := 114) (by decide +kernel)) rfl
theorem k_115 : (.instanceMethod y_X_turn : Cond) ∈ tb := tb_in (List.mem_of_getElem? (i := 115) (by decide +kernel)) rfl
theorem k_116 : (.selects "CodeBlocks" y_X_turn y_X_turn : Cond) ∈ tb := tb_in (List.mem_of_getElem? (i := 116) (by decide +kernel)) rfl
theorem k_117 : (.code y_X_turn prog_1_method_2_code 2 (some .boolean) : Cond) ∈ tb := tb_in (List.mem_of_getElem? (i := 117) (by decide +kernel)) rfl
theorem k_118 : (.methodLink "CodeBlocks" 32 y_R_search : Cond) ∈ tb := tb_in (List.mem_of_getElem? (i := 118) (by decide +kernel)) rfl
theorem k_119 : (.instanceMethod y_R_search : Cond) ∈ tb := tb_in (List.mem_of_getElem? (i := 119) (by decide +kernel)) rfl
theorem k_120 : (.selects "CodeBlocks$Receiver" y_R_search y_R_search : Cond) ∈ tb := tb_in (List.mem_of_getElem? (i := 120) (by decide +kernel)) rfl
theorem k_121 : (.code y_R_search prog_3_method_2_code 1 none : Cond) ∈ tb := tb_in (List.mem_of_getElem? (i := 121) (by decide +kernel)) rfl
theorem k_122 : (.methodLink "CodeBlocksLaw" 18 y_X_mending : Cond) ∈ tb := tb_in (List.mem_of_getElem? (i := 122) (by decide +kernel)) rfl
theorem k_123 : (.instanceMethod y_X_mending : Cond) ∈ tb := tb_in (List.mem_of_getElem? (i := 123) (by decide +kernel)) rfl
theorem k_124 : (.selects "CodeBlocks" y_X_mending y_X_mending : Cond) ∈ tb := tb_in (List.mem_of_getElem? (i := 124) (by decide +kernel)) rfl
theorem k_125 : (.code y_X_mending prog_1_method_3_code 2 none : Cond) ∈ tb := tb_in (List.mem_of_getElem? (i := 125) (by decide +kernel)) rfl
theorem k_126 : (.methodLink "CodeBlocksLaw" 25 y_X_take : Cond) ∈ tb := tb_in (List.mem_of_getElem? (i := 126) (by decide +kernel)) rfl
theorem k_127 : (.instanceMethod y_X_take : Cond) ∈ tb := tb_in (List.mem_of_getElem? (i := 127) (by decide +kernel)) rfl
theorem k_128 : (.selects "CodeBlocks" y_X_take y_X_take : Cond) ∈ tb := tb_in (List.mem_of_getElem? (i := 128) (by decide +kernel)) rfl
theorem k_129 : (.code y_X_take prog_1_method_4_code 7 (some .int) : Cond) ∈ tb := tb_in (List.mem_of_getElem? (i := 129) (by decide +kernel)) rfl
theorem k_130 : (.methodLink "CodeBlocks" 42 y_R_take : Cond) ∈ tb := tb_in (List.mem_of_getElem? (i := 130) (by decide +kernel)) rfl
theorem k_131 : (.instanceMethod y_R_take : Cond) ∈ tb := tb_in (List.mem_of_getElem? (i := 131) (by decide +kernel)) rfl
theorem k_132 : (.selects "CodeBlocks$Receiver" y_R_take y_R_take : Cond) ∈ tb := tb_in (List.mem_of_getElem? (i := 132) (by decide +kernel)) rfl
theorem k_133 : (.code y_R_take prog_3_method_3_code 2 (some .boolean) : Cond) ∈ tb := tb_in (List.mem_of_getElem? (i := 133) (by decide +kernel)) rfl
theorem k_134 : (.methodLink "CodeBlocks$Receiver" 34 y_R_block : Cond) ∈ tb := tb_in (List.mem_of_getElem? (i := 134) (by decide +kernel)) rfl
theorem k_136 : (.instanceMethod y_R_block : Cond) ∈ tb := tb_in (List.mem_of_getElem? (i := 136) (by decide +kernel)) rfl
theorem k_137 : (.code y_R_block prog_3_method_5_code 5 (some .boolean) : Cond) ∈ tb := tb_in (List.mem_of_getElem? (i := 137) (by decide +kernel)) rfl
theorem k_138 : (.methodLink "CodeBlocks$Receiver" 53 y_C_look : Cond) ∈ tb := tb_in (List.mem_of_getElem? (i := 138) (by decide +kernel)) rfl
theorem k_139 : (.instanceMethod y_C_look : Cond) ∈ tb := tb_in (List.mem_of_getElem? (i := 139) (by decide +kernel)) rfl
theorem k_140 : (.selects "CodeBlocks$Code" y_C_look y_C_look : Cond) ∈ tb := tb_in (List.mem_of_getElem? (i := 140) (by decide +kernel)) rfl
theorem k_141 : (.code y_C_look prog_2_method_4_code 7 (some .int) : Cond) ∈ tb := tb_in (List.mem_of_getElem? (i := 141) (by decide +kernel)) rfl
theorem k_142 : (.constantLong "CodeBlocks$Code" 19 (127 : Int64) : Cond) ∈ tb := tb_in (List.mem_of_getElem? (i := 142) (by decide +kernel)) rfl
theorem k_143 : (.methodLink "CodeBlocks$Receiver" 59 y_R_end : Cond) ∈ tb := tb_in (List.mem_of_getElem? (i := 143) (by decide +kernel)) rfl
theorem k_145 : (.instanceMethod y_R_end : Cond) ∈ tb := tb_in (List.mem_of_getElem? (i := 145) (by decide +kernel)) rfl
theorem k_146 : (.code y_R_end prog_3_method_6_code 2 (some .boolean) : Cond) ∈ tb := tb_in (List.mem_of_getElem? (i := 146) (by decide +kernel)) rfl
theorem k_147 : (.methodLink "CodeBlocks$Receiver" 78 y_R_search : Cond) ∈ tb := tb_in (List.mem_of_getElem? (i := 147) (by decide +kernel)) rfl
theorem k_148 : (.methodLink "CodeBlocks$Receiver" 62 y_C_data : Cond) ∈ tb := tb_in (List.mem_of_getElem? (i := 148) (by decide +kernel)) rfl
theorem k_149 : (.static y_C_data : Cond) ∈ tb := tb_in (List.mem_of_getElem? (i := 149) (by decide +kernel)) rfl
theorem k_150 : (.code y_C_data prog_2_method_5_code 5 (some .long) : Cond) ∈ tb := tb_in (List.mem_of_getElem? (i := 150) (by decide +kernel)) rfl
theorem k_151 : (.methodLink "CodeBlocks$Receiver" 38 y_R_mark : Cond) ∈ tb := tb_in (List.mem_of_getElem? (i := 151) (by decide +kernel)) rfl
theorem k_153 : (.instanceMethod y_R_mark : Cond) ∈ tb := tb_in (List.mem_of_getElem? (i := 153) (by decide +kernel)) rfl
theorem k_154 : (.code y_R_mark prog_3_method_4_code 3 none : Cond) ∈ tb := tb_in (List.mem_of_getElem? (i := 154) (by decide +kernel)) rfl
theorem k_155 : (.constant "CodeBlocks$Receiver" 41 (65535 : Int32) : Cond) ∈ tb := tb_in (List.mem_of_getElem? (i := 155) (by decide +kernel)) rfl
theorem k_156 : (.constant "CodeBlocks$Receiver" 42 (60304 : Int32) : Cond) ∈ tb := tb_in (List.mem_of_getElem? (i := 156) (by decide +kernel)) rfl
theorem k_157 : (.methodLink "CodeBlocksLaw" 30 y_X_state : Cond) ∈ tb := tb_in (List.mem_of_getElem? (i := 157) (by decide +kernel)) rfl
theorem k_158 : (.instanceMethod y_X_state : Cond) ∈ tb := tb_in (List.mem_of_getElem? (i := 158) (by decide +kernel)) rfl
theorem k_159 : (.selects "CodeBlocks" y_X_state y_X_state : Cond) ∈ tb := tb_in (List.mem_of_getElem? (i := 159) (by decide +kernel)) rfl
theorem k_160 : (.code y_X_state prog_1_method_5_code 1 (some .int) : Cond) ∈ tb := tb_in (List.mem_of_getElem? (i := 160) (by decide +kernel)) rfl
theorem k_161 : (.methodLink "CodeBlocksLaw" 35 y_X_count : Cond) ∈ tb := tb_in (List.mem_of_getElem? (i := 161) (by decide +kernel)) rfl
theorem k_162 : (.instanceMethod y_X_count : Cond) ∈ tb := tb_in (List.mem_of_getElem? (i := 162) (by decide +kernel)) rfl
theorem k_163 : (.selects "CodeBlocks" y_X_count y_X_count : Cond) ∈ tb := tb_in (List.mem_of_getElem? (i := 163) (by decide +kernel)) rfl
theorem k_164 : (.code y_X_count prog_1_method_6_code 2 (some .int) : Cond) ∈ tb := tb_in (List.mem_of_getElem? (i := 164) (by decide +kernel)) rfl
theorem k_165 : (.methodLink "CodeBlocksLaw" 40 y_X_size : Cond) ∈ tb := tb_in (List.mem_of_getElem? (i := 165) (by decide +kernel)) rfl
theorem k_166 : (.instanceMethod y_X_size : Cond) ∈ tb := tb_in (List.mem_of_getElem? (i := 166) (by decide +kernel)) rfl
theorem k_167 : (.selects "CodeBlocks" y_X_size y_X_size : Cond) ∈ tb := tb_in (List.mem_of_getElem? (i := 167) (by decide +kernel)) rfl
theorem k_168 : (.code y_X_size prog_1_method_7_code 1 (some .int) : Cond) ∈ tb := tb_in (List.mem_of_getElem? (i := 168) (by decide +kernel)) rfl
theorem k_169 : (.methodLink "CodeBlocksLaw" 44 y_X_byteAt : Cond) ∈ tb := tb_in (List.mem_of_getElem? (i := 169) (by decide +kernel)) rfl
theorem k_170 : (.instanceMethod y_X_byteAt : Cond) ∈ tb := tb_in (List.mem_of_getElem? (i := 170) (by decide +kernel)) rfl
theorem k_171 : (.selects "CodeBlocks" y_X_byteAt y_X_byteAt : Cond) ∈ tb := tb_in (List.mem_of_getElem? (i := 171) (by decide +kernel)) rfl
theorem k_172 : (.code y_X_byteAt prog_1_method_8_code 2 (some .int) : Cond) ∈ tb := tb_in (List.mem_of_getElem? (i := 172) (by decide +kernel)) rfl
theorem k_173 : (.methodLink "CodeBlocksLaw" 48 y_X_put : Cond) ∈ tb := tb_in (List.mem_of_getElem? (i := 173) (by decide +kernel)) rfl
theorem k_174 : (.instanceMethod y_X_put : Cond) ∈ tb := tb_in (List.mem_of_getElem? (i := 174) (by decide +kernel)) rfl
theorem k_175 : (.selects "CodeBlocks" y_X_put y_X_put : Cond) ∈ tb := tb_in (List.mem_of_getElem? (i := 175) (by decide +kernel)) rfl
theorem k_176 : (.code y_X_put prog_1_method_9_code 2 (some .int) : Cond) ∈ tb := tb_in (List.mem_of_getElem? (i := 176) (by decide +kernel)) rfl
theorem k_177 : (.methodLink "CodeBlocks" 65 y_S_put : Cond) ∈ tb := tb_in (List.mem_of_getElem? (i := 177) (by decide +kernel)) rfl
theorem k_178 : (.instanceMethod y_S_put : Cond) ∈ tb := tb_in (List.mem_of_getElem? (i := 178) (by decide +kernel)) rfl
theorem k_179 : (.selects "CodeBlocks$Sender" y_S_put y_S_put : Cond) ∈ tb := tb_in (List.mem_of_getElem? (i := 179) (by decide +kernel)) rfl
theorem k_180 : (.code y_S_put prog_4_method_2_code 2 (some .int) : Cond) ∈ tb := tb_in (List.mem_of_getElem? (i := 180) (by decide +kernel)) rfl
theorem k_181 : (.methodLink "CodeBlocksLaw" 52 y_X_send : Cond) ∈ tb := tb_in (List.mem_of_getElem? (i := 181) (by decide +kernel)) rfl
theorem k_182 : (.instanceMethod y_X_send : Cond) ∈ tb := tb_in (List.mem_of_getElem? (i := 182) (by decide +kernel)) rfl
theorem k_183 : (.selects "CodeBlocks" y_X_send y_X_send : Cond) ∈ tb := tb_in (List.mem_of_getElem? (i := 183) (by decide +kernel)) rfl
theorem k_184 : (.code y_X_send prog_1_method_10_code 1 (some .int) : Cond) ∈ tb := tb_in (List.mem_of_getElem? (i := 184) (by decide +kernel)) rfl
theorem k_185 : (.methodLink "CodeBlocks" 69 y_S_send : Cond) ∈ tb := tb_in (List.mem_of_getElem? (i := 185) (by decide +kernel)) rfl
theorem k_186 : (.instanceMethod y_S_send : Cond) ∈ tb := tb_in (List.mem_of_getElem? (i := 186) (by decide +kernel)) rfl
theorem k_187 : (.selects "CodeBlocks$Sender" y_S_send y_S_send : Cond) ∈ tb := tb_in (List.mem_of_getElem? (i := 187) (by decide +kernel)) rfl
theorem k_188 : (.code y_S_send prog_4_method_4_code 5 (some .int) : Cond) ∈ tb := tb_in (List.mem_of_getElem? (i := 188) (by decide +kernel)) rfl
theorem k_189 : (.methodLink "CodeBlocks$Sender" 27 y_C_block : Cond) ∈ tb := tb_in (List.mem_of_getElem? (i := 189) (by decide +kernel)) rfl
theorem k_190 : (.static y_C_block : Cond) ∈ tb := tb_in (List.mem_of_getElem? (i := 190) (by decide +kernel)) rfl
theorem k_191 : (.code y_C_block prog_2_method_3_code 4 (some .long) : Cond) ∈ tb := tb_in (List.mem_of_getElem? (i := 191) (by decide +kernel)) rfl
theorem k_192 : (.methodLink "CodeBlocks$Sender" 33 y_S_lay : Cond) ∈ tb := tb_in (List.mem_of_getElem? (i := 192) (by decide +kernel)) rfl
theorem k_194 : (.instanceMethod y_S_lay : Cond) ∈ tb := tb_in (List.mem_of_getElem? (i := 194) (by decide +kernel)) rfl
theorem k_195 : (.code y_S_lay prog_4_method_3_code 4 none : Cond) ∈ tb := tb_in (List.mem_of_getElem? (i := 195) (by decide +kernel)) rfl
theorem k_196 : (.constantLong "CodeBlocks$Sender" 37 (-4195730024608447111 : Int64) : Cond) ∈ tb := tb_in (List.mem_of_getElem? (i := 196) (by decide +kernel)) rfl
theorem k_197 : (.methodLink "CodeBlocksLaw" 56 y_X_sent : Cond) ∈ tb := tb_in (List.mem_of_getElem? (i := 197) (by decide +kernel)) rfl
theorem k_198 : (.instanceMethod y_X_sent : Cond) ∈ tb := tb_in (List.mem_of_getElem? (i := 198) (by decide +kernel)) rfl
theorem k_199 : (.selects "CodeBlocks" y_X_sent y_X_sent : Cond) ∈ tb := tb_in (List.mem_of_getElem? (i := 199) (by decide +kernel)) rfl
theorem k_200 : (.code y_X_sent prog_1_method_11_code 2 (some .int) : Cond) ∈ tb := tb_in (List.mem_of_getElem? (i := 200) (by decide +kernel)) rfl
theorem k_201 : (.classLink "CodeBlocksLaw" 10 "CodeBlocksModel" : Cond) ∈ tb := tb_in (List.mem_of_getElem? (i := 201) (by decide +kernel)) rfl
theorem k_202 : (.instantiable "CodeBlocksModel" 14 : Cond) ∈ tb := tb_in (List.mem_of_getElem? (i := 202) (by decide +kernel)) rfl
theorem k_203 : (.methodLink "CodeBlocksLaw" 12 y_M_init : Cond) ∈ tb := tb_in (List.mem_of_getElem? (i := 203) (by decide +kernel)) rfl
theorem k_204 : (.instanceMethod y_M_init : Cond) ∈ tb := tb_in (List.mem_of_getElem? (i := 204) (by decide +kernel)) rfl
theorem k_205 : (.code y_M_init prog_6_method_1_code 1 none : Cond) ∈ tb := tb_in (List.mem_of_getElem? (i := 205) (by decide +kernel)) rfl
theorem k_206 : (.methodLink "CodeBlocksModel" 1 objectInit : Cond) ∈ tb := tb_in (List.mem_of_getElem? (i := 206) (by decide +kernel)) rfl
theorem k_207 : (.fieldLink "CodeBlocksModel" 28 "CodeBlocksModel" "thrown" "I" : Cond) ∈ tb := tb_in (List.mem_of_getElem? (i := 207) (by decide +kernel)) rfl
theorem k_208 : (.fieldLink "CodeBlocksModel" 40 "CodeBlocksModel" "state" "I" : Cond) ∈ tb := tb_in (List.mem_of_getElem? (i := 208) (by decide +kernel)) rfl
theorem k_209 : (.fieldLink "CodeBlocksModel" 36 "CodeBlocksModel" "mends" "Z" : Cond) ∈ tb := tb_in (List.mem_of_getElem? (i := 209) (by decide +kernel)) rfl
theorem k_210 : (.fieldLink "CodeBlocksModel" 7 "CodeBlocksModel" "bits" "[I" : Cond) ∈ tb := tb_in (List.mem_of_getElem? (i := 210) (by decide +kernel)) rfl
theorem k_211 : (.fieldLink "CodeBlocksModel" 43 "CodeBlocksModel" "many" "I" : Cond) ∈ tb := tb_in (List.mem_of_getElem? (i := 211) (by decide +kernel)) rfl
theorem k_212 : (.fieldLink "CodeBlocksModel" 13 "CodeBlocksModel" "row" "[I" : Cond) ∈ tb := tb_in (List.mem_of_getElem? (i := 212) (by decide +kernel)) rfl
theorem k_213 : (.fieldLink "CodeBlocksModel" 46 "CodeBlocksModel" "rows" "I" : Cond) ∈ tb := tb_in (List.mem_of_getElem? (i := 213) (by decide +kernel)) rfl
theorem k_214 : (.fieldLink "CodeBlocksModel" 16 "CodeBlocksModel" "received" "[I" : Cond) ∈ tb := tb_in (List.mem_of_getElem? (i := 214) (by decide +kernel)) rfl
theorem k_215 : (.fieldLink "CodeBlocksModel" 49 "CodeBlocksModel" "size" "I" : Cond) ∈ tb := tb_in (List.mem_of_getElem? (i := 215) (by decide +kernel)) rfl
theorem k_216 : (.fieldLink "CodeBlocksModel" 19 "CodeBlocksModel" "wanted" "[I" : Cond) ∈ tb := tb_in (List.mem_of_getElem? (i := 216) (by decide +kernel)) rfl
theorem k_217 : (.fieldLink "CodeBlocksModel" 74 "CodeBlocksModel" "wants" "I" : Cond) ∈ tb := tb_in (List.mem_of_getElem? (i := 217) (by decide +kernel)) rfl
theorem k_218 : (.fieldLink "CodeBlocksModel" 22 "CodeBlocksModel" "sent" "[I" : Cond) ∈ tb := tb_in (List.mem_of_getElem? (i := 218) (by decide +kernel)) rfl
theorem k_219 : (.fieldLink "CodeBlocksModel" 77 "CodeBlocksModel" "sends" "I" : Cond) ∈ tb := tb_in (List.mem_of_getElem? (i := 219) (by decide +kernel)) rfl
theorem k_220 : (.fieldLink "CodeBlocksModel" 25 "CodeBlocksModel" "counts" "[I" : Cond) ∈ tb := tb_in (List.mem_of_getElem? (i := 220) (by decide +kernel)) rfl
theorem k_250 : (.arrayClass .int : Cond) ∈ tb := tb_in (List.mem_of_getElem? (i := 250) (by decide +kernel)) rfl
theorem k_251 : (.methodLink "CodeBlocksLaw" 17 y_M_turn : Cond) ∈ tb := tb_in (List.mem_of_getElem? (i := 251) (by decide +kernel)) rfl
theorem k_252 : (.instanceMethod y_M_turn : Cond) ∈ tb := tb_in (List.mem_of_getElem? (i := 252) (by decide +kernel)) rfl
theorem k_253 : (.selects "CodeBlocksModel" y_M_turn y_M_turn : Cond) ∈ tb := tb_in (List.mem_of_getElem? (i := 253) (by decide +kernel)) rfl
theorem k_254 : (.code y_M_turn prog_6_method_10_code 2 (some .boolean) : Cond) ∈ tb := tb_in (List.mem_of_getElem? (i := 254) (by decide +kernel)) rfl
theorem k_255 : (.methodLink "CodeBlocksModel" 52 y_M_begins : Cond) ∈ tb := tb_in (List.mem_of_getElem? (i := 255) (by decide +kernel)) rfl
theorem k_257 : (.instanceMethod y_M_begins : Cond) ∈ tb := tb_in (List.mem_of_getElem? (i := 257) (by decide +kernel)) rfl
theorem k_258 : (.code y_M_begins prog_6_method_5_code 2 none : Cond) ∈ tb := tb_in (List.mem_of_getElem? (i := 258) (by decide +kernel)) rfl
theorem k_259 : (.methodLink "CodeBlocksLaw" 22 y_M_mending : Cond) ∈ tb := tb_in (List.mem_of_getElem? (i := 259) (by decide +kernel)) rfl
theorem k_260 : (.instanceMethod y_M_mending : Cond) ∈ tb := tb_in (List.mem_of_getElem? (i := 260) (by decide +kernel)) rfl
theorem k_261 : (.selects "CodeBlocksModel" y_M_mending y_M_mending : Cond) ∈ tb := tb_in (List.mem_of_getElem? (i := 261) (by decide +kernel)) rfl
theorem k_262 : (.code y_M_mending prog_6_method_11_code 2 none : Cond) ∈ tb := tb_in (List.mem_of_getElem? (i := 262) (by decide +kernel)) rfl
theorem k_263 : (.methodLink "CodeBlocksLaw" 29 y_M_take : Cond) ∈ tb := tb_in (List.mem_of_getElem? (i := 263) (by decide +kernel)) rfl
theorem k_264 : (.instanceMethod y_M_take : Cond) ∈ tb := tb_in (List.mem_of_getElem? (i := 264) (by decide +kernel)) rfl
theorem k_265 : (.selects "CodeBlocksModel" y_M_take y_M_take : Cond) ∈ tb := tb_in (List.mem_of_getElem? (i := 265) (by decide +kernel)) rfl
theorem k_266 : (.code y_M_take prog_6_method_12_code 6 (some .int) : Cond) ∈ tb := tb_in (List.mem_of_getElem? (i := 266) (by decide +kernel)) rfl
theorem k_267 : (.methodLink "CodeBlocksModel" 70 y_M_bit : Cond) ∈ tb := tb_in (List.mem_of_getElem? (i := 267) (by decide +kernel)) rfl
theorem k_269 : (.instanceMethod y_M_bit : Cond) ∈ tb := tb_in (List.mem_of_getElem? (i := 269) (by decide +kernel)) rfl
theorem k_270 : (.code y_M_bit prog_6_method_9_code 3 (some .int) : Cond) ∈ tb := tb_in (List.mem_of_getElem? (i := 270) (by decide +kernel)) rfl
theorem k_271 : (.methodLink "CodeBlocksModel" 64 y_M_block : Cond) ∈ tb := tb_in (List.mem_of_getElem? (i := 271) (by decide +kernel)) rfl
theorem k_273 : (.instanceMethod y_M_block : Cond) ∈ tb := tb_in (List.mem_of_getElem? (i := 273) (by decide +kernel)) rfl
theorem k_274 : (.code y_M_block prog_6_method_7_code 5 (some .int) : Cond) ∈ tb := tb_in (List.mem_of_getElem? (i := 274) (by decide +kernel)) rfl
theorem k_275 : (.methodLink "CodeBlocksModel" 56 y_M_wrong : Cond) ∈ tb := tb_in (List.mem_of_getElem? (i := 275) (by decide +kernel)) rfl
theorem k_277 : (.instanceMethod y_M_wrong : Cond) ∈ tb := tb_in (List.mem_of_getElem? (i := 277) (by decide +kernel)) rfl
theorem k_278 : (.code y_M_wrong prog_6_method_4_code 3 (some .int) : Cond) ∈ tb := tb_in (List.mem_of_getElem? (i := 278) (by decide +kernel)) rfl
theorem k_279 : (.methodLink "CodeBlocksModel" 32 y_M_divided : Cond) ∈ tb := tb_in (List.mem_of_getElem? (i := 279) (by decide +kernel)) rfl
theorem k_281 : (.instanceMethod y_M_divided : Cond) ∈ tb := tb_in (List.mem_of_getElem? (i := 281) (by decide +kernel)) rfl
theorem k_282 : (.code y_M_divided prog_6_method_3_code 5 (some .boolean) : Cond) ∈ tb := tb_in (List.mem_of_getElem? (i := 282) (by decide +kernel)) rfl
theorem k_283 : (.methodLink "CodeBlocksModel" 60 y_M_ends : Cond) ∈ tb := tb_in (List.mem_of_getElem? (i := 283) (by decide +kernel)) rfl
theorem k_285 : (.instanceMethod y_M_ends : Cond) ∈ tb := tb_in (List.mem_of_getElem? (i := 285) (by decide +kernel)) rfl
theorem k_286 : (.code y_M_ends prog_6_method_6_code 2 none : Cond) ∈ tb := tb_in (List.mem_of_getElem? (i := 286) (by decide +kernel)) rfl
theorem k_287 : (.methodLink "CodeBlocksModel" 67 y_M_look : Cond) ∈ tb := tb_in (List.mem_of_getElem? (i := 287) (by decide +kernel)) rfl
theorem k_289 : (.instanceMethod y_M_look : Cond) ∈ tb := tb_in (List.mem_of_getElem? (i := 289) (by decide +kernel)) rfl
theorem k_290 : (.code y_M_look prog_6_method_8_code 3 none : Cond) ∈ tb := tb_in (List.mem_of_getElem? (i := 290) (by decide +kernel)) rfl
theorem k_291 : (.constant "CodeBlocksModel" 63 (60304 : Int32) : Cond) ∈ tb := tb_in (List.mem_of_getElem? (i := 291) (by decide +kernel)) rfl
theorem k_292 : (.methodLink "CodeBlocksLaw" 34 y_M_state : Cond) ∈ tb := tb_in (List.mem_of_getElem? (i := 292) (by decide +kernel)) rfl
theorem k_293 : (.instanceMethod y_M_state : Cond) ∈ tb := tb_in (List.mem_of_getElem? (i := 293) (by decide +kernel)) rfl
theorem k_294 : (.selects "CodeBlocksModel" y_M_state y_M_state : Cond) ∈ tb := tb_in (List.mem_of_getElem? (i := 294) (by decide +kernel)) rfl
theorem k_295 : (.code y_M_state prog_6_method_13_code 1 (some .int) : Cond) ∈ tb := tb_in (List.mem_of_getElem? (i := 295) (by decide +kernel)) rfl
theorem k_296 : (.methodLink "CodeBlocksLaw" 39 y_M_count : Cond) ∈ tb := tb_in (List.mem_of_getElem? (i := 296) (by decide +kernel)) rfl
theorem k_297 : (.instanceMethod y_M_count : Cond) ∈ tb := tb_in (List.mem_of_getElem? (i := 297) (by decide +kernel)) rfl
theorem k_298 : (.selects "CodeBlocksModel" y_M_count y_M_count : Cond) ∈ tb := tb_in (List.mem_of_getElem? (i := 298) (by decide +kernel)) rfl
theorem k_299 : (.code y_M_count prog_6_method_14_code 2 (some .int) : Cond) ∈ tb := tb_in (List.mem_of_getElem? (i := 299) (by decide +kernel)) rfl
theorem k_300 : (.methodLink "CodeBlocksLaw" 43 y_M_size : Cond) ∈ tb := tb_in (List.mem_of_getElem? (i := 300) (by decide +kernel)) rfl
theorem k_301 : (.instanceMethod y_M_size : Cond) ∈ tb := tb_in (List.mem_of_getElem? (i := 301) (by decide +kernel)) rfl
theorem k_302 : (.selects "CodeBlocksModel" y_M_size y_M_size : Cond) ∈ tb := tb_in (List.mem_of_getElem? (i := 302) (by decide +kernel)) rfl
theorem k_303 : (.code y_M_size prog_6_method_15_code 1 (some .int) : Cond) ∈ tb := tb_in (List.mem_of_getElem? (i := 303) (by decide +kernel)) rfl
theorem k_304 : (.methodLink "CodeBlocksLaw" 47 y_M_byteAt : Cond) ∈ tb := tb_in (List.mem_of_getElem? (i := 304) (by decide +kernel)) rfl
theorem k_305 : (.instanceMethod y_M_byteAt : Cond) ∈ tb := tb_in (List.mem_of_getElem? (i := 305) (by decide +kernel)) rfl
theorem k_306 : (.selects "CodeBlocksModel" y_M_byteAt y_M_byteAt : Cond) ∈ tb := tb_in (List.mem_of_getElem? (i := 306) (by decide +kernel)) rfl
theorem k_307 : (.code y_M_byteAt prog_6_method_16_code 2 (some .int) : Cond) ∈ tb := tb_in (List.mem_of_getElem? (i := 307) (by decide +kernel)) rfl
theorem k_308 : (.methodLink "CodeBlocksLaw" 51 y_M_put : Cond) ∈ tb := tb_in (List.mem_of_getElem? (i := 308) (by decide +kernel)) rfl
theorem k_309 : (.instanceMethod y_M_put : Cond) ∈ tb := tb_in (List.mem_of_getElem? (i := 309) (by decide +kernel)) rfl
theorem k_310 : (.selects "CodeBlocksModel" y_M_put y_M_put : Cond) ∈ tb := tb_in (List.mem_of_getElem? (i := 310) (by decide +kernel)) rfl
theorem k_311 : (.code y_M_put prog_6_method_17_code 2 (some .int) : Cond) ∈ tb := tb_in (List.mem_of_getElem? (i := 311) (by decide +kernel)) rfl
theorem k_312 : (.methodLink "CodeBlocksLaw" 55 y_M_send : Cond) ∈ tb := tb_in (List.mem_of_getElem? (i := 312) (by decide +kernel)) rfl
theorem k_313 : (.instanceMethod y_M_send : Cond) ∈ tb := tb_in (List.mem_of_getElem? (i := 313) (by decide +kernel)) rfl
theorem k_314 : (.selects "CodeBlocksModel" y_M_send y_M_send : Cond) ∈ tb := tb_in (List.mem_of_getElem? (i := 314) (by decide +kernel)) rfl
theorem k_315 : (.code y_M_send prog_6_method_20_code 3 (some .int) : Cond) ∈ tb := tb_in (List.mem_of_getElem? (i := 315) (by decide +kernel)) rfl
theorem k_316 : (.methodLink "CodeBlocksModel" 80 y_M_out : Cond) ∈ tb := tb_in (List.mem_of_getElem? (i := 316) (by decide +kernel)) rfl
theorem k_318 : (.instanceMethod y_M_out : Cond) ∈ tb := tb_in (List.mem_of_getElem? (i := 318) (by decide +kernel)) rfl
theorem k_319 : (.code y_M_out prog_6_method_18_code 2 none : Cond) ∈ tb := tb_in (List.mem_of_getElem? (i := 319) (by decide +kernel)) rfl
theorem k_320 : (.methodLink "CodeBlocksModel" 83 y_M_check : Cond) ∈ tb := tb_in (List.mem_of_getElem? (i := 320) (by decide +kernel)) rfl
theorem k_322 : (.instanceMethod y_M_check : Cond) ∈ tb := tb_in (List.mem_of_getElem? (i := 322) (by decide +kernel)) rfl
theorem k_323 : (.code y_M_check prog_6_method_19_code 7 (some .int) : Cond) ∈ tb := tb_in (List.mem_of_getElem? (i := 323) (by decide +kernel)) rfl
theorem k_324 : (.methodLink "CodeBlocksLaw" 59 y_M_sent : Cond) ∈ tb := tb_in (List.mem_of_getElem? (i := 324) (by decide +kernel)) rfl
theorem k_325 : (.instanceMethod y_M_sent : Cond) ∈ tb := tb_in (List.mem_of_getElem? (i := 325) (by decide +kernel)) rfl
theorem k_326 : (.selects "CodeBlocksModel" y_M_sent y_M_sent : Cond) ∈ tb := tb_in (List.mem_of_getElem? (i := 326) (by decide +kernel)) rfl
theorem k_327 : (.code y_M_sent prog_6_method_21_code 2 (some .int) : Cond) ∈ tb := tb_in (List.mem_of_getElem? (i := 327) (by decide +kernel)) rfl
theorem k_328 : (.constantLong "CodeBlocksLaw" 23 (4294967295 : Int64) : Cond) ∈ tb := tb_in (List.mem_of_getElem? (i := 328) (by decide +kernel)) rfl
theorem ks_0 : (.selects "CodeBlocks$Receiver" y_R_block y_R_block : Cond) ∈ tb := tb_sel (List.mem_of_getElem? (i := 0) (by decide +kernel)) rfl
theorem ks_1 : (.selects "CodeBlocks$Receiver" y_R_end y_R_end : Cond) ∈ tb := tb_sel (List.mem_of_getElem? (i := 1) (by decide +kernel)) rfl
theorem ks_2 : (.selects "CodeBlocks$Receiver" y_R_mark y_R_mark : Cond) ∈ tb := tb_sel (List.mem_of_getElem? (i := 2) (by decide +kernel)) rfl
theorem ks_3 : (.selects "CodeBlocks$Sender" y_S_lay y_S_lay : Cond) ∈ tb := tb_sel (List.mem_of_getElem? (i := 3) (by decide +kernel)) rfl
theorem ks_4 : (.selects "CodeBlocksModel" y_M_begins y_M_begins : Cond) ∈ tb := tb_sel (List.mem_of_getElem? (i := 4) (by decide +kernel)) rfl
theorem ks_5 : (.selects "CodeBlocksModel" y_M_bit y_M_bit : Cond) ∈ tb := tb_sel (List.mem_of_getElem? (i := 5) (by decide +kernel)) rfl
theorem ks_6 : (.selects "CodeBlocksModel" y_M_block y_M_block : Cond) ∈ tb := tb_sel (List.mem_of_getElem? (i := 6) (by decide +kernel)) rfl
theorem ks_7 : (.selects "CodeBlocksModel" y_M_wrong y_M_wrong : Cond) ∈ tb := tb_sel (List.mem_of_getElem? (i := 7) (by decide +kernel)) rfl
theorem ks_8 : (.selects "CodeBlocksModel" y_M_divided y_M_divided : Cond) ∈ tb := tb_sel (List.mem_of_getElem? (i := 8) (by decide +kernel)) rfl
theorem ks_9 : (.selects "CodeBlocksModel" y_M_ends y_M_ends : Cond) ∈ tb := tb_sel (List.mem_of_getElem? (i := 9) (by decide +kernel)) rfl
theorem ks_10 : (.selects "CodeBlocksModel" y_M_look y_M_look : Cond) ∈ tb := tb_sel (List.mem_of_getElem? (i := 10) (by decide +kernel)) rfl
theorem ks_11 : (.selects "CodeBlocksModel" y_M_out y_M_out : Cond) ∈ tb := tb_sel (List.mem_of_getElem? (i := 11) (by decide +kernel)) rfl
theorem ks_12 : (.selects "CodeBlocksModel" y_M_check y_M_check : Cond) ∈ tb := tb_sel (List.mem_of_getElem? (i := 12) (by decide +kernel)) rfl
theorem n_X : ∀ a, a < 2 → ∀ b, b < 2 → a ≠ b → (F_X a).2.1 ≠ (F_X b).2.1 := by decide +kernel
theorem t_X_ok : ∀ k, k < 2 → parseFieldDescriptor (F_X k).2.2.1 = some (t_X k) := by decide +kernel
theorem i_X : ∀ w ∈ u_ws R_X F_X 2, w ∈ tb := by decide +kernel
theorem n_C : ∀ a, a < 1 → ∀ b, b < 1 → a ≠ b → (F_C a).2.1 ≠ (F_C b).2.1 := by decide +kernel
theorem t_C_ok : ∀ k, k < 1 → parseFieldDescriptor (F_C k).2.2.1 = some (t_C k) := by decide +kernel
theorem i_C : ∀ w ∈ u_ws R_C F_C 1, w ∈ tb := by decide +kernel
theorem n_R : ∀ a, a < 14 → ∀ b, b < 14 → a ≠ b → (F_R a).2.1 ≠ (F_R b).2.1 := by decide +kernel
theorem t_R_ok : ∀ k, k < 14 → parseFieldDescriptor (F_R k).2.2.1 = some (t_R k) := by decide +kernel
theorem i_R : ∀ w ∈ u_ws R_R F_R 14, w ∈ tb := by decide +kernel
theorem n_S : ∀ a, a < 4 → ∀ b, b < 4 → a ≠ b → (F_S a).2.1 ≠ (F_S b).2.1 := by decide +kernel
theorem t_S_ok : ∀ k, k < 4 → parseFieldDescriptor (F_S k).2.2.1 = some (t_S k) := by decide +kernel
theorem i_S : ∀ w ∈ u_ws R_S F_S 4, w ∈ tb := by decide +kernel
theorem n_M : ∀ a, a < 14 → ∀ b, b < 14 → a ≠ b → (F_M a).2.1 ≠ (F_M b).2.1 := by decide +kernel
theorem t_M_ok : ∀ k, k < 14 → parseFieldDescriptor (F_M k).2.2.1 = some (t_M k) := by decide +kernel
theorem i_M : ∀ w ∈ u_ws R_M F_M 14, w ∈ tb := by decide +kernel
def KC (ci : Nat) (C : String) (T : u_T) (N : Nat) : Prop := classes[ci]? = some (C, T, N) ∧ (∀ w ∈ u_ws C T N, w ∈ tb) ∧ ∃ ty0 : Nat → FieldType, (∀ k, k < N → parseFieldDescriptor (T k).2.2.1 = some (ty0 k)) ∧ ∀ a, a < N → ∀ b, b < N → a ≠ b → (T a).2.1 ≠ (T b).2.1
theorem kc_X : KC 0 R_X F_X 2 := ⟨rfl, i_X, t_X, t_X_ok, n_X⟩
theorem kc_C : KC 1 R_C F_C 1 := ⟨rfl, i_C, t_C, t_C_ok, n_C⟩
theorem kc_R : KC 2 R_R F_R 14 := ⟨rfl, i_R, t_R, t_R_ok, n_R⟩
theorem kc_S : KC 3 R_S F_S 4 := ⟨rfl, i_S, t_S, t_S_ok, n_S⟩
theorem kc_M : KC 4 R_M F_M 14 := ⟨rfl, i_M, t_M, t_M_ok, n_M⟩
/- a field by its link: owner, place in the pool, number of the owner, number of the field, its type, final -/
def FLk (own : String) (index ci k : Nat) (ty : FieldType) (fin : Bool) : Prop := ∃ (C : String) (T : u_T) (N : Nat), KC ci C T N ∧ k < N ∧ Cond.fieldLink own index (T k).1 (T k).2.1 (T k).2.2.1 ∈ tb ∧ (T k).2.2.2 = fin ∧ parseFieldDescriptor (T k).2.2.1 = some ty ∧ (T k).1 = own
def NF : List (Nat × String × String × String) := [(61, "CodeBlocks$Receiver", "received", "[B"), (28, "CodeBlocks$Receiver", "state", "I"), (58, "CodeBlocks$Receiver", "size", "I"), (35, "CodeBlocks$Receiver", "mends", "Z"), (46, "CodeBlocks$Receiver", "began", "I"), (39, "CodeBlocks$Receiver", "ended", "I"), (49, "CodeBlocks$Receiver", "blocks", "I"), (52, "CodeBlocks$Receiver", "mended", "I"), (55, "CodeBlocks$Receiver", "marks", "I"), (74, "CodeBlocks$Sender", "sent", "[B"), (73, "CodeBlocks$Sender", "size", "I")]
def NW (U : State) : Prop := (∀ q ∈ NF, va_Nw (.fieldLinkNest "CodeBlocks" q.1 q.2.1 q.2.2.1 q.2.2.2 "CodeBlocks") U) ∧ va_Nw (.methodLinkNest "CodeBlocks" 23 y_S_init "CodeBlocks") U
def FNk (index ci k : Nat) (ty : FieldType) (fin : Bool) : Prop := ∃ (C : String) (T : u_T) (N : Nat), KC ci C T N ∧ k < N ∧ (index, (T k).1, (T k).2.1, (T k).2.2.1) ∈ NF ∧ (T k).2.2.2 = fin ∧ parseFieldDescriptor (T k).2.2.1 = some ty
theorem fl_C_11 : FLk "CodeBlocks$Code" 11 1 0 (.array .byte) true := ⟨R_C, F_C, 1, kc_C, by decide, k_25, rfl, by decide +kernel, rfl⟩
theorem fl_R_16 : FLk "CodeBlocks$Receiver" 16 2 0 (.object "CodeBlocks$Code") true := ⟨R_R, F_R, 14, kc_R, by decide, k_34, rfl, by decide +kernel, rfl⟩
theorem fl_R_9 : FLk "CodeBlocks$Receiver" 9 2 1 (.array .byte) false := ⟨R_R, F_R, 14, kc_R, by decide, k_35, rfl, by decide +kernel, rfl⟩
theorem fl_R_13 : FLk "CodeBlocks$Receiver" 13 2 2 (.array .byte) false := ⟨R_R, F_R, 14, kc_R, by decide, k_36, rfl, by decide +kernel, rfl⟩
theorem fn_61 : FNk 61 2 2 (.array .byte) false := ⟨R_R, F_R, 14, kc_R, by decide, by decide +kernel, rfl, by decide +kernel⟩
theorem fl_R_20 : FLk "CodeBlocks$Receiver" 20 2 3 (.int) false := ⟨R_R, F_R, 14, kc_R, by decide, k_38, rfl, by decide +kernel, rfl⟩
theorem fn_28 : FNk 28 2 3 (.int) false := ⟨R_R, F_R, 14, kc_R, by decide, by decide +kernel, rfl, by decide +kernel⟩
theorem fl_R_75 : FLk "CodeBlocks$Receiver" 75 2 4 (.int) false := ⟨R_R, F_R, 14, kc_R, by decide, k_40, rfl, by decide +kernel, rfl⟩
theorem fn_58 : FNk 58 2 4 (.int) false := ⟨R_R, F_R, 14, kc_R, by decide, by decide +kernel, rfl, by decide +kernel⟩
theorem fl_R_27 : FLk "CodeBlocks$Receiver" 27 2 5 (.int) false := ⟨R_R, F_R, 14, kc_R, by decide, k_42, rfl, by decide +kernel, rfl⟩
theorem fl_R_24 : FLk "CodeBlocks$Receiver" 24 2 6 (.int) false := ⟨R_R, F_R, 14, kc_R, by decide, k_43, rfl, by decide +kernel, rfl⟩
theorem fn_35 : FNk 35 2 7 (.boolean) false := ⟨R_R, F_R, 14, kc_R, by decide, by decide +kernel, rfl, by decide +kernel⟩
theorem fl_R_43 : FLk "CodeBlocks$Receiver" 43 2 7 (.boolean) false := ⟨R_R, F_R, 14, kc_R, by decide, k_45, rfl, by decide +kernel, rfl⟩
theorem fl_R_30 : FLk "CodeBlocks$Receiver" 30 2 8 (.long) false := ⟨R_R, F_R, 14, kc_R, by decide, k_46, rfl, by decide +kernel, rfl⟩
theorem fl_R_50 : FLk "CodeBlocks$Receiver" 50 2 9 (.int) false := ⟨R_R, F_R, 14, kc_R, by decide, k_47, rfl, by decide +kernel, rfl⟩
theorem fn_46 : FNk 46 2 9 (.int) false := ⟨R_R, F_R, 14, kc_R, by decide, by decide +kernel, rfl, by decide +kernel⟩
theorem fn_39 : FNk 39 2 10 (.int) false := ⟨R_R, F_R, 14, kc_R, by decide, by decide +kernel, rfl, by decide +kernel⟩
theorem fl_R_72 : FLk "CodeBlocks$Receiver" 72 2 10 (.int) false := ⟨R_R, F_R, 14, kc_R, by decide, k_50, rfl, by decide +kernel, rfl⟩
theorem fl_R_66 : FLk "CodeBlocks$Receiver" 66 2 11 (.int) false := ⟨R_R, F_R, 14, kc_R, by decide, k_51, rfl, by decide +kernel, rfl⟩
theorem fn_49 : FNk 49 2 11 (.int) false := ⟨R_R, F_R, 14, kc_R, by decide, by decide +kernel, rfl, by decide +kernel⟩
theorem fl_R_69 : FLk "CodeBlocks$Receiver" 69 2 12 (.int) false := ⟨R_R, F_R, 14, kc_R, by decide, k_53, rfl, by decide +kernel, rfl⟩
theorem fn_52 : FNk 52 2 12 (.int) false := ⟨R_R, F_R, 14, kc_R, by decide, by decide +kernel, rfl, by decide +kernel⟩
theorem fl_R_47 : FLk "CodeBlocks$Receiver" 47 2 13 (.int) false := ⟨R_R, F_R, 14, kc_R, by decide, k_55, rfl, by decide +kernel, rfl⟩
theorem fn_55 : FNk 55 2 13 (.int) false := ⟨R_R, F_R, 14, kc_R, by decide, by decide +kernel, rfl, by decide +kernel⟩
theorem fl_S_11 : FLk "CodeBlocks$Sender" 11 3 0 (.array .byte) true := ⟨R_S, F_S, 4, kc_S, by decide, k_92, rfl, by decide +kernel, rfl⟩
theorem fl_S_17 : FLk "CodeBlocks$Sender" 17 3 1 (.array .byte) true := ⟨R_S, F_S, 4, kc_S, by decide, k_93, rfl, by decide +kernel, rfl⟩
theorem fn_74 : FNk 74 3 1 (.array .byte) true := ⟨R_S, F_S, 4, kc_S, by decide, by decide +kernel, rfl, by decide +kernel⟩
theorem fl_S_20 : FLk "CodeBlocks$Sender" 20 3 2 (.int) false := ⟨R_S, F_S, 4, kc_S, by decide, k_95, rfl, by decide +kernel, rfl⟩
theorem fl_S_24 : FLk "CodeBlocks$Sender" 24 3 3 (.int) false := ⟨R_S, F_S, 4, kc_S, by decide, k_96, rfl, by decide +kernel, rfl⟩
theorem fn_73 : FNk 73 3 3 (.int) false := ⟨R_S, F_S, 4, kc_S, by decide, by decide +kernel, rfl, by decide +kernel⟩
theorem fl_X_15 : FLk "CodeBlocks" 15 0 0 (.object "CodeBlocks$Receiver") true := ⟨R_X, F_X, 2, kc_X, by decide, k_107, rfl, by decide +kernel, rfl⟩
theorem fl_X_24 : FLk "CodeBlocks" 24 0 1 (.object "CodeBlocks$Sender") true := ⟨R_X, F_X, 2, kc_X, by decide, k_108, rfl, by decide +kernel, rfl⟩
theorem fl_M_28 : FLk "CodeBlocksModel" 28 4 0 (.int) false := ⟨R_M, F_M, 14, kc_M, by decide, k_207, rfl, by decide +kernel, rfl⟩
theorem fl_M_40 : FLk "CodeBlocksModel" 40 4 1 (.int) false := ⟨R_M, F_M, 14, kc_M, by decide, k_208, rfl, by decide +kernel, rfl⟩
theorem fl_M_36 : FLk "CodeBlocksModel" 36 4 2 (.boolean) false := ⟨R_M, F_M, 14, kc_M, by decide, k_209, rfl, by decide +kernel, rfl⟩
theorem fl_M_7 : FLk "CodeBlocksModel" 7 4 3 (.array .int) true := ⟨R_M, F_M, 14, kc_M, by decide, k_210, rfl, by decide +kernel, rfl⟩
theorem fl_M_43 : FLk "CodeBlocksModel" 43 4 4 (.int) false := ⟨R_M, F_M, 14, kc_M, by decide, k_211, rfl, by decide +kernel, rfl⟩
theorem fl_M_13 : FLk "CodeBlocksModel" 13 4 5 (.array .int) true := ⟨R_M, F_M, 14, kc_M, by decide, k_212, rfl, by decide +kernel, rfl⟩
theorem fl_M_46 : FLk "CodeBlocksModel" 46 4 6 (.int) false := ⟨R_M, F_M, 14, kc_M, by decide, k_213, rfl, by decide +kernel, rfl⟩
theorem fl_M_16 : FLk "CodeBlocksModel" 16 4 7 (.array .int) true := ⟨R_M, F_M, 14, kc_M, by decide, k_214, rfl, by decide +kernel, rfl⟩
theorem fl_M_49 : FLk "CodeBlocksModel" 49 4 8 (.int) false := ⟨R_M, F_M, 14, kc_M, by decide, k_215, rfl, by decide +kernel, rfl⟩
theorem fl_M_19 : FLk "CodeBlocksModel" 19 4 9 (.array .int) true := ⟨R_M, F_M, 14, kc_M, by decide, k_216, rfl, by decide +kernel, rfl⟩
theorem fl_M_74 : FLk "CodeBlocksModel" 74 4 10 (.int) false := ⟨R_M, F_M, 14, kc_M, by decide, k_217, rfl, by decide +kernel, rfl⟩
theorem fl_M_22 : FLk "CodeBlocksModel" 22 4 11 (.array .int) true := ⟨R_M, F_M, 14, kc_M, by decide, k_218, rfl, by decide +kernel, rfl⟩
theorem fl_M_77 : FLk "CodeBlocksModel" 77 4 12 (.int) false := ⟨R_M, F_M, 14, kc_M, by decide, k_219, rfl, by decide +kernel, rfl⟩
theorem fl_M_25 : FLk "CodeBlocksModel" 25 4 13 (.array .int) true := ⟨R_M, F_M, 14, kc_M, by decide, k_220, rfl, by decide +kernel, rfl⟩
/- call sites -/
def VWk (own : String) (index : Nat) (C : String) (y : MethodName) (b : ByteArray) (nL : Nat) (ret : Option FieldType) (n : Nat) : Prop := Cond.methodLink own index y ∈ tb ∧ Cond.instanceMethod y ∈ tb ∧ Cond.selects C y y ∈ tb ∧ Cond.initialized C ∈ tb ∧ Cond.code y b nL ret ∈ tb ∧ y.cls = C ∧ y.cls ≠ "java/lang/invoke/MethodHandle" ∧ y.cls ≠ "java/lang/invoke/VarHandle" ∧ (parseMethodDescriptor y.desc).map (fun d => d.parameters.length) = some n
def SWk (own : String) (index : Nat) (y : MethodName) (b : ByteArray) (nL : Nat) (ret : Option FieldType) (n : Nat) : Prop := Cond.methodLink own index y ∈ tb ∧ Cond.static y ∈ tb ∧ Cond.initialized y.cls ∈ tb ∧ Cond.code y b nL ret ∈ tb ∧ y.cls ≠ "java/lang/invoke/MethodHandle" ∧ y.cls ≠ "java/lang/invoke/VarHandle" ∧ (parseMethodDescriptor y.desc).map (fun d => d.parameters.length) = some n
def IWk (own : String) (index : Nat) (y : MethodName) (b : ByteArray) (nL n : Nat) : Prop := Cond.methodLink own index y ∈ tb ∧ Cond.instanceMethod y ∈ tb ∧ Cond.initialized y.cls ∈ tb ∧ Cond.code y b nL none ∈ tb ∧ y.name = "<init>" ∧ y.cls ≠ "java/lang/invoke/MethodHandle" ∧ y.cls ≠ "java/lang/invoke/VarHandle" ∧ (parseMethodDescriptor y.desc).map (fun d => d.parameters.length) = some n
def JWk (index : Nat) (y : MethodName) (b : ByteArray) (nL n : Nat) : Prop := (∀ U : State, NW U → va_Nw (.methodLinkNest "CodeBlocks" index y "CodeBlocks") U) ∧ Cond.instanceMethod y ∈ tb ∧ Cond.initialized y.cls ∈ tb ∧ Cond.code y b nL none ∈ tb ∧ y.name = "<init>" ∧ y.cls ≠ "java/lang/invoke/MethodHandle" ∧ y.cls ≠ "java/lang/invoke/VarHandle" ∧ (parseMethodDescriptor y.desc).map (fun d => d.parameters.length) = some n
theorem cs_law_9 : IWk "CodeBlocksLaw" 9 y_X_init b_X_init 1 0 := ⟨k_8, k_9, k_1, k_10, rfl, by decide +kernel, by decide +kernel, by decide +kernel⟩
theorem cs_X_11 : IWk "CodeBlocks" 11 y_C_init b_C_init 3 0 := ⟨k_18, k_19, k_3, k_20, rfl, by decide +kernel, by decide +kernel, by decide +kernel⟩
theorem cs_C_15 : SWk "CodeBlocks$Code" 15 y_C_step b_C_step 3 (some .int) 2 := ⟨k_22, k_23, k_3, k_24, by decide +kernel, by decide +kernel, by decide +kernel⟩
theorem cs_X_12 : IWk "CodeBlocks" 12 y_R_init b_R_init 2 1 := ⟨k_30, k_31, k_2, k_32, rfl, by decide +kernel, by decide +kernel, by decide +kernel⟩
theorem cs_X_23 : JWk 23 y_S_init b_S_init 1 0 := ⟨fun U h => h.2, k_89, k_4, k_90, rfl, by decide +kernel, by decide +kernel, by decide +kernel⟩
theorem cs_law_13 : VWk "CodeBlocksLaw" 13 "CodeBlocks" y_X_turn b_X_turn 2 (some .boolean) 1 := ⟨k_114, k_115, k_116, k_1, k_117, rfl, by decide +kernel, by decide +kernel, by decide +kernel⟩
theorem cs_X_32 : VWk "CodeBlocks" 32 "CodeBlocks$Receiver" y_R_search b_R_search 1 none 0 := ⟨k_118, k_119, k_120, k_2, k_121, rfl, by decide +kernel, by decide +kernel, by decide +kernel⟩
theorem cs_law_18 : VWk "CodeBlocksLaw" 18 "CodeBlocks" y_X_mending b_X_mending 2 none 1 := ⟨k_122, k_123, k_124, k_1, k_125, rfl, by decide +kernel, by decide +kernel, by decide +kernel⟩
theorem cs_law_25 : VWk "CodeBlocksLaw" 25 "CodeBlocks" y_X_take b_X_take 7 (some .int) 2 := ⟨k_126, k_127, k_128, k_1, k_129, rfl, by decide +kernel, by decide +kernel, by decide +kernel⟩
theorem cs_X_42 : VWk "CodeBlocks" 42 "CodeBlocks$Receiver" y_R_take b_R_take 2 (some .boolean) 1 := ⟨k_130, k_131, k_132, k_2, k_133, rfl, by decide +kernel, by decide +kernel, by decide +kernel⟩
theorem cs_R_34 : VWk "CodeBlocks$Receiver" 34 "CodeBlocks$Receiver" y_R_block b_R_block 5 (some .boolean) 0 := ⟨k_134, k_136, ks_0, k_2, k_137, rfl, by decide +kernel, by decide +kernel, by decide +kernel⟩
theorem cs_R_53 : VWk "CodeBlocks$Receiver" 53 "CodeBlocks$Code" y_C_look b_C_look 7 (some .int) 1 := ⟨k_138, k_139, k_140, k_3, k_141, rfl, by decide +kernel, by decide +kernel, by decide +kernel⟩
theorem cs_R_59 : VWk "CodeBlocks$Receiver" 59 "CodeBlocks$Receiver" y_R_end b_R_end 2 (some .boolean) 0 := ⟨k_143, k_145, ks_1, k_2, k_146, rfl, by decide +kernel, by decide +kernel, by decide +kernel⟩
theorem cs_R_78 : VWk "CodeBlocks$Receiver" 78 "CodeBlocks$Receiver" y_R_search b_R_search 1 none 0 := ⟨k_147, k_119, k_120, k_2, k_121, rfl, by decide +kernel, by decide +kernel, by decide +kernel⟩
theorem cs_R_62 : SWk "CodeBlocks$Receiver" 62 y_C_data b_C_data 5 (some .long) 2 := ⟨k_148, k_149, k_3, k_150, by decide +kernel, by decide +kernel, by decide +kernel⟩
theorem cs_R_38 : VWk "CodeBlocks$Receiver" 38 "CodeBlocks$Receiver" y_R_mark b_R_mark 3 none 0 := ⟨k_151, k_153, ks_2, k_2, k_154, rfl, by decide +kernel, by decide +kernel, by decide +kernel⟩
theorem cs_law_30 : VWk "CodeBlocksLaw" 30 "CodeBlocks" y_X_state b_X_state 1 (some .int) 0 := ⟨k_157, k_158, k_159, k_1, k_160, rfl, by decide +kernel, by decide +kernel, by decide +kernel⟩
theorem cs_law_35 : VWk "CodeBlocksLaw" 35 "CodeBlocks" y_X_count b_X_count 2 (some .int) 1 := ⟨k_161, k_162, k_163, k_1, k_164, rfl, by decide +kernel, by decide +kernel, by decide +kernel⟩
theorem cs_law_40 : VWk "CodeBlocksLaw" 40 "CodeBlocks" y_X_size b_X_size 1 (some .int) 0 := ⟨k_165, k_166, k_167, k_1, k_168, rfl, by decide +kernel, by decide +kernel, by decide +kernel⟩
theorem cs_law_44 : VWk "CodeBlocksLaw" 44 "CodeBlocks" y_X_byteAt b_X_byteAt 2 (some .int) 1 := ⟨k_169, k_170, k_171, k_1, k_172, rfl, by decide +kernel, by decide +kernel, by decide +kernel⟩
theorem cs_law_48 : VWk "CodeBlocksLaw" 48 "CodeBlocks" y_X_put b_X_put 2 (some .int) 1 := ⟨k_173, k_174, k_175, k_1, k_176, rfl, by decide +kernel, by decide +kernel, by decide +kernel⟩
theorem cs_X_65 : VWk "CodeBlocks" 65 "CodeBlocks$Sender" y_S_put b_S_put 2 (some .int) 1 := ⟨k_177, k_178, k_179, k_4, k_180, rfl, by decide +kernel, by decide +kernel, by decide +kernel⟩
theorem cs_law_52 : VWk "CodeBlocksLaw" 52 "CodeBlocks" y_X_send b_X_send 1 (some .int) 0 := ⟨k_181, k_182, k_183, k_1, k_184, rfl, by decide +kernel, by decide +kernel, by decide +kernel⟩
theorem cs_X_69 : VWk "CodeBlocks" 69 "CodeBlocks$Sender" y_S_send b_S_send 5 (some .int) 0 := ⟨k_185, k_186, k_187, k_4, k_188, rfl, by decide +kernel, by decide +kernel, by decide +kernel⟩
theorem cs_S_27 : SWk "CodeBlocks$Sender" 27 y_C_block b_C_block 4 (some .long) 1 := ⟨k_189, k_190, k_3, k_191, by decide +kernel, by decide +kernel, by decide +kernel⟩
theorem cs_S_33 : VWk "CodeBlocks$Sender" 33 "CodeBlocks$Sender" y_S_lay b_S_lay 4 none 1 := ⟨k_192, k_194, ks_3, k_4, k_195, rfl, by decide +kernel, by decide +kernel, by decide +kernel⟩
theorem cs_law_56 : VWk "CodeBlocksLaw" 56 "CodeBlocks" y_X_sent b_X_sent 2 (some .int) 1 := ⟨k_197, k_198, k_199, k_1, k_200, rfl, by decide +kernel, by decide +kernel, by decide +kernel⟩
theorem cs_law_12 : IWk "CodeBlocksLaw" 12 y_M_init b_M_init 1 0 := ⟨k_203, k_204, k_5, k_205, rfl, by decide +kernel, by decide +kernel, by decide +kernel⟩
theorem cs_law_17 : VWk "CodeBlocksLaw" 17 "CodeBlocksModel" y_M_turn b_M_turn 2 (some .boolean) 1 := ⟨k_251, k_252, k_253, k_5, k_254, rfl, by decide +kernel, by decide +kernel, by decide +kernel⟩
theorem cs_M_52 : VWk "CodeBlocksModel" 52 "CodeBlocksModel" y_M_begins b_M_begins 2 none 1 := ⟨k_255, k_257, ks_4, k_5, k_258, rfl, by decide +kernel, by decide +kernel, by decide +kernel⟩
theorem cs_law_22 : VWk "CodeBlocksLaw" 22 "CodeBlocksModel" y_M_mending b_M_mending 2 none 1 := ⟨k_259, k_260, k_261, k_5, k_262, rfl, by decide +kernel, by decide +kernel, by decide +kernel⟩
theorem cs_law_29 : VWk "CodeBlocksLaw" 29 "CodeBlocksModel" y_M_take b_M_take 6 (some .int) 2 := ⟨k_263, k_264, k_265, k_5, k_266, rfl, by decide +kernel, by decide +kernel, by decide +kernel⟩
theorem cs_M_70 : VWk "CodeBlocksModel" 70 "CodeBlocksModel" y_M_bit b_M_bit 3 (some .int) 1 := ⟨k_267, k_269, ks_5, k_5, k_270, rfl, by decide +kernel, by decide +kernel, by decide +kernel⟩
theorem cs_M_64 : VWk "CodeBlocksModel" 64 "CodeBlocksModel" y_M_block b_M_block 5 (some .int) 0 := ⟨k_271, k_273, ks_6, k_5, k_274, rfl, by decide +kernel, by decide +kernel, by decide +kernel⟩
theorem cs_M_56 : VWk "CodeBlocksModel" 56 "CodeBlocksModel" y_M_wrong b_M_wrong 3 (some .int) 0 := ⟨k_275, k_277, ks_7, k_5, k_278, rfl, by decide +kernel, by decide +kernel, by decide +kernel⟩
theorem cs_M_32 : VWk "CodeBlocksModel" 32 "CodeBlocksModel" y_M_divided b_M_divided 5 (some .boolean) 1 := ⟨k_279, k_281, ks_8, k_5, k_282, rfl, by decide +kernel, by decide +kernel, by decide +kernel⟩
theorem cs_M_60 : VWk "CodeBlocksModel" 60 "CodeBlocksModel" y_M_ends b_M_ends 2 none 0 := ⟨k_283, k_285, ks_9, k_5, k_286, rfl, by decide +kernel, by decide +kernel, by decide +kernel⟩
theorem cs_M_67 : VWk "CodeBlocksModel" 67 "CodeBlocksModel" y_M_look b_M_look 3 none 0 := ⟨k_287, k_289, ks_10, k_5, k_290, rfl, by decide +kernel, by decide +kernel, by decide +kernel⟩
theorem cs_law_34 : VWk "CodeBlocksLaw" 34 "CodeBlocksModel" y_M_state b_M_state 1 (some .int) 0 := ⟨k_292, k_293, k_294, k_5, k_295, rfl, by decide +kernel, by decide +kernel, by decide +kernel⟩
theorem cs_law_39 : VWk "CodeBlocksLaw" 39 "CodeBlocksModel" y_M_count b_M_count 2 (some .int) 1 := ⟨k_296, k_297, k_298, k_5, k_299, rfl, by decide +kernel, by decide +kernel, by decide +kernel⟩
theorem cs_law_43 : VWk "CodeBlocksLaw" 43 "CodeBlocksModel" y_M_size b_M_size 1 (some .int) 0 := ⟨k_300, k_301, k_302, k_5, k_303, rfl, by decide +kernel, by decide +kernel, by decide +kernel⟩
theorem cs_law_47 : VWk "CodeBlocksLaw" 47 "CodeBlocksModel" y_M_byteAt b_M_byteAt 2 (some .int) 1 := ⟨k_304, k_305, k_306, k_5, k_307, rfl, by decide +kernel, by decide +kernel, by decide +kernel⟩
theorem cs_law_51 : VWk "CodeBlocksLaw" 51 "CodeBlocksModel" y_M_put b_M_put 2 (some .int) 1 := ⟨k_308, k_309, k_310, k_5, k_311, rfl, by decide +kernel, by decide +kernel, by decide +kernel⟩
theorem cs_law_55 : VWk "CodeBlocksLaw" 55 "CodeBlocksModel" y_M_send b_M_send 3 (some .int) 0 := ⟨k_312, k_313, k_314, k_5, k_315, rfl, by decide +kernel, by decide +kernel, by decide +kernel⟩
theorem cs_M_80 : VWk "CodeBlocksModel" 80 "CodeBlocksModel" y_M_out b_M_out 2 none 1 := ⟨k_316, k_318, ks_11, k_5, k_319, rfl, by decide +kernel, by decide +kernel, by decide +kernel⟩
theorem cs_M_83 : VWk "CodeBlocksModel" 83 "CodeBlocksModel" y_M_check b_M_check 7 (some .int) 1 := ⟨k_320, k_322, ks_12, k_5, k_323, rfl, by decide +kernel, by decide +kernel, by decide +kernel⟩
theorem cs_law_59 : VWk "CodeBlocksLaw" 59 "CodeBlocksModel" y_M_sent b_M_sent 2 (some .int) 1 := ⟨k_324, k_325, k_326, k_5, k_327, rfl, by decide +kernel, by decide +kernel, by decide +kernel⟩
end
section
theorem d_X_init_0 : decode b_X_init 0 = .ok (.aload_n 0, 1) := by decide +kernel
theorem d_X_init_1 : decode b_X_init 1 = .ok (.invokespecial 1, 3) := by decide +kernel
theorem d_X_init_4 : decode b_X_init 4 = .ok (.aload_n 0, 1) := by decide +kernel
theorem d_X_init_5 : decode b_X_init 5 = .ok (.new 7, 3) := by decide +kernel
theorem d_X_init_8 : decode b_X_init 8 = .ok (.dup, 1) := by decide +kernel
theorem d_X_init_9 : decode b_X_init 9 = .ok (.new 9, 3) := by decide +kernel
theorem d_X_init_12 : decode b_X_init 12 = .ok (.dup, 1) := by decide +kernel
theorem d_X_init_13 : decode b_X_init 13 = .ok (.invokespecial 11, 3) := by decide +kernel
theorem d_X_init_16 : decode b_X_init 16 = .ok (.invokespecial 12, 3) := by decide +kernel
theorem d_X_init_19 : decode b_X_init 19 = .ok (.putfield 15, 3) := by decide +kernel
theorem d_X_init_22 : decode b_X_init 22 = .ok (.aload_n 0, 1) := by decide +kernel
theorem d_X_init_23 : decode b_X_init 23 = .ok (.new 21, 3) := by decide +kernel
theorem d_X_init_26 : decode b_X_init 26 = .ok (.dup, 1) := by decide +kernel
theorem d_X_init_27 : decode b_X_init 27 = .ok (.invokespecial 23, 3) := by decide +kernel
theorem d_X_init_30 : decode b_X_init 30 = .ok (.putfield 24, 3) := by decide +kernel
theorem d_X_init_33 : decode b_X_init 33 = .ok (.return_, 1) := by decide +kernel
theorem d_X_turn_0 : decode b_X_turn 0 = .ok (.iload_n 1, 1) := by decide +kernel
theorem d_X_turn_1 : decode b_X_turn 1 = .ok (.aload_n 0, 1) := by decide +kernel
theorem d_X_turn_2 : decode b_X_turn 2 = .ok (.getfield 15, 3) := by decide +kernel
theorem d_X_turn_5 : decode b_X_turn 5 = .ok (.getfield 28, 3) := by decide +kernel
theorem d_X_turn_8 : decode b_X_turn 8 = .ok (.ifCond .eq 7, 3) := by decide +kernel
theorem d_X_turn_11 : decode b_X_turn 11 = .ok (.iconst 1, 1) := by decide +kernel
theorem d_X_turn_12 : decode b_X_turn 12 = .ok (.goto 4, 3) := by decide +kernel
theorem d_X_turn_15 : decode b_X_turn 15 = .ok (.iconst 0, 1) := by decide +kernel
theorem d_X_turn_16 : decode b_X_turn 16 = .ok (.if_icmp .ne 5, 3) := by decide +kernel
theorem d_X_turn_19 : decode b_X_turn 19 = .ok (.iconst 0, 1) := by decide +kernel
theorem d_X_turn_20 : decode b_X_turn 20 = .ok (.ireturn, 1) := by decide +kernel
theorem d_X_turn_21 : decode b_X_turn 21 = .ok (.aload_n 0, 1) := by decide +kernel
theorem d_X_turn_22 : decode b_X_turn 22 = .ok (.getfield 15, 3) := by decide +kernel
theorem d_X_turn_25 : decode b_X_turn 25 = .ok (.invokevirtual 32, 3) := by decide +kernel
theorem d_X_turn_28 : decode b_X_turn 28 = .ok (.iload_n 1, 1) := by decide +kernel
theorem d_X_turn_29 : decode b_X_turn 29 = .ok (.ifCond .ne 11, 3) := by decide +kernel
theorem d_X_turn_32 : decode b_X_turn 32 = .ok (.aload_n 0, 1) := by decide +kernel
theorem d_X_turn_33 : decode b_X_turn 33 = .ok (.getfield 15, 3) := by decide +kernel
theorem d_X_turn_36 : decode b_X_turn 36 = .ok (.iconst 0, 1) := by decide +kernel
theorem d_X_turn_37 : decode b_X_turn 37 = .ok (.putfield 28, 3) := by decide +kernel
theorem d_X_turn_40 : decode b_X_turn 40 = .ok (.iconst 1, 1) := by decide +kernel
theorem d_X_turn_41 : decode b_X_turn 41 = .ok (.ireturn, 1) := by decide +kernel
theorem d_X_mending_0 : decode b_X_mending 0 = .ok (.aload_n 0, 1) := by decide +kernel
theorem d_X_mending_1 : decode b_X_mending 1 = .ok (.getfield 15, 3) := by decide +kernel
theorem d_X_mending_4 : decode b_X_mending 4 = .ok (.iload_n 1, 1) := by decide +kernel
theorem d_X_mending_5 : decode b_X_mending 5 = .ok (.putfield 35, 3) := by decide +kernel
theorem d_X_mending_8 : decode b_X_mending 8 = .ok (.return_, 1) := by decide +kernel
theorem d_X_take_0 : decode b_X_take 0 = .ok (.aload_n 0, 1) := by decide +kernel
theorem d_X_take_1 : decode b_X_take 1 = .ok (.getfield 15, 3) := by decide +kernel
theorem d_X_take_4 : decode b_X_take 4 = .ok (.getfield 28, 3) := by decide +kernel
theorem d_X_take_7 : decode b_X_take 7 = .ok (.ifCond .eq 14, 3) := by decide +kernel
theorem d_X_take_10 : decode b_X_take 10 = .ok (.iload_n 1, 1) := by decide +kernel
theorem d_X_take_11 : decode b_X_take 11 = .ok (.iconst 1, 1) := by decide +kernel
theorem d_X_take_12 : decode b_X_take 12 = .ok (.if_icmp .lt 9, 3) := by decide +kernel
theorem d_X_take_15 : decode b_X_take 15 = .ok (.iload_n 1, 1) := by decide +kernel
theorem d_X_take_16 : decode b_X_take 16 = .ok (.bipush 64, 2) := by decide +kernel
theorem d_X_take_18 : decode b_X_take 18 = .ok (.if_icmp .le 5, 3) := by decide +kernel
theorem d_X_take_21 : decode b_X_take 21 = .ok (.iconst (-1), 1) := by decide +kernel
theorem d_X_take_22 : decode b_X_take 22 = .ok (.ireturn, 1) := by decide +kernel
theorem d_X_take_23 : decode b_X_take 23 = .ok (.aload_n 0, 1) := by decide +kernel
theorem d_X_take_24 : decode b_X_take 24 = .ok (.getfield 15, 3) := by decide +kernel
theorem d_X_take_27 : decode b_X_take 27 = .ok (.getfield 39, 3) := by decide +kernel
theorem d_X_take_30 : decode b_X_take 30 = .ok (.istore 4, 2) := by decide +kernel
theorem d_X_take_32 : decode b_X_take 32 = .ok (.iload_n 1, 1) := by decide +kernel
theorem d_X_take_33 : decode b_X_take 33 = .ok (.iconst 1, 1) := by decide +kernel
theorem d_X_take_34 : decode b_X_take 34 = .ok (.isub, 1) := by decide +kernel
theorem d_X_take_35 : decode b_X_take 35 = .ok (.istore 5, 2) := by decide +kernel
theorem d_X_take_37 : decode b_X_take 37 = .ok (.iload 5, 2) := by decide +kernel
theorem d_X_take_39 : decode b_X_take 39 = .ok (.ifCond .lt 25, 3) := by decide +kernel
theorem d_X_take_42 : decode b_X_take 42 = .ok (.aload_n 0, 1) := by decide +kernel
theorem d_X_take_43 : decode b_X_take 43 = .ok (.getfield 15, 3) := by decide +kernel
theorem d_X_take_46 : decode b_X_take 46 = .ok (.lload_n 2, 1) := by decide +kernel
theorem d_X_take_47 : decode b_X_take 47 = .ok (.iload 5, 2) := by decide +kernel
theorem d_X_take_49 : decode b_X_take 49 = .ok (.lushr, 1) := by decide +kernel
theorem d_X_take_50 : decode b_X_take 50 = .ok (.l2i, 1) := by decide +kernel
theorem d_X_take_51 : decode b_X_take 51 = .ok (.iconst 1, 1) := by decide +kernel
theorem d_X_take_52 : decode b_X_take 52 = .ok (.iand, 1) := by decide +kernel
theorem d_X_take_53 : decode b_X_take 53 = .ok (.invokevirtual 42, 3) := by decide +kernel
theorem d_X_take_56 : decode b_X_take 56 = .ok (.istore 6, 2) := by decide +kernel
theorem d_X_take_58 : decode b_X_take 58 = .ok (.iinc 5 (-1), 3) := by decide +kernel
theorem d_X_take_61 : decode b_X_take 61 = .ok (.goto (-24), 3) := by decide +kernel
theorem d_X_take_64 : decode b_X_take 64 = .ok (.aload_n 0, 1) := by decide +kernel
theorem d_X_take_65 : decode b_X_take 65 = .ok (.getfield 15, 3) := by decide +kernel
theorem d_X_take_68 : decode b_X_take 68 = .ok (.getfield 39, 3) := by decide +kernel
theorem d_X_take_71 : decode b_X_take 71 = .ok (.iload 4, 2) := by decide +kernel
theorem d_X_take_73 : decode b_X_take 73 = .ok (.isub, 1) := by decide +kernel
theorem d_X_take_74 : decode b_X_take 74 = .ok (.ireturn, 1) := by decide +kernel
theorem d_X_state_0 : decode b_X_state 0 = .ok (.aload_n 0, 1) := by decide +kernel
theorem d_X_state_1 : decode b_X_state 1 = .ok (.getfield 15, 3) := by decide +kernel
theorem d_X_state_4 : decode b_X_state 4 = .ok (.getfield 28, 3) := by decide +kernel
theorem d_X_state_7 : decode b_X_state 7 = .ok (.ireturn, 1) := by decide +kernel
theorem d_X_count_0 : decode b_X_count 0 = .ok (.iload_n 1, 1) := by decide +kernel
theorem d_X_count_1 : decode b_X_count 1 = .ok (.tableswitch 75 0 4 #[35, 43, 51, 59, 67], 35) := by decide +kernel
theorem d_X_count_36 : decode b_X_count 36 = .ok (.aload_n 0, 1) := by decide +kernel
theorem d_X_count_37 : decode b_X_count 37 = .ok (.getfield 15, 3) := by decide +kernel
theorem d_X_count_40 : decode b_X_count 40 = .ok (.getfield 46, 3) := by decide +kernel
theorem d_X_count_43 : decode b_X_count 43 = .ok (.ireturn, 1) := by decide +kernel
theorem d_X_count_44 : decode b_X_count 44 = .ok (.aload_n 0, 1) := by decide +kernel
theorem d_X_count_45 : decode b_X_count 45 = .ok (.getfield 15, 3) := by decide +kernel
theorem d_X_count_48 : decode b_X_count 48 = .ok (.getfield 39, 3) := by decide +kernel
theorem d_X_count_51 : decode b_X_count 51 = .ok (.ireturn, 1) := by decide +kernel
theorem d_X_count_52 : decode b_X_count 52 = .ok (.aload_n 0, 1) := by decide +kernel
theorem d_X_count_53 : decode b_X_count 53 = .ok (.getfield 15, 3) := by decide +kernel
theorem d_X_count_56 : decode b_X_count 56 = .ok (.getfield 49, 3) := by decide +kernel
theorem d_X_count_59 : decode b_X_count 59 = .ok (.ireturn, 1) := by decide +kernel
theorem d_X_count_60 : decode b_X_count 60 = .ok (.aload_n 0, 1) := by decide +kernel
theorem d_X_count_61 : decode b_X_count 61 = .ok (.getfield 15, 3) := by decide +kernel
theorem d_X_count_64 : decode b_X_count 64 = .ok (.getfield 52, 3) := by decide +kernel
theorem d_X_count_67 : decode b_X_count 67 = .ok (.ireturn, 1) := by decide +kernel
theorem d_X_count_68 : decode b_X_count 68 = .ok (.aload_n 0, 1) := by decide +kernel
theorem d_X_count_69 : decode b_X_count 69 = .ok (.getfield 15, 3) := by decide +kernel
theorem d_X_count_72 : decode b_X_count 72 = .ok (.getfield 55, 3) := by decide +kernel
theorem d_X_count_75 : decode b_X_count 75 = .ok (.ireturn, 1) := by decide +kernel
theorem d_X_count_76 : decode b_X_count 76 = .ok (.iconst (-1), 1) := by decide +kernel
theorem d_X_count_77 : decode b_X_count 77 = .ok (.ireturn, 1) := by decide +kernel
theorem d_X_size_0 : decode b_X_size 0 = .ok (.aload_n 0, 1) := by decide +kernel
theorem d_X_size_1 : decode b_X_size 1 = .ok (.getfield 15, 3) := by decide +kernel
theorem d_X_size_4 : decode b_X_size 4 = .ok (.getfield 58, 3) := by decide +kernel
theorem d_X_size_7 : decode b_X_size 7 = .ok (.ireturn, 1) := by decide +kernel
theorem d_X_byteAt_0 : decode b_X_byteAt 0 = .ok (.iload_n 1, 1) := by decide +kernel
theorem d_X_byteAt_1 : decode b_X_byteAt 1 = .ok (.ifCond .lt 14, 3) := by decide +kernel
theorem d_X_byteAt_4 : decode b_X_byteAt 4 = .ok (.iload_n 1, 1) := by decide +kernel
theorem d_X_byteAt_5 : decode b_X_byteAt 5 = .ok (.aload_n 0, 1) := by decide +kernel
theorem d_X_byteAt_6 : decode b_X_byteAt 6 = .ok (.getfield 15, 3) := by decide +kernel
theorem d_X_byteAt_9 : decode b_X_byteAt 9 = .ok (.getfield 58, 3) := by decide +kernel
theorem d_X_byteAt_12 : decode b_X_byteAt 12 = .ok (.if_icmp .lt 7, 3) := by decide +kernel
theorem d_X_byteAt_15 : decode b_X_byteAt 15 = .ok (.iconst (-1), 1) := by decide +kernel
theorem d_X_byteAt_16 : decode b_X_byteAt 16 = .ok (.goto 16, 3) := by decide +kernel
theorem d_X_byteAt_19 : decode b_X_byteAt 19 = .ok (.aload_n 0, 1) := by decide +kernel
theorem d_X_byteAt_20 : decode b_X_byteAt 20 = .ok (.getfield 15, 3) := by decide +kernel
theorem d_X_byteAt_23 : decode b_X_byteAt 23 = .ok (.getfield 61, 3) := by decide +kernel
theorem d_X_byteAt_26 : decode b_X_byteAt 26 = .ok (.iload_n 1, 1) := by decide +kernel
theorem d_X_byteAt_27 : decode b_X_byteAt 27 = .ok (.baload, 1) := by decide +kernel
theorem d_X_byteAt_28 : decode b_X_byteAt 28 = .ok (.sipush 255, 3) := by decide +kernel
theorem d_X_byteAt_31 : decode b_X_byteAt 31 = .ok (.iand, 1) := by decide +kernel
theorem d_X_byteAt_32 : decode b_X_byteAt 32 = .ok (.ireturn, 1) := by decide +kernel
theorem d_X_put_0 : decode b_X_put 0 = .ok (.aload_n 0, 1) := by decide +kernel
theorem d_X_put_1 : decode b_X_put 1 = .ok (.getfield 24, 3) := by decide +kernel
theorem d_X_put_4 : decode b_X_put 4 = .ok (.iload_n 1, 1) := by decide +kernel
theorem d_X_put_5 : decode b_X_put 5 = .ok (.invokevirtual 65, 3) := by decide +kernel
theorem d_X_put_8 : decode b_X_put 8 = .ok (.ireturn, 1) := by decide +kernel
theorem d_X_send_0 : decode b_X_send 0 = .ok (.aload_n 0, 1) := by decide +kernel
theorem d_X_send_1 : decode b_X_send 1 = .ok (.getfield 24, 3) := by decide +kernel
theorem d_X_send_4 : decode b_X_send 4 = .ok (.invokevirtual 69, 3) := by decide +kernel
theorem d_X_send_7 : decode b_X_send 7 = .ok (.ireturn, 1) := by decide +kernel
theorem d_X_sent_0 : decode b_X_sent 0 = .ok (.iload_n 1, 1) := by decide +kernel
theorem d_X_sent_1 : decode b_X_sent 1 = .ok (.ifCond .lt 14, 3) := by decide +kernel
theorem d_X_sent_4 : decode b_X_sent 4 = .ok (.iload_n 1, 1) := by decide +kernel
theorem d_X_sent_5 : decode b_X_sent 5 = .ok (.aload_n 0, 1) := by decide +kernel
theorem d_X_sent_6 : decode b_X_sent 6 = .ok (.getfield 24, 3) := by decide +kernel
theorem d_X_sent_9 : decode b_X_sent 9 = .ok (.getfield 73, 3) := by decide +kernel
theorem d_X_sent_12 : decode b_X_sent 12 = .ok (.if_icmp .lt 7, 3) := by decide +kernel
theorem d_X_sent_15 : decode b_X_sent 15 = .ok (.iconst (-1), 1) := by decide +kernel
theorem d_X_sent_16 : decode b_X_sent 16 = .ok (.goto 16, 3) := by decide +kernel
theorem d_X_sent_19 : decode b_X_sent 19 = .ok (.aload_n 0, 1) := by decide +kernel
theorem d_X_sent_20 : decode b_X_sent 20 = .ok (.getfield 24, 3) := by decide +kernel
theorem d_X_sent_23 : decode b_X_sent 23 = .ok (.getfield 74, 3) := by decide +kernel
theorem d_X_sent_26 : decode b_X_sent 26 = .ok (.iload_n 1, 1) := by decide +kernel
theorem d_X_sent_27 : decode b_X_sent 27 = .ok (.baload, 1) := by decide +kernel
theorem d_X_sent_28 : decode b_X_sent 28 = .ok (.sipush 255, 3) := by decide +kernel
theorem d_X_sent_31 : decode b_X_sent 31 = .ok (.iand, 1) := by decide +kernel
theorem d_X_sent_32 : decode b_X_sent 32 = .ok (.ireturn, 1) := by decide +kernel
theorem d_C_init_0 : decode b_C_init 0 = .ok (.aload_n 0, 1) := by decide +kernel
theorem d_C_init_1 : decode b_C_init 1 = .ok (.invokespecial 3, 3) := by decide +kernel
theorem d_C_init_4 : decode b_C_init 4 = .ok (.aload_n 0, 1) := by decide +kernel
theorem d_C_init_5 : decode b_C_init 5 = .ok (.sipush 128, 3) := by decide +kernel
theorem d_C_init_8 : decode b_C_init 8 = .ok (.newarray .byte, 2) := by decide +kernel
theorem d_C_init_10 : decode b_C_init 10 = .ok (.putfield 11, 3) := by decide +kernel
theorem d_C_init_13 : decode b_C_init 13 = .ok (.iconst 1, 1) := by decide +kernel
theorem d_C_init_14 : decode b_C_init 14 = .ok (.istore_n 1, 1) := by decide +kernel
theorem d_C_init_15 : decode b_C_init 15 = .ok (.iload_n 1, 1) := by decide +kernel
theorem d_C_init_16 : decode b_C_init 16 = .ok (.aload_n 0, 1) := by decide +kernel
theorem d_C_init_17 : decode b_C_init 17 = .ok (.getfield 11, 3) := by decide +kernel
theorem d_C_init_20 : decode b_C_init 20 = .ok (.arraylength, 1) := by decide +kernel
theorem d_C_init_21 : decode b_C_init 21 = .ok (.if_icmp .ge 17, 3) := by decide +kernel
theorem d_C_init_24 : decode b_C_init 24 = .ok (.aload_n 0, 1) := by decide +kernel
theorem d_C_init_25 : decode b_C_init 25 = .ok (.getfield 11, 3) := by decide +kernel
theorem d_C_init_28 : decode b_C_init 28 = .ok (.iload_n 1, 1) := by decide +kernel
theorem d_C_init_29 : decode b_C_init 29 = .ok (.bipush (-2), 2) := by decide +kernel
theorem d_C_init_31 : decode b_C_init 31 = .ok (.bastore, 1) := by decide +kernel
theorem d_C_init_32 : decode b_C_init 32 = .ok (.iinc 1 1, 3) := by decide +kernel
theorem d_C_init_35 : decode b_C_init 35 = .ok (.goto (-20), 3) := by decide +kernel
theorem d_C_init_38 : decode b_C_init 38 = .ok (.aload_n 0, 1) := by decide +kernel
theorem d_C_init_39 : decode b_C_init 39 = .ok (.getfield 11, 3) := by decide +kernel
theorem d_C_init_42 : decode b_C_init 42 = .ok (.iconst 0, 1) := by decide +kernel
theorem d_C_init_43 : decode b_C_init 43 = .ok (.iconst (-1), 1) := by decide +kernel
theorem d_C_init_44 : decode b_C_init 44 = .ok (.bastore, 1) := by decide +kernel
theorem d_C_init_45 : decode b_C_init 45 = .ok (.iconst 1, 1) := by decide +kernel
theorem d_C_init_46 : decode b_C_init 46 = .ok (.istore_n 1, 1) := by decide +kernel
theorem d_C_init_47 : decode b_C_init 47 = .ok (.iconst 0, 1) := by decide +kernel
theorem d_C_init_48 : decode b_C_init 48 = .ok (.istore_n 2, 1) := by decide +kernel
theorem d_C_init_49 : decode b_C_init 49 = .ok (.iload_n 2, 1) := by decide +kernel
theorem d_C_init_50 : decode b_C_init 50 = .ok (.bipush 63, 2) := by decide +kernel
theorem d_C_init_52 : decode b_C_init 52 = .ok (.if_icmp .ge 23, 3) := by decide +kernel
theorem d_C_init_55 : decode b_C_init 55 = .ok (.aload_n 0, 1) := by decide +kernel
theorem d_C_init_56 : decode b_C_init 56 = .ok (.getfield 11, 3) := by decide +kernel
theorem d_C_init_59 : decode b_C_init 59 = .ok (.iload_n 1, 1) := by decide +kernel
theorem d_C_init_60 : decode b_C_init 60 = .ok (.iload_n 2, 1) := by decide +kernel
theorem d_C_init_61 : decode b_C_init 61 = .ok (.i2b, 1) := by decide +kernel
theorem d_C_init_62 : decode b_C_init 62 = .ok (.bastore, 1) := by decide +kernel
theorem d_C_init_63 : decode b_C_init 63 = .ok (.iload_n 1, 1) := by decide +kernel
theorem d_C_init_64 : decode b_C_init 64 = .ok (.iconst 0, 1) := by decide +kernel
theorem d_C_init_65 : decode b_C_init 65 = .ok (.invokestatic 15, 3) := by decide +kernel
theorem d_C_init_68 : decode b_C_init 68 = .ok (.istore_n 1, 1) := by decide +kernel
theorem d_C_init_69 : decode b_C_init 69 = .ok (.iinc 2 1, 3) := by decide +kernel
theorem d_C_init_72 : decode b_C_init 72 = .ok (.goto (-23), 3) := by decide +kernel
theorem d_C_init_75 : decode b_C_init 75 = .ok (.return_, 1) := by decide +kernel
theorem d_C_step_0 : decode b_C_step 0 = .ok (.iload_n 0, 1) := by decide +kernel
theorem d_C_step_1 : decode b_C_step 1 = .ok (.iconst 1, 1) := by decide +kernel
theorem d_C_step_2 : decode b_C_step 2 = .ok (.ishl, 1) := by decide +kernel
theorem d_C_step_3 : decode b_C_step 3 = .ok (.iload_n 1, 1) := by decide +kernel
theorem d_C_step_4 : decode b_C_step 4 = .ok (.ior, 1) := by decide +kernel
theorem d_C_step_5 : decode b_C_step 5 = .ok (.istore_n 2, 1) := by decide +kernel
theorem d_C_step_6 : decode b_C_step 6 = .ok (.iload_n 2, 1) := by decide +kernel
theorem d_C_step_7 : decode b_C_step 7 = .ok (.sipush 128, 3) := by decide +kernel
theorem d_C_step_10 : decode b_C_step 10 = .ok (.iand, 1) := by decide +kernel
theorem d_C_step_11 : decode b_C_step 11 = .ok (.ifCond .ne 7, 3) := by decide +kernel
theorem d_C_step_14 : decode b_C_step 14 = .ok (.iload_n 2, 1) := by decide +kernel
theorem d_C_step_15 : decode b_C_step 15 = .ok (.goto 10, 3) := by decide +kernel
theorem d_C_step_18 : decode b_C_step 18 = .ok (.iload_n 2, 1) := by decide +kernel
theorem d_C_step_19 : decode b_C_step 19 = .ok (.bipush 69, 2) := by decide +kernel
theorem d_C_step_21 : decode b_C_step 21 = .ok (.ixor, 1) := by decide +kernel
theorem d_C_step_22 : decode b_C_step 22 = .ok (.bipush 127, 2) := by decide +kernel
theorem d_C_step_24 : decode b_C_step 24 = .ok (.iand, 1) := by decide +kernel
theorem d_C_step_25 : decode b_C_step 25 = .ok (.ireturn, 1) := by decide +kernel
theorem d_C_block_0 : decode b_C_block 0 = .ok (.iconst 0, 1) := by decide +kernel
theorem d_C_block_1 : decode b_C_block 1 = .ok (.istore_n 2, 1) := by decide +kernel
theorem d_C_block_2 : decode b_C_block 2 = .ok (.bipush 55, 2) := by decide +kernel
theorem d_C_block_4 : decode b_C_block 4 = .ok (.istore_n 3, 1) := by decide +kernel
theorem d_C_block_5 : decode b_C_block 5 = .ok (.iload_n 3, 1) := by decide +kernel
theorem d_C_block_6 : decode b_C_block 6 = .ok (.ifCond .lt 20, 3) := by decide +kernel
theorem d_C_block_9 : decode b_C_block 9 = .ok (.iload_n 2, 1) := by decide +kernel
theorem d_C_block_10 : decode b_C_block 10 = .ok (.lload_n 0, 1) := by decide +kernel
theorem d_C_block_11 : decode b_C_block 11 = .ok (.iload_n 3, 1) := by decide +kernel
theorem d_C_block_12 : decode b_C_block 12 = .ok (.lshr, 1) := by decide +kernel
theorem d_C_block_13 : decode b_C_block 13 = .ok (.l2i, 1) := by decide +kernel
theorem d_C_block_14 : decode b_C_block 14 = .ok (.iconst 1, 1) := by decide +kernel
theorem d_C_block_15 : decode b_C_block 15 = .ok (.iand, 1) := by decide +kernel
theorem d_C_block_16 : decode b_C_block 16 = .ok (.invokestatic 15, 3) := by decide +kernel
theorem d_C_block_19 : decode b_C_block 19 = .ok (.istore_n 2, 1) := by decide +kernel
theorem d_C_block_20 : decode b_C_block 20 = .ok (.iinc 3 (-1), 3) := by decide +kernel
theorem d_C_block_23 : decode b_C_block 23 = .ok (.goto (-18), 3) := by decide +kernel
theorem d_C_block_26 : decode b_C_block 26 = .ok (.iconst 0, 1) := by decide +kernel
theorem d_C_block_27 : decode b_C_block 27 = .ok (.istore_n 3, 1) := by decide +kernel
theorem d_C_block_28 : decode b_C_block 28 = .ok (.iload_n 3, 1) := by decide +kernel
theorem d_C_block_29 : decode b_C_block 29 = .ok (.bipush 7, 2) := by decide +kernel
theorem d_C_block_31 : decode b_C_block 31 = .ok (.if_icmp .ge 15, 3) := by decide +kernel
theorem d_C_block_34 : decode b_C_block 34 = .ok (.iload_n 2, 1) := by decide +kernel
theorem d_C_block_35 : decode b_C_block 35 = .ok (.iconst 0, 1) := by decide +kernel
theorem d_C_block_36 : decode b_C_block 36 = .ok (.invokestatic 15, 3) := by decide +kernel
theorem d_C_block_39 : decode b_C_block 39 = .ok (.istore_n 2, 1) := by decide +kernel
theorem d_C_block_40 : decode b_C_block 40 = .ok (.iinc 3 1, 3) := by decide +kernel
theorem d_C_block_43 : decode b_C_block 43 = .ok (.goto (-15), 3) := by decide +kernel
theorem d_C_block_46 : decode b_C_block 46 = .ok (.lload_n 0, 1) := by decide +kernel
theorem d_C_block_47 : decode b_C_block 47 = .ok (.bipush 8, 2) := by decide +kernel
theorem d_C_block_49 : decode b_C_block 49 = .ok (.lshl, 1) := by decide +kernel
theorem d_C_block_50 : decode b_C_block 50 = .ok (.iload_n 2, 1) := by decide +kernel
theorem d_C_block_51 : decode b_C_block 51 = .ok (.bipush 127, 2) := by decide +kernel
theorem d_C_block_53 : decode b_C_block 53 = .ok (.ixor, 1) := by decide +kernel
theorem d_C_block_54 : decode b_C_block 54 = .ok (.iconst 1, 1) := by decide +kernel
theorem d_C_block_55 : decode b_C_block 55 = .ok (.ishl, 1) := by decide +kernel
theorem d_C_block_56 : decode b_C_block 56 = .ok (.i2l, 1) := by decide +kernel
theorem d_C_block_57 : decode b_C_block 57 = .ok (.lor, 1) := by decide +kernel
theorem d_C_block_58 : decode b_C_block 58 = .ok (.lreturn, 1) := by decide +kernel
theorem d_C_look_0 : decode b_C_look 0 = .ok (.lload_n 1, 1) := by decide +kernel
theorem d_C_look_1 : decode b_C_look 1 = .ok (.iconst 1, 1) := by decide +kernel
theorem d_C_look_2 : decode b_C_look 2 = .ok (.lushr, 1) := by decide +kernel
theorem d_C_look_3 : decode b_C_look 3 = .ok (.ldc2_w 19, 3) := by decide +kernel
theorem d_C_look_6 : decode b_C_look 6 = .ok (.lxor, 1) := by decide +kernel
theorem d_C_look_7 : decode b_C_look 7 = .ok (.lstore_n 3, 1) := by decide +kernel
theorem d_C_look_8 : decode b_C_look 8 = .ok (.iconst 0, 1) := by decide +kernel
theorem d_C_look_9 : decode b_C_look 9 = .ok (.istore 5, 2) := by decide +kernel
theorem d_C_look_11 : decode b_C_look 11 = .ok (.bipush 62, 2) := by decide +kernel
theorem d_C_look_13 : decode b_C_look 13 = .ok (.istore 6, 2) := by decide +kernel
theorem d_C_look_15 : decode b_C_look 15 = .ok (.iload 6, 2) := by decide +kernel
theorem d_C_look_17 : decode b_C_look 17 = .ok (.ifCond .lt 23, 3) := by decide +kernel
theorem d_C_look_20 : decode b_C_look 20 = .ok (.iload 5, 2) := by decide +kernel
theorem d_C_look_22 : decode b_C_look 22 = .ok (.lload_n 3, 1) := by decide +kernel
theorem d_C_look_23 : decode b_C_look 23 = .ok (.iload 6, 2) := by decide +kernel
theorem d_C_look_25 : decode b_C_look 25 = .ok (.lshr, 1) := by decide +kernel
theorem d_C_look_26 : decode b_C_look 26 = .ok (.l2i, 1) := by decide +kernel
theorem d_C_look_27 : decode b_C_look 27 = .ok (.iconst 1, 1) := by decide +kernel
theorem d_C_look_28 : decode b_C_look 28 = .ok (.iand, 1) := by decide +kernel
theorem d_C_look_29 : decode b_C_look 29 = .ok (.invokestatic 15, 3) := by decide +kernel
theorem d_C_look_32 : decode b_C_look 32 = .ok (.istore 5, 2) := by decide +kernel
theorem d_C_look_34 : decode b_C_look 34 = .ok (.iinc 6 (-1), 3) := by decide +kernel
theorem d_C_look_37 : decode b_C_look 37 = .ok (.goto (-22), 3) := by decide +kernel
theorem d_C_look_40 : decode b_C_look 40 = .ok (.aload_n 0, 1) := by decide +kernel
theorem d_C_look_41 : decode b_C_look 41 = .ok (.getfield 11, 3) := by decide +kernel
theorem d_C_look_44 : decode b_C_look 44 = .ok (.iload 5, 2) := by decide +kernel
theorem d_C_look_46 : decode b_C_look 46 = .ok (.baload, 1) := by decide +kernel
theorem d_C_look_47 : decode b_C_look 47 = .ok (.ireturn, 1) := by decide +kernel
theorem d_C_data_0 : decode b_C_data 0 = .ok (.iload_n 2, 1) := by decide +kernel
theorem d_C_data_1 : decode b_C_data 1 = .ok (.bipush 7, 2) := by decide +kernel
theorem d_C_data_3 : decode b_C_data 3 = .ok (.if_icmp .lt 13, 3) := by decide +kernel
theorem d_C_data_6 : decode b_C_data 6 = .ok (.lload_n 0, 1) := by decide +kernel
theorem d_C_data_7 : decode b_C_data 7 = .ok (.lconst 1, 1) := by decide +kernel
theorem d_C_data_8 : decode b_C_data 8 = .ok (.iload_n 2, 1) := by decide +kernel
theorem d_C_data_9 : decode b_C_data 9 = .ok (.iconst 1, 1) := by decide +kernel
theorem d_C_data_10 : decode b_C_data 10 = .ok (.iadd, 1) := by decide +kernel
theorem d_C_data_11 : decode b_C_data 11 = .ok (.lshl, 1) := by decide +kernel
theorem d_C_data_12 : decode b_C_data 12 = .ok (.lxor, 1) := by decide +kernel
theorem d_C_data_13 : decode b_C_data 13 = .ok (.goto 4, 3) := by decide +kernel
theorem d_C_data_16 : decode b_C_data 16 = .ok (.lload_n 0, 1) := by decide +kernel
theorem d_C_data_17 : decode b_C_data 17 = .ok (.lstore_n 3, 1) := by decide +kernel
theorem d_C_data_18 : decode b_C_data 18 = .ok (.lload_n 3, 1) := by decide +kernel
theorem d_C_data_19 : decode b_C_data 19 = .ok (.bipush 8, 2) := by decide +kernel
theorem d_C_data_21 : decode b_C_data 21 = .ok (.lushr, 1) := by decide +kernel
theorem d_C_data_22 : decode b_C_data 22 = .ok (.lreturn, 1) := by decide +kernel
end
section
theorem d_R_init_0 : decode b_R_init 0 = .ok (.aload_n 0, 1) := by decide +kernel
theorem d_R_init_1 : decode b_R_init 1 = .ok (.invokespecial 1, 3) := by decide +kernel
theorem d_R_init_4 : decode b_R_init 4 = .ok (.aload_n 0, 1) := by decide +kernel
theorem d_R_init_5 : decode b_R_init 5 = .ok (.sipush 259, 3) := by decide +kernel
theorem d_R_init_8 : decode b_R_init 8 = .ok (.newarray .byte, 2) := by decide +kernel
theorem d_R_init_10 : decode b_R_init 10 = .ok (.putfield 9, 3) := by decide +kernel
theorem d_R_init_13 : decode b_R_init 13 = .ok (.aload_n 0, 1) := by decide +kernel
theorem d_R_init_14 : decode b_R_init 14 = .ok (.sipush 259, 3) := by decide +kernel
theorem d_R_init_17 : decode b_R_init 17 = .ok (.newarray .byte, 2) := by decide +kernel
theorem d_R_init_19 : decode b_R_init 19 = .ok (.putfield 13, 3) := by decide +kernel
theorem d_R_init_22 : decode b_R_init 22 = .ok (.aload_n 0, 1) := by decide +kernel
theorem d_R_init_23 : decode b_R_init 23 = .ok (.aload_n 1, 1) := by decide +kernel
theorem d_R_init_24 : decode b_R_init 24 = .ok (.putfield 16, 3) := by decide +kernel
theorem d_R_init_27 : decode b_R_init 27 = .ok (.return_, 1) := by decide +kernel
theorem d_R_search_0 : decode b_R_search 0 = .ok (.aload_n 0, 1) := by decide +kernel
theorem d_R_search_1 : decode b_R_search 1 = .ok (.iconst 1, 1) := by decide +kernel
theorem d_R_search_2 : decode b_R_search 2 = .ok (.putfield 20, 3) := by decide +kernel
theorem d_R_search_5 : decode b_R_search 5 = .ok (.aload_n 0, 1) := by decide +kernel
theorem d_R_search_6 : decode b_R_search 6 = .ok (.iconst 0, 1) := by decide +kernel
theorem d_R_search_7 : decode b_R_search 7 = .ok (.putfield 24, 3) := by decide +kernel
theorem d_R_search_10 : decode b_R_search 10 = .ok (.aload_n 0, 1) := by decide +kernel
theorem d_R_search_11 : decode b_R_search 11 = .ok (.iconst 0, 1) := by decide +kernel
theorem d_R_search_12 : decode b_R_search 12 = .ok (.putfield 27, 3) := by decide +kernel
theorem d_R_search_15 : decode b_R_search 15 = .ok (.return_, 1) := by decide +kernel
theorem d_R_take_0 : decode b_R_take 0 = .ok (.aload_n 0, 1) := by decide +kernel
theorem d_R_take_1 : decode b_R_take 1 = .ok (.aload_n 0, 1) := by decide +kernel
theorem d_R_take_2 : decode b_R_take 2 = .ok (.getfield 30, 3) := by decide +kernel
theorem d_R_take_5 : decode b_R_take 5 = .ok (.iconst 1, 1) := by decide +kernel
theorem d_R_take_6 : decode b_R_take 6 = .ok (.lshl, 1) := by decide +kernel
theorem d_R_take_7 : decode b_R_take 7 = .ok (.iload_n 1, 1) := by decide +kernel
theorem d_R_take_8 : decode b_R_take 8 = .ok (.i2l, 1) := by decide +kernel
theorem d_R_take_9 : decode b_R_take 9 = .ok (.lor, 1) := by decide +kernel
theorem d_R_take_10 : decode b_R_take 10 = .ok (.putfield 30, 3) := by decide +kernel
theorem d_R_take_13 : decode b_R_take 13 = .ok (.aload_n 0, 1) := by decide +kernel
theorem d_R_take_14 : decode b_R_take 14 = .ok (.aload_n 0, 1) := by decide +kernel
theorem d_R_take_15 : decode b_R_take 15 = .ok (.getfield 24, 3) := by decide +kernel
theorem d_R_take_18 : decode b_R_take 18 = .ok (.bipush 64, 2) := by decide +kernel
theorem d_R_take_20 : decode b_R_take 20 = .ok (.if_icmp .ge 12, 3) := by decide +kernel
theorem d_R_take_23 : decode b_R_take 23 = .ok (.aload_n 0, 1) := by decide +kernel
theorem d_R_take_24 : decode b_R_take 24 = .ok (.getfield 24, 3) := by decide +kernel
theorem d_R_take_27 : decode b_R_take 27 = .ok (.iconst 1, 1) := by decide +kernel
theorem d_R_take_28 : decode b_R_take 28 = .ok (.iadd, 1) := by decide +kernel
theorem d_R_take_29 : decode b_R_take 29 = .ok (.goto 7, 3) := by decide +kernel
theorem d_R_take_32 : decode b_R_take 32 = .ok (.aload_n 0, 1) := by decide +kernel
theorem d_R_take_33 : decode b_R_take 33 = .ok (.getfield 24, 3) := by decide +kernel
theorem d_R_take_36 : decode b_R_take 36 = .ok (.putfield 24, 3) := by decide +kernel
theorem d_R_take_39 : decode b_R_take 39 = .ok (.aload_n 0, 1) := by decide +kernel
theorem d_R_take_40 : decode b_R_take 40 = .ok (.getfield 20, 3) := by decide +kernel
theorem d_R_take_43 : decode b_R_take 43 = .ok (.iconst 2, 1) := by decide +kernel
theorem d_R_take_44 : decode b_R_take 44 = .ok (.if_icmp .ne 25, 3) := by decide +kernel
theorem d_R_take_47 : decode b_R_take 47 = .ok (.aload_n 0, 1) := by decide +kernel
theorem d_R_take_48 : decode b_R_take 48 = .ok (.getfield 24, 3) := by decide +kernel
theorem d_R_take_51 : decode b_R_take 51 = .ok (.bipush 64, 2) := by decide +kernel
theorem d_R_take_53 : decode b_R_take 53 = .ok (.if_icmp .ne 14, 3) := by decide +kernel
theorem d_R_take_56 : decode b_R_take 56 = .ok (.aload_n 0, 1) := by decide +kernel
theorem d_R_take_57 : decode b_R_take 57 = .ok (.invokevirtual 34, 3) := by decide +kernel
theorem d_R_take_60 : decode b_R_take 60 = .ok (.ifCond .eq 7, 3) := by decide +kernel
theorem d_R_take_63 : decode b_R_take 63 = .ok (.iconst 1, 1) := by decide +kernel
theorem d_R_take_64 : decode b_R_take 64 = .ok (.goto 4, 3) := by decide +kernel
theorem d_R_take_67 : decode b_R_take 67 = .ok (.iconst 0, 1) := by decide +kernel
theorem d_R_take_68 : decode b_R_take 68 = .ok (.ireturn, 1) := by decide +kernel
theorem d_R_take_69 : decode b_R_take 69 = .ok (.aload_n 0, 1) := by decide +kernel
theorem d_R_take_70 : decode b_R_take 70 = .ok (.getfield 24, 3) := by decide +kernel
theorem d_R_take_73 : decode b_R_take 73 = .ok (.bipush 16, 2) := by decide +kernel
theorem d_R_take_75 : decode b_R_take 75 = .ok (.if_icmp .lt 7, 3) := by decide +kernel
theorem d_R_take_78 : decode b_R_take 78 = .ok (.aload_n 0, 1) := by decide +kernel
theorem d_R_take_79 : decode b_R_take 79 = .ok (.invokevirtual 38, 3) := by decide +kernel
theorem d_R_take_82 : decode b_R_take 82 = .ok (.iconst 0, 1) := by decide +kernel
theorem d_R_take_83 : decode b_R_take 83 = .ok (.ireturn, 1) := by decide +kernel
theorem d_R_mark_0 : decode b_R_mark 0 = .ok (.aload_n 0, 1) := by decide +kernel
theorem d_R_mark_1 : decode b_R_mark 1 = .ok (.getfield 30, 3) := by decide +kernel
theorem d_R_mark_4 : decode b_R_mark 4 = .ok (.l2i, 1) := by decide +kernel
theorem d_R_mark_5 : decode b_R_mark 5 = .ok (.ldc 41, 2) := by decide +kernel
theorem d_R_mark_7 : decode b_R_mark 7 = .ok (.iand, 1) := by decide +kernel
theorem d_R_mark_8 : decode b_R_mark 8 = .ok (.ldc 42, 2) := by decide +kernel
theorem d_R_mark_10 : decode b_R_mark 10 = .ok (.ixor, 1) := by decide +kernel
theorem d_R_mark_11 : decode b_R_mark 11 = .ok (.istore_n 1, 1) := by decide +kernel
theorem d_R_mark_12 : decode b_R_mark 12 = .ok (.iload_n 1, 1) := by decide +kernel
theorem d_R_mark_13 : decode b_R_mark 13 = .ok (.iload_n 1, 1) := by decide +kernel
theorem d_R_mark_14 : decode b_R_mark 14 = .ok (.iconst 1, 1) := by decide +kernel
theorem d_R_mark_15 : decode b_R_mark 15 = .ok (.isub, 1) := by decide +kernel
theorem d_R_mark_16 : decode b_R_mark 16 = .ok (.iand, 1) := by decide +kernel
theorem d_R_mark_17 : decode b_R_mark 17 = .ok (.ifCond .ne 7, 3) := by decide +kernel
theorem d_R_mark_20 : decode b_R_mark 20 = .ok (.iconst 1, 1) := by decide +kernel
theorem d_R_mark_21 : decode b_R_mark 21 = .ok (.goto 4, 3) := by decide +kernel
theorem d_R_mark_24 : decode b_R_mark 24 = .ok (.iconst 0, 1) := by decide +kernel
theorem d_R_mark_25 : decode b_R_mark 25 = .ok (.istore_n 2, 1) := by decide +kernel
theorem d_R_mark_26 : decode b_R_mark 26 = .ok (.iload_n 1, 1) := by decide +kernel
theorem d_R_mark_27 : decode b_R_mark 27 = .ok (.ifCond .eq 15, 3) := by decide +kernel
theorem d_R_mark_30 : decode b_R_mark 30 = .ok (.aload_n 0, 1) := by decide +kernel
theorem d_R_mark_31 : decode b_R_mark 31 = .ok (.getfield 43, 3) := by decide +kernel
theorem d_R_mark_34 : decode b_R_mark 34 = .ok (.ifCond .eq 7, 3) := by decide +kernel
theorem d_R_mark_37 : decode b_R_mark 37 = .ok (.iload_n 2, 1) := by decide +kernel
theorem d_R_mark_38 : decode b_R_mark 38 = .ok (.ifCond .ne 4, 3) := by decide +kernel
theorem d_R_mark_41 : decode b_R_mark 41 = .ok (.return_, 1) := by decide +kernel
theorem d_R_mark_42 : decode b_R_mark 42 = .ok (.aload_n 0, 1) := by decide +kernel
theorem d_R_mark_43 : decode b_R_mark 43 = .ok (.dup, 1) := by decide +kernel
theorem d_R_mark_44 : decode b_R_mark 44 = .ok (.getfield 47, 3) := by decide +kernel
theorem d_R_mark_47 : decode b_R_mark 47 = .ok (.iload_n 1, 1) := by decide +kernel
theorem d_R_mark_48 : decode b_R_mark 48 = .ok (.ifCond .ne 7, 3) := by decide +kernel
theorem d_R_mark_51 : decode b_R_mark 51 = .ok (.iconst 0, 1) := by decide +kernel
theorem d_R_mark_52 : decode b_R_mark 52 = .ok (.goto 4, 3) := by decide +kernel
theorem d_R_mark_55 : decode b_R_mark 55 = .ok (.iconst 1, 1) := by decide +kernel
theorem d_R_mark_56 : decode b_R_mark 56 = .ok (.iadd, 1) := by decide +kernel
theorem d_R_mark_57 : decode b_R_mark 57 = .ok (.putfield 47, 3) := by decide +kernel
theorem d_R_mark_60 : decode b_R_mark 60 = .ok (.aload_n 0, 1) := by decide +kernel
theorem d_R_mark_61 : decode b_R_mark 61 = .ok (.dup, 1) := by decide +kernel
theorem d_R_mark_62 : decode b_R_mark 62 = .ok (.getfield 50, 3) := by decide +kernel
theorem d_R_mark_65 : decode b_R_mark 65 = .ok (.iconst 1, 1) := by decide +kernel
theorem d_R_mark_66 : decode b_R_mark 66 = .ok (.iadd, 1) := by decide +kernel
theorem d_R_mark_67 : decode b_R_mark 67 = .ok (.putfield 50, 3) := by decide +kernel
theorem d_R_mark_70 : decode b_R_mark 70 = .ok (.aload_n 0, 1) := by decide +kernel
theorem d_R_mark_71 : decode b_R_mark 71 = .ok (.iconst 2, 1) := by decide +kernel
theorem d_R_mark_72 : decode b_R_mark 72 = .ok (.putfield 20, 3) := by decide +kernel
theorem d_R_mark_75 : decode b_R_mark 75 = .ok (.aload_n 0, 1) := by decide +kernel
theorem d_R_mark_76 : decode b_R_mark 76 = .ok (.iconst 0, 1) := by decide +kernel
theorem d_R_mark_77 : decode b_R_mark 77 = .ok (.putfield 24, 3) := by decide +kernel
theorem d_R_mark_80 : decode b_R_mark 80 = .ok (.return_, 1) := by decide +kernel
theorem d_R_block_0 : decode b_R_block 0 = .ok (.aload_n 0, 1) := by decide +kernel
theorem d_R_block_1 : decode b_R_block 1 = .ok (.getfield 16, 3) := by decide +kernel
theorem d_R_block_4 : decode b_R_block 4 = .ok (.aload_n 0, 1) := by decide +kernel
theorem d_R_block_5 : decode b_R_block 5 = .ok (.getfield 30, 3) := by decide +kernel
theorem d_R_block_8 : decode b_R_block 8 = .ok (.invokevirtual 53, 3) := by decide +kernel
theorem d_R_block_11 : decode b_R_block 11 = .ok (.istore_n 1, 1) := by decide +kernel
theorem d_R_block_12 : decode b_R_block 12 = .ok (.aload_n 0, 1) := by decide +kernel
theorem d_R_block_13 : decode b_R_block 13 = .ok (.iconst 0, 1) := by decide +kernel
theorem d_R_block_14 : decode b_R_block 14 = .ok (.putfield 24, 3) := by decide +kernel
theorem d_R_block_17 : decode b_R_block 17 = .ok (.iload_n 1, 1) := by decide +kernel
theorem d_R_block_18 : decode b_R_block 18 = .ok (.iconst (-1), 1) := by decide +kernel
theorem d_R_block_19 : decode b_R_block 19 = .ok (.if_icmp .eq 21, 3) := by decide +kernel
theorem d_R_block_22 : decode b_R_block 22 = .ok (.iload_n 1, 1) := by decide +kernel
theorem d_R_block_23 : decode b_R_block 23 = .ok (.bipush (-2), 2) := by decide +kernel
theorem d_R_block_25 : decode b_R_block 25 = .ok (.if_icmp .eq 10, 3) := by decide +kernel
theorem d_R_block_28 : decode b_R_block 28 = .ok (.aload_n 0, 1) := by decide +kernel
theorem d_R_block_29 : decode b_R_block 29 = .ok (.getfield 43, 3) := by decide +kernel
theorem d_R_block_32 : decode b_R_block 32 = .ok (.ifCond .ne 8, 3) := by decide +kernel
theorem d_R_block_35 : decode b_R_block 35 = .ok (.aload_n 0, 1) := by decide +kernel
theorem d_R_block_36 : decode b_R_block 36 = .ok (.invokevirtual 59, 3) := by decide +kernel
theorem d_R_block_39 : decode b_R_block 39 = .ok (.ireturn, 1) := by decide +kernel
theorem d_R_block_40 : decode b_R_block 40 = .ok (.aload_n 0, 1) := by decide +kernel
theorem d_R_block_41 : decode b_R_block 41 = .ok (.getfield 30, 3) := by decide +kernel
theorem d_R_block_44 : decode b_R_block 44 = .ok (.iload_n 1, 1) := by decide +kernel
theorem d_R_block_45 : decode b_R_block 45 = .ok (.invokestatic 62, 3) := by decide +kernel
theorem d_R_block_48 : decode b_R_block 48 = .ok (.lstore_n 2, 1) := by decide +kernel
theorem d_R_block_49 : decode b_R_block 49 = .ok (.iconst 0, 1) := by decide +kernel
theorem d_R_block_50 : decode b_R_block 50 = .ok (.istore 4, 2) := by decide +kernel
theorem d_R_block_52 : decode b_R_block 52 = .ok (.iload 4, 2) := by decide +kernel
theorem d_R_block_54 : decode b_R_block 54 = .ok (.bipush 7, 2) := by decide +kernel
theorem d_R_block_56 : decode b_R_block 56 = .ok (.if_icmp .ge 33, 3) := by decide +kernel
theorem d_R_block_59 : decode b_R_block 59 = .ok (.aload_n 0, 1) := by decide +kernel
theorem d_R_block_60 : decode b_R_block 60 = .ok (.getfield 9, 3) := by decide +kernel
theorem d_R_block_63 : decode b_R_block 63 = .ok (.aload_n 0, 1) := by decide +kernel
theorem d_R_block_64 : decode b_R_block 64 = .ok (.getfield 27, 3) := by decide +kernel
theorem d_R_block_67 : decode b_R_block 67 = .ok (.iload 4, 2) := by decide +kernel
theorem d_R_block_69 : decode b_R_block 69 = .ok (.iadd, 1) := by decide +kernel
theorem d_R_block_70 : decode b_R_block 70 = .ok (.lload_n 2, 1) := by decide +kernel
theorem d_R_block_71 : decode b_R_block 71 = .ok (.bipush 48, 2) := by decide +kernel
theorem d_R_block_73 : decode b_R_block 73 = .ok (.bipush 8, 2) := by decide +kernel
theorem d_R_block_75 : decode b_R_block 75 = .ok (.iload 4, 2) := by decide +kernel
theorem d_R_block_77 : decode b_R_block 77 = .ok (.imul, 1) := by decide +kernel
theorem d_R_block_78 : decode b_R_block 78 = .ok (.isub, 1) := by decide +kernel
theorem d_R_block_79 : decode b_R_block 79 = .ok (.lshr, 1) := by decide +kernel
theorem d_R_block_80 : decode b_R_block 80 = .ok (.l2i, 1) := by decide +kernel
theorem d_R_block_81 : decode b_R_block 81 = .ok (.i2b, 1) := by decide +kernel
theorem d_R_block_82 : decode b_R_block 82 = .ok (.bastore, 1) := by decide +kernel
theorem d_R_block_83 : decode b_R_block 83 = .ok (.iinc 4 1, 3) := by decide +kernel
theorem d_R_block_86 : decode b_R_block 86 = .ok (.goto (-34), 3) := by decide +kernel
theorem d_R_block_89 : decode b_R_block 89 = .ok (.aload_n 0, 1) := by decide +kernel
theorem d_R_block_90 : decode b_R_block 90 = .ok (.dup, 1) := by decide +kernel
theorem d_R_block_91 : decode b_R_block 91 = .ok (.getfield 27, 3) := by decide +kernel
theorem d_R_block_94 : decode b_R_block 94 = .ok (.bipush 7, 2) := by decide +kernel
theorem d_R_block_96 : decode b_R_block 96 = .ok (.iadd, 1) := by decide +kernel
theorem d_R_block_97 : decode b_R_block 97 = .ok (.putfield 27, 3) := by decide +kernel
theorem d_R_block_100 : decode b_R_block 100 = .ok (.aload_n 0, 1) := by decide +kernel
theorem d_R_block_101 : decode b_R_block 101 = .ok (.dup, 1) := by decide +kernel
theorem d_R_block_102 : decode b_R_block 102 = .ok (.getfield 66, 3) := by decide +kernel
theorem d_R_block_105 : decode b_R_block 105 = .ok (.iconst 1, 1) := by decide +kernel
theorem d_R_block_106 : decode b_R_block 106 = .ok (.iadd, 1) := by decide +kernel
theorem d_R_block_107 : decode b_R_block 107 = .ok (.putfield 66, 3) := by decide +kernel
theorem d_R_block_110 : decode b_R_block 110 = .ok (.aload_n 0, 1) := by decide +kernel
theorem d_R_block_111 : decode b_R_block 111 = .ok (.dup, 1) := by decide +kernel
theorem d_R_block_112 : decode b_R_block 112 = .ok (.getfield 69, 3) := by decide +kernel
theorem d_R_block_115 : decode b_R_block 115 = .ok (.iload_n 1, 1) := by decide +kernel
theorem d_R_block_116 : decode b_R_block 116 = .ok (.iconst (-1), 1) := by decide +kernel
theorem d_R_block_117 : decode b_R_block 117 = .ok (.if_icmp .ne 7, 3) := by decide +kernel
theorem d_R_block_120 : decode b_R_block 120 = .ok (.iconst 0, 1) := by decide +kernel
theorem d_R_block_121 : decode b_R_block 121 = .ok (.goto 4, 3) := by decide +kernel
theorem d_R_block_124 : decode b_R_block 124 = .ok (.iconst 1, 1) := by decide +kernel
theorem d_R_block_125 : decode b_R_block 125 = .ok (.iadd, 1) := by decide +kernel
theorem d_R_block_126 : decode b_R_block 126 = .ok (.putfield 69, 3) := by decide +kernel
theorem d_R_block_129 : decode b_R_block 129 = .ok (.aload_n 0, 1) := by decide +kernel
theorem d_R_block_130 : decode b_R_block 130 = .ok (.getfield 27, 3) := by decide +kernel
theorem d_R_block_133 : decode b_R_block 133 = .ok (.aload_n 0, 1) := by decide +kernel
theorem d_R_block_134 : decode b_R_block 134 = .ok (.getfield 9, 3) := by decide +kernel
theorem d_R_block_137 : decode b_R_block 137 = .ok (.arraylength, 1) := by decide +kernel
theorem d_R_block_138 : decode b_R_block 138 = .ok (.if_icmp .ne 14, 3) := by decide +kernel
theorem d_R_block_141 : decode b_R_block 141 = .ok (.aload_n 0, 1) := by decide +kernel
theorem d_R_block_142 : decode b_R_block 142 = .ok (.invokevirtual 59, 3) := by decide +kernel
theorem d_R_block_145 : decode b_R_block 145 = .ok (.ifCond .eq 7, 3) := by decide +kernel
theorem d_R_block_148 : decode b_R_block 148 = .ok (.iconst 1, 1) := by decide +kernel
theorem d_R_block_149 : decode b_R_block 149 = .ok (.goto 4, 3) := by decide +kernel
theorem d_R_block_152 : decode b_R_block 152 = .ok (.iconst 0, 1) := by decide +kernel
theorem d_R_block_153 : decode b_R_block 153 = .ok (.ireturn, 1) := by decide +kernel
theorem d_R_end_0 : decode b_R_end 0 = .ok (.aload_n 0, 1) := by decide +kernel
theorem d_R_end_1 : decode b_R_end 1 = .ok (.dup, 1) := by decide +kernel
theorem d_R_end_2 : decode b_R_end 2 = .ok (.getfield 72, 3) := by decide +kernel
theorem d_R_end_5 : decode b_R_end 5 = .ok (.iconst 1, 1) := by decide +kernel
theorem d_R_end_6 : decode b_R_end 6 = .ok (.iadd, 1) := by decide +kernel
theorem d_R_end_7 : decode b_R_end 7 = .ok (.putfield 72, 3) := by decide +kernel
theorem d_R_end_10 : decode b_R_end 10 = .ok (.aload_n 0, 1) := by decide +kernel
theorem d_R_end_11 : decode b_R_end 11 = .ok (.getfield 27, 3) := by decide +kernel
theorem d_R_end_14 : decode b_R_end 14 = .ok (.ifCond .le 29, 3) := by decide +kernel
theorem d_R_end_17 : decode b_R_end 17 = .ok (.aload_n 0, 1) := by decide +kernel
theorem d_R_end_18 : decode b_R_end 18 = .ok (.getfield 13, 3) := by decide +kernel
theorem d_R_end_21 : decode b_R_end 21 = .ok (.astore_n 1, 1) := by decide +kernel
theorem d_R_end_22 : decode b_R_end 22 = .ok (.aload_n 0, 1) := by decide +kernel
theorem d_R_end_23 : decode b_R_end 23 = .ok (.aload_n 0, 1) := by decide +kernel
theorem d_R_end_24 : decode b_R_end 24 = .ok (.getfield 9, 3) := by decide +kernel
theorem d_R_end_27 : decode b_R_end 27 = .ok (.putfield 13, 3) := by decide +kernel
theorem d_R_end_30 : decode b_R_end 30 = .ok (.aload_n 0, 1) := by decide +kernel
theorem d_R_end_31 : decode b_R_end 31 = .ok (.aload_n 1, 1) := by decide +kernel
theorem d_R_end_32 : decode b_R_end 32 = .ok (.putfield 9, 3) := by decide +kernel
theorem d_R_end_35 : decode b_R_end 35 = .ok (.aload_n 0, 1) := by decide +kernel
theorem d_R_end_36 : decode b_R_end 36 = .ok (.aload_n 0, 1) := by decide +kernel
theorem d_R_end_37 : decode b_R_end 37 = .ok (.getfield 27, 3) := by decide +kernel
theorem d_R_end_40 : decode b_R_end 40 = .ok (.putfield 75, 3) := by decide +kernel
theorem d_R_end_43 : decode b_R_end 43 = .ok (.aload_n 0, 1) := by decide +kernel
theorem d_R_end_44 : decode b_R_end 44 = .ok (.invokevirtual 78, 3) := by decide +kernel
theorem d_R_end_47 : decode b_R_end 47 = .ok (.iconst 1, 1) := by decide +kernel
theorem d_R_end_48 : decode b_R_end 48 = .ok (.ireturn, 1) := by decide +kernel
theorem d_S_init_0 : decode b_S_init 0 = .ok (.aload_n 0, 1) := by decide +kernel
theorem d_S_init_1 : decode b_S_init 1 = .ok (.invokespecial 3, 3) := by decide +kernel
theorem d_S_init_4 : decode b_S_init 4 = .ok (.aload_n 0, 1) := by decide +kernel
theorem d_S_init_5 : decode b_S_init 5 = .ok (.sipush 259, 3) := by decide +kernel
theorem d_S_init_8 : decode b_S_init 8 = .ok (.newarray .byte, 2) := by decide +kernel
theorem d_S_init_10 : decode b_S_init 10 = .ok (.putfield 11, 3) := by decide +kernel
theorem d_S_init_13 : decode b_S_init 13 = .ok (.aload_n 0, 1) := by decide +kernel
theorem d_S_init_14 : decode b_S_init 14 = .ok (.sipush 306, 3) := by decide +kernel
theorem d_S_init_17 : decode b_S_init 17 = .ok (.newarray .byte, 2) := by decide +kernel
theorem d_S_init_19 : decode b_S_init 19 = .ok (.putfield 17, 3) := by decide +kernel
theorem d_S_init_22 : decode b_S_init 22 = .ok (.return_, 1) := by decide +kernel
theorem d_S_put_0 : decode b_S_put 0 = .ok (.aload_n 0, 1) := by decide +kernel
theorem d_S_put_1 : decode b_S_put 1 = .ok (.getfield 20, 3) := by decide +kernel
theorem d_S_put_4 : decode b_S_put 4 = .ok (.aload_n 0, 1) := by decide +kernel
theorem d_S_put_5 : decode b_S_put 5 = .ok (.getfield 11, 3) := by decide +kernel
theorem d_S_put_8 : decode b_S_put 8 = .ok (.arraylength, 1) := by decide +kernel
theorem d_S_put_9 : decode b_S_put 9 = .ok (.if_icmp .ne 5, 3) := by decide +kernel
theorem d_S_put_12 : decode b_S_put 12 = .ok (.iconst (-1), 1) := by decide +kernel
theorem d_S_put_13 : decode b_S_put 13 = .ok (.ireturn, 1) := by decide +kernel
theorem d_S_put_14 : decode b_S_put 14 = .ok (.aload_n 0, 1) := by decide +kernel
theorem d_S_put_15 : decode b_S_put 15 = .ok (.getfield 11, 3) := by decide +kernel
theorem d_S_put_18 : decode b_S_put 18 = .ok (.aload_n 0, 1) := by decide +kernel
theorem d_S_put_19 : decode b_S_put 19 = .ok (.getfield 20, 3) := by decide +kernel
theorem d_S_put_22 : decode b_S_put 22 = .ok (.iload_n 1, 1) := by decide +kernel
theorem d_S_put_23 : decode b_S_put 23 = .ok (.i2b, 1) := by decide +kernel
theorem d_S_put_24 : decode b_S_put 24 = .ok (.bastore, 1) := by decide +kernel
theorem d_S_put_25 : decode b_S_put 25 = .ok (.aload_n 0, 1) := by decide +kernel
theorem d_S_put_26 : decode b_S_put 26 = .ok (.dup, 1) := by decide +kernel
theorem d_S_put_27 : decode b_S_put 27 = .ok (.getfield 20, 3) := by decide +kernel
theorem d_S_put_30 : decode b_S_put 30 = .ok (.iconst 1, 1) := by decide +kernel
theorem d_S_put_31 : decode b_S_put 31 = .ok (.iadd, 1) := by decide +kernel
theorem d_S_put_32 : decode b_S_put 32 = .ok (.putfield 20, 3) := by decide +kernel
theorem d_S_put_35 : decode b_S_put 35 = .ok (.aload_n 0, 1) := by decide +kernel
theorem d_S_put_36 : decode b_S_put 36 = .ok (.getfield 20, 3) := by decide +kernel
theorem d_S_put_39 : decode b_S_put 39 = .ok (.ireturn, 1) := by decide +kernel
theorem d_S_lay_0 : decode b_S_lay 0 = .ok (.bipush 56, 2) := by decide +kernel
theorem d_S_lay_2 : decode b_S_lay 2 = .ok (.istore_n 3, 1) := by decide +kernel
theorem d_S_lay_3 : decode b_S_lay 3 = .ok (.iload_n 3, 1) := by decide +kernel
theorem d_S_lay_4 : decode b_S_lay 4 = .ok (.ifCond .lt 33, 3) := by decide +kernel
theorem d_S_lay_7 : decode b_S_lay 7 = .ok (.aload_n 0, 1) := by decide +kernel
theorem d_S_lay_8 : decode b_S_lay 8 = .ok (.getfield 17, 3) := by decide +kernel
theorem d_S_lay_11 : decode b_S_lay 11 = .ok (.aload_n 0, 1) := by decide +kernel
theorem d_S_lay_12 : decode b_S_lay 12 = .ok (.getfield 24, 3) := by decide +kernel
theorem d_S_lay_15 : decode b_S_lay 15 = .ok (.lload_n 1, 1) := by decide +kernel
theorem d_S_lay_16 : decode b_S_lay 16 = .ok (.iload_n 3, 1) := by decide +kernel
theorem d_S_lay_17 : decode b_S_lay 17 = .ok (.lshr, 1) := by decide +kernel
theorem d_S_lay_18 : decode b_S_lay 18 = .ok (.l2i, 1) := by decide +kernel
theorem d_S_lay_19 : decode b_S_lay 19 = .ok (.i2b, 1) := by decide +kernel
theorem d_S_lay_20 : decode b_S_lay 20 = .ok (.bastore, 1) := by decide +kernel
theorem d_S_lay_21 : decode b_S_lay 21 = .ok (.aload_n 0, 1) := by decide +kernel
theorem d_S_lay_22 : decode b_S_lay 22 = .ok (.dup, 1) := by decide +kernel
theorem d_S_lay_23 : decode b_S_lay 23 = .ok (.getfield 24, 3) := by decide +kernel
theorem d_S_lay_26 : decode b_S_lay 26 = .ok (.iconst 1, 1) := by decide +kernel
theorem d_S_lay_27 : decode b_S_lay 27 = .ok (.iadd, 1) := by decide +kernel
theorem d_S_lay_28 : decode b_S_lay 28 = .ok (.putfield 24, 3) := by decide +kernel
theorem d_S_lay_31 : decode b_S_lay 31 = .ok (.iinc 3 (-8), 3) := by decide +kernel
theorem d_S_lay_34 : decode b_S_lay 34 = .ok (.goto (-31), 3) := by decide +kernel
theorem d_S_lay_37 : decode b_S_lay 37 = .ok (.return_, 1) := by decide +kernel
theorem d_S_send_0 : decode b_S_send 0 = .ok (.aload_n 0, 1) := by decide +kernel
theorem d_S_send_1 : decode b_S_send 1 = .ok (.getfield 20, 3) := by decide +kernel
theorem d_S_send_4 : decode b_S_send 4 = .ok (.ifCond .ne 5, 3) := by decide +kernel
theorem d_S_send_7 : decode b_S_send 7 = .ok (.iconst (-1), 1) := by decide +kernel
theorem d_S_send_8 : decode b_S_send 8 = .ok (.ireturn, 1) := by decide +kernel
theorem d_S_send_9 : decode b_S_send 9 = .ok (.aload_n 0, 1) := by decide +kernel
theorem d_S_send_10 : decode b_S_send 10 = .ok (.getfield 17, 3) := by decide +kernel
theorem d_S_send_13 : decode b_S_send 13 = .ok (.iconst 0, 1) := by decide +kernel
theorem d_S_send_14 : decode b_S_send 14 = .ok (.bipush (-21), 2) := by decide +kernel
theorem d_S_send_16 : decode b_S_send 16 = .ok (.bastore, 1) := by decide +kernel
theorem d_S_send_17 : decode b_S_send 17 = .ok (.aload_n 0, 1) := by decide +kernel
theorem d_S_send_18 : decode b_S_send 18 = .ok (.getfield 17, 3) := by decide +kernel
theorem d_S_send_21 : decode b_S_send 21 = .ok (.iconst 1, 1) := by decide +kernel
theorem d_S_send_22 : decode b_S_send 22 = .ok (.bipush (-112), 2) := by decide +kernel
theorem d_S_send_24 : decode b_S_send 24 = .ok (.bastore, 1) := by decide +kernel
theorem d_S_send_25 : decode b_S_send 25 = .ok (.aload_n 0, 1) := by decide +kernel
theorem d_S_send_26 : decode b_S_send 26 = .ok (.iconst 2, 1) := by decide +kernel
theorem d_S_send_27 : decode b_S_send 27 = .ok (.putfield 24, 3) := by decide +kernel
theorem d_S_send_30 : decode b_S_send 30 = .ok (.iconst 0, 1) := by decide +kernel
theorem d_S_send_31 : decode b_S_send 31 = .ok (.istore_n 1, 1) := by decide +kernel
theorem d_S_send_32 : decode b_S_send 32 = .ok (.iload_n 1, 1) := by decide +kernel
theorem d_S_send_33 : decode b_S_send 33 = .ok (.aload_n 0, 1) := by decide +kernel
theorem d_S_send_34 : decode b_S_send 34 = .ok (.getfield 20, 3) := by decide +kernel
theorem d_S_send_37 : decode b_S_send 37 = .ok (.if_icmp .ge 71, 3) := by decide +kernel
theorem d_S_send_40 : decode b_S_send 40 = .ok (.lconst 0, 1) := by decide +kernel
theorem d_S_send_41 : decode b_S_send 41 = .ok (.lstore_n 2, 1) := by decide +kernel
theorem d_S_send_42 : decode b_S_send 42 = .ok (.iconst 0, 1) := by decide +kernel
theorem d_S_send_43 : decode b_S_send 43 = .ok (.istore 4, 2) := by decide +kernel
theorem d_S_send_45 : decode b_S_send 45 = .ok (.iload 4, 2) := by decide +kernel
theorem d_S_send_47 : decode b_S_send 47 = .ok (.bipush 7, 2) := by decide +kernel
theorem d_S_send_49 : decode b_S_send 49 = .ok (.if_icmp .ge 45, 3) := by decide +kernel
theorem d_S_send_52 : decode b_S_send 52 = .ok (.lload_n 2, 1) := by decide +kernel
theorem d_S_send_53 : decode b_S_send 53 = .ok (.bipush 8, 2) := by decide +kernel
theorem d_S_send_55 : decode b_S_send 55 = .ok (.lshl, 1) := by decide +kernel
theorem d_S_send_56 : decode b_S_send 56 = .ok (.iload_n 1, 1) := by decide +kernel
theorem d_S_send_57 : decode b_S_send 57 = .ok (.iload 4, 2) := by decide +kernel
theorem d_S_send_59 : decode b_S_send 59 = .ok (.iadd, 1) := by decide +kernel
theorem d_S_send_60 : decode b_S_send 60 = .ok (.aload_n 0, 1) := by decide +kernel
theorem d_S_send_61 : decode b_S_send 61 = .ok (.getfield 20, 3) := by decide +kernel
theorem d_S_send_64 : decode b_S_send 64 = .ok (.if_icmp .ge 19, 3) := by decide +kernel
theorem d_S_send_67 : decode b_S_send 67 = .ok (.aload_n 0, 1) := by decide +kernel
theorem d_S_send_68 : decode b_S_send 68 = .ok (.getfield 11, 3) := by decide +kernel
theorem d_S_send_71 : decode b_S_send 71 = .ok (.iload_n 1, 1) := by decide +kernel
theorem d_S_send_72 : decode b_S_send 72 = .ok (.iload 4, 2) := by decide +kernel
theorem d_S_send_74 : decode b_S_send 74 = .ok (.iadd, 1) := by decide +kernel
theorem d_S_send_75 : decode b_S_send 75 = .ok (.baload, 1) := by decide +kernel
theorem d_S_send_76 : decode b_S_send 76 = .ok (.sipush 255, 3) := by decide +kernel
theorem d_S_send_79 : decode b_S_send 79 = .ok (.iand, 1) := by decide +kernel
theorem d_S_send_80 : decode b_S_send 80 = .ok (.goto 5, 3) := by decide +kernel
theorem d_S_send_83 : decode b_S_send 83 = .ok (.bipush 85, 2) := by decide +kernel
theorem d_S_send_85 : decode b_S_send 85 = .ok (.i2l, 1) := by decide +kernel
theorem d_S_send_86 : decode b_S_send 86 = .ok (.lor, 1) := by decide +kernel
theorem d_S_send_87 : decode b_S_send 87 = .ok (.lstore_n 2, 1) := by decide +kernel
theorem d_S_send_88 : decode b_S_send 88 = .ok (.iinc 4 1, 3) := by decide +kernel
theorem d_S_send_91 : decode b_S_send 91 = .ok (.goto (-46), 3) := by decide +kernel
theorem d_S_send_94 : decode b_S_send 94 = .ok (.aload_n 0, 1) := by decide +kernel
theorem d_S_send_95 : decode b_S_send 95 = .ok (.lload_n 2, 1) := by decide +kernel
theorem d_S_send_96 : decode b_S_send 96 = .ok (.invokestatic 27, 3) := by decide +kernel
theorem d_S_send_99 : decode b_S_send 99 = .ok (.invokevirtual 33, 3) := by decide +kernel
theorem d_S_send_102 : decode b_S_send 102 = .ok (.iinc 1 7, 3) := by decide +kernel
theorem d_S_send_105 : decode b_S_send 105 = .ok (.goto (-73), 3) := by decide +kernel
theorem d_S_send_108 : decode b_S_send 108 = .ok (.aload_n 0, 1) := by decide +kernel
theorem d_S_send_109 : decode b_S_send 109 = .ok (.ldc2_w 37, 3) := by decide +kernel
theorem d_S_send_112 : decode b_S_send 112 = .ok (.invokevirtual 33, 3) := by decide +kernel
theorem d_S_send_115 : decode b_S_send 115 = .ok (.aload_n 0, 1) := by decide +kernel
theorem d_S_send_116 : decode b_S_send 116 = .ok (.iconst 0, 1) := by decide +kernel
theorem d_S_send_117 : decode b_S_send 117 = .ok (.putfield 20, 3) := by decide +kernel
theorem d_S_send_120 : decode b_S_send 120 = .ok (.aload_n 0, 1) := by decide +kernel
theorem d_S_send_121 : decode b_S_send 121 = .ok (.getfield 24, 3) := by decide +kernel
theorem d_S_send_124 : decode b_S_send 124 = .ok (.ireturn, 1) := by decide +kernel
end
section
theorem d_M_init_0 : decode b_M_init 0 = .ok (.aload_n 0, 1) := by decide +kernel
theorem d_M_init_1 : decode b_M_init 1 = .ok (.invokespecial 1, 3) := by decide +kernel
theorem d_M_init_4 : decode b_M_init 4 = .ok (.aload_n 0, 1) := by decide +kernel
theorem d_M_init_5 : decode b_M_init 5 = .ok (.bipush 64, 2) := by decide +kernel
theorem d_M_init_7 : decode b_M_init 7 = .ok (.newarray .int, 2) := by decide +kernel
theorem d_M_init_9 : decode b_M_init 9 = .ok (.putfield 7, 3) := by decide +kernel
theorem d_M_init_12 : decode b_M_init 12 = .ok (.aload_n 0, 1) := by decide +kernel
theorem d_M_init_13 : decode b_M_init 13 = .ok (.sipush 259, 3) := by decide +kernel
theorem d_M_init_16 : decode b_M_init 16 = .ok (.newarray .int, 2) := by decide +kernel
theorem d_M_init_18 : decode b_M_init 18 = .ok (.putfield 13, 3) := by decide +kernel
theorem d_M_init_21 : decode b_M_init 21 = .ok (.aload_n 0, 1) := by decide +kernel
theorem d_M_init_22 : decode b_M_init 22 = .ok (.sipush 259, 3) := by decide +kernel
theorem d_M_init_25 : decode b_M_init 25 = .ok (.newarray .int, 2) := by decide +kernel
theorem d_M_init_27 : decode b_M_init 27 = .ok (.putfield 16, 3) := by decide +kernel
theorem d_M_init_30 : decode b_M_init 30 = .ok (.aload_n 0, 1) := by decide +kernel
theorem d_M_init_31 : decode b_M_init 31 = .ok (.sipush 259, 3) := by decide +kernel
theorem d_M_init_34 : decode b_M_init 34 = .ok (.newarray .int, 2) := by decide +kernel
theorem d_M_init_36 : decode b_M_init 36 = .ok (.putfield 19, 3) := by decide +kernel
theorem d_M_init_39 : decode b_M_init 39 = .ok (.aload_n 0, 1) := by decide +kernel
theorem d_M_init_40 : decode b_M_init 40 = .ok (.sipush 306, 3) := by decide +kernel
theorem d_M_init_43 : decode b_M_init 43 = .ok (.newarray .int, 2) := by decide +kernel
theorem d_M_init_45 : decode b_M_init 45 = .ok (.putfield 22, 3) := by decide +kernel
theorem d_M_init_48 : decode b_M_init 48 = .ok (.aload_n 0, 1) := by decide +kernel
theorem d_M_init_49 : decode b_M_init 49 = .ok (.iconst 5, 1) := by decide +kernel
theorem d_M_init_50 : decode b_M_init 50 = .ok (.newarray .int, 2) := by decide +kernel
theorem d_M_init_52 : decode b_M_init 52 = .ok (.putfield 25, 3) := by decide +kernel
theorem d_M_init_55 : decode b_M_init 55 = .ok (.return_, 1) := by decide +kernel
theorem d_M_divided_0 : decode b_M_divided 0 = .ok (.iconst 0, 1) := by decide +kernel
theorem d_M_divided_1 : decode b_M_divided 1 = .ok (.istore_n 2, 1) := by decide +kernel
theorem d_M_divided_2 : decode b_M_divided 2 = .ok (.iconst 0, 1) := by decide +kernel
theorem d_M_divided_3 : decode b_M_divided 3 = .ok (.istore_n 3, 1) := by decide +kernel
theorem d_M_divided_4 : decode b_M_divided 4 = .ok (.iload_n 3, 1) := by decide +kernel
theorem d_M_divided_5 : decode b_M_divided 5 = .ok (.bipush 63, 2) := by decide +kernel
theorem d_M_divided_7 : decode b_M_divided 7 = .ok (.if_icmp .ge 63, 3) := by decide +kernel
theorem d_M_divided_10 : decode b_M_divided 10 = .ok (.aload_n 0, 1) := by decide +kernel
theorem d_M_divided_11 : decode b_M_divided 11 = .ok (.getfield 7, 3) := by decide +kernel
theorem d_M_divided_14 : decode b_M_divided 14 = .ok (.iload_n 3, 1) := by decide +kernel
theorem d_M_divided_15 : decode b_M_divided 15 = .ok (.iaload, 1) := by decide +kernel
theorem d_M_divided_16 : decode b_M_divided 16 = .ok (.iload_n 3, 1) := by decide +kernel
theorem d_M_divided_17 : decode b_M_divided 17 = .ok (.bipush 55, 2) := by decide +kernel
theorem d_M_divided_19 : decode b_M_divided 19 = .ok (.if_icmp .le 7, 3) := by decide +kernel
theorem d_M_divided_22 : decode b_M_divided 22 = .ok (.iconst 1, 1) := by decide +kernel
theorem d_M_divided_23 : decode b_M_divided 23 = .ok (.goto 4, 3) := by decide +kernel
theorem d_M_divided_26 : decode b_M_divided 26 = .ok (.iconst 0, 1) := by decide +kernel
theorem d_M_divided_27 : decode b_M_divided 27 = .ok (.ixor, 1) := by decide +kernel
theorem d_M_divided_28 : decode b_M_divided 28 = .ok (.iload_n 3, 1) := by decide +kernel
theorem d_M_divided_29 : decode b_M_divided 29 = .ok (.iload_n 1, 1) := by decide +kernel
theorem d_M_divided_30 : decode b_M_divided 30 = .ok (.if_icmp .ne 7, 3) := by decide +kernel
theorem d_M_divided_33 : decode b_M_divided 33 = .ok (.iconst 1, 1) := by decide +kernel
theorem d_M_divided_34 : decode b_M_divided 34 = .ok (.goto 4, 3) := by decide +kernel
theorem d_M_divided_37 : decode b_M_divided 37 = .ok (.iconst 0, 1) := by decide +kernel
theorem d_M_divided_38 : decode b_M_divided 38 = .ok (.ixor, 1) := by decide +kernel
theorem d_M_divided_39 : decode b_M_divided 39 = .ok (.istore 4, 2) := by decide +kernel
theorem d_M_divided_41 : decode b_M_divided 41 = .ok (.iconst 2, 1) := by decide +kernel
theorem d_M_divided_42 : decode b_M_divided 42 = .ok (.iload_n 2, 1) := by decide +kernel
theorem d_M_divided_43 : decode b_M_divided 43 = .ok (.imul, 1) := by decide +kernel
theorem d_M_divided_44 : decode b_M_divided 44 = .ok (.iload 4, 2) := by decide +kernel
theorem d_M_divided_46 : decode b_M_divided 46 = .ok (.iadd, 1) := by decide +kernel
theorem d_M_divided_47 : decode b_M_divided 47 = .ok (.istore_n 2, 1) := by decide +kernel
theorem d_M_divided_48 : decode b_M_divided 48 = .ok (.iload_n 2, 1) := by decide +kernel
theorem d_M_divided_49 : decode b_M_divided 49 = .ok (.bipush 127, 2) := by decide +kernel
theorem d_M_divided_51 : decode b_M_divided 51 = .ok (.if_icmp .le 11, 3) := by decide +kernel
theorem d_M_divided_54 : decode b_M_divided 54 = .ok (.iload_n 2, 1) := by decide +kernel
theorem d_M_divided_55 : decode b_M_divided 55 = .ok (.sipush 197, 3) := by decide +kernel
theorem d_M_divided_58 : decode b_M_divided 58 = .ok (.ixor, 1) := by decide +kernel
theorem d_M_divided_59 : decode b_M_divided 59 = .ok (.goto 4, 3) := by decide +kernel
theorem d_M_divided_62 : decode b_M_divided 62 = .ok (.iload_n 2, 1) := by decide +kernel
theorem d_M_divided_63 : decode b_M_divided 63 = .ok (.istore_n 2, 1) := by decide +kernel
theorem d_M_divided_64 : decode b_M_divided 64 = .ok (.iinc 3 1, 3) := by decide +kernel
theorem d_M_divided_67 : decode b_M_divided 67 = .ok (.goto (-63), 3) := by decide +kernel
theorem d_M_divided_70 : decode b_M_divided 70 = .ok (.iload_n 2, 1) := by decide +kernel
theorem d_M_divided_71 : decode b_M_divided 71 = .ok (.ifCond .ne 7, 3) := by decide +kernel
theorem d_M_divided_74 : decode b_M_divided 74 = .ok (.iconst 1, 1) := by decide +kernel
theorem d_M_divided_75 : decode b_M_divided 75 = .ok (.goto 4, 3) := by decide +kernel
theorem d_M_divided_78 : decode b_M_divided 78 = .ok (.iconst 0, 1) := by decide +kernel
theorem d_M_divided_79 : decode b_M_divided 79 = .ok (.ireturn, 1) := by decide +kernel
theorem d_M_wrong_0 : decode b_M_wrong 0 = .ok (.aload_n 0, 1) := by decide +kernel
theorem d_M_wrong_1 : decode b_M_wrong 1 = .ok (.iconst (-1), 1) := by decide +kernel
theorem d_M_wrong_2 : decode b_M_wrong 2 = .ok (.invokevirtual 32, 3) := by decide +kernel
theorem d_M_wrong_5 : decode b_M_wrong 5 = .ok (.ifCond .eq 5, 3) := by decide +kernel
theorem d_M_wrong_8 : decode b_M_wrong 8 = .ok (.iconst (-1), 1) := by decide +kernel
theorem d_M_wrong_9 : decode b_M_wrong 9 = .ok (.ireturn, 1) := by decide +kernel
theorem d_M_wrong_10 : decode b_M_wrong 10 = .ok (.bipush (-2), 2) := by decide +kernel
theorem d_M_wrong_12 : decode b_M_wrong 12 = .ok (.istore_n 1, 1) := by decide +kernel
theorem d_M_wrong_13 : decode b_M_wrong 13 = .ok (.iconst 0, 1) := by decide +kernel
theorem d_M_wrong_14 : decode b_M_wrong 14 = .ok (.istore_n 2, 1) := by decide +kernel
theorem d_M_wrong_15 : decode b_M_wrong 15 = .ok (.iload_n 2, 1) := by decide +kernel
theorem d_M_wrong_16 : decode b_M_wrong 16 = .ok (.bipush 63, 2) := by decide +kernel
theorem d_M_wrong_18 : decode b_M_wrong 18 = .ok (.if_icmp .ge 30, 3) := by decide +kernel
theorem d_M_wrong_21 : decode b_M_wrong 21 = .ok (.aload_n 0, 1) := by decide +kernel
theorem d_M_wrong_22 : decode b_M_wrong 22 = .ok (.getfield 36, 3) := by decide +kernel
theorem d_M_wrong_25 : decode b_M_wrong 25 = .ok (.ifCond .eq 23, 3) := by decide +kernel
theorem d_M_wrong_28 : decode b_M_wrong 28 = .ok (.aload_n 0, 1) := by decide +kernel
theorem d_M_wrong_29 : decode b_M_wrong 29 = .ok (.iload_n 2, 1) := by decide +kernel
theorem d_M_wrong_30 : decode b_M_wrong 30 = .ok (.invokevirtual 32, 3) := by decide +kernel
theorem d_M_wrong_33 : decode b_M_wrong 33 = .ok (.ifCond .eq 7, 3) := by decide +kernel
theorem d_M_wrong_36 : decode b_M_wrong 36 = .ok (.iload_n 2, 1) := by decide +kernel
theorem d_M_wrong_37 : decode b_M_wrong 37 = .ok (.goto 4, 3) := by decide +kernel
theorem d_M_wrong_40 : decode b_M_wrong 40 = .ok (.iload_n 1, 1) := by decide +kernel
theorem d_M_wrong_41 : decode b_M_wrong 41 = .ok (.istore_n 1, 1) := by decide +kernel
theorem d_M_wrong_42 : decode b_M_wrong 42 = .ok (.iinc 2 1, 3) := by decide +kernel
theorem d_M_wrong_45 : decode b_M_wrong 45 = .ok (.goto (-30), 3) := by decide +kernel
theorem d_M_wrong_48 : decode b_M_wrong 48 = .ok (.iload_n 1, 1) := by decide +kernel
theorem d_M_wrong_49 : decode b_M_wrong 49 = .ok (.ireturn, 1) := by decide +kernel
theorem d_M_begins_0 : decode b_M_begins 0 = .ok (.aload_n 0, 1) := by decide +kernel
theorem d_M_begins_1 : decode b_M_begins 1 = .ok (.iload_n 1, 1) := by decide +kernel
theorem d_M_begins_2 : decode b_M_begins 2 = .ok (.putfield 40, 3) := by decide +kernel
theorem d_M_begins_5 : decode b_M_begins 5 = .ok (.aload_n 0, 1) := by decide +kernel
theorem d_M_begins_6 : decode b_M_begins 6 = .ok (.iconst 0, 1) := by decide +kernel
theorem d_M_begins_7 : decode b_M_begins 7 = .ok (.putfield 43, 3) := by decide +kernel
theorem d_M_begins_10 : decode b_M_begins 10 = .ok (.return_, 1) := by decide +kernel
theorem d_M_ends_0 : decode b_M_ends 0 = .ok (.aload_n 0, 1) := by decide +kernel
theorem d_M_ends_1 : decode b_M_ends 1 = .ok (.getfield 25, 3) := by decide +kernel
theorem d_M_ends_4 : decode b_M_ends 4 = .ok (.iconst 1, 1) := by decide +kernel
theorem d_M_ends_5 : decode b_M_ends 5 = .ok (.dup2, 1) := by decide +kernel
theorem d_M_ends_6 : decode b_M_ends 6 = .ok (.iaload, 1) := by decide +kernel
theorem d_M_ends_7 : decode b_M_ends 7 = .ok (.iconst 1, 1) := by decide +kernel
theorem d_M_ends_8 : decode b_M_ends 8 = .ok (.iadd, 1) := by decide +kernel
theorem d_M_ends_9 : decode b_M_ends 9 = .ok (.iastore, 1) := by decide +kernel
theorem d_M_ends_10 : decode b_M_ends 10 = .ok (.iconst 0, 1) := by decide +kernel
theorem d_M_ends_11 : decode b_M_ends 11 = .ok (.istore_n 1, 1) := by decide +kernel
theorem d_M_ends_12 : decode b_M_ends 12 = .ok (.iload_n 1, 1) := by decide +kernel
theorem d_M_ends_13 : decode b_M_ends 13 = .ok (.aload_n 0, 1) := by decide +kernel
theorem d_M_ends_14 : decode b_M_ends 14 = .ok (.getfield 46, 3) := by decide +kernel
theorem d_M_ends_17 : decode b_M_ends 17 = .ok (.if_icmp .ge 21, 3) := by decide +kernel
theorem d_M_ends_20 : decode b_M_ends 20 = .ok (.aload_n 0, 1) := by decide +kernel
theorem d_M_ends_21 : decode b_M_ends 21 = .ok (.getfield 16, 3) := by decide +kernel
theorem d_M_ends_24 : decode b_M_ends 24 = .ok (.iload_n 1, 1) := by decide +kernel
theorem d_M_ends_25 : decode b_M_ends 25 = .ok (.aload_n 0, 1) := by decide +kernel
theorem d_M_ends_26 : decode b_M_ends 26 = .ok (.getfield 13, 3) := by decide +kernel
theorem d_M_ends_29 : decode b_M_ends 29 = .ok (.iload_n 1, 1) := by decide +kernel
theorem d_M_ends_30 : decode b_M_ends 30 = .ok (.iaload, 1) := by decide +kernel
theorem d_M_ends_31 : decode b_M_ends 31 = .ok (.iastore, 1) := by decide +kernel
theorem d_M_ends_32 : decode b_M_ends 32 = .ok (.iinc 1 1, 3) := by decide +kernel
theorem d_M_ends_35 : decode b_M_ends 35 = .ok (.goto (-23), 3) := by decide +kernel
theorem d_M_ends_38 : decode b_M_ends 38 = .ok (.aload_n 0, 1) := by decide +kernel
theorem d_M_ends_39 : decode b_M_ends 39 = .ok (.aload_n 0, 1) := by decide +kernel
theorem d_M_ends_40 : decode b_M_ends 40 = .ok (.getfield 46, 3) := by decide +kernel
theorem d_M_ends_43 : decode b_M_ends 43 = .ok (.ifCond .le 10, 3) := by decide +kernel
theorem d_M_ends_46 : decode b_M_ends 46 = .ok (.aload_n 0, 1) := by decide +kernel
theorem d_M_ends_47 : decode b_M_ends 47 = .ok (.getfield 46, 3) := by decide +kernel
theorem d_M_ends_50 : decode b_M_ends 50 = .ok (.goto 7, 3) := by decide +kernel
theorem d_M_ends_53 : decode b_M_ends 53 = .ok (.aload_n 0, 1) := by decide +kernel
theorem d_M_ends_54 : decode b_M_ends 54 = .ok (.getfield 49, 3) := by decide +kernel
theorem d_M_ends_57 : decode b_M_ends 57 = .ok (.putfield 49, 3) := by decide +kernel
theorem d_M_ends_60 : decode b_M_ends 60 = .ok (.aload_n 0, 1) := by decide +kernel
theorem d_M_ends_61 : decode b_M_ends 61 = .ok (.iconst 0, 1) := by decide +kernel
theorem d_M_ends_62 : decode b_M_ends 62 = .ok (.putfield 46, 3) := by decide +kernel
theorem d_M_ends_65 : decode b_M_ends 65 = .ok (.aload_n 0, 1) := by decide +kernel
theorem d_M_ends_66 : decode b_M_ends 66 = .ok (.iconst 1, 1) := by decide +kernel
theorem d_M_ends_67 : decode b_M_ends 67 = .ok (.invokevirtual 52, 3) := by decide +kernel
theorem d_M_ends_70 : decode b_M_ends 70 = .ok (.return_, 1) := by decide +kernel
theorem d_M_block_0 : decode b_M_block 0 = .ok (.aload_n 0, 1) := by decide +kernel
theorem d_M_block_1 : decode b_M_block 1 = .ok (.invokevirtual 56, 3) := by decide +kernel
theorem d_M_block_4 : decode b_M_block 4 = .ok (.istore_n 1, 1) := by decide +kernel
theorem d_M_block_5 : decode b_M_block 5 = .ok (.iload_n 1, 1) := by decide +kernel
theorem d_M_block_6 : decode b_M_block 6 = .ok (.bipush (-2), 2) := by decide +kernel
theorem d_M_block_8 : decode b_M_block 8 = .ok (.if_icmp .ne 9, 3) := by decide +kernel
theorem d_M_block_11 : decode b_M_block 11 = .ok (.aload_n 0, 1) := by decide +kernel
theorem d_M_block_12 : decode b_M_block 12 = .ok (.invokevirtual 60, 3) := by decide +kernel
theorem d_M_block_15 : decode b_M_block 15 = .ok (.iconst 1, 1) := by decide +kernel
theorem d_M_block_16 : decode b_M_block 16 = .ok (.ireturn, 1) := by decide +kernel
theorem d_M_block_17 : decode b_M_block 17 = .ok (.iconst 0, 1) := by decide +kernel
theorem d_M_block_18 : decode b_M_block 18 = .ok (.istore_n 2, 1) := by decide +kernel
theorem d_M_block_19 : decode b_M_block 19 = .ok (.iload_n 2, 1) := by decide +kernel
theorem d_M_block_20 : decode b_M_block 20 = .ok (.bipush 7, 2) := by decide +kernel
theorem d_M_block_22 : decode b_M_block 22 = .ok (.if_icmp .ge 79, 3) := by decide +kernel
theorem d_M_block_25 : decode b_M_block 25 = .ok (.iconst 0, 1) := by decide +kernel
theorem d_M_block_26 : decode b_M_block 26 = .ok (.istore_n 3, 1) := by decide +kernel
theorem d_M_block_27 : decode b_M_block 27 = .ok (.bipush 8, 2) := by decide +kernel
theorem d_M_block_29 : decode b_M_block 29 = .ok (.iload_n 2, 1) := by decide +kernel
theorem d_M_block_30 : decode b_M_block 30 = .ok (.imul, 1) := by decide +kernel
theorem d_M_block_31 : decode b_M_block 31 = .ok (.istore 4, 2) := by decide +kernel
theorem d_M_block_33 : decode b_M_block 33 = .ok (.iload 4, 2) := by decide +kernel
theorem d_M_block_35 : decode b_M_block 35 = .ok (.bipush 8, 2) := by decide +kernel
theorem d_M_block_37 : decode b_M_block 37 = .ok (.iload_n 2, 1) := by decide +kernel
theorem d_M_block_38 : decode b_M_block 38 = .ok (.imul, 1) := by decide +kernel
theorem d_M_block_39 : decode b_M_block 39 = .ok (.bipush 8, 2) := by decide +kernel
theorem d_M_block_41 : decode b_M_block 41 = .ok (.iadd, 1) := by decide +kernel
theorem d_M_block_42 : decode b_M_block 42 = .ok (.if_icmp .ge 33, 3) := by decide +kernel
theorem d_M_block_45 : decode b_M_block 45 = .ok (.iconst 2, 1) := by decide +kernel
theorem d_M_block_46 : decode b_M_block 46 = .ok (.iload_n 3, 1) := by decide +kernel
theorem d_M_block_47 : decode b_M_block 47 = .ok (.imul, 1) := by decide +kernel
theorem d_M_block_48 : decode b_M_block 48 = .ok (.aload_n 0, 1) := by decide +kernel
theorem d_M_block_49 : decode b_M_block 49 = .ok (.getfield 7, 3) := by decide +kernel
theorem d_M_block_52 : decode b_M_block 52 = .ok (.iload 4, 2) := by decide +kernel
theorem d_M_block_54 : decode b_M_block 54 = .ok (.iaload, 1) := by decide +kernel
theorem d_M_block_55 : decode b_M_block 55 = .ok (.iload 4, 2) := by decide +kernel
theorem d_M_block_57 : decode b_M_block 57 = .ok (.iload_n 1, 1) := by decide +kernel
theorem d_M_block_58 : decode b_M_block 58 = .ok (.if_icmp .ne 7, 3) := by decide +kernel
theorem d_M_block_61 : decode b_M_block 61 = .ok (.iconst 1, 1) := by decide +kernel
theorem d_M_block_62 : decode b_M_block 62 = .ok (.goto 4, 3) := by decide +kernel
theorem d_M_block_65 : decode b_M_block 65 = .ok (.iconst 0, 1) := by decide +kernel
theorem d_M_block_66 : decode b_M_block 66 = .ok (.ixor, 1) := by decide +kernel
theorem d_M_block_67 : decode b_M_block 67 = .ok (.iadd, 1) := by decide +kernel
theorem d_M_block_68 : decode b_M_block 68 = .ok (.istore_n 3, 1) := by decide +kernel
theorem d_M_block_69 : decode b_M_block 69 = .ok (.iinc 4 1, 3) := by decide +kernel
theorem d_M_block_72 : decode b_M_block 72 = .ok (.goto (-39), 3) := by decide +kernel
theorem d_M_block_75 : decode b_M_block 75 = .ok (.aload_n 0, 1) := by decide +kernel
theorem d_M_block_76 : decode b_M_block 76 = .ok (.getfield 13, 3) := by decide +kernel
theorem d_M_block_79 : decode b_M_block 79 = .ok (.aload_n 0, 1) := by decide +kernel
theorem d_M_block_80 : decode b_M_block 80 = .ok (.getfield 46, 3) := by decide +kernel
theorem d_M_block_83 : decode b_M_block 83 = .ok (.iload_n 3, 1) := by decide +kernel
theorem d_M_block_84 : decode b_M_block 84 = .ok (.iastore, 1) := by decide +kernel
theorem d_M_block_85 : decode b_M_block 85 = .ok (.aload_n 0, 1) := by decide +kernel
theorem d_M_block_86 : decode b_M_block 86 = .ok (.dup, 1) := by decide +kernel
theorem d_M_block_87 : decode b_M_block 87 = .ok (.getfield 46, 3) := by decide +kernel
theorem d_M_block_90 : decode b_M_block 90 = .ok (.iconst 1, 1) := by decide +kernel
theorem d_M_block_91 : decode b_M_block 91 = .ok (.iadd, 1) := by decide +kernel
theorem d_M_block_92 : decode b_M_block 92 = .ok (.putfield 46, 3) := by decide +kernel
theorem d_M_block_95 : decode b_M_block 95 = .ok (.iinc 2 1, 3) := by decide +kernel
theorem d_M_block_98 : decode b_M_block 98 = .ok (.goto (-79), 3) := by decide +kernel
theorem d_M_block_101 : decode b_M_block 101 = .ok (.aload_n 0, 1) := by decide +kernel
theorem d_M_block_102 : decode b_M_block 102 = .ok (.getfield 25, 3) := by decide +kernel
theorem d_M_block_105 : decode b_M_block 105 = .ok (.iconst 2, 1) := by decide +kernel
theorem d_M_block_106 : decode b_M_block 106 = .ok (.dup2, 1) := by decide +kernel
theorem d_M_block_107 : decode b_M_block 107 = .ok (.iaload, 1) := by decide +kernel
theorem d_M_block_108 : decode b_M_block 108 = .ok (.iconst 1, 1) := by decide +kernel
theorem d_M_block_109 : decode b_M_block 109 = .ok (.iadd, 1) := by decide +kernel
theorem d_M_block_110 : decode b_M_block 110 = .ok (.iastore, 1) := by decide +kernel
theorem d_M_block_111 : decode b_M_block 111 = .ok (.aload_n 0, 1) := by decide +kernel
theorem d_M_block_112 : decode b_M_block 112 = .ok (.getfield 25, 3) := by decide +kernel
theorem d_M_block_115 : decode b_M_block 115 = .ok (.iconst 3, 1) := by decide +kernel
theorem d_M_block_116 : decode b_M_block 116 = .ok (.dup2, 1) := by decide +kernel
theorem d_M_block_117 : decode b_M_block 117 = .ok (.iaload, 1) := by decide +kernel
theorem d_M_block_118 : decode b_M_block 118 = .ok (.iload_n 1, 1) := by decide +kernel
theorem d_M_block_119 : decode b_M_block 119 = .ok (.ifCond .lt 7, 3) := by decide +kernel
theorem d_M_block_122 : decode b_M_block 122 = .ok (.iconst 1, 1) := by decide +kernel
theorem d_M_block_123 : decode b_M_block 123 = .ok (.goto 4, 3) := by decide +kernel
theorem d_M_block_126 : decode b_M_block 126 = .ok (.iconst 0, 1) := by decide +kernel
theorem d_M_block_127 : decode b_M_block 127 = .ok (.iadd, 1) := by decide +kernel
theorem d_M_block_128 : decode b_M_block 128 = .ok (.iastore, 1) := by decide +kernel
theorem d_M_block_129 : decode b_M_block 129 = .ok (.aload_n 0, 1) := by decide +kernel
theorem d_M_block_130 : decode b_M_block 130 = .ok (.iconst 0, 1) := by decide +kernel
theorem d_M_block_131 : decode b_M_block 131 = .ok (.putfield 43, 3) := by decide +kernel
theorem d_M_block_134 : decode b_M_block 134 = .ok (.aload_n 0, 1) := by decide +kernel
theorem d_M_block_135 : decode b_M_block 135 = .ok (.getfield 46, 3) := by decide +kernel
theorem d_M_block_138 : decode b_M_block 138 = .ok (.sipush 259, 3) := by decide +kernel
theorem d_M_block_141 : decode b_M_block 141 = .ok (.if_icmp .ne 9, 3) := by decide +kernel
theorem d_M_block_144 : decode b_M_block 144 = .ok (.aload_n 0, 1) := by decide +kernel
theorem d_M_block_145 : decode b_M_block 145 = .ok (.invokevirtual 60, 3) := by decide +kernel
theorem d_M_block_148 : decode b_M_block 148 = .ok (.iconst 1, 1) := by decide +kernel
theorem d_M_block_149 : decode b_M_block 149 = .ok (.ireturn, 1) := by decide +kernel
theorem d_M_block_150 : decode b_M_block 150 = .ok (.iconst 0, 1) := by decide +kernel
theorem d_M_block_151 : decode b_M_block 151 = .ok (.ireturn, 1) := by decide +kernel
theorem d_M_look_0 : decode b_M_look 0 = .ok (.iconst 0, 1) := by decide +kernel
theorem d_M_look_1 : decode b_M_look 1 = .ok (.istore_n 1, 1) := by decide +kernel
theorem d_M_look_2 : decode b_M_look 2 = .ok (.iconst 0, 1) := by decide +kernel
theorem d_M_look_3 : decode b_M_look 3 = .ok (.istore_n 2, 1) := by decide +kernel
theorem d_M_look_4 : decode b_M_look 4 = .ok (.iload_n 2, 1) := by decide +kernel
theorem d_M_look_5 : decode b_M_look 5 = .ok (.bipush 16, 2) := by decide +kernel
theorem d_M_look_7 : decode b_M_look 7 = .ok (.if_icmp .ge 35, 3) := by decide +kernel
theorem d_M_look_10 : decode b_M_look 10 = .ok (.iload_n 1, 1) := by decide +kernel
theorem d_M_look_11 : decode b_M_look 11 = .ok (.aload_n 0, 1) := by decide +kernel
theorem d_M_look_12 : decode b_M_look 12 = .ok (.getfield 7, 3) := by decide +kernel
theorem d_M_look_15 : decode b_M_look 15 = .ok (.iload_n 2, 1) := by decide +kernel
theorem d_M_look_16 : decode b_M_look 16 = .ok (.iaload, 1) := by decide +kernel
theorem d_M_look_17 : decode b_M_look 17 = .ok (.ldc 63, 2) := by decide +kernel
theorem d_M_look_19 : decode b_M_look 19 = .ok (.bipush 15, 2) := by decide +kernel
theorem d_M_look_21 : decode b_M_look 21 = .ok (.iload_n 2, 1) := by decide +kernel
theorem d_M_look_22 : decode b_M_look 22 = .ok (.isub, 1) := by decide +kernel
theorem d_M_look_23 : decode b_M_look 23 = .ok (.ishr, 1) := by decide +kernel
theorem d_M_look_24 : decode b_M_look 24 = .ok (.iconst 1, 1) := by decide +kernel
theorem d_M_look_25 : decode b_M_look 25 = .ok (.iand, 1) := by decide +kernel
theorem d_M_look_26 : decode b_M_look 26 = .ok (.if_icmp .eq 7, 3) := by decide +kernel
theorem d_M_look_29 : decode b_M_look 29 = .ok (.iconst 1, 1) := by decide +kernel
theorem d_M_look_30 : decode b_M_look 30 = .ok (.goto 4, 3) := by decide +kernel
theorem d_M_look_33 : decode b_M_look 33 = .ok (.iconst 0, 1) := by decide +kernel
theorem d_M_look_34 : decode b_M_look 34 = .ok (.iadd, 1) := by decide +kernel
theorem d_M_look_35 : decode b_M_look 35 = .ok (.istore_n 1, 1) := by decide +kernel
theorem d_M_look_36 : decode b_M_look 36 = .ok (.iinc 2 1, 3) := by decide +kernel
theorem d_M_look_39 : decode b_M_look 39 = .ok (.goto (-35), 3) := by decide +kernel
theorem d_M_look_42 : decode b_M_look 42 = .ok (.iload_n 1, 1) := by decide +kernel
theorem d_M_look_43 : decode b_M_look 43 = .ok (.ifCond .eq 15, 3) := by decide +kernel
theorem d_M_look_46 : decode b_M_look 46 = .ok (.iload_n 1, 1) := by decide +kernel
theorem d_M_look_47 : decode b_M_look 47 = .ok (.iconst 1, 1) := by decide +kernel
theorem d_M_look_48 : decode b_M_look 48 = .ok (.if_icmp .ne 40, 3) := by decide +kernel
theorem d_M_look_51 : decode b_M_look 51 = .ok (.aload_n 0, 1) := by decide +kernel
theorem d_M_look_52 : decode b_M_look 52 = .ok (.getfield 36, 3) := by decide +kernel
theorem d_M_look_55 : decode b_M_look 55 = .ok (.ifCond .eq 33, 3) := by decide +kernel
theorem d_M_look_58 : decode b_M_look 58 = .ok (.aload_n 0, 1) := by decide +kernel
theorem d_M_look_59 : decode b_M_look 59 = .ok (.getfield 25, 3) := by decide +kernel
theorem d_M_look_62 : decode b_M_look 62 = .ok (.iconst 0, 1) := by decide +kernel
theorem d_M_look_63 : decode b_M_look 63 = .ok (.dup2, 1) := by decide +kernel
theorem d_M_look_64 : decode b_M_look 64 = .ok (.iaload, 1) := by decide +kernel
theorem d_M_look_65 : decode b_M_look 65 = .ok (.iconst 1, 1) := by decide +kernel
theorem d_M_look_66 : decode b_M_look 66 = .ok (.iadd, 1) := by decide +kernel
theorem d_M_look_67 : decode b_M_look 67 = .ok (.iastore, 1) := by decide +kernel
theorem d_M_look_68 : decode b_M_look 68 = .ok (.aload_n 0, 1) := by decide +kernel
theorem d_M_look_69 : decode b_M_look 69 = .ok (.getfield 25, 3) := by decide +kernel
theorem d_M_look_72 : decode b_M_look 72 = .ok (.iconst 4, 1) := by decide +kernel
theorem d_M_look_73 : decode b_M_look 73 = .ok (.dup2, 1) := by decide +kernel
theorem d_M_look_74 : decode b_M_look 74 = .ok (.iaload, 1) := by decide +kernel
theorem d_M_look_75 : decode b_M_look 75 = .ok (.iload_n 1, 1) := by decide +kernel
theorem d_M_look_76 : decode b_M_look 76 = .ok (.iadd, 1) := by decide +kernel
theorem d_M_look_77 : decode b_M_look 77 = .ok (.iastore, 1) := by decide +kernel
theorem d_M_look_78 : decode b_M_look 78 = .ok (.aload_n 0, 1) := by decide +kernel
theorem d_M_look_79 : decode b_M_look 79 = .ok (.iconst 0, 1) := by decide +kernel
theorem d_M_look_80 : decode b_M_look 80 = .ok (.putfield 46, 3) := by decide +kernel
theorem d_M_look_83 : decode b_M_look 83 = .ok (.aload_n 0, 1) := by decide +kernel
theorem d_M_look_84 : decode b_M_look 84 = .ok (.iconst 2, 1) := by decide +kernel
theorem d_M_look_85 : decode b_M_look 85 = .ok (.invokevirtual 52, 3) := by decide +kernel
theorem d_M_look_88 : decode b_M_look 88 = .ok (.return_, 1) := by decide +kernel
theorem d_M_bit_0 : decode b_M_bit 0 = .ok (.aload_n 0, 1) := by decide +kernel
theorem d_M_bit_1 : decode b_M_bit 1 = .ok (.getfield 40, 3) := by decide +kernel
theorem d_M_bit_4 : decode b_M_bit 4 = .ok (.iconst 2, 1) := by decide +kernel
theorem d_M_bit_5 : decode b_M_bit 5 = .ok (.if_icmp .ne 41, 3) := by decide +kernel
theorem d_M_bit_8 : decode b_M_bit 8 = .ok (.aload_n 0, 1) := by decide +kernel
theorem d_M_bit_9 : decode b_M_bit 9 = .ok (.getfield 7, 3) := by decide +kernel
theorem d_M_bit_12 : decode b_M_bit 12 = .ok (.aload_n 0, 1) := by decide +kernel
theorem d_M_bit_13 : decode b_M_bit 13 = .ok (.getfield 43, 3) := by decide +kernel
theorem d_M_bit_16 : decode b_M_bit 16 = .ok (.iload_n 1, 1) := by decide +kernel
theorem d_M_bit_17 : decode b_M_bit 17 = .ok (.iastore, 1) := by decide +kernel
theorem d_M_bit_18 : decode b_M_bit 18 = .ok (.aload_n 0, 1) := by decide +kernel
theorem d_M_bit_19 : decode b_M_bit 19 = .ok (.dup, 1) := by decide +kernel
theorem d_M_bit_20 : decode b_M_bit 20 = .ok (.getfield 43, 3) := by decide +kernel
theorem d_M_bit_23 : decode b_M_bit 23 = .ok (.iconst 1, 1) := by decide +kernel
theorem d_M_bit_24 : decode b_M_bit 24 = .ok (.iadd, 1) := by decide +kernel
theorem d_M_bit_25 : decode b_M_bit 25 = .ok (.putfield 43, 3) := by decide +kernel
theorem d_M_bit_28 : decode b_M_bit 28 = .ok (.aload_n 0, 1) := by decide +kernel
theorem d_M_bit_29 : decode b_M_bit 29 = .ok (.getfield 43, 3) := by decide +kernel
theorem d_M_bit_32 : decode b_M_bit 32 = .ok (.bipush 64, 2) := by decide +kernel
theorem d_M_bit_34 : decode b_M_bit 34 = .ok (.if_icmp .ne 10, 3) := by decide +kernel
theorem d_M_bit_37 : decode b_M_bit 37 = .ok (.aload_n 0, 1) := by decide +kernel
theorem d_M_bit_38 : decode b_M_bit 38 = .ok (.invokevirtual 64, 3) := by decide +kernel
theorem d_M_bit_41 : decode b_M_bit 41 = .ok (.goto 4, 3) := by decide +kernel
theorem d_M_bit_44 : decode b_M_bit 44 = .ok (.iconst 0, 1) := by decide +kernel
theorem d_M_bit_45 : decode b_M_bit 45 = .ok (.ireturn, 1) := by decide +kernel
theorem d_M_bit_46 : decode b_M_bit 46 = .ok (.aload_n 0, 1) := by decide +kernel
theorem d_M_bit_47 : decode b_M_bit 47 = .ok (.getfield 43, 3) := by decide +kernel
theorem d_M_bit_50 : decode b_M_bit 50 = .ok (.bipush 16, 2) := by decide +kernel
theorem d_M_bit_52 : decode b_M_bit 52 = .ok (.if_icmp .ne 37, 3) := by decide +kernel
theorem d_M_bit_55 : decode b_M_bit 55 = .ok (.iconst 0, 1) := by decide +kernel
theorem d_M_bit_56 : decode b_M_bit 56 = .ok (.istore_n 2, 1) := by decide +kernel
theorem d_M_bit_57 : decode b_M_bit 57 = .ok (.iload_n 2, 1) := by decide +kernel
theorem d_M_bit_58 : decode b_M_bit 58 = .ok (.bipush 15, 2) := by decide +kernel
theorem d_M_bit_60 : decode b_M_bit 60 = .ok (.if_icmp .ge 23, 3) := by decide +kernel
theorem d_M_bit_63 : decode b_M_bit 63 = .ok (.aload_n 0, 1) := by decide +kernel
theorem d_M_bit_64 : decode b_M_bit 64 = .ok (.getfield 7, 3) := by decide +kernel
theorem d_M_bit_67 : decode b_M_bit 67 = .ok (.iload_n 2, 1) := by decide +kernel
theorem d_M_bit_68 : decode b_M_bit 68 = .ok (.aload_n 0, 1) := by decide +kernel
theorem d_M_bit_69 : decode b_M_bit 69 = .ok (.getfield 7, 3) := by decide +kernel
theorem d_M_bit_72 : decode b_M_bit 72 = .ok (.iload_n 2, 1) := by decide +kernel
theorem d_M_bit_73 : decode b_M_bit 73 = .ok (.iconst 1, 1) := by decide +kernel
theorem d_M_bit_74 : decode b_M_bit 74 = .ok (.iadd, 1) := by decide +kernel
theorem d_M_bit_75 : decode b_M_bit 75 = .ok (.iaload, 1) := by decide +kernel
theorem d_M_bit_76 : decode b_M_bit 76 = .ok (.iastore, 1) := by decide +kernel
theorem d_M_bit_77 : decode b_M_bit 77 = .ok (.iinc 2 1, 3) := by decide +kernel
theorem d_M_bit_80 : decode b_M_bit 80 = .ok (.goto (-23), 3) := by decide +kernel
theorem d_M_bit_83 : decode b_M_bit 83 = .ok (.aload_n 0, 1) := by decide +kernel
theorem d_M_bit_84 : decode b_M_bit 84 = .ok (.bipush 15, 2) := by decide +kernel
theorem d_M_bit_86 : decode b_M_bit 86 = .ok (.putfield 43, 3) := by decide +kernel
theorem d_M_bit_89 : decode b_M_bit 89 = .ok (.aload_n 0, 1) := by decide +kernel
theorem d_M_bit_90 : decode b_M_bit 90 = .ok (.getfield 7, 3) := by decide +kernel
theorem d_M_bit_93 : decode b_M_bit 93 = .ok (.aload_n 0, 1) := by decide +kernel
theorem d_M_bit_94 : decode b_M_bit 94 = .ok (.getfield 43, 3) := by decide +kernel
theorem d_M_bit_97 : decode b_M_bit 97 = .ok (.iload_n 1, 1) := by decide +kernel
theorem d_M_bit_98 : decode b_M_bit 98 = .ok (.iastore, 1) := by decide +kernel
theorem d_M_bit_99 : decode b_M_bit 99 = .ok (.aload_n 0, 1) := by decide +kernel
theorem d_M_bit_100 : decode b_M_bit 100 = .ok (.dup, 1) := by decide +kernel
theorem d_M_bit_101 : decode b_M_bit 101 = .ok (.getfield 43, 3) := by decide +kernel
theorem d_M_bit_104 : decode b_M_bit 104 = .ok (.iconst 1, 1) := by decide +kernel
theorem d_M_bit_105 : decode b_M_bit 105 = .ok (.iadd, 1) := by decide +kernel
theorem d_M_bit_106 : decode b_M_bit 106 = .ok (.putfield 43, 3) := by decide +kernel
theorem d_M_bit_109 : decode b_M_bit 109 = .ok (.aload_n 0, 1) := by decide +kernel
theorem d_M_bit_110 : decode b_M_bit 110 = .ok (.getfield 43, 3) := by decide +kernel
theorem d_M_bit_113 : decode b_M_bit 113 = .ok (.bipush 16, 2) := by decide +kernel
theorem d_M_bit_115 : decode b_M_bit 115 = .ok (.if_icmp .ne 7, 3) := by decide +kernel
theorem d_M_bit_118 : decode b_M_bit 118 = .ok (.aload_n 0, 1) := by decide +kernel
theorem d_M_bit_119 : decode b_M_bit 119 = .ok (.invokevirtual 67, 3) := by decide +kernel
theorem d_M_bit_122 : decode b_M_bit 122 = .ok (.iconst 0, 1) := by decide +kernel
theorem d_M_bit_123 : decode b_M_bit 123 = .ok (.ireturn, 1) := by decide +kernel
theorem d_M_turn_0 : decode b_M_turn 0 = .ok (.aload_n 0, 1) := by decide +kernel
theorem d_M_turn_1 : decode b_M_turn 1 = .ok (.iconst 0, 1) := by decide +kernel
theorem d_M_turn_2 : decode b_M_turn 2 = .ok (.putfield 28, 3) := by decide +kernel
theorem d_M_turn_5 : decode b_M_turn 5 = .ok (.iload_n 1, 1) := by decide +kernel
theorem d_M_turn_6 : decode b_M_turn 6 = .ok (.aload_n 0, 1) := by decide +kernel
theorem d_M_turn_7 : decode b_M_turn 7 = .ok (.getfield 40, 3) := by decide +kernel
theorem d_M_turn_10 : decode b_M_turn 10 = .ok (.ifCond .eq 7, 3) := by decide +kernel
theorem d_M_turn_13 : decode b_M_turn 13 = .ok (.iconst 1, 1) := by decide +kernel
theorem d_M_turn_14 : decode b_M_turn 14 = .ok (.goto 4, 3) := by decide +kernel
theorem d_M_turn_17 : decode b_M_turn 17 = .ok (.iconst 0, 1) := by decide +kernel
theorem d_M_turn_18 : decode b_M_turn 18 = .ok (.if_icmp .ne 5, 3) := by decide +kernel
theorem d_M_turn_21 : decode b_M_turn 21 = .ok (.iconst 0, 1) := by decide +kernel
theorem d_M_turn_22 : decode b_M_turn 22 = .ok (.ireturn, 1) := by decide +kernel
theorem d_M_turn_23 : decode b_M_turn 23 = .ok (.aload_n 0, 1) := by decide +kernel
theorem d_M_turn_24 : decode b_M_turn 24 = .ok (.iconst 0, 1) := by decide +kernel
theorem d_M_turn_25 : decode b_M_turn 25 = .ok (.putfield 46, 3) := by decide +kernel
theorem d_M_turn_28 : decode b_M_turn 28 = .ok (.aload_n 0, 1) := by decide +kernel
theorem d_M_turn_29 : decode b_M_turn 29 = .ok (.iload_n 1, 1) := by decide +kernel
theorem d_M_turn_30 : decode b_M_turn 30 = .ok (.ifCond .eq 7, 3) := by decide +kernel
theorem d_M_turn_33 : decode b_M_turn 33 = .ok (.iconst 1, 1) := by decide +kernel
theorem d_M_turn_34 : decode b_M_turn 34 = .ok (.goto 4, 3) := by decide +kernel
theorem d_M_turn_37 : decode b_M_turn 37 = .ok (.iconst 0, 1) := by decide +kernel
theorem d_M_turn_38 : decode b_M_turn 38 = .ok (.invokevirtual 52, 3) := by decide +kernel
theorem d_M_turn_41 : decode b_M_turn 41 = .ok (.iconst 1, 1) := by decide +kernel
theorem d_M_turn_42 : decode b_M_turn 42 = .ok (.ireturn, 1) := by decide +kernel
theorem d_M_mending_0 : decode b_M_mending 0 = .ok (.aload_n 0, 1) := by decide +kernel
theorem d_M_mending_1 : decode b_M_mending 1 = .ok (.iconst 0, 1) := by decide +kernel
theorem d_M_mending_2 : decode b_M_mending 2 = .ok (.putfield 28, 3) := by decide +kernel
theorem d_M_mending_5 : decode b_M_mending 5 = .ok (.aload_n 0, 1) := by decide +kernel
theorem d_M_mending_6 : decode b_M_mending 6 = .ok (.iload_n 1, 1) := by decide +kernel
theorem d_M_mending_7 : decode b_M_mending 7 = .ok (.putfield 36, 3) := by decide +kernel
theorem d_M_mending_10 : decode b_M_mending 10 = .ok (.return_, 1) := by decide +kernel
theorem d_M_take_0 : decode b_M_take 0 = .ok (.aload_n 0, 1) := by decide +kernel
theorem d_M_take_1 : decode b_M_take 1 = .ok (.iconst 0, 1) := by decide +kernel
theorem d_M_take_2 : decode b_M_take 2 = .ok (.putfield 28, 3) := by decide +kernel
theorem d_M_take_5 : decode b_M_take 5 = .ok (.aload_n 0, 1) := by decide +kernel
theorem d_M_take_6 : decode b_M_take 6 = .ok (.getfield 40, 3) := by decide +kernel
theorem d_M_take_9 : decode b_M_take 9 = .ok (.ifCond .eq 14, 3) := by decide +kernel
theorem d_M_take_12 : decode b_M_take 12 = .ok (.iload_n 1, 1) := by decide +kernel
theorem d_M_take_13 : decode b_M_take 13 = .ok (.iconst 1, 1) := by decide +kernel
theorem d_M_take_14 : decode b_M_take 14 = .ok (.if_icmp .lt 9, 3) := by decide +kernel
theorem d_M_take_17 : decode b_M_take 17 = .ok (.iload_n 1, 1) := by decide +kernel
theorem d_M_take_18 : decode b_M_take 18 = .ok (.bipush 64, 2) := by decide +kernel
theorem d_M_take_20 : decode b_M_take 20 = .ok (.if_icmp .le 5, 3) := by decide +kernel
theorem d_M_take_23 : decode b_M_take 23 = .ok (.iconst (-1), 1) := by decide +kernel
theorem d_M_take_24 : decode b_M_take 24 = .ok (.ireturn, 1) := by decide +kernel
theorem d_M_take_25 : decode b_M_take 25 = .ok (.iconst 0, 1) := by decide +kernel
theorem d_M_take_26 : decode b_M_take 26 = .ok (.istore 4, 2) := by decide +kernel
theorem d_M_take_28 : decode b_M_take 28 = .ok (.iload_n 1, 1) := by decide +kernel
theorem d_M_take_29 : decode b_M_take 29 = .ok (.iconst 1, 1) := by decide +kernel
theorem d_M_take_30 : decode b_M_take 30 = .ok (.isub, 1) := by decide +kernel
theorem d_M_take_31 : decode b_M_take 31 = .ok (.istore 5, 2) := by decide +kernel
theorem d_M_take_33 : decode b_M_take 33 = .ok (.iload 5, 2) := by decide +kernel
theorem d_M_take_35 : decode b_M_take 35 = .ok (.ifCond .lt 25, 3) := by decide +kernel
theorem d_M_take_38 : decode b_M_take 38 = .ok (.iload 4, 2) := by decide +kernel
theorem d_M_take_40 : decode b_M_take 40 = .ok (.aload_n 0, 1) := by decide +kernel
theorem d_M_take_41 : decode b_M_take 41 = .ok (.lload_n 2, 1) := by decide +kernel
theorem d_M_take_42 : decode b_M_take 42 = .ok (.iload 5, 2) := by decide +kernel
theorem d_M_take_44 : decode b_M_take 44 = .ok (.lshr, 1) := by decide +kernel
theorem d_M_take_45 : decode b_M_take 45 = .ok (.l2i, 1) := by decide +kernel
theorem d_M_take_46 : decode b_M_take 46 = .ok (.iconst 1, 1) := by decide +kernel
theorem d_M_take_47 : decode b_M_take 47 = .ok (.iand, 1) := by decide +kernel
theorem d_M_take_48 : decode b_M_take 48 = .ok (.invokevirtual 70, 3) := by decide +kernel
theorem d_M_take_51 : decode b_M_take 51 = .ok (.iadd, 1) := by decide +kernel
theorem d_M_take_52 : decode b_M_take 52 = .ok (.istore 4, 2) := by decide +kernel
theorem d_M_take_54 : decode b_M_take 54 = .ok (.iinc 5 (-1), 3) := by decide +kernel
theorem d_M_take_57 : decode b_M_take 57 = .ok (.goto (-24), 3) := by decide +kernel
theorem d_M_take_60 : decode b_M_take 60 = .ok (.iload 4, 2) := by decide +kernel
theorem d_M_take_62 : decode b_M_take 62 = .ok (.ireturn, 1) := by decide +kernel
theorem d_M_state_0 : decode b_M_state 0 = .ok (.aload_n 0, 1) := by decide +kernel
theorem d_M_state_1 : decode b_M_state 1 = .ok (.iconst 0, 1) := by decide +kernel
theorem d_M_state_2 : decode b_M_state 2 = .ok (.putfield 28, 3) := by decide +kernel
theorem d_M_state_5 : decode b_M_state 5 = .ok (.aload_n 0, 1) := by decide +kernel
theorem d_M_state_6 : decode b_M_state 6 = .ok (.getfield 40, 3) := by decide +kernel
theorem d_M_state_9 : decode b_M_state 9 = .ok (.ireturn, 1) := by decide +kernel
theorem d_M_count_0 : decode b_M_count 0 = .ok (.aload_n 0, 1) := by decide +kernel
theorem d_M_count_1 : decode b_M_count 1 = .ok (.iconst 0, 1) := by decide +kernel
theorem d_M_count_2 : decode b_M_count 2 = .ok (.putfield 28, 3) := by decide +kernel
theorem d_M_count_5 : decode b_M_count 5 = .ok (.iload_n 1, 1) := by decide +kernel
theorem d_M_count_6 : decode b_M_count 6 = .ok (.ifCond .lt 8, 3) := by decide +kernel
theorem d_M_count_9 : decode b_M_count 9 = .ok (.iload_n 1, 1) := by decide +kernel
theorem d_M_count_10 : decode b_M_count 10 = .ok (.iconst 4, 1) := by decide +kernel
theorem d_M_count_11 : decode b_M_count 11 = .ok (.if_icmp .le 7, 3) := by decide +kernel
theorem d_M_count_14 : decode b_M_count 14 = .ok (.iconst (-1), 1) := by decide +kernel
theorem d_M_count_15 : decode b_M_count 15 = .ok (.goto 9, 3) := by decide +kernel
theorem d_M_count_18 : decode b_M_count 18 = .ok (.aload_n 0, 1) := by decide +kernel
theorem d_M_count_19 : decode b_M_count 19 = .ok (.getfield 25, 3) := by decide +kernel
theorem d_M_count_22 : decode b_M_count 22 = .ok (.iload_n 1, 1) := by decide +kernel
theorem d_M_count_23 : decode b_M_count 23 = .ok (.iaload, 1) := by decide +kernel
theorem d_M_count_24 : decode b_M_count 24 = .ok (.ireturn, 1) := by decide +kernel
theorem d_M_size_0 : decode b_M_size 0 = .ok (.aload_n 0, 1) := by decide +kernel
theorem d_M_size_1 : decode b_M_size 1 = .ok (.iconst 0, 1) := by decide +kernel
theorem d_M_size_2 : decode b_M_size 2 = .ok (.putfield 28, 3) := by decide +kernel
theorem d_M_size_5 : decode b_M_size 5 = .ok (.aload_n 0, 1) := by decide +kernel
theorem d_M_size_6 : decode b_M_size 6 = .ok (.getfield 49, 3) := by decide +kernel
theorem d_M_size_9 : decode b_M_size 9 = .ok (.ireturn, 1) := by decide +kernel
theorem d_M_byteAt_0 : decode b_M_byteAt 0 = .ok (.aload_n 0, 1) := by decide +kernel
theorem d_M_byteAt_1 : decode b_M_byteAt 1 = .ok (.iconst 0, 1) := by decide +kernel
theorem d_M_byteAt_2 : decode b_M_byteAt 2 = .ok (.putfield 28, 3) := by decide +kernel
theorem d_M_byteAt_5 : decode b_M_byteAt 5 = .ok (.iload_n 1, 1) := by decide +kernel
theorem d_M_byteAt_6 : decode b_M_byteAt 6 = .ok (.ifCond .lt 11, 3) := by decide +kernel
theorem d_M_byteAt_9 : decode b_M_byteAt 9 = .ok (.iload_n 1, 1) := by decide +kernel
theorem d_M_byteAt_10 : decode b_M_byteAt 10 = .ok (.aload_n 0, 1) := by decide +kernel
theorem d_M_byteAt_11 : decode b_M_byteAt 11 = .ok (.getfield 49, 3) := by decide +kernel
theorem d_M_byteAt_14 : decode b_M_byteAt 14 = .ok (.if_icmp .lt 7, 3) := by decide +kernel
theorem d_M_byteAt_17 : decode b_M_byteAt 17 = .ok (.iconst (-1), 1) := by decide +kernel
theorem d_M_byteAt_18 : decode b_M_byteAt 18 = .ok (.goto 9, 3) := by decide +kernel
theorem d_M_byteAt_21 : decode b_M_byteAt 21 = .ok (.aload_n 0, 1) := by decide +kernel
theorem d_M_byteAt_22 : decode b_M_byteAt 22 = .ok (.getfield 16, 3) := by decide +kernel
theorem d_M_byteAt_25 : decode b_M_byteAt 25 = .ok (.iload_n 1, 1) := by decide +kernel
theorem d_M_byteAt_26 : decode b_M_byteAt 26 = .ok (.iaload, 1) := by decide +kernel
theorem d_M_byteAt_27 : decode b_M_byteAt 27 = .ok (.ireturn, 1) := by decide +kernel
theorem d_M_put_0 : decode b_M_put 0 = .ok (.aload_n 0, 1) := by decide +kernel
theorem d_M_put_1 : decode b_M_put 1 = .ok (.iconst 0, 1) := by decide +kernel
theorem d_M_put_2 : decode b_M_put 2 = .ok (.putfield 28, 3) := by decide +kernel
theorem d_M_put_5 : decode b_M_put 5 = .ok (.aload_n 0, 1) := by decide +kernel
theorem d_M_put_6 : decode b_M_put 6 = .ok (.getfield 74, 3) := by decide +kernel
theorem d_M_put_9 : decode b_M_put 9 = .ok (.sipush 259, 3) := by decide +kernel
theorem d_M_put_12 : decode b_M_put 12 = .ok (.if_icmp .ne 5, 3) := by decide +kernel
theorem d_M_put_15 : decode b_M_put 15 = .ok (.iconst (-1), 1) := by decide +kernel
theorem d_M_put_16 : decode b_M_put 16 = .ok (.ireturn, 1) := by decide +kernel
theorem d_M_put_17 : decode b_M_put 17 = .ok (.aload_n 0, 1) := by decide +kernel
theorem d_M_put_18 : decode b_M_put 18 = .ok (.getfield 19, 3) := by decide +kernel
theorem d_M_put_21 : decode b_M_put 21 = .ok (.aload_n 0, 1) := by decide +kernel
theorem d_M_put_22 : decode b_M_put 22 = .ok (.getfield 74, 3) := by decide +kernel
theorem d_M_put_25 : decode b_M_put 25 = .ok (.iload_n 1, 1) := by decide +kernel
theorem d_M_put_26 : decode b_M_put 26 = .ok (.sipush 255, 3) := by decide +kernel
theorem d_M_put_29 : decode b_M_put 29 = .ok (.iand, 1) := by decide +kernel
theorem d_M_put_30 : decode b_M_put 30 = .ok (.iastore, 1) := by decide +kernel
theorem d_M_put_31 : decode b_M_put 31 = .ok (.aload_n 0, 1) := by decide +kernel
theorem d_M_put_32 : decode b_M_put 32 = .ok (.dup, 1) := by decide +kernel
theorem d_M_put_33 : decode b_M_put 33 = .ok (.getfield 74, 3) := by decide +kernel
theorem d_M_put_36 : decode b_M_put 36 = .ok (.iconst 1, 1) := by decide +kernel
theorem d_M_put_37 : decode b_M_put 37 = .ok (.iadd, 1) := by decide +kernel
theorem d_M_put_38 : decode b_M_put 38 = .ok (.putfield 74, 3) := by decide +kernel
theorem d_M_put_41 : decode b_M_put 41 = .ok (.aload_n 0, 1) := by decide +kernel
theorem d_M_put_42 : decode b_M_put 42 = .ok (.getfield 74, 3) := by decide +kernel
theorem d_M_put_45 : decode b_M_put 45 = .ok (.ireturn, 1) := by decide +kernel
theorem d_M_out_0 : decode b_M_out 0 = .ok (.aload_n 0, 1) := by decide +kernel
theorem d_M_out_1 : decode b_M_out 1 = .ok (.getfield 22, 3) := by decide +kernel
theorem d_M_out_4 : decode b_M_out 4 = .ok (.aload_n 0, 1) := by decide +kernel
theorem d_M_out_5 : decode b_M_out 5 = .ok (.getfield 77, 3) := by decide +kernel
theorem d_M_out_8 : decode b_M_out 8 = .ok (.iload_n 1, 1) := by decide +kernel
theorem d_M_out_9 : decode b_M_out 9 = .ok (.iastore, 1) := by decide +kernel
theorem d_M_out_10 : decode b_M_out 10 = .ok (.aload_n 0, 1) := by decide +kernel
theorem d_M_out_11 : decode b_M_out 11 = .ok (.dup, 1) := by decide +kernel
theorem d_M_out_12 : decode b_M_out 12 = .ok (.getfield 77, 3) := by decide +kernel
theorem d_M_out_15 : decode b_M_out 15 = .ok (.iconst 1, 1) := by decide +kernel
theorem d_M_out_16 : decode b_M_out 16 = .ok (.iadd, 1) := by decide +kernel
theorem d_M_out_17 : decode b_M_out 17 = .ok (.putfield 77, 3) := by decide +kernel
theorem d_M_out_20 : decode b_M_out 20 = .ok (.return_, 1) := by decide +kernel
theorem d_M_check_0 : decode b_M_check 0 = .ok (.iconst 0, 1) := by decide +kernel
theorem d_M_check_1 : decode b_M_check 1 = .ok (.istore_n 2, 1) := by decide +kernel
theorem d_M_check_2 : decode b_M_check 2 = .ok (.iconst 0, 1) := by decide +kernel
theorem d_M_check_3 : decode b_M_check 3 = .ok (.istore_n 3, 1) := by decide +kernel
theorem d_M_check_4 : decode b_M_check 4 = .ok (.iload_n 3, 1) := by decide +kernel
theorem d_M_check_5 : decode b_M_check 5 = .ok (.sipush 128, 3) := by decide +kernel
theorem d_M_check_8 : decode b_M_check 8 = .ok (.if_icmp .ge 116, 3) := by decide +kernel
theorem d_M_check_11 : decode b_M_check 11 = .ok (.iconst 0, 1) := by decide +kernel
theorem d_M_check_12 : decode b_M_check 12 = .ok (.istore 4, 2) := by decide +kernel
theorem d_M_check_14 : decode b_M_check 14 = .ok (.iconst 0, 1) := by decide +kernel
theorem d_M_check_15 : decode b_M_check 15 = .ok (.istore 5, 2) := by decide +kernel
theorem d_M_check_17 : decode b_M_check 17 = .ok (.iload 5, 2) := by decide +kernel
theorem d_M_check_19 : decode b_M_check 19 = .ok (.bipush 63, 2) := by decide +kernel
theorem d_M_check_21 : decode b_M_check 21 = .ok (.if_icmp .ge 84, 3) := by decide +kernel
theorem d_M_check_24 : decode b_M_check 24 = .ok (.iload 5, 2) := by decide +kernel
theorem d_M_check_26 : decode b_M_check 26 = .ok (.bipush 56, 2) := by decide +kernel
theorem d_M_check_28 : decode b_M_check 28 = .ok (.if_icmp .ge 29, 3) := by decide +kernel
theorem d_M_check_31 : decode b_M_check 31 = .ok (.aload_n 0, 1) := by decide +kernel
theorem d_M_check_32 : decode b_M_check 32 = .ok (.getfield 19, 3) := by decide +kernel
theorem d_M_check_35 : decode b_M_check 35 = .ok (.iload_n 1, 1) := by decide +kernel
theorem d_M_check_36 : decode b_M_check 36 = .ok (.iload 5, 2) := by decide +kernel
theorem d_M_check_38 : decode b_M_check 38 = .ok (.bipush 8, 2) := by decide +kernel
theorem d_M_check_40 : decode b_M_check 40 = .ok (.idiv, 1) := by decide +kernel
theorem d_M_check_41 : decode b_M_check 41 = .ok (.iadd, 1) := by decide +kernel
theorem d_M_check_42 : decode b_M_check 42 = .ok (.iaload, 1) := by decide +kernel
theorem d_M_check_43 : decode b_M_check 43 = .ok (.bipush 7, 2) := by decide +kernel
theorem d_M_check_45 : decode b_M_check 45 = .ok (.iload 5, 2) := by decide +kernel
theorem d_M_check_47 : decode b_M_check 47 = .ok (.bipush 8, 2) := by decide +kernel
theorem d_M_check_49 : decode b_M_check 49 = .ok (.irem, 1) := by decide +kernel
theorem d_M_check_50 : decode b_M_check 50 = .ok (.isub, 1) := by decide +kernel
theorem d_M_check_51 : decode b_M_check 51 = .ok (.ishr, 1) := by decide +kernel
theorem d_M_check_52 : decode b_M_check 52 = .ok (.iconst 1, 1) := by decide +kernel
theorem d_M_check_53 : decode b_M_check 53 = .ok (.iand, 1) := by decide +kernel
theorem d_M_check_54 : decode b_M_check 54 = .ok (.goto 14, 3) := by decide +kernel
theorem d_M_check_57 : decode b_M_check 57 = .ok (.iconst 1, 1) := by decide +kernel
theorem d_M_check_58 : decode b_M_check 58 = .ok (.iload_n 3, 1) := by decide +kernel
theorem d_M_check_59 : decode b_M_check 59 = .ok (.bipush 62, 2) := by decide +kernel
theorem d_M_check_61 : decode b_M_check 61 = .ok (.iload 5, 2) := by decide +kernel
theorem d_M_check_63 : decode b_M_check 63 = .ok (.isub, 1) := by decide +kernel
theorem d_M_check_64 : decode b_M_check 64 = .ok (.ishr, 1) := by decide +kernel
theorem d_M_check_65 : decode b_M_check 65 = .ok (.iconst 1, 1) := by decide +kernel
theorem d_M_check_66 : decode b_M_check 66 = .ok (.iand, 1) := by decide +kernel
theorem d_M_check_67 : decode b_M_check 67 = .ok (.isub, 1) := by decide +kernel
theorem d_M_check_68 : decode b_M_check 68 = .ok (.istore 6, 2) := by decide +kernel
theorem d_M_check_70 : decode b_M_check 70 = .ok (.iconst 2, 1) := by decide +kernel
theorem d_M_check_71 : decode b_M_check 71 = .ok (.iload 4, 2) := by decide +kernel
theorem d_M_check_73 : decode b_M_check 73 = .ok (.imul, 1) := by decide +kernel
theorem d_M_check_74 : decode b_M_check 74 = .ok (.iload 6, 2) := by decide +kernel
theorem d_M_check_76 : decode b_M_check 76 = .ok (.iadd, 1) := by decide +kernel
theorem d_M_check_77 : decode b_M_check 77 = .ok (.istore 4, 2) := by decide +kernel
theorem d_M_check_79 : decode b_M_check 79 = .ok (.iload 4, 2) := by decide +kernel
theorem d_M_check_81 : decode b_M_check 81 = .ok (.bipush 127, 2) := by decide +kernel
theorem d_M_check_83 : decode b_M_check 83 = .ok (.if_icmp .le 12, 3) := by decide +kernel
theorem d_M_check_86 : decode b_M_check 86 = .ok (.iload 4, 2) := by decide +kernel
theorem d_M_check_88 : decode b_M_check 88 = .ok (.sipush 197, 3) := by decide +kernel
theorem d_M_check_91 : decode b_M_check 91 = .ok (.ixor, 1) := by decide +kernel
theorem d_M_check_92 : decode b_M_check 92 = .ok (.goto 5, 3) := by decide +kernel
theorem d_M_check_95 : decode b_M_check 95 = .ok (.iload 4, 2) := by decide +kernel
theorem d_M_check_97 : decode b_M_check 97 = .ok (.istore 4, 2) := by decide +kernel
theorem d_M_check_99 : decode b_M_check 99 = .ok (.iinc 5 1, 3) := by decide +kernel
theorem d_M_check_102 : decode b_M_check 102 = .ok (.goto (-85), 3) := by decide +kernel
theorem d_M_check_105 : decode b_M_check 105 = .ok (.iload 4, 2) := by decide +kernel
theorem d_M_check_107 : decode b_M_check 107 = .ok (.ifCond .ne 9, 3) := by decide +kernel
theorem d_M_check_110 : decode b_M_check 110 = .ok (.iconst 2, 1) := by decide +kernel
theorem d_M_check_111 : decode b_M_check 111 = .ok (.iload_n 3, 1) := by decide +kernel
theorem d_M_check_112 : decode b_M_check 112 = .ok (.imul, 1) := by decide +kernel
theorem d_M_check_113 : decode b_M_check 113 = .ok (.goto 4, 3) := by decide +kernel
theorem d_M_check_116 : decode b_M_check 116 = .ok (.iload_n 2, 1) := by decide +kernel
theorem d_M_check_117 : decode b_M_check 117 = .ok (.istore_n 2, 1) := by decide +kernel
theorem d_M_check_118 : decode b_M_check 118 = .ok (.iinc 3 1, 3) := by decide +kernel
theorem d_M_check_121 : decode b_M_check 121 = .ok (.goto (-117), 3) := by decide +kernel
theorem d_M_check_124 : decode b_M_check 124 = .ok (.iload_n 2, 1) := by decide +kernel
theorem d_M_check_125 : decode b_M_check 125 = .ok (.ireturn, 1) := by decide +kernel
theorem d_M_send_0 : decode b_M_send 0 = .ok (.aload_n 0, 1) := by decide +kernel
theorem d_M_send_1 : decode b_M_send 1 = .ok (.iconst 0, 1) := by decide +kernel
theorem d_M_send_2 : decode b_M_send 2 = .ok (.putfield 28, 3) := by decide +kernel
theorem d_M_send_5 : decode b_M_send 5 = .ok (.aload_n 0, 1) := by decide +kernel
theorem d_M_send_6 : decode b_M_send 6 = .ok (.getfield 74, 3) := by decide +kernel
theorem d_M_send_9 : decode b_M_send 9 = .ok (.ifCond .ne 5, 3) := by decide +kernel
theorem d_M_send_12 : decode b_M_send 12 = .ok (.iconst (-1), 1) := by decide +kernel
theorem d_M_send_13 : decode b_M_send 13 = .ok (.ireturn, 1) := by decide +kernel
theorem d_M_send_14 : decode b_M_send 14 = .ok (.aload_n 0, 1) := by decide +kernel
theorem d_M_send_15 : decode b_M_send 15 = .ok (.getfield 74, 3) := by decide +kernel
theorem d_M_send_18 : decode b_M_send 18 = .ok (.bipush 7, 2) := by decide +kernel
theorem d_M_send_20 : decode b_M_send 20 = .ok (.irem, 1) := by decide +kernel
theorem d_M_send_21 : decode b_M_send 21 = .ok (.ifCond .eq 27, 3) := by decide +kernel
theorem d_M_send_24 : decode b_M_send 24 = .ok (.aload_n 0, 1) := by decide +kernel
theorem d_M_send_25 : decode b_M_send 25 = .ok (.getfield 19, 3) := by decide +kernel
theorem d_M_send_28 : decode b_M_send 28 = .ok (.aload_n 0, 1) := by decide +kernel
theorem d_M_send_29 : decode b_M_send 29 = .ok (.getfield 74, 3) := by decide +kernel
theorem d_M_send_32 : decode b_M_send 32 = .ok (.bipush 85, 2) := by decide +kernel
theorem d_M_send_34 : decode b_M_send 34 = .ok (.iastore, 1) := by decide +kernel
theorem d_M_send_35 : decode b_M_send 35 = .ok (.aload_n 0, 1) := by decide +kernel
theorem d_M_send_36 : decode b_M_send 36 = .ok (.dup, 1) := by decide +kernel
theorem d_M_send_37 : decode b_M_send 37 = .ok (.getfield 74, 3) := by decide +kernel
theorem d_M_send_40 : decode b_M_send 40 = .ok (.iconst 1, 1) := by decide +kernel
theorem d_M_send_41 : decode b_M_send 41 = .ok (.iadd, 1) := by decide +kernel
theorem d_M_send_42 : decode b_M_send 42 = .ok (.putfield 74, 3) := by decide +kernel
theorem d_M_send_45 : decode b_M_send 45 = .ok (.goto (-31), 3) := by decide +kernel
theorem d_M_send_48 : decode b_M_send 48 = .ok (.aload_n 0, 1) := by decide +kernel
theorem d_M_send_49 : decode b_M_send 49 = .ok (.iconst 0, 1) := by decide +kernel
theorem d_M_send_50 : decode b_M_send 50 = .ok (.putfield 77, 3) := by decide +kernel
theorem d_M_send_53 : decode b_M_send 53 = .ok (.aload_n 0, 1) := by decide +kernel
theorem d_M_send_54 : decode b_M_send 54 = .ok (.sipush 235, 3) := by decide +kernel
theorem d_M_send_57 : decode b_M_send 57 = .ok (.invokevirtual 80, 3) := by decide +kernel
theorem d_M_send_60 : decode b_M_send 60 = .ok (.aload_n 0, 1) := by decide +kernel
theorem d_M_send_61 : decode b_M_send 61 = .ok (.sipush 144, 3) := by decide +kernel
theorem d_M_send_64 : decode b_M_send 64 = .ok (.invokevirtual 80, 3) := by decide +kernel
theorem d_M_send_67 : decode b_M_send 67 = .ok (.iconst 0, 1) := by decide +kernel
theorem d_M_send_68 : decode b_M_send 68 = .ok (.istore_n 1, 1) := by decide +kernel
theorem d_M_send_69 : decode b_M_send 69 = .ok (.iload_n 1, 1) := by decide +kernel
theorem d_M_send_70 : decode b_M_send 70 = .ok (.aload_n 0, 1) := by decide +kernel
theorem d_M_send_71 : decode b_M_send 71 = .ok (.getfield 74, 3) := by decide +kernel
theorem d_M_send_74 : decode b_M_send 74 = .ok (.if_icmp .ge 44, 3) := by decide +kernel
theorem d_M_send_77 : decode b_M_send 77 = .ok (.iconst 0, 1) := by decide +kernel
theorem d_M_send_78 : decode b_M_send 78 = .ok (.istore_n 2, 1) := by decide +kernel
theorem d_M_send_79 : decode b_M_send 79 = .ok (.iload_n 2, 1) := by decide +kernel
theorem d_M_send_80 : decode b_M_send 80 = .ok (.bipush 7, 2) := by decide +kernel
theorem d_M_send_82 : decode b_M_send 82 = .ok (.if_icmp .ge 21, 3) := by decide +kernel
theorem d_M_send_85 : decode b_M_send 85 = .ok (.aload_n 0, 1) := by decide +kernel
theorem d_M_send_86 : decode b_M_send 86 = .ok (.aload_n 0, 1) := by decide +kernel
theorem d_M_send_87 : decode b_M_send 87 = .ok (.getfield 19, 3) := by decide +kernel
theorem d_M_send_90 : decode b_M_send 90 = .ok (.iload_n 1, 1) := by decide +kernel
theorem d_M_send_91 : decode b_M_send 91 = .ok (.iload_n 2, 1) := by decide +kernel
theorem d_M_send_92 : decode b_M_send 92 = .ok (.iadd, 1) := by decide +kernel
theorem d_M_send_93 : decode b_M_send 93 = .ok (.iaload, 1) := by decide +kernel
theorem d_M_send_94 : decode b_M_send 94 = .ok (.invokevirtual 80, 3) := by decide +kernel
theorem d_M_send_97 : decode b_M_send 97 = .ok (.iinc 2 1, 3) := by decide +kernel
theorem d_M_send_100 : decode b_M_send 100 = .ok (.goto (-21), 3) := by decide +kernel
theorem d_M_send_103 : decode b_M_send 103 = .ok (.aload_n 0, 1) := by decide +kernel
theorem d_M_send_104 : decode b_M_send 104 = .ok (.aload_n 0, 1) := by decide +kernel
theorem d_M_send_105 : decode b_M_send 105 = .ok (.iload_n 1, 1) := by decide +kernel
theorem d_M_send_106 : decode b_M_send 106 = .ok (.invokevirtual 83, 3) := by decide +kernel
theorem d_M_send_109 : decode b_M_send 109 = .ok (.invokevirtual 80, 3) := by decide +kernel
theorem d_M_send_112 : decode b_M_send 112 = .ok (.iinc 1 7, 3) := by decide +kernel
theorem d_M_send_115 : decode b_M_send 115 = .ok (.goto (-46), 3) := by decide +kernel
theorem d_M_send_118 : decode b_M_send 118 = .ok (.iconst 0, 1) := by decide +kernel
theorem d_M_send_119 : decode b_M_send 119 = .ok (.istore_n 1, 1) := by decide +kernel
theorem d_M_send_120 : decode b_M_send 120 = .ok (.iload_n 1, 1) := by decide +kernel
theorem d_M_send_121 : decode b_M_send 121 = .ok (.bipush 7, 2) := by decide +kernel
theorem d_M_send_123 : decode b_M_send 123 = .ok (.if_icmp .ge 16, 3) := by decide +kernel
theorem d_M_send_126 : decode b_M_send 126 = .ok (.aload_n 0, 1) := by decide +kernel
theorem d_M_send_127 : decode b_M_send 127 = .ok (.sipush 197, 3) := by decide +kernel
theorem d_M_send_130 : decode b_M_send 130 = .ok (.invokevirtual 80, 3) := by decide +kernel
theorem d_M_send_133 : decode b_M_send 133 = .ok (.iinc 1 1, 3) := by decide +kernel
theorem d_M_send_136 : decode b_M_send 136 = .ok (.goto (-16), 3) := by decide +kernel
theorem d_M_send_139 : decode b_M_send 139 = .ok (.aload_n 0, 1) := by decide +kernel
theorem d_M_send_140 : decode b_M_send 140 = .ok (.bipush 121, 2) := by decide +kernel
theorem d_M_send_142 : decode b_M_send 142 = .ok (.invokevirtual 80, 3) := by decide +kernel
theorem d_M_send_145 : decode b_M_send 145 = .ok (.aload_n 0, 1) := by decide +kernel
theorem d_M_send_146 : decode b_M_send 146 = .ok (.iconst 0, 1) := by decide +kernel
theorem d_M_send_147 : decode b_M_send 147 = .ok (.putfield 74, 3) := by decide +kernel
theorem d_M_send_150 : decode b_M_send 150 = .ok (.aload_n 0, 1) := by decide +kernel
theorem d_M_send_151 : decode b_M_send 151 = .ok (.getfield 77, 3) := by decide +kernel
theorem d_M_send_154 : decode b_M_send 154 = .ok (.ireturn, 1) := by decide +kernel
theorem d_M_sent_0 : decode b_M_sent 0 = .ok (.aload_n 0, 1) := by decide +kernel
theorem d_M_sent_1 : decode b_M_sent 1 = .ok (.iconst 0, 1) := by decide +kernel
theorem d_M_sent_2 : decode b_M_sent 2 = .ok (.putfield 28, 3) := by decide +kernel
theorem d_M_sent_5 : decode b_M_sent 5 = .ok (.iload_n 1, 1) := by decide +kernel
theorem d_M_sent_6 : decode b_M_sent 6 = .ok (.ifCond .lt 11, 3) := by decide +kernel
theorem d_M_sent_9 : decode b_M_sent 9 = .ok (.iload_n 1, 1) := by decide +kernel
theorem d_M_sent_10 : decode b_M_sent 10 = .ok (.aload_n 0, 1) := by decide +kernel
theorem d_M_sent_11 : decode b_M_sent 11 = .ok (.getfield 77, 3) := by decide +kernel
theorem d_M_sent_14 : decode b_M_sent 14 = .ok (.if_icmp .lt 7, 3) := by decide +kernel
theorem d_M_sent_17 : decode b_M_sent 17 = .ok (.iconst (-1), 1) := by decide +kernel
theorem d_M_sent_18 : decode b_M_sent 18 = .ok (.goto 9, 3) := by decide +kernel
theorem d_M_sent_21 : decode b_M_sent 21 = .ok (.aload_n 0, 1) := by decide +kernel
theorem d_M_sent_22 : decode b_M_sent 22 = .ok (.getfield 22, 3) := by decide +kernel
theorem d_M_sent_25 : decode b_M_sent 25 = .ok (.iload_n 1, 1) := by decide +kernel
theorem d_M_sent_26 : decode b_M_sent 26 = .ok (.iaload, 1) := by decide +kernel
theorem d_M_sent_27 : decode b_M_sent 27 = .ok (.ireturn, 1) := by decide +kernel
end
section
theorem d_law_0 : decode code 0 = .ok (.new 7, 3) := by decide +kernel
theorem d_law_3 : decode code 3 = .ok (.dup, 1) := by decide +kernel
theorem d_law_4 : decode code 4 = .ok (.invokespecial 9, 3) := by decide +kernel
theorem d_law_7 : decode code 7 = .ok (.astore_n 1, 1) := by decide +kernel
theorem d_law_8 : decode code 8 = .ok (.new 10, 3) := by decide +kernel
theorem d_law_11 : decode code 11 = .ok (.dup, 1) := by decide +kernel
theorem d_law_12 : decode code 12 = .ok (.invokespecial 12, 3) := by decide +kernel
theorem d_law_15 : decode code 15 = .ok (.astore_n 2, 1) := by decide +kernel
theorem d_law_16 : decode code 16 = .ok (.iconst 0, 1) := by decide +kernel
theorem d_law_17 : decode code 17 = .ok (.istore_n 3, 1) := by decide +kernel
theorem d_law_18 : decode code 18 = .ok (.iload_n 3, 1) := by decide +kernel
theorem d_law_19 : decode code 19 = .ok (.aload_n 0, 1) := by decide +kernel
theorem d_law_20 : decode code 20 = .ok (.arraylength, 1) := by decide +kernel
theorem d_law_21 : decode code 21 = .ok (.iconst 4, 1) := by decide +kernel
theorem d_law_22 : decode code 22 = .ok (.isub, 1) := by decide +kernel
theorem d_law_23 : decode code 23 = .ok (.if_icmp .gt 341, 3) := by decide +kernel
theorem d_law_26 : decode code 26 = .ok (.aload_n 0, 1) := by decide +kernel
theorem d_law_27 : decode code 27 = .ok (.iload_n 3, 1) := by decide +kernel
theorem d_law_28 : decode code 28 = .ok (.iaload, 1) := by decide +kernel
theorem d_law_29 : decode code 29 = .ok (.bipush 15, 2) := by decide +kernel
theorem d_law_31 : decode code 31 = .ok (.iand, 1) := by decide +kernel
theorem d_law_32 : decode code 32 = .ok (.tableswitch 326 0 9 #[56, 95, 132, 195, 208, 231, 244, 267, 290, 303], 56) := by decide +kernel
theorem d_law_88 : decode code 88 = .ok (.aload_n 1, 1) := by decide +kernel
theorem d_law_89 : decode code 89 = .ok (.aload_n 0, 1) := by decide +kernel
theorem d_law_90 : decode code 90 = .ok (.iload_n 3, 1) := by decide +kernel
theorem d_law_91 : decode code 91 = .ok (.iconst 1, 1) := by decide +kernel
theorem d_law_92 : decode code 92 = .ok (.iadd, 1) := by decide +kernel
theorem d_law_93 : decode code 93 = .ok (.iaload, 1) := by decide +kernel
theorem d_law_94 : decode code 94 = .ok (.ifCond .eq 7, 3) := by decide +kernel
theorem d_law_97 : decode code 97 = .ok (.iconst 1, 1) := by decide +kernel
theorem d_law_98 : decode code 98 = .ok (.goto 4, 3) := by decide +kernel
theorem d_law_101 : decode code 101 = .ok (.iconst 0, 1) := by decide +kernel
theorem d_law_102 : decode code 102 = .ok (.invokevirtual 13, 3) := by decide +kernel
theorem d_law_105 : decode code 105 = .ok (.aload_n 2, 1) := by decide +kernel
theorem d_law_106 : decode code 106 = .ok (.aload_n 0, 1) := by decide +kernel
theorem d_law_107 : decode code 107 = .ok (.iload_n 3, 1) := by decide +kernel
theorem d_law_108 : decode code 108 = .ok (.iconst 1, 1) := by decide +kernel
theorem d_law_109 : decode code 109 = .ok (.iadd, 1) := by decide +kernel
theorem d_law_110 : decode code 110 = .ok (.iaload, 1) := by decide +kernel
theorem d_law_111 : decode code 111 = .ok (.ifCond .eq 7, 3) := by decide +kernel
theorem d_law_114 : decode code 114 = .ok (.iconst 1, 1) := by decide +kernel
theorem d_law_115 : decode code 115 = .ok (.goto 4, 3) := by decide +kernel
theorem d_law_118 : decode code 118 = .ok (.iconst 0, 1) := by decide +kernel
theorem d_law_119 : decode code 119 = .ok (.invokevirtual 17, 3) := by decide +kernel
theorem d_law_122 : decode code 122 = .ok (.if_icmp .eq 236, 3) := by decide +kernel
theorem d_law_125 : decode code 125 = .ok (.iconst 0, 1) := by decide +kernel
theorem d_law_126 : decode code 126 = .ok (.ireturn, 1) := by decide +kernel
theorem d_law_127 : decode code 127 = .ok (.aload_n 1, 1) := by decide +kernel
theorem d_law_128 : decode code 128 = .ok (.aload_n 0, 1) := by decide +kernel
theorem d_law_129 : decode code 129 = .ok (.iload_n 3, 1) := by decide +kernel
theorem d_law_130 : decode code 130 = .ok (.iconst 1, 1) := by decide +kernel
theorem d_law_131 : decode code 131 = .ok (.iadd, 1) := by decide +kernel
theorem d_law_132 : decode code 132 = .ok (.iaload, 1) := by decide +kernel
theorem d_law_133 : decode code 133 = .ok (.ifCond .eq 7, 3) := by decide +kernel
theorem d_law_136 : decode code 136 = .ok (.iconst 1, 1) := by decide +kernel
theorem d_law_137 : decode code 137 = .ok (.goto 4, 3) := by decide +kernel
theorem d_law_140 : decode code 140 = .ok (.iconst 0, 1) := by decide +kernel
theorem d_law_141 : decode code 141 = .ok (.invokevirtual 18, 3) := by decide +kernel
theorem d_law_144 : decode code 144 = .ok (.aload_n 2, 1) := by decide +kernel
theorem d_law_145 : decode code 145 = .ok (.aload_n 0, 1) := by decide +kernel
theorem d_law_146 : decode code 146 = .ok (.iload_n 3, 1) := by decide +kernel
theorem d_law_147 : decode code 147 = .ok (.iconst 1, 1) := by decide +kernel
theorem d_law_148 : decode code 148 = .ok (.iadd, 1) := by decide +kernel
theorem d_law_149 : decode code 149 = .ok (.iaload, 1) := by decide +kernel
theorem d_law_150 : decode code 150 = .ok (.ifCond .eq 7, 3) := by decide +kernel
theorem d_law_153 : decode code 153 = .ok (.iconst 1, 1) := by decide +kernel
theorem d_law_154 : decode code 154 = .ok (.goto 4, 3) := by decide +kernel
theorem d_law_157 : decode code 157 = .ok (.iconst 0, 1) := by decide +kernel
theorem d_law_158 : decode code 158 = .ok (.invokevirtual 22, 3) := by decide +kernel
theorem d_law_161 : decode code 161 = .ok (.goto 197, 3) := by decide +kernel
theorem d_law_164 : decode code 164 = .ok (.aload_n 1, 1) := by decide +kernel
theorem d_law_165 : decode code 165 = .ok (.aload_n 0, 1) := by decide +kernel
theorem d_law_166 : decode code 166 = .ok (.iload_n 3, 1) := by decide +kernel
theorem d_law_167 : decode code 167 = .ok (.iconst 1, 1) := by decide +kernel
theorem d_law_168 : decode code 168 = .ok (.iadd, 1) := by decide +kernel
theorem d_law_169 : decode code 169 = .ok (.iaload, 1) := by decide +kernel
theorem d_law_170 : decode code 170 = .ok (.aload_n 0, 1) := by decide +kernel
theorem d_law_171 : decode code 171 = .ok (.iload_n 3, 1) := by decide +kernel
theorem d_law_172 : decode code 172 = .ok (.iconst 2, 1) := by decide +kernel
theorem d_law_173 : decode code 173 = .ok (.iadd, 1) := by decide +kernel
theorem d_law_174 : decode code 174 = .ok (.iaload, 1) := by decide +kernel
theorem d_law_175 : decode code 175 = .ok (.i2l, 1) := by decide +kernel
theorem d_law_176 : decode code 176 = .ok (.bipush 32, 2) := by decide +kernel
theorem d_law_178 : decode code 178 = .ok (.lshl, 1) := by decide +kernel
theorem d_law_179 : decode code 179 = .ok (.aload_n 0, 1) := by decide +kernel
theorem d_law_180 : decode code 180 = .ok (.iload_n 3, 1) := by decide +kernel
theorem d_law_181 : decode code 181 = .ok (.iconst 3, 1) := by decide +kernel
theorem d_law_182 : decode code 182 = .ok (.iadd, 1) := by decide +kernel
theorem d_law_183 : decode code 183 = .ok (.iaload, 1) := by decide +kernel
theorem d_law_184 : decode code 184 = .ok (.i2l, 1) := by decide +kernel
theorem d_law_185 : decode code 185 = .ok (.ldc2_w 23, 3) := by decide +kernel
theorem d_law_188 : decode code 188 = .ok (.land, 1) := by decide +kernel
theorem d_law_189 : decode code 189 = .ok (.lor, 1) := by decide +kernel
theorem d_law_190 : decode code 190 = .ok (.invokevirtual 25, 3) := by decide +kernel
theorem d_law_193 : decode code 193 = .ok (.aload_n 2, 1) := by decide +kernel
theorem d_law_194 : decode code 194 = .ok (.aload_n 0, 1) := by decide +kernel
theorem d_law_195 : decode code 195 = .ok (.iload_n 3, 1) := by decide +kernel
theorem d_law_196 : decode code 196 = .ok (.iconst 1, 1) := by decide +kernel
theorem d_law_197 : decode code 197 = .ok (.iadd, 1) := by decide +kernel
theorem d_law_198 : decode code 198 = .ok (.iaload, 1) := by decide +kernel
theorem d_law_199 : decode code 199 = .ok (.aload_n 0, 1) := by decide +kernel
theorem d_law_200 : decode code 200 = .ok (.iload_n 3, 1) := by decide +kernel
theorem d_law_201 : decode code 201 = .ok (.iconst 2, 1) := by decide +kernel
theorem d_law_202 : decode code 202 = .ok (.iadd, 1) := by decide +kernel
theorem d_law_203 : decode code 203 = .ok (.iaload, 1) := by decide +kernel
theorem d_law_204 : decode code 204 = .ok (.i2l, 1) := by decide +kernel
theorem d_law_205 : decode code 205 = .ok (.bipush 32, 2) := by decide +kernel
theorem d_law_207 : decode code 207 = .ok (.lshl, 1) := by decide +kernel
theorem d_law_208 : decode code 208 = .ok (.aload_n 0, 1) := by decide +kernel
theorem d_law_209 : decode code 209 = .ok (.iload_n 3, 1) := by decide +kernel
theorem d_law_210 : decode code 210 = .ok (.iconst 3, 1) := by decide +kernel
theorem d_law_211 : decode code 211 = .ok (.iadd, 1) := by decide +kernel
theorem d_law_212 : decode code 212 = .ok (.iaload, 1) := by decide +kernel
theorem d_law_213 : decode code 213 = .ok (.i2l, 1) := by decide +kernel
theorem d_law_214 : decode code 214 = .ok (.ldc2_w 23, 3) := by decide +kernel
theorem d_law_217 : decode code 217 = .ok (.land, 1) := by decide +kernel
theorem d_law_218 : decode code 218 = .ok (.lor, 1) := by decide +kernel
theorem d_law_219 : decode code 219 = .ok (.invokevirtual 29, 3) := by decide +kernel
theorem d_law_222 : decode code 222 = .ok (.if_icmp .eq 136, 3) := by decide +kernel
theorem d_law_225 : decode code 225 = .ok (.iconst 0, 1) := by decide +kernel
theorem d_law_226 : decode code 226 = .ok (.ireturn, 1) := by decide +kernel
theorem d_law_227 : decode code 227 = .ok (.aload_n 1, 1) := by decide +kernel
theorem d_law_228 : decode code 228 = .ok (.invokevirtual 30, 3) := by decide +kernel
theorem d_law_231 : decode code 231 = .ok (.aload_n 2, 1) := by decide +kernel
theorem d_law_232 : decode code 232 = .ok (.invokevirtual 34, 3) := by decide +kernel
theorem d_law_235 : decode code 235 = .ok (.if_icmp .eq 123, 3) := by decide +kernel
theorem d_law_238 : decode code 238 = .ok (.iconst 0, 1) := by decide +kernel
theorem d_law_239 : decode code 239 = .ok (.ireturn, 1) := by decide +kernel
theorem d_law_240 : decode code 240 = .ok (.aload_n 1, 1) := by decide +kernel
theorem d_law_241 : decode code 241 = .ok (.aload_n 0, 1) := by decide +kernel
theorem d_law_242 : decode code 242 = .ok (.iload_n 3, 1) := by decide +kernel
theorem d_law_243 : decode code 243 = .ok (.iconst 1, 1) := by decide +kernel
theorem d_law_244 : decode code 244 = .ok (.iadd, 1) := by decide +kernel
theorem d_law_245 : decode code 245 = .ok (.iaload, 1) := by decide +kernel
theorem d_law_246 : decode code 246 = .ok (.invokevirtual 35, 3) := by decide +kernel
theorem d_law_249 : decode code 249 = .ok (.aload_n 2, 1) := by decide +kernel
theorem d_law_250 : decode code 250 = .ok (.aload_n 0, 1) := by decide +kernel
theorem d_law_251 : decode code 251 = .ok (.iload_n 3, 1) := by decide +kernel
theorem d_law_252 : decode code 252 = .ok (.iconst 1, 1) := by decide +kernel
theorem d_law_253 : decode code 253 = .ok (.iadd, 1) := by decide +kernel
theorem d_law_254 : decode code 254 = .ok (.iaload, 1) := by decide +kernel
theorem d_law_255 : decode code 255 = .ok (.invokevirtual 39, 3) := by decide +kernel
theorem d_law_258 : decode code 258 = .ok (.if_icmp .eq 100, 3) := by decide +kernel
theorem d_law_261 : decode code 261 = .ok (.iconst 0, 1) := by decide +kernel
theorem d_law_262 : decode code 262 = .ok (.ireturn, 1) := by decide +kernel
theorem d_law_263 : decode code 263 = .ok (.aload_n 1, 1) := by decide +kernel
theorem d_law_264 : decode code 264 = .ok (.invokevirtual 40, 3) := by decide +kernel
theorem d_law_267 : decode code 267 = .ok (.aload_n 2, 1) := by decide +kernel
theorem d_law_268 : decode code 268 = .ok (.invokevirtual 43, 3) := by decide +kernel
theorem d_law_271 : decode code 271 = .ok (.if_icmp .eq 87, 3) := by decide +kernel
theorem d_law_274 : decode code 274 = .ok (.iconst 0, 1) := by decide +kernel
theorem d_law_275 : decode code 275 = .ok (.ireturn, 1) := by decide +kernel
theorem d_law_276 : decode code 276 = .ok (.aload_n 1, 1) := by decide +kernel
theorem d_law_277 : decode code 277 = .ok (.aload_n 0, 1) := by decide +kernel
theorem d_law_278 : decode code 278 = .ok (.iload_n 3, 1) := by decide +kernel
theorem d_law_279 : decode code 279 = .ok (.iconst 1, 1) := by decide +kernel
theorem d_law_280 : decode code 280 = .ok (.iadd, 1) := by decide +kernel
theorem d_law_281 : decode code 281 = .ok (.iaload, 1) := by decide +kernel
theorem d_law_282 : decode code 282 = .ok (.invokevirtual 44, 3) := by decide +kernel
theorem d_law_285 : decode code 285 = .ok (.aload_n 2, 1) := by decide +kernel
theorem d_law_286 : decode code 286 = .ok (.aload_n 0, 1) := by decide +kernel
theorem d_law_287 : decode code 287 = .ok (.iload_n 3, 1) := by decide +kernel
theorem d_law_288 : decode code 288 = .ok (.iconst 1, 1) := by decide +kernel
theorem d_law_289 : decode code 289 = .ok (.iadd, 1) := by decide +kernel
theorem d_law_290 : decode code 290 = .ok (.iaload, 1) := by decide +kernel
theorem d_law_291 : decode code 291 = .ok (.invokevirtual 47, 3) := by decide +kernel
theorem d_law_294 : decode code 294 = .ok (.if_icmp .eq 64, 3) := by decide +kernel
theorem d_law_297 : decode code 297 = .ok (.iconst 0, 1) := by decide +kernel
theorem d_law_298 : decode code 298 = .ok (.ireturn, 1) := by decide +kernel
theorem d_law_299 : decode code 299 = .ok (.aload_n 1, 1) := by decide +kernel
theorem d_law_300 : decode code 300 = .ok (.aload_n 0, 1) := by decide +kernel
theorem d_law_301 : decode code 301 = .ok (.iload_n 3, 1) := by decide +kernel
theorem d_law_302 : decode code 302 = .ok (.iconst 1, 1) := by decide +kernel
theorem d_law_303 : decode code 303 = .ok (.iadd, 1) := by decide +kernel
theorem d_law_304 : decode code 304 = .ok (.iaload, 1) := by decide +kernel
theorem d_law_305 : decode code 305 = .ok (.invokevirtual 48, 3) := by decide +kernel
theorem d_law_308 : decode code 308 = .ok (.aload_n 2, 1) := by decide +kernel
theorem d_law_309 : decode code 309 = .ok (.aload_n 0, 1) := by decide +kernel
theorem d_law_310 : decode code 310 = .ok (.iload_n 3, 1) := by decide +kernel
theorem d_law_311 : decode code 311 = .ok (.iconst 1, 1) := by decide +kernel
theorem d_law_312 : decode code 312 = .ok (.iadd, 1) := by decide +kernel
theorem d_law_313 : decode code 313 = .ok (.iaload, 1) := by decide +kernel
theorem d_law_314 : decode code 314 = .ok (.invokevirtual 51, 3) := by decide +kernel
theorem d_law_317 : decode code 317 = .ok (.if_icmp .eq 41, 3) := by decide +kernel
theorem d_law_320 : decode code 320 = .ok (.iconst 0, 1) := by decide +kernel
theorem d_law_321 : decode code 321 = .ok (.ireturn, 1) := by decide +kernel
theorem d_law_322 : decode code 322 = .ok (.aload_n 1, 1) := by decide +kernel
theorem d_law_323 : decode code 323 = .ok (.invokevirtual 52, 3) := by decide +kernel
theorem d_law_326 : decode code 326 = .ok (.aload_n 2, 1) := by decide +kernel
theorem d_law_327 : decode code 327 = .ok (.invokevirtual 55, 3) := by decide +kernel
theorem d_law_330 : decode code 330 = .ok (.if_icmp .eq 28, 3) := by decide +kernel
theorem d_law_333 : decode code 333 = .ok (.iconst 0, 1) := by decide +kernel
theorem d_law_334 : decode code 334 = .ok (.ireturn, 1) := by decide +kernel
theorem d_law_335 : decode code 335 = .ok (.aload_n 1, 1) := by decide +kernel
theorem d_law_336 : decode code 336 = .ok (.aload_n 0, 1) := by decide +kernel
theorem d_law_337 : decode code 337 = .ok (.iload_n 3, 1) := by decide +kernel
theorem d_law_338 : decode code 338 = .ok (.iconst 1, 1) := by decide +kernel
theorem d_law_339 : decode code 339 = .ok (.iadd, 1) := by decide +kernel
theorem d_law_340 : decode code 340 = .ok (.iaload, 1) := by decide +kernel
theorem d_law_341 : decode code 341 = .ok (.invokevirtual 56, 3) := by decide +kernel
theorem d_law_344 : decode code 344 = .ok (.aload_n 2, 1) := by decide +kernel
theorem d_law_345 : decode code 345 = .ok (.aload_n 0, 1) := by decide +kernel
theorem d_law_346 : decode code 346 = .ok (.iload_n 3, 1) := by decide +kernel
theorem d_law_347 : decode code 347 = .ok (.iconst 1, 1) := by decide +kernel
theorem d_law_348 : decode code 348 = .ok (.iadd, 1) := by decide +kernel
theorem d_law_349 : decode code 349 = .ok (.iaload, 1) := by decide +kernel
theorem d_law_350 : decode code 350 = .ok (.invokevirtual 59, 3) := by decide +kernel
theorem d_law_353 : decode code 353 = .ok (.if_icmp .eq 5, 3) := by decide +kernel
theorem d_law_356 : decode code 356 = .ok (.iconst 0, 1) := by decide +kernel
theorem d_law_357 : decode code 357 = .ok (.ireturn, 1) := by decide +kernel
theorem d_law_358 : decode code 358 = .ok (.iinc 3 4, 3) := by decide +kernel
theorem d_law_361 : decode code 361 = .ok (.goto (-343), 3) := by decide +kernel
theorem d_law_364 : decode code 364 = .ok (.iconst 1, 1) := by decide +kernel
theorem d_law_365 : decode code 365 = .ok (.ireturn, 1) := by decide +kernel
end
section
/-! My own rows over the kit's: contracts in one form, calls with the frame rule in one row, fields and arrays by short names. -/
abbrev TY (cB cI : ClassId) : List (ClassId × FieldType) := [(cB, .byte), (cI, .int)]
theorem NW.warm {s U : State} (hW : s.WarmedH U.vm) (h : NW s) : NW U := ⟨fun q hq => va_Nw.warmF hW (h.1 q hq), va_Nw.warmM hW h.2⟩
theorem NW.same {u U : State} (h : u.vm = U.vm) (hN : NW u) : NW U := ⟨fun q hq => va_Nw.same rfl h (hN.1 q hq), va_Nw.same rfl h hN.2⟩
/-- a contract's start: the world ws, the tables' classes, the nest's words -/
def PR (D : va_G) (cB cI : ClassId) (ws : va_W) (sz : Nat) (U : State) : Prop := U.heap.size = sz ∧ va_P D classes ws U.heap ∧ va_K D classes (TY cB cI) U ∧ va_D (fun _ => True) ws ∧ NW U
/-- a contract's end: the world W' u -/
def PW {S : Type} (D : va_G) (cB cI : ClassId) (W' : S → va_W) (A : Nat → Prop) (u : S) (t : State) : Prop := va_P D classes (W' u) t.heap ∧ va_K D classes (TY cB cI) t ∧ va_D A (W' u)
def MI {S : Type} (l : Launch) (D : va_G) (cB cI : ClassId) (y : MethodName) (b : ByteArray) (nL : Nat) (ret : Option FieldType) (rm : Room) (av : List Value) (ws : va_W) (post : Int32 → S → Prop) (W' : S → va_W) : Prop :=
  ∀ sz : Nat, Met l y (Cond.code y b nL ret :: tb) rm (va_Pc av (PR D cB cI ws sz)) (va_Qi post (PW D cB cI W' (va_A ws sz)) (va_A ws sz)) rm.cells rm.slots (va_A ws sz)
def ML {S : Type} (l : Launch) (D : va_G) (cB cI : ClassId) (y : MethodName) (b : ByteArray) (nL : Nat) (ret : Option FieldType) (rm : Room) (av : List Value) (ws : va_W) (post : Int64 → S → Prop) (W' : S → va_W) : Prop :=
  ∀ sz : Nat, Met l y (Cond.code y b nL ret :: tb) rm (va_Pc av (PR D cB cI ws sz)) (va_Ql post (PW D cB cI W' (va_A ws sz)) (va_A ws sz)) rm.cells rm.slots (va_A ws sz)
def MV {S : Type} (l : Launch) (D : va_G) (cB cI : ClassId) (y : MethodName) (b : ByteArray) (nL : Nat) (ret : Option FieldType) (rm : Room) (av : List Value) (ws : va_W) (post : S → Prop) (W' : S → va_W) : Prop :=
  ∀ sz : Nat, Met l y (Cond.code y b nL ret :: tb) rm (va_Pc av (PR D cB cI ws sz)) (va_Qv post (PW D cB cI W' (va_A ws sz)) (va_A ws sz)) rm.cells rm.slots (va_A ws sz)
/-- what a walk stands on -/
def Ev (p : Program) (m : MethodId) (c : Code) (cc : ByteArray) (nL : Nat) (s : State) (args : Array Value) (own : String) (D : va_G) (cB cI : ClassId) : Prop :=
  CallFix p m c cc nL s args tb own ∧ va_K D classes (TY cB cI) s ∧ NW s
theorem pr_blind {D : va_G} {cB cI : ClassId} {ws : va_W} {sz : Nat} {av : List Value} : FrameBlind (va_Pc av (PR D cB cI ws sz)) := fun a U g mk q => by
  obtain ⟨q0, q1, qP, qK, qD, qN⟩ := q
  exact ⟨q0, q1, qP, va_K.moved (u := U) (U := U.calling g mk a) (Vm.Alike.refl U.vm) qK, qD, NW.same rfl qN⟩
section MEN
variable {l : Launch} {y : MethodName} {b : ByteArray} {nL : Nat} {ret : Option FieldType} {rm : Room} {av : List Value} {D : va_G} {cB cI : ClassId} {ws : va_W}
theorem m_entry {Qc : Array Value → State → Outcome → State → Prop} {sz : Nat} (hy : plainName y.cls = true) (hlen : (lg_sl av).length ≤ nL)
    (body : ∀ (p : Program) (e : Env) (s : State) (m : MethodId) (below : List Frame) (meth : Method) (c : Code) (ls : Array Slot), s.heap.size = sz → Ev p m c b nL s av.toArray y.cls D cB cI → meth.sig.returnType = ret → meth.locks = false → meth.name = y.name → va_P D classes ws s.heap → va_D (va_A ws sz) ws → lv_has ls nL (lv_args 0 av) →
      W p l e rm s m av.toArray below meth c s.heap [] 0 0 (MQ below Qc av.toArray s rm.cells rm.slots (va_A ws sz)) (F0 m 0 ls [])) :
    Met l y (Cond.code y b nL ret :: tb) rm (va_Pc av (PR D cB cI ws sz)) Qc rm.cells rm.slots (va_A ws sz) := by
  refine Met.ofW (cc := b) (maxL := nL) (ret := ret) hy rfl ?_
  intro p e s m args below meth c s₁ B hml hv
  obtain ⟨rfl, hsz, hP, hK, hD0, hN⟩ := hv
  have hts := atoms_spec (ws := Cond.code y b nL ret :: tb) B.pre
  have hl := lv_entry av (n := nL) hlen
  rw [lg_entry_eq]
  exact body p e s m below meth c _ hsz ⟨⟨B.exec, B.bytes, hml, findClass_of_methodNamed B.named, fun w h => hts w (List.mem_cons_of_mem _ h)⟩, hK, hN⟩ B.returns B.notSynchronized (name_of_methodNamed B.named B.method).1 hP hD0.self hl
theorem m_entryI {S : Type} {post : Int32 → S → Prop} {W' : S → va_W} (hy : plainName y.cls = true) (hlen : (lg_sl av).length ≤ nL)
    (body : ∀ (p : Program) (e : Env) (s : State) (m : MethodId) (below : List Frame) (meth : Method) (c : Code) (ls : Array Slot) (A : Nat → Prop), Ev p m c b nL s av.toArray y.cls D cB cI → meth.sig.returnType = ret → meth.locks = false → meth.name = y.name → (∀ q : Nat, s.heap.size ≤ q → A q) → va_P D classes ws s.heap → va_D A ws → lv_has ls nL (lv_args 0 av) →
      W p l e rm s m av.toArray below meth c s.heap [] 0 0 (MQ below (va_Qi post (PW D cB cI W' A) A) av.toArray s rm.cells rm.slots A) (F0 m 0 ls [])) :
    MI l D cB cI y b nL ret rm av ws post W' := fun sz => m_entry hy hlen fun p e s m below meth c ls hsz E hr hlk hnm hP hD hl => body p e s m below meth c ls (va_A ws sz) E hr hlk hnm (fun q h => Or.inr (hsz ▸ h)) hP hD hl
theorem m_entryL {S : Type} {post : Int64 → S → Prop} {W' : S → va_W} (hy : plainName y.cls = true) (hlen : (lg_sl av).length ≤ nL)
    (body : ∀ (p : Program) (e : Env) (s : State) (m : MethodId) (below : List Frame) (meth : Method) (c : Code) (ls : Array Slot) (A : Nat → Prop), Ev p m c b nL s av.toArray y.cls D cB cI → meth.sig.returnType = ret → meth.locks = false → meth.name = y.name → (∀ q : Nat, s.heap.size ≤ q → A q) → va_P D classes ws s.heap → va_D A ws → lv_has ls nL (lv_args 0 av) →
      W p l e rm s m av.toArray below meth c s.heap [] 0 0 (MQ below (va_Ql post (PW D cB cI W' A) A) av.toArray s rm.cells rm.slots A) (F0 m 0 ls [])) :
    ML l D cB cI y b nL ret rm av ws post W' := fun sz => m_entry hy hlen fun p e s m below meth c ls hsz E hr hlk hnm hP hD hl => body p e s m below meth c ls (va_A ws sz) E hr hlk hnm (fun q h => Or.inr (hsz ▸ h)) hP hD hl
theorem m_entryV {S : Type} {post : S → Prop} {W' : S → va_W} (hy : plainName y.cls = true) (hlen : (lg_sl av).length ≤ nL)
    (body : ∀ (p : Program) (e : Env) (s : State) (m : MethodId) (below : List Frame) (meth : Method) (c : Code) (ls : Array Slot) (A : Nat → Prop), Ev p m c b nL s av.toArray y.cls D cB cI → meth.sig.returnType = ret → meth.locks = false → meth.name = y.name → (∀ q : Nat, s.heap.size ≤ q → A q) → va_P D classes ws s.heap → va_D A ws → lv_has ls nL (lv_args 0 av) →
      W p l e rm s m av.toArray below meth c s.heap [] 0 0 (MQ below (va_Qv post (PW D cB cI W' A) A) av.toArray s rm.cells rm.slots A) (F0 m 0 ls [])) :
    MV l D cB cI y b nL ret rm av ws post W' := fun sz => m_entry hy hlen fun p e s m below meth c ls hsz E hr hlk hnm hP hD hl => body p e s m below meth c ls (va_A ws sz) E hr hlk hnm (fun q h => Or.inr (hsz ▸ h)) hP hD hl
end MEN
section RW
variable {p : Program} {l : Launch} {e : Env} {R : Room} {s : State} {m : MethodId} {args : Array Value} {below : List Frame} {meth : Method} {c : Code} {H : Heap} {locs : List Loc} {cells slots : Nat} {Q : State → Prop}
variable {cc : ByteArray} {pc : Nat} {ls : Array Slot} {rest : List Value} {D : va_G} {cB cI : ClassId} {A : Nat → Prop} {a : Nat} {ws ws' : va_W} {H0 : Heap} {own : String} {nL : Nat}
theorem r_topi {x y : Int32} (h : x = y) (k : W p l e R s m args below meth c H locs cells slots Q (F0 m pc ls (.int y :: rest))) : W p l e R s m args below meth c H locs cells slots Q (F0 m pc ls (.int x :: rest)) := h ▸ k
theorem r_topl {x y : Int64} (h : x = y) (k : W p l e R s m args below meth c H locs cells slots Q (F0 m pc ls (.long y :: rest))) : W p l e R s m args below meth c H locs cells slots Q (F0 m pc ls (.long x :: rest)) := h ▸ k
/-- two paths that meet again at pc' with a number on the stack -/
theorem r_merge {g : JFrame} (pc' : Nat) (φ : Int32 → Prop) (k : ∀ v : Int32, φ v → W p l e R s m args below meth c H locs cells slots Q (F0 m pc' ls (.int v :: rest))) (h : (∀ v : Int32, φ v → W p l e R s m args below meth c H locs cells slots Q (F0 m pc' ls (.int v :: rest))) → W p l e R s m args below meth c H locs cells slots Q g) : W p l e R s m args below meth c H locs cells slots Q g := h k
theorem r_get (E : Ev p m c cc nL s args own D cB cI) (hP : va_P D classes ws H) (q0 : Nat) {index ci k : Nat} {ty : FieldType} {fin : Bool} (F : FLk own index ci k ty fin) {fs : List Value} {v : Value} (he : ws[q0]? = some (a, .inr (ci, fs))) (hv : fs[k]? = some v) (hdg : decode cc pc = .ok (.getfield index, 3))
    (kk : W p l e R s m args below meth c H locs cells slots Q (F0 m (pc + 3) ls (v :: rest))) : W p l e R s m args below meth c H locs cells slots Q (F0 m pc ls (.ref a :: rest)) := by
  obtain ⟨C, T, N, ⟨hc, hin, ty0, hty, hnm⟩, hk, hl, -, -, -⟩ := F
  exact va_get E.1.1 E.1.2.1 E.1.2.2.2.2 hin E.1.2.2.2.1 E.2.1 hP q0 he hc k hk (E.1.2.2.2.2 _ hl) (fun _ h => h) hv hdg kk
theorem r_getN (E : Ev p m c cc nL s args "CodeBlocks" D cB cI) (hP : va_P D classes ws H) (q0 : Nat) {index ci k : Nat} {ty : FieldType} {fin : Bool} (F : FNk index ci k ty fin) {fs : List Value} {v : Value} (he : ws[q0]? = some (a, .inr (ci, fs))) (hv : fs[k]? = some v) (hdg : decode cc pc = .ok (.getfield index, 3))
    (kk : W p l e R s m args below meth c H locs cells slots Q (F0 m (pc + 3) ls (v :: rest))) : W p l e R s m args below meth c H locs cells slots Q (F0 m pc ls (.ref a :: rest)) := by
  obtain ⟨C, T, N, ⟨hc, hin, ty0, hty, hnm⟩, hk, hl, -, -⟩ := F
  exact va_getN E.1.1 E.1.2.1 E.1.2.2.2.2 hin E.1.2.2.2.1 E.2.1 hP q0 he hc k hk (va_Nw.use rfl (E.2.2.1 _ hl)) (fun _ h => h) hv hdg kk
theorem r_put (E : Ev p m c cc nL s args own D cB cI) (hP : va_P D classes ws H) (hD : va_D A ws) (hS : va_S A H0 H locs) (q0 : Nat) {index ci k : Nat} {ty : FieldType} (F : FLk own index ci k ty false) {fs : List Value} {v v0 : Value} (he : ws[q0]? = some (a, .inr (ci, fs))) (h0 : fs[k]? = some v0) (hn : narrow ty v = v) (hf : fits ty v = true) (hw : ws.set q0 (a, .inr (ci, fs.set k v)) = ws') (hdg : decode cc pc = .ok (.putfield index, 3))
    (kk : ∀ (H1 : Heap) (locs1 : List Loc), va_P D classes ws' H1 → va_D A ws' → va_S A H0 H1 locs1 → W p l e R s m args below meth c H1 locs1 cells slots Q (F0 m (pc + 3) ls rest)) : W p l e R s m args below meth c H locs cells slots Q (F0 m pc ls (v :: .ref a :: rest)) := by
  obtain ⟨C, T, N, ⟨hc, hin, ty0, hty, hnm⟩, hk, hl, hfin, hd, -⟩ := F
  subst hw
  exact va_put E.1.1 E.1.2.1 E.1.2.2.2.2 hin ty0 hty hnm E.1.2.2.2.1 E.2.1 hP hD hS q0 he hc k hk (E.1.2.2.2.2 _ hl) (fun _ h => h) hfin hd hn hf (List.getElem?_eq_some_iff.mp h0).1 hdg kk
theorem r_putF (E : Ev p m c cc nL s args own D cB cI) (hP : va_P D classes ws H) (hD : va_D A ws) (hS : va_S A H0 H locs) (q0 : Nat) {index ci k : Nat} {ty : FieldType} (F : FLk own index ci k ty true) (hin2 : meth.name = "<init>") {fs : List Value} {v v0 : Value} (he : ws[q0]? = some (a, .inr (ci, fs))) (h0 : fs[k]? = some v0) (hn : narrow ty v = v) (hf : fits ty v = true) (hw : ws.set q0 (a, .inr (ci, fs.set k v)) = ws') (hdg : decode cc pc = .ok (.putfield index, 3))
    (kk : ∀ (H1 : Heap) (locs1 : List Loc), va_P D classes ws' H1 → va_D A ws' → va_S A H0 H1 locs1 → W p l e R s m args below meth c H1 locs1 cells slots Q (F0 m (pc + 3) ls rest)) : W p l e R s m args below meth c H locs cells slots Q (F0 m pc ls (v :: .ref a :: rest)) := by
  obtain ⟨C, T, N, ⟨hc, hin, ty0, hty, hnm⟩, hk, hl, hfin, hd, hdc⟩ := F
  subst hw
  exact va_putF E.1.1 E.1.2.1 E.1.2.2.2.2 hin ty0 hty hnm E.1.2.2.2.1 E.2.1 hP hD hS q0 he hc k hk (E.1.2.2.2.2 _ hl) (fun _ h => h) hfin hin2 hdc hd hn hf (List.getElem?_eq_some_iff.mp h0).1 hdg kk
theorem r_putN (E : Ev p m c cc nL s args "CodeBlocks" D cB cI) (hP : va_P D classes ws H) (hD : va_D A ws) (hS : va_S A H0 H locs) (q0 : Nat) {index ci k : Nat} {ty : FieldType} (F : FNk index ci k ty false) {fs : List Value} {v v0 : Value} (he : ws[q0]? = some (a, .inr (ci, fs))) (h0 : fs[k]? = some v0) (hn : narrow ty v = v) (hf : fits ty v = true) (hw : ws.set q0 (a, .inr (ci, fs.set k v)) = ws') (hdg : decode cc pc = .ok (.putfield index, 3))
    (kk : ∀ (H1 : Heap) (locs1 : List Loc), va_P D classes ws' H1 → va_D A ws' → va_S A H0 H1 locs1 → W p l e R s m args below meth c H1 locs1 cells slots Q (F0 m (pc + 3) ls rest)) : W p l e R s m args below meth c H locs cells slots Q (F0 m pc ls (v :: .ref a :: rest)) := by
  obtain ⟨C, T, N, ⟨hc, hin, ty0, hty, hnm⟩, hk, hl, hfin, hd⟩ := F
  subst hw
  exact va_putN E.1.1 E.1.2.1 E.1.2.2.2.2 hin ty0 hty hnm E.1.2.2.2.1 E.2.1 hP hD hS q0 he hc k hk (va_Nw.use rfl (E.2.2.1 _ hl)) (fun _ h => h) hfin hd hn hf (List.getElem?_eq_some_iff.mp h0).1 hdg kk
theorem r_bald (E : Ev p m c cc nL s args own D cB cI) (hP : va_P D classes ws H) (q0 : Nat) {n : Nat} {f : Nat → Int32} (ha : ws[q0]? = some (a, .inl (cB, n, .inl f))) {i : Nat} (hi : i < n) (hn : n < 2 ^ 31) (hdg : decode cc pc = .ok (.baload, 1))
    (kk : W p l e R s m args below meth c H locs cells slots Q (F0 m (pc + 1) ls (.int (f i) :: rest))) : W p l e R s m args below meth c H locs cells slots Q (F0 m pc ls (.int (nI i) :: .ref a :: rest)) :=
  va_bald E.1.1 E.1.2.1 E.2.1 hP q0 0 ha rfl (vp_in_nI hi hn) hdg (by rw [nI_clamp (Nat.lt_trans hi hn)]; exact kk)
theorem r_iald (E : Ev p m c cc nL s args own D cB cI) (hP : va_P D classes ws H) (q0 : Nat) {n : Nat} {f : Nat → Int32} (ha : ws[q0]? = some (a, .inl (cI, n, .inl f))) {i : Nat} (hi : i < n) (hn : n < 2 ^ 31) (hdg : decode cc pc = .ok (.iaload, 1))
    (kk : W p l e R s m args below meth c H locs cells slots Q (F0 m (pc + 1) ls (.int (f i) :: rest))) : W p l e R s m args below meth c H locs cells slots Q (F0 m pc ls (.int (nI i) :: .ref a :: rest)) :=
  va_iald E.1.1 E.1.2.1 E.2.1 hP q0 1 ha rfl (vp_in_nI hi hn) hdg (by rw [nI_clamp (Nat.lt_trans hi hn)]; exact kk)
theorem r_bast (E : Ev p m c cc nL s args own D cB cI) (hP : va_P D classes ws H) (hD : va_D A ws) (hS : va_S A H0 H locs) (q0 : Nat) {n : Nat} {f : Nat → Int32} (ha : ws[q0]? = some (a, .inl (cB, n, .inl f))) {i : Nat} (hi : i < n) (hn : n < 2 ^ 31) {x y : Int32} (hy : vp_nar .byte x = y) (hw : ws.set q0 (a, .inl (cB, n, .inl (upd f i y))) = ws') (hdg : decode cc pc = .ok (.bastore, 1))
    (kk : ∀ (H1 : Heap) (locs1 : List Loc), va_P D classes ws' H1 → va_D A ws' → va_S A H0 H1 locs1 → W p l e R s m args below meth c H1 locs1 cells slots Q (F0 m (pc + 1) ls rest)) : W p l e R s m args below meth c H locs cells slots Q (F0 m pc ls (.int x :: .int (nI i) :: .ref a :: rest)) := by
  subst hw
  subst hy
  refine va_bast E.1.1 E.1.2.1 E.2.1 hP hD hS q0 0 ha rfl (vp_in_nI hi hn) hdg ?_
  rw [nI_clamp (Nat.lt_trans hi hn)]
  exact kk
theorem r_iast (E : Ev p m c cc nL s args own D cB cI) (hP : va_P D classes ws H) (hD : va_D A ws) (hS : va_S A H0 H locs) (q0 : Nat) {n : Nat} {f : Nat → Int32} (ha : ws[q0]? = some (a, .inl (cI, n, .inl f))) {i : Nat} (hi : i < n) (hn : n < 2 ^ 31) {x : Int32} (hw : ws.set q0 (a, .inl (cI, n, .inl (upd f i x))) = ws') (hdg : decode cc pc = .ok (.iastore, 1))
    (kk : ∀ (H1 : Heap) (locs1 : List Loc), va_P D classes ws' H1 → va_D A ws' → va_S A H0 H1 locs1 → W p l e R s m args below meth c H1 locs1 cells slots Q (F0 m (pc + 1) ls rest)) : W p l e R s m args below meth c H locs cells slots Q (F0 m pc ls (.int x :: .int (nI i) :: .ref a :: rest)) := by
  subst hw
  refine va_iast E.1.1 E.1.2.1 E.2.1 hP hD hS q0 1 ha rfl (vp_in_nI hi hn) hdg ?_
  rw [nI_clamp (Nat.lt_trans hi hn)]
  exact kk
theorem r_balen (E : Ev p m c cc nL s args own D cB cI) (hP : va_P D classes ws H) (q0 : Nat) {n : Nat} {f : Nat → Int32} (ha : ws[q0]? = some (a, .inl (cB, n, .inl f))) (hdg : decode cc pc = .ok (.arraylength, 1))
    (kk : W p l e R s m args below meth c H locs cells slots Q (F0 m (pc + 1) ls (.int (nI n) :: rest))) : W p l e R s m args below meth c H locs cells slots Q (F0 m pc ls (.ref a :: rest)) :=
  va_alen E.1.1 E.1.2.1 E.2.1 hP q0 0 ha rfl rfl hdg kk
theorem ty_same {U : State} {tys : List (ClassId × FieldType)} (hK : va_K D classes tys U) {i j : Nat} {x y : ClassId} (hi : tys[i]? = some (x, .byte)) (hj : tys[j]? = some (y, .byte)) : x = y :=
  Option.some.inj (((hK.2 i _ hi).2 : U.vm.findClass _ = some x).symm.trans ((hK.2 j _ hj).2 : U.vm.findClass _ = some y))
theorem ty_sameI {U : State} {tys : List (ClassId × FieldType)} (hK : va_K D classes tys U) {i j : Nat} {x y : ClassId} (hi : tys[i]? = some (x, .int)) (hj : tys[j]? = some (y, .int)) : x = y :=
  Option.some.inj (((hK.2 i _ hi).2 : U.vm.findClass _ = some x).symm.trans ((hK.2 j _ hj).2 : U.vm.findClass _ = some y))
theorem r_newB (E : Ev p m c cc nL s args own D cB cI) (hP : va_P D classes ws H) (hD : va_D A ws) (hS : va_S A H0 H locs) (hA : ∀ q : Nat, H0.size ≤ q → A q) {N : Nat} (hN : N ≤ 1000) (hc : cells + 1 ≤ R.cells) (hs : slots + N ≤ R.slots) (hdg : decode cc pc = .ok (.newarray .byte, 2))
    (kk : ∀ (q : Nat) (H1 : Heap), va_P D classes (ws ++ [(q, .inl (cB, N, .inl (fun _ => 0)))]) H1 → va_D A (ws ++ [(q, .inl (cB, N, .inl (fun _ => 0)))]) → va_S A H0 H1 locs → W p l e R s m args below meth c H1 locs (cells + 1) (slots + N) Q (F0 m (pc + 2) ls (.ref q :: rest))) : W p l e R s m args below meth c H locs cells slots Q (F0 m pc ls (.int (nI N) :: rest)) := by
  refine va_newa (atype := .byte) (ty := .byte) (a0 := (N, .inl (fun _ => 0))) (N' := N) E.1.1 E.1.2.1 (E.1.2.2.2.2 _ k_29) rfl E.2.1 hP hD hS hA (fun _ => rfl) (nI_pos (by omega)) (nI_clamp (by omega)) ?_ hc hs hdg (fun q cA H1 hK hP hD hS => ?_)
  · show N * 1 ≤ 536870912
    omega
  · cases ty_same hK (i := 0) (j := 2) rfl rfl
    exact kk q H1 hP hD hS
theorem r_newI (E : Ev p m c cc nL s args own D cB cI) (hP : va_P D classes ws H) (hD : va_D A ws) (hS : va_S A H0 H locs) (hA : ∀ q : Nat, H0.size ≤ q → A q) {N : Nat} (hN : N ≤ 1000) (hc : cells + 1 ≤ R.cells) (hs : slots + N ≤ R.slots) (hdg : decode cc pc = .ok (.newarray .int, 2))
    (kk : ∀ (q : Nat) (H1 : Heap), va_P D classes (ws ++ [(q, .inl (cI, N, .inl (fun _ => 0)))]) H1 → va_D A (ws ++ [(q, .inl (cI, N, .inl (fun _ => 0)))]) → va_S A H0 H1 locs → W p l e R s m args below meth c H1 locs (cells + 1) (slots + N) Q (F0 m (pc + 2) ls (.ref q :: rest))) : W p l e R s m args below meth c H locs cells slots Q (F0 m pc ls (.int (nI N) :: rest)) := by
  refine va_newa (atype := .int) (ty := .int) (a0 := (N, .inl (fun _ => 0))) (N' := N) E.1.1 E.1.2.1 (E.1.2.2.2.2 _ k_250) rfl E.2.1 hP hD hS hA (fun _ => rfl) (nI_pos (by omega)) (nI_clamp (by omega)) ?_ hc hs hdg (fun q cA H1 hK hP hD hS => ?_)
  · show N * 4 ≤ 536870912
    omega
  · cases ty_sameI hK (i := 1) (j := 2) rfl rfl
    exact kk q H1 hP hD hS
theorem gd_V {C : String} {index n nL' : Nat} {y : MethodName} {b : ByteArray} {ret : Option FieldType} (V : VWk own index C y b nL' ret n) : GoodIn tb (wsV own index C y (Cond.code y b nL' ret :: tb)) := by
  obtain ⟨h1, h2, h3, h4, h5, -⟩ := V
  intro w hw
  have h : w ∈ tb := by
    simp only [wsV, List.cons_append, List.nil_append, List.mem_cons] at hw
    rcases hw with rfl | rfl | rfl | rfl | rfl | hw <;> assumption
  exact tb_good w h
theorem gd_S {index n nL' : Nat} {y : MethodName} {b : ByteArray} {ret : Option FieldType} (V : SWk own index y b nL' ret n) : GoodIn tb (va_wsS own index y (Cond.code y b nL' ret :: tb)) := by
  obtain ⟨h1, h2, h3, h4, -⟩ := V
  intro w hw
  have h : w ∈ tb := by
    simp only [va_wsS, List.cons_append, List.nil_append, List.mem_cons] at hw
    rcases hw with rfl | rfl | rfl | rfl | hw <;> assumption
  exact tb_good w h
theorem gd_c {nL' : Nat} {y : MethodName} {b : ByteArray} {ret : Option FieldType} (h : Cond.code y b nL' ret ∈ tb) : GoodIn tb (Cond.code y b nL' ret :: tb) := by
  intro w hw
  rcases List.mem_cons.mp hw with rfl | hw
  · exact tb_good _ h
  · exact tb_good w hw
/-- where a callee's cells lie: its places in the caller's world, and the others' -/
def Cut (ws wsC wr : va_W) (isC isR : List Nat) : Prop := isC.map (fun i => ws[i]?) = wsC.map some ∧ isR.map (fun i => ws[i]?) = wr.map some ∧ va_nd isC = true ∧ va_nd isR = true ∧ ∀ i ∈ isR, i ∉ isC
theorem Cut.P {wsC wr : va_W} {isC isR : List Nat} (h : Cut ws wsC wr isC isR) (hP : va_P D classes ws H) : va_P D classes wsC H := by
  intro k q hk
  have h1 : (isC.map (fun i => ws[i]?))[k]? = some (some q) := by rw [h.1, List.getElem?_map, hk]; rfl
  rw [List.getElem?_map] at h1
  cases hi : isC[k]? with
  | none => rw [hi] at h1; cases h1
  | some i => rw [hi] at h1; exact hP i q (Option.some.inj h1)
section CALLS
variable {S : Type} {W' : S → va_W} {y : MethodName} {b : ByteArray} {nL' : Nat} {ret : Option FieldType} {rm : Room} {As : List Value} {wsC wr : va_W} {isC isR : List Nat} {index n : Nat} {C : String} {st0 : List Value}
theorem pre_S {av : List Value} (E : Ev p m c cc nL s args own D cB cI) (hP : va_P D classes ws H) (hD : va_D A ws) (K : Cut ws wsC wr isC isR) : PreS s H (va_Pc av (PR D cB cI wsC H.size)) av :=
  ⟨pr_blind, fun U hU hW => ⟨rfl, by rw [hU], by rw [hU]; exact K.P hP, va_K.moved hW.alike E.2.1, (hD.sub isC K.2.2.1 K.1).weaken (fun _ _ _ _ => trivial), NW.warm hW E.2.2⟩⟩
theorem r_callVI {post : Int32 → S → Prop} (E : Ev p m c cc nL s args own D cB cI) (V : VWk own index C y b nL' ret n) (hM : MI l D cB cI y b nL' ret rm (.ref a :: As) wsC post W') (hP : va_P D classes ws H) (hD : va_D A ws) (hS : va_S A H0 H locs) (hA : ∀ q : Nat, H0.size ≤ q → A q) (isC isR : List Nat) (K : Cut ws wsC wr isC isR) {ci N : Nat} {T : u_T} (kc : KC ci C T N) {fs : List Value} (h0 : wsC[0]? = some (a, .inr (ci, fs))) (hls : ls.size = nL) (hst : st0 = As.reverse ++ .ref a :: rest)
    (hn : As.length = n) (hcat : (rest.map fun v => v.category).sum ≤ 8) (hR : rm.frames + 1 ≤ R.frames ∧ 8 + (nL' + 11) + rm.locals ≤ R.locals) (hf : cells + rm.cells ≤ R.cells ∧ slots + rm.slots ≤ R.slots) (hdg : decode cc pc = .ok (.invokevirtual index, 3))
    (kk : ∀ (r : Int32) (u : S) (H1 : Heap) (locs1 : List Loc), post r u → va_P D classes (wr ++ W' u) H1 → va_D A (wr ++ W' u) → va_S A H0 H1 locs1 → W p l e R s m args below meth c H1 locs1 (cells + rm.cells) (slots + rm.slots) Q (F0 m (pc + 3) ls (.int r :: rest))) : W p l e R s m args below meth c H locs cells slots Q (F0 m pc ls st0) := by
  have hFc := va_free (wc := wsC) hD hS hA isC K.1
  refine va_calli (va_runV (As := As) (rest := rest) E.1 (hM H.size) (cwV n E.1.2.2.2.2 (gd_V V) rfl rfl rfl V.2.2.2.2.2 hR) ⟨pr_blind, va_recv E.2.1 (K.P hP) kc.1 h0, (pre_S E hP hD K).2⟩ rfl hn hls hst (lv_room hcat) hdg hf) hS (fun q _ h => hFc q h) hFc (fun r u t H1 locs ht hvm hw hB hz1 hk1 hS1 => ?_)
  obtain ⟨hP1, hK1, hD1⟩ := hB
  rw [ht] at hP1
  obtain ⟨hP2, hD2⟩ := va_join hP hD isC isR K.1 K.2.1 K.2.2.2.1 K.2.2.2.2 hk1 hFc hP1 hD1
  exact kk r u H1 locs hw hP2 hD2 hS1
theorem r_callVV {post : S → Prop} (E : Ev p m c cc nL s args own D cB cI) (V : VWk own index C y b nL' ret n) (hM : MV l D cB cI y b nL' ret rm (.ref a :: As) wsC post W') (hP : va_P D classes ws H) (hD : va_D A ws) (hS : va_S A H0 H locs) (hA : ∀ q : Nat, H0.size ≤ q → A q) (isC isR : List Nat) (K : Cut ws wsC wr isC isR) {ci N : Nat} {T : u_T} (kc : KC ci C T N) {fs : List Value} (h0 : wsC[0]? = some (a, .inr (ci, fs))) (hls : ls.size = nL) (hst : st0 = As.reverse ++ .ref a :: rest)
    (hn : As.length = n) (hcat : (rest.map fun v => v.category).sum ≤ 8) (hR : rm.frames + 1 ≤ R.frames ∧ 8 + (nL' + 11) + rm.locals ≤ R.locals) (hf : cells + rm.cells ≤ R.cells ∧ slots + rm.slots ≤ R.slots) (hdg : decode cc pc = .ok (.invokevirtual index, 3))
    (kk : ∀ (u : S) (H1 : Heap) (locs1 : List Loc), post u → va_P D classes (wr ++ W' u) H1 → va_D A (wr ++ W' u) → va_S A H0 H1 locs1 → W p l e R s m args below meth c H1 locs1 (cells + rm.cells) (slots + rm.slots) Q (F0 m (pc + 3) ls rest)) : W p l e R s m args below meth c H locs cells slots Q (F0 m pc ls st0) := by
  have hFc := va_free (wc := wsC) hD hS hA isC K.1
  refine va_callv (va_runV (As := As) (rest := rest) E.1 (hM H.size) (cwV n E.1.2.2.2.2 (gd_V V) rfl rfl rfl V.2.2.2.2.2 hR) ⟨pr_blind, va_recv E.2.1 (K.P hP) kc.1 h0, (pre_S E hP hD K).2⟩ rfl hn hls hst (lv_room hcat) hdg hf) hS (fun q _ h => hFc q h) hFc (fun u t H1 locs ht hvm hw hB hz1 hk1 hS1 => ?_)
  obtain ⟨hP1, hK1, hD1⟩ := hB
  rw [ht] at hP1
  obtain ⟨hP2, hD2⟩ := va_join hP hD isC isR K.1 K.2.1 K.2.2.2.1 K.2.2.2.2 hk1 hFc hP1 hD1
  exact kk u H1 locs hw hP2 hD2 hS1
theorem r_callSI {post : Int32 → S → Prop} (E : Ev p m c cc nL s args own D cB cI) (V : SWk own index y b nL' ret n) (hM : MI l D cB cI y b nL' ret rm As wsC post W') (hP : va_P D classes ws H) (hD : va_D A ws) (hS : va_S A H0 H locs) (hA : ∀ q : Nat, H0.size ≤ q → A q) (isC isR : List Nat) (K : Cut ws wsC wr isC isR) (hls : ls.size = nL) (hst : st0 = As.reverse ++ rest)
    (hn : As.length = n) (hcat : (rest.map fun v => v.category).sum ≤ 8) (hR : rm.frames + 1 ≤ R.frames ∧ 8 + (nL' + 11) + rm.locals ≤ R.locals) (hf : cells + rm.cells ≤ R.cells ∧ slots + rm.slots ≤ R.slots) (hdg : decode cc pc = .ok (.invokestatic index, 3))
    (kk : ∀ (r : Int32) (u : S) (H1 : Heap) (locs1 : List Loc), post r u → va_P D classes (wr ++ W' u) H1 → va_D A (wr ++ W' u) → va_S A H0 H1 locs1 → W p l e R s m args below meth c H1 locs1 (cells + rm.cells) (slots + rm.slots) Q (F0 m (pc + 3) ls (.int r :: rest))) : W p l e R s m args below meth c H locs cells slots Q (F0 m pc ls st0) := by
  have hFc := va_free (wc := wsC) hD hS hA isC K.1
  refine va_calli (va_runS (As := As) (rest := rest) E.1 (hM H.size) (va_cwS n E.1.2.2.2.2 (gd_S V) rfl rfl rfl V.2.2.2.2 hR) (pre_S E hP hD K) rfl hn hls hst (lv_room hcat) hdg hf) hS (fun q _ h => hFc q h) hFc (fun r u t H1 locs ht hvm hw hB hz1 hk1 hS1 => ?_)
  obtain ⟨hP1, hK1, hD1⟩ := hB
  rw [ht] at hP1
  obtain ⟨hP2, hD2⟩ := va_join hP hD isC isR K.1 K.2.1 K.2.2.2.1 K.2.2.2.2 hk1 hFc hP1 hD1
  exact kk r u H1 locs hw hP2 hD2 hS1
theorem r_callSL {post : Int64 → S → Prop} (E : Ev p m c cc nL s args own D cB cI) (V : SWk own index y b nL' ret n) (hM : ML l D cB cI y b nL' ret rm As wsC post W') (hP : va_P D classes ws H) (hD : va_D A ws) (hS : va_S A H0 H locs) (hA : ∀ q : Nat, H0.size ≤ q → A q) (isC isR : List Nat) (K : Cut ws wsC wr isC isR) (hls : ls.size = nL) (hst : st0 = As.reverse ++ rest)
    (hn : As.length = n) (hcat : (rest.map fun v => v.category).sum ≤ 8) (hR : rm.frames + 1 ≤ R.frames ∧ 8 + (nL' + 11) + rm.locals ≤ R.locals) (hf : cells + rm.cells ≤ R.cells ∧ slots + rm.slots ≤ R.slots) (hdg : decode cc pc = .ok (.invokestatic index, 3))
    (kk : ∀ (r : Int64) (u : S) (H1 : Heap) (locs1 : List Loc), post r u → va_P D classes (wr ++ W' u) H1 → va_D A (wr ++ W' u) → va_S A H0 H1 locs1 → W p l e R s m args below meth c H1 locs1 (cells + rm.cells) (slots + rm.slots) Q (F0 m (pc + 3) ls (.long r :: rest))) : W p l e R s m args below meth c H locs cells slots Q (F0 m pc ls st0) := by
  have hFc := va_free (wc := wsC) hD hS hA isC K.1
  refine va_calll (va_runS (As := As) (rest := rest) E.1 (hM H.size) (va_cwS n E.1.2.2.2.2 (gd_S V) rfl rfl rfl V.2.2.2.2 hR) (pre_S E hP hD K) rfl hn hls hst (lv_room hcat) hdg hf) hS (fun q _ h => hFc q h) hFc (fun r u t H1 locs ht hvm hw hB hz1 hk1 hS1 => ?_)
  obtain ⟨hP1, hK1, hD1⟩ := hB
  rw [ht] at hP1
  obtain ⟨hP2, hD2⟩ := va_join hP hD isC isR K.1 K.2.1 K.2.2.2.1 K.2.2.2.2 hk1 hFc hP1 hD1
  exact kk r u H1 locs hw hP2 hD2 hS1
theorem r_callIV {post : S → Prop} (E : Ev p m c cc nL s args own D cB cI) (V : IWk own index y b nL' n) (hM : MV l D cB cI y b nL' none rm (.ref a :: As) wsC post W') (hP : va_P D classes ws H) (hD : va_D A ws) (hS : va_S A H0 H locs) (hA : ∀ q : Nat, H0.size ≤ q → A q) (isC isR : List Nat) (K : Cut ws wsC wr isC isR) (hls : ls.size = nL) (hst : st0 = As.reverse ++ .ref a :: rest)
    (hn : As.length = n) (hcat : (rest.map fun v => v.category).sum ≤ 8) (hR : rm.frames + 1 ≤ R.frames ∧ 8 + (nL' + 11) + rm.locals ≤ R.locals) (hf : cells + rm.cells ≤ R.cells ∧ slots + rm.slots ≤ R.slots) (hdg : decode cc pc = .ok (.invokespecial index, 3))
    (kk : ∀ (u : S) (H1 : Heap) (locs1 : List Loc), post u → va_P D classes (wr ++ W' u) H1 → va_D A (wr ++ W' u) → va_S A H0 H1 locs1 → W p l e R s m args below meth c H1 locs1 (cells + rm.cells) (slots + rm.slots) Q (F0 m (pc + 3) ls rest)) : W p l e R s m args below meth c H locs cells slots Q (F0 m pc ls st0) := by
  obtain ⟨v1, v2, v3, v4, v5, v6⟩ := V
  have hts := E.1.2.2.2.2
  have hFc := va_free (wc := wsC) hD hS hA isC K.1
  refine va_callv (va_runI (As := As) (rest := rest) E.1 (hM H.size) (cwI n hts (gd_c v4) rfl rfl rfl (hts _ v3) (hts _ v1) (hts _ v2) v5 v6 hR) (pre_S E hP hD K) rfl hn hls hst (lv_room hcat) hdg hf) hS (fun q _ h => hFc q h) hFc (fun u t H1 locs ht hvm hw hB hz1 hk1 hS1 => ?_)
  obtain ⟨hP1, hK1, hD1⟩ := hB
  rw [ht] at hP1
  obtain ⟨hP2, hD2⟩ := va_join hP hD isC isR K.1 K.2.1 K.2.2.2.1 K.2.2.2.2 hk1 hFc hP1 hD1
  exact kk u H1 locs hw hP2 hD2 hS1
theorem r_callJV {post : S → Prop} (E : Ev p m c cc nL s args "CodeBlocks" D cB cI) (V : JWk index y b nL' n) (hM : MV l D cB cI y b nL' none rm (.ref a :: As) wsC post W') (hP : va_P D classes ws H) (hD : va_D A ws) (hS : va_S A H0 H locs) (hA : ∀ q : Nat, H0.size ≤ q → A q) (isC isR : List Nat) (K : Cut ws wsC wr isC isR) (hls : ls.size = nL) (hst : st0 = As.reverse ++ .ref a :: rest)
    (hn : As.length = n) (hcat : (rest.map fun v => v.category).sum ≤ 8) (hR : rm.frames + 1 ≤ R.frames ∧ 8 + (nL' + 11) + rm.locals ≤ R.locals) (hf : cells + rm.cells ≤ R.cells ∧ slots + rm.slots ≤ R.slots) (hdg : decode cc pc = .ok (.invokespecial index, 3))
    (kk : ∀ (u : S) (H1 : Heap) (locs1 : List Loc), post u → va_P D classes (wr ++ W' u) H1 → va_D A (wr ++ W' u) → va_S A H0 H1 locs1 → W p l e R s m args below meth c H1 locs1 (cells + rm.cells) (slots + rm.slots) Q (F0 m (pc + 3) ls rest)) : W p l e R s m args below meth c H locs cells slots Q (F0 m pc ls st0) := by
  obtain ⟨v1, v2, v3, v4, v5, v6⟩ := V
  have hts := E.1.2.2.2.2
  have hFc := va_free (wc := wsC) hD hS hA isC K.1
  refine va_callv (va_runIN (As := As) (rest := rest) E.1 (hM H.size) ⟨va_cnB n hts (gd_c v4) rfl rfl rfl (v1 s E.2.2) (hts _ v3) v6 hR, v5, hts _ v2⟩ (pre_S E hP hD K) rfl hn hls hst (lv_room hcat) hdg hf) hS (fun q _ h => hFc q h) hFc (fun u t H1 locs ht hvm hw hB hz1 hk1 hS1 => ?_)
  obtain ⟨hP1, hK1, hD1⟩ := hB
  rw [ht] at hP1
  obtain ⟨hP2, hD2⟩ := va_join hP hD isC isR K.1 K.2.1 K.2.2.2.1 K.2.2.2.2 hk1 hFc hP1 hD1
  exact kk u H1 locs hw hP2 hD2 hS1
end CALLS
/-! ends -/
theorem r_iret {S : Type} {post : Int32 → S → Prop} {W' : S → va_W} (E : Ev p m c cc nL s args own D cB cI) {ty : FieldType} (hr : meth.sig.returnType = some ty) (hlk : meth.locks = false) (hP : va_P D classes ws H) (hD : va_D A ws) (hS : va_S A s.heap H locs) {v : Int32} (hn : narrow ty (.int v) = .int v) (u : S) (hu : W' u = ws) (hpost : post v u) (hdg : decode cc pc = .ok (.ireturn, 1)) :
    W p l e R s m args below meth c H locs cells slots (MQ below (va_Qi post (PW D cB cI W' A) A) args s cells slots A) (F0 m pc ls [.int v]) := by
  subst hu
  exact W.zret E.1.1 E.1.2.1 hr hn (fun t ht hW => ⟨⟨v, u, rfl, hpost, by rw [ht]; exact hP, va_K.moved hW.alike E.2.1, hD⟩, hS.F ht⟩) hS.2.2 hdg hlk
theorem r_lret {S : Type} {post : Int64 → S → Prop} {W' : S → va_W} (E : Ev p m c cc nL s args own D cB cI) (hr : meth.sig.returnType = some .long) (hlk : meth.locks = false) (hP : va_P D classes ws H) (hD : va_D A ws) (hS : va_S A s.heap H locs) {v : Int64} (u : S) (hu : W' u = ws) (hpost : post v u) (hdg : decode cc pc = .ok (.lreturn, 1)) :
    W p l e R s m args below meth c H locs cells slots (MQ below (va_Ql post (PW D cB cI W' A) A) args s cells slots A) (F0 m pc ls [.long v]) := by
  subst hu
  exact W.lret E.1.1 E.1.2.1 hr (fun t ht hW => ⟨⟨v, u, rfl, hpost, by rw [ht]; exact hP, va_K.moved hW.alike E.2.1, hD⟩, hS.F ht⟩) hS.2.2 hdg hlk
theorem r_vret {S : Type} {post : S → Prop} {W' : S → va_W} (E : Ev p m c cc nL s args own D cB cI) (hr : meth.sig.returnType = none) (hlk : meth.locks = false) (hP : va_P D classes ws H) (hD : va_D A ws) (hS : va_S A s.heap H locs) (u : S) (hu : W' u = ws) (hpost : post u) (hdg : decode cc pc = .ok (.return_, 1)) :
    W p l e R s m args below meth c H locs cells slots (MQ below (va_Qv post (PW D cB cI W' A) A) args s cells slots A) (F0 m pc ls []) := by
  subst hu
  exact W.vret E.1.1 E.1.2.1 hr (fun t ht hW => ⟨⟨u, rfl, hpost, by rw [ht]; exact hP, va_K.moved hW.alike E.2.1, hD⟩, hS.F ht⟩) hS.2.2 hdg hlk
/-! numbers that are nI of a Nat -/
theorem r_iadd (hexec : p.tables.exec = Jvm.exec) (hb : c.code = cc) {x y : Nat} (hdg : decode cc pc = .ok (.iadd, 1)) (k : W p l e R s m args below meth c H locs cells slots Q (F0 m (pc + 1) ls (.int (nI (x + y)) :: rest))) : W p l e R s m args below meth c H locs cells slots Q (F0 m pc ls (.int (nI y) :: .int (nI x) :: rest)) := lv_iadd hexec hb hdg (by rw [nI_add]; exact k)
theorem r_isub (hexec : p.tables.exec = Jvm.exec) (hb : c.code = cc) {x y : Nat} (h : y ≤ x) (hdg : decode cc pc = .ok (.isub, 1)) (k : W p l e R s m args below meth c H locs cells slots Q (F0 m (pc + 1) ls (.int (nI (x - y)) :: rest))) : W p l e R s m args below meth c H locs cells slots Q (F0 m pc ls (.int (nI y) :: .int (nI x) :: rest)) := lv_isub hexec hb hdg (by rw [pk_sub h]; exact k)
theorem r_imul (hexec : p.tables.exec = Jvm.exec) (hb : c.code = cc) {x y : Nat} (hdg : decode cc pc = .ok (.imul, 1)) (k : W p l e R s m args below meth c H locs cells slots Q (F0 m (pc + 1) ls (.int (nI (x * y)) :: rest))) : W p l e R s m args below meth c H locs cells slots Q (F0 m pc ls (.int (nI y) :: .int (nI x) :: rest)) := lv_imul hexec hb hdg (by rw [pk_mul]; exact k)
theorem r_idiv (hexec : p.tables.exec = Jvm.exec) (hb : c.code = cc) {x y : Nat} (h : 0 < y ∧ y < 2 ^ 31 ∧ x < 2 ^ 31) (hdg : decode cc pc = .ok (.idiv, 1)) (k : W p l e R s m args below meth c H locs cells slots Q (F0 m (pc + 1) ls (.int (nI (x / y)) :: rest))) : W p l e R s m args below meth c H locs cells slots Q (F0 m pc ls (.int (nI y) :: .int (nI x) :: rest)) := lv_idiv hexec hb hdg (nI_ne0 h.1 h.2.1) (by rw [pk_div h.2.2 h.1 h.2.1]; exact k)
theorem r_irem (hexec : p.tables.exec = Jvm.exec) (hb : c.code = cc) {x y : Nat} (h : 0 < y ∧ y < 2 ^ 31 ∧ x < 2 ^ 31) (hdg : decode cc pc = .ok (.irem, 1)) (k : W p l e R s m args below meth c H locs cells slots Q (F0 m (pc + 1) ls (.int (nI (x % y)) :: rest))) : W p l e R s m args below meth c H locs cells slots Q (F0 m pc ls (.int (nI y) :: .int (nI x) :: rest)) := lv_irem hexec hb hdg (nI_ne0 h.1 h.2.1) (by rw [pk_rem h.2.2 h.1 h.2.1]; exact k)
theorem ni_0 {x : Nat} (h : x < 2 ^ 31) : nI x = 0 ↔ x = 0 := by rw [← nI_0]; exact nI_eq h (by omega)
theorem r_if_eq (hexec : p.tables.exec = Jvm.exec) (hb : c.code = cc) {x : Nat} (h : x < 2 ^ 31) {off : Int} {tgt : Nat} (hdg : decode cc pc = .ok (.ifCond .eq off, 3)) (ht : (pc : Int) + off = (tgt : Int)) (kt : x = 0 → W p l e R s m args below meth c H locs cells slots Q (F0 m tgt ls rest)) (kf : x ≠ 0 → W p l e R s m args below meth c H locs cells slots Q (F0 m (pc + 3) ls rest)) : W p l e R s m args below meth c H locs cells slots Q (F0 m pc ls (.int (nI x) :: rest)) := lv_if_eq hexec hb hdg ht (fun q => kt ((ni_0 h).mp q)) (fun q => kf (fun z => q ((ni_0 h).mpr z)))
theorem r_if_ne (hexec : p.tables.exec = Jvm.exec) (hb : c.code = cc) {x : Nat} (h : x < 2 ^ 31) {off : Int} {tgt : Nat} (hdg : decode cc pc = .ok (.ifCond .ne off, 3)) (ht : (pc : Int) + off = (tgt : Int)) (kt : x ≠ 0 → W p l e R s m args below meth c H locs cells slots Q (F0 m tgt ls rest)) (kf : x = 0 → W p l e R s m args below meth c H locs cells slots Q (F0 m (pc + 3) ls rest)) : W p l e R s m args below meth c H locs cells slots Q (F0 m pc ls (.int (nI x) :: rest)) := lv_if_ne hexec hb hdg ht (fun q => kt (fun z => q ((ni_0 h).mpr z))) (fun q => kf ((ni_0 h).mp q))
theorem r_if_le (hexec : p.tables.exec = Jvm.exec) (hb : c.code = cc) {x : Nat} (h : x < 2 ^ 31) {off : Int} {tgt : Nat} (hdg : decode cc pc = .ok (.ifCond .le off, 3)) (ht : (pc : Int) + off = (tgt : Int)) (kt : x = 0 → W p l e R s m args below meth c H locs cells slots Q (F0 m tgt ls rest)) (kf : x ≠ 0 → W p l e R s m args below meth c H locs cells slots Q (F0 m (pc + 3) ls rest)) : W p l e R s m args below meth c H locs cells slots Q (F0 m pc ls (.int (nI x) :: rest)) := lv_if_le hexec hb hdg ht (fun q => kt (Classical.byContradiction fun z => nI_nle (Nat.pos_of_ne_zero z) h q)) (fun q => kf (fun z => q (by rw [z, nI_0]; decide)))
theorem r_if_lt (hexec : p.tables.exec = Jvm.exec) (hb : c.code = cc) {x : Nat} (h : x < 2 ^ 31) {off : Int} {tgt : Nat} (hdg : decode cc pc = .ok (.ifCond .lt off, 3)) (ht : (pc : Int) + off = (tgt : Int)) (kf : W p l e R s m args below meth c H locs cells slots Q (F0 m (pc + 3) ls rest)) : W p l e R s m args below meth c H locs cells slots Q (F0 m pc ls (.int (nI x) :: rest)) := lv_if_lt hexec hb hdg ht (fun q => absurd q (nI_pos h)) (fun q => kf)
theorem r_if_ltm (hexec : p.tables.exec = Jvm.exec) (hb : c.code = cc) {x : Int32} (h : x < 0) {off : Int} {tgt : Nat} (hdg : decode cc pc = .ok (.ifCond .lt off, 3)) (ht : (pc : Int) + off = (tgt : Int)) (kt : W p l e R s m args below meth c H locs cells slots Q (F0 m tgt ls rest)) : W p l e R s m args below meth c H locs cells slots Q (F0 m pc ls (.int x :: rest)) := lv_if_lt hexec hb hdg ht (fun q => kt) (fun q => absurd h q)
theorem r_icmp_eq (hexec : p.tables.exec = Jvm.exec) (hb : c.code = cc) {x y : Nat} (h : x < 2 ^ 31 ∧ y < 2 ^ 31) {off : Int} {tgt : Nat} (hdg : decode cc pc = .ok (.if_icmp .eq off, 3)) (ht : (pc : Int) + off = (tgt : Int)) (kt : x = y → W p l e R s m args below meth c H locs cells slots Q (F0 m tgt ls rest)) (kf : x ≠ y → W p l e R s m args below meth c H locs cells slots Q (F0 m (pc + 3) ls rest)) : W p l e R s m args below meth c H locs cells slots Q (F0 m pc ls (.int (nI y) :: .int (nI x) :: rest)) := lv_icmp_eq hexec hb hdg ht (fun q => kt ((nI_eq h.1 h.2).mp q)) (fun q => kf (fun z => q ((nI_eq h.1 h.2).mpr z)))
theorem r_icmp_ne (hexec : p.tables.exec = Jvm.exec) (hb : c.code = cc) {x y : Nat} (h : x < 2 ^ 31 ∧ y < 2 ^ 31) {off : Int} {tgt : Nat} (hdg : decode cc pc = .ok (.if_icmp .ne off, 3)) (ht : (pc : Int) + off = (tgt : Int)) (kt : x ≠ y → W p l e R s m args below meth c H locs cells slots Q (F0 m tgt ls rest)) (kf : x = y → W p l e R s m args below meth c H locs cells slots Q (F0 m (pc + 3) ls rest)) : W p l e R s m args below meth c H locs cells slots Q (F0 m pc ls (.int (nI y) :: .int (nI x) :: rest)) := lv_icmp_ne hexec hb hdg ht (fun q => kt (fun z => q ((nI_eq h.1 h.2).mpr z))) (fun q => kf ((nI_eq h.1 h.2).mp q))
theorem r_icmp_lt (hexec : p.tables.exec = Jvm.exec) (hb : c.code = cc) {x y : Nat} (h : x < 2 ^ 31 ∧ y < 2 ^ 31) {off : Int} {tgt : Nat} (hdg : decode cc pc = .ok (.if_icmp .lt off, 3)) (ht : (pc : Int) + off = (tgt : Int)) (kt : x < y → W p l e R s m args below meth c H locs cells slots Q (F0 m tgt ls rest)) (kf : y ≤ x → W p l e R s m args below meth c H locs cells slots Q (F0 m (pc + 3) ls rest)) : W p l e R s m args below meth c H locs cells slots Q (F0 m pc ls (.int (nI y) :: .int (nI x) :: rest)) := lv_icmp_lt hexec hb hdg ht (fun q => kt ((nI_ltI h.1 h.2).mp q)) (fun q => kf (Nat.not_lt.mp fun z => q ((nI_ltI h.1 h.2).mpr z)))
theorem r_icmp_le (hexec : p.tables.exec = Jvm.exec) (hb : c.code = cc) {x y : Nat} (h : x < 2 ^ 31 ∧ y < 2 ^ 31) {off : Int} {tgt : Nat} (hdg : decode cc pc = .ok (.if_icmp .le off, 3)) (ht : (pc : Int) + off = (tgt : Int)) (kt : x ≤ y → W p l e R s m args below meth c H locs cells slots Q (F0 m tgt ls rest)) (kf : y < x → W p l e R s m args below meth c H locs cells slots Q (F0 m (pc + 3) ls rest)) : W p l e R s m args below meth c H locs cells slots Q (F0 m pc ls (.int (nI y) :: .int (nI x) :: rest)) := lv_icmp_le hexec hb hdg ht (fun q => kt ((nI_leI h.1 h.2).mp q)) (fun q => kf (Nat.not_le.mp fun z => q ((nI_leI h.1 h.2).mpr z)))
theorem r_icmp_ge (hexec : p.tables.exec = Jvm.exec) (hb : c.code = cc) {x y : Nat} (h : x < 2 ^ 31 ∧ y < 2 ^ 31) {off : Int} {tgt : Nat} (hdg : decode cc pc = .ok (.if_icmp .ge off, 3)) (ht : (pc : Int) + off = (tgt : Int)) (kt : y ≤ x → W p l e R s m args below meth c H locs cells slots Q (F0 m tgt ls rest)) (kf : x < y → W p l e R s m args below meth c H locs cells slots Q (F0 m (pc + 3) ls rest)) : W p l e R s m args below meth c H locs cells slots Q (F0 m pc ls (.int (nI y) :: .int (nI x) :: rest)) := lv_icmp_ge hexec hb hdg ht (fun q => kt ((nI_leI h.2 h.1).mp q)) (fun q => kf (Nat.not_le.mp fun z => q ((nI_leI h.2 h.1).mpr z)))
theorem r_icmp_gt (hexec : p.tables.exec = Jvm.exec) (hb : c.code = cc) {x y : Nat} (h : x < 2 ^ 31 ∧ y < 2 ^ 31) {off : Int} {tgt : Nat} (hdg : decode cc pc = .ok (.if_icmp .gt off, 3)) (ht : (pc : Int) + off = (tgt : Int)) (kt : y < x → W p l e R s m args below meth c H locs cells slots Q (F0 m tgt ls rest)) (kf : x ≤ y → W p l e R s m args below meth c H locs cells slots Q (F0 m (pc + 3) ls rest)) : W p l e R s m args below meth c H locs cells slots Q (F0 m pc ls (.int (nI y) :: .int (nI x) :: rest)) := lv_icmp_gt hexec hb hdg ht (fun q => kt ((nI_ltI h.2 h.1).mp q)) (fun q => kf (Nat.not_lt.mp fun z => q ((nI_ltI h.2 h.1).mpr z)))
theorem r_iinc (hexec : p.tables.exec = Jvm.exec) (hb : c.code = cc) {i k n : Nat} {x y : Nat} {nn : Int} {lv lv' : List (Nat × Value)} (hdg : decode cc pc = .ok (.iinc i nn, 3)) (h : lv_has ls nL lv) (hk : lv[k]? = some (i, .int (nI x))) (hv : nI x + Int32.ofInt nn = nI y) (hn : i < nL) (hl : (i, Value.int (nI y)) :: lv.filter (fun q => !(q.1 == i) && !(q.1 + 1 == i && q.2.category == 2)) = lv')
    (kk : ∀ ls' : Array Slot, lv_has ls' nL lv' → W p l e R s m args below meth c H locs cells slots Q (F0 m (pc + 3) ls' rest)) : W p l e R s m args below meth c H locs cells slots Q (F0 m pc ls rest) := lv_iinc hexec hb hdg h hk hv hn hl kk
theorem r_objInit (E : Ev p m c cc nL s args own D cB cI) {index : Nat} (hl : Cond.methodLink own index objectInit ∈ tb) (hls : ls.size = nL) (hd : decode cc pc = .ok (.invokespecial index, 3)) (hf : 1 ≤ R.frames) (hlo : (rest.map fun v => v.category).sum + 12 ≤ R.locals)
    (kk : W p l e R s m args below meth c H locs cells slots Q (F0 m (pc + 3) ls rest)) : W p l e R s m args below meth c H locs cells slots Q (F0 m pc ls (.ref a :: rest)) :=
  W.objInit E.1.1 E.1.2.1 E.1.2.2.2.1 (E.1.2.2.2.2 _ hl) (E.1.2.2.2.2 _ k_12) (E.1.2.2.2.2 _ k_13) rfl (hls.trans E.1.2.2.1.symm) rfl hd hf (by show 2 * 0 + _ + 12 ≤ _; omega) kk
end RW
end
section
/-! pasted out of kit/laws/BITS.to-paste (a starting text) -/
theorem nx_and (a b : Nat) : nI a &&& nI b = nI (a &&& b) := by
  apply Int32.toBitVec_inj.1
  show BitVec.ofNat 32 a &&& BitVec.ofNat 32 b = BitVec.ofNat 32 (a &&& b)
  apply BitVec.eq_of_getLsbD_eq
  intro i hi
  simp [hi]
theorem nx_xor (a b : Nat) : nI a ^^^ nI b = nI (a ^^^ b) := by
  apply Int32.toBitVec_inj.1
  show BitVec.ofNat 32 a ^^^ BitVec.ofNat 32 b = BitVec.ofNat 32 (a ^^^ b)
  apply BitVec.eq_of_getLsbD_eq
  intro i hi
  simp [hi]
theorem bp_b (x : Int32) : x.toInt8.toInt32 &&& 255 = x &&& 255 := by
  apply Int32.toBitVec_inj.mp
  rw [Int32.toBitVec_and, Int32.toBitVec_and, Int8.toBitVec_toInt32, Int32.toBitVec_toInt8]
  apply BitVec.eq_of_getLsbD_eq
  intro i hi
  rw [BitVec.getLsbD_and, BitVec.getLsbD_and]
  have hm : ∀ i < 32, 8 ≤ i → (255 : Int32).toBitVec.getLsbD i = false := by decide
  rcases Nat.lt_or_ge i 8 with z | z
  · rw [BitVec.getLsbD_signExtend, BitVec.getLsbD_signExtend, if_pos z, if_pos hi]
    simp only [z, hi, decide_true, Bool.true_and]
  · rw [hm i hi z]; simp
/-! ===== the char cast and 65535 ===== -/
theorem wb_tb (n : Nat) : (lN n).toBitVec = BitVec.ofNat 64 n := rfl
theorem wb_inj {a b : Int64} (h : a.toBitVec = b.toBitVec) : a = b := Int64.toBitVec_inj.mp h
theorem wb_tn {n : Nat} (h : n < 2 ^ 64) : (lN n).toBitVec.toNat = n := by rw [wb_tb, BitVec.toNat_ofNat, Nat.mod_eq_of_lt h]
theorem wb_of (x : Int64) : ∃ n, n < 2 ^ 64 ∧ x = lN n := ⟨x.toBitVec.toNat, x.toBitVec.isLt, wb_inj (by rw [wb_tb]; simp)⟩
theorem wb_of32 (x : Int32) : ∃ n, n < 2 ^ 32 ∧ x = nI n := ⟨x.toBitVec.toNat, x.toBitVec.isLt, Int32.toBitVec_inj.mp (by show _ = BitVec.ofNat 32 _; simp)⟩
theorem wb_c : ∀ k, k < 64 → ((nI k).toInt64 &&& 63) = lN k := by decide +kernel
theorem wb_cu : ∀ k, k < 64 → ((nI k).toInt64.toUInt64 &&& Int64.toUInt64 63) = UInt64.ofNat k := by decide +kernel
theorem wb_sm : ∀ k, k < 64 → (BitVec.ofNat 64 k).smod 64 = BitVec.ofNat 64 k := by decide +kernel
theorem wb_pw {a b : Nat} (h : a ≤ b) : 2 ^ b = 2 ^ a * 2 ^ (b - a) := by rw [← Nat.pow_add]; congr 1; omega
theorem wb_lt2 {a b : Nat} (h : a < b) : 2 ^ a < 2 ^ b := Nat.pow_lt_pow_right (by decide) h
theorem wb_mod (n : Nat) : lN n = lN (n % 2 ^ 64) := wb_inj (by rw [wb_tb, wb_tb]; apply BitVec.eq_of_toNat_eq; rw [BitVec.toNat_ofNat, BitVec.toNat_ofNat, Nat.mod_mod])
theorem wb_shr {n k : Nat} (hn : n < 2 ^ 64) (hk : k < 64) : ((lN n).toUInt64 >>> ((nI k).toInt64.toUInt64 &&& Int64.toUInt64 63)).toInt64 = lN (n / 2 ^ k) := by
  rw [wb_cu k hk]
  apply wb_inj
  apply BitVec.eq_of_toNat_eq
  show ((lN n).toUInt64 >>> UInt64.ofNat k).toNat = (BitVec.ofNat 64 _).toNat
  have h1 : (UInt64.ofNat k).toNat = k := by
    show (BitVec.ofNat 64 k).toNat = k
    rw [BitVec.toNat_ofNat, Nat.mod_eq_of_lt (by omega)]
  have h2 : (lN n).toUInt64.toNat = n := wb_tn hn
  rw [UInt64.toNat_shiftRight, h1, h2, Nat.mod_eq_of_lt hk, Nat.shiftRight_eq_div_pow, BitVec.toNat_ofNat, Nat.mod_eq_of_lt (Nat.lt_of_le_of_lt (Nat.div_le_self _ _) hn)]
theorem wb_shl (n : Nat) {k : Nat} (hk : k < 64) : lN n <<< ((nI k).toInt64 &&& 63) = lN (n * 2 ^ k) := by
  rw [wb_c k hk]
  apply wb_inj
  rw [Int64.toBitVec_shiftLeft, wb_tb, wb_tb, wb_tb, wb_sm k hk]
  apply BitVec.eq_of_toNat_eq
  rw [BitVec.shiftLeft_eq', BitVec.toNat_shiftLeft, BitVec.toNat_ofNat, BitVec.toNat_ofNat, BitVec.toNat_ofNat, Nat.mod_eq_of_lt (show k < 2 ^ 64 by omega), Nat.shiftLeft_eq, Nat.mul_mod, Nat.mod_mod, ← Nat.mul_mod]
theorem wb_and {a b : Nat} (ha : a < 2 ^ 64) (hb : b < 2 ^ 64) : lN a &&& lN b = lN (a &&& b) := by
  apply wb_inj
  rw [Int64.toBitVec_and, wb_tb, wb_tb, wb_tb]
  apply BitVec.eq_of_toNat_eq
  rw [BitVec.toNat_and, BitVec.toNat_ofNat, BitVec.toNat_ofNat, BitVec.toNat_ofNat, Nat.mod_eq_of_lt ha, Nat.mod_eq_of_lt hb, Nat.mod_eq_of_lt (Nat.and_lt_two_pow _ hb)]
theorem wb_or {a b : Nat} (ha : a < 2 ^ 64) (hb : b < 2 ^ 64) : lN a ||| lN b = lN (a ||| b) := by
  apply wb_inj
  rw [Int64.toBitVec_or, wb_tb, wb_tb, wb_tb]
  apply BitVec.eq_of_toNat_eq
  rw [BitVec.toNat_or, BitVec.toNat_ofNat, BitVec.toNat_ofNat, BitVec.toNat_ofNat, Nat.mod_eq_of_lt ha, Nat.mod_eq_of_lt hb, Nat.mod_eq_of_lt (Nat.or_lt_two_pow ha hb)]
theorem u_tn {n : Nat} (h : n < 2 ^ 64) : (UInt64.ofNat n).toNat = n := Nat.mod_eq_of_lt h
theorem g_or {k p a b : Nat} (hp : 2 ^ k = p) (ha : a < p) (h : b * p + a < 2 ^ 64) : lN (b * p) ||| lN a = lN (b * p + a) := by
  subst hp
  have h1 : b * 2 ^ k ||| a = b * 2 ^ k + a := by rw [← Nat.shiftLeft_eq, Nat.shiftLeft_add_eq_or_of_lt ha]
  have h3 : UInt64.ofNat (b * 2 ^ k) ||| UInt64.ofNat a = UInt64.ofNat (b * 2 ^ k + a) := UInt64.toNat_inj.mp (by rw [UInt64.toNat_or, u_tn (by omega), u_tn (by omega), u_tn h, h1])
  have h2 := congrArg UInt64.toInt64 h3
  exact h2
theorem pf_lI {a : Nat} (h : a < 2 ^ 63) : (lN a).toInt = (a : Int) := lg_ofNat_toInt h
theorem lN_bv (n : Nat) : (lN n).toBitVec = BitVec.ofNat 64 n := rfl
theorem lN_nat {n : Nat} (h : n < 2 ^ 64) : (lN n).toBitVec.toNat = n := by rw [lN_bv, BitVec.toNat_ofNat]; exact Nat.mod_eq_of_lt h
theorem lN_xor (a b : Nat) : lN a ^^^ lN b = lN (a ^^^ b) := by
  apply Int64.toBitVec_inj.mp; rw [Int64.toBitVec_xor, lN_bv, lN_bv, lN_bv]; apply BitVec.eq_of_getLsbD_eq; intro i hi; simp [BitVec.getLsbD_ofNat, Nat.testBit_xor, hi]
end
section
/-! plain numbers: the remainder of bits by the polynomial, its table -/
def st7 (r b : Nat) : Nat := if 2 * r + b < 128 then 2 * r + b else (2 * r + b) ^^^ 197
theorem st7_lt : ∀ r, r < 128 → ∀ b, b < 2 → st7 r b < 128 := by decide +kernel
def rm7 (f : Nat → Nat) : Nat → Nat
  | 0 => 0
  | n + 1 => st7 (rm7 f n) (f n)
theorem rm7_lt {f : Nat → Nat} : ∀ n, (∀ j, j < n → f j < 2) → rm7 f n < 128
  | 0, _ => show 0 < 128 by omega
  | n + 1, h => st7_lt _ (rm7_lt n (fun j hj => h j (by omega))) _ (h n (by omega))
theorem rm7_eq {f g : Nat → Nat} : ∀ n, (∀ j, j < n → f j = g j) → rm7 f n = rm7 g n
  | 0, _ => rfl
  | n + 1, h => by rw [rm7, rm7, rm7_eq n (fun j hj => h j (by omega)), h n (by omega)]
theorem sp_up : ∀ r, r < 128 → ∀ b, b < 2 → (nI r <<< (nI 1 &&& 31)) ||| nI b = nI (2 * r + b) := by decide +kernel
theorem sp_and : ∀ u, u < 256 → nI u &&& nI 128 = nI (if u < 128 then 0 else 128) := by decide +kernel
theorem sp_x : ∀ u, u < 256 → 128 ≤ u → (nI u ^^^ nI 69) &&& nI 127 = nI (u ^^^ 197) := by decide +kernel
theorem sp_shl1 : ∀ u, u < 128 → nI u <<< (nI 1 &&& 31) = nI (2 * u) := by decide +kernel
theorem sp_b8 : ∀ k, k < 128 → (nI k).toInt8.toInt32 = nI k := by decide +kernel
theorem sp_x127 : ∀ u, u < 128 → u ^^^ 127 < 128 := by decide +kernel
def pw7 : Nat → Nat
  | 0 => 1
  | k + 1 => st7 (pw7 k) 0
theorem pw7_lt : ∀ k, pw7 k < 128
  | 0 => by decide
  | k + 1 => st7_lt _ (pw7_lt k) _ (by decide)
/-- the table behind n rounds -/
def wt7 : Nat → Nat → Int32
  | 0, r => if r = 0 then -1 else -2
  | n + 1, r => if r = pw7 n then nI n else wt7 n r
def kd : Nat → Int32
  | 0 => -1
  | n + 1 => nI n
theorem kd_pred : ∀ n, nI n + Int32.ofInt (-1) = kd n
  | 0 => by decide +kernel
  | n + 1 => by show nI (n + 1) + (-1) = nI n; exact pk_m1 n
def kd8 : Nat → Int32
  | 0 => -8
  | n + 1 => nI (8 * n)
theorem kd8_pred : ∀ n, nI (8 * n) + Int32.ofInt (-8) = kd8 n
  | 0 => by decide +kernel
  | n + 1 => by
    show nI (8 * (n + 1)) + (-8) = nI (8 * n)
    rw [show 8 * (n + 1) = 8 * n + 8 by omega, ← nI_add, Int32.add_assoc, show nI 8 + (-8) = 0 by decide +kernel, Int32.add_zero]
theorem sh_smod : ∀ k, k < 64 → (((nI k).toInt64 &&& 63).toBitVec.smod 64).toNat = k := by decide +kernel
theorem shr_l {a k : Nat} (h : a < 2 ^ 63) (hk : k < 64) : lN a >>> ((nI k).toInt64 &&& 63) = lN (a / 2 ^ k) := by
  have hd : a / 2 ^ k ≤ a := Nat.div_le_self _ _
  apply Int64.toInt_inj.mp
  have e : (lN a >>> ((nI k).toInt64 &&& 63)).toInt = (lN a).toInt >>> k := by
    have e3 : (lN a >>> ((nI k).toInt64 &&& 63)).toBitVec = (lN a).toBitVec.sshiftRight k := by
      show (lN a).toBitVec.sshiftRight (((nI k).toInt64 &&& 63).toBitVec.smod 64).toNat = _
      rw [sh_smod k hk]
    show (lN a >>> ((nI k).toInt64 &&& 63)).toBitVec.toInt = _
    rw [e3]
    exact BitVec.toInt_sshiftRight ..
  rw [e, Int.shiftRight_eq_div_pow, pf_lI (by omega), pf_lI (by omega)]
  rfl
theorem bit_n (x : Nat) : nI x &&& nI 1 = nI (x % 2) := by rw [nx_and, Nat.and_one_is_mod]
/-- the low bits of a long that is shifted right with its sign -/
theorem sh_low {a k m : Nat} (ha : a < 2 ^ 64) (hk : k + m ≤ 64) (hm : m ≤ 32) (h0 : 0 < m) : (lN a >>> ((nI k).toInt64 &&& 63)).toInt32.toBitVec.toNat % 2 ^ m = a / 2 ^ k % 2 ^ m := by
  apply Nat.eq_of_testBit_eq
  intro i
  rw [Nat.testBit_mod_two_pow, Nat.testBit_mod_two_pow, Nat.testBit_div_two_pow]
  by_cases hi : i < m
  · have e : (lN a >>> ((nI k).toInt64 &&& 63)).toBitVec = (lN a).toBitVec.sshiftRight k := by
      show (lN a).toBitVec.sshiftRight (((nI k).toInt64 &&& 63).toBitVec.smod 64).toNat = _
      rw [sh_smod k (by omega)]
    have e1 : (lN a).toBitVec.toNat = a := wb_tn ha
    have e2 : (lN a >>> ((nI k).toInt64 &&& 63)).toInt32.toBitVec.getLsbD i = a.testBit (i + k) := by
      rw [Int64.toBitVec_toInt32, BitVec.getLsbD_signExtend, e, BitVec.getLsbD_sshiftRight, BitVec.getLsbD, e1]
      simp [show i < 32 by omega, show i < 64 by omega, show k + i < 64 by omega, Nat.add_comm]
    rw [BitVec.getLsbD] at e2
    rw [e2]
  · simp [hi]
theorem sh_bit {a k : Nat} (ha : a < 2 ^ 64) (hk : k < 64) : (lN a >>> ((nI k).toInt64 &&& 63)).toInt32 &&& nI 1 = nI (a / 2 ^ k % 2) := by
  rw [pk_and _ 1 (by decide +kernel), sh_low ha (by omega) (by decide) (by decide)]
/-- a byte as a number from 0 to 255 -/
def bN (x : Int32) : Nat := x.toBitVec.toNat % 256
theorem bN_lt (x : Int32) : bN x < 256 := Nat.mod_lt _ (by decide)
theorem bN_and (x : Int32) : x &&& nI 255 = nI (bN x) := pk_and x 8 (by decide +kernel)
theorem bN_i8 (x : Int32) : bN x.toInt8.toInt32 = bN x := by
  have h := bp_b x
  have h2 : nI (bN x.toInt8.toInt32) = nI (bN x) := by rw [← bN_and, ← bN_and]; exact h
  exact (nI_eq (Nat.lt_trans (bN_lt _) (by decide)) (Nat.lt_trans (bN_lt _) (by decide))).mp h2
theorem bN_nI (n : Nat) : bN (nI n) = n % 256 := by
  show (BitVec.ofNat 32 n).toNat % 256 = n % 256
  rw [BitVec.toNat_ofNat]
  omega
theorem bN_sh {a k : Nat} (ha : a < 2 ^ 64) (hk : k ≤ 56) : bN (lN a >>> ((nI k).toInt64 &&& 63)).toInt32.toInt8.toInt32 = a / 2 ^ k % 256 := by
  rw [bN_i8]
  exact sh_low (m := 8) ha (by omega) (by decide) (by decide)
/-- the bits of 56 bits of data and seven behind them, the remainder, the block -/
def db (d j : Nat) : Nat := if j < 56 then d / 2 ^ (55 - j) % 2 else 0
theorem db_lt (d j : Nat) : db d j < 2 := by unfold db; split <;> omega
def crc (d : Nat) : Nat := rm7 (db d) 63
theorem crc_lt (d : Nat) : crc d < 128 := rm7_lt 63 (fun j _ => db_lt d j)
def blk (d : Nat) : Nat := d * 256 + 2 * (crc d ^^^ 127)
/-- the bits of a block of 64, its last seven turned round, and its remainder -/
def tb7 (V j : Nat) : Nat := (V / 2 ^^^ 127) / 2 ^ (62 - j) % 2
theorem tb7_lt (V j : Nat) : tb7 V j < 2 := Nat.mod_lt _ (by decide)
def syn (V : Nat) : Nat := rm7 (tb7 V) 63
theorem syn_lt (V : Nat) : syn V < 128 := rm7_lt 63 (fun j _ => tb7_lt V j)
theorem syn_x {V : Nat} (h : V < 2 ^ 64) : V / 2 ^^^ 127 < 2 ^ 63 := Nat.xor_lt_two_pow (by omega) (by decide)
/-- a block with the bit of a power turned round -/
def mnd (V : Nat) (q : Int32) : Nat := if q < 7 then V else V ^^^ 2 ^ (q.toNatClampNeg + 1)
theorem mnd_m1 (V : Nat) : mnd V (-1) = V := if_pos (by decide)
theorem mnd_lo {V k : Nat} (h : k < 7) : mnd V (nI k) = V := if_pos (nI_lt h (by decide))
theorem mnd_hi {V k : Nat} (h : 7 ≤ k) (h2 : k < 63) : mnd V (nI k) = V ^^^ 2 ^ (k + 1) := by
  have h7 : ¬ nI k < (7 : Int32) := nI_nlt (a := k) (b := 7) h (by omega)
  unfold mnd
  rw [if_neg h7, nI_clamp (by omega)]
theorem mnd_lt {V : Nat} (hV : V < 2 ^ 64) {k : Nat} (h2 : k < 63) : V ^^^ 2 ^ (k + 1) < 2 ^ 64 := Nat.xor_lt_two_pow hV (wb_lt2 (by omega))
theorem upd_s {f : Nat → Int32} {k : Nat} {x : Int32} : upd f k x k = x := if_pos rfl
theorem upd_n {f : Nat → Int32} {k j : Nat} {x : Int32} (h : j ≠ k) : upd f k x j = f j := if_neg h
end
section
abbrev rm_C_step : Room := { frames := 0, cells := 0, slots := 0, locals := 0 }
set_option maxHeartbeats 4000000 in
set_option maxRecDepth 100000 in
/-- step(r, b): the remainder with one bit more -/
theorem c_C_step (l : Launch) (D : va_G) (cB cI : ClassId) (r b : Nat) (h_r : r < 128) (h_b : b < 2) : MI l D cB cI y_C_step b_C_step 3 (some .int) rm_C_step [.int (nI r), .int (nI b)] [] (fun (v : Int32) (_ : Unit) => v = nI (st7 r b)) (fun _ => []) := by
  refine m_entryI (by decide +kernel) (Nat.le_of_ble_eq_true rfl) ?_
  intro p e s m below meth c ls A E hr hlk hnm hA hP hD hl
  have hx := E.1.1
  have hb := E.1.2.1
  have hS : va_S A s.heap s.heap [] := va_S.rf
  have hl : lv_has ls 3 [(0, .int (nI r)), (1, .int (nI b))] := hl
  refine lv_iload_n hx hb d_C_step_0 rfl (lv_at hl 0 rfl) ?_
  refine lv_iconst (v := nI 1) hx hb d_C_step_1 (by decide +kernel) ?_
  refine lv_ishl hx hb d_C_step_2 ?_
  refine lv_iload_n hx hb d_C_step_3 rfl (lv_at hl 1 rfl) ?_
  refine lv_ior hx hb d_C_step_4 ?_
  refine r_topi (y := nI (2 * r + b)) (sp_up r h_r b h_b) ?_
  refine lv_istore_n (lv' := [(2, .int (nI (2 * r + b))), (0, .int (nI r)), (1, .int (nI b))]) hx hb d_C_step_5 rfl hl (by decide) rfl (fun ls hl => ?_)
  refine lv_iload_n hx hb d_C_step_6 rfl (lv_at hl 0 rfl) ?_
  refine lv_sipush (v := nI 128) hx hb d_C_step_7 (by decide +kernel) ?_
  refine lv_iand hx hb d_C_step_10 ?_
  refine r_topi (y := nI (if 2 * r + b < 128 then 0 else 128)) (sp_and _ (by omega)) ?_
  refine r_if_ne (tgt := 18) hx hb (by split <;> omega) d_C_step_11 (by decide) (fun c11 => ?_) (fun c11 => ?_)
  · skip
    refine lv_iload_n hx hb d_C_step_18 rfl (lv_at hl 0 rfl) ?_
    refine lv_bipush (v := nI 69) hx hb d_C_step_19 (by decide +kernel) ?_
    refine lv_ixor hx hb d_C_step_21 ?_
    refine lv_bipush (v := nI 127) hx hb d_C_step_22 (by decide +kernel) ?_
    refine lv_iand hx hb d_C_step_24 ?_
    refine r_topi (y := nI ((2 * r + b) ^^^ 197)) (sp_x _ (by omega) (by split at c11 <;> omega)) ?_
    exact r_iret E hr hlk hP hD hS (rfl) (()) rfl ((congrArg nI (show st7 r b = _ from by unfold st7; rw [if_neg (by split at c11 <;> omega)])).symm) d_C_step_25
  · skip
    refine lv_iload_n hx hb d_C_step_14 rfl (lv_at hl 0 rfl) ?_
    refine lv_goto (tgt := 25) hx hb d_C_step_15 (by decide) ?_
    exact r_iret E hr hlk hP hD hS (rfl) (()) rfl ((congrArg nI (show st7 r b = _ from by unfold st7; rw [if_pos (by split at c11 <;> omega)])).symm) d_C_step_25

abbrev rm_C_block : Room := { frames := 1, cells := 0, slots := 0, locals := 22 }
set_option maxHeartbeats 4000000 in
set_option maxRecDepth 100000 in
theorem L_C_block_5 (l : Launch) (D : va_G) (cB cI : ClassId) (d : Nat) (h_d : d < 2 ^ 56) {p : Program} {e : Env} {s : State} {m : MethodId} {args : Array Value} {below : List Frame} {meth : Method} {c : Code} {A : Nat → Prop} {Q : State → Prop} (E : Ev p m c b_C_block 4 s args "CodeBlocks$Code" D cB cI) (hA : ∀ q : Nat, s.heap.size ≤ q → A q)
    (K : ∀ (H : Heap) (locs : List Loc) (ls : Array Slot), (True) → va_P D classes [] H → va_D A [] → va_S A s.heap H locs → lv_has ls 4 [(0, .long (lN d)), (2, .int (nI (rm7 (db d) 56))), (3, .int (-1))] → W p l e rm_C_block s m args below meth c H locs 0 0 Q (F0 m 26 ls [])) :
    ∀ (n : Nat) (j : Nat) (H : Heap) (locs : List Loc) (ls : Array Slot), (j + n = 56) → va_P D classes [] H → va_D A [] → va_S A s.heap H locs → lv_has ls 4 [(0, .long (lN d)), (2, .int (nI (rm7 (db d) j))), (3, .int (kd n))] → W p l e rm_C_block s m args below meth c H locs 0 0 Q (F0 m 5 ls []) := by
  have hx := E.1.1
  have hb := E.1.2.1
  intro n
  induction n with
  | zero =>
    intro j H locs ls hi hP hD hS hl
    obtain rfl : j = 56 := by omega
    have hl : lv_has ls 4 [(0, .long (lN d)), (2, .int (nI (rm7 (db d) 56))), (3, .int (-1))] := hl
    refine lv_iload_n hx hb d_C_block_5 rfl (lv_at hl 2 rfl) ?_
    refine lv_if_lt (tgt := 26) hx hb d_C_block_6 (by decide) (fun c6 => ?_) (fun c6 => False.elim (c6 (by decide)))
    exact K  H locs ls (trivial) hP hD hS (lv_sub hl [0, 1, 2] rfl)
  | succ n ih =>
    intro j H locs ls hi hP hD hS hl
    have hl : lv_has ls 4 [(0, .long (lN d)), (2, .int (nI (rm7 (db d) j))), (3, .int (nI n))] := hl
    refine lv_iload_n hx hb d_C_block_5 rfl (lv_at hl 2 rfl) ?_
    refine r_if_lt hx hb (by omega) (tgt := 26) d_C_block_6 (by decide) ?_
    refine lv_iload_n hx hb d_C_block_9 rfl (lv_at hl 1 rfl) ?_
    refine lv_lload_n hx hb d_C_block_10 rfl (lv_at hl 0 rfl) ?_
    refine lv_iload_n hx hb d_C_block_11 rfl (lv_at hl 2 rfl) ?_
    refine lv_lshr (v := lN (d / 2 ^ n)) hx hb d_C_block_12 (shr_l (by omega) (by omega)) ?_
    refine lv_l2i (v := nI (d / 2 ^ n)) hx hb d_C_block_13 (lN_i _) ?_
    refine lv_iconst (v := nI 1) hx hb d_C_block_14 (by decide +kernel) ?_
    refine lv_iand hx hb d_C_block_15 ?_
    refine r_topi (y := nI (d / 2 ^ n % 2)) (bit_n _) ?_
    refine r_callSI (wr := []) (rest := []) E cs_C_15 (c_C_step l D cB cI (rm7 (db d) j) (d / 2 ^ n % 2) (rm7_lt j (fun i _ => db_lt d i)) (Nat.mod_lt _ (by decide))) hP hD hS hA [] [] ⟨rfl, rfl, by decide, by decide, by decide⟩ hl.1 rfl rfl (Nat.le_of_ble_eq_true rfl) ⟨by decide, by decide⟩ ⟨by decide, by decide⟩ d_C_block_16 (fun r u H locs hw hP hD hS => ?_)
    obtain rfl : r = nI (rm7 (db d) (j + 1)) := hw.trans (congrArg nI (by rw [rm7, db, if_pos (by omega), show 55 - j = n by omega]))
    have hP : va_P D classes [] H := hP.sub [] rfl
    have hD : va_D A [] := hD.sub [] (by decide) rfl
    refine W.widen (k := 0) (n := 0) (Nat.le_of_ble_eq_true rfl) (Nat.le_of_ble_eq_true rfl) ?_
    refine lv_istore_n (lv' := [(2, .int (nI (rm7 (db d) (j + 1)))), (0, .long (lN d)), (3, .int (nI n))]) hx hb d_C_block_19 rfl hl (by decide) rfl (fun ls hl => ?_)
    refine lv_iinc (v := kd n) (lv' := [(3, .int (kd n)), (2, .int (nI (rm7 (db d) (j + 1)))), (0, .long (lN d))]) hx hb d_C_block_20 hl (k := 2) rfl (kd_pred n) (by decide) rfl (fun ls hl => ?_)
    refine lv_goto (tgt := 5) hx hb d_C_block_23 (by decide) ?_
    exact ih (j + 1) H locs ls (by omega) hP hD hS (lv_sub hl [2, 1, 0] rfl)

set_option maxHeartbeats 4000000 in
set_option maxRecDepth 100000 in
theorem L_C_block_28 (l : Launch) (D : va_G) (cB cI : ClassId) (d : Nat) {p : Program} {e : Env} {s : State} {m : MethodId} {args : Array Value} {below : List Frame} {meth : Method} {c : Code} {A : Nat → Prop} {Q : State → Prop} (E : Ev p m c b_C_block 4 s args "CodeBlocks$Code" D cB cI) (hA : ∀ q : Nat, s.heap.size ≤ q → A q)
    (K : ∀ (H : Heap) (locs : List Loc) (ls : Array Slot), (True) → va_P D classes [] H → va_D A [] → va_S A s.heap H locs → lv_has ls 4 [(0, .long (lN d)), (2, .int (nI (crc d)))] → W p l e rm_C_block s m args below meth c H locs 0 0 Q (F0 m 46 ls [])) :
    ∀ (n : Nat) (i : Nat) (H : Heap) (locs : List Loc) (ls : Array Slot), (i + n = 7) → va_P D classes [] H → va_D A [] → va_S A s.heap H locs → lv_has ls 4 [(0, .long (lN d)), (2, .int (nI (rm7 (db d) (56 + i)))), (3, .int (nI i))] → W p l e rm_C_block s m args below meth c H locs 0 0 Q (F0 m 28 ls []) := by
  have hx := E.1.1
  have hb := E.1.2.1
  intro n
  induction n with
  | zero =>
    intro i H locs ls hi hP hD hS hl
    obtain rfl : i = 7 := by omega
    have hl : lv_has ls 4 [(0, .long (lN d)), (2, .int (nI (rm7 (db d) (56 + 7)))), (3, .int (nI 7))] := hl
    refine lv_iload_n hx hb d_C_block_28 rfl (lv_at hl 2 rfl) ?_
    refine lv_bipush (v := nI 7) hx hb d_C_block_29 (by decide +kernel) ?_
    refine r_icmp_ge (tgt := 46) hx hb ⟨by omega, by omega⟩ d_C_block_31 (by decide) (fun c31 => ?_) (fun c31 => False.elim (by omega))
    exact K  H locs ls (trivial) hP hD hS (lv_sub hl [0, 1] rfl)
  | succ n ih =>
    intro i H locs ls hi hP hD hS hl
    refine lv_iload_n hx hb d_C_block_28 rfl (lv_at hl 2 rfl) ?_
    refine lv_bipush (v := nI 7) hx hb d_C_block_29 (by decide +kernel) ?_
    refine r_icmp_ge (tgt := 46) hx hb ⟨by omega, by omega⟩ d_C_block_31 (by decide) (fun c31 => False.elim (by omega)) (fun c31 => ?_)
    refine lv_iload_n hx hb d_C_block_34 rfl (lv_at hl 1 rfl) ?_
    refine lv_iconst (v := nI 0) hx hb d_C_block_35 (by decide +kernel) ?_
    refine r_callSI (wr := []) (rest := []) E cs_C_15 (c_C_step l D cB cI (rm7 (db d) (56 + i)) (0) (rm7_lt _ (fun i _ => db_lt d i)) (by decide)) hP hD hS hA [] [] ⟨rfl, rfl, by decide, by decide, by decide⟩ hl.1 rfl rfl (Nat.le_of_ble_eq_true rfl) ⟨by decide, by decide⟩ ⟨by decide, by decide⟩ d_C_block_36 (fun r u H locs hw hP hD hS => ?_)
    obtain rfl : r = nI (rm7 (db d) (56 + (i + 1))) := hw.trans (congrArg nI (by rw [show 56 + (i + 1) = (56 + i) + 1 by omega, rm7, db, if_neg (by omega)]))
    have hP : va_P D classes [] H := hP.sub [] rfl
    have hD : va_D A [] := hD.sub [] (by decide) rfl
    refine W.widen (k := 0) (n := 0) (Nat.le_of_ble_eq_true rfl) (Nat.le_of_ble_eq_true rfl) ?_
    refine lv_istore_n (lv' := [(2, .int (nI (rm7 (db d) (56 + (i + 1))))), (0, .long (lN d)), (3, .int (nI i))]) hx hb d_C_block_39 rfl hl (by decide) rfl (fun ls hl => ?_)
    refine lv_iinc (v := nI (i + 1)) (lv' := [(3, .int (nI (i + 1))), (2, .int (nI (rm7 (db d) (56 + (i + 1))))), (0, .long (lN d))]) hx hb d_C_block_40 hl (k := 2) rfl (nI_add _ _) (by decide) rfl (fun ls hl => ?_)
    refine lv_goto (tgt := 28) hx hb d_C_block_43 (by decide) ?_
    exact ih (i + 1) H locs ls (by omega) hP hD hS (lv_sub hl [2, 1, 0] rfl)

set_option maxHeartbeats 4000000 in
set_option maxRecDepth 100000 in
/-- block(d): the block of 56 bits of data -/
theorem c_C_block (l : Launch) (D : va_G) (cB cI : ClassId) (d : Nat) (h_d : d < 2 ^ 56) : ML l D cB cI y_C_block b_C_block 4 (some .long) rm_C_block [.long (lN d)] [] (fun (v : Int64) (_ : Unit) => v = lN (blk d)) (fun _ => []) := by
  refine m_entryL (by decide +kernel) (Nat.le_of_ble_eq_true rfl) ?_
  intro p e s m below meth c ls A E hr hlk hnm hA hP hD hl
  have hx := E.1.1
  have hb := E.1.2.1
  have hS : va_S A s.heap s.heap [] := va_S.rf
  have hl : lv_has ls 4 [(0, .long (lN d))] := hl
  refine lv_iconst (v := nI 0) hx hb d_C_block_0 (by decide +kernel) ?_
  refine lv_istore_n (lv' := [(2, .int (nI 0)), (0, .long (lN d))]) hx hb d_C_block_1 rfl hl (by decide) rfl (fun ls hl => ?_)
  refine lv_bipush (v := nI 55) hx hb d_C_block_2 (by decide +kernel) ?_
  refine lv_istore_n (lv' := [(3, .int (nI 55)), (2, .int (nI 0)), (0, .long (lN d))]) hx hb d_C_block_4 rfl hl (by decide) rfl (fun ls hl => ?_)
  refine L_C_block_5 l D cB cI d h_d E hA (fun H locs ls _ hP hD hS hl => ?_) 56 0 _ _ ls (by omega) hP hD hS (lv_sub hl [2, 1, 0] rfl)
  refine lv_iconst (v := nI 0) hx hb d_C_block_26 (by decide +kernel) ?_
  refine lv_istore_n (lv' := [(3, .int (nI 0)), (0, .long (lN d)), (2, .int (nI (rm7 (db d) 56)))]) hx hb d_C_block_27 rfl hl (by decide) rfl (fun ls hl => ?_)
  refine L_C_block_28 l D cB cI d E hA (fun H locs ls _ hP hD hS hl => ?_) 7 0 _ _ ls (by omega) hP hD hS (lv_sub hl [1, 2, 0] rfl)
  refine lv_lload_n hx hb d_C_block_46 rfl (lv_at hl 0 rfl) ?_
  refine lv_bipush (v := nI 8) hx hb d_C_block_47 (by decide +kernel) ?_
  refine lv_lshl (v := lN (d * 256)) hx hb d_C_block_49 (wb_shl d (by decide)) ?_
  refine lv_iload_n hx hb d_C_block_50 rfl (lv_at hl 1 rfl) ?_
  refine lv_bipush (v := nI 127) hx hb d_C_block_51 (by decide +kernel) ?_
  refine lv_ixor hx hb d_C_block_53 ?_
  refine r_topi (y := nI (crc d ^^^ 127)) (nx_xor _ _) ?_
  refine lv_iconst (v := nI 1) hx hb d_C_block_54 (by decide +kernel) ?_
  refine lv_ishl hx hb d_C_block_55 ?_
  refine r_topi (y := nI (2 * (crc d ^^^ 127))) (sp_shl1 _ (sp_x127 _ (crc_lt d))) ?_
  refine lv_i2l (v := lN (2 * (crc d ^^^ 127))) hx hb d_C_block_56 (nI_l (by have := sp_x127 _ (crc_lt d); omega)) ?_
  refine lv_lor hx hb d_C_block_57 ?_
  refine r_topl (y := lN (blk d)) (g_or (k := 8) (by decide) (by have := sp_x127 _ (crc_lt d); omega) (by have := sp_x127 _ (crc_lt d); omega)) ?_
  exact r_lret E hr hlk hP hD hS (()) rfl (rfl) d_C_block_58

abbrev rm_C_look : Room := { frames := 1, cells := 0, slots := 0, locals := 22 }
set_option maxHeartbeats 4000000 in
set_option maxRecDepth 100000 in
theorem L_C_look_15 (l : Launch) (D : va_G) (cB cI : ClassId) (h aw : Nat) (wf : Nat → Int32) (V : Nat) (h_V : V < 2 ^ 64) {p : Program} {e : Env} {s : State} {m : MethodId} {args : Array Value} {below : List Frame} {meth : Method} {c : Code} {A : Nat → Prop} {Q : State → Prop} (E : Ev p m c b_C_look 7 s args "CodeBlocks$Code" D cB cI) (hA : ∀ q : Nat, s.heap.size ≤ q → A q)
    (K : ∀ (H : Heap) (locs : List Loc) (ls : Array Slot), (True) → va_P D classes [(h, .inr (1, [.ref aw])), (aw, .inl (cB, 128, .inl wf))] H → va_D A [(h, .inr (1, [.ref aw])), (aw, .inl (cB, 128, .inl wf))] → va_S A s.heap H locs → lv_has ls 7 [(0, .ref h), (3, .long (lN (V / 2 ^^^ 127))), (5, .int (nI (rm7 (tb7 V) 63)))] → W p l e rm_C_look s m args below meth c H locs 0 0 Q (F0 m 40 ls [])) :
    ∀ (n : Nat) (j : Nat) (H : Heap) (locs : List Loc) (ls : Array Slot), (j + n = 63) → va_P D classes [(h, .inr (1, [.ref aw])), (aw, .inl (cB, 128, .inl wf))] H → va_D A [(h, .inr (1, [.ref aw])), (aw, .inl (cB, 128, .inl wf))] → va_S A s.heap H locs → lv_has ls 7 [(0, .ref h), (3, .long (lN (V / 2 ^^^ 127))), (5, .int (nI (rm7 (tb7 V) j))), (6, .int (kd n))] → W p l e rm_C_look s m args below meth c H locs 0 0 Q (F0 m 15 ls []) := by
  have hx := E.1.1
  have hb := E.1.2.1
  intro n
  induction n with
  | zero =>
    intro j H locs ls hi hP hD hS hl
    obtain rfl : j = 63 := by omega
    have hl : lv_has ls 7 [(0, .ref h), (3, .long (lN (V / 2 ^^^ 127))), (5, .int (nI (rm7 (tb7 V) 63))), (6, .int (-1))] := hl
    refine lv_iload hx hb d_C_look_15 (lv_at hl 3 rfl) ?_
    refine lv_if_lt (tgt := 40) hx hb d_C_look_17 (by decide) (fun c17 => ?_) (fun c17 => False.elim (c17 (by decide)))
    exact K  H locs ls (trivial) hP hD hS (lv_sub hl [0, 1, 2] rfl)
  | succ n ih =>
    intro j H locs ls hi hP hD hS hl
    have hl : lv_has ls 7 [(0, .ref h), (3, .long (lN (V / 2 ^^^ 127))), (5, .int (nI (rm7 (tb7 V) j))), (6, .int (nI n))] := hl
    refine lv_iload hx hb d_C_look_15 (lv_at hl 3 rfl) ?_
    refine r_if_lt hx hb (by omega) (tgt := 40) d_C_look_17 (by decide) ?_
    refine lv_iload hx hb d_C_look_20 (lv_at hl 2 rfl) ?_
    refine lv_lload_n hx hb d_C_look_22 rfl (lv_at hl 1 rfl) ?_
    refine lv_iload hx hb d_C_look_23 (lv_at hl 3 rfl) ?_
    refine lv_lshr (v := lN ((V / 2 ^^^ 127) / 2 ^ n)) hx hb d_C_look_25 (shr_l (syn_x h_V) (by omega)) ?_
    refine lv_l2i (v := nI ((V / 2 ^^^ 127) / 2 ^ n)) hx hb d_C_look_26 (lN_i _) ?_
    refine lv_iconst (v := nI 1) hx hb d_C_look_27 (by decide +kernel) ?_
    refine lv_iand hx hb d_C_look_28 ?_
    refine r_topi (y := nI ((V / 2 ^^^ 127) / 2 ^ n % 2)) (bit_n _) ?_
    refine r_callSI (wr := [(h, .inr (1, [.ref aw])), (aw, .inl (cB, 128, .inl wf))]) (rest := []) E cs_C_15 (c_C_step l D cB cI (rm7 (tb7 V) j) ((V / 2 ^^^ 127) / 2 ^ n % 2) (rm7_lt j (fun i _ => tb7_lt V i)) (Nat.mod_lt _ (by decide))) hP hD hS hA [] [0, 1] ⟨rfl, rfl, by decide, by decide, by decide⟩ hl.1 rfl rfl (Nat.le_of_ble_eq_true rfl) ⟨by decide, by decide⟩ ⟨by decide, by decide⟩ d_C_look_29 (fun r u H locs hw hP hD hS => ?_)
    obtain rfl : r = nI (rm7 (tb7 V) (j + 1)) := hw.trans (congrArg nI (by rw [rm7, tb7, show 62 - j = n by omega]))
    have hP : va_P D classes [(h, .inr (1, [.ref aw])), (aw, .inl (cB, 128, .inl wf))] H := hP.sub [0, 1] rfl
    have hD : va_D A [(h, .inr (1, [.ref aw])), (aw, .inl (cB, 128, .inl wf))] := hD.sub [0, 1] (by decide) rfl
    refine W.widen (k := 0) (n := 0) (Nat.le_of_ble_eq_true rfl) (Nat.le_of_ble_eq_true rfl) ?_
    refine lv_istore (lv' := [(5, .int (nI (rm7 (tb7 V) (j + 1)))), (0, .ref h), (3, .long (lN (V / 2 ^^^ 127))), (6, .int (nI n))]) hx hb d_C_look_32 hl (by decide) rfl (fun ls hl => ?_)
    refine lv_iinc (v := kd n) (lv' := [(6, .int (kd n)), (5, .int (nI (rm7 (tb7 V) (j + 1)))), (0, .ref h), (3, .long (lN (V / 2 ^^^ 127)))]) hx hb d_C_look_34 hl (k := 3) rfl (kd_pred n) (by decide) rfl (fun ls hl => ?_)
    refine lv_goto (tgt := 15) hx hb d_C_look_37 (by decide) ?_
    exact ih (j + 1) H locs ls (by omega) hP hD hS (lv_sub hl [2, 3, 1, 0] rfl)

set_option maxHeartbeats 4000000 in
set_option maxRecDepth 100000 in
/-- look(V): the table at the remainder of the block V -/
theorem c_C_look (l : Launch) (D : va_G) (cB cI : ClassId) (h aw : Nat) (wf : Nat → Int32) (V : Nat) (h_V : V < 2 ^ 64) (h_w : ∀ r, r < 128 → wf r = wt7 63 r) : MI l D cB cI y_C_look b_C_look 7 (some .int) rm_C_look [.ref h, .long (lN V)] [(h, .inr (1, [.ref aw])), (aw, .inl (cB, 128, .inl wf))] (fun (v : Int32) (_ : Unit) => v = wt7 63 (syn V)) (fun _ => [(h, .inr (1, [.ref aw])), (aw, .inl (cB, 128, .inl wf))]) := by
  refine m_entryI (by decide +kernel) (Nat.le_of_ble_eq_true rfl) ?_
  intro p e s m below meth c ls A E hr hlk hnm hA hP hD hl
  have hx := E.1.1
  have hb := E.1.2.1
  have hS : va_S A s.heap s.heap [] := va_S.rf
  have hl : lv_has ls 7 [(0, .ref h), (1, .long (lN V))] := hl
  refine lv_lload_n hx hb d_C_look_0 rfl (lv_at hl 1 rfl) ?_
  refine lv_iconst (v := nI 1) hx hb d_C_look_1 (by decide +kernel) ?_
  refine lv_lushr (v := lN (V / 2)) hx hb d_C_look_2 (wb_shr (k := 1) h_V (by decide)) ?_
  refine lv_ldc2 (v := 127) hx hb E.1.2.2.2.1 (E.1.2.2.2.2 _ k_142) d_C_look_3 ?_
  refine r_topl (y := lN 127) (by decide +kernel) ?_
  refine lv_lxor hx hb d_C_look_6 ?_
  refine r_topl (y := lN (V / 2 ^^^ 127)) (lN_xor _ _) ?_
  refine lv_lstore_n (lv' := [(3, .long (lN (V / 2 ^^^ 127))), (0, .ref h), (1, .long (lN V))]) hx hb d_C_look_7 rfl hl (by decide) rfl (fun ls hl => ?_)
  refine lv_iconst (v := nI 0) hx hb d_C_look_8 (by decide +kernel) ?_
  refine lv_istore (lv' := [(5, .int (nI 0)), (3, .long (lN (V / 2 ^^^ 127))), (0, .ref h), (1, .long (lN V))]) hx hb d_C_look_9 hl (by decide) rfl (fun ls hl => ?_)
  refine lv_bipush (v := nI 62) hx hb d_C_look_11 (by decide +kernel) ?_
  refine lv_istore (lv' := [(6, .int (nI 62)), (5, .int (nI 0)), (3, .long (lN (V / 2 ^^^ 127))), (0, .ref h), (1, .long (lN V))]) hx hb d_C_look_13 hl (by decide) rfl (fun ls hl => ?_)
  refine L_C_look_15 l D cB cI h aw wf V h_V E hA (fun H locs ls _ hP hD hS hl => ?_) 63 0 _ _ ls (by omega) hP hD hS (lv_sub hl [3, 2, 1, 0] rfl)
  refine lv_aload_n hx hb d_C_look_40 rfl (lv_at hl 0 rfl) ?_
  refine r_get E hP 0 fl_C_11 rfl rfl d_C_look_41 ?_
  refine lv_iload hx hb d_C_look_44 (lv_at hl 2 rfl) ?_
  refine r_bald E hP 1 rfl (syn_lt V) (by decide) d_C_look_46 ?_
  exact r_iret E hr hlk hP hD hS (rfl) (()) rfl (h_w _ (syn_lt V)) d_C_look_47

abbrev rm_C_data : Room := { frames := 0, cells := 0, slots := 0, locals := 0 }
set_option maxHeartbeats 4000000 in
set_option maxRecDepth 100000 in
/-- data(V, q): the data of a block, one bit mended -/
theorem c_C_data (l : Launch) (D : va_G) (cB cI : ClassId) (V : Nat) (h_V : V < 2 ^ 64) (q : Int32) (h_q : q = -1 ∨ ∃ k, k < 63 ∧ q = nI k) : ML l D cB cI y_C_data b_C_data 5 (some .long) rm_C_data [.long (lN V), .int q] [] (fun (v : Int64) (_ : Unit) => v = lN (mnd V q / 256)) (fun _ => []) := by
  refine m_entryL (by decide +kernel) (Nat.le_of_ble_eq_true rfl) ?_
  intro p e s m below meth c ls A E hr hlk hnm hA hP hD hl
  have hx := E.1.1
  have hb := E.1.2.1
  have hS : va_S A s.heap s.heap [] := va_S.rf
  rcases h_q with rfl | ⟨k, h_k, rfl⟩
  · skip
    have hl : lv_has ls 5 [(0, .long (lN V)), (2, .int (-1))] := hl
    refine lv_iload_n hx hb d_C_data_0 rfl (lv_at hl 1 rfl) ?_
    refine lv_bipush (v := nI 7) hx hb d_C_data_1 (by decide +kernel) ?_
    refine lv_icmp_lt (tgt := 16) hx hb d_C_data_3 (by decide) (fun c3 => ?_) (fun c3 => False.elim (c3 (by decide)))
    refine lv_lload_n hx hb d_C_data_16 rfl (lv_at hl 0 rfl) ?_
    refine lv_lstore_n (lv' := [(3, .long (lN V)), (0, .long (lN V)), (2, .int (-1))]) hx hb d_C_data_17 rfl hl (by decide) rfl (fun ls hl => ?_)
    refine lv_lload_n hx hb d_C_data_18 rfl (lv_at hl 0 rfl) ?_
    refine lv_bipush (v := nI 8) hx hb d_C_data_19 (by decide +kernel) ?_
    refine lv_lushr (v := lN (V / 256)) hx hb d_C_data_21 (wb_shr (k := 8) (h_V) (by decide)) ?_
    exact r_lret E hr hlk hP hD hS (()) rfl (by rw [mnd_m1]) d_C_data_22
  · skip
    have hl : lv_has ls 5 [(0, .long (lN V)), (2, .int (nI k))] := hl
    refine lv_iload_n hx hb d_C_data_0 rfl (lv_at hl 1 rfl) ?_
    refine lv_bipush (v := nI 7) hx hb d_C_data_1 (by decide +kernel) ?_
    refine r_icmp_lt (tgt := 16) hx hb ⟨by omega, by omega⟩ d_C_data_3 (by decide) (fun c3 => ?_) (fun c3 => ?_)
    · skip
      refine lv_lload_n hx hb d_C_data_16 rfl (lv_at hl 0 rfl) ?_
      refine lv_lstore_n (lv' := [(3, .long (lN V)), (0, .long (lN V)), (2, .int (nI k))]) hx hb d_C_data_17 rfl hl (by decide) rfl (fun ls hl => ?_)
      refine lv_lload_n hx hb d_C_data_18 rfl (lv_at hl 0 rfl) ?_
      refine lv_bipush (v := nI 8) hx hb d_C_data_19 (by decide +kernel) ?_
      refine lv_lushr (v := lN (V / 256)) hx hb d_C_data_21 (wb_shr (k := 8) h_V (by decide)) ?_
      exact r_lret E hr hlk hP hD hS (()) rfl (by rw [mnd_lo c3]) d_C_data_22
    · skip
      refine lv_lload_n hx hb d_C_data_6 rfl (lv_at hl 0 rfl) ?_
      refine lv_lconst (v := lN 1) hx hb d_C_data_7 (by decide +kernel) ?_
      refine lv_iload_n hx hb d_C_data_8 rfl (lv_at hl 1 rfl) ?_
      refine lv_iconst (v := nI 1) hx hb d_C_data_9 (by decide +kernel) ?_
      refine r_iadd hx hb d_C_data_10 ?_
      refine lv_lshl (v := lN (2 ^ (k + 1))) hx hb d_C_data_11 ((wb_shl 1 (by omega)).trans (congrArg lN (Nat.one_mul _))) ?_
      refine lv_lxor hx hb d_C_data_12 ?_
      refine r_topl (y := lN (V ^^^ 2 ^ (k + 1))) (lN_xor _ _) ?_
      refine lv_goto (tgt := 17) hx hb d_C_data_13 (by decide) ?_
      refine lv_lstore_n (lv' := [(3, .long (lN (V ^^^ 2 ^ (k + 1)))), (0, .long (lN V)), (2, .int (nI k))]) hx hb d_C_data_17 rfl hl (by decide) rfl (fun ls hl => ?_)
      refine lv_lload_n hx hb d_C_data_18 rfl (lv_at hl 0 rfl) ?_
      refine lv_bipush (v := nI 8) hx hb d_C_data_19 (by decide +kernel) ?_
      refine lv_lushr (v := lN ((V ^^^ 2 ^ (k + 1)) / 256)) hx hb d_C_data_21 (wb_shr (k := 8) (mnd_lt h_V h_k) (by decide)) ?_
      exact r_lret E hr hlk hP hD hS (()) rfl (by rw [mnd_hi c3 h_k]) d_C_data_22

abbrev rm_C_init : Room := { frames := 1, cells := 1, slots := 128, locals := 22 }
set_option maxHeartbeats 4000000 in
set_option maxRecDepth 100000 in
theorem L_C_init_15 (l : Launch) (D : va_G) (cB cI : ClassId) (h q : Nat) {p : Program} {e : Env} {s : State} {m : MethodId} {args : Array Value} {below : List Frame} {meth : Method} {c : Code} {A : Nat → Prop} {Q : State → Prop} (E : Ev p m c b_C_init 3 s args "CodeBlocks$Code" D cB cI) (hA : ∀ q : Nat, s.heap.size ≤ q → A q)
    (K : ∀ (f : Nat → Int32) (H : Heap) (locs : List Loc) (ls : Array Slot), ((∀ j, 1 ≤ j → j < 128 → f j = -2)) → va_P D classes [(h, .inr (1, [.ref q])), (q, .inl (cB, 128, .inl f))] H → va_D A [(h, .inr (1, [.ref q])), (q, .inl (cB, 128, .inl f))] → va_S A s.heap H locs → lv_has ls 3 [(0, .ref h)] → W p l e rm_C_init s m args below meth c H locs 1 128 Q (F0 m 38 ls [])) :
    ∀ (n : Nat) (k : Nat) (f : Nat → Int32) (H : Heap) (locs : List Loc) (ls : Array Slot), (k + n = 128 ∧ 1 ≤ k ∧ ∀ j, 1 ≤ j → j < k → f j = -2) → va_P D classes [(h, .inr (1, [.ref q])), (q, .inl (cB, 128, .inl f))] H → va_D A [(h, .inr (1, [.ref q])), (q, .inl (cB, 128, .inl f))] → va_S A s.heap H locs → lv_has ls 3 [(0, .ref h), (1, .int (nI k))] → W p l e rm_C_init s m args below meth c H locs 1 128 Q (F0 m 15 ls []) := by
  have hx := E.1.1
  have hb := E.1.2.1
  intro n
  induction n with
  | zero =>
    intro k f H locs ls hi hP hD hS hl
    obtain ⟨i1, i2, i3⟩ := hi
    obtain rfl : k = 128 := by omega
    have hl : lv_has ls 3 [(0, .ref h), (1, .int (nI 128))] := hl
    refine lv_iload_n hx hb d_C_init_15 rfl (lv_at hl 1 rfl) ?_
    refine lv_aload_n hx hb d_C_init_16 rfl (lv_at hl 0 rfl) ?_
    refine r_get E hP 0 fl_C_11 rfl rfl d_C_init_17 ?_
    refine r_balen E hP 1 rfl d_C_init_20 ?_
    refine r_icmp_ge (tgt := 38) hx hb ⟨by omega, by omega⟩ d_C_init_21 (by decide) (fun c21 => ?_) (fun c21 => False.elim (by omega))
    exact K f H locs ls (i3) hP hD hS (lv_sub hl [0] rfl)
  | succ n ih =>
    intro k f H locs ls hi hP hD hS hl
    obtain ⟨i1, i2, i3⟩ := hi
    refine lv_iload_n hx hb d_C_init_15 rfl (lv_at hl 1 rfl) ?_
    refine lv_aload_n hx hb d_C_init_16 rfl (lv_at hl 0 rfl) ?_
    refine r_get E hP 0 fl_C_11 rfl rfl d_C_init_17 ?_
    refine r_balen E hP 1 rfl d_C_init_20 ?_
    refine r_icmp_ge (tgt := 38) hx hb ⟨by omega, by omega⟩ d_C_init_21 (by decide) (fun c21 => False.elim (by omega)) (fun c21 => ?_)
    refine lv_aload_n hx hb d_C_init_24 rfl (lv_at hl 0 rfl) ?_
    refine r_get E hP 0 fl_C_11 rfl rfl d_C_init_25 ?_
    refine lv_iload_n hx hb d_C_init_28 rfl (lv_at hl 1 rfl) ?_
    refine lv_bipush (v := (-2)) hx hb d_C_init_29 (by decide +kernel) ?_
    refine r_bast E hP hD hS 1 rfl (by omega) (by decide) (y := (-2)) (by decide +kernel) (ws' := [(h, .inr (1, [.ref q])), (q, .inl (cB, 128, .inl (upd f k (-2))))]) rfl d_C_init_31 (fun H locs hP hD hS => ?_)
    refine lv_iinc (v := nI (k + 1)) (lv' := [(1, .int (nI (k + 1))), (0, .ref h)]) hx hb d_C_init_32 hl (k := 1) rfl (nI_add _ _) (by decide) rfl (fun ls hl => ?_)
    refine lv_goto (tgt := 15) hx hb d_C_init_35 (by decide) ?_
    exact ih (k + 1) (upd f k (-2)) H locs ls (⟨by omega, by omega, fun j h1 h2 => by by_cases h : j = k; (subst h; exact upd_s); (rw [upd_n h]; exact i3 j h1 (by omega))⟩) hP hD hS (lv_sub hl [1, 0] rfl)

set_option maxHeartbeats 4000000 in
set_option maxRecDepth 100000 in
theorem L_C_init_49 (l : Launch) (D : va_G) (cB cI : ClassId) (h q : Nat) {p : Program} {e : Env} {s : State} {m : MethodId} {args : Array Value} {below : List Frame} {meth : Method} {c : Code} {A : Nat → Prop} {Q : State → Prop} (E : Ev p m c b_C_init 3 s args "CodeBlocks$Code" D cB cI) (hA : ∀ q : Nat, s.heap.size ≤ q → A q)
    (K : ∀ (f : Nat → Int32) (H : Heap) (locs : List Loc) (ls : Array Slot), ((∀ r, r < 128 → f r = wt7 63 r)) → va_P D classes [(h, .inr (1, [.ref q])), (q, .inl (cB, 128, .inl f))] H → va_D A [(h, .inr (1, [.ref q])), (q, .inl (cB, 128, .inl f))] → va_S A s.heap H locs → lv_has ls 3 [(0, .ref h)] → W p l e rm_C_init s m args below meth c H locs 1 128 Q (F0 m 75 ls [])) :
    ∀ (n : Nat) (k : Nat) (f : Nat → Int32) (H : Heap) (locs : List Loc) (ls : Array Slot), (k + n = 63 ∧ ∀ r, r < 128 → f r = wt7 k r) → va_P D classes [(h, .inr (1, [.ref q])), (q, .inl (cB, 128, .inl f))] H → va_D A [(h, .inr (1, [.ref q])), (q, .inl (cB, 128, .inl f))] → va_S A s.heap H locs → lv_has ls 3 [(0, .ref h), (1, .int (nI (pw7 k))), (2, .int (nI k))] → W p l e rm_C_init s m args below meth c H locs 1 128 Q (F0 m 49 ls []) := by
  have hx := E.1.1
  have hb := E.1.2.1
  intro n
  induction n with
  | zero =>
    intro k f H locs ls hi hP hD hS hl
    obtain ⟨i1, i2⟩ := hi
    obtain rfl : k = 63 := by omega
    have hl : lv_has ls 3 [(0, .ref h), (1, .int (nI (pw7 63))), (2, .int (nI 63))] := hl
    refine lv_iload_n hx hb d_C_init_49 rfl (lv_at hl 2 rfl) ?_
    refine lv_bipush (v := nI 63) hx hb d_C_init_50 (by decide +kernel) ?_
    refine r_icmp_ge (tgt := 75) hx hb ⟨by omega, by omega⟩ d_C_init_52 (by decide) (fun c52 => ?_) (fun c52 => False.elim (by omega))
    exact K f H locs ls (i2) hP hD hS (lv_sub hl [0] rfl)
  | succ n ih =>
    intro k f H locs ls hi hP hD hS hl
    obtain ⟨i1, i2⟩ := hi
    refine lv_iload_n hx hb d_C_init_49 rfl (lv_at hl 2 rfl) ?_
    refine lv_bipush (v := nI 63) hx hb d_C_init_50 (by decide +kernel) ?_
    refine r_icmp_ge (tgt := 75) hx hb ⟨by omega, by omega⟩ d_C_init_52 (by decide) (fun c52 => False.elim (by omega)) (fun c52 => ?_)
    refine lv_aload_n hx hb d_C_init_55 rfl (lv_at hl 0 rfl) ?_
    refine r_get E hP 0 fl_C_11 rfl rfl d_C_init_56 ?_
    refine lv_iload_n hx hb d_C_init_59 rfl (lv_at hl 1 rfl) ?_
    refine lv_iload_n hx hb d_C_init_60 rfl (lv_at hl 2 rfl) ?_
    refine lv_i2b (v := nI k) hx hb d_C_init_61 (sp_b8 k (by omega)) ?_
    refine r_bast E hP hD hS 1 rfl (pw7_lt k) (by decide) (y := nI k) (sp_b8 k (by omega)) (ws' := [(h, .inr (1, [.ref q])), (q, .inl (cB, 128, .inl (upd f (pw7 k) (nI k))))]) rfl d_C_init_62 (fun H locs hP hD hS => ?_)
    refine lv_iload_n hx hb d_C_init_63 rfl (lv_at hl 1 rfl) ?_
    refine lv_iconst (v := nI 0) hx hb d_C_init_64 (by decide +kernel) ?_
    refine r_callSI (wr := [(h, .inr (1, [.ref q])), (q, .inl (cB, 128, .inl (upd f (pw7 k) (nI k))))]) (rest := []) E cs_C_15 (c_C_step l D cB cI (pw7 k) (0) (pw7_lt k) (by decide)) hP hD hS hA [] [0, 1] ⟨rfl, rfl, by decide, by decide, by decide⟩ hl.1 rfl rfl (Nat.le_of_ble_eq_true rfl) ⟨by decide, by decide⟩ ⟨by decide, by decide⟩ d_C_init_65 (fun r u H locs hw hP hD hS => ?_)
    obtain rfl : r = nI (pw7 (k + 1)) := hw
    have hP : va_P D classes [(h, .inr (1, [.ref q])), (q, .inl (cB, 128, .inl (upd f (pw7 k) (nI k))))] H := hP.sub [0, 1] rfl
    have hD : va_D A [(h, .inr (1, [.ref q])), (q, .inl (cB, 128, .inl (upd f (pw7 k) (nI k))))] := hD.sub [0, 1] (by decide) rfl
    refine W.widen (k := 1) (n := 128) (Nat.le_of_ble_eq_true rfl) (Nat.le_of_ble_eq_true rfl) ?_
    refine lv_istore_n (lv' := [(1, .int (nI (pw7 (k + 1)))), (0, .ref h), (2, .int (nI k))]) hx hb d_C_init_68 rfl hl (by decide) rfl (fun ls hl => ?_)
    refine lv_iinc (v := nI (k + 1)) (lv' := [(2, .int (nI (k + 1))), (1, .int (nI (pw7 (k + 1)))), (0, .ref h)]) hx hb d_C_init_69 hl (k := 2) rfl (nI_add _ _) (by decide) rfl (fun ls hl => ?_)
    refine lv_goto (tgt := 49) hx hb d_C_init_72 (by decide) ?_
    exact ih (k + 1) (upd f (pw7 k) (nI k)) H locs ls (⟨by omega, fun r hr => by rw [wt7]; by_cases h : r = pw7 k; (subst h; rw [if_pos rfl]; exact upd_s); (rw [if_neg h, upd_n h]; exact i2 r hr)⟩) hP hD hS (lv_sub hl [2, 1, 0] rfl)

set_option maxHeartbeats 4000000 in
set_option maxRecDepth 100000 in
/-- Code(): the table -/
theorem c_C_init (l : Launch) (D : va_G) (cB cI : ClassId) (h : Nat) : MV l D cB cI y_C_init b_C_init 3 none rm_C_init [.ref h] [(h, .inr (1, [.null]))] (fun (u : Nat × (Nat → Int32)) => ∀ r, r < 128 → u.2 r = wt7 63 r) (fun u => [(h, .inr (1, [.ref u.1])), (u.1, .inl (cB, 128, .inl u.2))]) := by
  refine m_entryV (by decide +kernel) (Nat.le_of_ble_eq_true rfl) ?_
  intro p e s m below meth c ls A E hr hlk hnm hA hP hD hl
  have hx := E.1.1
  have hb := E.1.2.1
  have hS : va_S A s.heap s.heap [] := va_S.rf
  have hl : lv_has ls 3 [(0, .ref h)] := hl
  refine lv_aload_n hx hb d_C_init_0 rfl (lv_at hl 0 rfl) ?_
  refine r_objInit E k_21 hl.1 d_C_init_1 (by decide) (Nat.le_of_ble_eq_true rfl) ?_
  refine lv_aload_n hx hb d_C_init_4 rfl (lv_at hl 0 rfl) ?_
  refine lv_sipush (v := nI 128) hx hb d_C_init_5 (by decide +kernel) ?_
  refine r_newB E hP hD hS hA (by decide) (by decide) (by decide) d_C_init_8 (fun q H hP hD hS => ?_)
  have hP : va_P D classes [(h, .inr (1, [.null])), (q, .inl (cB, 128, .inl (fun _ => 0)))] H := hP
  have hD : va_D A [(h, .inr (1, [.null])), (q, .inl (cB, 128, .inl (fun _ => 0)))] := hD
  refine W.widen (k := 1) (n := 128) (Nat.le_of_ble_eq_true rfl) (Nat.le_of_ble_eq_true rfl) ?_
  refine r_putF E hP hD hS 0 fl_C_11 hnm rfl rfl (rfl) (rfl) (ws' := [(h, .inr (1, [.ref q])), (q, .inl (cB, 128, .inl (fun _ => 0)))]) rfl d_C_init_10 (fun H locs hP hD hS => ?_)
  refine lv_iconst (v := nI 1) hx hb d_C_init_13 (by decide +kernel) ?_
  refine lv_istore_n (lv' := [(1, .int (nI 1)), (0, .ref h)]) hx hb d_C_init_14 rfl hl (by decide) rfl (fun ls hl => ?_)
  refine L_C_init_15 l D cB cI h q E hA (fun f H locs ls i1 hP hD hS hl => ?_) 127 1 _ _ _ ls ⟨by omega, by omega, fun j h1 h2 => by omega⟩ hP hD hS (lv_sub hl [1, 0] rfl)
  refine lv_aload_n hx hb d_C_init_38 rfl (lv_at hl 0 rfl) ?_
  refine r_get E hP 0 fl_C_11 rfl rfl d_C_init_39 ?_
  refine lv_iconst (v := nI 0) hx hb d_C_init_42 (by decide +kernel) ?_
  refine lv_iconst (v := (-1)) hx hb d_C_init_43 (by decide +kernel) ?_
  refine r_bast E hP hD hS 1 rfl (by omega) (by decide) (y := (-1)) (by decide +kernel) (ws' := [(h, .inr (1, [.ref q])), (q, .inl (cB, 128, .inl (upd f 0 (-1))))]) rfl d_C_init_44 (fun H locs hP hD hS => ?_)
  refine lv_iconst (v := nI 1) hx hb d_C_init_45 (by decide +kernel) ?_
  refine lv_istore_n (lv' := [(1, .int (nI 1)), (0, .ref h)]) hx hb d_C_init_46 rfl hl (by decide) rfl (fun ls hl => ?_)
  refine lv_iconst (v := nI 0) hx hb d_C_init_47 (by decide +kernel) ?_
  refine lv_istore_n (lv' := [(2, .int (nI 0)), (1, .int (nI 1)), (0, .ref h)]) hx hb d_C_init_48 rfl hl (by decide) rfl (fun ls hl => ?_)
  refine L_C_init_49 l D cB cI h q E hA (fun f H locs ls i1 hP hD hS hl => ?_) 63 0 _ _ _ ls ⟨by omega, fun r hr => by rw [wt7]; by_cases h : r = 0; (subst h; exact upd_s); (rw [if_neg h, upd_n h]; exact i1 r (by omega) hr)⟩ hP hD hS (lv_sub hl [2, 1, 0] rfl)
  exact r_vret E hr hlk hP hD hS ((q, f)) rfl (i1) d_C_init_75
end
section
/-! what the receiver does, on its own cells: (row's address, received's address, state, size, filled, seen, mends, bits, began, ended, blocks, mended, marks, row, received) -/
abbrev RC : Type := Nat × Nat × Nat × Nat × Nat × Nat × Nat × Nat × Int32 × Int32 × Int32 × Int32 × Int32 × (Nat → Int32) × (Nat → Int32)
def wR (cB : ClassId) (h ac aw : Nat) (wf : Nat → Int32) : RC → va_W := fun (ar, ag, st, sz, fl, sn, md, B, c0, c1, c2, c3, c4, f, g) => [(h, .inr (2, [.ref ac, .ref ar, .ref ag, .int (nI st), .int (nI sz), .int (nI fl), .int (nI sn), .int (nI md), .long (lN B), .int c0, .int c1, .int c2, .int c3, .int c4])), (ar, .inl (cB, 259, .inl f)), (ag, .inl (cB, 259, .inl g)), (ac, .inr (1, [.ref aw])), (aw, .inl (cB, 128, .inl wf))]
def rc_end : RC → RC := fun (ar, ag, st, sz, fl, sn, md, B, c0, c1, c2, c3, c4, f, g) => if fl = 0 then (ar, ag, 1, sz, 0, 0, md, B, c0, c1 + nI 1, c2, c3, c4, f, g) else (ag, ar, 1, fl, 0, 0, md, B, c0, c1 + nI 1, c2, c3, c4, g, f)
def off16 (B : Nat) : Nat := (B % 65536) ^^^ 60304
theorem off16_lt (B : Nat) : off16 B < 65536 := Nat.xor_lt_two_pow (n := 16) (Nat.mod_lt _ (by decide)) (by decide)
def hit (B md : Nat) : Prop := off16 B = 0 ∨ (md ≠ 0 ∧ off16 B &&& (off16 B - 1) = 0)
def rc_mark : RC → RC := fun (ar, ag, st, sz, fl, sn, md, B, c0, c1, c2, c3, c4, f, g) => if off16 B = 0 ∨ (md ≠ 0 ∧ off16 B &&& (off16 B - 1) = 0) then (ar, ag, 2, sz, fl, 0, md, B, c0 + nI 1, c1, c2, c3, c4 + nI (if off16 B = 0 then 0 else 1), f, g) else (ar, ag, st, sz, fl, sn, md, B, c0, c1, c2, c3, c4, f, g)
def wr7 (f : Nat → Int32) (fl d n : Nat) : Nat → Int32 := fun j => if fl ≤ j ∧ j < fl + n then (nI (d / 2 ^ (48 - 8 * (j - fl)))).toInt8.toInt32 else f j
theorem wr7_0 (f : Nat → Int32) (fl d : Nat) : wr7 f fl d 0 = f := by
  funext j
  exact if_neg (by omega)
theorem wr7_s (f : Nat → Int32) (fl d n : Nat) : upd (wr7 f fl d n) (fl + n) (nI (d / 2 ^ (48 - 8 * n))).toInt8.toInt32 = wr7 f fl d (n + 1) := by
  funext j
  by_cases h : j = fl + n
  · subst h
    rw [upd_s, wr7, if_pos (by omega), show fl + n - fl = n by omega]
  · rw [upd_n h, wr7, wr7]
    by_cases h2 : fl ≤ j ∧ j < fl + n
    · rw [if_pos h2, if_pos (by omega)]
    · rw [if_neg h2, if_neg (by omega)]
def rc_block : RC → RC × Nat := fun (ar, ag, st, sz, fl, sn, md, B, c0, c1, c2, c3, c4, f, g) =>
  if wt7 63 (syn B) = -1 ∨ (wt7 63 (syn B) ≠ -2 ∧ md ≠ 0) then
    (if fl + 7 = 259 then (rc_end (ar, ag, st, sz, fl + 7, 0, md, B, c0, c1, c2 + nI 1, c3 + nI (if wt7 63 (syn B) = -1 then 0 else 1), c4, wr7 f fl (mnd B (wt7 63 (syn B)) / 256) 7, g), 1)
    else ((ar, ag, st, sz, fl + 7, 0, md, B, c0, c1, c2 + nI 1, c3 + nI (if wt7 63 (syn B) = -1 then 0 else 1), c4, wr7 f fl (mnd B (wt7 63 (syn B)) / 256) 7, g), 0))
  else (rc_end (ar, ag, st, sz, fl, 0, md, B, c0, c1, c2, c3, c4, f, g), 1)
def rc_bit (b : Nat) : RC → RC × Nat := fun (ar, ag, st, sz, fl, sn, md, B, c0, c1, c2, c3, c4, f, g) =>
  if st = 2 then
    (if (if sn < 64 then sn + 1 else sn) = 64 then rc_block (ar, ag, st, sz, fl, if sn < 64 then sn + 1 else sn, md, (2 * B + b) % 2 ^ 64, c0, c1, c2, c3, c4, f, g)
    else ((ar, ag, st, sz, fl, if sn < 64 then sn + 1 else sn, md, (2 * B + b) % 2 ^ 64, c0, c1, c2, c3, c4, f, g), 0))
  else if (if sn < 64 then sn + 1 else sn) < 16 then ((ar, ag, st, sz, fl, if sn < 64 then sn + 1 else sn, md, (2 * B + b) % 2 ^ 64, c0, c1, c2, c3, c4, f, g), 0)
  else (rc_mark (ar, ag, st, sz, fl, if sn < 64 then sn + 1 else sn, md, (2 * B + b) % 2 ^ 64, c0, c1, c2, c3, c4, f, g), 0)
section RCE
variable {ar ag st sz fl sn md B : Nat} {c0 c1 c2 c3 c4 : Int32} {f g : Nat → Int32}
theorem rce_0 (h : fl = 0) : rc_end (ar, ag, st, sz, fl, sn, md, B, c0, c1, c2, c3, c4, f, g) = (ar, ag, 1, sz, 0, 0, md, B, c0, c1 + nI 1, c2, c3, c4, f, g) := if_pos h
theorem rce_1 (h : fl ≠ 0) : rc_end (ar, ag, st, sz, fl, sn, md, B, c0, c1, c2, c3, c4, f, g) = (ag, ar, 1, fl, 0, 0, md, B, c0, c1 + nI 1, c2, c3, c4, g, f) := if_neg h
theorem rcm_0 (h : ¬ hit B md) : rc_mark (ar, ag, st, sz, fl, sn, md, B, c0, c1, c2, c3, c4, f, g) = (ar, ag, st, sz, fl, sn, md, B, c0, c1, c2, c3, c4, f, g) := if_neg h
theorem rcm_1 (h : hit B md) : rc_mark (ar, ag, st, sz, fl, sn, md, B, c0, c1, c2, c3, c4, f, g) = (ar, ag, 2, sz, fl, 0, md, B, c0 + nI 1, c1, c2, c3, c4 + nI (if off16 B = 0 then 0 else 1), f, g) := if_pos h
theorem rcb_0 (h : ¬ (wt7 63 (syn B) = -1 ∨ (wt7 63 (syn B) ≠ -2 ∧ md ≠ 0))) : rc_block (ar, ag, st, sz, fl, sn, md, B, c0, c1, c2, c3, c4, f, g) = (rc_end (ar, ag, st, sz, fl, 0, md, B, c0, c1, c2, c3, c4, f, g), 1) := if_neg h
theorem rcb_1 (h : wt7 63 (syn B) = -1 ∨ (wt7 63 (syn B) ≠ -2 ∧ md ≠ 0)) (h2 : fl + 7 = 259) : rc_block (ar, ag, st, sz, fl, sn, md, B, c0, c1, c2, c3, c4, f, g) = (rc_end (ar, ag, st, sz, fl + 7, 0, md, B, c0, c1, c2 + nI 1, c3 + nI (if wt7 63 (syn B) = -1 then 0 else 1), c4, wr7 f fl (mnd B (wt7 63 (syn B)) / 256) 7, g), 1) := (if_pos h).trans (if_pos h2)
theorem rcb_2 (h : wt7 63 (syn B) = -1 ∨ (wt7 63 (syn B) ≠ -2 ∧ md ≠ 0)) (h2 : fl + 7 ≠ 259) : rc_block (ar, ag, st, sz, fl, sn, md, B, c0, c1, c2, c3, c4, f, g) = ((ar, ag, st, sz, fl + 7, 0, md, B, c0, c1, c2 + nI 1, c3 + nI (if wt7 63 (syn B) = -1 then 0 else 1), c4, wr7 f fl (mnd B (wt7 63 (syn B)) / 256) 7, g), 0) := (if_pos h).trans (if_neg h2)
theorem rct_0 {b k : Nat} (hk : k = if sn < 64 then sn + 1 else sn) (h : st = 2) (h2 : k ≠ 64) : rc_bit b (ar, ag, st, sz, fl, sn, md, B, c0, c1, c2, c3, c4, f, g) = ((ar, ag, st, sz, fl, k, md, (2 * B + b) % 2 ^ 64, c0, c1, c2, c3, c4, f, g), 0) := by
  subst hk
  exact (if_pos h).trans (if_neg h2)
theorem rct_1 {b k : Nat} (hk : k = if sn < 64 then sn + 1 else sn) (h : st = 2) (h2 : k = 64) : rc_bit b (ar, ag, st, sz, fl, sn, md, B, c0, c1, c2, c3, c4, f, g) = rc_block (ar, ag, st, sz, fl, k, md, (2 * B + b) % 2 ^ 64, c0, c1, c2, c3, c4, f, g) := by
  subst hk
  exact (if_pos h).trans (if_pos h2)
theorem rct_2 {b k : Nat} (hk : k = if sn < 64 then sn + 1 else sn) (h : st ≠ 2) (h2 : k < 16) : rc_bit b (ar, ag, st, sz, fl, sn, md, B, c0, c1, c2, c3, c4, f, g) = ((ar, ag, st, sz, fl, k, md, (2 * B + b) % 2 ^ 64, c0, c1, c2, c3, c4, f, g), 0) := by
  subst hk
  exact (if_neg h).trans (if_pos h2)
theorem rct_3 {b k : Nat} (hk : k = if sn < 64 then sn + 1 else sn) (h : st ≠ 2) (h2 : ¬ k < 16) : rc_bit b (ar, ag, st, sz, fl, sn, md, B, c0, c1, c2, c3, c4, f, g) = (rc_mark (ar, ag, st, sz, fl, k, md, (2 * B + b) % 2 ^ 64, c0, c1, c2, c3, c4, f, g), 0) := by
  subst hk
  exact (if_neg h).trans (if_neg h2)
end RCE
theorem rcb_le (w : RC) : (rc_block w).2 ≤ 1 := by
  obtain ⟨ar, ag, st, sz, fl, sn, md, B, c0, c1, c2, c3, c4, f, g⟩ := w
  by_cases h : wt7 63 (syn B) = -1 ∨ (wt7 63 (syn B) ≠ -2 ∧ md ≠ 0)
  · by_cases h2 : fl + 7 = 259
    · rw [rcb_1 h h2]; exact Nat.le_refl 1
    · rw [rcb_2 h h2]; exact Nat.zero_le 1
  · rw [rcb_0 h]; exact Nat.le_refl 1
theorem wt7_cases : ∀ n r, wt7 n r = -1 ∨ wt7 n r = -2 ∨ ∃ k, k < n ∧ wt7 n r = nI k
  | 0, r => by
    rw [wt7]
    split
    · exact Or.inl rfl
    · exact Or.inr (Or.inl rfl)
  | n + 1, r => by
    rw [wt7]
    split
    · exact Or.inr (Or.inr ⟨n, by omega, rfl⟩)
    · rcases wt7_cases n r with h | h | ⟨k, h1, h2⟩
      · exact Or.inl h
      · exact Or.inr (Or.inl h)
      · exact Or.inr (Or.inr ⟨k, by omega, h2⟩)
theorem mk_and {x : Nat} (h : x < 2 ^ 31) : nI x &&& (nI x - nI 1) = nI (x &&& (x - 1)) := by
  by_cases h0 : x = 0
  · subst h0
    decide +kernel
  · rw [pk_sub (by omega), nx_and]
theorem mk_and_lt (x : Nat) (h : x < 2 ^ 31) : x &&& (x - 1) < 2 ^ 31 := Nat.and_lt_two_pow _ (by omega)
theorem mk_mask (B : Nat) : nI B &&& nI 65535 = nI (B % 65536) := by rw [nx_and, show 65535 = 2 ^ 16 - 1 from rfl, Nat.and_two_pow_sub_one_eq_mod]
theorem l_push {B b : Nat} (hb : b < 2) : lN (B * 2) ||| lN b = lN ((2 * B + b) % 2 ^ 64) := by
  rw [wb_mod (B * 2), show B * 2 % 2 ^ 64 = (B % 2 ^ 63) * 2 by omega, g_or (k := 1) (by decide) hb (by omega)]
  congr 1
  omega
theorem mnd_div {V : Nat} (hV : V < 2 ^ 64) (q : Int32) (hq : q = -1 ∨ ∃ k, k < 63 ∧ q = nI k) : mnd V q / 256 < 2 ^ 56 := by
  have h : mnd V q < 2 ^ 64 := by
    rcases hq with rfl | ⟨k, hk, rfl⟩
    · rw [mnd_m1]; exact hV
    · by_cases h7 : k < 7
      · rw [mnd_lo h7]; exact hV
      · rw [mnd_hi (by omega) hk]; exact mnd_lt hV hk
  omega
theorem nz2 {x : Nat} (h : x < 2) : narrow .boolean (.int (nI x)) = .int (nI x) ∧ fits .boolean (.int (nI x)) = true := by
  rcases (show x = 0 ∨ x = 1 by omega) with rfl | rfl
  · exact ⟨rfl, rfl⟩
  · exact ⟨rfl, rfl⟩
section JOIN
variable {p : Program} {l : Launch} {e : Env} {R : Room} {s : State} {m : MethodId} {args : Array Value} {below : List Frame} {meth : Method} {c : Code} {H : Heap} {locs : List Loc} {cells slots : Nat} {Q : State → Prop} {ls : Array Slot} {rest : List Value}
/-- two paths that meet again at pc' with the same stack -/
theorem r_join {g : JFrame} (pc' : Nat) (φ : Prop) (k : φ → W p l e R s m args below meth c H locs cells slots Q (F0 m pc' ls rest)) (h : (φ → W p l e R s m args below meth c H locs cells slots Q (F0 m pc' ls rest)) → W p l e R s m args below meth c H locs cells slots Q g) : W p l e R s m args below meth c H locs cells slots Q g := h k
end JOIN
end
section
abbrev rm_R_search : Room := { frames := 0, cells := 0, slots := 0, locals := 0 }
set_option maxHeartbeats 4000000 in
set_option maxRecDepth 100000 in
/-- search() -/
theorem c_R_search (l : Launch) (D : va_G) (cB cI : ClassId) (h ac ar ag st sz fl sn md B : Nat) (c0 c1 c2 c3 c4 : Int32) : MV l D cB cI y_R_search b_R_search 1 none rm_R_search [.ref h] [(h, .inr (2, [.ref ac, .ref ar, .ref ag, .int (nI st), .int (nI sz), .int (nI fl), .int (nI sn), .int (nI md), .long (lN B), .int c0, .int c1, .int c2, .int c3, .int c4]))] (fun (_ : Unit) => True) (fun _ => [(h, .inr (2, [.ref ac, .ref ar, .ref ag, .int (nI 1), .int (nI sz), .int (nI 0), .int (nI 0), .int (nI md), .long (lN B), .int c0, .int c1, .int c2, .int c3, .int c4]))]) := by
  refine m_entryV (by decide +kernel) (Nat.le_of_ble_eq_true rfl) ?_
  intro p e s m below meth c ls A E hr hlk hnm hA hP hD hl
  have hx := E.1.1
  have hb := E.1.2.1
  have hS : va_S A s.heap s.heap [] := va_S.rf
  have hl : lv_has ls 1 [(0, .ref h)] := hl
  refine lv_aload_n hx hb d_R_search_0 rfl (lv_at hl 0 rfl) ?_
  refine lv_iconst (v := nI 1) hx hb d_R_search_1 (by decide +kernel) ?_
  refine r_put E hP hD hS 0 fl_R_20 rfl rfl (rfl) (rfl) (ws' := [(h, .inr (2, [.ref ac, .ref ar, .ref ag, .int (nI 1), .int (nI sz), .int (nI fl), .int (nI sn), .int (nI md), .long (lN B), .int c0, .int c1, .int c2, .int c3, .int c4]))]) rfl d_R_search_2 (fun H locs hP hD hS => ?_)
  refine lv_aload_n hx hb d_R_search_5 rfl (lv_at hl 0 rfl) ?_
  refine lv_iconst (v := nI 0) hx hb d_R_search_6 (by decide +kernel) ?_
  refine r_put E hP hD hS 0 fl_R_24 rfl rfl (rfl) (rfl) (ws' := [(h, .inr (2, [.ref ac, .ref ar, .ref ag, .int (nI 1), .int (nI sz), .int (nI fl), .int (nI 0), .int (nI md), .long (lN B), .int c0, .int c1, .int c2, .int c3, .int c4]))]) rfl d_R_search_7 (fun H locs hP hD hS => ?_)
  refine lv_aload_n hx hb d_R_search_10 rfl (lv_at hl 0 rfl) ?_
  refine lv_iconst (v := nI 0) hx hb d_R_search_11 (by decide +kernel) ?_
  refine r_put E hP hD hS 0 fl_R_27 rfl rfl (rfl) (rfl) (ws' := [(h, .inr (2, [.ref ac, .ref ar, .ref ag, .int (nI 1), .int (nI sz), .int (nI 0), .int (nI 0), .int (nI md), .long (lN B), .int c0, .int c1, .int c2, .int c3, .int c4]))]) rfl d_R_search_12 (fun H locs hP hD hS => ?_)
  exact r_vret E hr hlk hP hD hS (()) rfl (trivial) d_R_search_15

abbrev rm_R_end : Room := { frames := 1, cells := 0, slots := 0, locals := 20 }
set_option maxHeartbeats 4000000 in
set_option maxRecDepth 100000 in
/-- end() -/
theorem c_R_end (l : Launch) (D : va_G) (cB cI : ClassId) (h ac ar ag st sz fl sn md B : Nat) (c0 c1 c2 c3 c4 : Int32) (h_fl : fl ≤ 259) : MI l D cB cI y_R_end b_R_end 2 (some .boolean) rm_R_end [.ref h] [(h, .inr (2, [.ref ac, .ref ar, .ref ag, .int (nI st), .int (nI sz), .int (nI fl), .int (nI sn), .int (nI md), .long (lN B), .int c0, .int c1, .int c2, .int c3, .int c4]))] (fun (v : Int32) (u : Nat × Nat × Nat) => v = nI 1 ∧ u = if fl = 0 then (ar, ag, sz) else (ag, ar, fl)) (fun u => [(h, .inr (2, [.ref ac, .ref u.1, .ref u.2.1, .int (nI 1), .int (nI u.2.2), .int (nI 0), .int (nI 0), .int (nI md), .long (lN B), .int c0, .int (c1 + nI 1), .int c2, .int c3, .int c4]))]) := by
  refine m_entryI (by decide +kernel) (Nat.le_of_ble_eq_true rfl) ?_
  intro p e s m below meth c ls A E hr hlk hnm hA hP hD hl
  have hx := E.1.1
  have hb := E.1.2.1
  have hS : va_S A s.heap s.heap [] := va_S.rf
  have hl : lv_has ls 2 [(0, .ref h)] := hl
  refine lv_aload_n hx hb d_R_end_0 rfl (lv_at hl 0 rfl) ?_
  refine lv_dup hx hb d_R_end_1 rfl ?_
  refine r_get E hP 0 fl_R_72 rfl rfl d_R_end_2 ?_
  refine lv_iconst (v := nI 1) hx hb d_R_end_5 (by decide +kernel) ?_
  refine lv_iadd hx hb d_R_end_6 ?_
  refine r_put E hP hD hS 0 fl_R_72 rfl rfl (rfl) (rfl) (ws' := [(h, .inr (2, [.ref ac, .ref ar, .ref ag, .int (nI st), .int (nI sz), .int (nI fl), .int (nI sn), .int (nI md), .long (lN B), .int c0, .int (c1 + (nI 1)), .int c2, .int c3, .int c4]))]) rfl d_R_end_7 (fun H locs hP hD hS => ?_)
  refine lv_aload_n hx hb d_R_end_10 rfl (lv_at hl 0 rfl) ?_
  refine r_get E hP 0 fl_R_27 rfl rfl d_R_end_11 ?_
  refine r_if_le (tgt := 43) hx hb (by omega) d_R_end_14 (by decide) (fun c14 => ?_) (fun c14 => ?_)
  · skip
    refine lv_aload_n hx hb d_R_end_43 rfl (lv_at hl 0 rfl) ?_
    refine r_callVV (wr := []) (rest := []) E cs_R_78 (c_R_search l D cB cI h ac ar ag st sz fl sn md B c0 (c1 + nI 1) c2 c3 c4) hP hD hS hA [0] [] ⟨rfl, rfl, by decide, by decide, by decide⟩ kc_R rfl hl.1 rfl rfl (Nat.le_of_ble_eq_true rfl) ⟨by decide, by decide⟩ ⟨by decide, by decide⟩ d_R_end_44 (fun u H locs hw hP hD hS => ?_)
    have hP : va_P D classes [(h, .inr (2, [.ref ac, .ref ar, .ref ag, .int (nI 1), .int (nI sz), .int (nI 0), .int (nI 0), .int (nI md), .long (lN B), .int c0, .int (c1 + (nI 1)), .int c2, .int c3, .int c4]))] H := hP.sub [0] rfl
    have hD : va_D A [(h, .inr (2, [.ref ac, .ref ar, .ref ag, .int (nI 1), .int (nI sz), .int (nI 0), .int (nI 0), .int (nI md), .long (lN B), .int c0, .int (c1 + (nI 1)), .int c2, .int c3, .int c4]))] := hD.sub [0] (by decide) rfl
    refine W.widen (k := 0) (n := 0) (Nat.le_of_ble_eq_true rfl) (Nat.le_of_ble_eq_true rfl) ?_
    refine lv_iconst (v := nI 1) hx hb d_R_end_47 (by decide +kernel) ?_
    exact r_iret E hr hlk hP hD hS (rfl) ((ar, ag, sz)) rfl (⟨rfl, by rw [if_pos c14]⟩) d_R_end_48
  · skip
    refine lv_aload_n hx hb d_R_end_17 rfl (lv_at hl 0 rfl) ?_
    refine r_get E hP 0 fl_R_13 rfl rfl d_R_end_18 ?_
    refine lv_astore_n (lv' := [(1, .ref ag), (0, .ref h)]) hx hb d_R_end_21 rfl hl (by decide) rfl (fun ls hl => ?_)
    refine lv_aload_n hx hb d_R_end_22 rfl (lv_at hl 1 rfl) ?_
    refine lv_aload_n hx hb d_R_end_23 rfl (lv_at hl 1 rfl) ?_
    refine r_get E hP 0 fl_R_9 rfl rfl d_R_end_24 ?_
    refine r_put E hP hD hS 0 fl_R_13 rfl rfl (rfl) (rfl) (ws' := [(h, .inr (2, [.ref ac, .ref ar, .ref ar, .int (nI st), .int (nI sz), .int (nI fl), .int (nI sn), .int (nI md), .long (lN B), .int c0, .int (c1 + (nI 1)), .int c2, .int c3, .int c4]))]) rfl d_R_end_27 (fun H locs hP hD hS => ?_)
    refine lv_aload_n hx hb d_R_end_30 rfl (lv_at hl 1 rfl) ?_
    refine lv_aload_n hx hb d_R_end_31 rfl (lv_at hl 0 rfl) ?_
    refine r_put E hP hD hS 0 fl_R_9 rfl rfl (rfl) (rfl) (ws' := [(h, .inr (2, [.ref ac, .ref ag, .ref ar, .int (nI st), .int (nI sz), .int (nI fl), .int (nI sn), .int (nI md), .long (lN B), .int c0, .int (c1 + (nI 1)), .int c2, .int c3, .int c4]))]) rfl d_R_end_32 (fun H locs hP hD hS => ?_)
    refine lv_aload_n hx hb d_R_end_35 rfl (lv_at hl 1 rfl) ?_
    refine lv_aload_n hx hb d_R_end_36 rfl (lv_at hl 1 rfl) ?_
    refine r_get E hP 0 fl_R_27 rfl rfl d_R_end_37 ?_
    refine r_put E hP hD hS 0 fl_R_75 rfl rfl (rfl) (rfl) (ws' := [(h, .inr (2, [.ref ac, .ref ag, .ref ar, .int (nI st), .int (nI fl), .int (nI fl), .int (nI sn), .int (nI md), .long (lN B), .int c0, .int (c1 + (nI 1)), .int c2, .int c3, .int c4]))]) rfl d_R_end_40 (fun H locs hP hD hS => ?_)
    refine lv_aload_n hx hb d_R_end_43 rfl (lv_at hl 1 rfl) ?_
    refine r_callVV (wr := []) (rest := []) E cs_R_78 (c_R_search l D cB cI h ac ag ar st fl fl sn md B c0 (c1 + nI 1) c2 c3 c4) hP hD hS hA [0] [] ⟨rfl, rfl, by decide, by decide, by decide⟩ kc_R rfl hl.1 rfl rfl (Nat.le_of_ble_eq_true rfl) ⟨by decide, by decide⟩ ⟨by decide, by decide⟩ d_R_end_44 (fun u H locs hw hP hD hS => ?_)
    have hP : va_P D classes [(h, .inr (2, [.ref ac, .ref ag, .ref ar, .int (nI 1), .int (nI fl), .int (nI 0), .int (nI 0), .int (nI md), .long (lN B), .int c0, .int (c1 + (nI 1)), .int c2, .int c3, .int c4]))] H := hP.sub [0] rfl
    have hD : va_D A [(h, .inr (2, [.ref ac, .ref ag, .ref ar, .int (nI 1), .int (nI fl), .int (nI 0), .int (nI 0), .int (nI md), .long (lN B), .int c0, .int (c1 + (nI 1)), .int c2, .int c3, .int c4]))] := hD.sub [0] (by decide) rfl
    refine W.widen (k := 0) (n := 0) (Nat.le_of_ble_eq_true rfl) (Nat.le_of_ble_eq_true rfl) ?_
    refine lv_iconst (v := nI 1) hx hb d_R_end_47 (by decide +kernel) ?_
    exact r_iret E hr hlk hP hD hS (rfl) ((ag, ar, fl)) rfl (⟨rfl, by rw [if_neg c14]⟩) d_R_end_48

abbrev rm_R_mark : Room := { frames := 0, cells := 0, slots := 0, locals := 0 }
set_option maxHeartbeats 4000000 in
set_option maxRecDepth 100000 in
/-- mark() -/
theorem c_R_mark (l : Launch) (D : va_G) (cB cI : ClassId) (h ac ar ag st sz fl sn md B : Nat) (c0 c1 c2 c3 c4 : Int32) (h_md : md < 2) : MV l D cB cI y_R_mark b_R_mark 3 none rm_R_mark [.ref h] [(h, .inr (2, [.ref ac, .ref ar, .ref ag, .int (nI st), .int (nI sz), .int (nI fl), .int (nI sn), .int (nI md), .long (lN B), .int c0, .int c1, .int c2, .int c3, .int c4]))] (fun (u : Nat × Nat × Int32 × Int32) => u = if off16 B = 0 ∨ (md ≠ 0 ∧ off16 B &&& (off16 B - 1) = 0) then (2, 0, c0 + nI 1, c4 + nI (if off16 B = 0 then 0 else 1)) else (st, sn, c0, c4)) (fun u => [(h, .inr (2, [.ref ac, .ref ar, .ref ag, .int (nI u.1), .int (nI sz), .int (nI fl), .int (nI u.2.1), .int (nI md), .long (lN B), .int u.2.2.1, .int c1, .int c2, .int c3, .int u.2.2.2]))]) := by
  refine m_entryV (by decide +kernel) (Nat.le_of_ble_eq_true rfl) ?_
  intro p e s m below meth c ls A E hr hlk hnm hA hP hD hl
  have hx := E.1.1
  have hb := E.1.2.1
  have hS : va_S A s.heap s.heap [] := va_S.rf
  have hl : lv_has ls 3 [(0, .ref h)] := hl
  have ho := off16_lt B
  refine lv_aload_n hx hb d_R_mark_0 rfl (lv_at hl 0 rfl) ?_
  refine r_get E hP 0 fl_R_30 rfl rfl d_R_mark_1 ?_
  refine lv_l2i (v := nI B) hx hb d_R_mark_4 (lN_i _) ?_
  refine lv_ldc (v := 65535) hx hb E.1.2.2.2.1 (E.1.2.2.2.2 _ k_155) d_R_mark_5 ?_
  refine r_topi (y := nI 65535) (by decide +kernel) ?_
  refine lv_iand hx hb d_R_mark_7 ?_
  refine r_topi (y := nI (B % 65536)) (mk_mask B) ?_
  refine lv_ldc (v := 60304) hx hb E.1.2.2.2.1 (E.1.2.2.2.2 _ k_156) d_R_mark_8 ?_
  refine r_topi (y := nI 60304) (by decide +kernel) ?_
  refine lv_ixor hx hb d_R_mark_10 ?_
  refine r_topi (y := nI (off16 B)) (nx_xor _ _) ?_
  refine lv_istore_n (lv' := [(1, .int (nI (off16 B))), (0, .ref h)]) hx hb d_R_mark_11 rfl hl (by decide) rfl (fun ls hl => ?_)
  refine lv_iload_n hx hb d_R_mark_12 rfl (lv_at hl 0 rfl) ?_
  refine lv_iload_n hx hb d_R_mark_13 rfl (lv_at hl 0 rfl) ?_
  refine lv_iconst (v := nI 1) hx hb d_R_mark_14 (by decide +kernel) ?_
  refine lv_isub hx hb d_R_mark_15 ?_
  refine lv_iand hx hb d_R_mark_16 ?_
  refine r_topi (y := nI (off16 B &&& (off16 B - 1))) (mk_and (by omega)) ?_
  refine r_merge (rest := []) (ls := ls) 25 (fun v => v = nI (if off16 B &&& (off16 B - 1) = 0 then 1 else 0)) (fun v hv => ?_) (fun J => ?_)
  · subst hv
    refine lv_istore_n (lv' := [(2, .int (nI (if off16 B &&& (off16 B - 1) = 0 then 1 else 0))), (1, .int (nI (off16 B))), (0, .ref h)]) hx hb d_R_mark_25 rfl hl (by decide) rfl (fun ls hl => ?_)
    refine lv_iload_n hx hb d_R_mark_26 rfl (lv_at hl 1 rfl) ?_
    refine r_join (rest := []) (ls := ls) 42 (off16 B = 0 ∨ (md ≠ 0 ∧ off16 B &&& (off16 B - 1) = 0)) (fun hj => ?_) (fun J => ?_)
    · skip
      refine lv_aload_n hx hb d_R_mark_42 rfl (lv_at hl 2 rfl) ?_
      refine lv_dup hx hb d_R_mark_43 rfl ?_
      refine r_get E hP 0 fl_R_47 rfl rfl d_R_mark_44 ?_
      refine lv_iload_n hx hb d_R_mark_47 rfl (lv_at hl 1 rfl) ?_
      refine r_merge (rest := [.int c4, .ref h]) (ls := ls) 56 (fun v => v = nI (if off16 B = 0 then 0 else 1)) (fun v hv => ?_) (fun J => ?_)
      · subst hv
        refine lv_iadd hx hb d_R_mark_56 ?_
        refine r_put E hP hD hS 0 fl_R_47 rfl rfl (rfl) (rfl) (ws' := [(h, .inr (2, [.ref ac, .ref ar, .ref ag, .int (nI st), .int (nI sz), .int (nI fl), .int (nI sn), .int (nI md), .long (lN B), .int c0, .int c1, .int c2, .int c3, .int (c4 + (nI (if off16 B = 0 then 0 else 1)))]))]) rfl d_R_mark_57 (fun H locs hP hD hS => ?_)
        refine lv_aload_n hx hb d_R_mark_60 rfl (lv_at hl 2 rfl) ?_
        refine lv_dup hx hb d_R_mark_61 rfl ?_
        refine r_get E hP 0 fl_R_50 rfl rfl d_R_mark_62 ?_
        refine lv_iconst (v := nI 1) hx hb d_R_mark_65 (by decide +kernel) ?_
        refine lv_iadd hx hb d_R_mark_66 ?_
        refine r_put E hP hD hS 0 fl_R_50 rfl rfl (rfl) (rfl) (ws' := [(h, .inr (2, [.ref ac, .ref ar, .ref ag, .int (nI st), .int (nI sz), .int (nI fl), .int (nI sn), .int (nI md), .long (lN B), .int (c0 + (nI 1)), .int c1, .int c2, .int c3, .int (c4 + (nI (if off16 B = 0 then 0 else 1)))]))]) rfl d_R_mark_67 (fun H locs hP hD hS => ?_)
        refine lv_aload_n hx hb d_R_mark_70 rfl (lv_at hl 2 rfl) ?_
        refine lv_iconst (v := nI 2) hx hb d_R_mark_71 (by decide +kernel) ?_
        refine r_put E hP hD hS 0 fl_R_20 rfl rfl (rfl) (rfl) (ws' := [(h, .inr (2, [.ref ac, .ref ar, .ref ag, .int (nI 2), .int (nI sz), .int (nI fl), .int (nI sn), .int (nI md), .long (lN B), .int (c0 + (nI 1)), .int c1, .int c2, .int c3, .int (c4 + (nI (if off16 B = 0 then 0 else 1)))]))]) rfl d_R_mark_72 (fun H locs hP hD hS => ?_)
        refine lv_aload_n hx hb d_R_mark_75 rfl (lv_at hl 2 rfl) ?_
        refine lv_iconst (v := nI 0) hx hb d_R_mark_76 (by decide +kernel) ?_
        refine r_put E hP hD hS 0 fl_R_24 rfl rfl (rfl) (rfl) (ws' := [(h, .inr (2, [.ref ac, .ref ar, .ref ag, .int (nI 2), .int (nI sz), .int (nI fl), .int (nI 0), .int (nI md), .long (lN B), .int (c0 + (nI 1)), .int c1, .int c2, .int c3, .int (c4 + (nI (if off16 B = 0 then 0 else 1)))]))]) rfl d_R_mark_77 (fun H locs hP hD hS => ?_)
        exact r_vret E hr hlk hP hD hS ((2, 0, c0 + nI 1, c4 + nI (if off16 B = 0 then 0 else 1))) rfl (by rw [if_pos hj]) d_R_mark_80
      · skip
        refine r_if_ne (tgt := 55) hx hb (by omega) d_R_mark_48 (by decide) (fun c48 => ?_) (fun c48 => ?_)
        · skip
          refine lv_iconst (v := nI 1) hx hb d_R_mark_55 (by decide +kernel) ?_
          exact J _ (by rw [if_neg c48])
        · skip
          refine lv_iconst (v := nI 0) hx hb d_R_mark_51 (by decide +kernel) ?_
          refine lv_goto (tgt := 56) hx hb d_R_mark_52 (by decide) ?_
          exact J _ (by rw [if_pos c48])
    · skip
      refine r_if_eq (tgt := 42) hx hb (by omega) d_R_mark_27 (by decide) (fun c27 => ?_) (fun c27 => ?_)
      · skip
        exact J (Or.inl c27)
      · skip
        refine lv_aload_n hx hb d_R_mark_30 rfl (lv_at hl 2 rfl) ?_
        refine r_get E hP 0 fl_R_43 rfl rfl d_R_mark_31 ?_
        refine r_if_eq (tgt := 41) hx hb (by omega) d_R_mark_34 (by decide) (fun c34 => ?_) (fun c34 => ?_)
        · skip
          exact r_vret E hr hlk hP hD hS ((st, sn, c0, c4)) rfl (by rw [if_neg (show ¬ (off16 B = 0 ∨ (md ≠ 0 ∧ off16 B &&& (off16 B - 1) = 0)) from fun z => z.elim (fun z => c27 z) (fun z => absurd c34 z.1))]) d_R_mark_41
        · skip
          refine lv_iload_n hx hb d_R_mark_37 rfl (lv_at hl 0 rfl) ?_
          skip
          refine r_if_ne (tgt := 42) hx hb (by split <;> omega) d_R_mark_38 (by decide) (fun c38 => ?_) (fun c38 => ?_)
          · skip
            exact J (Or.inr ⟨c34, by by_cases hz : off16 B &&& (off16 B - 1) = 0; exact hz; exact absurd (if_neg hz) c38⟩)
          · skip
            exact r_vret E hr hlk hP hD hS ((st, sn, c0, c4)) rfl (by rw [if_neg (show ¬ (off16 B = 0 ∨ (md ≠ 0 ∧ off16 B &&& (off16 B - 1) = 0)) from fun z => z.elim (fun z => c27 z) (fun z => absurd (if_pos z.2) (by rw [c38]; decide)))]) d_R_mark_41
  · skip
    refine r_if_ne (tgt := 24) hx hb (mk_and_lt _ (by omega)) d_R_mark_17 (by decide) (fun c17 => ?_) (fun c17 => ?_)
    · skip
      refine lv_iconst (v := nI 0) hx hb d_R_mark_24 (by decide +kernel) ?_
      exact J _ (by rw [if_neg c17])
    · skip
      refine lv_iconst (v := nI 1) hx hb d_R_mark_20 (by decide +kernel) ?_
      refine lv_goto (tgt := 25) hx hb d_R_mark_21 (by decide) ?_
      exact J _ (by rw [if_pos c17])

abbrev rm_R_block : Room := { frames := 2, cells := 0, slots := 0, locals := 48 }
set_option maxHeartbeats 4000000 in
set_option maxRecDepth 100000 in
theorem L_R_block_52 (l : Launch) (D : va_G) (cB cI : ClassId) (h ac ar ag st sz fl sn md B : Nat) (c0 c1 c2 c3 c4 : Int32) (aw : Nat) (wf f g : Nat → Int32) (q : Int32) (d : Nat) (h_d : d < 2 ^ 56) (h_fl : fl ≤ 252) {p : Program} {e : Env} {s : State} {m : MethodId} {args : Array Value} {below : List Frame} {meth : Method} {c : Code} {A : Nat → Prop} {Q : State → Prop} (E : Ev p m c b_R_block 5 s args "CodeBlocks$Receiver" D cB cI) (hA : ∀ q : Nat, s.heap.size ≤ q → A q)
    (K : ∀ (H : Heap) (locs : List Loc) (ls : Array Slot), (True) → va_P D classes [(h, .inr (2, [.ref ac, .ref ar, .ref ag, .int (nI st), .int (nI sz), .int (nI fl), .int (nI 0), .int (nI md), .long (lN B), .int c0, .int c1, .int c2, .int c3, .int c4])), (ar, .inl (cB, 259, .inl (wr7 f fl d 7))), (ag, .inl (cB, 259, .inl g)), (ac, .inr (1, [.ref aw])), (aw, .inl (cB, 128, .inl wf))] H → va_D A [(h, .inr (2, [.ref ac, .ref ar, .ref ag, .int (nI st), .int (nI sz), .int (nI fl), .int (nI 0), .int (nI md), .long (lN B), .int c0, .int c1, .int c2, .int c3, .int c4])), (ar, .inl (cB, 259, .inl (wr7 f fl d 7))), (ag, .inl (cB, 259, .inl g)), (ac, .inr (1, [.ref aw])), (aw, .inl (cB, 128, .inl wf))] → va_S A s.heap H locs → lv_has ls 5 [(0, .ref h), (1, .int q)] → W p l e rm_R_block s m args below meth c H locs 0 0 Q (F0 m 89 ls [])) :
    ∀ (n : Nat) (k : Nat) (H : Heap) (locs : List Loc) (ls : Array Slot), (k + n = 7) → va_P D classes [(h, .inr (2, [.ref ac, .ref ar, .ref ag, .int (nI st), .int (nI sz), .int (nI fl), .int (nI 0), .int (nI md), .long (lN B), .int c0, .int c1, .int c2, .int c3, .int c4])), (ar, .inl (cB, 259, .inl (wr7 f fl d k))), (ag, .inl (cB, 259, .inl g)), (ac, .inr (1, [.ref aw])), (aw, .inl (cB, 128, .inl wf))] H → va_D A [(h, .inr (2, [.ref ac, .ref ar, .ref ag, .int (nI st), .int (nI sz), .int (nI fl), .int (nI 0), .int (nI md), .long (lN B), .int c0, .int c1, .int c2, .int c3, .int c4])), (ar, .inl (cB, 259, .inl (wr7 f fl d k))), (ag, .inl (cB, 259, .inl g)), (ac, .inr (1, [.ref aw])), (aw, .inl (cB, 128, .inl wf))] → va_S A s.heap H locs → lv_has ls 5 [(0, .ref h), (1, .int q), (2, .long (lN d)), (4, .int (nI k))] → W p l e rm_R_block s m args below meth c H locs 0 0 Q (F0 m 52 ls []) := by
  have hx := E.1.1
  have hb := E.1.2.1
  intro n
  induction n with
  | zero =>
    intro k H locs ls hi hP hD hS hl
    obtain rfl : k = 7 := by omega
    have hl : lv_has ls 5 [(0, .ref h), (1, .int q), (2, .long (lN d)), (4, .int (nI 7))] := hl
    refine lv_iload hx hb d_R_block_52 (lv_at hl 3 rfl) ?_
    refine lv_bipush (v := nI 7) hx hb d_R_block_54 (by decide +kernel) ?_
    refine r_icmp_ge (tgt := 89) hx hb ⟨by omega, by omega⟩ d_R_block_56 (by decide) (fun c56 => ?_) (fun c56 => False.elim (by omega))
    exact K  H locs ls (trivial) hP hD hS (lv_sub hl [0, 1] rfl)
  | succ n ih =>
    intro k H locs ls hi hP hD hS hl
    refine lv_iload hx hb d_R_block_52 (lv_at hl 3 rfl) ?_
    refine lv_bipush (v := nI 7) hx hb d_R_block_54 (by decide +kernel) ?_
    refine r_icmp_ge (tgt := 89) hx hb ⟨by omega, by omega⟩ d_R_block_56 (by decide) (fun c56 => False.elim (by omega)) (fun c56 => ?_)
    refine lv_aload_n hx hb d_R_block_59 rfl (lv_at hl 0 rfl) ?_
    refine r_get E hP 0 fl_R_9 rfl rfl d_R_block_60 ?_
    refine lv_aload_n hx hb d_R_block_63 rfl (lv_at hl 0 rfl) ?_
    refine r_get E hP 0 fl_R_27 rfl rfl d_R_block_64 ?_
    refine lv_iload hx hb d_R_block_67 (lv_at hl 3 rfl) ?_
    refine r_iadd hx hb d_R_block_69 ?_
    refine lv_lload_n hx hb d_R_block_70 rfl (lv_at hl 2 rfl) ?_
    refine lv_bipush (v := nI 48) hx hb d_R_block_71 (by decide +kernel) ?_
    refine lv_bipush (v := nI 8) hx hb d_R_block_73 (by decide +kernel) ?_
    refine lv_iload hx hb d_R_block_75 (lv_at hl 3 rfl) ?_
    refine r_imul hx hb d_R_block_77 ?_
    refine r_isub hx hb (by omega) d_R_block_78 ?_
    refine lv_lshr (v := lN (d / 2 ^ (48 - (8 * k)))) hx hb d_R_block_79 (shr_l (by omega) (by omega)) ?_
    refine lv_l2i (v := nI (d / 2 ^ (48 - (8 * k)))) hx hb d_R_block_80 (lN_i _) ?_
    refine lv_i2b (v := (nI (d / 2 ^ (48 - (8 * k)))).toInt8.toInt32) hx hb d_R_block_81 rfl ?_
    refine r_bast E hP hD hS 1 rfl (by omega) (by decide) (y := (nI (d / 2 ^ (48 - (8 * k)))).toInt8.toInt32) (pk_vb _) (ws' := [(h, .inr (2, [.ref ac, .ref ar, .ref ag, .int (nI st), .int (nI sz), .int (nI fl), .int (nI 0), .int (nI md), .long (lN B), .int c0, .int c1, .int c2, .int c3, .int c4])), (ar, .inl (cB, 259, .inl (upd (wr7 f fl d k) (fl + k) ((nI (d / 2 ^ (48 - (8 * k)))).toInt8.toInt32)))), (ag, .inl (cB, 259, .inl g)), (ac, .inr (1, [.ref aw])), (aw, .inl (cB, 128, .inl wf))]) rfl d_R_block_82 (fun H locs hP hD hS => ?_)
    rw [wr7_s] at hP hD
    refine lv_iinc (v := nI (k + 1)) (lv' := [(4, .int (nI (k + 1))), (0, .ref h), (1, .int q), (2, .long (lN d))]) hx hb d_R_block_83 hl (k := 3) rfl (nI_add _ _) (by decide) rfl (fun ls hl => ?_)
    refine lv_goto (tgt := 52) hx hb d_R_block_86 (by decide) ?_
    exact ih (k + 1) H locs ls (by omega) hP hD hS (lv_sub hl [1, 2, 3, 0] rfl)

set_option maxHeartbeats 4000000 in
set_option maxRecDepth 100000 in
/-- block() -/
theorem c_R_block (l : Launch) (D : va_G) (cB cI : ClassId) (h ac ar ag st sz fl sn md B : Nat) (c0 c1 c2 c3 c4 : Int32) (aw : Nat) (wf f g : Nat → Int32) (h_B : B < 2 ^ 64) (h_md : md < 2) (h_fl : fl ≤ 252) (h_w : ∀ r, r < 128 → wf r = wt7 63 r) : MI l D cB cI y_R_block b_R_block 5 (some .boolean) rm_R_block [.ref h] [(h, .inr (2, [.ref ac, .ref ar, .ref ag, .int (nI st), .int (nI sz), .int (nI fl), .int (nI sn), .int (nI md), .long (lN B), .int c0, .int c1, .int c2, .int c3, .int c4])), (ar, .inl (cB, 259, .inl f)), (ag, .inl (cB, 259, .inl g)), (ac, .inr (1, [.ref aw])), (aw, .inl (cB, 128, .inl wf))] (fun (v : Int32) (u : RC) => u = (rc_block (ar, ag, st, sz, fl, sn, md, B, c0, c1, c2, c3, c4, f, g)).1 ∧ v = nI (rc_block (ar, ag, st, sz, fl, sn, md, B, c0, c1, c2, c3, c4, f, g)).2) (wR cB h ac aw wf) := by
  refine m_entryI (by decide +kernel) (Nat.le_of_ble_eq_true rfl) ?_
  intro p e s m below meth c ls A E hr hlk hnm hA hP hD hl
  have hx := E.1.1
  have hb := E.1.2.1
  have hS : va_S A s.heap s.heap [] := va_S.rf
  have hl : lv_has ls 5 [(0, .ref h)] := hl
  refine lv_aload_n hx hb d_R_block_0 rfl (lv_at hl 0 rfl) ?_
  refine r_get E hP 0 fl_R_16 rfl rfl d_R_block_1 ?_
  refine lv_aload_n hx hb d_R_block_4 rfl (lv_at hl 0 rfl) ?_
  refine r_get E hP 0 fl_R_30 rfl rfl d_R_block_5 ?_
  refine r_callVI (wr := [(h, .inr (2, [.ref ac, .ref ar, .ref ag, .int (nI st), .int (nI sz), .int (nI fl), .int (nI sn), .int (nI md), .long (lN B), .int c0, .int c1, .int c2, .int c3, .int c4])), (ar, .inl (cB, 259, .inl f)), (ag, .inl (cB, 259, .inl g))]) (rest := []) E cs_R_53 (c_C_look l D cB cI ac aw wf B h_B h_w) hP hD hS hA [3, 4] [0, 1, 2] ⟨rfl, rfl, by decide, by decide, by decide⟩ kc_C rfl hl.1 rfl rfl (Nat.le_of_ble_eq_true rfl) ⟨by decide, by decide⟩ ⟨by decide, by decide⟩ d_R_block_8 (fun r u H locs hw hP hD hS => ?_)
  subst hw
  have hP : va_P D classes [(h, .inr (2, [.ref ac, .ref ar, .ref ag, .int (nI st), .int (nI sz), .int (nI fl), .int (nI sn), .int (nI md), .long (lN B), .int c0, .int c1, .int c2, .int c3, .int c4])), (ar, .inl (cB, 259, .inl f)), (ag, .inl (cB, 259, .inl g)), (ac, .inr (1, [.ref aw])), (aw, .inl (cB, 128, .inl wf))] H := hP.sub [0, 1, 2, 3, 4] rfl
  have hD : va_D A [(h, .inr (2, [.ref ac, .ref ar, .ref ag, .int (nI st), .int (nI sz), .int (nI fl), .int (nI sn), .int (nI md), .long (lN B), .int c0, .int c1, .int c2, .int c3, .int c4])), (ar, .inl (cB, 259, .inl f)), (ag, .inl (cB, 259, .inl g)), (ac, .inr (1, [.ref aw])), (aw, .inl (cB, 128, .inl wf))] := hD.sub [0, 1, 2, 3, 4] (by decide) rfl
  refine W.widen (k := 0) (n := 0) (Nat.le_of_ble_eq_true rfl) (Nat.le_of_ble_eq_true rfl) ?_
  refine lv_istore_n (lv' := [(1, .int (wt7 63 (syn B))), (0, .ref h)]) hx hb d_R_block_11 rfl hl (by decide) rfl (fun ls hl => ?_)
  refine lv_aload_n hx hb d_R_block_12 rfl (lv_at hl 1 rfl) ?_
  refine lv_iconst (v := nI 0) hx hb d_R_block_13 (by decide +kernel) ?_
  refine r_put E hP hD hS 0 fl_R_24 rfl rfl (rfl) (rfl) (ws' := [(h, .inr (2, [.ref ac, .ref ar, .ref ag, .int (nI st), .int (nI sz), .int (nI fl), .int (nI 0), .int (nI md), .long (lN B), .int c0, .int c1, .int c2, .int c3, .int c4])), (ar, .inl (cB, 259, .inl f)), (ag, .inl (cB, 259, .inl g)), (ac, .inr (1, [.ref aw])), (aw, .inl (cB, 128, .inl wf))]) rfl d_R_block_14 (fun H locs hP hD hS => ?_)
  refine lv_iload_n hx hb d_R_block_17 rfl (lv_at hl 0 rfl) ?_
  refine lv_iconst (v := (-1)) hx hb d_R_block_18 (by decide +kernel) ?_
  refine r_join (rest := []) (ls := ls) 40 (wt7 63 (syn B) = -1 ∨ (wt7 63 (syn B) ≠ -2 ∧ md ≠ 0)) (fun hj => ?_) (fun J => ?_)
  · skip
    have hqc : wt7 63 (syn B) = -1 ∨ ∃ k, k < 63 ∧ wt7 63 (syn B) = nI k := (wt7_cases 63 (syn B)).elim Or.inl (fun z => z.elim (fun z => hj.elim Or.inl (fun y => absurd z y.1)) Or.inr)
    refine lv_aload_n hx hb d_R_block_40 rfl (lv_at hl 1 rfl) ?_
    refine r_get E hP 0 fl_R_30 rfl rfl d_R_block_41 ?_
    refine lv_iload_n hx hb d_R_block_44 rfl (lv_at hl 0 rfl) ?_
    refine r_callSL (wr := [(h, .inr (2, [.ref ac, .ref ar, .ref ag, .int (nI st), .int (nI sz), .int (nI fl), .int (nI 0), .int (nI md), .long (lN B), .int c0, .int c1, .int c2, .int c3, .int c4])), (ar, .inl (cB, 259, .inl f)), (ag, .inl (cB, 259, .inl g)), (ac, .inr (1, [.ref aw])), (aw, .inl (cB, 128, .inl wf))]) (rest := []) E cs_R_62 (c_C_data l D cB cI B h_B (wt7 63 (syn B)) hqc) hP hD hS hA [] [0, 1, 2, 3, 4] ⟨rfl, rfl, by decide, by decide, by decide⟩ hl.1 rfl rfl (Nat.le_of_ble_eq_true rfl) ⟨by decide, by decide⟩ ⟨by decide, by decide⟩ d_R_block_45 (fun r u H locs hw hP hD hS => ?_)
    subst hw
    have hP : va_P D classes [(h, .inr (2, [.ref ac, .ref ar, .ref ag, .int (nI st), .int (nI sz), .int (nI fl), .int (nI 0), .int (nI md), .long (lN B), .int c0, .int c1, .int c2, .int c3, .int c4])), (ar, .inl (cB, 259, .inl f)), (ag, .inl (cB, 259, .inl g)), (ac, .inr (1, [.ref aw])), (aw, .inl (cB, 128, .inl wf))] H := hP.sub [0, 1, 2, 3, 4] rfl
    have hD : va_D A [(h, .inr (2, [.ref ac, .ref ar, .ref ag, .int (nI st), .int (nI sz), .int (nI fl), .int (nI 0), .int (nI md), .long (lN B), .int c0, .int c1, .int c2, .int c3, .int c4])), (ar, .inl (cB, 259, .inl f)), (ag, .inl (cB, 259, .inl g)), (ac, .inr (1, [.ref aw])), (aw, .inl (cB, 128, .inl wf))] := hD.sub [0, 1, 2, 3, 4] (by decide) rfl
    refine W.widen (k := 0) (n := 0) (Nat.le_of_ble_eq_true rfl) (Nat.le_of_ble_eq_true rfl) ?_
    refine lv_lstore_n (lv' := [(2, .long (lN (mnd B (wt7 63 (syn B)) / 256))), (1, .int (wt7 63 (syn B))), (0, .ref h)]) hx hb d_R_block_48 rfl hl (by decide) rfl (fun ls hl => ?_)
    refine lv_iconst (v := nI 0) hx hb d_R_block_49 (by decide +kernel) ?_
    refine lv_istore (lv' := [(4, .int (nI 0)), (2, .long (lN (mnd B (wt7 63 (syn B)) / 256))), (1, .int (wt7 63 (syn B))), (0, .ref h)]) hx hb d_R_block_50 hl (by decide) rfl (fun ls hl => ?_)
    rw [← wr7_0 f fl (mnd B (wt7 63 (syn B)) / 256)] at hP hD
    refine L_R_block_52 l D cB cI h ac ar ag st sz fl sn md B c0 c1 c2 c3 c4 aw wf f g (wt7 63 (syn B)) _ (mnd_div h_B _ hqc) h_fl E hA (fun H locs ls _ hP hD hS hl => ?_) 7 0 _ _ ls (by omega) hP hD hS (lv_sub hl [3, 2, 1, 0] rfl)
    refine lv_aload_n hx hb d_R_block_89 rfl (lv_at hl 0 rfl) ?_
    refine lv_dup hx hb d_R_block_90 rfl ?_
    refine r_get E hP 0 fl_R_27 rfl rfl d_R_block_91 ?_
    refine lv_bipush (v := nI 7) hx hb d_R_block_94 (by decide +kernel) ?_
    refine r_iadd hx hb d_R_block_96 ?_
    refine r_put E hP hD hS 0 fl_R_27 rfl rfl (rfl) (rfl) (ws' := [(h, .inr (2, [.ref ac, .ref ar, .ref ag, .int (nI st), .int (nI sz), .int (nI (fl + 7)), .int (nI 0), .int (nI md), .long (lN B), .int c0, .int c1, .int c2, .int c3, .int c4])), (ar, .inl (cB, 259, .inl (wr7 f fl (mnd B (wt7 63 (syn B)) / 256) 7))), (ag, .inl (cB, 259, .inl g)), (ac, .inr (1, [.ref aw])), (aw, .inl (cB, 128, .inl wf))]) rfl d_R_block_97 (fun H locs hP hD hS => ?_)
    refine lv_aload_n hx hb d_R_block_100 rfl (lv_at hl 0 rfl) ?_
    refine lv_dup hx hb d_R_block_101 rfl ?_
    refine r_get E hP 0 fl_R_66 rfl rfl d_R_block_102 ?_
    refine lv_iconst (v := nI 1) hx hb d_R_block_105 (by decide +kernel) ?_
    refine lv_iadd hx hb d_R_block_106 ?_
    refine r_put E hP hD hS 0 fl_R_66 rfl rfl (rfl) (rfl) (ws' := [(h, .inr (2, [.ref ac, .ref ar, .ref ag, .int (nI st), .int (nI sz), .int (nI (fl + 7)), .int (nI 0), .int (nI md), .long (lN B), .int c0, .int c1, .int (c2 + (nI 1)), .int c3, .int c4])), (ar, .inl (cB, 259, .inl (wr7 f fl (mnd B (wt7 63 (syn B)) / 256) 7))), (ag, .inl (cB, 259, .inl g)), (ac, .inr (1, [.ref aw])), (aw, .inl (cB, 128, .inl wf))]) rfl d_R_block_107 (fun H locs hP hD hS => ?_)
    refine lv_aload_n hx hb d_R_block_110 rfl (lv_at hl 0 rfl) ?_
    refine lv_dup hx hb d_R_block_111 rfl ?_
    refine r_get E hP 0 fl_R_69 rfl rfl d_R_block_112 ?_
    refine lv_iload_n hx hb d_R_block_115 rfl (lv_at hl 1 rfl) ?_
    refine lv_iconst (v := (-1)) hx hb d_R_block_116 (by decide +kernel) ?_
    refine r_merge (rest := [.int c3, .ref h]) (ls := ls) 125 (fun v => v = nI (if wt7 63 (syn B) = -1 then 0 else 1)) (fun v hv => ?_) (fun J => ?_)
    · subst hv
      refine lv_iadd hx hb d_R_block_125 ?_
      refine r_put E hP hD hS 0 fl_R_69 rfl rfl (rfl) (rfl) (ws' := [(h, .inr (2, [.ref ac, .ref ar, .ref ag, .int (nI st), .int (nI sz), .int (nI (fl + 7)), .int (nI 0), .int (nI md), .long (lN B), .int c0, .int c1, .int (c2 + (nI 1)), .int (c3 + (nI (if wt7 63 (syn B) = -1 then 0 else 1))), .int c4])), (ar, .inl (cB, 259, .inl (wr7 f fl (mnd B (wt7 63 (syn B)) / 256) 7))), (ag, .inl (cB, 259, .inl g)), (ac, .inr (1, [.ref aw])), (aw, .inl (cB, 128, .inl wf))]) rfl d_R_block_126 (fun H locs hP hD hS => ?_)
      refine lv_aload_n hx hb d_R_block_129 rfl (lv_at hl 0 rfl) ?_
      refine r_get E hP 0 fl_R_27 rfl rfl d_R_block_130 ?_
      refine lv_aload_n hx hb d_R_block_133 rfl (lv_at hl 0 rfl) ?_
      refine r_get E hP 0 fl_R_9 rfl rfl d_R_block_134 ?_
      refine r_balen E hP 1 rfl d_R_block_137 ?_
      refine r_icmp_ne (tgt := 152) hx hb ⟨by omega, by omega⟩ d_R_block_138 (by decide) (fun c138 => ?_) (fun c138 => ?_)
      · skip
        refine lv_iconst (v := nI 0) hx hb d_R_block_152 (by decide +kernel) ?_
        exact r_iret E hr hlk hP hD hS (rfl) ((ar, ag, st, sz, fl + 7, 0, md, B, c0, c1, c2 + nI 1, c3 + nI (if wt7 63 (syn B) = -1 then 0 else 1), c4, wr7 f fl (mnd B (wt7 63 (syn B)) / 256) 7, g)) rfl (by rw [rcb_2 hj (by omega)]; exact ⟨rfl, rfl⟩) d_R_block_153
      · skip
        refine lv_aload_n hx hb d_R_block_141 rfl (lv_at hl 0 rfl) ?_
        refine r_callVI (wr := [(ar, .inl (cB, 259, .inl (wr7 f fl (mnd B (wt7 63 (syn B)) / 256) 7))), (ag, .inl (cB, 259, .inl g)), (ac, .inr (1, [.ref aw])), (aw, .inl (cB, 128, .inl wf))]) (rest := []) E cs_R_59 (c_R_end l D cB cI h ac ar ag st sz (fl + 7) 0 md B c0 c1 (c2 + nI 1) (c3 + nI (if wt7 63 (syn B) = -1 then 0 else 1)) c4 (by omega)) hP hD hS hA [0] [1, 2, 3, 4] ⟨rfl, rfl, by decide, by decide, by decide⟩ kc_R rfl hl.1 rfl rfl (Nat.le_of_ble_eq_true rfl) ⟨by decide, by decide⟩ ⟨by decide, by decide⟩ d_R_block_142 (fun r u H locs hw hP hD hS => ?_)
        obtain ⟨rfl, hw⟩ := hw
        rw [if_neg (by omega)] at hw
        subst hw
        have hP : va_P D classes [(h, .inr (2, [.ref ac, .ref ag, .ref ar, .int (nI 1), .int (nI (fl + 7)), .int (nI 0), .int (nI 0), .int (nI md), .long (lN B), .int c0, .int (c1 + nI 1), .int (c2 + nI 1), .int (c3 + nI (if wt7 63 (syn B) = -1 then 0 else 1)), .int c4])), (ag, .inl (cB, 259, .inl g)), (ar, .inl (cB, 259, .inl (wr7 f fl (mnd B (wt7 63 (syn B)) / 256) 7))), (ac, .inr (1, [.ref aw])), (aw, .inl (cB, 128, .inl wf))] H := hP.sub [4, 1, 0, 2, 3] rfl
        have hD : va_D A [(h, .inr (2, [.ref ac, .ref ag, .ref ar, .int (nI 1), .int (nI (fl + 7)), .int (nI 0), .int (nI 0), .int (nI md), .long (lN B), .int c0, .int (c1 + nI 1), .int (c2 + nI 1), .int (c3 + nI (if wt7 63 (syn B) = -1 then 0 else 1)), .int c4])), (ag, .inl (cB, 259, .inl g)), (ar, .inl (cB, 259, .inl (wr7 f fl (mnd B (wt7 63 (syn B)) / 256) 7))), (ac, .inr (1, [.ref aw])), (aw, .inl (cB, 128, .inl wf))] := hD.sub [4, 1, 0, 2, 3] (by decide) rfl
        refine W.widen (k := 0) (n := 0) (Nat.le_of_ble_eq_true rfl) (Nat.le_of_ble_eq_true rfl) ?_
        refine r_if_eq (tgt := 152) hx hb (by omega) d_R_block_145 (by decide) (fun c145 => False.elim (by omega)) (fun c145 => ?_)
        refine lv_iconst (v := nI 1) hx hb d_R_block_148 (by decide +kernel) ?_
        refine lv_goto (tgt := 153) hx hb d_R_block_149 (by decide) ?_
        exact r_iret E hr hlk hP hD hS (rfl) ((ag, ar, 1, fl + 7, 0, 0, md, B, c0, c1 + nI 1, c2 + nI 1, c3 + nI (if wt7 63 (syn B) = -1 then 0 else 1), c4, g, wr7 f fl (mnd B (wt7 63 (syn B)) / 256) 7)) rfl (by rw [rcb_1 hj (by omega), rce_1 (by omega)]; exact ⟨rfl, rfl⟩) d_R_block_153
    · skip
      refine lv_icmp_ne (tgt := 124) hx hb d_R_block_117 (by decide) (fun c117 => ?_) (fun c117 => ?_)
      · skip
        refine lv_iconst (v := nI 1) hx hb d_R_block_124 (by decide +kernel) ?_
        exact J _ (by rw [if_neg c117])
      · skip
        refine lv_iconst (v := nI 0) hx hb d_R_block_120 (by decide +kernel) ?_
        refine lv_goto (tgt := 125) hx hb d_R_block_121 (by decide) ?_
        exact J _ (by rw [if_pos c117])
  · skip
    refine lv_icmp_eq (tgt := 40) hx hb d_R_block_19 (by decide) (fun c19 => ?_) (fun c19 => ?_)
    · skip
      exact J (Or.inl c19)
    · skip
      refine lv_iload_n hx hb d_R_block_22 rfl (lv_at hl 0 rfl) ?_
      refine lv_bipush (v := (-2)) hx hb d_R_block_23 (by decide +kernel) ?_
      refine lv_icmp_eq (tgt := 35) hx hb d_R_block_25 (by decide) (fun c25 => ?_) (fun c25 => ?_)
      · skip
        by_cases hf : fl = 0
        · skip
          refine lv_aload_n hx hb d_R_block_35 rfl (lv_at hl 1 rfl) ?_
          refine r_callVI (wr := [(ar, .inl (cB, 259, .inl f)), (ag, .inl (cB, 259, .inl g)), (ac, .inr (1, [.ref aw])), (aw, .inl (cB, 128, .inl wf))]) (rest := []) E cs_R_59 (c_R_end l D cB cI h ac ar ag st sz fl 0 md B c0 c1 c2 c3 c4 (by omega)) hP hD hS hA [0] [1, 2, 3, 4] ⟨rfl, rfl, by decide, by decide, by decide⟩ kc_R rfl hl.1 rfl rfl (Nat.le_of_ble_eq_true rfl) ⟨by decide, by decide⟩ ⟨by decide, by decide⟩ d_R_block_36 (fun r u H locs hw hP hD hS => ?_)
          obtain ⟨rfl, hw⟩ := hw
          rw [if_pos hf] at hw
          subst hw
          have hP : va_P D classes [(h, .inr (2, [.ref ac, .ref ar, .ref ag, .int (nI 1), .int (nI sz), .int (nI 0), .int (nI 0), .int (nI md), .long (lN B), .int c0, .int (c1 + nI 1), .int c2, .int c3, .int c4])), (ar, .inl (cB, 259, .inl f)), (ag, .inl (cB, 259, .inl g)), (ac, .inr (1, [.ref aw])), (aw, .inl (cB, 128, .inl wf))] H := hP.sub [4, 0, 1, 2, 3] rfl
          have hD : va_D A [(h, .inr (2, [.ref ac, .ref ar, .ref ag, .int (nI 1), .int (nI sz), .int (nI 0), .int (nI 0), .int (nI md), .long (lN B), .int c0, .int (c1 + nI 1), .int c2, .int c3, .int c4])), (ar, .inl (cB, 259, .inl f)), (ag, .inl (cB, 259, .inl g)), (ac, .inr (1, [.ref aw])), (aw, .inl (cB, 128, .inl wf))] := hD.sub [4, 0, 1, 2, 3] (by decide) rfl
          refine W.widen (k := 0) (n := 0) (Nat.le_of_ble_eq_true rfl) (Nat.le_of_ble_eq_true rfl) ?_
          exact r_iret E hr hlk hP hD hS (rfl) ((ar, ag, 1, sz, 0, 0, md, B, c0, c1 + nI 1, c2, c3, c4, f, g)) rfl (by rw [rcb_0 (fun z => z.elim (fun z => c19 z) (fun z => z.1 c25)), rce_0 hf]; exact ⟨rfl, rfl⟩) d_R_block_39
        · skip
          refine lv_aload_n hx hb d_R_block_35 rfl (lv_at hl 1 rfl) ?_
          refine r_callVI (wr := [(ar, .inl (cB, 259, .inl f)), (ag, .inl (cB, 259, .inl g)), (ac, .inr (1, [.ref aw])), (aw, .inl (cB, 128, .inl wf))]) (rest := []) E cs_R_59 (c_R_end l D cB cI h ac ar ag st sz fl 0 md B c0 c1 c2 c3 c4 (by omega)) hP hD hS hA [0] [1, 2, 3, 4] ⟨rfl, rfl, by decide, by decide, by decide⟩ kc_R rfl hl.1 rfl rfl (Nat.le_of_ble_eq_true rfl) ⟨by decide, by decide⟩ ⟨by decide, by decide⟩ d_R_block_36 (fun r u H locs hw hP hD hS => ?_)
          obtain ⟨rfl, hw⟩ := hw
          rw [if_neg hf] at hw
          subst hw
          have hP : va_P D classes [(h, .inr (2, [.ref ac, .ref ag, .ref ar, .int (nI 1), .int (nI fl), .int (nI 0), .int (nI 0), .int (nI md), .long (lN B), .int c0, .int (c1 + nI 1), .int c2, .int c3, .int c4])), (ag, .inl (cB, 259, .inl g)), (ar, .inl (cB, 259, .inl f)), (ac, .inr (1, [.ref aw])), (aw, .inl (cB, 128, .inl wf))] H := hP.sub [4, 1, 0, 2, 3] rfl
          have hD : va_D A [(h, .inr (2, [.ref ac, .ref ag, .ref ar, .int (nI 1), .int (nI fl), .int (nI 0), .int (nI 0), .int (nI md), .long (lN B), .int c0, .int (c1 + nI 1), .int c2, .int c3, .int c4])), (ag, .inl (cB, 259, .inl g)), (ar, .inl (cB, 259, .inl f)), (ac, .inr (1, [.ref aw])), (aw, .inl (cB, 128, .inl wf))] := hD.sub [4, 1, 0, 2, 3] (by decide) rfl
          refine W.widen (k := 0) (n := 0) (Nat.le_of_ble_eq_true rfl) (Nat.le_of_ble_eq_true rfl) ?_
          exact r_iret E hr hlk hP hD hS (rfl) ((ag, ar, 1, fl, 0, 0, md, B, c0, c1 + nI 1, c2, c3, c4, g, f)) rfl (by rw [rcb_0 (fun z => z.elim (fun z => c19 z) (fun z => z.1 c25)), rce_1 hf]; exact ⟨rfl, rfl⟩) d_R_block_39
      · skip
        refine lv_aload_n hx hb d_R_block_28 rfl (lv_at hl 1 rfl) ?_
        refine r_get E hP 0 fl_R_43 rfl rfl d_R_block_29 ?_
        skip
        refine r_if_ne (tgt := 40) hx hb (by omega) d_R_block_32 (by decide) (fun c32 => ?_) (fun c32 => ?_)
        · skip
          exact J (Or.inr ⟨c25, c32⟩)
        · skip
          by_cases hf : fl = 0
          · skip
            refine lv_aload_n hx hb d_R_block_35 rfl (lv_at hl 1 rfl) ?_
            refine r_callVI (wr := [(ar, .inl (cB, 259, .inl f)), (ag, .inl (cB, 259, .inl g)), (ac, .inr (1, [.ref aw])), (aw, .inl (cB, 128, .inl wf))]) (rest := []) E cs_R_59 (c_R_end l D cB cI h ac ar ag st sz fl 0 md B c0 c1 c2 c3 c4 (by omega)) hP hD hS hA [0] [1, 2, 3, 4] ⟨rfl, rfl, by decide, by decide, by decide⟩ kc_R rfl hl.1 rfl rfl (Nat.le_of_ble_eq_true rfl) ⟨by decide, by decide⟩ ⟨by decide, by decide⟩ d_R_block_36 (fun r u H locs hw hP hD hS => ?_)
            obtain ⟨rfl, hw⟩ := hw
            rw [if_pos hf] at hw
            subst hw
            have hP : va_P D classes [(h, .inr (2, [.ref ac, .ref ar, .ref ag, .int (nI 1), .int (nI sz), .int (nI 0), .int (nI 0), .int (nI md), .long (lN B), .int c0, .int (c1 + nI 1), .int c2, .int c3, .int c4])), (ar, .inl (cB, 259, .inl f)), (ag, .inl (cB, 259, .inl g)), (ac, .inr (1, [.ref aw])), (aw, .inl (cB, 128, .inl wf))] H := hP.sub [4, 0, 1, 2, 3] rfl
            have hD : va_D A [(h, .inr (2, [.ref ac, .ref ar, .ref ag, .int (nI 1), .int (nI sz), .int (nI 0), .int (nI 0), .int (nI md), .long (lN B), .int c0, .int (c1 + nI 1), .int c2, .int c3, .int c4])), (ar, .inl (cB, 259, .inl f)), (ag, .inl (cB, 259, .inl g)), (ac, .inr (1, [.ref aw])), (aw, .inl (cB, 128, .inl wf))] := hD.sub [4, 0, 1, 2, 3] (by decide) rfl
            refine W.widen (k := 0) (n := 0) (Nat.le_of_ble_eq_true rfl) (Nat.le_of_ble_eq_true rfl) ?_
            exact r_iret E hr hlk hP hD hS (rfl) ((ar, ag, 1, sz, 0, 0, md, B, c0, c1 + nI 1, c2, c3, c4, f, g)) rfl (by rw [rcb_0 (fun z => z.elim (fun z => c19 z) (fun z => z.2 c32)), rce_0 hf]; exact ⟨rfl, rfl⟩) d_R_block_39
          · skip
            refine lv_aload_n hx hb d_R_block_35 rfl (lv_at hl 1 rfl) ?_
            refine r_callVI (wr := [(ar, .inl (cB, 259, .inl f)), (ag, .inl (cB, 259, .inl g)), (ac, .inr (1, [.ref aw])), (aw, .inl (cB, 128, .inl wf))]) (rest := []) E cs_R_59 (c_R_end l D cB cI h ac ar ag st sz fl 0 md B c0 c1 c2 c3 c4 (by omega)) hP hD hS hA [0] [1, 2, 3, 4] ⟨rfl, rfl, by decide, by decide, by decide⟩ kc_R rfl hl.1 rfl rfl (Nat.le_of_ble_eq_true rfl) ⟨by decide, by decide⟩ ⟨by decide, by decide⟩ d_R_block_36 (fun r u H locs hw hP hD hS => ?_)
            obtain ⟨rfl, hw⟩ := hw
            rw [if_neg hf] at hw
            subst hw
            have hP : va_P D classes [(h, .inr (2, [.ref ac, .ref ag, .ref ar, .int (nI 1), .int (nI fl), .int (nI 0), .int (nI 0), .int (nI md), .long (lN B), .int c0, .int (c1 + nI 1), .int c2, .int c3, .int c4])), (ag, .inl (cB, 259, .inl g)), (ar, .inl (cB, 259, .inl f)), (ac, .inr (1, [.ref aw])), (aw, .inl (cB, 128, .inl wf))] H := hP.sub [4, 1, 0, 2, 3] rfl
            have hD : va_D A [(h, .inr (2, [.ref ac, .ref ag, .ref ar, .int (nI 1), .int (nI fl), .int (nI 0), .int (nI 0), .int (nI md), .long (lN B), .int c0, .int (c1 + nI 1), .int c2, .int c3, .int c4])), (ag, .inl (cB, 259, .inl g)), (ar, .inl (cB, 259, .inl f)), (ac, .inr (1, [.ref aw])), (aw, .inl (cB, 128, .inl wf))] := hD.sub [4, 1, 0, 2, 3] (by decide) rfl
            refine W.widen (k := 0) (n := 0) (Nat.le_of_ble_eq_true rfl) (Nat.le_of_ble_eq_true rfl) ?_
            exact r_iret E hr hlk hP hD hS (rfl) ((ag, ar, 1, fl, 0, 0, md, B, c0, c1 + nI 1, c2, c3, c4, g, f)) rfl (by rw [rcb_0 (fun z => z.elim (fun z => c19 z) (fun z => z.2 c32)), rce_1 hf]; exact ⟨rfl, rfl⟩) d_R_block_39

abbrev rm_R_take : Room := { frames := 3, cells := 0, slots := 0, locals := 72 }
set_option maxHeartbeats 4000000 in
set_option maxRecDepth 100000 in
/-- take(b): a bit comes -/
theorem c_R_take (l : Launch) (D : va_G) (cB cI : ClassId) (h ac ar ag st sz fl sn md B : Nat) (c0 c1 c2 c3 c4 : Int32) (aw : Nat) (wf f g : Nat → Int32) (b : Nat) (h_b : b < 2) (h_st : st ≤ 2) (h_sn : sn ≤ 64) (h_B : B < 2 ^ 64) (h_md : md < 2) (h_fl : fl ≤ 252) (h_w : ∀ r, r < 128 → wf r = wt7 63 r) : MI l D cB cI y_R_take b_R_take 2 (some .boolean) rm_R_take [.ref h, .int (nI b)] [(h, .inr (2, [.ref ac, .ref ar, .ref ag, .int (nI st), .int (nI sz), .int (nI fl), .int (nI sn), .int (nI md), .long (lN B), .int c0, .int c1, .int c2, .int c3, .int c4])), (ar, .inl (cB, 259, .inl f)), (ag, .inl (cB, 259, .inl g)), (ac, .inr (1, [.ref aw])), (aw, .inl (cB, 128, .inl wf))] (fun (v : Int32) (u : RC) => u = (rc_bit b (ar, ag, st, sz, fl, sn, md, B, c0, c1, c2, c3, c4, f, g)).1 ∧ v = nI (rc_bit b (ar, ag, st, sz, fl, sn, md, B, c0, c1, c2, c3, c4, f, g)).2) (wR cB h ac aw wf) := by
  refine m_entryI (by decide +kernel) (Nat.le_of_ble_eq_true rfl) ?_
  intro p e s m below meth c ls A E hr hlk hnm hA hP hD hl
  have hx := E.1.1
  have hb := E.1.2.1
  have hS : va_S A s.heap s.heap [] := va_S.rf
  have hl : lv_has ls 2 [(0, .ref h), (1, .int (nI b))] := hl
  refine lv_aload_n hx hb d_R_take_0 rfl (lv_at hl 0 rfl) ?_
  refine lv_aload_n hx hb d_R_take_1 rfl (lv_at hl 0 rfl) ?_
  refine r_get E hP 0 fl_R_30 rfl rfl d_R_take_2 ?_
  refine lv_iconst (v := nI 1) hx hb d_R_take_5 (by decide +kernel) ?_
  refine lv_lshl (v := lN (B * 2)) hx hb d_R_take_6 (wb_shl B (by decide)) ?_
  refine lv_iload_n hx hb d_R_take_7 rfl (lv_at hl 1 rfl) ?_
  refine lv_i2l (v := lN b) hx hb d_R_take_8 (nI_l (by omega)) ?_
  refine lv_lor hx hb d_R_take_9 ?_
  refine r_topl (y := lN ((2 * B + b) % 2 ^ 64)) (l_push h_b) ?_
  refine r_put E hP hD hS 0 fl_R_30 rfl rfl (rfl) (rfl) (ws' := [(h, .inr (2, [.ref ac, .ref ar, .ref ag, .int (nI st), .int (nI sz), .int (nI fl), .int (nI sn), .int (nI md), .long (lN ((2 * B + b) % 2 ^ 64)), .int c0, .int c1, .int c2, .int c3, .int c4])), (ar, .inl (cB, 259, .inl f)), (ag, .inl (cB, 259, .inl g)), (ac, .inr (1, [.ref aw])), (aw, .inl (cB, 128, .inl wf))]) rfl d_R_take_10 (fun H locs hP hD hS => ?_)
  refine lv_aload_n hx hb d_R_take_13 rfl (lv_at hl 0 rfl) ?_
  refine lv_aload_n hx hb d_R_take_14 rfl (lv_at hl 0 rfl) ?_
  refine r_get E hP 0 fl_R_24 rfl rfl d_R_take_15 ?_
  refine lv_bipush (v := nI 64) hx hb d_R_take_18 (by decide +kernel) ?_
  obtain ⟨k, hk⟩ : ∃ k, k = if sn < 64 then sn + 1 else sn := ⟨_, rfl⟩
  have hk64 : k ≤ 64 := by rw [hk]; split <;> omega
  refine r_merge (rest := [.ref h]) (ls := ls) 36 (fun v => v = nI k) (fun v hv => ?_) (fun J => ?_)
  · subst hv
    refine r_put E hP hD hS 0 fl_R_24 rfl rfl (rfl) (rfl) (ws' := [(h, .inr (2, [.ref ac, .ref ar, .ref ag, .int (nI st), .int (nI sz), .int (nI fl), .int (nI k), .int (nI md), .long (lN ((2 * B + b) % 2 ^ 64)), .int c0, .int c1, .int c2, .int c3, .int c4])), (ar, .inl (cB, 259, .inl f)), (ag, .inl (cB, 259, .inl g)), (ac, .inr (1, [.ref aw])), (aw, .inl (cB, 128, .inl wf))]) rfl d_R_take_36 (fun H locs hP hD hS => ?_)
    refine lv_aload_n hx hb d_R_take_39 rfl (lv_at hl 0 rfl) ?_
    refine r_get E hP 0 fl_R_20 rfl rfl d_R_take_40 ?_
    refine lv_iconst (v := nI 2) hx hb d_R_take_43 (by decide +kernel) ?_
    refine r_icmp_ne (tgt := 69) hx hb ⟨by omega, by omega⟩ d_R_take_44 (by decide) (fun c44 => ?_) (fun c44 => ?_)
    · skip
      refine lv_aload_n hx hb d_R_take_69 rfl (lv_at hl 0 rfl) ?_
      refine r_get E hP 0 fl_R_24 rfl rfl d_R_take_70 ?_
      refine lv_bipush (v := nI 16) hx hb d_R_take_73 (by decide +kernel) ?_
      refine r_icmp_lt (tgt := 82) hx hb ⟨by omega, by omega⟩ d_R_take_75 (by decide) (fun c75 => ?_) (fun c75 => ?_)
      · skip
        refine lv_iconst (v := nI 0) hx hb d_R_take_82 (by decide +kernel) ?_
        exact r_iret E hr hlk hP hD hS (rfl) ((ar, ag, st, sz, fl, k, md, (2 * B + b) % 2 ^ 64, c0, c1, c2, c3, c4, f, g)) rfl (by rw [rct_2 hk c44 c75]; exact ⟨rfl, rfl⟩) d_R_take_83
      · skip
        refine lv_aload_n hx hb d_R_take_78 rfl (lv_at hl 0 rfl) ?_
        refine r_callVV (wr := [(ar, .inl (cB, 259, .inl f)), (ag, .inl (cB, 259, .inl g)), (ac, .inr (1, [.ref aw])), (aw, .inl (cB, 128, .inl wf))]) (rest := []) E cs_R_38 (c_R_mark l D cB cI h ac ar ag st sz fl k md ((2 * B + b) % 2 ^ 64) c0 c1 c2 c3 c4 h_md) hP hD hS hA [0] [1, 2, 3, 4] ⟨rfl, rfl, by decide, by decide, by decide⟩ kc_R rfl hl.1 rfl rfl (Nat.le_of_ble_eq_true rfl) ⟨by decide, by decide⟩ ⟨by decide, by decide⟩ d_R_take_79 (fun u H locs hw hP hD hS => ?_)
        obtain ⟨x1, x2, x3, x4⟩ := u
        have hP : va_P D classes [(h, .inr (2, [.ref ac, .ref ar, .ref ag, .int (nI x1), .int (nI sz), .int (nI fl), .int (nI x2), .int (nI md), .long (lN ((2 * B + b) % 2 ^ 64)), .int x3, .int c1, .int c2, .int c3, .int x4])), (ar, .inl (cB, 259, .inl f)), (ag, .inl (cB, 259, .inl g)), (ac, .inr (1, [.ref aw])), (aw, .inl (cB, 128, .inl wf))] H := hP.sub [4, 0, 1, 2, 3] rfl
        have hD : va_D A [(h, .inr (2, [.ref ac, .ref ar, .ref ag, .int (nI x1), .int (nI sz), .int (nI fl), .int (nI x2), .int (nI md), .long (lN ((2 * B + b) % 2 ^ 64)), .int x3, .int c1, .int c2, .int c3, .int x4])), (ar, .inl (cB, 259, .inl f)), (ag, .inl (cB, 259, .inl g)), (ac, .inr (1, [.ref aw])), (aw, .inl (cB, 128, .inl wf))] := hD.sub [4, 0, 1, 2, 3] (by decide) rfl
        refine W.widen (k := 0) (n := 0) (Nat.le_of_ble_eq_true rfl) (Nat.le_of_ble_eq_true rfl) ?_
        refine lv_iconst (v := nI 0) hx hb d_R_take_82 (by decide +kernel) ?_
        exact r_iret E hr hlk hP hD hS (rfl) ((ar, ag, x1, sz, fl, x2, md, (2 * B + b) % 2 ^ 64, x3, c1, c2, c3, x4, f, g)) rfl (by rw [rct_3 hk c44 (by omega)]; refine ⟨?_, rfl⟩; by_cases hh : off16 ((2 * B + b) % 2 ^ 64) = 0 ∨ (md ≠ 0 ∧ off16 ((2 * B + b) % 2 ^ 64) &&& (off16 ((2 * B + b) % 2 ^ 64) - 1) = 0); (rw [rcm_1 (show hit ((2 * B + b) % 2 ^ 64) md from hh)]; rw [if_pos hh] at hw; cases hw; rfl); (rw [rcm_0 (show ¬ hit ((2 * B + b) % 2 ^ 64) md from hh)]; rw [if_neg hh] at hw; cases hw; rfl)) d_R_take_83
    · skip
      refine lv_aload_n hx hb d_R_take_47 rfl (lv_at hl 0 rfl) ?_
      refine r_get E hP 0 fl_R_24 rfl rfl d_R_take_48 ?_
      refine lv_bipush (v := nI 64) hx hb d_R_take_51 (by decide +kernel) ?_
      refine r_icmp_ne (tgt := 67) hx hb ⟨by omega, by omega⟩ d_R_take_53 (by decide) (fun c53 => ?_) (fun c53 => ?_)
      · skip
        refine lv_iconst (v := nI 0) hx hb d_R_take_67 (by decide +kernel) ?_
        exact r_iret E hr hlk hP hD hS (rfl) ((ar, ag, st, sz, fl, k, md, (2 * B + b) % 2 ^ 64, c0, c1, c2, c3, c4, f, g)) rfl (by rw [rct_0 hk c44 c53]; exact ⟨rfl, rfl⟩) d_R_take_68
      · skip
        refine lv_aload_n hx hb d_R_take_56 rfl (lv_at hl 0 rfl) ?_
        refine r_callVI (wr := []) (rest := []) E cs_R_34 (c_R_block l D cB cI h ac ar ag st sz fl k md ((2 * B + b) % 2 ^ 64) c0 c1 c2 c3 c4 aw wf f g (Nat.mod_lt _ (by decide)) h_md h_fl h_w) hP hD hS hA [0, 1, 2, 3, 4] [] ⟨rfl, rfl, by decide, by decide, by decide⟩ kc_R rfl hl.1 rfl rfl (Nat.le_of_ble_eq_true rfl) ⟨by decide, by decide⟩ ⟨by decide, by decide⟩ d_R_take_57 (fun r u H locs hw hP hD hS => ?_)
        obtain ⟨hw, rfl⟩ := hw
        have hle := rcb_le (ar, ag, st, sz, fl, k, md, (2 * B + b) % 2 ^ 64, c0, c1, c2, c3, c4, f, g)
        have hP : va_P D classes (wR cB h ac aw wf u) H := hP
        have hD : va_D A (wR cB h ac aw wf u) := hD
        refine W.widen (k := 0) (n := 0) (Nat.le_of_ble_eq_true rfl) (Nat.le_of_ble_eq_true rfl) ?_
        refine r_if_eq (tgt := 67) hx hb (by omega) d_R_take_60 (by decide) (fun c60 => ?_) (fun c60 => ?_)
        · skip
          refine lv_iconst (v := nI 0) hx hb d_R_take_67 (by decide +kernel) ?_
          exact r_iret E hr hlk hP hD hS (rfl) (u) rfl (by rw [rct_1 hk c44 c53]; exact ⟨hw, congrArg nI c60.symm⟩) d_R_take_68
        · skip
          refine lv_iconst (v := nI 1) hx hb d_R_take_63 (by decide +kernel) ?_
          refine lv_goto (tgt := 68) hx hb d_R_take_64 (by decide) ?_
          exact r_iret E hr hlk hP hD hS (rfl) (u) rfl (by rw [rct_1 hk c44 c53]; exact ⟨hw, congrArg nI (by omega)⟩) d_R_take_68
  · skip
    refine r_icmp_ge (tgt := 32) hx hb ⟨by omega, by omega⟩ d_R_take_20 (by decide) (fun c20 => ?_) (fun c20 => ?_)
    · skip
      refine lv_aload_n hx hb d_R_take_32 rfl (lv_at hl 0 rfl) ?_
      refine r_get E hP 0 fl_R_24 rfl rfl d_R_take_33 ?_
      exact J _ (by rw [hk, if_neg (by omega)])
    · skip
      refine lv_aload_n hx hb d_R_take_23 rfl (lv_at hl 0 rfl) ?_
      refine r_get E hP 0 fl_R_24 rfl rfl d_R_take_24 ?_
      refine lv_iconst (v := nI 1) hx hb d_R_take_27 (by decide +kernel) ?_
      refine r_iadd hx hb d_R_take_28 ?_
      refine lv_goto (tgt := 36) hx hb d_R_take_29 (by decide) ?_
      exact J _ (by rw [hk, if_pos (by omega)])

abbrev rm_R_init : Room := { frames := 1, cells := 2, slots := 518, locals := 12 }
set_option maxHeartbeats 4000000 in
set_option maxRecDepth 100000 in
/-- Receiver(code) -/
theorem c_R_init (l : Launch) (D : va_G) (cB cI : ClassId) (h ac : Nat) : MV l D cB cI y_R_init b_R_init 2 none rm_R_init [.ref h, .ref ac] [(h, .inr (2, [.null, .null, .null, .int (nI 0), .int (nI 0), .int (nI 0), .int (nI 0), .int (nI 0), .long (lN 0), .int 0, .int 0, .int 0, .int 0, .int 0]))] (fun (_ : Nat × Nat) => True) (fun u => [(h, .inr (2, [.ref ac, .ref u.1, .ref u.2, .int (nI 0), .int (nI 0), .int (nI 0), .int (nI 0), .int (nI 0), .long (lN 0), .int 0, .int 0, .int 0, .int 0, .int 0])), (u.1, .inl (cB, 259, .inl (fun _ => 0))), (u.2, .inl (cB, 259, .inl (fun _ => 0)))]) := by
  refine m_entryV (by decide +kernel) (Nat.le_of_ble_eq_true rfl) ?_
  intro p e s m below meth c ls A E hr hlk hnm hA hP hD hl
  have hx := E.1.1
  have hb := E.1.2.1
  have hS : va_S A s.heap s.heap [] := va_S.rf
  have hl : lv_has ls 2 [(0, .ref h), (1, .ref ac)] := hl
  refine lv_aload_n hx hb d_R_init_0 rfl (lv_at hl 0 rfl) ?_
  refine r_objInit E k_33 hl.1 d_R_init_1 (by decide) (Nat.le_of_ble_eq_true rfl) ?_
  refine lv_aload_n hx hb d_R_init_4 rfl (lv_at hl 0 rfl) ?_
  refine lv_sipush (v := nI 259) hx hb d_R_init_5 (by decide +kernel) ?_
  refine r_newB E hP hD hS hA (by decide) (by decide) (by decide) d_R_init_8 (fun ar H hP hD hS => ?_)
  have hP : va_P D classes [(h, .inr (2, [.null, .null, .null, .int (nI 0), .int (nI 0), .int (nI 0), .int (nI 0), .int (nI 0), .long (lN 0), .int 0, .int 0, .int 0, .int 0, .int 0])), (ar, .inl (cB, 259, .inl (fun _ => 0)))] H := hP
  have hD : va_D A [(h, .inr (2, [.null, .null, .null, .int (nI 0), .int (nI 0), .int (nI 0), .int (nI 0), .int (nI 0), .long (lN 0), .int 0, .int 0, .int 0, .int 0, .int 0])), (ar, .inl (cB, 259, .inl (fun _ => 0)))] := hD
  refine W.widen (k := 1) (n := 259) (Nat.le_of_ble_eq_true rfl) (Nat.le_of_ble_eq_true rfl) ?_
  refine r_put E hP hD hS 0 fl_R_9 rfl rfl (rfl) (rfl) (ws' := [(h, .inr (2, [.null, .ref ar, .null, .int (nI 0), .int (nI 0), .int (nI 0), .int (nI 0), .int (nI 0), .long (lN 0), .int 0, .int 0, .int 0, .int 0, .int 0])), (ar, .inl (cB, 259, .inl (fun _ => 0)))]) rfl d_R_init_10 (fun H locs hP hD hS => ?_)
  refine lv_aload_n hx hb d_R_init_13 rfl (lv_at hl 0 rfl) ?_
  refine lv_sipush (v := nI 259) hx hb d_R_init_14 (by decide +kernel) ?_
  refine r_newB E hP hD hS hA (by decide) (by decide) (by decide) d_R_init_17 (fun ag H hP hD hS => ?_)
  have hP : va_P D classes [(h, .inr (2, [.null, .ref ar, .null, .int (nI 0), .int (nI 0), .int (nI 0), .int (nI 0), .int (nI 0), .long (lN 0), .int 0, .int 0, .int 0, .int 0, .int 0])), (ar, .inl (cB, 259, .inl (fun _ => 0))), (ag, .inl (cB, 259, .inl (fun _ => 0)))] H := hP
  have hD : va_D A [(h, .inr (2, [.null, .ref ar, .null, .int (nI 0), .int (nI 0), .int (nI 0), .int (nI 0), .int (nI 0), .long (lN 0), .int 0, .int 0, .int 0, .int 0, .int 0])), (ar, .inl (cB, 259, .inl (fun _ => 0))), (ag, .inl (cB, 259, .inl (fun _ => 0)))] := hD
  refine W.widen (k := 2) (n := 518) (Nat.le_of_ble_eq_true rfl) (Nat.le_of_ble_eq_true rfl) ?_
  refine r_put E hP hD hS 0 fl_R_13 rfl rfl (rfl) (rfl) (ws' := [(h, .inr (2, [.null, .ref ar, .ref ag, .int (nI 0), .int (nI 0), .int (nI 0), .int (nI 0), .int (nI 0), .long (lN 0), .int 0, .int 0, .int 0, .int 0, .int 0])), (ar, .inl (cB, 259, .inl (fun _ => 0))), (ag, .inl (cB, 259, .inl (fun _ => 0)))]) rfl d_R_init_19 (fun H locs hP hD hS => ?_)
  refine lv_aload_n hx hb d_R_init_22 rfl (lv_at hl 0 rfl) ?_
  refine lv_aload_n hx hb d_R_init_23 rfl (lv_at hl 1 rfl) ?_
  refine r_putF E hP hD hS 0 fl_R_16 hnm rfl rfl (rfl) (rfl) (ws' := [(h, .inr (2, [.ref ac, .ref ar, .ref ag, .int (nI 0), .int (nI 0), .int (nI 0), .int (nI 0), .int (nI 0), .long (lN 0), .int 0, .int 0, .int 0, .int 0, .int 0])), (ar, .inl (cB, 259, .inl (fun _ => 0))), (ag, .inl (cB, 259, .inl (fun _ => 0)))]) rfl d_R_init_24 (fun H locs hP hD hS => ?_)
  exact r_vret E hr hlk hP hD hS ((ar, ag)) rfl (trivial) d_R_init_27
end
section
/-! what the sender sends -/
def pd (f : Nat → Int32) (fl i : Nat) : Nat := if i < fl then bN (f i) else 85
theorem pd_lt (f : Nat → Int32) (fl i : Nat) : pd f fl i < 256 := by
  unfold pd
  split
  · exact bN_lt _
  · decide
def dv (p : Nat → Nat) (at_ : Nat) : Nat → Nat
  | 0 => 0
  | k + 1 => dv p at_ k * 256 + p (at_ + k)
theorem dv_lt {p : Nat → Nat} (hp : ∀ i, p i < 256) (at_ : Nat) : ∀ k, dv p at_ k < 2 ^ (8 * k)
  | 0 => show 0 < 2 ^ (8 * 0) by decide
  | k + 1 => by
    have h1 := dv_lt hp at_ k
    have h2 := hp (at_ + k)
    have h3 : 2 ^ (8 * (k + 1)) = 2 ^ (8 * k) * 256 := by rw [show 8 * (k + 1) = 8 * k + 8 by omega, Nat.pow_add]
    rw [dv, h3]
    omega
theorem dv_lt7 (f : Nat → Int32) (fl at_ k : Nat) (hk : k ≤ 7) : dv (pd f fl) at_ k < 2 ^ 56 :=
  Nat.lt_of_lt_of_le (dv_lt (pd_lt f fl) at_ k) (Nat.pow_le_pow_right (by decide) (by omega))
theorem dv_lt6 (f : Nat → Int32) (fl at_ k : Nat) (hk : k < 7) : dv (pd f fl) at_ k < 2 ^ 48 :=
  Nat.lt_of_lt_of_le (dv_lt (pd_lt f fl) at_ k) (Nat.pow_le_pow_right (by decide) (by omega))
theorem blk_lt {d : Nat} (h : d < 2 ^ 56) : blk d < 2 ^ 64 := by
  have := sp_x127 _ (crc_lt d)
  unfold blk
  omega
/-- the words that are sent: the blocks, then the tail -/
def ew (f : Nat → Int32) (fl q : Nat) : Nat := if q < (fl + 6) / 7 then blk (dv (pd f fl) (7 * q) 7) else 14251014049101104505
/-- the byte j of what is sent -/
def en (f : Nat → Int32) (fl j : Nat) : Nat := if j = 0 then 235 else if j = 1 then 144 else ew f fl ((j - 2) / 8) / 2 ^ (56 - 8 * ((j - 2) % 8)) % 256
theorem en_at (f : Nat → Int32) (fl q t : Nat) (ht : t < 8) : en f fl (2 + 8 * q + t) = ew f fl q / 2 ^ (56 - 8 * t) % 256 := by
  unfold en
  rw [if_neg (by omega), if_neg (by omega), show (2 + 8 * q + t - 2) / 8 = q by omega, show (2 + 8 * q + t - 2) % 8 = t by omega]
/-- eight bytes more -/
theorem en_grow {f g g' : Nat → Int32} {fl q w : Nat} (h : ∀ j, j < 2 + 8 * q → bN (g j) = en f fl j) (h1 : ∀ j, j < 2 + 8 * q → g' j = g j) (h2 : ∀ t, t < 8 → bN (g' (2 + 8 * q + t)) = w / 2 ^ (56 - 8 * t) % 256) (hw : ew f fl q = w) : ∀ j, j < 2 + 8 * (q + 1) → bN (g' j) = en f fl j := by
  intro j hj
  by_cases hl : j < 2 + 8 * q
  · rw [h1 j hl]; exact h j hl
  · obtain ⟨t, rfl⟩ : ∃ t, j = 2 + 8 * q + t := ⟨j - (2 + 8 * q), by omega⟩
    rw [h2 t (by omega), en_at f fl q t (by omega), hw]
theorem ew_in {f : Nat → Int32} {fl q : Nat} (h : 7 * q < fl) : ew f fl q = blk (dv (pd f fl) (7 * q) 7) := if_pos (by omega)
theorem ew_out {f : Nat → Int32} {fl q : Nat} (h : fl ≤ 7 * q) : ew f fl q = 14251014049101104505 := if_neg (by omega)
end
section
abbrev rm_S_init : Room := { frames := 1, cells := 2, slots := 565, locals := 12 }
set_option maxHeartbeats 4000000 in
set_option maxRecDepth 100000 in
/-- Sender() -/
theorem c_S_init (l : Launch) (D : va_G) (cB cI : ClassId) (h : Nat) : MV l D cB cI y_S_init b_S_init 1 none rm_S_init [.ref h] [(h, .inr (3, [.null, .null, .int (nI 0), .int (nI 0)]))] (fun (_ : Nat × Nat) => True) (fun u => [(h, .inr (3, [.ref u.1, .ref u.2, .int (nI 0), .int (nI 0)])), (u.1, .inl (cB, 259, .inl (fun _ => 0))), (u.2, .inl (cB, 306, .inl (fun _ => 0)))]) := by
  refine m_entryV (by decide +kernel) (Nat.le_of_ble_eq_true rfl) ?_
  intro p e s m below meth c ls A E hr hlk hnm hA hP hD hl
  have hx := E.1.1
  have hb := E.1.2.1
  have hS : va_S A s.heap s.heap [] := va_S.rf
  have hl : lv_has ls 1 [(0, .ref h)] := hl
  refine lv_aload_n hx hb d_S_init_0 rfl (lv_at hl 0 rfl) ?_
  refine r_objInit E k_91 hl.1 d_S_init_1 (by decide) (Nat.le_of_ble_eq_true rfl) ?_
  refine lv_aload_n hx hb d_S_init_4 rfl (lv_at hl 0 rfl) ?_
  refine lv_sipush (v := nI 259) hx hb d_S_init_5 (by decide +kernel) ?_
  refine r_newB E hP hD hS hA (by decide) (by decide) (by decide) d_S_init_8 (fun sr H hP hD hS => ?_)
  have hP : va_P D classes [(h, .inr (3, [.null, .null, .int (nI 0), .int (nI 0)])), (sr, .inl (cB, 259, .inl (fun _ => 0)))] H := hP
  have hD : va_D A [(h, .inr (3, [.null, .null, .int (nI 0), .int (nI 0)])), (sr, .inl (cB, 259, .inl (fun _ => 0)))] := hD
  refine W.widen (k := 1) (n := 259) (Nat.le_of_ble_eq_true rfl) (Nat.le_of_ble_eq_true rfl) ?_
  refine r_putF E hP hD hS 0 fl_S_11 hnm rfl rfl (rfl) (rfl) (ws' := [(h, .inr (3, [.ref sr, .null, .int (nI 0), .int (nI 0)])), (sr, .inl (cB, 259, .inl (fun _ => 0)))]) rfl d_S_init_10 (fun H locs hP hD hS => ?_)
  refine lv_aload_n hx hb d_S_init_13 rfl (lv_at hl 0 rfl) ?_
  refine lv_sipush (v := nI 306) hx hb d_S_init_14 (by decide +kernel) ?_
  refine r_newB E hP hD hS hA (by decide) (by decide) (by decide) d_S_init_17 (fun ss H hP hD hS => ?_)
  have hP : va_P D classes [(h, .inr (3, [.ref sr, .null, .int (nI 0), .int (nI 0)])), (sr, .inl (cB, 259, .inl (fun _ => 0))), (ss, .inl (cB, 306, .inl (fun _ => 0)))] H := hP
  have hD : va_D A [(h, .inr (3, [.ref sr, .null, .int (nI 0), .int (nI 0)])), (sr, .inl (cB, 259, .inl (fun _ => 0))), (ss, .inl (cB, 306, .inl (fun _ => 0)))] := hD
  refine W.widen (k := 2) (n := 565) (Nat.le_of_ble_eq_true rfl) (Nat.le_of_ble_eq_true rfl) ?_
  refine r_putF E hP hD hS 0 fl_S_17 hnm rfl rfl (rfl) (rfl) (ws' := [(h, .inr (3, [.ref sr, .ref ss, .int (nI 0), .int (nI 0)])), (sr, .inl (cB, 259, .inl (fun _ => 0))), (ss, .inl (cB, 306, .inl (fun _ => 0)))]) rfl d_S_init_19 (fun H locs hP hD hS => ?_)
  exact r_vret E hr hlk hP hD hS ((sr, ss)) rfl (trivial) d_S_init_22

abbrev rm_S_put : Room := { frames := 0, cells := 0, slots := 0, locals := 0 }
set_option maxHeartbeats 4000000 in
set_option maxRecDepth 100000 in
/-- put(b) -/
theorem c_S_put (l : Launch) (D : va_G) (cB cI : ClassId) (h sr ss fl sz : Nat) (f : Nat → Int32) (p0 : Int32) (h_fl : fl ≤ 259) : MI l D cB cI y_S_put b_S_put 2 (some .int) rm_S_put [.ref h, .int p0] [(h, .inr (3, [.ref sr, .ref ss, .int (nI fl), .int (nI sz)])), (sr, .inl (cB, 259, .inl f))] (fun (v : Int32) (u : Nat × (Nat → Int32)) => (fl = 259 → v = -1 ∧ u = (fl, f)) ∧ (fl ≠ 259 → v = nI (fl + 1) ∧ u = (fl + 1, upd f fl p0.toInt8.toInt32))) (fun u => [(h, .inr (3, [.ref sr, .ref ss, .int (nI u.1), .int (nI sz)])), (sr, .inl (cB, 259, .inl u.2))]) := by
  refine m_entryI (by decide +kernel) (Nat.le_of_ble_eq_true rfl) ?_
  intro p e s m below meth c ls A E hr hlk hnm hA hP hD hl
  have hx := E.1.1
  have hb := E.1.2.1
  have hS : va_S A s.heap s.heap [] := va_S.rf
  have hl : lv_has ls 2 [(0, .ref h), (1, .int p0)] := hl
  refine lv_aload_n hx hb d_S_put_0 rfl (lv_at hl 0 rfl) ?_
  refine r_get E hP 0 fl_S_20 rfl rfl d_S_put_1 ?_
  refine lv_aload_n hx hb d_S_put_4 rfl (lv_at hl 0 rfl) ?_
  refine r_get E hP 0 fl_S_11 rfl rfl d_S_put_5 ?_
  refine r_balen E hP 1 rfl d_S_put_8 ?_
  refine r_icmp_ne (tgt := 14) hx hb ⟨by omega, by omega⟩ d_S_put_9 (by decide) (fun c9 => ?_) (fun c9 => ?_)
  · skip
    refine lv_aload_n hx hb d_S_put_14 rfl (lv_at hl 0 rfl) ?_
    refine r_get E hP 0 fl_S_11 rfl rfl d_S_put_15 ?_
    refine lv_aload_n hx hb d_S_put_18 rfl (lv_at hl 0 rfl) ?_
    refine r_get E hP 0 fl_S_20 rfl rfl d_S_put_19 ?_
    refine lv_iload_n hx hb d_S_put_22 rfl (lv_at hl 1 rfl) ?_
    refine lv_i2b (v := p0.toInt8.toInt32) hx hb d_S_put_23 rfl ?_
    refine r_bast E hP hD hS 1 rfl (by omega) (by decide) (y := p0.toInt8.toInt32) (pk_vb _) (ws' := [(h, .inr (3, [.ref sr, .ref ss, .int (nI fl), .int (nI sz)])), (sr, .inl (cB, 259, .inl (upd f fl p0.toInt8.toInt32)))]) rfl d_S_put_24 (fun H locs hP hD hS => ?_)
    refine lv_aload_n hx hb d_S_put_25 rfl (lv_at hl 0 rfl) ?_
    refine lv_dup hx hb d_S_put_26 rfl ?_
    refine r_get E hP 0 fl_S_20 rfl rfl d_S_put_27 ?_
    refine lv_iconst (v := nI 1) hx hb d_S_put_30 (by decide +kernel) ?_
    refine r_iadd hx hb d_S_put_31 ?_
    refine r_put E hP hD hS 0 fl_S_20 rfl rfl (rfl) (rfl) (ws' := [(h, .inr (3, [.ref sr, .ref ss, .int (nI (fl + 1)), .int (nI sz)])), (sr, .inl (cB, 259, .inl (upd f fl p0.toInt8.toInt32)))]) rfl d_S_put_32 (fun H locs hP hD hS => ?_)
    refine lv_aload_n hx hb d_S_put_35 rfl (lv_at hl 0 rfl) ?_
    refine r_get E hP 0 fl_S_20 rfl rfl d_S_put_36 ?_
    exact r_iret E hr hlk hP hD hS (rfl) ((fl + 1, upd f fl p0.toInt8.toInt32)) rfl (⟨fun z => absurd z c9, fun _ => ⟨rfl, rfl⟩⟩) d_S_put_39
  · skip
    refine lv_iconst (v := (-1)) hx hb d_S_put_12 (by decide +kernel) ?_
    exact r_iret E hr hlk hP hD hS (rfl) ((fl, f)) rfl (⟨fun _ => ⟨rfl, rfl⟩, fun z => absurd c9 z⟩) d_S_put_13

abbrev rm_S_lay : Room := { frames := 0, cells := 0, slots := 0, locals := 0 }
set_option maxHeartbeats 4000000 in
set_option maxRecDepth 100000 in
theorem L_S_lay_3 (l : Launch) (D : va_G) (cB cI : ClassId) (h sr ss fl sz : Nat) (g0 : Nat → Int32) (w : Nat) (h_w : w < 2 ^ 64) (h_sz : sz + 8 ≤ 306) {p : Program} {e : Env} {s : State} {m : MethodId} {args : Array Value} {below : List Frame} {meth : Method} {c : Code} {A : Nat → Prop} {Q : State → Prop} (E : Ev p m c b_S_lay 4 s args "CodeBlocks$Sender" D cB cI) (hA : ∀ q : Nat, s.heap.size ≤ q → A q)
    (K : ∀ (g : Nat → Int32) (H : Heap) (locs : List Loc) (ls : Array Slot), ((∀ j, j < sz → g j = g0 j) ∧ ∀ t, t < 8 → bN (g (sz + t)) = w / 2 ^ (56 - 8 * t) % 256) → va_P D classes [(h, .inr (3, [.ref sr, .ref ss, .int (nI fl), .int (nI (sz + 8))])), (ss, .inl (cB, 306, .inl g))] H → va_D A [(h, .inr (3, [.ref sr, .ref ss, .int (nI fl), .int (nI (sz + 8))])), (ss, .inl (cB, 306, .inl g))] → va_S A s.heap H locs → lv_has ls 4 [(0, .ref h)] → W p l e rm_S_lay s m args below meth c H locs 0 0 Q (F0 m 37 ls [])) :
    ∀ (n : Nat) (i : Nat) (g : Nat → Int32) (H : Heap) (locs : List Loc) (ls : Array Slot), (i + n = 8 ∧ (∀ j, j < sz → g j = g0 j) ∧ ∀ t, t < i → bN (g (sz + t)) = w / 2 ^ (56 - 8 * t) % 256) → va_P D classes [(h, .inr (3, [.ref sr, .ref ss, .int (nI fl), .int (nI (sz + i))])), (ss, .inl (cB, 306, .inl g))] H → va_D A [(h, .inr (3, [.ref sr, .ref ss, .int (nI fl), .int (nI (sz + i))])), (ss, .inl (cB, 306, .inl g))] → va_S A s.heap H locs → lv_has ls 4 [(0, .ref h), (1, .long (lN w)), (3, .int (kd8 n))] → W p l e rm_S_lay s m args below meth c H locs 0 0 Q (F0 m 3 ls []) := by
  have hx := E.1.1
  have hb := E.1.2.1
  intro n
  induction n with
  | zero =>
    intro i g H locs ls hi hP hD hS hl
    obtain ⟨i1, i2, i3⟩ := hi
    obtain rfl : i = 8 := by omega
    have hl : lv_has ls 4 [(0, .ref h), (1, .long (lN w)), (3, .int (-8))] := hl
    refine lv_iload_n hx hb d_S_lay_3 rfl (lv_at hl 2 rfl) ?_
    refine lv_if_lt (tgt := 37) hx hb d_S_lay_4 (by decide) (fun c4 => ?_) (fun c4 => False.elim (c4 (by decide)))
    exact K g H locs ls (⟨i2, i3⟩) hP hD hS (lv_sub hl [0] rfl)
  | succ n ih =>
    intro i g H locs ls hi hP hD hS hl
    obtain ⟨i1, i2, i3⟩ := hi
    have hl : lv_has ls 4 [(0, .ref h), (1, .long (lN w)), (3, .int (nI (8 * n)))] := hl
    refine lv_iload_n hx hb d_S_lay_3 rfl (lv_at hl 2 rfl) ?_
    refine r_if_lt hx hb (by omega) (tgt := 37) d_S_lay_4 (by decide) ?_
    refine lv_aload_n hx hb d_S_lay_7 rfl (lv_at hl 0 rfl) ?_
    refine r_get E hP 0 fl_S_17 rfl rfl d_S_lay_8 ?_
    refine lv_aload_n hx hb d_S_lay_11 rfl (lv_at hl 0 rfl) ?_
    refine r_get E hP 0 fl_S_24 rfl rfl d_S_lay_12 ?_
    refine lv_lload_n hx hb d_S_lay_15 rfl (lv_at hl 1 rfl) ?_
    refine lv_iload_n hx hb d_S_lay_16 rfl (lv_at hl 2 rfl) ?_
    refine lv_lshr (v := (lN w) >>> ((nI (8 * n)).toInt64 &&& 63)) hx hb d_S_lay_17 rfl ?_
    refine lv_l2i (v := ((lN w) >>> ((nI (8 * n)).toInt64 &&& 63)).toInt32) hx hb d_S_lay_18 rfl ?_
    refine lv_i2b (v := (((lN w) >>> ((nI (8 * n)).toInt64 &&& 63)).toInt32).toInt8.toInt32) hx hb d_S_lay_19 rfl ?_
    refine r_bast E hP hD hS 1 rfl (by omega) (by decide) (y := (lN w >>> ((nI (8 * n)).toInt64 &&& 63)).toInt32.toInt8.toInt32) (pk_vb _) (ws' := [(h, .inr (3, [.ref sr, .ref ss, .int (nI fl), .int (nI (sz + i))])), (ss, .inl (cB, 306, .inl (upd g (sz + i) ((lN w >>> ((nI (8 * n)).toInt64 &&& 63)).toInt32.toInt8.toInt32))))]) rfl d_S_lay_20 (fun H locs hP hD hS => ?_)
    refine lv_aload_n hx hb d_S_lay_21 rfl (lv_at hl 0 rfl) ?_
    refine lv_dup hx hb d_S_lay_22 rfl ?_
    refine r_get E hP 0 fl_S_24 rfl rfl d_S_lay_23 ?_
    refine lv_iconst (v := nI 1) hx hb d_S_lay_26 (by decide +kernel) ?_
    refine r_iadd hx hb d_S_lay_27 ?_
    refine r_put E hP hD hS 0 fl_S_24 rfl rfl (rfl) (rfl) (ws' := [(h, .inr (3, [.ref sr, .ref ss, .int (nI fl), .int (nI ((sz + i) + 1))])), (ss, .inl (cB, 306, .inl (upd g (sz + i) ((lN w >>> ((nI (8 * n)).toInt64 &&& 63)).toInt32.toInt8.toInt32))))]) rfl d_S_lay_28 (fun H locs hP hD hS => ?_)
    refine lv_iinc (v := kd8 n) (lv' := [(3, .int (kd8 n)), (0, .ref h), (1, .long (lN w))]) hx hb d_S_lay_31 hl (k := 2) rfl (kd8_pred n) (by decide) rfl (fun ls hl => ?_)
    refine lv_goto (tgt := 3) hx hb d_S_lay_34 (by decide) ?_
    exact ih (i + 1) (upd g (sz + i) (lN w >>> ((nI (8 * n)).toInt64 &&& 63)).toInt32.toInt8.toInt32) H locs ls (⟨by omega, fun j hj => by rw [upd_n (by omega)]; exact i2 j hj, fun t ht => by by_cases hti : t = i; (subst hti; rw [upd_s, bN_sh h_w (by omega), show 8 * n = 56 - 8 * t by omega]); (rw [upd_n (by omega)]; exact i3 t (by omega))⟩) hP hD hS (lv_sub hl [1, 2, 0] rfl)

set_option maxHeartbeats 4000000 in
set_option maxRecDepth 100000 in
/-- lay(w): eight bytes -/
theorem c_S_lay (l : Launch) (D : va_G) (cB cI : ClassId) (h sr ss fl sz : Nat) (g0 : Nat → Int32) (w : Nat) (h_w : w < 2 ^ 64) (h_sz : sz + 8 ≤ 306) : MV l D cB cI y_S_lay b_S_lay 4 none rm_S_lay [.ref h, .long (lN w)] [(h, .inr (3, [.ref sr, .ref ss, .int (nI fl), .int (nI sz)])), (ss, .inl (cB, 306, .inl g0))] (fun (u : Nat → Int32) => (∀ j, j < sz → u j = g0 j) ∧ ∀ t, t < 8 → bN (u (sz + t)) = w / 2 ^ (56 - 8 * t) % 256) (fun u => [(h, .inr (3, [.ref sr, .ref ss, .int (nI fl), .int (nI (sz + 8))])), (ss, .inl (cB, 306, .inl u))]) := by
  refine m_entryV (by decide +kernel) (Nat.le_of_ble_eq_true rfl) ?_
  intro p e s m below meth c ls A E hr hlk hnm hA hP hD hl
  have hx := E.1.1
  have hb := E.1.2.1
  have hS : va_S A s.heap s.heap [] := va_S.rf
  have hl : lv_has ls 4 [(0, .ref h), (1, .long (lN w))] := hl
  refine lv_bipush (v := nI 56) hx hb d_S_lay_0 (by decide +kernel) ?_
  refine lv_istore_n (lv' := [(3, .int (nI 56)), (0, .ref h), (1, .long (lN w))]) hx hb d_S_lay_2 rfl hl (by decide) rfl (fun ls hl => ?_)
  refine L_S_lay_3 l D cB cI h sr ss fl sz g0 w h_w h_sz E hA (fun g H locs ls i1 hP hD hS hl => ?_) 8 0 g0 _ _ ls ⟨by omega, fun j _ => rfl, fun t ht => by omega⟩ hP hD hS (lv_sub hl [1, 2, 0] rfl)
  exact r_vret E hr hlk hP hD hS (g) rfl (i1) d_S_lay_37

abbrev rm_S_send : Room := { frames := 2, cells := 0, slots := 0, locals := 45 }
set_option maxHeartbeats 4000000 in
set_option maxRecDepth 100000 in
theorem L_S_send_45 (l : Launch) (D : va_G) (cB cI : ClassId) (h sr ss fl : Nat) (f : Nat → Int32) (h_fl : fl ≤ 259) (q : Nat) (h_q : 7 * q < fl) (g : Nat → Int32) {p : Program} {e : Env} {s : State} {m : MethodId} {args : Array Value} {below : List Frame} {meth : Method} {c : Code} {A : Nat → Prop} {Q : State → Prop} (E : Ev p m c b_S_send 5 s args "CodeBlocks$Sender" D cB cI) (hA : ∀ q : Nat, s.heap.size ≤ q → A q)
    (K : ∀ (H : Heap) (locs : List Loc) (ls : Array Slot), (True) → va_P D classes [(h, .inr (3, [.ref sr, .ref ss, .int (nI fl), .int (nI (2 + 8 * q))])), (sr, .inl (cB, 259, .inl f)), (ss, .inl (cB, 306, .inl g))] H → va_D A [(h, .inr (3, [.ref sr, .ref ss, .int (nI fl), .int (nI (2 + 8 * q))])), (sr, .inl (cB, 259, .inl f)), (ss, .inl (cB, 306, .inl g))] → va_S A s.heap H locs → lv_has ls 5 [(0, .ref h), (1, .int (nI (7 * q))), (2, .long (lN (dv (pd f fl) (7 * q) 7)))] → W p l e rm_S_send s m args below meth c H locs 0 0 Q (F0 m 94 ls [])) :
    ∀ (n : Nat) (k : Nat) (H : Heap) (locs : List Loc) (ls : Array Slot), (k + n = 7) → va_P D classes [(h, .inr (3, [.ref sr, .ref ss, .int (nI fl), .int (nI (2 + 8 * q))])), (sr, .inl (cB, 259, .inl f)), (ss, .inl (cB, 306, .inl g))] H → va_D A [(h, .inr (3, [.ref sr, .ref ss, .int (nI fl), .int (nI (2 + 8 * q))])), (sr, .inl (cB, 259, .inl f)), (ss, .inl (cB, 306, .inl g))] → va_S A s.heap H locs → lv_has ls 5 [(0, .ref h), (1, .int (nI (7 * q))), (2, .long (lN (dv (pd f fl) (7 * q) k))), (4, .int (nI k))] → W p l e rm_S_send s m args below meth c H locs 0 0 Q (F0 m 45 ls []) := by
  have hx := E.1.1
  have hb := E.1.2.1
  intro n
  induction n with
  | zero =>
    intro k H locs ls hi hP hD hS hl
    obtain rfl : k = 7 := by omega
    have hl : lv_has ls 5 [(0, .ref h), (1, .int (nI (7 * q))), (2, .long (lN (dv (pd f fl) (7 * q) 7))), (4, .int (nI 7))] := hl
    refine lv_iload hx hb d_S_send_45 (lv_at hl 3 rfl) ?_
    refine lv_bipush (v := nI 7) hx hb d_S_send_47 (by decide +kernel) ?_
    refine r_icmp_ge (tgt := 94) hx hb ⟨by omega, by omega⟩ d_S_send_49 (by decide) (fun c49 => ?_) (fun c49 => False.elim (by omega))
    exact K  H locs ls (trivial) hP hD hS (lv_sub hl [0, 1, 2] rfl)
  | succ n ih =>
    intro k H locs ls hi hP hD hS hl
    refine lv_iload hx hb d_S_send_45 (lv_at hl 3 rfl) ?_
    refine lv_bipush (v := nI 7) hx hb d_S_send_47 (by decide +kernel) ?_
    refine r_icmp_ge (tgt := 94) hx hb ⟨by omega, by omega⟩ d_S_send_49 (by decide) (fun c49 => False.elim (by omega)) (fun c49 => ?_)
    refine lv_lload_n hx hb d_S_send_52 rfl (lv_at hl 2 rfl) ?_
    refine lv_bipush (v := nI 8) hx hb d_S_send_53 (by decide +kernel) ?_
    refine lv_lshl (v := lN (dv (pd f fl) (7 * q) k * 256)) hx hb d_S_send_55 (wb_shl _ (by decide)) ?_
    refine lv_iload_n hx hb d_S_send_56 rfl (lv_at hl 1 rfl) ?_
    refine lv_iload hx hb d_S_send_57 (lv_at hl 3 rfl) ?_
    refine r_iadd hx hb d_S_send_59 ?_
    refine lv_aload_n hx hb d_S_send_60 rfl (lv_at hl 0 rfl) ?_
    refine r_get E hP 0 fl_S_20 rfl rfl d_S_send_61 ?_
    refine r_merge (rest := [.long (lN (dv (pd f fl) (7 * q) k * 256))]) (ls := ls) 85 (fun v => v = nI (pd f fl (7 * q + k))) (fun v hv => ?_) (fun J => ?_)
    · subst hv
      refine lv_i2l (v := lN (pd f fl (7 * q + k))) hx hb d_S_send_85 (nI_l (Nat.lt_trans (pd_lt _ _ _) (by decide))) ?_
      refine lv_lor hx hb d_S_send_86 ?_
      refine r_topl (y := lN (dv (pd f fl) (7 * q) (k + 1))) (g_or (k := 8) (by decide) (pd_lt _ _ _) (by have := dv_lt6 f fl (7 * q) k (by omega); have := pd_lt f fl (7 * q + k); omega)) ?_
      refine lv_lstore_n (lv' := [(2, .long (lN (dv (pd f fl) (7 * q) (k + 1)))), (0, .ref h), (1, .int (nI (7 * q))), (4, .int (nI k))]) hx hb d_S_send_87 rfl hl (by decide) rfl (fun ls hl => ?_)
      refine lv_iinc (v := nI (k + 1)) (lv' := [(4, .int (nI (k + 1))), (2, .long (lN (dv (pd f fl) (7 * q) (k + 1)))), (0, .ref h), (1, .int (nI (7 * q)))]) hx hb d_S_send_88 hl (k := 3) rfl (nI_add _ _) (by decide) rfl (fun ls hl => ?_)
      refine lv_goto (tgt := 45) hx hb d_S_send_91 (by decide) ?_
      exact ih (k + 1) H locs ls (by omega) hP hD hS (lv_sub hl [2, 3, 1, 0] rfl)
    · skip
      refine r_icmp_ge (tgt := 83) hx hb ⟨by omega, by omega⟩ d_S_send_64 (by decide) (fun c64 => ?_) (fun c64 => ?_)
      · skip
        refine lv_bipush (v := nI 85) hx hb d_S_send_83 (by decide +kernel) ?_
        exact J _ (by rw [pd, if_neg (by omega)])
      · skip
        refine lv_aload_n hx hb d_S_send_67 rfl (lv_at hl 0 rfl) ?_
        refine r_get E hP 0 fl_S_11 rfl rfl d_S_send_68 ?_
        refine lv_iload_n hx hb d_S_send_71 rfl (lv_at hl 1 rfl) ?_
        refine lv_iload hx hb d_S_send_72 (lv_at hl 3 rfl) ?_
        refine r_iadd hx hb d_S_send_74 ?_
        refine r_bald E hP 1 rfl (by omega) (by decide) d_S_send_75 ?_
        refine lv_sipush (v := nI 255) hx hb d_S_send_76 (by decide +kernel) ?_
        refine lv_iand hx hb d_S_send_79 ?_
        refine r_topi (y := nI (bN (f (7 * q + k)))) (bN_and _) ?_
        refine lv_goto (tgt := 85) hx hb d_S_send_80 (by decide) ?_
        exact J _ (by rw [pd, if_pos (by omega)])

set_option maxHeartbeats 4000000 in
set_option maxRecDepth 100000 in
theorem L_S_send_32 (l : Launch) (D : va_G) (cB cI : ClassId) (h sr ss fl : Nat) (f : Nat → Int32) (h_fl : fl ≤ 259) {p : Program} {e : Env} {s : State} {m : MethodId} {args : Array Value} {below : List Frame} {meth : Method} {c : Code} {A : Nat → Prop} {Q : State → Prop} (E : Ev p m c b_S_send 5 s args "CodeBlocks$Sender" D cB cI) (hA : ∀ q : Nat, s.heap.size ≤ q → A q)
    (K : ∀ (g : Nat → Int32) (H : Heap) (locs : List Loc) (ls : Array Slot), (∀ j, j < 2 + 8 * ((fl + 6) / 7) → bN (g j) = en f fl j) → va_P D classes [(h, .inr (3, [.ref sr, .ref ss, .int (nI fl), .int (nI (2 + 8 * ((fl + 6) / 7)))])), (sr, .inl (cB, 259, .inl f)), (ss, .inl (cB, 306, .inl g))] H → va_D A [(h, .inr (3, [.ref sr, .ref ss, .int (nI fl), .int (nI (2 + 8 * ((fl + 6) / 7)))])), (sr, .inl (cB, 259, .inl f)), (ss, .inl (cB, 306, .inl g))] → va_S A s.heap H locs → lv_has ls 5 [(0, .ref h)] → W p l e rm_S_send s m args below meth c H locs 0 0 Q (F0 m 108 ls [])) :
    ∀ (n : Nat) (q : Nat) (g : Nat → Int32) (H : Heap) (locs : List Loc) (ls : Array Slot), (q + n = (fl + 6) / 7 ∧ ∀ j, j < 2 + 8 * q → bN (g j) = en f fl j) → va_P D classes [(h, .inr (3, [.ref sr, .ref ss, .int (nI fl), .int (nI (2 + 8 * q))])), (sr, .inl (cB, 259, .inl f)), (ss, .inl (cB, 306, .inl g))] H → va_D A [(h, .inr (3, [.ref sr, .ref ss, .int (nI fl), .int (nI (2 + 8 * q))])), (sr, .inl (cB, 259, .inl f)), (ss, .inl (cB, 306, .inl g))] → va_S A s.heap H locs → lv_has ls 5 [(0, .ref h), (1, .int (nI (7 * q)))] → W p l e rm_S_send s m args below meth c H locs 0 0 Q (F0 m 32 ls []) := by
  have hx := E.1.1
  have hb := E.1.2.1
  intro n
  induction n with
  | zero =>
    intro q g H locs ls hi hP hD hS hl
    obtain ⟨i1, i2⟩ := hi
    obtain rfl : q = (fl + 6) / 7 := by omega
    have hl : lv_has ls 5 [(0, .ref h), (1, .int (nI (7 * ((fl + 6) / 7))))] := hl
    refine lv_iload_n hx hb d_S_send_32 rfl (lv_at hl 1 rfl) ?_
    refine lv_aload_n hx hb d_S_send_33 rfl (lv_at hl 0 rfl) ?_
    refine r_get E hP 0 fl_S_20 rfl rfl d_S_send_34 ?_
    refine r_icmp_ge (tgt := 108) hx hb ⟨by omega, by omega⟩ d_S_send_37 (by decide) (fun c37 => ?_) (fun c37 => False.elim (by omega))
    exact K g H locs ls (i2) hP hD hS (lv_sub hl [0] rfl)
  | succ n ih =>
    intro q g H locs ls hi hP hD hS hl
    obtain ⟨i1, i2⟩ := hi
    refine lv_iload_n hx hb d_S_send_32 rfl (lv_at hl 1 rfl) ?_
    refine lv_aload_n hx hb d_S_send_33 rfl (lv_at hl 0 rfl) ?_
    refine r_get E hP 0 fl_S_20 rfl rfl d_S_send_34 ?_
    refine r_icmp_ge (tgt := 108) hx hb ⟨by omega, by omega⟩ d_S_send_37 (by decide) (fun c37 => False.elim (by omega)) (fun c37 => ?_)
    refine lv_lconst (v := lN 0) hx hb d_S_send_40 (by decide +kernel) ?_
    refine lv_lstore_n (lv' := [(2, .long (lN 0)), (0, .ref h), (1, .int (nI (7 * q)))]) hx hb d_S_send_41 rfl hl (by decide) rfl (fun ls hl => ?_)
    refine lv_iconst (v := nI 0) hx hb d_S_send_42 (by decide +kernel) ?_
    refine lv_istore (lv' := [(4, .int (nI 0)), (2, .long (lN 0)), (0, .ref h), (1, .int (nI (7 * q)))]) hx hb d_S_send_43 hl (by decide) rfl (fun ls hl => ?_)
    refine L_S_send_45 l D cB cI h sr ss fl f h_fl q c37 g E hA (fun H locs ls _ hP hD hS hl => ?_) 7 0 _ _ ls (by omega) hP hD hS (lv_sub hl [2, 3, 1, 0] rfl)
    refine lv_aload_n hx hb d_S_send_94 rfl (lv_at hl 0 rfl) ?_
    refine lv_lload_n hx hb d_S_send_95 rfl (lv_at hl 2 rfl) ?_
    refine r_callSL (wr := [(h, .inr (3, [.ref sr, .ref ss, .int (nI fl), .int (nI (2 + 8 * q))])), (sr, .inl (cB, 259, .inl f)), (ss, .inl (cB, 306, .inl g))]) (rest := [.ref h]) E cs_S_27 (c_C_block l D cB cI (dv (pd f fl) (7 * q) 7) (dv_lt7 _ _ _ _ (by decide))) hP hD hS hA [] [0, 1, 2] ⟨rfl, rfl, by decide, by decide, by decide⟩ hl.1 rfl rfl (Nat.le_of_ble_eq_true rfl) ⟨by decide, by decide⟩ ⟨by decide, by decide⟩ d_S_send_96 (fun r u H locs hw hP hD hS => ?_)
    subst hw
    have hP : va_P D classes [(h, .inr (3, [.ref sr, .ref ss, .int (nI fl), .int (nI (2 + 8 * q))])), (sr, .inl (cB, 259, .inl f)), (ss, .inl (cB, 306, .inl g))] H := hP.sub [0, 1, 2] rfl
    have hD : va_D A [(h, .inr (3, [.ref sr, .ref ss, .int (nI fl), .int (nI (2 + 8 * q))])), (sr, .inl (cB, 259, .inl f)), (ss, .inl (cB, 306, .inl g))] := hD.sub [0, 1, 2] (by decide) rfl
    refine W.widen (k := 0) (n := 0) (Nat.le_of_ble_eq_true rfl) (Nat.le_of_ble_eq_true rfl) ?_
    refine r_callVV (wr := [(sr, .inl (cB, 259, .inl f))]) (rest := []) E cs_S_33 (c_S_lay l D cB cI h sr ss fl (2 + 8 * q) g (blk (dv (pd f fl) (7 * q) 7)) (blk_lt (dv_lt7 _ _ _ _ (by decide))) (by omega)) hP hD hS hA [0, 2] [1] ⟨rfl, rfl, by decide, by decide, by decide⟩ kc_S rfl hl.1 rfl rfl (Nat.le_of_ble_eq_true rfl) ⟨by decide, by decide⟩ ⟨by decide, by decide⟩ d_S_send_99 (fun u H locs hw hP hD hS => ?_)
    obtain ⟨j1, j2⟩ := hw
    have hP : va_P D classes [(h, .inr (3, [.ref sr, .ref ss, .int (nI fl), .int (nI (2 + 8 * q + 8))])), (sr, .inl (cB, 259, .inl f)), (ss, .inl (cB, 306, .inl u))] H := hP.sub [1, 0, 2] rfl
    have hD : va_D A [(h, .inr (3, [.ref sr, .ref ss, .int (nI fl), .int (nI (2 + 8 * q + 8))])), (sr, .inl (cB, 259, .inl f)), (ss, .inl (cB, 306, .inl u))] := hD.sub [1, 0, 2] (by decide) rfl
    refine W.widen (k := 0) (n := 0) (Nat.le_of_ble_eq_true rfl) (Nat.le_of_ble_eq_true rfl) ?_
    refine lv_iinc (v := nI (7 * (q + 1))) (lv' := [(1, .int (nI (7 * (q + 1)))), (0, .ref h), (2, .long (lN (dv (pd f fl) (7 * q) 7)))]) hx hb d_S_send_102 hl (k := 1) rfl ((nI_add (7 * q) 7).trans (congrArg nI (by omega))) (by decide) rfl (fun ls hl => ?_)
    refine lv_goto (tgt := 32) hx hb d_S_send_105 (by decide) ?_
    exact ih (q + 1) u H locs ls ⟨by omega, en_grow i2 j1 j2 (ew_in c37)⟩ hP hD hS (lv_sub hl [1, 0] rfl)

set_option maxHeartbeats 4000000 in
set_option maxRecDepth 100000 in
/-- send() -/
theorem c_S_send (l : Launch) (D : va_G) (cB cI : ClassId) (h sr ss fl sz : Nat) (f g : Nat → Int32) (h_fl : fl ≤ 259) : MI l D cB cI y_S_send b_S_send 5 (some .int) rm_S_send [.ref h] [(h, .inr (3, [.ref sr, .ref ss, .int (nI fl), .int (nI sz)])), (sr, .inl (cB, 259, .inl f)), (ss, .inl (cB, 306, .inl g))] (fun (v : Int32) (u : Nat × Nat × (Nat → Int32)) => (fl = 0 → v = -1 ∧ u = (fl, sz, g)) ∧ (fl ≠ 0 → v = nI (10 + 8 * ((fl + 6) / 7)) ∧ u.1 = 0 ∧ u.2.1 = 10 + 8 * ((fl + 6) / 7) ∧ ∀ j, j < 10 + 8 * ((fl + 6) / 7) → bN (u.2.2 j) = en f fl j)) (fun u => [(h, .inr (3, [.ref sr, .ref ss, .int (nI u.1), .int (nI u.2.1)])), (sr, .inl (cB, 259, .inl f)), (ss, .inl (cB, 306, .inl u.2.2))]) := by
  refine m_entryI (by decide +kernel) (Nat.le_of_ble_eq_true rfl) ?_
  intro p e s m below meth c ls A E hr hlk hnm hA hP hD hl
  have hx := E.1.1
  have hb := E.1.2.1
  have hS : va_S A s.heap s.heap [] := va_S.rf
  have hl : lv_has ls 5 [(0, .ref h)] := hl
  refine lv_aload_n hx hb d_S_send_0 rfl (lv_at hl 0 rfl) ?_
  refine r_get E hP 0 fl_S_20 rfl rfl d_S_send_1 ?_
  refine r_if_ne (tgt := 9) hx hb (by omega) d_S_send_4 (by decide) (fun c4 => ?_) (fun c4 => ?_)
  · skip
    refine lv_aload_n hx hb d_S_send_9 rfl (lv_at hl 0 rfl) ?_
    refine r_get E hP 0 fl_S_17 rfl rfl d_S_send_10 ?_
    refine lv_iconst (v := nI 0) hx hb d_S_send_13 (by decide +kernel) ?_
    refine lv_bipush (v := (-21)) hx hb d_S_send_14 (by decide +kernel) ?_
    refine r_bast E hP hD hS 2 rfl (by omega) (by decide) (y := (-21)) (by decide +kernel) (ws' := [(h, .inr (3, [.ref sr, .ref ss, .int (nI fl), .int (nI sz)])), (sr, .inl (cB, 259, .inl f)), (ss, .inl (cB, 306, .inl (upd g 0 (-21))))]) rfl d_S_send_16 (fun H locs hP hD hS => ?_)
    refine lv_aload_n hx hb d_S_send_17 rfl (lv_at hl 0 rfl) ?_
    refine r_get E hP 0 fl_S_17 rfl rfl d_S_send_18 ?_
    refine lv_iconst (v := nI 1) hx hb d_S_send_21 (by decide +kernel) ?_
    refine lv_bipush (v := (-112)) hx hb d_S_send_22 (by decide +kernel) ?_
    refine r_bast E hP hD hS 2 rfl (by omega) (by decide) (y := (-112)) (by decide +kernel) (ws' := [(h, .inr (3, [.ref sr, .ref ss, .int (nI fl), .int (nI sz)])), (sr, .inl (cB, 259, .inl f)), (ss, .inl (cB, 306, .inl (upd (upd g 0 (-21)) 1 (-112))))]) rfl d_S_send_24 (fun H locs hP hD hS => ?_)
    refine lv_aload_n hx hb d_S_send_25 rfl (lv_at hl 0 rfl) ?_
    refine lv_iconst (v := nI 2) hx hb d_S_send_26 (by decide +kernel) ?_
    refine r_put E hP hD hS 0 fl_S_24 rfl rfl (rfl) (rfl) (ws' := [(h, .inr (3, [.ref sr, .ref ss, .int (nI fl), .int (nI 2)])), (sr, .inl (cB, 259, .inl f)), (ss, .inl (cB, 306, .inl (upd (upd g 0 (-21)) 1 (-112))))]) rfl d_S_send_27 (fun H locs hP hD hS => ?_)
    refine lv_iconst (v := nI 0) hx hb d_S_send_30 (by decide +kernel) ?_
    refine lv_istore_n (lv' := [(1, .int (nI 0)), (0, .ref h)]) hx hb d_S_send_31 rfl hl (by decide) rfl (fun ls hl => ?_)
    refine L_S_send_32 l D cB cI h sr ss fl f h_fl E hA (fun g H locs ls i2 hP hD hS hl => ?_) ((fl + 6) / 7) 0 _ _ _ ls ⟨by omega, fun j hj => by rcases (show j = 0 ∨ j = 1 by omega) with rfl | rfl; exact (congrArg bN (upd_n (by decide))).trans ((congrArg bN upd_s).trans (show bN (-21) = 235 from by decide +kernel)); exact (congrArg bN upd_s).trans (show bN (-112) = 144 from by decide +kernel)⟩ hP hD hS (lv_sub hl [1, 0] rfl)
    refine lv_aload_n hx hb d_S_send_108 rfl (lv_at hl 0 rfl) ?_
    refine lv_ldc2 (v := -4195730024608447111) hx hb E.1.2.2.2.1 (E.1.2.2.2.2 _ k_196) d_S_send_109 ?_
    refine r_topl (y := lN 14251014049101104505) (by decide +kernel) ?_
    refine r_callVV (wr := [(sr, .inl (cB, 259, .inl f))]) (rest := []) E cs_S_33 (c_S_lay l D cB cI h sr ss fl (2 + 8 * ((fl + 6) / 7)) g 14251014049101104505 (by decide) (by omega)) hP hD hS hA [0, 2] [1] ⟨rfl, rfl, by decide, by decide, by decide⟩ kc_S rfl hl.1 rfl rfl (Nat.le_of_ble_eq_true rfl) ⟨by decide, by decide⟩ ⟨by decide, by decide⟩ d_S_send_112 (fun u H locs hw hP hD hS => ?_)
    obtain ⟨j1, j2⟩ := hw
    have hP : va_P D classes [(h, .inr (3, [.ref sr, .ref ss, .int (nI fl), .int (nI (2 + 8 * ((fl + 6) / 7) + 8))])), (sr, .inl (cB, 259, .inl f)), (ss, .inl (cB, 306, .inl u))] H := hP.sub [1, 0, 2] rfl
    have hD : va_D A [(h, .inr (3, [.ref sr, .ref ss, .int (nI fl), .int (nI (2 + 8 * ((fl + 6) / 7) + 8))])), (sr, .inl (cB, 259, .inl f)), (ss, .inl (cB, 306, .inl u))] := hD.sub [1, 0, 2] (by decide) rfl
    refine W.widen (k := 0) (n := 0) (Nat.le_of_ble_eq_true rfl) (Nat.le_of_ble_eq_true rfl) ?_
    refine lv_aload_n hx hb d_S_send_115 rfl (lv_at hl 0 rfl) ?_
    refine lv_iconst (v := nI 0) hx hb d_S_send_116 (by decide +kernel) ?_
    refine r_put E hP hD hS 0 fl_S_20 rfl rfl (rfl) (rfl) (ws' := [(h, .inr (3, [.ref sr, .ref ss, .int (nI 0), .int (nI (2 + 8 * ((fl + 6) / 7) + 8))])), (sr, .inl (cB, 259, .inl f)), (ss, .inl (cB, 306, .inl u))]) rfl d_S_send_117 (fun H locs hP hD hS => ?_)
    refine lv_aload_n hx hb d_S_send_120 rfl (lv_at hl 0 rfl) ?_
    refine r_get E hP 0 fl_S_24 rfl rfl d_S_send_121 ?_
    exact r_iret E hr hlk hP hD hS (rfl) ((0, 2 + 8 * ((fl + 6) / 7) + 8, u)) rfl (⟨fun z => absurd z c4, fun _ => ⟨congrArg nI (by omega), rfl, (show 2 + 8 * ((fl + 6) / 7) + 8 = _ by omega), fun j hj => en_grow i2 j1 j2 (ew_out (by omega)) j (by omega)⟩⟩) d_S_send_124
  · skip
    refine lv_iconst (v := (-1)) hx hb d_S_send_7 (by decide +kernel) ?_
    exact r_iret E hr hlk hP hD hS (rfl) ((fl, sz, g)) rfl (⟨fun _ => ⟨rfl, rfl⟩, fun z => absurd c4 z⟩) d_S_send_8
end
section
/-! taking bits, one after the other; reading by an index that may be out of range -/
def rc_take (w : Nat) : Nat → RC → RC × Nat
  | 0, u => (u, 0)
  | k + 1, u => ((rc_take w k (rc_bit (w / 2 ^ k % 2) u).1).1, (rc_bit (w / 2 ^ k % 2) u).2 + (rc_take w k (rc_bit (w / 2 ^ k % 2) u).1).2)
def rcE (u : RC) : Int32 := u.2.2.2.2.2.2.2.2.2.1
def RInv : RC → Prop := fun (ar, ag, st, sz, fl, sn, md, B, c0, c1, c2, c3, c4, f, g) => st ≤ 2 ∧ sz ≤ 259 ∧ fl ≤ 252 ∧ fl % 7 = 0 ∧ sn ≤ 64 ∧ md < 2 ∧ B < 2 ^ 64
theorem ri_end {ar ag st sz fl sn md B : Nat} {c0 c1 c2 c3 c4 : Int32} {f g : Nat → Int32} (h1 : sz ≤ 259) (h2 : fl ≤ 259) (h3 : md < 2) (h4 : B < 2 ^ 64) : RInv (rc_end (ar, ag, st, sz, fl, sn, md, B, c0, c1, c2, c3, c4, f, g)) := by
  by_cases h : fl = 0
  · rw [rce_0 h]; exact ⟨by omega, h1, by omega, by omega, by omega, h3, h4⟩
  · rw [rce_1 h]; exact ⟨by omega, h2, by omega, by omega, by omega, h3, h4⟩
theorem ri_block {u : RC} (h : RInv u) : RInv (rc_block u).1 := by
  obtain ⟨ar, ag, st, sz, fl, sn, md, B, c0, c1, c2, c3, c4, f, g⟩ := u
  obtain ⟨h1, h2, h3, h4, h5, h6, h7⟩ := h
  by_cases q : wt7 63 (syn B) = -1 ∨ (wt7 63 (syn B) ≠ -2 ∧ md ≠ 0)
  · by_cases q2 : fl + 7 = 259
    · rw [rcb_1 q q2]; exact ri_end (fl := fl + 7) (st := st) (sn := 0) h2 (by omega) h6 h7
    · rw [rcb_2 q q2]; exact ⟨h1, h2, by omega, by omega, by omega, h6, h7⟩
  · rw [rcb_0 q]; exact ri_end (fl := fl) (st := st) (sn := 0) h2 (by omega) h6 h7
theorem ri_mark {u : RC} (h : RInv u) : RInv (rc_mark u) := by
  obtain ⟨ar, ag, st, sz, fl, sn, md, B, c0, c1, c2, c3, c4, f, g⟩ := u
  by_cases q : hit B md
  · obtain ⟨h1, h2, h3, h4, h5, h6, h7⟩ := h
    rw [rcm_1 q]; exact ⟨by omega, h2, h3, h4, by omega, h6, h7⟩
  · rw [rcm_0 q]; exact h
theorem ri_bit {u : RC} (b : Nat) (h : RInv u) : RInv (rc_bit b u).1 := by
  obtain ⟨ar, ag, st, sz, fl, sn, md, B, c0, c1, c2, c3, c4, f, g⟩ := u
  obtain ⟨h1, h2, h3, h4, h5, h6, h7⟩ := h
  obtain ⟨k, hk⟩ : ∃ k, k = if sn < 64 then sn + 1 else sn := ⟨_, rfl⟩
  have hk64 : k ≤ 64 := by rw [hk]; split <;> omega
  have hB : (2 * B + b) % 2 ^ 64 < 2 ^ 64 := Nat.mod_lt _ (by decide)
  by_cases q : st = 2
  · by_cases q2 : k = 64
    · rw [rct_1 hk q q2]; exact ri_block (u := (ar, ag, st, sz, fl, k, md, (2 * B + b) % 2 ^ 64, c0, c1, c2, c3, c4, f, g)) ⟨h1, h2, h3, h4, hk64, h6, hB⟩
    · rw [rct_0 hk q q2]; exact ⟨h1, h2, h3, h4, hk64, h6, hB⟩
  · by_cases q2 : k < 16
    · rw [rct_2 hk q q2]; exact ⟨h1, h2, h3, h4, hk64, h6, hB⟩
    · rw [rct_3 hk q q2]; exact ri_mark (u := (ar, ag, st, sz, fl, k, md, (2 * B + b) % 2 ^ 64, c0, c1, c2, c3, c4, f, g)) ⟨h1, h2, h3, h4, hk64, h6, hB⟩
theorem ri_take {w : Nat} : ∀ k (u : RC), RInv u → RInv (rc_take w k u).1
  | 0, _, h => h
  | k + 1, u, h => ri_take k _ (ri_bit _ h)
theorem rcE_end (u : RC) : rcE (rc_end u) = rcE u + nI 1 := by
  obtain ⟨ar, ag, st, sz, fl, sn, md, B, c0, c1, c2, c3, c4, f, g⟩ := u
  by_cases h : fl = 0
  · rw [rce_0 h]; rfl
  · rw [rce_1 h]; rfl
theorem nI_z (x : Int32) : x = x + nI 0 := by rw [nI_0, Int32.add_zero]
theorem rcE_bit (b : Nat) (u : RC) : rcE (rc_bit b u).1 = rcE u + nI (rc_bit b u).2 := by
  obtain ⟨ar, ag, st, sz, fl, sn, md, B, c0, c1, c2, c3, c4, f, g⟩ := u
  obtain ⟨k, hk⟩ : ∃ k, k = if sn < 64 then sn + 1 else sn := ⟨_, rfl⟩
  by_cases q : st = 2
  · by_cases q2 : k = 64
    · rw [rct_1 hk q q2]
      generalize (2 * B + b) % 2 ^ 64 = B2
      by_cases r : wt7 63 (syn B2) = -1 ∨ (wt7 63 (syn B2) ≠ -2 ∧ md ≠ 0)
      · by_cases r2 : fl + 7 = 259
        · rw [rcb_1 r r2, rcE_end]; rfl
        · rw [rcb_2 r r2]; exact nI_z _
      · rw [rcb_0 r, rcE_end]; rfl
    · rw [rct_0 hk q q2]; exact nI_z _
  · by_cases q2 : k < 16
    · rw [rct_2 hk q q2]; exact nI_z _
    · rw [rct_3 hk q q2]
      generalize (2 * B + b) % 2 ^ 64 = B2
      by_cases r : hit B2 md
      · rw [rcm_1 r]; exact nI_z _
      · rw [rcm_0 r]; exact nI_z _
theorem rcE_take {w : Nat} : ∀ k (u : RC), rcE (rc_take w k u).1 = rcE u + nI (rc_take w k u).2
  | 0, u => nI_z _
  | k + 1, u => by
    show rcE (rc_take w k (rc_bit (w / 2 ^ k % 2) u).1).1 = _
    rw [rcE_take k, rcE_bit, Int32.add_assoc, nI_add]
    rfl
def rd (p : Int32) (n : Nat) (g : Nat → Int32) : Int32 := if p < 0 ∨ nI n ≤ p then -1 else g p.toNatClampNeg
theorem rd_lo {p : Int32} {n : Nat} {g : Nat → Int32} (h : p < 0) : rd p n g = -1 := if_pos (Or.inl h)
theorem rd_hi {p : Int32} {n : Nat} {g : Nat → Int32} (h : nI n ≤ p) : rd p n g = -1 := if_pos (Or.inr h)
theorem rd_in {j n : Nat} {g : Nat → Int32} (h : j < n) (hn : n < 2 ^ 31) : rd (nI j) n g = g j := by
  unfold rd
  rw [if_neg (fun z => z.elim (nI_pos (by omega)) (nI_ge h hn)), nI_clamp (by omega)]
theorem rd_eq {p : Int32} {n : Nat} {g g' : Nat → Int32} (hn : n < 2 ^ 31) (h : ∀ j, j < n → g j = g' j) : rd p n g = rd p n g' := by
  rcases pk_ix p hn with q | q | ⟨j, hj, rfl⟩
  · rw [rd_lo q, rd_lo q]
  · rw [rd_hi q, rd_hi q]
  · rw [rd_in hj hn, rd_in hj hn, h j hj]
def cN (c0 c1 c2 c3 c4 : Int32) : Nat → Int32
  | 0 => c0
  | 1 => c1
  | 2 => c2
  | 3 => c3
  | _ => c4
theorem k64 {p : Int32} (h1 : ¬ p < nI 1) (h2 : p ≤ nI 64) : ∃ k, 1 ≤ k ∧ k ≤ 64 ∧ p = nI k := by
  obtain ⟨j, hj, rfl⟩ := nI_of2 (n := 64) (M := nI 64) (by decide +kernel) (fun z => h1 (Int32.lt_trans z (by decide +kernel))) h2
  exact ⟨j, Classical.byContradiction fun z => h1 (by rw [show j = 0 by omega]; decide +kernel), hj, rfl⟩
theorem i_sub (x y : Int32) : x + y - x = y := by rw [Int32.add_comm, Int32.add_sub_cancel]
theorem kd_of {k : Nat} (h : 1 ≤ k) : nI (k - 1) = kd k := by
  obtain ⟨z, rfl⟩ : ∃ z, k = z + 1 := ⟨k - 1, by omega⟩
  rfl
end
section
abbrev rm_X_turn : Room := { frames := 1, cells := 0, slots := 0, locals := 20 }
set_option maxHeartbeats 4000000 in
set_option maxRecDepth 100000 in
/-- turn(on) -/
theorem c_X_turn (l : Launch) (D : va_G) (cB cI : ClassId) (ax hs : Nat) (h ac ar ag st sz fl sn md B : Nat) (c0 c1 c2 c3 c4 : Int32) (on : Nat) (h_on : on < 2) (h_st : st ≤ 2) : MI l D cB cI y_X_turn b_X_turn 2 (some .boolean) rm_X_turn [.ref ax, .int (nI on)] [(ax, .inr (0, [.ref h, .ref hs])), (h, .inr (2, [.ref ac, .ref ar, .ref ag, .int (nI st), .int (nI sz), .int (nI fl), .int (nI sn), .int (nI md), .long (lN B), .int c0, .int c1, .int c2, .int c3, .int c4]))] (fun (v : Int32) (u : Nat × Nat × Nat) => if on = (if st = 0 then 0 else 1) then v = nI 0 ∧ u = (st, fl, sn) else v = nI 1 ∧ u = (on, 0, 0)) (fun u => [(ax, .inr (0, [.ref h, .ref hs])), (h, .inr (2, [.ref ac, .ref ar, .ref ag, .int (nI u.1), .int (nI sz), .int (nI u.2.1), .int (nI u.2.2), .int (nI md), .long (lN B), .int c0, .int c1, .int c2, .int c3, .int c4]))]) := by
  refine m_entryI (by decide +kernel) (Nat.le_of_ble_eq_true rfl) ?_
  intro p e s m below meth c ls A E hr hlk hnm hA hP hD hl
  have hx := E.1.1
  have hb := E.1.2.1
  have hS : va_S A s.heap s.heap [] := va_S.rf
  have hl : lv_has ls 2 [(0, .ref ax), (1, .int (nI on))] := hl
  refine lv_iload_n hx hb d_X_turn_0 rfl (lv_at hl 1 rfl) ?_
  refine lv_aload_n hx hb d_X_turn_1 rfl (lv_at hl 0 rfl) ?_
  refine r_get E hP 0 fl_X_15 rfl rfl d_X_turn_2 ?_
  refine r_getN E hP 1 fn_28 rfl rfl d_X_turn_5 ?_
  refine r_merge (rest := [.int (nI on)]) (ls := ls) 16 (fun v => v = nI (if st = 0 then 0 else 1)) (fun v hv => ?_) (fun J => ?_)
  · subst hv
    refine r_icmp_ne (tgt := 21) hx hb ⟨by omega, by split <;> omega⟩ d_X_turn_16 (by decide) (fun c16 => ?_) (fun c16 => ?_)
    · skip
      refine lv_aload_n hx hb d_X_turn_21 rfl (lv_at hl 0 rfl) ?_
      refine r_get E hP 0 fl_X_15 rfl rfl d_X_turn_22 ?_
      refine r_callVV (wr := [(ax, .inr (0, [.ref h, .ref hs]))]) (rest := []) E cs_X_32 (c_R_search l D cB cI h ac ar ag st sz fl sn md B c0 c1 c2 c3 c4) hP hD hS hA [1] [0] ⟨rfl, rfl, by decide, by decide, by decide⟩ kc_R rfl hl.1 rfl rfl (Nat.le_of_ble_eq_true rfl) ⟨by decide, by decide⟩ ⟨by decide, by decide⟩ d_X_turn_25 (fun u H locs hw hP hD hS => ?_)
      have hP : va_P D classes [(ax, .inr (0, [.ref h, .ref hs])), (h, .inr (2, [.ref ac, .ref ar, .ref ag, .int (nI 1), .int (nI sz), .int (nI 0), .int (nI 0), .int (nI md), .long (lN B), .int c0, .int c1, .int c2, .int c3, .int c4]))] H := hP.sub [0, 1] rfl
      have hD : va_D A [(ax, .inr (0, [.ref h, .ref hs])), (h, .inr (2, [.ref ac, .ref ar, .ref ag, .int (nI 1), .int (nI sz), .int (nI 0), .int (nI 0), .int (nI md), .long (lN B), .int c0, .int c1, .int c2, .int c3, .int c4]))] := hD.sub [0, 1] (by decide) rfl
      refine W.widen (k := 0) (n := 0) (Nat.le_of_ble_eq_true rfl) (Nat.le_of_ble_eq_true rfl) ?_
      refine lv_iload_n hx hb d_X_turn_28 rfl (lv_at hl 1 rfl) ?_
      refine r_if_ne (tgt := 40) hx hb (by omega) d_X_turn_29 (by decide) (fun c29 => ?_) (fun c29 => ?_)
      · skip
        refine lv_iconst (v := nI 1) hx hb d_X_turn_40 (by decide +kernel) ?_
        exact r_iret E hr hlk hP hD hS (rfl) ((1, 0, 0)) rfl (by rw [if_neg c16, show on = 1 by omega]; exact ⟨rfl, rfl⟩) d_X_turn_41
      · skip
        refine lv_aload_n hx hb d_X_turn_32 rfl (lv_at hl 0 rfl) ?_
        refine r_get E hP 0 fl_X_15 rfl rfl d_X_turn_33 ?_
        refine lv_iconst (v := nI 0) hx hb d_X_turn_36 (by decide +kernel) ?_
        refine r_putN E hP hD hS 1 fn_28 rfl rfl (rfl) (rfl) (ws' := [(ax, .inr (0, [.ref h, .ref hs])), (h, .inr (2, [.ref ac, .ref ar, .ref ag, .int (nI 0), .int (nI sz), .int (nI 0), .int (nI 0), .int (nI md), .long (lN B), .int c0, .int c1, .int c2, .int c3, .int c4]))]) rfl d_X_turn_37 (fun H locs hP hD hS => ?_)
        refine lv_iconst (v := nI 1) hx hb d_X_turn_40 (by decide +kernel) ?_
        exact r_iret E hr hlk hP hD hS (rfl) ((0, 0, 0)) rfl (by rw [if_neg c16, show on = 0 by omega]; exact ⟨rfl, rfl⟩) d_X_turn_41
    · skip
      refine lv_iconst (v := nI 0) hx hb d_X_turn_19 (by decide +kernel) ?_
      exact r_iret E hr hlk hP hD hS (rfl) ((st, fl, sn)) rfl (by rw [if_pos c16]; exact ⟨rfl, rfl⟩) d_X_turn_20
  · skip
    refine r_if_eq (tgt := 15) hx hb (by omega) d_X_turn_8 (by decide) (fun c8 => ?_) (fun c8 => ?_)
    · skip
      refine lv_iconst (v := nI 0) hx hb d_X_turn_15 (by decide +kernel) ?_
      exact J _ (by rw [if_pos c8])
    · skip
      refine lv_iconst (v := nI 1) hx hb d_X_turn_11 (by decide +kernel) ?_
      refine lv_goto (tgt := 16) hx hb d_X_turn_12 (by decide) ?_
      exact J _ (by rw [if_neg c8])

abbrev rm_X_mending : Room := { frames := 0, cells := 0, slots := 0, locals := 0 }
set_option maxHeartbeats 4000000 in
set_option maxRecDepth 100000 in
/-- mending(is) -/
theorem c_X_mending (l : Launch) (D : va_G) (cB cI : ClassId) (ax hs : Nat) (h ac ar ag st sz fl sn md B : Nat) (c0 c1 c2 c3 c4 : Int32) (is_ : Nat) (h_is : is_ < 2) : MV l D cB cI y_X_mending b_X_mending 2 none rm_X_mending [.ref ax, .int (nI is_)] [(ax, .inr (0, [.ref h, .ref hs])), (h, .inr (2, [.ref ac, .ref ar, .ref ag, .int (nI st), .int (nI sz), .int (nI fl), .int (nI sn), .int (nI md), .long (lN B), .int c0, .int c1, .int c2, .int c3, .int c4]))] (fun (_ : Unit) => True) (fun _ => [(ax, .inr (0, [.ref h, .ref hs])), (h, .inr (2, [.ref ac, .ref ar, .ref ag, .int (nI st), .int (nI sz), .int (nI fl), .int (nI sn), .int (nI is_), .long (lN B), .int c0, .int c1, .int c2, .int c3, .int c4]))]) := by
  refine m_entryV (by decide +kernel) (Nat.le_of_ble_eq_true rfl) ?_
  intro p e s m below meth c ls A E hr hlk hnm hA hP hD hl
  have hx := E.1.1
  have hb := E.1.2.1
  have hS : va_S A s.heap s.heap [] := va_S.rf
  have hl : lv_has ls 2 [(0, .ref ax), (1, .int (nI is_))] := hl
  refine lv_aload_n hx hb d_X_mending_0 rfl (lv_at hl 0 rfl) ?_
  refine r_get E hP 0 fl_X_15 rfl rfl d_X_mending_1 ?_
  refine lv_iload_n hx hb d_X_mending_4 rfl (lv_at hl 1 rfl) ?_
  refine r_putN E hP hD hS 1 fn_35 rfl rfl ((nz2 h_is).1) ((nz2 h_is).2) (ws' := [(ax, .inr (0, [.ref h, .ref hs])), (h, .inr (2, [.ref ac, .ref ar, .ref ag, .int (nI st), .int (nI sz), .int (nI fl), .int (nI sn), .int (nI is_), .long (lN B), .int c0, .int c1, .int c2, .int c3, .int c4]))]) rfl d_X_mending_5 (fun H locs hP hD hS => ?_)
  exact r_vret E hr hlk hP hD hS (()) rfl (trivial) d_X_mending_8

abbrev rm_X_state : Room := { frames := 0, cells := 0, slots := 0, locals := 0 }
set_option maxHeartbeats 4000000 in
set_option maxRecDepth 100000 in
/-- state() -/
theorem c_X_state (l : Launch) (D : va_G) (cB cI : ClassId) (ax hs : Nat) (h ac ar ag st sz fl sn md B : Nat) (c0 c1 c2 c3 c4 : Int32) : MI l D cB cI y_X_state b_X_state 1 (some .int) rm_X_state [.ref ax] [(ax, .inr (0, [.ref h, .ref hs])), (h, .inr (2, [.ref ac, .ref ar, .ref ag, .int (nI st), .int (nI sz), .int (nI fl), .int (nI sn), .int (nI md), .long (lN B), .int c0, .int c1, .int c2, .int c3, .int c4]))] (fun (v : Int32) (_ : Unit) => v = nI st) (fun _ => [(ax, .inr (0, [.ref h, .ref hs])), (h, .inr (2, [.ref ac, .ref ar, .ref ag, .int (nI st), .int (nI sz), .int (nI fl), .int (nI sn), .int (nI md), .long (lN B), .int c0, .int c1, .int c2, .int c3, .int c4]))]) := by
  refine m_entryI (by decide +kernel) (Nat.le_of_ble_eq_true rfl) ?_
  intro p e s m below meth c ls A E hr hlk hnm hA hP hD hl
  have hx := E.1.1
  have hb := E.1.2.1
  have hS : va_S A s.heap s.heap [] := va_S.rf
  have hl : lv_has ls 1 [(0, .ref ax)] := hl
  refine lv_aload_n hx hb d_X_state_0 rfl (lv_at hl 0 rfl) ?_
  refine r_get E hP 0 fl_X_15 rfl rfl d_X_state_1 ?_
  refine r_getN E hP 1 fn_28 rfl rfl d_X_state_4 ?_
  exact r_iret E hr hlk hP hD hS (rfl) (()) rfl (rfl) d_X_state_7

abbrev rm_X_size : Room := { frames := 0, cells := 0, slots := 0, locals := 0 }
set_option maxHeartbeats 4000000 in
set_option maxRecDepth 100000 in
/-- size() -/
theorem c_X_size (l : Launch) (D : va_G) (cB cI : ClassId) (ax hs : Nat) (h ac ar ag st sz fl sn md B : Nat) (c0 c1 c2 c3 c4 : Int32) : MI l D cB cI y_X_size b_X_size 1 (some .int) rm_X_size [.ref ax] [(ax, .inr (0, [.ref h, .ref hs])), (h, .inr (2, [.ref ac, .ref ar, .ref ag, .int (nI st), .int (nI sz), .int (nI fl), .int (nI sn), .int (nI md), .long (lN B), .int c0, .int c1, .int c2, .int c3, .int c4]))] (fun (v : Int32) (_ : Unit) => v = nI sz) (fun _ => [(ax, .inr (0, [.ref h, .ref hs])), (h, .inr (2, [.ref ac, .ref ar, .ref ag, .int (nI st), .int (nI sz), .int (nI fl), .int (nI sn), .int (nI md), .long (lN B), .int c0, .int c1, .int c2, .int c3, .int c4]))]) := by
  refine m_entryI (by decide +kernel) (Nat.le_of_ble_eq_true rfl) ?_
  intro p e s m below meth c ls A E hr hlk hnm hA hP hD hl
  have hx := E.1.1
  have hb := E.1.2.1
  have hS : va_S A s.heap s.heap [] := va_S.rf
  have hl : lv_has ls 1 [(0, .ref ax)] := hl
  refine lv_aload_n hx hb d_X_size_0 rfl (lv_at hl 0 rfl) ?_
  refine r_get E hP 0 fl_X_15 rfl rfl d_X_size_1 ?_
  refine r_getN E hP 1 fn_58 rfl rfl d_X_size_4 ?_
  exact r_iret E hr hlk hP hD hS (rfl) (()) rfl (rfl) d_X_size_7

abbrev rm_X_count : Room := { frames := 0, cells := 0, slots := 0, locals := 0 }
set_option maxHeartbeats 4000000 in
set_option maxRecDepth 100000 in
/-- count(what) -/
theorem c_X_count (l : Launch) (D : va_G) (cB cI : ClassId) (ax hs : Nat) (h ac ar ag st sz fl sn md B : Nat) (c0 c1 c2 c3 c4 : Int32) (p0 : Int32) : MI l D cB cI y_X_count b_X_count 2 (some .int) rm_X_count [.ref ax, .int p0] [(ax, .inr (0, [.ref h, .ref hs])), (h, .inr (2, [.ref ac, .ref ar, .ref ag, .int (nI st), .int (nI sz), .int (nI fl), .int (nI sn), .int (nI md), .long (lN B), .int c0, .int c1, .int c2, .int c3, .int c4]))] (fun (v : Int32) (_ : Unit) => v = rd p0 5 (cN c0 c1 c2 c3 c4)) (fun _ => [(ax, .inr (0, [.ref h, .ref hs])), (h, .inr (2, [.ref ac, .ref ar, .ref ag, .int (nI st), .int (nI sz), .int (nI fl), .int (nI sn), .int (nI md), .long (lN B), .int c0, .int c1, .int c2, .int c3, .int c4]))]) := by
  refine m_entryI (by decide +kernel) (Nat.le_of_ble_eq_true rfl) ?_
  intro p e s m below meth c ls A E hr hlk hnm hA hP hD hl
  have hx := E.1.1
  have hb := E.1.2.1
  have hS : va_S A s.heap s.heap [] := va_S.rf
  rcases pk_ix p0 (n := 5) (by decide) with h_p | h_p | ⟨j, h_j, rfl⟩
  · skip
    have hl : lv_has ls 2 [(0, .ref ax), (1, .int p0)] := hl
    have hp : p0.toInt < 0 ∨ 4 < p0.toInt := Or.inl (by have := Int32.lt_iff_toInt_lt.mp h_p; exact this)
    have hz := rd_lo (n := 5) (g := cN c0 c1 c2 c3 c4) h_p
    refine lv_iload_n hx hb d_X_count_0 rfl (lv_at hl 1 rfl) ?_
    refine lv_tableOut (tgt := 76) hx hb d_X_count_1 hp (by decide) ?_
    refine lv_iconst (v := (-1)) hx hb d_X_count_76 (by decide +kernel) ?_
    exact r_iret E hr hlk hP hD hS (rfl) (()) rfl (hz.symm) d_X_count_77
  · skip
    have hl : lv_has ls 2 [(0, .ref ax), (1, .int p0)] := hl
    have hp : p0.toInt < 0 ∨ 4 < p0.toInt := Or.inr (by have := Int32.le_iff_toInt_le.mp h_p; rw [nI_toInt (by decide)] at this; omega)
    have hz := rd_hi (n := 5) (g := cN c0 c1 c2 c3 c4) h_p
    refine lv_iload_n hx hb d_X_count_0 rfl (lv_at hl 1 rfl) ?_
    refine lv_tableOut (tgt := 76) hx hb d_X_count_1 hp (by decide) ?_
    refine lv_iconst (v := (-1)) hx hb d_X_count_76 (by decide +kernel) ?_
    exact r_iret E hr hlk hP hD hS (rfl) (()) rfl (hz.symm) d_X_count_77
  · skip
    have hl : lv_has ls 2 [(0, .ref ax), (1, .int (nI j))] := hl
    refine lv_iload_n hx hb d_X_count_0 rfl (lv_at hl 1 rfl) ?_
    rcases (show j = 0 ∨ j = 1 ∨ j = 2 ∨ j = 3 ∨ j = 4 by omega) with rfl | rfl | rfl | rfl | rfl
    · refine lv_tableIn (tgt := 36) (off := 35) hx hb d_X_count_1 (by decide +kernel) (by decide +kernel) (by decide +kernel) (by decide) ?_
      refine lv_aload_n hx hb d_X_count_36 rfl (lv_at hl 0 rfl) ?_
      refine r_get E hP 0 fl_X_15 rfl rfl d_X_count_37 ?_
      refine r_getN E hP 1 fn_46 rfl rfl d_X_count_40 ?_
      exact r_iret E hr hlk hP hD hS (rfl) (()) rfl ((rd_in (g := cN c0 c1 c2 c3 c4) h_j (by decide)).symm) d_X_count_43
    · refine lv_tableIn (tgt := 44) (off := 43) hx hb d_X_count_1 (by decide +kernel) (by decide +kernel) (by decide +kernel) (by decide) ?_
      refine lv_aload_n hx hb d_X_count_44 rfl (lv_at hl 0 rfl) ?_
      refine r_get E hP 0 fl_X_15 rfl rfl d_X_count_45 ?_
      refine r_getN E hP 1 fn_39 rfl rfl d_X_count_48 ?_
      exact r_iret E hr hlk hP hD hS (rfl) (()) rfl ((rd_in (g := cN c0 c1 c2 c3 c4) h_j (by decide)).symm) d_X_count_51
    · refine lv_tableIn (tgt := 52) (off := 51) hx hb d_X_count_1 (by decide +kernel) (by decide +kernel) (by decide +kernel) (by decide) ?_
      refine lv_aload_n hx hb d_X_count_52 rfl (lv_at hl 0 rfl) ?_
      refine r_get E hP 0 fl_X_15 rfl rfl d_X_count_53 ?_
      refine r_getN E hP 1 fn_49 rfl rfl d_X_count_56 ?_
      exact r_iret E hr hlk hP hD hS (rfl) (()) rfl ((rd_in (g := cN c0 c1 c2 c3 c4) h_j (by decide)).symm) d_X_count_59
    · refine lv_tableIn (tgt := 60) (off := 59) hx hb d_X_count_1 (by decide +kernel) (by decide +kernel) (by decide +kernel) (by decide) ?_
      refine lv_aload_n hx hb d_X_count_60 rfl (lv_at hl 0 rfl) ?_
      refine r_get E hP 0 fl_X_15 rfl rfl d_X_count_61 ?_
      refine r_getN E hP 1 fn_52 rfl rfl d_X_count_64 ?_
      exact r_iret E hr hlk hP hD hS (rfl) (()) rfl ((rd_in (g := cN c0 c1 c2 c3 c4) h_j (by decide)).symm) d_X_count_67
    · refine lv_tableIn (tgt := 68) (off := 67) hx hb d_X_count_1 (by decide +kernel) (by decide +kernel) (by decide +kernel) (by decide) ?_
      refine lv_aload_n hx hb d_X_count_68 rfl (lv_at hl 0 rfl) ?_
      refine r_get E hP 0 fl_X_15 rfl rfl d_X_count_69 ?_
      refine r_getN E hP 1 fn_55 rfl rfl d_X_count_72 ?_
      exact r_iret E hr hlk hP hD hS (rfl) (()) rfl ((rd_in (g := cN c0 c1 c2 c3 c4) h_j (by decide)).symm) d_X_count_75

abbrev rm_X_byteAt : Room := { frames := 0, cells := 0, slots := 0, locals := 0 }
set_option maxHeartbeats 4000000 in
set_option maxRecDepth 100000 in
/-- X_byteAt -/
theorem c_X_byteAt (l : Launch) (D : va_G) (cB cI : ClassId) (ax hs : Nat) (h ac ar ag st sz fl sn md B : Nat) (c0 c1 c2 c3 c4 : Int32) (g : Nat → Int32) (p0 : Int32) (h_sz : sz ≤ 259) : MI l D cB cI y_X_byteAt b_X_byteAt 2 (some .int) rm_X_byteAt [.ref ax, .int p0] [(ax, .inr (0, [.ref h, .ref hs])), (h, .inr (2, [.ref ac, .ref ar, .ref ag, .int (nI st), .int (nI sz), .int (nI fl), .int (nI sn), .int (nI md), .long (lN B), .int c0, .int c1, .int c2, .int c3, .int c4])), (ag, .inl (cB, 259, .inl g))] (fun (v : Int32) (_ : Unit) => v = rd p0 sz (fun j => nI (bN (g j)))) (fun _ => [(ax, .inr (0, [.ref h, .ref hs])), (h, .inr (2, [.ref ac, .ref ar, .ref ag, .int (nI st), .int (nI sz), .int (nI fl), .int (nI sn), .int (nI md), .long (lN B), .int c0, .int c1, .int c2, .int c3, .int c4])), (ag, .inl (cB, 259, .inl g))]) := by
  refine m_entryI (by decide +kernel) (Nat.le_of_ble_eq_true rfl) ?_
  intro p e s m below meth c ls A E hr hlk hnm hA hP hD hl
  have hx := E.1.1
  have hb := E.1.2.1
  have hS : va_S A s.heap s.heap [] := va_S.rf
  rcases pk_ix p0 (n := sz) (by omega) with h_p | h_p | ⟨j, h_j, rfl⟩
  · skip
    have hl : lv_has ls 2 [(0, .ref ax), (1, .int p0)] := hl
    have hz := rd_lo (n := sz) (g := fun j => nI (bN (g j))) h_p
    refine lv_iload_n hx hb d_X_byteAt_0 rfl (lv_at hl 1 rfl) ?_
    refine lv_if_lt (tgt := 15) hx hb d_X_byteAt_1 (by decide) (fun c1 => ?_) (fun c1 => False.elim (c1 h_p))
    refine lv_iconst (v := (-1)) hx hb d_X_byteAt_15 (by decide +kernel) ?_
    refine lv_goto (tgt := 32) hx hb d_X_byteAt_16 (by decide) ?_
    exact r_iret E hr hlk hP hD hS (rfl) (()) rfl (hz.symm) d_X_byteAt_32
  · skip
    have hl : lv_has ls 2 [(0, .ref ax), (1, .int p0)] := hl
    have hz := rd_hi (n := sz) (g := fun j => nI (bN (g j))) h_p
    refine lv_iload_n hx hb d_X_byteAt_0 rfl (lv_at hl 1 rfl) ?_
    refine lv_if_lt (tgt := 15) hx hb d_X_byteAt_1 (by decide) (fun c1 => ?_) (fun c1 => ?_)
    · skip
      refine lv_iconst (v := (-1)) hx hb d_X_byteAt_15 (by decide +kernel) ?_
      refine lv_goto (tgt := 32) hx hb d_X_byteAt_16 (by decide) ?_
      exact r_iret E hr hlk hP hD hS (rfl) (()) rfl (hz.symm) d_X_byteAt_32
    · skip
      refine lv_iload_n hx hb d_X_byteAt_4 rfl (lv_at hl 1 rfl) ?_
      refine lv_aload_n hx hb d_X_byteAt_5 rfl (lv_at hl 0 rfl) ?_
      refine r_get E hP 0 fl_X_15 rfl rfl d_X_byteAt_6 ?_
      refine r_getN E hP 1 fn_58 rfl rfl d_X_byteAt_9 ?_
      refine lv_icmp_lt (tgt := 19) hx hb d_X_byteAt_12 (by decide) (fun c12 => absurd c12 (Int32.not_lt.mpr h_p)) (fun c12 => ?_)
      refine lv_iconst (v := (-1)) hx hb d_X_byteAt_15 (by decide +kernel) ?_
      refine lv_goto (tgt := 32) hx hb d_X_byteAt_16 (by decide) ?_
      exact r_iret E hr hlk hP hD hS (rfl) (()) rfl (hz.symm) d_X_byteAt_32
  · skip
    have hl : lv_has ls 2 [(0, .ref ax), (1, .int (nI j))] := hl
    refine lv_iload_n hx hb d_X_byteAt_0 rfl (lv_at hl 1 rfl) ?_
    refine r_if_lt hx hb (by omega) (tgt := 15) d_X_byteAt_1 (by decide) ?_
    refine lv_iload_n hx hb d_X_byteAt_4 rfl (lv_at hl 1 rfl) ?_
    refine lv_aload_n hx hb d_X_byteAt_5 rfl (lv_at hl 0 rfl) ?_
    refine r_get E hP 0 fl_X_15 rfl rfl d_X_byteAt_6 ?_
    refine r_getN E hP 1 fn_58 rfl rfl d_X_byteAt_9 ?_
    refine r_icmp_lt (tgt := 19) hx hb ⟨by omega, by omega⟩ d_X_byteAt_12 (by decide) (fun c12 => ?_) (fun c12 => False.elim (by omega))
    refine lv_aload_n hx hb d_X_byteAt_19 rfl (lv_at hl 0 rfl) ?_
    refine r_get E hP 0 fl_X_15 rfl rfl d_X_byteAt_20 ?_
    refine r_getN E hP 1 fn_61 rfl rfl d_X_byteAt_23 ?_
    refine lv_iload_n hx hb d_X_byteAt_26 rfl (lv_at hl 1 rfl) ?_
    refine r_bald E hP 2 rfl (by omega) (by decide) d_X_byteAt_27 ?_
    refine lv_sipush (v := nI 255) hx hb d_X_byteAt_28 (by decide +kernel) ?_
    refine lv_iand hx hb d_X_byteAt_31 ?_
    refine r_topi (y := nI (bN (g j))) (bN_and _) ?_
    exact r_iret E hr hlk hP hD hS (rfl) (()) rfl ((rd_in (g := fun j => nI (bN (g j))) h_j (by omega)).symm) d_X_byteAt_32

abbrev rm_X_sent : Room := { frames := 0, cells := 0, slots := 0, locals := 0 }
set_option maxHeartbeats 4000000 in
set_option maxRecDepth 100000 in
/-- X_sent -/
theorem c_X_sent (l : Launch) (D : va_G) (cB cI : ClassId) (ax h hs sr ss fl sz : Nat) (g : Nat → Int32) (p0 : Int32) (h_sz : sz ≤ 306) : MI l D cB cI y_X_sent b_X_sent 2 (some .int) rm_X_sent [.ref ax, .int p0] [(ax, .inr (0, [.ref h, .ref hs])), (hs, .inr (3, [.ref sr, .ref ss, .int (nI fl), .int (nI sz)])), (ss, .inl (cB, 306, .inl g))] (fun (v : Int32) (_ : Unit) => v = rd p0 sz (fun j => nI (bN (g j)))) (fun _ => [(ax, .inr (0, [.ref h, .ref hs])), (hs, .inr (3, [.ref sr, .ref ss, .int (nI fl), .int (nI sz)])), (ss, .inl (cB, 306, .inl g))]) := by
  refine m_entryI (by decide +kernel) (Nat.le_of_ble_eq_true rfl) ?_
  intro p e s m below meth c ls A E hr hlk hnm hA hP hD hl
  have hx := E.1.1
  have hb := E.1.2.1
  have hS : va_S A s.heap s.heap [] := va_S.rf
  rcases pk_ix p0 (n := sz) (by omega) with h_p | h_p | ⟨j, h_j, rfl⟩
  · skip
    have hl : lv_has ls 2 [(0, .ref ax), (1, .int p0)] := hl
    have hz := rd_lo (n := sz) (g := fun j => nI (bN (g j))) h_p
    refine lv_iload_n hx hb d_X_sent_0 rfl (lv_at hl 1 rfl) ?_
    refine lv_if_lt (tgt := 15) hx hb d_X_sent_1 (by decide) (fun c1 => ?_) (fun c1 => False.elim (c1 h_p))
    refine lv_iconst (v := (-1)) hx hb d_X_sent_15 (by decide +kernel) ?_
    refine lv_goto (tgt := 32) hx hb d_X_sent_16 (by decide) ?_
    exact r_iret E hr hlk hP hD hS (rfl) (()) rfl (hz.symm) d_X_sent_32
  · skip
    have hl : lv_has ls 2 [(0, .ref ax), (1, .int p0)] := hl
    have hz := rd_hi (n := sz) (g := fun j => nI (bN (g j))) h_p
    refine lv_iload_n hx hb d_X_sent_0 rfl (lv_at hl 1 rfl) ?_
    refine lv_if_lt (tgt := 15) hx hb d_X_sent_1 (by decide) (fun c1 => ?_) (fun c1 => ?_)
    · skip
      refine lv_iconst (v := (-1)) hx hb d_X_sent_15 (by decide +kernel) ?_
      refine lv_goto (tgt := 32) hx hb d_X_sent_16 (by decide) ?_
      exact r_iret E hr hlk hP hD hS (rfl) (()) rfl (hz.symm) d_X_sent_32
    · skip
      refine lv_iload_n hx hb d_X_sent_4 rfl (lv_at hl 1 rfl) ?_
      refine lv_aload_n hx hb d_X_sent_5 rfl (lv_at hl 0 rfl) ?_
      refine r_get E hP 0 fl_X_24 rfl rfl d_X_sent_6 ?_
      refine r_getN E hP 1 fn_73 rfl rfl d_X_sent_9 ?_
      refine lv_icmp_lt (tgt := 19) hx hb d_X_sent_12 (by decide) (fun c12 => absurd c12 (Int32.not_lt.mpr h_p)) (fun c12 => ?_)
      refine lv_iconst (v := (-1)) hx hb d_X_sent_15 (by decide +kernel) ?_
      refine lv_goto (tgt := 32) hx hb d_X_sent_16 (by decide) ?_
      exact r_iret E hr hlk hP hD hS (rfl) (()) rfl (hz.symm) d_X_sent_32
  · skip
    have hl : lv_has ls 2 [(0, .ref ax), (1, .int (nI j))] := hl
    refine lv_iload_n hx hb d_X_sent_0 rfl (lv_at hl 1 rfl) ?_
    refine r_if_lt hx hb (by omega) (tgt := 15) d_X_sent_1 (by decide) ?_
    refine lv_iload_n hx hb d_X_sent_4 rfl (lv_at hl 1 rfl) ?_
    refine lv_aload_n hx hb d_X_sent_5 rfl (lv_at hl 0 rfl) ?_
    refine r_get E hP 0 fl_X_24 rfl rfl d_X_sent_6 ?_
    refine r_getN E hP 1 fn_73 rfl rfl d_X_sent_9 ?_
    refine r_icmp_lt (tgt := 19) hx hb ⟨by omega, by omega⟩ d_X_sent_12 (by decide) (fun c12 => ?_) (fun c12 => False.elim (by omega))
    refine lv_aload_n hx hb d_X_sent_19 rfl (lv_at hl 0 rfl) ?_
    refine r_get E hP 0 fl_X_24 rfl rfl d_X_sent_20 ?_
    refine r_getN E hP 1 fn_74 rfl rfl d_X_sent_23 ?_
    refine lv_iload_n hx hb d_X_sent_26 rfl (lv_at hl 1 rfl) ?_
    refine r_bald E hP 2 rfl (by omega) (by decide) d_X_sent_27 ?_
    refine lv_sipush (v := nI 255) hx hb d_X_sent_28 (by decide +kernel) ?_
    refine lv_iand hx hb d_X_sent_31 ?_
    refine r_topi (y := nI (bN (g j))) (bN_and _) ?_
    exact r_iret E hr hlk hP hD hS (rfl) (()) rfl ((rd_in (g := fun j => nI (bN (g j))) h_j (by omega)).symm) d_X_sent_32

abbrev rm_X_put : Room := { frames := 1, cells := 0, slots := 0, locals := 21 }
set_option maxHeartbeats 4000000 in
set_option maxRecDepth 100000 in
/-- put(b) -/
theorem c_X_put (l : Launch) (D : va_G) (cB cI : ClassId) (ax h hs sr ss fl sz : Nat) (f : Nat → Int32) (p0 : Int32) (h_fl : fl ≤ 259) : MI l D cB cI y_X_put b_X_put 2 (some .int) rm_X_put [.ref ax, .int p0] [(ax, .inr (0, [.ref h, .ref hs])), (hs, .inr (3, [.ref sr, .ref ss, .int (nI fl), .int (nI sz)])), (sr, .inl (cB, 259, .inl f))] (fun (v : Int32) (u : Nat × (Nat → Int32)) => (fl = 259 → v = -1 ∧ u = (fl, f)) ∧ (fl ≠ 259 → v = nI (fl + 1) ∧ u = (fl + 1, upd f fl p0.toInt8.toInt32))) (fun u => [(ax, .inr (0, [.ref h, .ref hs])), (hs, .inr (3, [.ref sr, .ref ss, .int (nI u.1), .int (nI sz)])), (sr, .inl (cB, 259, .inl u.2))]) := by
  refine m_entryI (by decide +kernel) (Nat.le_of_ble_eq_true rfl) ?_
  intro p e s m below meth c ls A E hr hlk hnm hA hP hD hl
  have hx := E.1.1
  have hb := E.1.2.1
  have hS : va_S A s.heap s.heap [] := va_S.rf
  have hl : lv_has ls 2 [(0, .ref ax), (1, .int p0)] := hl
  refine lv_aload_n hx hb d_X_put_0 rfl (lv_at hl 0 rfl) ?_
  refine r_get E hP 0 fl_X_24 rfl rfl d_X_put_1 ?_
  refine lv_iload_n hx hb d_X_put_4 rfl (lv_at hl 1 rfl) ?_
  refine r_callVI (wr := [(ax, .inr (0, [.ref h, .ref hs]))]) (rest := []) E cs_X_65 (c_S_put l D cB cI hs sr ss fl sz f p0 h_fl) hP hD hS hA [1, 2] [0] ⟨rfl, rfl, by decide, by decide, by decide⟩ kc_S rfl hl.1 rfl rfl (Nat.le_of_ble_eq_true rfl) ⟨by decide, by decide⟩ ⟨by decide, by decide⟩ d_X_put_5 (fun r u H locs hw hP hD hS => ?_)
  have hP : va_P D classes [(ax, .inr (0, [.ref h, .ref hs])), (hs, .inr (3, [.ref sr, .ref ss, .int (nI u.1), .int (nI sz)])), (sr, .inl (cB, 259, .inl u.2))] H := hP.sub [0, 1, 2] rfl
  have hD : va_D A [(ax, .inr (0, [.ref h, .ref hs])), (hs, .inr (3, [.ref sr, .ref ss, .int (nI u.1), .int (nI sz)])), (sr, .inl (cB, 259, .inl u.2))] := hD.sub [0, 1, 2] (by decide) rfl
  refine W.widen (k := 0) (n := 0) (Nat.le_of_ble_eq_true rfl) (Nat.le_of_ble_eq_true rfl) ?_
  exact r_iret E hr hlk hP hD hS (rfl) (u) rfl (hw) d_X_put_8

abbrev rm_X_send : Room := { frames := 3, cells := 0, slots := 0, locals := 69 }
set_option maxHeartbeats 4000000 in
set_option maxRecDepth 100000 in
/-- send() -/
theorem c_X_send (l : Launch) (D : va_G) (cB cI : ClassId) (ax h hs sr ss fl sz : Nat) (f g : Nat → Int32) (h_fl : fl ≤ 259) : MI l D cB cI y_X_send b_X_send 1 (some .int) rm_X_send [.ref ax] [(ax, .inr (0, [.ref h, .ref hs])), (hs, .inr (3, [.ref sr, .ref ss, .int (nI fl), .int (nI sz)])), (sr, .inl (cB, 259, .inl f)), (ss, .inl (cB, 306, .inl g))] (fun (v : Int32) (u : Nat × Nat × (Nat → Int32)) => (fl = 0 → v = -1 ∧ u = (fl, sz, g)) ∧ (fl ≠ 0 → v = nI (10 + 8 * ((fl + 6) / 7)) ∧ u.1 = 0 ∧ u.2.1 = 10 + 8 * ((fl + 6) / 7) ∧ ∀ j, j < 10 + 8 * ((fl + 6) / 7) → bN (u.2.2 j) = en f fl j)) (fun u => [(ax, .inr (0, [.ref h, .ref hs])), (hs, .inr (3, [.ref sr, .ref ss, .int (nI u.1), .int (nI u.2.1)])), (sr, .inl (cB, 259, .inl f)), (ss, .inl (cB, 306, .inl u.2.2))]) := by
  refine m_entryI (by decide +kernel) (Nat.le_of_ble_eq_true rfl) ?_
  intro p e s m below meth c ls A E hr hlk hnm hA hP hD hl
  have hx := E.1.1
  have hb := E.1.2.1
  have hS : va_S A s.heap s.heap [] := va_S.rf
  have hl : lv_has ls 1 [(0, .ref ax)] := hl
  refine lv_aload_n hx hb d_X_send_0 rfl (lv_at hl 0 rfl) ?_
  refine r_get E hP 0 fl_X_24 rfl rfl d_X_send_1 ?_
  refine r_callVI (wr := [(ax, .inr (0, [.ref h, .ref hs]))]) (rest := []) E cs_X_69 (c_S_send l D cB cI hs sr ss fl sz f g h_fl) hP hD hS hA [1, 2, 3] [0] ⟨rfl, rfl, by decide, by decide, by decide⟩ kc_S rfl hl.1 rfl rfl (Nat.le_of_ble_eq_true rfl) ⟨by decide, by decide⟩ ⟨by decide, by decide⟩ d_X_send_4 (fun r u H locs hw hP hD hS => ?_)
  have hP : va_P D classes [(ax, .inr (0, [.ref h, .ref hs])), (hs, .inr (3, [.ref sr, .ref ss, .int (nI u.1), .int (nI u.2.1)])), (sr, .inl (cB, 259, .inl f)), (ss, .inl (cB, 306, .inl u.2.2))] H := hP.sub [0, 1, 2, 3] rfl
  have hD : va_D A [(ax, .inr (0, [.ref h, .ref hs])), (hs, .inr (3, [.ref sr, .ref ss, .int (nI u.1), .int (nI u.2.1)])), (sr, .inl (cB, 259, .inl f)), (ss, .inl (cB, 306, .inl u.2.2))] := hD.sub [0, 1, 2, 3] (by decide) rfl
  refine W.widen (k := 0) (n := 0) (Nat.le_of_ble_eq_true rfl) (Nat.le_of_ble_eq_true rfl) ?_
  exact r_iret E hr hlk hP hD hS (rfl) (u) rfl (hw) d_X_send_7

abbrev rm_X_take : Room := { frames := 4, cells := 0, slots := 0, locals := 93 }
set_option maxHeartbeats 4000000 in
set_option maxRecDepth 100000 in
theorem L_X_take_37 (l : Launch) (D : va_G) (cB cI : ClassId) (ax hs h ac aw : Nat) (wf : Nat → Int32) (w : Nat) (h_wv : w < 2 ^ 64) (h_w : ∀ r, r < 128 → wf r = wt7 63 r) (c9 : Int32) (F : RC) {p : Program} {e : Env} {s : State} {m : MethodId} {args : Array Value} {below : List Frame} {meth : Method} {c : Code} {A : Nat → Prop} {Q : State → Prop} (E : Ev p m c b_X_take 7 s args "CodeBlocks" D cB cI) (hA : ∀ q : Nat, s.heap.size ≤ q → A q)
    (K : ∀ (H : Heap) (locs : List Loc) (ls : Array Slot), (True) → va_P D classes ((ax, .inr (0, [.ref h, .ref hs])) :: wR cB h ac aw wf F) H → va_D A ((ax, .inr (0, [.ref h, .ref hs])) :: wR cB h ac aw wf F) → va_S A s.heap H locs → lv_has ls 7 [(0, .ref ax), (4, .int c9)] → W p l e rm_X_take s m args below meth c H locs 0 0 Q (F0 m 64 ls [])) :
    ∀ (n : Nat) (u : RC) (H : Heap) (locs : List Loc) (ls : Array Slot), (n ≤ 64 ∧ RInv u ∧ (rc_take w n u).1 = F) → va_P D classes ((ax, .inr (0, [.ref h, .ref hs])) :: wR cB h ac aw wf u) H → va_D A ((ax, .inr (0, [.ref h, .ref hs])) :: wR cB h ac aw wf u) → va_S A s.heap H locs → lv_has ls 7 [(0, .ref ax), (2, .long (lN w)), (4, .int c9), (5, .int (kd n))] → W p l e rm_X_take s m args below meth c H locs 0 0 Q (F0 m 37 ls []) := by
  have hx := E.1.1
  have hb := E.1.2.1
  intro n
  induction n with
  | zero =>
    intro u H locs ls hi hP hD hS hl
    obtain ⟨i1, i2, i3⟩ := hi
    obtain rfl : u = F := i3
    have hl : lv_has ls 7 [(0, .ref ax), (2, .long (lN w)), (4, .int c9), (5, .int (-1))] := hl
    refine lv_iload hx hb d_X_take_37 (lv_at hl 3 rfl) ?_
    refine lv_if_lt (tgt := 64) hx hb d_X_take_39 (by decide) (fun c39 => ?_) (fun c39 => False.elim (c39 (by decide)))
    exact K  H locs ls (trivial) hP hD hS (lv_sub hl [0, 2] rfl)
  | succ n ih =>
    intro u H locs ls hi hP hD hS hl
    obtain ⟨i1, i2, i3⟩ := hi
    obtain ⟨ar, ag, st, sz, fl, sn, md, B, c0, c1, c2, c3, c4, f, g⟩ := u
    have i2s := i2
    obtain ⟨r1, r2, r3, r4, r5, r6, r7⟩ := i2
    have hP : va_P D classes [(ax, .inr (0, [.ref h, .ref hs])), (h, .inr (2, [.ref ac, .ref ar, .ref ag, .int (nI st), .int (nI sz), .int (nI fl), .int (nI sn), .int (nI md), .long (lN B), .int c0, .int c1, .int c2, .int c3, .int c4])), (ar, .inl (cB, 259, .inl f)), (ag, .inl (cB, 259, .inl g)), (ac, .inr (1, [.ref aw])), (aw, .inl (cB, 128, .inl wf))] H := hP
    have hD : va_D A [(ax, .inr (0, [.ref h, .ref hs])), (h, .inr (2, [.ref ac, .ref ar, .ref ag, .int (nI st), .int (nI sz), .int (nI fl), .int (nI sn), .int (nI md), .long (lN B), .int c0, .int c1, .int c2, .int c3, .int c4])), (ar, .inl (cB, 259, .inl f)), (ag, .inl (cB, 259, .inl g)), (ac, .inr (1, [.ref aw])), (aw, .inl (cB, 128, .inl wf))] := hD
    have hl : lv_has ls 7 [(0, .ref ax), (2, .long (lN w)), (4, .int c9), (5, .int (nI n))] := hl
    refine lv_iload hx hb d_X_take_37 (lv_at hl 3 rfl) ?_
    refine r_if_lt hx hb (by omega) (tgt := 64) d_X_take_39 (by decide) ?_
    refine lv_aload_n hx hb d_X_take_42 rfl (lv_at hl 0 rfl) ?_
    refine r_get E hP 0 fl_X_15 rfl rfl d_X_take_43 ?_
    refine lv_lload_n hx hb d_X_take_46 rfl (lv_at hl 1 rfl) ?_
    refine lv_iload hx hb d_X_take_47 (lv_at hl 3 rfl) ?_
    refine lv_lushr (v := lN (w / 2 ^ n)) hx hb d_X_take_49 (wb_shr h_wv (by omega)) ?_
    refine lv_l2i (v := nI (w / 2 ^ n)) hx hb d_X_take_50 (lN_i _) ?_
    refine lv_iconst (v := nI 1) hx hb d_X_take_51 (by decide +kernel) ?_
    refine lv_iand hx hb d_X_take_52 ?_
    refine r_topi (y := nI (w / 2 ^ n % 2)) (bit_n _) ?_
    refine r_callVI (wr := [(ax, .inr (0, [.ref h, .ref hs]))]) (rest := []) E cs_X_42 (c_R_take l D cB cI h ac ar ag st sz fl sn md B c0 c1 c2 c3 c4 aw wf f g (w / 2 ^ n % 2) (Nat.mod_lt _ (by decide)) r1 r5 r7 r6 r3 h_w) hP hD hS hA [1, 2, 3, 4, 5] [0] ⟨rfl, rfl, by decide, by decide, by decide⟩ kc_R rfl hl.1 rfl rfl (Nat.le_of_ble_eq_true rfl) ⟨by decide, by decide⟩ ⟨by decide, by decide⟩ d_X_take_53 (fun r u H locs hw hP hD hS => ?_)
    obtain ⟨rfl, rfl⟩ := hw
    have hP : va_P D classes ((ax, .inr (0, [.ref h, .ref hs])) :: wR cB h ac aw wf (rc_bit (w / 2 ^ n % 2) (ar, ag, st, sz, fl, sn, md, B, c0, c1, c2, c3, c4, f, g)).1) H := hP
    have hD : va_D A ((ax, .inr (0, [.ref h, .ref hs])) :: wR cB h ac aw wf (rc_bit (w / 2 ^ n % 2) (ar, ag, st, sz, fl, sn, md, B, c0, c1, c2, c3, c4, f, g)).1) := hD
    refine W.widen (k := 0) (n := 0) (Nat.le_of_ble_eq_true rfl) (Nat.le_of_ble_eq_true rfl) ?_
    refine lv_istore (lv' := [(6, .int (nI ((rc_bit (w / 2 ^ n % 2) (ar, ag, st, sz, fl, sn, md, B, c0, c1, c2, c3, c4, f, g)).2))), (0, .ref ax), (2, .long (lN w)), (4, .int c9), (5, .int (nI n))]) hx hb d_X_take_56 hl (by decide) rfl (fun ls hl => ?_)
    refine lv_iinc (v := kd n) (lv' := [(5, .int (kd n)), (6, .int (nI ((rc_bit (w / 2 ^ n % 2) (ar, ag, st, sz, fl, sn, md, B, c0, c1, c2, c3, c4, f, g)).2))), (0, .ref ax), (2, .long (lN w)), (4, .int c9)]) hx hb d_X_take_58 hl (k := 4) rfl (kd_pred n) (by decide) rfl (fun ls hl => ?_)
    refine lv_goto (tgt := 37) hx hb d_X_take_61 (by decide) ?_
    exact ih _ H locs ls (⟨by omega, ri_bit _ i2s, i3⟩) hP hD hS (lv_sub hl [2, 3, 4, 0] rfl)

set_option maxHeartbeats 4000000 in
set_option maxRecDepth 100000 in
/-- take(n, w) -/
theorem c_X_take (l : Launch) (D : va_G) (cB cI : ClassId) (ax hs h ac ar ag st sz fl sn md B : Nat) (c0 c1 c2 c3 c4 : Int32) (aw : Nat) (wf f g : Nat → Int32) (p0 : Int32) (w : Nat) (h_wv : w < 2 ^ 64) (h_i : RInv (ar, ag, st, sz, fl, sn, md, B, c0, c1, c2, c3, c4, f, g)) (h_w : ∀ r, r < 128 → wf r = wt7 63 r) : MI l D cB cI y_X_take b_X_take 7 (some .int) rm_X_take [.ref ax, .int p0, .long (lN w)] [(ax, .inr (0, [.ref h, .ref hs])), (h, .inr (2, [.ref ac, .ref ar, .ref ag, .int (nI st), .int (nI sz), .int (nI fl), .int (nI sn), .int (nI md), .long (lN B), .int c0, .int c1, .int c2, .int c3, .int c4])), (ar, .inl (cB, 259, .inl f)), (ag, .inl (cB, 259, .inl g)), (ac, .inr (1, [.ref aw])), (aw, .inl (cB, 128, .inl wf))] (fun (v : Int32) (u : RC) => ((st = 0 ∨ p0 < nI 1 ∨ ¬ p0 ≤ nI 64) → v = -1 ∧ u = (ar, ag, st, sz, fl, sn, md, B, c0, c1, c2, c3, c4, f, g)) ∧ ∀ k, st ≠ 0 → 1 ≤ k → k ≤ 64 → p0 = nI k → u = (rc_take w k (ar, ag, st, sz, fl, sn, md, B, c0, c1, c2, c3, c4, f, g)).1 ∧ v = nI (rc_take w k (ar, ag, st, sz, fl, sn, md, B, c0, c1, c2, c3, c4, f, g)).2) (fun u => ((ax, .inr (0, [.ref h, .ref hs])) :: wR cB h ac aw wf u)) := by
  refine m_entryI (by decide +kernel) (Nat.le_of_ble_eq_true rfl) ?_
  intro p e s m below meth c ls A E hr hlk hnm hA hP hD hl
  have hx := E.1.1
  have hb := E.1.2.1
  have hS : va_S A s.heap s.heap [] := va_S.rf
  have hl : lv_has ls 7 [(0, .ref ax), (1, .int p0), (2, .long (lN w))] := hl
  refine lv_aload_n hx hb d_X_take_0 rfl (lv_at hl 0 rfl) ?_
  refine r_get E hP 0 fl_X_15 rfl rfl d_X_take_1 ?_
  refine r_getN E hP 1 fn_28 rfl rfl d_X_take_4 ?_
  have h_st : st ≤ 2 := h_i.1
  refine r_if_eq (tgt := 21) hx hb (by omega) d_X_take_7 (by decide) (fun c7 => ?_) (fun c7 => ?_)
  · skip
    refine lv_iconst (v := (-1)) hx hb d_X_take_21 (by decide +kernel) ?_
    exact r_iret E hr hlk hP hD hS (rfl) ((ar, ag, st, sz, fl, sn, md, B, c0, c1, c2, c3, c4, f, g)) rfl (⟨fun _ => ⟨rfl, rfl⟩, fun k z1 z2 z3 z4 => absurd c7 (z1)⟩) d_X_take_22
  · skip
    refine lv_iload_n hx hb d_X_take_10 rfl (lv_at hl 1 rfl) ?_
    refine lv_iconst (v := nI 1) hx hb d_X_take_11 (by decide +kernel) ?_
    skip
    refine lv_icmp_lt (tgt := 21) hx hb d_X_take_12 (by decide) (fun c12 => ?_) (fun c12 => ?_)
    · skip
      refine lv_iconst (v := (-1)) hx hb d_X_take_21 (by decide +kernel) ?_
      exact r_iret E hr hlk hP hD hS (rfl) ((ar, ag, st, sz, fl, sn, md, B, c0, c1, c2, c3, c4, f, g)) rfl (⟨fun _ => ⟨rfl, rfl⟩, fun k z1 z2 z3 z4 => absurd c12 (by subst z4; exact nI_nlt z2 (by omega))⟩) d_X_take_22
    · skip
      refine lv_iload_n hx hb d_X_take_15 rfl (lv_at hl 1 rfl) ?_
      refine lv_bipush (v := nI 64) hx hb d_X_take_16 (by decide +kernel) ?_
      skip
      refine lv_icmp_le (tgt := 23) hx hb d_X_take_18 (by decide) (fun c18 => ?_) (fun c18 => ?_)
      · skip
        obtain ⟨k, hk1, hk2, rfl⟩ := k64 c12 c18
        obtain ⟨F, hF⟩ : ∃ F, F = (rc_take w k (ar, ag, st, sz, fl, sn, md, B, c0, c1, c2, c3, c4, f, g)).1 := ⟨_, rfl⟩
        obtain ⟨arz, agz, stz, szz, flz, snz, mdz, Bz, c0z, c1z, c2z, c3z, c4z, fz, gz⟩ := F
        refine lv_aload_n hx hb d_X_take_23 rfl (lv_at hl 0 rfl) ?_
        refine r_get E hP 0 fl_X_15 rfl rfl d_X_take_24 ?_
        refine r_getN E hP 1 fn_39 rfl rfl d_X_take_27 ?_
        refine lv_istore (lv' := [(4, .int c1), (0, .ref ax), (1, .int (nI k)), (2, .long (lN w))]) hx hb d_X_take_30 hl (by decide) rfl (fun ls hl => ?_)
        refine lv_iload_n hx hb d_X_take_32 rfl (lv_at hl 2 rfl) ?_
        refine lv_iconst (v := nI 1) hx hb d_X_take_33 (by decide +kernel) ?_
        refine r_isub hx hb hk1 d_X_take_34 ?_
        refine r_topi (y := kd k) (kd_of hk1) ?_
        refine lv_istore (lv' := [(5, .int (kd k)), (4, .int c1), (0, .ref ax), (1, .int (nI k)), (2, .long (lN w))]) hx hb d_X_take_35 hl (by decide) rfl (fun ls hl => ?_)
        refine L_X_take_37 l D cB cI ax hs h ac aw wf w h_wv h_w c1 (arz, agz, stz, szz, flz, snz, mdz, Bz, c0z, c1z, c2z, c3z, c4z, fz, gz) E hA (fun H locs ls _ hP hD hS hl => ?_) k (ar, ag, st, sz, fl, sn, md, B, c0, c1, c2, c3, c4, f, g) _ _ ls ⟨hk2, h_i, hF.symm⟩ hP hD hS (lv_sub hl [2, 4, 1, 0] rfl)
        refine lv_aload_n hx hb d_X_take_64 rfl (lv_at hl 0 rfl) ?_
        refine r_get E hP 0 fl_X_15 rfl rfl d_X_take_65 ?_
        refine r_getN E hP 1 fn_39 rfl rfl d_X_take_68 ?_
        refine lv_iload hx hb d_X_take_71 (lv_at hl 1 rfl) ?_
        refine lv_isub hx hb d_X_take_73 ?_
        refine r_topi (y := nI ((rc_take w k (ar, ag, st, sz, fl, sn, md, B, c0, c1, c2, c3, c4, f, g)).2)) (by have e := rcE_take (w := w) k (ar, ag, st, sz, fl, sn, md, B, c0, c1, c2, c3, c4, f, g); rw [← hF] at e; exact (congrArg (· - c1) e).trans (i_sub c1 _)) ?_
        exact r_iret E hr hlk hP hD hS (rfl) ((arz, agz, stz, szz, flz, snz, mdz, Bz, c0z, c1z, c2z, c3z, c4z, fz, gz)) rfl (⟨fun z => z.elim (fun z => absurd z c7) (fun z => z.elim (fun z => absurd z c12) (fun z => absurd c18 z)), fun k2 z1 z2 z3 z4 => by obtain rfl : k = k2 := (nI_eq (by omega) (by omega)).mp z4; exact ⟨hF, rfl⟩⟩) d_X_take_74
      · skip
        refine lv_iconst (v := (-1)) hx hb d_X_take_21 (by decide +kernel) ?_
        exact r_iret E hr hlk hP hD hS (rfl) ((ar, ag, st, sz, fl, sn, md, B, c0, c1, c2, c3, c4, f, g)) rfl (⟨fun _ => ⟨rfl, rfl⟩, fun k z1 z2 z3 z4 => absurd (show p0 ≤ nI 64 by subst z4; exact nI_le z3 (by decide)) (c18)⟩) d_X_take_22

abbrev rm_X_init : Room := { frames := 2, cells := 8, slots := 1230, locals := 44 }
set_option maxHeartbeats 4000000 in
set_option maxRecDepth 100000 in
/-- CodeBlocks() -/
theorem c_X_init (l : Launch) (D : va_G) (cB cI : ClassId) (ax : Nat) : MV l D cB cI y_X_init b_X_init 1 none rm_X_init [.ref ax] [(ax, .inr (0, [.null, .null]))] (fun (u : Nat × Nat × Nat × Nat × Nat × Nat × Nat × Nat × (Nat → Int32)) => ∀ r, r < 128 → u.2.2.2.2.2.2.2.2 r = wt7 63 r) (fun (h, hs, ac, aw, ar, ag, sr, ss, wf) => [(ax, .inr (0, [.ref h, .ref hs])), (h, .inr (2, [.ref ac, .ref ar, .ref ag, .int (nI 0), .int (nI 0), .int (nI 0), .int (nI 0), .int (nI 0), .long (lN 0), .int 0, .int 0, .int 0, .int 0, .int 0])), (ar, .inl (cB, 259, .inl (fun _ => 0))), (ag, .inl (cB, 259, .inl (fun _ => 0))), (ac, .inr (1, [.ref aw])), (aw, .inl (cB, 128, .inl wf)), (hs, .inr (3, [.ref sr, .ref ss, .int (nI 0), .int (nI 0)])), (sr, .inl (cB, 259, .inl (fun _ => 0))), (ss, .inl (cB, 306, .inl (fun _ => 0)))]) := by
  refine m_entryV (by decide +kernel) (Nat.le_of_ble_eq_true rfl) ?_
  intro p e s m below meth c ls A E hr hlk hnm hA hP hD hl
  have hx := E.1.1
  have hb := E.1.2.1
  have hS : va_S A s.heap s.heap [] := va_S.rf
  have hl : lv_has ls 1 [(0, .ref ax)] := hl
  refine lv_aload_n hx hb d_X_init_0 rfl (lv_at hl 0 rfl) ?_
  refine r_objInit E k_11 hl.1 d_X_init_1 (by decide) (Nat.le_of_ble_eq_true rfl) ?_
  refine lv_aload_n hx hb d_X_init_4 rfl (lv_at hl 0 rfl) ?_
  refine va_new (ci := 2) (fs := [.null, .null, .null, .int (nI 0), .int (nI 0), .int (nI 0), .int (nI 0), .int (nI 0), .long (lN 0), .int (nI 0), .int (nI 0), .int (nI 0), .int (nI 0), .int (nI 0)]) (C := R_R) (T := F_R) (N := 14) hx hb E.1.2.2.2.2 i_R t_R t_R_ok E.1.2.2.2.1 (E.1.2.2.2.2 _ k_14) (E.1.2.2.2.2 _ k_15) (E.1.2.2.2.2 _ k_2) E.2.1 hP hD hS hA rfl (by decide +kernel) (by decide) (by decide) d_X_init_5 (fun h H hP hD hS => ?_)
  have hP : va_P D classes [(ax, .inr (0, [.null, .null])), (h, .inr (2, [.null, .null, .null, .int (nI 0), .int (nI 0), .int (nI 0), .int (nI 0), .int (nI 0), .long (lN 0), .int (nI 0), .int (nI 0), .int (nI 0), .int (nI 0), .int (nI 0)]))] H := hP
  have hD : va_D A [(ax, .inr (0, [.null, .null])), (h, .inr (2, [.null, .null, .null, .int (nI 0), .int (nI 0), .int (nI 0), .int (nI 0), .int (nI 0), .long (lN 0), .int (nI 0), .int (nI 0), .int (nI 0), .int (nI 0), .int (nI 0)]))] := hD
  refine W.widen (k := 1) (n := 14) (Nat.le_of_ble_eq_true rfl) (Nat.le_of_ble_eq_true rfl) ?_
  refine lv_dup hx hb d_X_init_8 rfl ?_
  refine va_new (ci := 1) (fs := [.null]) (C := R_C) (T := F_C) (N := 1) hx hb E.1.2.2.2.2 i_C t_C t_C_ok E.1.2.2.2.1 (E.1.2.2.2.2 _ k_16) (E.1.2.2.2.2 _ k_17) (E.1.2.2.2.2 _ k_3) E.2.1 hP hD hS hA rfl (by decide +kernel) (by decide) (by decide) d_X_init_9 (fun ac H hP hD hS => ?_)
  have hP : va_P D classes [(ax, .inr (0, [.null, .null])), (h, .inr (2, [.null, .null, .null, .int (nI 0), .int (nI 0), .int (nI 0), .int (nI 0), .int (nI 0), .long (lN 0), .int (nI 0), .int (nI 0), .int (nI 0), .int (nI 0), .int (nI 0)])), (ac, .inr (1, [.null]))] H := hP
  have hD : va_D A [(ax, .inr (0, [.null, .null])), (h, .inr (2, [.null, .null, .null, .int (nI 0), .int (nI 0), .int (nI 0), .int (nI 0), .int (nI 0), .long (lN 0), .int (nI 0), .int (nI 0), .int (nI 0), .int (nI 0), .int (nI 0)])), (ac, .inr (1, [.null]))] := hD
  refine W.widen (k := 2) (n := 15) (Nat.le_of_ble_eq_true rfl) (Nat.le_of_ble_eq_true rfl) ?_
  refine lv_dup hx hb d_X_init_12 rfl ?_
  refine r_callIV (wr := [(ax, .inr (0, [.null, .null])), (h, .inr (2, [.null, .null, .null, .int (nI 0), .int (nI 0), .int (nI 0), .int (nI 0), .int (nI 0), .long (lN 0), .int (nI 0), .int (nI 0), .int (nI 0), .int (nI 0), .int (nI 0)]))]) (rest := [.ref ac, .ref h, .ref h, .ref ax]) E cs_X_11 (c_C_init l D cB cI ac) hP hD hS hA [2] [0, 1] ⟨rfl, rfl, by decide, by decide, by decide⟩ hl.1 rfl rfl (Nat.le_of_ble_eq_true rfl) ⟨by decide, by decide⟩ ⟨by decide, by decide⟩ d_X_init_13 (fun u H locs hw hP hD hS => ?_)
  obtain ⟨aw, wf⟩ := u
  have hwf := hw
  have hP : va_P D classes [(ax, .inr (0, [.null, .null])), (h, .inr (2, [.null, .null, .null, .int (nI 0), .int (nI 0), .int (nI 0), .int (nI 0), .int (nI 0), .long (lN 0), .int (nI 0), .int (nI 0), .int (nI 0), .int (nI 0), .int (nI 0)])), (ac, .inr (1, [.ref aw])), (aw, .inl (cB, 128, .inl wf))] H := hP.sub [0, 1, 2, 3] rfl
  have hD : va_D A [(ax, .inr (0, [.null, .null])), (h, .inr (2, [.null, .null, .null, .int (nI 0), .int (nI 0), .int (nI 0), .int (nI 0), .int (nI 0), .long (lN 0), .int (nI 0), .int (nI 0), .int (nI 0), .int (nI 0), .int (nI 0)])), (ac, .inr (1, [.ref aw])), (aw, .inl (cB, 128, .inl wf))] := hD.sub [0, 1, 2, 3] (by decide) rfl
  refine W.widen (k := 3) (n := 143) (Nat.le_of_ble_eq_true rfl) (Nat.le_of_ble_eq_true rfl) ?_
  refine r_callIV (wr := [(ax, .inr (0, [.null, .null])), (ac, .inr (1, [.ref aw])), (aw, .inl (cB, 128, .inl wf))]) (rest := [.ref h, .ref ax]) E cs_X_12 (c_R_init l D cB cI h ac) hP hD hS hA [1] [0, 2, 3] ⟨rfl, rfl, by decide, by decide, by decide⟩ hl.1 rfl rfl (Nat.le_of_ble_eq_true rfl) ⟨by decide, by decide⟩ ⟨by decide, by decide⟩ d_X_init_16 (fun u H locs hw hP hD hS => ?_)
  obtain ⟨ar, ag⟩ := u
  have hP : va_P D classes [(ax, .inr (0, [.null, .null])), (h, .inr (2, [.ref ac, .ref ar, .ref ag, .int (nI 0), .int (nI 0), .int (nI 0), .int (nI 0), .int (nI 0), .long (lN 0), .int 0, .int 0, .int 0, .int 0, .int 0])), (ar, .inl (cB, 259, .inl (fun _ => 0))), (ag, .inl (cB, 259, .inl (fun _ => 0))), (ac, .inr (1, [.ref aw])), (aw, .inl (cB, 128, .inl wf))] H := hP.sub [0, 3, 4, 5, 1, 2] rfl
  have hD : va_D A [(ax, .inr (0, [.null, .null])), (h, .inr (2, [.ref ac, .ref ar, .ref ag, .int (nI 0), .int (nI 0), .int (nI 0), .int (nI 0), .int (nI 0), .long (lN 0), .int 0, .int 0, .int 0, .int 0, .int 0])), (ar, .inl (cB, 259, .inl (fun _ => 0))), (ag, .inl (cB, 259, .inl (fun _ => 0))), (ac, .inr (1, [.ref aw])), (aw, .inl (cB, 128, .inl wf))] := hD.sub [0, 3, 4, 5, 1, 2] (by decide) rfl
  refine W.widen (k := 5) (n := 661) (Nat.le_of_ble_eq_true rfl) (Nat.le_of_ble_eq_true rfl) ?_
  refine r_putF E hP hD hS 0 fl_X_15 hnm rfl rfl (rfl) (rfl) (ws' := [(ax, .inr (0, [.ref h, .null])), (h, .inr (2, [.ref ac, .ref ar, .ref ag, .int (nI 0), .int (nI 0), .int (nI 0), .int (nI 0), .int (nI 0), .long (lN 0), .int 0, .int 0, .int 0, .int 0, .int 0])), (ar, .inl (cB, 259, .inl (fun _ => 0))), (ag, .inl (cB, 259, .inl (fun _ => 0))), (ac, .inr (1, [.ref aw])), (aw, .inl (cB, 128, .inl wf))]) rfl d_X_init_19 (fun H locs hP hD hS => ?_)
  refine lv_aload_n hx hb d_X_init_22 rfl (lv_at hl 0 rfl) ?_
  refine va_new (ci := 3) (fs := [.null, .null, .int (nI 0), .int (nI 0)]) (C := R_S) (T := F_S) (N := 4) hx hb E.1.2.2.2.2 i_S t_S t_S_ok E.1.2.2.2.1 (E.1.2.2.2.2 _ k_86) (E.1.2.2.2.2 _ k_87) (E.1.2.2.2.2 _ k_4) E.2.1 hP hD hS hA rfl (by decide +kernel) (by decide) (by decide) d_X_init_23 (fun hs H hP hD hS => ?_)
  have hP : va_P D classes [(ax, .inr (0, [.ref h, .null])), (h, .inr (2, [.ref ac, .ref ar, .ref ag, .int (nI 0), .int (nI 0), .int (nI 0), .int (nI 0), .int (nI 0), .long (lN 0), .int 0, .int 0, .int 0, .int 0, .int 0])), (ar, .inl (cB, 259, .inl (fun _ => 0))), (ag, .inl (cB, 259, .inl (fun _ => 0))), (ac, .inr (1, [.ref aw])), (aw, .inl (cB, 128, .inl wf)), (hs, .inr (3, [.null, .null, .int (nI 0), .int (nI 0)]))] H := hP
  have hD : va_D A [(ax, .inr (0, [.ref h, .null])), (h, .inr (2, [.ref ac, .ref ar, .ref ag, .int (nI 0), .int (nI 0), .int (nI 0), .int (nI 0), .int (nI 0), .long (lN 0), .int 0, .int 0, .int 0, .int 0, .int 0])), (ar, .inl (cB, 259, .inl (fun _ => 0))), (ag, .inl (cB, 259, .inl (fun _ => 0))), (ac, .inr (1, [.ref aw])), (aw, .inl (cB, 128, .inl wf)), (hs, .inr (3, [.null, .null, .int (nI 0), .int (nI 0)]))] := hD
  refine W.widen (k := 6) (n := 665) (Nat.le_of_ble_eq_true rfl) (Nat.le_of_ble_eq_true rfl) ?_
  refine lv_dup hx hb d_X_init_26 rfl ?_
  refine r_callJV (wr := [(ax, .inr (0, [.ref h, .null])), (h, .inr (2, [.ref ac, .ref ar, .ref ag, .int (nI 0), .int (nI 0), .int (nI 0), .int (nI 0), .int (nI 0), .long (lN 0), .int 0, .int 0, .int 0, .int 0, .int 0])), (ar, .inl (cB, 259, .inl (fun _ => 0))), (ag, .inl (cB, 259, .inl (fun _ => 0))), (ac, .inr (1, [.ref aw])), (aw, .inl (cB, 128, .inl wf))]) (rest := [.ref hs, .ref ax]) E cs_X_23 (c_S_init l D cB cI hs) hP hD hS hA [6] [0, 1, 2, 3, 4, 5] ⟨rfl, rfl, by decide, by decide, by decide⟩ hl.1 rfl rfl (Nat.le_of_ble_eq_true rfl) ⟨by decide, by decide⟩ ⟨by decide, by decide⟩ d_X_init_27 (fun u H locs hw hP hD hS => ?_)
  obtain ⟨sr, ss⟩ := u
  have hP : va_P D classes [(ax, .inr (0, [.ref h, .null])), (h, .inr (2, [.ref ac, .ref ar, .ref ag, .int (nI 0), .int (nI 0), .int (nI 0), .int (nI 0), .int (nI 0), .long (lN 0), .int 0, .int 0, .int 0, .int 0, .int 0])), (ar, .inl (cB, 259, .inl (fun _ => 0))), (ag, .inl (cB, 259, .inl (fun _ => 0))), (ac, .inr (1, [.ref aw])), (aw, .inl (cB, 128, .inl wf)), (hs, .inr (3, [.ref sr, .ref ss, .int (nI 0), .int (nI 0)])), (sr, .inl (cB, 259, .inl (fun _ => 0))), (ss, .inl (cB, 306, .inl (fun _ => 0)))] H := hP.sub [0, 1, 2, 3, 4, 5, 6, 7, 8] rfl
  have hD : va_D A [(ax, .inr (0, [.ref h, .null])), (h, .inr (2, [.ref ac, .ref ar, .ref ag, .int (nI 0), .int (nI 0), .int (nI 0), .int (nI 0), .int (nI 0), .long (lN 0), .int 0, .int 0, .int 0, .int 0, .int 0])), (ar, .inl (cB, 259, .inl (fun _ => 0))), (ag, .inl (cB, 259, .inl (fun _ => 0))), (ac, .inr (1, [.ref aw])), (aw, .inl (cB, 128, .inl wf)), (hs, .inr (3, [.ref sr, .ref ss, .int (nI 0), .int (nI 0)])), (sr, .inl (cB, 259, .inl (fun _ => 0))), (ss, .inl (cB, 306, .inl (fun _ => 0)))] := hD.sub [0, 1, 2, 3, 4, 5, 6, 7, 8] (by decide) rfl
  refine W.widen (k := 8) (n := 1230) (Nat.le_of_ble_eq_true rfl) (Nat.le_of_ble_eq_true rfl) ?_
  refine r_putF E hP hD hS 0 fl_X_24 hnm rfl rfl (rfl) (rfl) (ws' := [(ax, .inr (0, [.ref h, .ref hs])), (h, .inr (2, [.ref ac, .ref ar, .ref ag, .int (nI 0), .int (nI 0), .int (nI 0), .int (nI 0), .int (nI 0), .long (lN 0), .int 0, .int 0, .int 0, .int 0, .int 0])), (ar, .inl (cB, 259, .inl (fun _ => 0))), (ag, .inl (cB, 259, .inl (fun _ => 0))), (ac, .inr (1, [.ref aw])), (aw, .inl (cB, 128, .inl wf)), (hs, .inr (3, [.ref sr, .ref ss, .int (nI 0), .int (nI 0)])), (sr, .inl (cB, 259, .inl (fun _ => 0))), (ss, .inl (cB, 306, .inl (fun _ => 0)))]) rfl d_X_init_30 (fun H locs hP hD hS => ?_)
  exact r_vret E hr hlk hP hD hS ((h, hs, ac, aw, ar, ag, sr, ss, wf)) rfl (hwf) d_X_init_33
end
section
/-! what the model does, on its own cells -/
def dt (β : Nat → Nat) (t j : Nat) : Nat := (β j ^^^ (if j ≤ 55 then 0 else 1)) ^^^ (if j = t then 1 else 0)
theorem x_lt2 {a b : Nat} (ha : a < 2) (hb : b < 2) : a ^^^ b < 2 := Nat.xor_lt_two_pow (n := 1) ha hb
theorem dt_lt {β : Nat → Nat} (hβ : ∀ j, β j < 2) (t j : Nat) : dt β t j < 2 := x_lt2 (x_lt2 (hβ j) (by split <;> omega)) (by split <;> omega)
theorem dt_rm {β : Nat → Nat} (hβ : ∀ j, β j < 2) (t n : Nat) : rm7 (dt β t) n < 128 := rm7_lt n (fun j _ => dt_lt hβ t j)
def fnd (β : Nat → Nat) : Nat → Int32
  | 0 => -2
  | k + 1 => if rm7 (dt β k) 63 = 0 then nI k else fnd β k
def mwr (β : Nat → Nat) (md : Nat) : Int32 := if rm7 (dt β 63) 63 = 0 then -1 else if md = 0 then -2 else fnd β 63
theorem m1_c : ∀ k, k < 63 → (nI k = (-1 : Int32) ↔ k = 63) := by decide +kernel
theorem nk_c {t : Nat} (ht : t < 63) : ∀ k, k < 63 → (nI k = nI t ↔ k = t) := fun k hk => nI_eq (by omega) (by omega)
def cpy (f g : Nat → Int32) (n : Nat) : Nat → Int32 := fun j => if j < n then f j else g j
theorem cpy_0 (f g : Nat → Int32) : cpy f g 0 = g := by
  funext j
  exact if_neg (by omega)
theorem cpy_s (f g : Nat → Int32) (n : Nat) : upd (cpy f g n) n (f n) = cpy f g (n + 1) := by
  funext j
  by_cases h : j = n
  · subst h
    rw [upd_s, cpy, if_pos (by omega)]
  · rw [upd_n h, cpy, cpy]
    by_cases h2 : j < n
    · rw [if_pos h2, if_pos (by omega)]
    · rw [if_neg h2, if_neg (by omega)]
def bv (γ : Nat → Nat) (s : Nat) : Nat → Nat
  | 0 => 0
  | i + 1 => 2 * bv γ s i + γ (s + i)
theorem bv_lt {γ : Nat → Nat} (h : ∀ j, γ j < 2) (s : Nat) : ∀ i, bv γ s i < 2 ^ i
  | 0 => by show 0 < 2 ^ 0; decide
  | i + 1 => by
    have h1 := bv_lt h s i
    have h2 := h (s + i)
    rw [bv, Nat.pow_succ]
    omega
def gm (β : Nat → Nat) (w : Int32) (j : Nat) : Nat := β j ^^^ (if nI j = w then 1 else 0)
theorem gm_lt {β : Nat → Nat} (hβ : ∀ j, β j < 2) (w : Int32) (j : Nat) : gm β w j < 2 := x_lt2 (hβ j) (by split <;> omega)
def wm7 (f : Nat → Int32) (rw_ : Nat) (γ : Nat → Nat) (n : Nat) : Nat → Int32 := fun j => if rw_ ≤ j ∧ j < rw_ + n then nI (bv γ (8 * (j - rw_)) 8) else f j
theorem wm7_0 (f : Nat → Int32) (r : Nat) (γ : Nat → Nat) : wm7 f r γ 0 = f := by
  funext j
  exact if_neg (by omega)
theorem wm7_s (f : Nat → Int32) (r : Nat) (γ : Nat → Nat) (n : Nat) : upd (wm7 f r γ n) (r + n) (nI (bv γ (8 * n) 8)) = wm7 f r γ (n + 1) := by
  funext j
  by_cases h : j = r + n
  · subst h
    rw [upd_s, wm7, if_pos (by omega), show r + n - r = n by omega]
  · rw [upd_n h, wm7, wm7]
    by_cases h2 : r ≤ j ∧ j < r + n
    · rw [if_pos h2, if_pos (by omega)]
    · rw [if_neg h2, if_neg (by omega)]
/-- (state, many, rows, size, row, received, counts) -/
abbrev MB : Type := Nat × Nat × Nat × Nat × (Nat → Int32) × (Nat → Int32) × (Nat → Int32)
def mb_end : MB → MB := fun (st, mn, rw, sz, fr, fv, fc) => (1, 0, 0, if rw = 0 then sz else rw, fr, cpy fr fv rw, upd fc 1 (fc 1 + nI 1))
def mb_row (β : Nat → Nat) (w : Int32) : MB → MB := fun (st, mn, rw, sz, fr, fv, fc) => (st, 0, rw + 7, sz, wm7 fr rw (gm β w) 7, fv, upd (upd fc 2 (fc 2 + nI 1)) 3 (upd fc 2 (fc 2 + nI 1) 3 + nI (if w < 0 then 0 else 1)))
def mb_block (β : Nat → Nat) (md : Nat) : MB → MB × Nat := fun (st, mn, rw, sz, fr, fv, fc) =>
  if mwr β md = -2 then (mb_end (st, mn, rw, sz, fr, fv, fc), 1)
  else if rw + 7 = 259 then (mb_end (mb_row β (mwr β md) (st, mn, rw, sz, fr, fv, fc)), 1) else (mb_row β (mwr β md) (st, mn, rw, sz, fr, fv, fc), 0)
/-- how many of the first k bits differ from the mark's -/
def df (β : Nat → Nat) : Nat → Nat
  | 0 => 0
  | k + 1 => df β k + (if β k = 60304 / 2 ^ (15 - k) % 2 then 0 else 1)
theorem df_le (β : Nat → Nat) : ∀ k, df β k ≤ k
  | 0 => Nat.le_refl 0
  | k + 1 => by
    have := df_le β k
    rw [df]
    split <;> omega
theorem mk_sh : ∀ k, k < 16 → (nI 60304 >>> (nI (15 - k) &&& 31)) &&& nI 1 = nI (60304 / 2 ^ (15 - k) % 2) := by decide +kernel
theorem sh_i {x k : Nat} (hx : x < 2 ^ 31) (hk : k < 32) : nI x >>> (nI k &&& 31) = nI (x / 2 ^ k) := pk_shrN hx _ k ((by decide +kernel : ∀ k, k < 32 → ((nI k &&& 31).toBitVec.smod 32).toNat = k) k hk)
/-- the bits of a check: seven bytes from s on, then the check c turned round -/
def cb (p : Nat → Nat) (s c k : Nat) : Nat := if k < 56 then p (s + k / 8) / 2 ^ (7 - k % 8) % 2 else 1 - c / 2 ^ (62 - k) % 2
theorem cb_lt (p : Nat → Nat) (s c k : Nat) : cb p s c k < 2 := by
  unfold cb
  split <;> omega
theorem cb_rm (p : Nat → Nat) (s c n : Nat) : rm7 (cb p s c) n < 128 := rm7_lt n (fun j _ => cb_lt p s c j)
def fch (p : Nat → Nat) (s : Nat) : Nat → Nat
  | 0 => 0
  | c + 1 => if rm7 (cb p s c) 63 = 0 then 2 * c else fch p s c
theorem fch_le (p : Nat → Nat) (s : Nat) : ∀ c, fch p s c ≤ 2 * c
  | 0 => Nat.le_refl 0
  | c + 1 => by
    have := fch_le p s c
    rw [fch]
    split <;> omega
theorem lt0_nI {k : Nat} (h : k < 2 ^ 31) : ¬ nI k < 0 := nI_pos h
section MBE
variable {β : Nat → Nat} {st mn md ro sz : Nat} {fr fv fc : Nat → Int32}
theorem mbk_0 (h : mwr β md = -2) : mb_block β md (st, mn, ro, sz, fr, fv, fc) = (mb_end (st, mn, ro, sz, fr, fv, fc), 1) := if_pos h
theorem mbk_1 (h : ¬ mwr β md = -2) (h2 : ro + 7 = 259) : mb_block β md (st, mn, ro, sz, fr, fv, fc) = (mb_end (mb_row β (mwr β md) (st, mn, ro, sz, fr, fv, fc)), 1) := (if_neg h).trans (if_pos h2)
theorem mbk_2 (h : ¬ mwr β md = -2) (h2 : ro + 7 ≠ 259) : mb_block β md (st, mn, ro, sz, fr, fv, fc) = (mb_row β (mwr β md) (st, mn, ro, sz, fr, fv, fc), 0) := (if_neg h).trans (if_neg h2)
end MBE
end
section
abbrev rm_M_begins : Room := { frames := 0, cells := 0, slots := 0, locals := 0 }
set_option maxHeartbeats 4000000 in
set_option maxRecDepth 100000 in
/-- begins(what) -/
theorem c_M_begins (l : Launch) (D : va_G) (cB cI : ClassId) (h xb xr xv xw xs xc st md mn ro sz wn sn : Nat) (th : Int32) (wt_ : Nat) : MV l D cB cI y_M_begins b_M_begins 2 none rm_M_begins [.ref h, .int (nI wt_)] [(h, .inr (4, [.int th, .int (nI st), .int (nI md), .ref xb, .int (nI mn), .ref xr, .int (nI ro), .ref xv, .int (nI sz), .ref xw, .int (nI wn), .ref xs, .int (nI sn), .ref xc]))] (fun (_ : Unit) => True) (fun _ => [(h, .inr (4, [.int th, .int (nI wt_), .int (nI md), .ref xb, .int (nI 0), .ref xr, .int (nI ro), .ref xv, .int (nI sz), .ref xw, .int (nI wn), .ref xs, .int (nI sn), .ref xc]))]) := by
  refine m_entryV (by decide +kernel) (Nat.le_of_ble_eq_true rfl) ?_
  intro p e s m below meth c ls A E hr hlk hnm hA hP hD hl
  have hx := E.1.1
  have hb := E.1.2.1
  have hS : va_S A s.heap s.heap [] := va_S.rf
  have hl : lv_has ls 2 [(0, .ref h), (1, .int (nI wt_))] := hl
  refine lv_aload_n hx hb d_M_begins_0 rfl (lv_at hl 0 rfl) ?_
  refine lv_iload_n hx hb d_M_begins_1 rfl (lv_at hl 1 rfl) ?_
  refine r_put E hP hD hS 0 fl_M_40 rfl rfl (rfl) (rfl) (ws' := [(h, .inr (4, [.int th, .int (nI wt_), .int (nI md), .ref xb, .int (nI mn), .ref xr, .int (nI ro), .ref xv, .int (nI sz), .ref xw, .int (nI wn), .ref xs, .int (nI sn), .ref xc]))]) rfl d_M_begins_2 (fun H locs hP hD hS => ?_)
  refine lv_aload_n hx hb d_M_begins_5 rfl (lv_at hl 0 rfl) ?_
  refine lv_iconst (v := nI 0) hx hb d_M_begins_6 (by decide +kernel) ?_
  refine r_put E hP hD hS 0 fl_M_43 rfl rfl (rfl) (rfl) (ws' := [(h, .inr (4, [.int th, .int (nI wt_), .int (nI md), .ref xb, .int (nI 0), .ref xr, .int (nI ro), .ref xv, .int (nI sz), .ref xw, .int (nI wn), .ref xs, .int (nI sn), .ref xc]))]) rfl d_M_begins_7 (fun H locs hP hD hS => ?_)
  exact r_vret E hr hlk hP hD hS (()) rfl (trivial) d_M_begins_10

abbrev rm_M_divided : Room := { frames := 0, cells := 0, slots := 0, locals := 0 }
set_option maxHeartbeats 4000000 in
set_option maxRecDepth 100000 in
theorem L_M_divided_4 (l : Launch) (D : va_G) (cB cI : ClassId) (h xb xr xv xw xs xc st md mn ro sz wn sn : Nat) (th : Int32) (fb : Nat → Int32) (β : Nat → Nat) (h_β : ∀ j, β j < 2) (h_b : ∀ j, j < 63 → fb j = nI (β j)) (t : Int32) (τ : Nat) (h_c : ∀ k, k < 63 → (nI k = t ↔ k = τ)) {p : Program} {e : Env} {s : State} {m : MethodId} {args : Array Value} {below : List Frame} {meth : Method} {c : Code} {A : Nat → Prop} {Q : State → Prop} (E : Ev p m c b_M_divided 5 s args "CodeBlocksModel" D cB cI) (hA : ∀ q : Nat, s.heap.size ≤ q → A q)
    (K : ∀ (H : Heap) (locs : List Loc) (ls : Array Slot), (True) → va_P D classes [(h, .inr (4, [.int th, .int (nI st), .int (nI md), .ref xb, .int (nI mn), .ref xr, .int (nI ro), .ref xv, .int (nI sz), .ref xw, .int (nI wn), .ref xs, .int (nI sn), .ref xc])), (xb, .inl (cI, 64, .inl fb))] H → va_D A [(h, .inr (4, [.int th, .int (nI st), .int (nI md), .ref xb, .int (nI mn), .ref xr, .int (nI ro), .ref xv, .int (nI sz), .ref xw, .int (nI wn), .ref xs, .int (nI sn), .ref xc])), (xb, .inl (cI, 64, .inl fb))] → va_S A s.heap H locs → lv_has ls 5 [(0, .ref h), (2, .int (nI (rm7 (dt β τ) 63)))] → W p l e rm_M_divided s m args below meth c H locs 0 0 Q (F0 m 70 ls [])) :
    ∀ (n : Nat) (k : Nat) (H : Heap) (locs : List Loc) (ls : Array Slot), (k + n = 63) → va_P D classes [(h, .inr (4, [.int th, .int (nI st), .int (nI md), .ref xb, .int (nI mn), .ref xr, .int (nI ro), .ref xv, .int (nI sz), .ref xw, .int (nI wn), .ref xs, .int (nI sn), .ref xc])), (xb, .inl (cI, 64, .inl fb))] H → va_D A [(h, .inr (4, [.int th, .int (nI st), .int (nI md), .ref xb, .int (nI mn), .ref xr, .int (nI ro), .ref xv, .int (nI sz), .ref xw, .int (nI wn), .ref xs, .int (nI sn), .ref xc])), (xb, .inl (cI, 64, .inl fb))] → va_S A s.heap H locs → lv_has ls 5 [(0, .ref h), (1, .int t), (2, .int (nI (rm7 (dt β τ) k))), (3, .int (nI k))] → W p l e rm_M_divided s m args below meth c H locs 0 0 Q (F0 m 4 ls []) := by
  have hx := E.1.1
  have hb := E.1.2.1
  intro n
  induction n with
  | zero =>
    intro k H locs ls hi hP hD hS hl
    obtain rfl : k = 63 := by omega
    have hl : lv_has ls 5 [(0, .ref h), (1, .int t), (2, .int (nI (rm7 (dt β τ) 63))), (3, .int (nI 63))] := hl
    refine lv_iload_n hx hb d_M_divided_4 rfl (lv_at hl 3 rfl) ?_
    refine lv_bipush (v := nI 63) hx hb d_M_divided_5 (by decide +kernel) ?_
    refine r_icmp_ge (tgt := 70) hx hb ⟨by omega, by omega⟩ d_M_divided_7 (by decide) (fun c7 => ?_) (fun c7 => False.elim (by omega))
    exact K  H locs ls (trivial) hP hD hS (lv_sub hl [0, 2] rfl)
  | succ n ih =>
    intro k H locs ls hi hP hD hS hl
    have hrm := dt_rm h_β τ k
    have hdt := dt_lt h_β τ k
    refine lv_iload_n hx hb d_M_divided_4 rfl (lv_at hl 3 rfl) ?_
    refine lv_bipush (v := nI 63) hx hb d_M_divided_5 (by decide +kernel) ?_
    refine r_icmp_ge (tgt := 70) hx hb ⟨by omega, by omega⟩ d_M_divided_7 (by decide) (fun c7 => False.elim (by omega)) (fun c7 => ?_)
    refine lv_aload_n hx hb d_M_divided_10 rfl (lv_at hl 0 rfl) ?_
    refine r_get E hP 0 fl_M_7 rfl rfl d_M_divided_11 ?_
    refine lv_iload_n hx hb d_M_divided_14 rfl (lv_at hl 3 rfl) ?_
    refine r_iald E hP 1 rfl (by omega) (by decide) d_M_divided_15 ?_
    refine r_topi (y := nI (β k)) (h_b k (by omega)) ?_
    refine lv_iload_n hx hb d_M_divided_16 rfl (lv_at hl 3 rfl) ?_
    refine lv_bipush (v := nI 55) hx hb d_M_divided_17 (by decide +kernel) ?_
    refine r_merge (rest := [.int (nI (β k))]) (ls := ls) 27 (fun v => v = nI (if k ≤ 55 then 0 else 1)) (fun v hv => ?_) (fun J => ?_)
    · subst hv
      refine lv_ixor hx hb d_M_divided_27 ?_
      refine r_topi (y := nI (β k ^^^ (if k ≤ 55 then 0 else 1))) (nx_xor _ _) ?_
      refine lv_iload_n hx hb d_M_divided_28 rfl (lv_at hl 3 rfl) ?_
      refine lv_iload_n hx hb d_M_divided_29 rfl (lv_at hl 1 rfl) ?_
      refine r_merge (rest := [.int (nI (β k ^^^ (if k ≤ 55 then 0 else 1)))]) (ls := ls) 38 (fun v => v = nI (if k = τ then 1 else 0)) (fun v hv => ?_) (fun J => ?_)
      · subst hv
        refine lv_ixor hx hb d_M_divided_38 ?_
        refine r_topi (y := nI (dt β τ k)) (nx_xor _ _) ?_
        refine lv_istore (lv' := [(4, .int (nI (dt β τ k))), (0, .ref h), (1, .int t), (2, .int (nI (rm7 (dt β τ) k))), (3, .int (nI k))]) hx hb d_M_divided_39 hl (by decide) rfl (fun ls hl => ?_)
        refine lv_iconst (v := nI 2) hx hb d_M_divided_41 (by decide +kernel) ?_
        refine lv_iload_n hx hb d_M_divided_42 rfl (lv_at hl 3 rfl) ?_
        refine r_imul hx hb d_M_divided_43 ?_
        refine lv_iload hx hb d_M_divided_44 (lv_at hl 0 rfl) ?_
        refine r_iadd hx hb d_M_divided_46 ?_
        refine lv_istore_n (lv' := [(2, .int (nI ((2 * (rm7 (dt β τ) k)) + (dt β τ k)))), (4, .int (nI (dt β τ k))), (0, .ref h), (1, .int t), (3, .int (nI k))]) hx hb d_M_divided_47 rfl hl (by decide) rfl (fun ls hl => ?_)
        refine lv_iload_n hx hb d_M_divided_48 rfl (lv_at hl 0 rfl) ?_
        refine lv_bipush (v := nI 127) hx hb d_M_divided_49 (by decide +kernel) ?_
        refine r_merge (rest := []) (ls := ls) 63 (fun v => v = nI (rm7 (dt β τ) (k + 1))) (fun v hv => ?_) (fun J => ?_)
        · subst hv
          refine lv_istore_n (lv' := [(2, .int (nI (rm7 (dt β τ) (k + 1)))), (4, .int (nI (dt β τ k))), (0, .ref h), (1, .int t), (3, .int (nI k))]) hx hb d_M_divided_63 rfl hl (by decide) rfl (fun ls hl => ?_)
          refine lv_iinc (v := nI (k + 1)) (lv' := [(3, .int (nI (k + 1))), (2, .int (nI (rm7 (dt β τ) (k + 1)))), (4, .int (nI (dt β τ k))), (0, .ref h), (1, .int t)]) hx hb d_M_divided_64 hl (k := 4) rfl (nI_add _ _) (by decide) rfl (fun ls hl => ?_)
          refine lv_goto (tgt := 4) hx hb d_M_divided_67 (by decide) ?_
          exact ih (k + 1) H locs ls (by omega) hP hD hS (lv_sub hl [3, 4, 1, 0] rfl)
        · skip
          refine r_icmp_le (tgt := 62) hx hb ⟨by omega, by omega⟩ d_M_divided_51 (by decide) (fun c51 => ?_) (fun c51 => ?_)
          · skip
            refine lv_iload_n hx hb d_M_divided_62 rfl (lv_at hl 0 rfl) ?_
            exact J _ (by rw [rm7, st7, if_pos (by omega)])
          · skip
            refine lv_iload_n hx hb d_M_divided_54 rfl (lv_at hl 0 rfl) ?_
            refine lv_sipush (v := nI 197) hx hb d_M_divided_55 (by decide +kernel) ?_
            refine lv_ixor hx hb d_M_divided_58 ?_
            refine r_topi (y := nI (((2 * rm7 (dt β τ) k) + dt β τ k) ^^^ 197)) (nx_xor _ _) ?_
            refine lv_goto (tgt := 63) hx hb d_M_divided_59 (by decide) ?_
            exact J _ (by rw [rm7, st7, if_neg (by omega)])
      · skip
        refine lv_icmp_ne (tgt := 37) hx hb d_M_divided_30 (by decide) (fun c30 => ?_) (fun c30 => ?_)
        · skip
          refine lv_iconst (v := nI 0) hx hb d_M_divided_37 (by decide +kernel) ?_
          exact J _ (by rw [if_neg (fun z => c30 ((h_c k (by omega)).mpr z))])
        · skip
          refine lv_iconst (v := nI 1) hx hb d_M_divided_33 (by decide +kernel) ?_
          refine lv_goto (tgt := 38) hx hb d_M_divided_34 (by decide) ?_
          exact J _ (by rw [if_pos ((h_c k (by omega)).mp c30)])
    · skip
      refine r_icmp_le (tgt := 26) hx hb ⟨by omega, by omega⟩ d_M_divided_19 (by decide) (fun c19 => ?_) (fun c19 => ?_)
      · skip
        refine lv_iconst (v := nI 0) hx hb d_M_divided_26 (by decide +kernel) ?_
        exact J _ (by rw [if_pos c19])
      · skip
        refine lv_iconst (v := nI 1) hx hb d_M_divided_22 (by decide +kernel) ?_
        refine lv_goto (tgt := 27) hx hb d_M_divided_23 (by decide) ?_
        exact J _ (by rw [if_neg (by omega)])

set_option maxHeartbeats 4000000 in
set_option maxRecDepth 100000 in
/-- divided(t) -/
theorem c_M_divided (l : Launch) (D : va_G) (cB cI : ClassId) (h xb xr xv xw xs xc st md mn ro sz wn sn : Nat) (th : Int32) (fb : Nat → Int32) (β : Nat → Nat) (h_β : ∀ j, β j < 2) (h_b : ∀ j, j < 63 → fb j = nI (β j)) (t : Int32) (τ : Nat) (h_c : ∀ k, k < 63 → (nI k = t ↔ k = τ)) : MI l D cB cI y_M_divided b_M_divided 5 (some .boolean) rm_M_divided [.ref h, .int t] [(h, .inr (4, [.int th, .int (nI st), .int (nI md), .ref xb, .int (nI mn), .ref xr, .int (nI ro), .ref xv, .int (nI sz), .ref xw, .int (nI wn), .ref xs, .int (nI sn), .ref xc])), (xb, .inl (cI, 64, .inl fb))] (fun (v : Int32) (_ : Unit) => v = nI (if rm7 (dt β τ) 63 = 0 then 1 else 0)) (fun _ => [(h, .inr (4, [.int th, .int (nI st), .int (nI md), .ref xb, .int (nI mn), .ref xr, .int (nI ro), .ref xv, .int (nI sz), .ref xw, .int (nI wn), .ref xs, .int (nI sn), .ref xc])), (xb, .inl (cI, 64, .inl fb))]) := by
  refine m_entryI (by decide +kernel) (Nat.le_of_ble_eq_true rfl) ?_
  intro p e s m below meth c ls A E hr hlk hnm hA hP hD hl
  have hx := E.1.1
  have hb := E.1.2.1
  have hS : va_S A s.heap s.heap [] := va_S.rf
  have hl : lv_has ls 5 [(0, .ref h), (1, .int t)] := hl
  refine lv_iconst (v := nI 0) hx hb d_M_divided_0 (by decide +kernel) ?_
  refine lv_istore_n (lv' := [(2, .int (nI 0)), (0, .ref h), (1, .int t)]) hx hb d_M_divided_1 rfl hl (by decide) rfl (fun ls hl => ?_)
  refine lv_iconst (v := nI 0) hx hb d_M_divided_2 (by decide +kernel) ?_
  refine lv_istore_n (lv' := [(3, .int (nI 0)), (2, .int (nI 0)), (0, .ref h), (1, .int t)]) hx hb d_M_divided_3 rfl hl (by decide) rfl (fun ls hl => ?_)
  refine L_M_divided_4 l D cB cI h xb xr xv xw xs xc st md mn ro sz wn sn th fb β h_β h_b t τ h_c E hA (fun H locs ls _ hP hD hS hl => ?_) 63 0 _ _ ls (by omega) hP hD hS (lv_sub hl [2, 3, 1, 0] rfl)
  refine lv_iload_n hx hb d_M_divided_70 rfl (lv_at hl 1 rfl) ?_
  refine r_if_ne (tgt := 78) hx hb (Nat.lt_trans (dt_rm h_β τ 63) (by decide)) d_M_divided_71 (by decide) (fun c71 => ?_) (fun c71 => ?_)
  · skip
    refine lv_iconst (v := nI 0) hx hb d_M_divided_78 (by decide +kernel) ?_
    exact r_iret E hr hlk hP hD hS (rfl) (()) rfl (by rw [if_neg c71]) d_M_divided_79
  · skip
    refine lv_iconst (v := nI 1) hx hb d_M_divided_74 (by decide +kernel) ?_
    refine lv_goto (tgt := 79) hx hb d_M_divided_75 (by decide) ?_
    exact r_iret E hr hlk hP hD hS (rfl) (()) rfl (by rw [if_pos c71]) d_M_divided_79

abbrev rm_M_wrong : Room := { frames := 1, cells := 0, slots := 0, locals := 24 }
set_option maxHeartbeats 4000000 in
set_option maxRecDepth 100000 in
theorem L_M_wrong_15 (l : Launch) (D : va_G) (cB cI : ClassId) (h xb xr xv xw xs xc st md mn ro sz wn sn : Nat) (th : Int32) (fb : Nat → Int32) (β : Nat → Nat) (h_β : ∀ j, β j < 2) (h_b : ∀ j, j < 63 → fb j = nI (β j)) (h_md : md < 2) (h_m : md ≠ 0) {p : Program} {e : Env} {s : State} {m : MethodId} {args : Array Value} {below : List Frame} {meth : Method} {c : Code} {A : Nat → Prop} {Q : State → Prop} (E : Ev p m c b_M_wrong 3 s args "CodeBlocksModel" D cB cI) (hA : ∀ q : Nat, s.heap.size ≤ q → A q)
    (K : ∀ (H : Heap) (locs : List Loc) (ls : Array Slot), (True) → va_P D classes [(h, .inr (4, [.int th, .int (nI st), .int (nI md), .ref xb, .int (nI mn), .ref xr, .int (nI ro), .ref xv, .int (nI sz), .ref xw, .int (nI wn), .ref xs, .int (nI sn), .ref xc])), (xb, .inl (cI, 64, .inl fb))] H → va_D A [(h, .inr (4, [.int th, .int (nI st), .int (nI md), .ref xb, .int (nI mn), .ref xr, .int (nI ro), .ref xv, .int (nI sz), .ref xw, .int (nI wn), .ref xs, .int (nI sn), .ref xc])), (xb, .inl (cI, 64, .inl fb))] → va_S A s.heap H locs → lv_has ls 3 [(0, .ref h), (1, .int (fnd β 63))] → W p l e rm_M_wrong s m args below meth c H locs 0 0 Q (F0 m 48 ls [])) :
    ∀ (n : Nat) (k : Nat) (H : Heap) (locs : List Loc) (ls : Array Slot), (k + n = 63) → va_P D classes [(h, .inr (4, [.int th, .int (nI st), .int (nI md), .ref xb, .int (nI mn), .ref xr, .int (nI ro), .ref xv, .int (nI sz), .ref xw, .int (nI wn), .ref xs, .int (nI sn), .ref xc])), (xb, .inl (cI, 64, .inl fb))] H → va_D A [(h, .inr (4, [.int th, .int (nI st), .int (nI md), .ref xb, .int (nI mn), .ref xr, .int (nI ro), .ref xv, .int (nI sz), .ref xw, .int (nI wn), .ref xs, .int (nI sn), .ref xc])), (xb, .inl (cI, 64, .inl fb))] → va_S A s.heap H locs → lv_has ls 3 [(0, .ref h), (1, .int (fnd β k)), (2, .int (nI k))] → W p l e rm_M_wrong s m args below meth c H locs 0 0 Q (F0 m 15 ls []) := by
  have hx := E.1.1
  have hb := E.1.2.1
  intro n
  induction n with
  | zero =>
    intro k H locs ls hi hP hD hS hl
    obtain rfl : k = 63 := by omega
    have hl : lv_has ls 3 [(0, .ref h), (1, .int (fnd β 63)), (2, .int (nI 63))] := hl
    refine lv_iload_n hx hb d_M_wrong_15 rfl (lv_at hl 2 rfl) ?_
    refine lv_bipush (v := nI 63) hx hb d_M_wrong_16 (by decide +kernel) ?_
    refine r_icmp_ge (tgt := 48) hx hb ⟨by omega, by omega⟩ d_M_wrong_18 (by decide) (fun c18 => ?_) (fun c18 => False.elim (by omega))
    exact K  H locs ls (trivial) hP hD hS (lv_sub hl [0, 1] rfl)
  | succ n ih =>
    intro k H locs ls hi hP hD hS hl
    refine lv_iload_n hx hb d_M_wrong_15 rfl (lv_at hl 2 rfl) ?_
    refine lv_bipush (v := nI 63) hx hb d_M_wrong_16 (by decide +kernel) ?_
    refine r_icmp_ge (tgt := 48) hx hb ⟨by omega, by omega⟩ d_M_wrong_18 (by decide) (fun c18 => False.elim (by omega)) (fun c18 => ?_)
    refine lv_aload_n hx hb d_M_wrong_21 rfl (lv_at hl 0 rfl) ?_
    refine r_get E hP 0 fl_M_36 rfl rfl d_M_wrong_22 ?_
    refine r_if_eq (tgt := 48) hx hb (by omega) d_M_wrong_25 (by decide) (fun c25 => False.elim (by omega)) (fun c25 => ?_)
    refine lv_aload_n hx hb d_M_wrong_28 rfl (lv_at hl 0 rfl) ?_
    refine lv_iload_n hx hb d_M_wrong_29 rfl (lv_at hl 2 rfl) ?_
    refine r_callVI (wr := []) (rest := []) E cs_M_32 (c_M_divided l D cB cI h xb xr xv xw xs xc st md mn ro sz wn sn th fb β h_β h_b (nI k) k (nk_c (by omega))) hP hD hS hA [0, 1] [] ⟨rfl, rfl, by decide, by decide, by decide⟩ kc_M rfl hl.1 rfl rfl (Nat.le_of_ble_eq_true rfl) ⟨by decide, by decide⟩ ⟨by decide, by decide⟩ d_M_wrong_30 (fun r u H locs hw hP hD hS => ?_)
    subst hw
    have hP : va_P D classes [(h, .inr (4, [.int th, .int (nI st), .int (nI md), .ref xb, .int (nI mn), .ref xr, .int (nI ro), .ref xv, .int (nI sz), .ref xw, .int (nI wn), .ref xs, .int (nI sn), .ref xc])), (xb, .inl (cI, 64, .inl fb))] H := hP.sub [0, 1] rfl
    have hD : va_D A [(h, .inr (4, [.int th, .int (nI st), .int (nI md), .ref xb, .int (nI mn), .ref xr, .int (nI ro), .ref xv, .int (nI sz), .ref xw, .int (nI wn), .ref xs, .int (nI sn), .ref xc])), (xb, .inl (cI, 64, .inl fb))] := hD.sub [0, 1] (by decide) rfl
    refine W.widen (k := 0) (n := 0) (Nat.le_of_ble_eq_true rfl) (Nat.le_of_ble_eq_true rfl) ?_
    refine r_merge (rest := []) (ls := ls) 41 (fun v => v = fnd β (k + 1)) (fun v hv => ?_) (fun J => ?_)
    · subst hv
      refine lv_istore_n (lv' := [(1, .int (fnd β (k + 1))), (0, .ref h), (2, .int (nI k))]) hx hb d_M_wrong_41 rfl hl (by decide) rfl (fun ls hl => ?_)
      refine lv_iinc (v := nI (k + 1)) (lv' := [(2, .int (nI (k + 1))), (1, .int (fnd β (k + 1))), (0, .ref h)]) hx hb d_M_wrong_42 hl (k := 2) rfl (nI_add _ _) (by decide) rfl (fun ls hl => ?_)
      refine lv_goto (tgt := 15) hx hb d_M_wrong_45 (by decide) ?_
      exact ih (k + 1) H locs ls (by omega) hP hD hS (lv_sub hl [2, 1, 0] rfl)
    · skip
      refine r_if_eq (tgt := 40) hx hb (by split <;> omega) d_M_wrong_33 (by decide) (fun c33 => ?_) (fun c33 => ?_)
      · skip
        refine lv_iload_n hx hb d_M_wrong_40 rfl (lv_at hl 1 rfl) ?_
        exact J _ (by rw [fnd, if_neg (fun z => by rw [if_pos z] at c33; omega)])
      · skip
        refine lv_iload_n hx hb d_M_wrong_36 rfl (lv_at hl 2 rfl) ?_
        refine lv_goto (tgt := 41) hx hb d_M_wrong_37 (by decide) ?_
        exact J _ (by rw [fnd, if_pos (Classical.byContradiction fun z => by rw [if_neg z] at c33; exact c33 rfl)])

set_option maxHeartbeats 4000000 in
set_option maxRecDepth 100000 in
/-- wrong() -/
theorem c_M_wrong (l : Launch) (D : va_G) (cB cI : ClassId) (h xb xr xv xw xs xc st md mn ro sz wn sn : Nat) (th : Int32) (fb : Nat → Int32) (β : Nat → Nat) (h_β : ∀ j, β j < 2) (h_b : ∀ j, j < 63 → fb j = nI (β j)) (h_md : md < 2) : MI l D cB cI y_M_wrong b_M_wrong 3 (some .int) rm_M_wrong [.ref h] [(h, .inr (4, [.int th, .int (nI st), .int (nI md), .ref xb, .int (nI mn), .ref xr, .int (nI ro), .ref xv, .int (nI sz), .ref xw, .int (nI wn), .ref xs, .int (nI sn), .ref xc])), (xb, .inl (cI, 64, .inl fb))] (fun (v : Int32) (_ : Unit) => v = mwr β md) (fun _ => [(h, .inr (4, [.int th, .int (nI st), .int (nI md), .ref xb, .int (nI mn), .ref xr, .int (nI ro), .ref xv, .int (nI sz), .ref xw, .int (nI wn), .ref xs, .int (nI sn), .ref xc])), (xb, .inl (cI, 64, .inl fb))]) := by
  refine m_entryI (by decide +kernel) (Nat.le_of_ble_eq_true rfl) ?_
  intro p e s m below meth c ls A E hr hlk hnm hA hP hD hl
  have hx := E.1.1
  have hb := E.1.2.1
  have hS : va_S A s.heap s.heap [] := va_S.rf
  by_cases hm : md = 0
  · skip
    have hl : lv_has ls 3 [(0, .ref h)] := hl
    refine lv_aload_n hx hb d_M_wrong_0 rfl (lv_at hl 0 rfl) ?_
    refine lv_iconst (v := (-1)) hx hb d_M_wrong_1 (by decide +kernel) ?_
    refine r_callVI (wr := []) (rest := []) E cs_M_32 (c_M_divided l D cB cI h xb xr xv xw xs xc st md mn ro sz wn sn th fb β h_β h_b (-1) 63 m1_c) hP hD hS hA [0, 1] [] ⟨rfl, rfl, by decide, by decide, by decide⟩ kc_M rfl hl.1 rfl rfl (Nat.le_of_ble_eq_true rfl) ⟨by decide, by decide⟩ ⟨by decide, by decide⟩ d_M_wrong_2 (fun r u H locs hw hP hD hS => ?_)
    subst hw
    have hP : va_P D classes [(h, .inr (4, [.int th, .int (nI st), .int (nI md), .ref xb, .int (nI mn), .ref xr, .int (nI ro), .ref xv, .int (nI sz), .ref xw, .int (nI wn), .ref xs, .int (nI sn), .ref xc])), (xb, .inl (cI, 64, .inl fb))] H := hP.sub [0, 1] rfl
    have hD : va_D A [(h, .inr (4, [.int th, .int (nI st), .int (nI md), .ref xb, .int (nI mn), .ref xr, .int (nI ro), .ref xv, .int (nI sz), .ref xw, .int (nI wn), .ref xs, .int (nI sn), .ref xc])), (xb, .inl (cI, 64, .inl fb))] := hD.sub [0, 1] (by decide) rfl
    refine W.widen (k := 0) (n := 0) (Nat.le_of_ble_eq_true rfl) (Nat.le_of_ble_eq_true rfl) ?_
    refine r_if_eq (tgt := 10) hx hb (by split <;> omega) d_M_wrong_5 (by decide) (fun c5 => ?_) (fun c5 => ?_)
    · skip
      refine lv_bipush (v := (-2)) hx hb d_M_wrong_10 (by decide +kernel) ?_
      refine lv_istore_n (lv' := [(1, .int (-2)), (0, .ref h)]) hx hb d_M_wrong_12 rfl hl (by decide) rfl (fun ls hl => ?_)
      refine lv_iconst (v := nI 0) hx hb d_M_wrong_13 (by decide +kernel) ?_
      refine lv_istore_n (lv' := [(2, .int (nI 0)), (1, .int (-2)), (0, .ref h)]) hx hb d_M_wrong_14 rfl hl (by decide) rfl (fun ls hl => ?_)
      refine lv_iload_n hx hb d_M_wrong_15 rfl (lv_at hl 0 rfl) ?_
      refine lv_bipush (v := nI 63) hx hb d_M_wrong_16 (by decide +kernel) ?_
      refine r_icmp_ge (tgt := 48) hx hb ⟨by omega, by omega⟩ d_M_wrong_18 (by decide) (fun c18 => ?_) (fun c18 => ?_)
      · skip
        refine lv_iload_n hx hb d_M_wrong_48 rfl (lv_at hl 1 rfl) ?_
        exact r_iret E hr hlk hP hD hS (rfl) (()) rfl (by rw [mwr, if_neg (fun z => by rw [if_pos z] at c5; omega), if_pos hm]) d_M_wrong_49
      · skip
        refine lv_aload_n hx hb d_M_wrong_21 rfl (lv_at hl 2 rfl) ?_
        refine r_get E hP 0 fl_M_36 rfl rfl d_M_wrong_22 ?_
        refine r_if_eq (tgt := 48) hx hb (by omega) d_M_wrong_25 (by decide) (fun c25 => ?_) (fun c25 => False.elim (by omega))
        refine lv_iload_n hx hb d_M_wrong_48 rfl (lv_at hl 1 rfl) ?_
        exact r_iret E hr hlk hP hD hS (rfl) (()) rfl (by rw [mwr, if_neg (fun z => by rw [if_pos z] at c5; omega), if_pos hm]) d_M_wrong_49
    · skip
      refine lv_iconst (v := (-1)) hx hb d_M_wrong_8 (by decide +kernel) ?_
      exact r_iret E hr hlk hP hD hS (rfl) (()) rfl (by rw [mwr, if_pos (Classical.byContradiction fun z => by rw [if_neg z] at c5; exact c5 rfl)]) d_M_wrong_9
  · skip
    have hl : lv_has ls 3 [(0, .ref h)] := hl
    refine lv_aload_n hx hb d_M_wrong_0 rfl (lv_at hl 0 rfl) ?_
    refine lv_iconst (v := (-1)) hx hb d_M_wrong_1 (by decide +kernel) ?_
    refine r_callVI (wr := []) (rest := []) E cs_M_32 (c_M_divided l D cB cI h xb xr xv xw xs xc st md mn ro sz wn sn th fb β h_β h_b (-1) 63 m1_c) hP hD hS hA [0, 1] [] ⟨rfl, rfl, by decide, by decide, by decide⟩ kc_M rfl hl.1 rfl rfl (Nat.le_of_ble_eq_true rfl) ⟨by decide, by decide⟩ ⟨by decide, by decide⟩ d_M_wrong_2 (fun r u H locs hw hP hD hS => ?_)
    subst hw
    have hP : va_P D classes [(h, .inr (4, [.int th, .int (nI st), .int (nI md), .ref xb, .int (nI mn), .ref xr, .int (nI ro), .ref xv, .int (nI sz), .ref xw, .int (nI wn), .ref xs, .int (nI sn), .ref xc])), (xb, .inl (cI, 64, .inl fb))] H := hP.sub [0, 1] rfl
    have hD : va_D A [(h, .inr (4, [.int th, .int (nI st), .int (nI md), .ref xb, .int (nI mn), .ref xr, .int (nI ro), .ref xv, .int (nI sz), .ref xw, .int (nI wn), .ref xs, .int (nI sn), .ref xc])), (xb, .inl (cI, 64, .inl fb))] := hD.sub [0, 1] (by decide) rfl
    refine W.widen (k := 0) (n := 0) (Nat.le_of_ble_eq_true rfl) (Nat.le_of_ble_eq_true rfl) ?_
    refine r_if_eq (tgt := 10) hx hb (by split <;> omega) d_M_wrong_5 (by decide) (fun c5 => ?_) (fun c5 => ?_)
    · skip
      refine lv_bipush (v := (-2)) hx hb d_M_wrong_10 (by decide +kernel) ?_
      refine lv_istore_n (lv' := [(1, .int (-2)), (0, .ref h)]) hx hb d_M_wrong_12 rfl hl (by decide) rfl (fun ls hl => ?_)
      refine lv_iconst (v := nI 0) hx hb d_M_wrong_13 (by decide +kernel) ?_
      refine lv_istore_n (lv' := [(2, .int (nI 0)), (1, .int (-2)), (0, .ref h)]) hx hb d_M_wrong_14 rfl hl (by decide) rfl (fun ls hl => ?_)
      refine L_M_wrong_15 l D cB cI h xb xr xv xw xs xc st md mn ro sz wn sn th fb β h_β h_b h_md hm E hA (fun H locs ls _ hP hD hS hl => ?_) 63 0 _ _ ls (by omega) hP hD hS (lv_sub hl [2, 1, 0] rfl)
      refine lv_iload_n hx hb d_M_wrong_48 rfl (lv_at hl 1 rfl) ?_
      exact r_iret E hr hlk hP hD hS (rfl) (()) rfl (by rw [mwr, if_neg (fun z => by rw [if_pos z] at c5; omega), if_neg hm]) d_M_wrong_49
    · skip
      refine lv_iconst (v := (-1)) hx hb d_M_wrong_8 (by decide +kernel) ?_
      exact r_iret E hr hlk hP hD hS (rfl) (()) rfl (by rw [mwr, if_pos (Classical.byContradiction fun z => by rw [if_neg z] at c5; exact c5 rfl)]) d_M_wrong_9

abbrev rm_M_ends : Room := { frames := 1, cells := 0, slots := 0, locals := 21 }
set_option maxHeartbeats 4000000 in
set_option maxRecDepth 100000 in
theorem L_M_ends_12 (l : Launch) (D : va_G) (cB cI : ClassId) (h xb xr xv xw xs xc st md mn ro sz wn sn : Nat) (th : Int32) (fr fv fc : Nat → Int32) (h_ro : ro ≤ 259) {p : Program} {e : Env} {s : State} {m : MethodId} {args : Array Value} {below : List Frame} {meth : Method} {c : Code} {A : Nat → Prop} {Q : State → Prop} (E : Ev p m c b_M_ends 2 s args "CodeBlocksModel" D cB cI) (hA : ∀ q : Nat, s.heap.size ≤ q → A q)
    (K : ∀ (H : Heap) (locs : List Loc) (ls : Array Slot), (True) → va_P D classes [(h, .inr (4, [.int th, .int (nI st), .int (nI md), .ref xb, .int (nI mn), .ref xr, .int (nI ro), .ref xv, .int (nI sz), .ref xw, .int (nI wn), .ref xs, .int (nI sn), .ref xc])), (xr, .inl (cI, 259, .inl fr)), (xv, .inl (cI, 259, .inl (cpy fr fv ro))), (xc, .inl (cI, 5, .inl (upd fc 1 (fc 1 + nI 1))))] H → va_D A [(h, .inr (4, [.int th, .int (nI st), .int (nI md), .ref xb, .int (nI mn), .ref xr, .int (nI ro), .ref xv, .int (nI sz), .ref xw, .int (nI wn), .ref xs, .int (nI sn), .ref xc])), (xr, .inl (cI, 259, .inl fr)), (xv, .inl (cI, 259, .inl (cpy fr fv ro))), (xc, .inl (cI, 5, .inl (upd fc 1 (fc 1 + nI 1))))] → va_S A s.heap H locs → lv_has ls 2 [(0, .ref h)] → W p l e rm_M_ends s m args below meth c H locs 0 0 Q (F0 m 38 ls [])) :
    ∀ (n : Nat) (k : Nat) (H : Heap) (locs : List Loc) (ls : Array Slot), (k + n = ro) → va_P D classes [(h, .inr (4, [.int th, .int (nI st), .int (nI md), .ref xb, .int (nI mn), .ref xr, .int (nI ro), .ref xv, .int (nI sz), .ref xw, .int (nI wn), .ref xs, .int (nI sn), .ref xc])), (xr, .inl (cI, 259, .inl fr)), (xv, .inl (cI, 259, .inl (cpy fr fv k))), (xc, .inl (cI, 5, .inl (upd fc 1 (fc 1 + nI 1))))] H → va_D A [(h, .inr (4, [.int th, .int (nI st), .int (nI md), .ref xb, .int (nI mn), .ref xr, .int (nI ro), .ref xv, .int (nI sz), .ref xw, .int (nI wn), .ref xs, .int (nI sn), .ref xc])), (xr, .inl (cI, 259, .inl fr)), (xv, .inl (cI, 259, .inl (cpy fr fv k))), (xc, .inl (cI, 5, .inl (upd fc 1 (fc 1 + nI 1))))] → va_S A s.heap H locs → lv_has ls 2 [(0, .ref h), (1, .int (nI k))] → W p l e rm_M_ends s m args below meth c H locs 0 0 Q (F0 m 12 ls []) := by
  have hx := E.1.1
  have hb := E.1.2.1
  intro n
  induction n with
  | zero =>
    intro k H locs ls hi hP hD hS hl
    obtain rfl : k = ro := by omega
    have hl : lv_has ls 2 [(0, .ref h), (1, .int (nI k))] := hl
    refine lv_iload_n hx hb d_M_ends_12 rfl (lv_at hl 1 rfl) ?_
    refine lv_aload_n hx hb d_M_ends_13 rfl (lv_at hl 0 rfl) ?_
    refine r_get E hP 0 fl_M_46 rfl rfl d_M_ends_14 ?_
    refine r_icmp_ge (tgt := 38) hx hb ⟨by omega, by omega⟩ d_M_ends_17 (by decide) (fun c17 => ?_) (fun c17 => False.elim (by omega))
    exact K  H locs ls (trivial) hP hD hS (lv_sub hl [0] rfl)
  | succ n ih =>
    intro k H locs ls hi hP hD hS hl
    refine lv_iload_n hx hb d_M_ends_12 rfl (lv_at hl 1 rfl) ?_
    refine lv_aload_n hx hb d_M_ends_13 rfl (lv_at hl 0 rfl) ?_
    refine r_get E hP 0 fl_M_46 rfl rfl d_M_ends_14 ?_
    refine r_icmp_ge (tgt := 38) hx hb ⟨by omega, by omega⟩ d_M_ends_17 (by decide) (fun c17 => False.elim (by omega)) (fun c17 => ?_)
    refine lv_aload_n hx hb d_M_ends_20 rfl (lv_at hl 0 rfl) ?_
    refine r_get E hP 0 fl_M_16 rfl rfl d_M_ends_21 ?_
    refine lv_iload_n hx hb d_M_ends_24 rfl (lv_at hl 1 rfl) ?_
    refine lv_aload_n hx hb d_M_ends_25 rfl (lv_at hl 0 rfl) ?_
    refine r_get E hP 0 fl_M_13 rfl rfl d_M_ends_26 ?_
    refine lv_iload_n hx hb d_M_ends_29 rfl (lv_at hl 1 rfl) ?_
    refine r_iald E hP 1 rfl (by omega) (by decide) d_M_ends_30 ?_
    refine r_iast E hP hD hS 2 rfl (by omega) (by decide) (ws' := [(h, .inr (4, [.int th, .int (nI st), .int (nI md), .ref xb, .int (nI mn), .ref xr, .int (nI ro), .ref xv, .int (nI sz), .ref xw, .int (nI wn), .ref xs, .int (nI sn), .ref xc])), (xr, .inl (cI, 259, .inl fr)), (xv, .inl (cI, 259, .inl (upd (cpy fr fv k) k (fr k)))), (xc, .inl (cI, 5, .inl (upd fc 1 (fc 1 + nI 1))))]) rfl d_M_ends_31 (fun H locs hP hD hS => ?_)
    rw [cpy_s] at hP hD
    refine lv_iinc (v := nI (k + 1)) (lv' := [(1, .int (nI (k + 1))), (0, .ref h)]) hx hb d_M_ends_32 hl (k := 1) rfl (nI_add _ _) (by decide) rfl (fun ls hl => ?_)
    refine lv_goto (tgt := 12) hx hb d_M_ends_35 (by decide) ?_
    exact ih (k + 1) H locs ls (by omega) hP hD hS (lv_sub hl [1, 0] rfl)

set_option maxHeartbeats 4000000 in
set_option maxRecDepth 100000 in
/-- ends() -/
theorem c_M_ends (l : Launch) (D : va_G) (cB cI : ClassId) (h xb xr xv xw xs xc st md mn ro sz wn sn : Nat) (th : Int32) (fr fv fc : Nat → Int32) (h_ro : ro ≤ 259) : MV l D cB cI y_M_ends b_M_ends 2 none rm_M_ends [.ref h] [(h, .inr (4, [.int th, .int (nI st), .int (nI md), .ref xb, .int (nI mn), .ref xr, .int (nI ro), .ref xv, .int (nI sz), .ref xw, .int (nI wn), .ref xs, .int (nI sn), .ref xc])), (xr, .inl (cI, 259, .inl fr)), (xv, .inl (cI, 259, .inl fv)), (xc, .inl (cI, 5, .inl fc))] (fun (_ : Unit) => True) (fun _ => [(h, .inr (4, [.int th, .int (nI 1), .int (nI md), .ref xb, .int (nI 0), .ref xr, .int (nI 0), .ref xv, .int (nI (if ro = 0 then sz else ro)), .ref xw, .int (nI wn), .ref xs, .int (nI sn), .ref xc])), (xr, .inl (cI, 259, .inl fr)), (xv, .inl (cI, 259, .inl (cpy fr fv ro))), (xc, .inl (cI, 5, .inl (upd fc 1 (fc 1 + nI 1))))]) := by
  refine m_entryV (by decide +kernel) (Nat.le_of_ble_eq_true rfl) ?_
  intro p e s m below meth c ls A E hr hlk hnm hA hP hD hl
  have hx := E.1.1
  have hb := E.1.2.1
  have hS : va_S A s.heap s.heap [] := va_S.rf
  have hl : lv_has ls 2 [(0, .ref h)] := hl
  refine lv_aload_n hx hb d_M_ends_0 rfl (lv_at hl 0 rfl) ?_
  refine r_get E hP 0 fl_M_25 rfl rfl d_M_ends_1 ?_
  refine lv_iconst (v := nI 1) hx hb d_M_ends_4 (by decide +kernel) ?_
  refine lv_dup2_11 hx hb d_M_ends_5 rfl rfl ?_
  refine r_iald E hP 3 rfl (by omega) (by decide) d_M_ends_6 ?_
  refine lv_iconst (v := nI 1) hx hb d_M_ends_7 (by decide +kernel) ?_
  refine lv_iadd hx hb d_M_ends_8 ?_
  refine r_iast E hP hD hS 3 rfl (by omega) (by decide) (ws' := [(h, .inr (4, [.int th, .int (nI st), .int (nI md), .ref xb, .int (nI mn), .ref xr, .int (nI ro), .ref xv, .int (nI sz), .ref xw, .int (nI wn), .ref xs, .int (nI sn), .ref xc])), (xr, .inl (cI, 259, .inl fr)), (xv, .inl (cI, 259, .inl fv)), (xc, .inl (cI, 5, .inl (upd fc 1 ((fc 1) + (nI 1)))))]) rfl d_M_ends_9 (fun H locs hP hD hS => ?_)
  refine lv_iconst (v := nI 0) hx hb d_M_ends_10 (by decide +kernel) ?_
  refine lv_istore_n (lv' := [(1, .int (nI 0)), (0, .ref h)]) hx hb d_M_ends_11 rfl hl (by decide) rfl (fun ls hl => ?_)
  rw [← cpy_0 fr fv] at hP hD
  refine L_M_ends_12 l D cB cI h xb xr xv xw xs xc st md mn ro sz wn sn th fr fv fc h_ro E hA (fun H locs ls _ hP hD hS hl => ?_) ro 0 _ _ ls (by omega) hP hD hS (lv_sub hl [1, 0] rfl)
  refine lv_aload_n hx hb d_M_ends_38 rfl (lv_at hl 0 rfl) ?_
  refine lv_aload_n hx hb d_M_ends_39 rfl (lv_at hl 0 rfl) ?_
  refine r_get E hP 0 fl_M_46 rfl rfl d_M_ends_40 ?_
  refine r_merge (rest := [.ref h]) (ls := ls) 57 (fun v => v = nI (if ro = 0 then sz else ro)) (fun v hv => ?_) (fun J => ?_)
  · subst hv
    refine r_put E hP hD hS 0 fl_M_49 rfl rfl (rfl) (rfl) (ws' := [(h, .inr (4, [.int th, .int (nI st), .int (nI md), .ref xb, .int (nI mn), .ref xr, .int (nI ro), .ref xv, .int (nI (if ro = 0 then sz else ro)), .ref xw, .int (nI wn), .ref xs, .int (nI sn), .ref xc])), (xr, .inl (cI, 259, .inl fr)), (xv, .inl (cI, 259, .inl (cpy fr fv ro))), (xc, .inl (cI, 5, .inl (upd fc 1 (fc 1 + nI 1))))]) rfl d_M_ends_57 (fun H locs hP hD hS => ?_)
    refine lv_aload_n hx hb d_M_ends_60 rfl (lv_at hl 0 rfl) ?_
    refine lv_iconst (v := nI 0) hx hb d_M_ends_61 (by decide +kernel) ?_
    refine r_put E hP hD hS 0 fl_M_46 rfl rfl (rfl) (rfl) (ws' := [(h, .inr (4, [.int th, .int (nI st), .int (nI md), .ref xb, .int (nI mn), .ref xr, .int (nI 0), .ref xv, .int (nI (if ro = 0 then sz else ro)), .ref xw, .int (nI wn), .ref xs, .int (nI sn), .ref xc])), (xr, .inl (cI, 259, .inl fr)), (xv, .inl (cI, 259, .inl (cpy fr fv ro))), (xc, .inl (cI, 5, .inl (upd fc 1 (fc 1 + nI 1))))]) rfl d_M_ends_62 (fun H locs hP hD hS => ?_)
    refine lv_aload_n hx hb d_M_ends_65 rfl (lv_at hl 0 rfl) ?_
    refine lv_iconst (v := nI 1) hx hb d_M_ends_66 (by decide +kernel) ?_
    refine r_callVV (wr := [(xr, .inl (cI, 259, .inl fr)), (xv, .inl (cI, 259, .inl (cpy fr fv ro))), (xc, .inl (cI, 5, .inl (upd fc 1 (fc 1 + nI 1))))]) (rest := []) E cs_M_52 (c_M_begins l D cB cI h xb xr xv xw xs xc st md mn 0 (if ro = 0 then sz else ro) wn sn th 1) hP hD hS hA [0] [1, 2, 3] ⟨rfl, rfl, by decide, by decide, by decide⟩ kc_M rfl hl.1 rfl rfl (Nat.le_of_ble_eq_true rfl) ⟨by decide, by decide⟩ ⟨by decide, by decide⟩ d_M_ends_67 (fun u H locs hw hP hD hS => ?_)
    have hP : va_P D classes [(h, .inr (4, [.int th, .int (nI 1), .int (nI md), .ref xb, .int (nI 0), .ref xr, .int (nI 0), .ref xv, .int (nI (if ro = 0 then sz else ro)), .ref xw, .int (nI wn), .ref xs, .int (nI sn), .ref xc])), (xr, .inl (cI, 259, .inl fr)), (xv, .inl (cI, 259, .inl (cpy fr fv ro))), (xc, .inl (cI, 5, .inl (upd fc 1 (fc 1 + nI 1))))] H := hP.sub [3, 0, 1, 2] rfl
    have hD : va_D A [(h, .inr (4, [.int th, .int (nI 1), .int (nI md), .ref xb, .int (nI 0), .ref xr, .int (nI 0), .ref xv, .int (nI (if ro = 0 then sz else ro)), .ref xw, .int (nI wn), .ref xs, .int (nI sn), .ref xc])), (xr, .inl (cI, 259, .inl fr)), (xv, .inl (cI, 259, .inl (cpy fr fv ro))), (xc, .inl (cI, 5, .inl (upd fc 1 (fc 1 + nI 1))))] := hD.sub [3, 0, 1, 2] (by decide) rfl
    refine W.widen (k := 0) (n := 0) (Nat.le_of_ble_eq_true rfl) (Nat.le_of_ble_eq_true rfl) ?_
    exact r_vret E hr hlk hP hD hS (()) rfl (trivial) d_M_ends_70
  · skip
    refine r_if_le (tgt := 53) hx hb (by omega) d_M_ends_43 (by decide) (fun c43 => ?_) (fun c43 => ?_)
    · skip
      refine lv_aload_n hx hb d_M_ends_53 rfl (lv_at hl 0 rfl) ?_
      refine r_get E hP 0 fl_M_49 rfl rfl d_M_ends_54 ?_
      exact J _ (by rw [if_pos c43])
    · skip
      refine lv_aload_n hx hb d_M_ends_46 rfl (lv_at hl 0 rfl) ?_
      refine r_get E hP 0 fl_M_46 rfl rfl d_M_ends_47 ?_
      refine lv_goto (tgt := 57) hx hb d_M_ends_50 (by decide) ?_
      exact J _ (by rw [if_neg c43])

abbrev rm_M_block : Room := { frames := 2, cells := 0, slots := 0, locals := 46 }
set_option maxHeartbeats 4000000 in
set_option maxRecDepth 100000 in
theorem L_M_block_33 (l : Launch) (D : va_G) (cB cI : ClassId) (h xb xr xv xw xs xc st md mn ro sz wn sn : Nat) (th : Int32) (fb : Nat → Int32) (β : Nat → Nat) (h_β : ∀ j, β j < 2) (h_b : ∀ j, j < 63 → fb j = nI (β j)) (fr fv fc : Nat → Int32) (w : Int32) (k : Nat) (h_k : k < 7) {p : Program} {e : Env} {s : State} {m : MethodId} {args : Array Value} {below : List Frame} {meth : Method} {c : Code} {A : Nat → Prop} {Q : State → Prop} (E : Ev p m c b_M_block 5 s args "CodeBlocksModel" D cB cI) (hA : ∀ q : Nat, s.heap.size ≤ q → A q)
    (K : ∀ (H : Heap) (locs : List Loc) (ls : Array Slot), (True) → va_P D classes [(h, .inr (4, [.int th, .int (nI st), .int (nI md), .ref xb, .int (nI mn), .ref xr, .int (nI (ro + k)), .ref xv, .int (nI sz), .ref xw, .int (nI wn), .ref xs, .int (nI sn), .ref xc])), (xb, .inl (cI, 64, .inl fb)), (xr, .inl (cI, 259, .inl (wm7 fr ro (gm β w) k))), (xv, .inl (cI, 259, .inl fv)), (xc, .inl (cI, 5, .inl fc))] H → va_D A [(h, .inr (4, [.int th, .int (nI st), .int (nI md), .ref xb, .int (nI mn), .ref xr, .int (nI (ro + k)), .ref xv, .int (nI sz), .ref xw, .int (nI wn), .ref xs, .int (nI sn), .ref xc])), (xb, .inl (cI, 64, .inl fb)), (xr, .inl (cI, 259, .inl (wm7 fr ro (gm β w) k))), (xv, .inl (cI, 259, .inl fv)), (xc, .inl (cI, 5, .inl fc))] → va_S A s.heap H locs → lv_has ls 5 [(0, .ref h), (1, .int w), (2, .int (nI k)), (3, .int (nI (bv (gm β w) (8 * k) 8)))] → W p l e rm_M_block s m args below meth c H locs 0 0 Q (F0 m 75 ls [])) :
    ∀ (n : Nat) (i : Nat) (H : Heap) (locs : List Loc) (ls : Array Slot), (i + n = 8) → va_P D classes [(h, .inr (4, [.int th, .int (nI st), .int (nI md), .ref xb, .int (nI mn), .ref xr, .int (nI (ro + k)), .ref xv, .int (nI sz), .ref xw, .int (nI wn), .ref xs, .int (nI sn), .ref xc])), (xb, .inl (cI, 64, .inl fb)), (xr, .inl (cI, 259, .inl (wm7 fr ro (gm β w) k))), (xv, .inl (cI, 259, .inl fv)), (xc, .inl (cI, 5, .inl fc))] H → va_D A [(h, .inr (4, [.int th, .int (nI st), .int (nI md), .ref xb, .int (nI mn), .ref xr, .int (nI (ro + k)), .ref xv, .int (nI sz), .ref xw, .int (nI wn), .ref xs, .int (nI sn), .ref xc])), (xb, .inl (cI, 64, .inl fb)), (xr, .inl (cI, 259, .inl (wm7 fr ro (gm β w) k))), (xv, .inl (cI, 259, .inl fv)), (xc, .inl (cI, 5, .inl fc))] → va_S A s.heap H locs → lv_has ls 5 [(0, .ref h), (1, .int w), (2, .int (nI k)), (3, .int (nI (bv (gm β w) (8 * k) i))), (4, .int (nI (8 * k + i)))] → W p l e rm_M_block s m args below meth c H locs 0 0 Q (F0 m 33 ls []) := by
  have hx := E.1.1
  have hb := E.1.2.1
  intro n
  induction n with
  | zero =>
    intro i H locs ls hi hP hD hS hl
    obtain rfl : i = 8 := by omega
    have hl : lv_has ls 5 [(0, .ref h), (1, .int w), (2, .int (nI k)), (3, .int (nI (bv (gm β w) (8 * k) 8))), (4, .int (nI (8 * k + 8)))] := hl
    refine lv_iload hx hb d_M_block_33 (lv_at hl 4 rfl) ?_
    refine lv_bipush (v := nI 8) hx hb d_M_block_35 (by decide +kernel) ?_
    refine lv_iload_n hx hb d_M_block_37 rfl (lv_at hl 2 rfl) ?_
    refine r_imul hx hb d_M_block_38 ?_
    refine lv_bipush (v := nI 8) hx hb d_M_block_39 (by decide +kernel) ?_
    refine r_iadd hx hb d_M_block_41 ?_
    refine r_icmp_ge (tgt := 75) hx hb ⟨by omega, by omega⟩ d_M_block_42 (by decide) (fun c42 => ?_) (fun c42 => False.elim (by omega))
    exact K  H locs ls (trivial) hP hD hS (lv_sub hl [0, 1, 2, 3] rfl)
  | succ n ih =>
    intro i H locs ls hi hP hD hS hl
    refine lv_iload hx hb d_M_block_33 (lv_at hl 4 rfl) ?_
    refine lv_bipush (v := nI 8) hx hb d_M_block_35 (by decide +kernel) ?_
    refine lv_iload_n hx hb d_M_block_37 rfl (lv_at hl 2 rfl) ?_
    refine r_imul hx hb d_M_block_38 ?_
    refine lv_bipush (v := nI 8) hx hb d_M_block_39 (by decide +kernel) ?_
    refine r_iadd hx hb d_M_block_41 ?_
    refine r_icmp_ge (tgt := 75) hx hb ⟨by omega, by omega⟩ d_M_block_42 (by decide) (fun c42 => False.elim (by omega)) (fun c42 => ?_)
    refine lv_iconst (v := nI 2) hx hb d_M_block_45 (by decide +kernel) ?_
    refine lv_iload_n hx hb d_M_block_46 rfl (lv_at hl 3 rfl) ?_
    refine r_imul hx hb d_M_block_47 ?_
    refine lv_aload_n hx hb d_M_block_48 rfl (lv_at hl 0 rfl) ?_
    refine r_get E hP 0 fl_M_7 rfl rfl d_M_block_49 ?_
    refine lv_iload hx hb d_M_block_52 (lv_at hl 4 rfl) ?_
    refine r_iald E hP 1 rfl (by omega) (by decide) d_M_block_54 ?_
    refine r_topi (y := nI (β (8 * k + i))) (h_b _ (by omega)) ?_
    refine lv_iload hx hb d_M_block_55 (lv_at hl 4 rfl) ?_
    refine lv_iload_n hx hb d_M_block_57 rfl (lv_at hl 1 rfl) ?_
    refine r_merge (rest := [.int (nI (β (8 * k + i))), .int (nI (2 * (bv (gm β w) (8 * k) i)))]) (ls := ls) 66 (fun v => v = nI (if nI (8 * k + i) = w then 1 else 0)) (fun v hv => ?_) (fun J => ?_)
    · subst hv
      refine lv_ixor hx hb d_M_block_66 ?_
      refine r_topi (y := nI (gm β w (8 * k + i))) (nx_xor _ _) ?_
      refine r_iadd hx hb d_M_block_67 ?_
      refine r_topi (y := nI (bv (gm β w) (8 * k) (i + 1))) (rfl) ?_
      refine lv_istore_n (lv' := [(3, .int (nI (bv (gm β w) (8 * k) (i + 1)))), (0, .ref h), (1, .int w), (2, .int (nI k)), (4, .int (nI (8 * k + i)))]) hx hb d_M_block_68 rfl hl (by decide) rfl (fun ls hl => ?_)
      refine lv_iinc (v := nI ((8 * k + i) + 1)) (lv' := [(4, .int (nI ((8 * k + i) + 1))), (3, .int (nI (bv (gm β w) (8 * k) (i + 1)))), (0, .ref h), (1, .int w), (2, .int (nI k))]) hx hb d_M_block_69 hl (k := 4) rfl (nI_add _ _) (by decide) rfl (fun ls hl => ?_)
      refine lv_goto (tgt := 33) hx hb d_M_block_72 (by decide) ?_
      exact ih (i + 1) H locs ls (by omega) hP hD hS (lv_sub hl [2, 3, 4, 1, 0] rfl)
    · skip
      refine lv_icmp_ne (tgt := 65) hx hb d_M_block_58 (by decide) (fun c58 => ?_) (fun c58 => ?_)
      · skip
        refine lv_iconst (v := nI 0) hx hb d_M_block_65 (by decide +kernel) ?_
        exact J _ (by rw [if_neg c58])
      · skip
        refine lv_iconst (v := nI 1) hx hb d_M_block_61 (by decide +kernel) ?_
        refine lv_goto (tgt := 66) hx hb d_M_block_62 (by decide) ?_
        exact J _ (by rw [if_pos c58])

set_option maxHeartbeats 4000000 in
set_option maxRecDepth 100000 in
theorem L_M_block_19 (l : Launch) (D : va_G) (cB cI : ClassId) (h xb xr xv xw xs xc st md mn ro sz wn sn : Nat) (th : Int32) (fb : Nat → Int32) (β : Nat → Nat) (h_β : ∀ j, β j < 2) (h_b : ∀ j, j < 63 → fb j = nI (β j)) (fr fv fc : Nat → Int32) (w : Int32) (h_ro : ro ≤ 252) {p : Program} {e : Env} {s : State} {m : MethodId} {args : Array Value} {below : List Frame} {meth : Method} {c : Code} {A : Nat → Prop} {Q : State → Prop} (E : Ev p m c b_M_block 5 s args "CodeBlocksModel" D cB cI) (hA : ∀ q : Nat, s.heap.size ≤ q → A q)
    (K : ∀ (H : Heap) (locs : List Loc) (ls : Array Slot), (True) → va_P D classes [(h, .inr (4, [.int th, .int (nI st), .int (nI md), .ref xb, .int (nI mn), .ref xr, .int (nI (ro + 7)), .ref xv, .int (nI sz), .ref xw, .int (nI wn), .ref xs, .int (nI sn), .ref xc])), (xb, .inl (cI, 64, .inl fb)), (xr, .inl (cI, 259, .inl (wm7 fr ro (gm β w) 7))), (xv, .inl (cI, 259, .inl fv)), (xc, .inl (cI, 5, .inl fc))] H → va_D A [(h, .inr (4, [.int th, .int (nI st), .int (nI md), .ref xb, .int (nI mn), .ref xr, .int (nI (ro + 7)), .ref xv, .int (nI sz), .ref xw, .int (nI wn), .ref xs, .int (nI sn), .ref xc])), (xb, .inl (cI, 64, .inl fb)), (xr, .inl (cI, 259, .inl (wm7 fr ro (gm β w) 7))), (xv, .inl (cI, 259, .inl fv)), (xc, .inl (cI, 5, .inl fc))] → va_S A s.heap H locs → lv_has ls 5 [(0, .ref h), (1, .int w)] → W p l e rm_M_block s m args below meth c H locs 0 0 Q (F0 m 101 ls [])) :
    ∀ (n : Nat) (k : Nat) (H : Heap) (locs : List Loc) (ls : Array Slot), (k + n = 7) → va_P D classes [(h, .inr (4, [.int th, .int (nI st), .int (nI md), .ref xb, .int (nI mn), .ref xr, .int (nI (ro + k)), .ref xv, .int (nI sz), .ref xw, .int (nI wn), .ref xs, .int (nI sn), .ref xc])), (xb, .inl (cI, 64, .inl fb)), (xr, .inl (cI, 259, .inl (wm7 fr ro (gm β w) k))), (xv, .inl (cI, 259, .inl fv)), (xc, .inl (cI, 5, .inl fc))] H → va_D A [(h, .inr (4, [.int th, .int (nI st), .int (nI md), .ref xb, .int (nI mn), .ref xr, .int (nI (ro + k)), .ref xv, .int (nI sz), .ref xw, .int (nI wn), .ref xs, .int (nI sn), .ref xc])), (xb, .inl (cI, 64, .inl fb)), (xr, .inl (cI, 259, .inl (wm7 fr ro (gm β w) k))), (xv, .inl (cI, 259, .inl fv)), (xc, .inl (cI, 5, .inl fc))] → va_S A s.heap H locs → lv_has ls 5 [(0, .ref h), (1, .int w), (2, .int (nI k))] → W p l e rm_M_block s m args below meth c H locs 0 0 Q (F0 m 19 ls []) := by
  have hx := E.1.1
  have hb := E.1.2.1
  intro n
  induction n with
  | zero =>
    intro k H locs ls hi hP hD hS hl
    obtain rfl : k = 7 := by omega
    have hl : lv_has ls 5 [(0, .ref h), (1, .int w), (2, .int (nI 7))] := hl
    refine lv_iload_n hx hb d_M_block_19 rfl (lv_at hl 2 rfl) ?_
    refine lv_bipush (v := nI 7) hx hb d_M_block_20 (by decide +kernel) ?_
    refine r_icmp_ge (tgt := 101) hx hb ⟨by omega, by omega⟩ d_M_block_22 (by decide) (fun c22 => ?_) (fun c22 => False.elim (by omega))
    exact K  H locs ls (trivial) hP hD hS (lv_sub hl [0, 1] rfl)
  | succ n ih =>
    intro k H locs ls hi hP hD hS hl
    refine lv_iload_n hx hb d_M_block_19 rfl (lv_at hl 2 rfl) ?_
    refine lv_bipush (v := nI 7) hx hb d_M_block_20 (by decide +kernel) ?_
    refine r_icmp_ge (tgt := 101) hx hb ⟨by omega, by omega⟩ d_M_block_22 (by decide) (fun c22 => False.elim (by omega)) (fun c22 => ?_)
    refine lv_iconst (v := nI 0) hx hb d_M_block_25 (by decide +kernel) ?_
    refine lv_istore_n (lv' := [(3, .int (nI 0)), (0, .ref h), (1, .int w), (2, .int (nI k))]) hx hb d_M_block_26 rfl hl (by decide) rfl (fun ls hl => ?_)
    refine lv_bipush (v := nI 8) hx hb d_M_block_27 (by decide +kernel) ?_
    refine lv_iload_n hx hb d_M_block_29 rfl (lv_at hl 3 rfl) ?_
    refine r_imul hx hb d_M_block_30 ?_
    refine lv_istore (lv' := [(4, .int (nI (8 * k))), (3, .int (nI 0)), (0, .ref h), (1, .int w), (2, .int (nI k))]) hx hb d_M_block_31 hl (by decide) rfl (fun ls hl => ?_)
    refine L_M_block_33 l D cB cI h xb xr xv xw xs xc st md mn ro sz wn sn th fb β h_β h_b fr fv fc w k c22 E hA (fun H locs ls _ hP hD hS hl => ?_) 8 0 _ _ ls (by omega) hP hD hS (lv_sub hl [2, 3, 4, 1, 0] rfl)
    refine lv_aload_n hx hb d_M_block_75 rfl (lv_at hl 0 rfl) ?_
    refine r_get E hP 0 fl_M_13 rfl rfl d_M_block_76 ?_
    refine lv_aload_n hx hb d_M_block_79 rfl (lv_at hl 0 rfl) ?_
    refine r_get E hP 0 fl_M_46 rfl rfl d_M_block_80 ?_
    refine lv_iload_n hx hb d_M_block_83 rfl (lv_at hl 3 rfl) ?_
    refine r_iast E hP hD hS 2 rfl (by omega) (by decide) (ws' := [(h, .inr (4, [.int th, .int (nI st), .int (nI md), .ref xb, .int (nI mn), .ref xr, .int (nI (ro + k)), .ref xv, .int (nI sz), .ref xw, .int (nI wn), .ref xs, .int (nI sn), .ref xc])), (xb, .inl (cI, 64, .inl fb)), (xr, .inl (cI, 259, .inl (upd (wm7 fr ro (gm β w) k) (ro + k) (nI (bv (gm β w) (8 * k) 8))))), (xv, .inl (cI, 259, .inl fv)), (xc, .inl (cI, 5, .inl fc))]) rfl d_M_block_84 (fun H locs hP hD hS => ?_)
    rw [wm7_s] at hP hD
    refine lv_aload_n hx hb d_M_block_85 rfl (lv_at hl 0 rfl) ?_
    refine lv_dup hx hb d_M_block_86 rfl ?_
    refine r_get E hP 0 fl_M_46 rfl rfl d_M_block_87 ?_
    refine lv_iconst (v := nI 1) hx hb d_M_block_90 (by decide +kernel) ?_
    refine r_iadd hx hb d_M_block_91 ?_
    refine r_put E hP hD hS 0 fl_M_46 rfl rfl (rfl) (rfl) (ws' := [(h, .inr (4, [.int th, .int (nI st), .int (nI md), .ref xb, .int (nI mn), .ref xr, .int (nI ((ro + k) + 1)), .ref xv, .int (nI sz), .ref xw, .int (nI wn), .ref xs, .int (nI sn), .ref xc])), (xb, .inl (cI, 64, .inl fb)), (xr, .inl (cI, 259, .inl (wm7 fr ro (gm β w) (k + 1)))), (xv, .inl (cI, 259, .inl fv)), (xc, .inl (cI, 5, .inl fc))]) rfl d_M_block_92 (fun H locs hP hD hS => ?_)
    refine lv_iinc (v := nI (k + 1)) (lv' := [(2, .int (nI (k + 1))), (0, .ref h), (1, .int w), (3, .int (nI (bv (gm β w) (8 * k) 8)))]) hx hb d_M_block_95 hl (k := 2) rfl (nI_add _ _) (by decide) rfl (fun ls hl => ?_)
    refine lv_goto (tgt := 19) hx hb d_M_block_98 (by decide) ?_
    exact ih (k + 1) H locs ls (by omega) hP hD hS (lv_sub hl [1, 2, 0] rfl)

set_option maxHeartbeats 4000000 in
set_option maxRecDepth 100000 in
/-- block() -/
theorem c_M_block (l : Launch) (D : va_G) (cB cI : ClassId) (h xb xr xv xw xs xc st md mn ro sz wn sn : Nat) (th : Int32) (fb : Nat → Int32) (β : Nat → Nat) (h_β : ∀ j, β j < 2) (h_b : ∀ j, j < 63 → fb j = nI (β j)) (fr fv fc : Nat → Int32) (h_md : md < 2) (h_ro : ro ≤ 252) : MI l D cB cI y_M_block b_M_block 5 (some .int) rm_M_block [.ref h] [(h, .inr (4, [.int th, .int (nI st), .int (nI md), .ref xb, .int (nI mn), .ref xr, .int (nI ro), .ref xv, .int (nI sz), .ref xw, .int (nI wn), .ref xs, .int (nI sn), .ref xc])), (xb, .inl (cI, 64, .inl fb)), (xr, .inl (cI, 259, .inl fr)), (xv, .inl (cI, 259, .inl fv)), (xc, .inl (cI, 5, .inl fc))] (fun (v : Int32) (u : MB) => u = (mb_block β md (st, mn, ro, sz, fr, fv, fc)).1 ∧ v = nI (mb_block β md (st, mn, ro, sz, fr, fv, fc)).2) (fun (st, mn, ro, sz, fr, fv, fc) => [(h, .inr (4, [.int th, .int (nI st), .int (nI md), .ref xb, .int (nI mn), .ref xr, .int (nI ro), .ref xv, .int (nI sz), .ref xw, .int (nI wn), .ref xs, .int (nI sn), .ref xc])), (xb, .inl (cI, 64, .inl fb)), (xr, .inl (cI, 259, .inl fr)), (xv, .inl (cI, 259, .inl fv)), (xc, .inl (cI, 5, .inl fc))]) := by
  refine m_entryI (by decide +kernel) (Nat.le_of_ble_eq_true rfl) ?_
  intro p e s m below meth c ls A E hr hlk hnm hA hP hD hl
  have hx := E.1.1
  have hb := E.1.2.1
  have hS : va_S A s.heap s.heap [] := va_S.rf
  have hl : lv_has ls 5 [(0, .ref h)] := hl
  refine lv_aload_n hx hb d_M_block_0 rfl (lv_at hl 0 rfl) ?_
  refine r_callVI (wr := [(xr, .inl (cI, 259, .inl fr)), (xv, .inl (cI, 259, .inl fv)), (xc, .inl (cI, 5, .inl fc))]) (rest := []) E cs_M_56 (c_M_wrong l D cB cI h xb xr xv xw xs xc st md mn ro sz wn sn th fb β h_β h_b h_md) hP hD hS hA [0, 1] [2, 3, 4] ⟨rfl, rfl, by decide, by decide, by decide⟩ kc_M rfl hl.1 rfl rfl (Nat.le_of_ble_eq_true rfl) ⟨by decide, by decide⟩ ⟨by decide, by decide⟩ d_M_block_1 (fun r u H locs hw hP hD hS => ?_)
  subst hw
  have hP : va_P D classes [(h, .inr (4, [.int th, .int (nI st), .int (nI md), .ref xb, .int (nI mn), .ref xr, .int (nI ro), .ref xv, .int (nI sz), .ref xw, .int (nI wn), .ref xs, .int (nI sn), .ref xc])), (xb, .inl (cI, 64, .inl fb)), (xr, .inl (cI, 259, .inl fr)), (xv, .inl (cI, 259, .inl fv)), (xc, .inl (cI, 5, .inl fc))] H := hP.sub [3, 4, 0, 1, 2] rfl
  have hD : va_D A [(h, .inr (4, [.int th, .int (nI st), .int (nI md), .ref xb, .int (nI mn), .ref xr, .int (nI ro), .ref xv, .int (nI sz), .ref xw, .int (nI wn), .ref xs, .int (nI sn), .ref xc])), (xb, .inl (cI, 64, .inl fb)), (xr, .inl (cI, 259, .inl fr)), (xv, .inl (cI, 259, .inl fv)), (xc, .inl (cI, 5, .inl fc))] := hD.sub [3, 4, 0, 1, 2] (by decide) rfl
  refine W.widen (k := 0) (n := 0) (Nat.le_of_ble_eq_true rfl) (Nat.le_of_ble_eq_true rfl) ?_
  refine lv_istore_n (lv' := [(1, .int (mwr β md)), (0, .ref h)]) hx hb d_M_block_4 rfl hl (by decide) rfl (fun ls hl => ?_)
  refine lv_iload_n hx hb d_M_block_5 rfl (lv_at hl 0 rfl) ?_
  refine lv_bipush (v := (-2)) hx hb d_M_block_6 (by decide +kernel) ?_
  refine lv_icmp_ne (tgt := 17) hx hb d_M_block_8 (by decide) (fun c8 => ?_) (fun c8 => ?_)
  · skip
    refine lv_iconst (v := nI 0) hx hb d_M_block_17 (by decide +kernel) ?_
    refine lv_istore_n (lv' := [(2, .int (nI 0)), (1, .int (mwr β md)), (0, .ref h)]) hx hb d_M_block_18 rfl hl (by decide) rfl (fun ls hl => ?_)
    rw [← wm7_0 fr ro (gm β (mwr β md))] at hP hD
    refine L_M_block_19 l D cB cI h xb xr xv xw xs xc st md mn ro sz wn sn th fb β h_β h_b fr fv fc (mwr β md) h_ro E hA (fun H locs ls _ hP hD hS hl => ?_) 7 0 _ _ ls (by omega) hP hD hS (lv_sub hl [2, 1, 0] rfl)
    refine lv_aload_n hx hb d_M_block_101 rfl (lv_at hl 0 rfl) ?_
    refine r_get E hP 0 fl_M_25 rfl rfl d_M_block_102 ?_
    refine lv_iconst (v := nI 2) hx hb d_M_block_105 (by decide +kernel) ?_
    refine lv_dup2_11 hx hb d_M_block_106 rfl rfl ?_
    refine r_iald E hP 4 rfl (by decide) (by decide) d_M_block_107 ?_
    refine lv_iconst (v := nI 1) hx hb d_M_block_108 (by decide +kernel) ?_
    refine lv_iadd hx hb d_M_block_109 ?_
    refine r_iast E hP hD hS 4 rfl (by decide) (by decide) (ws' := [(h, .inr (4, [.int th, .int (nI st), .int (nI md), .ref xb, .int (nI mn), .ref xr, .int (nI (ro + 7)), .ref xv, .int (nI sz), .ref xw, .int (nI wn), .ref xs, .int (nI sn), .ref xc])), (xb, .inl (cI, 64, .inl fb)), (xr, .inl (cI, 259, .inl (wm7 fr ro (gm β (mwr β md)) 7))), (xv, .inl (cI, 259, .inl fv)), (xc, .inl (cI, 5, .inl (upd fc 2 ((fc 2) + (nI 1)))))]) rfl d_M_block_110 (fun H locs hP hD hS => ?_)
    refine lv_aload_n hx hb d_M_block_111 rfl (lv_at hl 0 rfl) ?_
    refine r_get E hP 0 fl_M_25 rfl rfl d_M_block_112 ?_
    refine lv_iconst (v := nI 3) hx hb d_M_block_115 (by decide +kernel) ?_
    refine lv_dup2_11 hx hb d_M_block_116 rfl rfl ?_
    refine r_iald E hP 4 rfl (by decide) (by decide) d_M_block_117 ?_
    refine lv_iload_n hx hb d_M_block_118 rfl (lv_at hl 1 rfl) ?_
    refine r_merge (rest := [.int ((upd fc 2 ((fc 2) + (nI 1))) 3), .int (nI 3), .ref xc]) (ls := ls) 127 (fun v => v = nI (if mwr β md < 0 then 0 else 1)) (fun v hv => ?_) (fun J => ?_)
    · subst hv
      refine lv_iadd hx hb d_M_block_127 ?_
      refine r_iast E hP hD hS 4 rfl (by decide) (by decide) (ws' := [(h, .inr (4, [.int th, .int (nI st), .int (nI md), .ref xb, .int (nI mn), .ref xr, .int (nI (ro + 7)), .ref xv, .int (nI sz), .ref xw, .int (nI wn), .ref xs, .int (nI sn), .ref xc])), (xb, .inl (cI, 64, .inl fb)), (xr, .inl (cI, 259, .inl (wm7 fr ro (gm β (mwr β md)) 7))), (xv, .inl (cI, 259, .inl fv)), (xc, .inl (cI, 5, .inl (upd (upd fc 2 ((fc 2) + (nI 1))) 3 (((upd fc 2 ((fc 2) + (nI 1))) 3) + (nI (if mwr β md < 0 then 0 else 1))))))]) rfl d_M_block_128 (fun H locs hP hD hS => ?_)
      refine lv_aload_n hx hb d_M_block_129 rfl (lv_at hl 0 rfl) ?_
      refine lv_iconst (v := nI 0) hx hb d_M_block_130 (by decide +kernel) ?_
      refine r_put E hP hD hS 0 fl_M_43 rfl rfl (rfl) (rfl) (ws' := [(h, .inr (4, [.int th, .int (nI st), .int (nI md), .ref xb, .int (nI 0), .ref xr, .int (nI (ro + 7)), .ref xv, .int (nI sz), .ref xw, .int (nI wn), .ref xs, .int (nI sn), .ref xc])), (xb, .inl (cI, 64, .inl fb)), (xr, .inl (cI, 259, .inl (wm7 fr ro (gm β (mwr β md)) 7))), (xv, .inl (cI, 259, .inl fv)), (xc, .inl (cI, 5, .inl (upd (upd fc 2 ((fc 2) + (nI 1))) 3 (((upd fc 2 ((fc 2) + (nI 1))) 3) + (nI (if mwr β md < 0 then 0 else 1))))))]) rfl d_M_block_131 (fun H locs hP hD hS => ?_)
      refine lv_aload_n hx hb d_M_block_134 rfl (lv_at hl 0 rfl) ?_
      refine r_get E hP 0 fl_M_46 rfl rfl d_M_block_135 ?_
      refine lv_sipush (v := nI 259) hx hb d_M_block_138 (by decide +kernel) ?_
      refine r_icmp_ne (tgt := 150) hx hb ⟨by omega, by omega⟩ d_M_block_141 (by decide) (fun c141 => ?_) (fun c141 => ?_)
      · skip
        refine lv_iconst (v := nI 0) hx hb d_M_block_150 (by decide +kernel) ?_
        exact r_iret E hr hlk hP hD hS (rfl) ((st, 0, ro + 7, sz, wm7 fr ro (gm β (mwr β md)) 7, fv, upd (upd fc 2 (fc 2 + nI 1)) 3 (upd fc 2 (fc 2 + nI 1) 3 + nI (if mwr β md < 0 then 0 else 1)))) rfl (by rw [mbk_2 c8 (by omega)]; exact ⟨rfl, rfl⟩) d_M_block_151
      · skip
        refine lv_aload_n hx hb d_M_block_144 rfl (lv_at hl 0 rfl) ?_
        refine r_callVV (wr := [(xb, .inl (cI, 64, .inl fb))]) (rest := []) E cs_M_60 (c_M_ends l D cB cI h xb xr xv xw xs xc st md 0 (ro + 7) sz wn sn th (wm7 fr ro (gm β (mwr β md)) 7) fv (upd (upd fc 2 (fc 2 + nI 1)) 3 (upd fc 2 (fc 2 + nI 1) 3 + nI (if mwr β md < 0 then 0 else 1))) (by omega)) hP hD hS hA [0, 2, 3, 4] [1] ⟨rfl, rfl, by decide, by decide, by decide⟩ kc_M rfl hl.1 rfl rfl (Nat.le_of_ble_eq_true rfl) ⟨by decide, by decide⟩ ⟨by decide, by decide⟩ d_M_block_145 (fun u H locs hw hP hD hS => ?_)
        have hP : va_P D classes [(h, .inr (4, [.int th, .int (nI 1), .int (nI md), .ref xb, .int (nI 0), .ref xr, .int (nI 0), .ref xv, .int (nI (if ro + 7 = 0 then sz else ro + 7)), .ref xw, .int (nI wn), .ref xs, .int (nI sn), .ref xc])), (xb, .inl (cI, 64, .inl fb)), (xr, .inl (cI, 259, .inl (wm7 fr ro (gm β (mwr β md)) 7))), (xv, .inl (cI, 259, .inl (cpy (wm7 fr ro (gm β (mwr β md)) 7) fv (ro + 7)))), (xc, .inl (cI, 5, .inl (upd (upd (upd fc 2 (fc 2 + nI 1)) 3 (upd fc 2 (fc 2 + nI 1) 3 + nI (if mwr β md < 0 then 0 else 1))) 1 ((upd (upd fc 2 (fc 2 + nI 1)) 3 (upd fc 2 (fc 2 + nI 1) 3 + nI (if mwr β md < 0 then 0 else 1))) 1 + nI 1))))] H := hP.sub [1, 0, 2, 3, 4] rfl
        have hD : va_D A [(h, .inr (4, [.int th, .int (nI 1), .int (nI md), .ref xb, .int (nI 0), .ref xr, .int (nI 0), .ref xv, .int (nI (if ro + 7 = 0 then sz else ro + 7)), .ref xw, .int (nI wn), .ref xs, .int (nI sn), .ref xc])), (xb, .inl (cI, 64, .inl fb)), (xr, .inl (cI, 259, .inl (wm7 fr ro (gm β (mwr β md)) 7))), (xv, .inl (cI, 259, .inl (cpy (wm7 fr ro (gm β (mwr β md)) 7) fv (ro + 7)))), (xc, .inl (cI, 5, .inl (upd (upd (upd fc 2 (fc 2 + nI 1)) 3 (upd fc 2 (fc 2 + nI 1) 3 + nI (if mwr β md < 0 then 0 else 1))) 1 ((upd (upd fc 2 (fc 2 + nI 1)) 3 (upd fc 2 (fc 2 + nI 1) 3 + nI (if mwr β md < 0 then 0 else 1))) 1 + nI 1))))] := hD.sub [1, 0, 2, 3, 4] (by decide) rfl
        refine W.widen (k := 0) (n := 0) (Nat.le_of_ble_eq_true rfl) (Nat.le_of_ble_eq_true rfl) ?_
        refine lv_iconst (v := nI 1) hx hb d_M_block_148 (by decide +kernel) ?_
        exact r_iret E hr hlk hP hD hS (rfl) ((1, 0, 0, if ro + 7 = 0 then sz else ro + 7, wm7 fr ro (gm β (mwr β md)) 7, cpy (wm7 fr ro (gm β (mwr β md)) 7) fv (ro + 7), upd (upd (upd fc 2 (fc 2 + nI 1)) 3 (upd fc 2 (fc 2 + nI 1) 3 + nI (if mwr β md < 0 then 0 else 1))) 1 ((upd (upd fc 2 (fc 2 + nI 1)) 3 (upd fc 2 (fc 2 + nI 1) 3 + nI (if mwr β md < 0 then 0 else 1))) 1 + nI 1))) rfl (by rw [mbk_1 c8 (by omega)]; exact ⟨rfl, rfl⟩) d_M_block_149
    · skip
      refine lv_if_lt (tgt := 126) hx hb d_M_block_119 (by decide) (fun c119 => ?_) (fun c119 => ?_)
      · skip
        refine lv_iconst (v := nI 0) hx hb d_M_block_126 (by decide +kernel) ?_
        exact J _ (by rw [if_pos c119])
      · skip
        refine lv_iconst (v := nI 1) hx hb d_M_block_122 (by decide +kernel) ?_
        refine lv_goto (tgt := 127) hx hb d_M_block_123 (by decide) ?_
        exact J _ (by rw [if_neg c119])
  · skip
    refine lv_aload_n hx hb d_M_block_11 rfl (lv_at hl 1 rfl) ?_
    refine r_callVV (wr := [(xb, .inl (cI, 64, .inl fb))]) (rest := []) E cs_M_60 (c_M_ends l D cB cI h xb xr xv xw xs xc st md mn ro sz wn sn th fr fv fc (by omega)) hP hD hS hA [0, 2, 3, 4] [1] ⟨rfl, rfl, by decide, by decide, by decide⟩ kc_M rfl hl.1 rfl rfl (Nat.le_of_ble_eq_true rfl) ⟨by decide, by decide⟩ ⟨by decide, by decide⟩ d_M_block_12 (fun u H locs hw hP hD hS => ?_)
    have hP : va_P D classes [(h, .inr (4, [.int th, .int (nI 1), .int (nI md), .ref xb, .int (nI 0), .ref xr, .int (nI 0), .ref xv, .int (nI (if ro = 0 then sz else ro)), .ref xw, .int (nI wn), .ref xs, .int (nI sn), .ref xc])), (xb, .inl (cI, 64, .inl fb)), (xr, .inl (cI, 259, .inl fr)), (xv, .inl (cI, 259, .inl (cpy fr fv ro))), (xc, .inl (cI, 5, .inl (upd fc 1 (fc 1 + nI 1))))] H := hP.sub [1, 0, 2, 3, 4] rfl
    have hD : va_D A [(h, .inr (4, [.int th, .int (nI 1), .int (nI md), .ref xb, .int (nI 0), .ref xr, .int (nI 0), .ref xv, .int (nI (if ro = 0 then sz else ro)), .ref xw, .int (nI wn), .ref xs, .int (nI sn), .ref xc])), (xb, .inl (cI, 64, .inl fb)), (xr, .inl (cI, 259, .inl fr)), (xv, .inl (cI, 259, .inl (cpy fr fv ro))), (xc, .inl (cI, 5, .inl (upd fc 1 (fc 1 + nI 1))))] := hD.sub [1, 0, 2, 3, 4] (by decide) rfl
    refine W.widen (k := 0) (n := 0) (Nat.le_of_ble_eq_true rfl) (Nat.le_of_ble_eq_true rfl) ?_
    refine lv_iconst (v := nI 1) hx hb d_M_block_15 (by decide +kernel) ?_
    exact r_iret E hr hlk hP hD hS (rfl) ((1, 0, 0, if ro = 0 then sz else ro, fr, cpy fr fv ro, upd fc 1 (fc 1 + nI 1))) rfl (by rw [mbk_0 c8]; exact ⟨rfl, rfl⟩) d_M_block_16

abbrev rm_M_look : Room := { frames := 1, cells := 0, slots := 0, locals := 21 }
set_option maxHeartbeats 4000000 in
set_option maxRecDepth 100000 in
theorem L_M_look_4 (l : Launch) (D : va_G) (cB cI : ClassId) (h xb xr xv xw xs xc st md mn ro sz wn sn : Nat) (th : Int32) (fb : Nat → Int32) (β : Nat → Nat) (h_β : ∀ j, β j < 2) (h_b : ∀ j, j < 16 → fb j = nI (β j)) (fc : Nat → Int32) {p : Program} {e : Env} {s : State} {m : MethodId} {args : Array Value} {below : List Frame} {meth : Method} {c : Code} {A : Nat → Prop} {Q : State → Prop} (E : Ev p m c b_M_look 3 s args "CodeBlocksModel" D cB cI) (hA : ∀ q : Nat, s.heap.size ≤ q → A q)
    (K : ∀ (H : Heap) (locs : List Loc) (ls : Array Slot), (True) → va_P D classes [(h, .inr (4, [.int th, .int (nI st), .int (nI md), .ref xb, .int (nI mn), .ref xr, .int (nI ro), .ref xv, .int (nI sz), .ref xw, .int (nI wn), .ref xs, .int (nI sn), .ref xc])), (xb, .inl (cI, 64, .inl fb)), (xc, .inl (cI, 5, .inl fc))] H → va_D A [(h, .inr (4, [.int th, .int (nI st), .int (nI md), .ref xb, .int (nI mn), .ref xr, .int (nI ro), .ref xv, .int (nI sz), .ref xw, .int (nI wn), .ref xs, .int (nI sn), .ref xc])), (xb, .inl (cI, 64, .inl fb)), (xc, .inl (cI, 5, .inl fc))] → va_S A s.heap H locs → lv_has ls 3 [(0, .ref h), (1, .int (nI (df β 16)))] → W p l e rm_M_look s m args below meth c H locs 0 0 Q (F0 m 42 ls [])) :
    ∀ (n : Nat) (k : Nat) (H : Heap) (locs : List Loc) (ls : Array Slot), (k + n = 16) → va_P D classes [(h, .inr (4, [.int th, .int (nI st), .int (nI md), .ref xb, .int (nI mn), .ref xr, .int (nI ro), .ref xv, .int (nI sz), .ref xw, .int (nI wn), .ref xs, .int (nI sn), .ref xc])), (xb, .inl (cI, 64, .inl fb)), (xc, .inl (cI, 5, .inl fc))] H → va_D A [(h, .inr (4, [.int th, .int (nI st), .int (nI md), .ref xb, .int (nI mn), .ref xr, .int (nI ro), .ref xv, .int (nI sz), .ref xw, .int (nI wn), .ref xs, .int (nI sn), .ref xc])), (xb, .inl (cI, 64, .inl fb)), (xc, .inl (cI, 5, .inl fc))] → va_S A s.heap H locs → lv_has ls 3 [(0, .ref h), (1, .int (nI (df β k))), (2, .int (nI k))] → W p l e rm_M_look s m args below meth c H locs 0 0 Q (F0 m 4 ls []) := by
  have hx := E.1.1
  have hb := E.1.2.1
  intro n
  induction n with
  | zero =>
    intro k H locs ls hi hP hD hS hl
    obtain rfl : k = 16 := by omega
    have hl : lv_has ls 3 [(0, .ref h), (1, .int (nI (df β 16))), (2, .int (nI 16))] := hl
    refine lv_iload_n hx hb d_M_look_4 rfl (lv_at hl 2 rfl) ?_
    refine lv_bipush (v := nI 16) hx hb d_M_look_5 (by decide +kernel) ?_
    refine r_icmp_ge (tgt := 42) hx hb ⟨by omega, by omega⟩ d_M_look_7 (by decide) (fun c7 => ?_) (fun c7 => False.elim (by omega))
    exact K  H locs ls (trivial) hP hD hS (lv_sub hl [0, 1] rfl)
  | succ n ih =>
    intro k H locs ls hi hP hD hS hl
    refine lv_iload_n hx hb d_M_look_4 rfl (lv_at hl 2 rfl) ?_
    refine lv_bipush (v := nI 16) hx hb d_M_look_5 (by decide +kernel) ?_
    refine r_icmp_ge (tgt := 42) hx hb ⟨by omega, by omega⟩ d_M_look_7 (by decide) (fun c7 => False.elim (by omega)) (fun c7 => ?_)
    refine lv_iload_n hx hb d_M_look_10 rfl (lv_at hl 1 rfl) ?_
    refine lv_aload_n hx hb d_M_look_11 rfl (lv_at hl 0 rfl) ?_
    refine r_get E hP 0 fl_M_7 rfl rfl d_M_look_12 ?_
    refine lv_iload_n hx hb d_M_look_15 rfl (lv_at hl 2 rfl) ?_
    refine r_iald E hP 1 rfl (by omega) (by decide) d_M_look_16 ?_
    refine r_topi (y := nI (β k)) (h_b k (by omega)) ?_
    refine lv_ldc (v := 60304) hx hb E.1.2.2.2.1 (E.1.2.2.2.2 _ k_291) d_M_look_17 ?_
    refine r_topi (y := nI 60304) (by decide +kernel) ?_
    refine lv_bipush (v := nI 15) hx hb d_M_look_19 (by decide +kernel) ?_
    refine lv_iload_n hx hb d_M_look_21 rfl (lv_at hl 2 rfl) ?_
    refine r_isub hx hb (by omega) d_M_look_22 ?_
    refine lv_ishr hx hb d_M_look_23 ?_
    refine lv_iconst (v := nI 1) hx hb d_M_look_24 (by decide +kernel) ?_
    refine lv_iand hx hb d_M_look_25 ?_
    refine r_topi (y := nI (60304 / 2 ^ (15 - k) % 2)) (mk_sh k (by omega)) ?_
    refine r_merge (rest := [.int (nI (df β k))]) (ls := ls) 34 (fun v => v = nI (if β k = 60304 / 2 ^ (15 - k) % 2 then 0 else 1)) (fun v hv => ?_) (fun J => ?_)
    · subst hv
      refine r_iadd hx hb d_M_look_34 ?_
      refine r_topi (y := nI (df β (k + 1))) (rfl) ?_
      refine lv_istore_n (lv' := [(1, .int (nI (df β (k + 1)))), (0, .ref h), (2, .int (nI k))]) hx hb d_M_look_35 rfl hl (by decide) rfl (fun ls hl => ?_)
      refine lv_iinc (v := nI (k + 1)) (lv' := [(2, .int (nI (k + 1))), (1, .int (nI (df β (k + 1)))), (0, .ref h)]) hx hb d_M_look_36 hl (k := 2) rfl (nI_add _ _) (by decide) rfl (fun ls hl => ?_)
      refine lv_goto (tgt := 4) hx hb d_M_look_39 (by decide) ?_
      exact ih (k + 1) H locs ls (by omega) hP hD hS (lv_sub hl [2, 1, 0] rfl)
    · skip
      refine r_icmp_eq (tgt := 33) hx hb ⟨by have := h_β k; omega, by omega⟩ d_M_look_26 (by decide) (fun c26 => ?_) (fun c26 => ?_)
      · skip
        refine lv_iconst (v := nI 0) hx hb d_M_look_33 (by decide +kernel) ?_
        exact J _ (by rw [if_pos c26])
      · skip
        refine lv_iconst (v := nI 1) hx hb d_M_look_29 (by decide +kernel) ?_
        refine lv_goto (tgt := 34) hx hb d_M_look_30 (by decide) ?_
        exact J _ (by rw [if_neg c26])

set_option maxHeartbeats 4000000 in
set_option maxRecDepth 100000 in
/-- look() -/
theorem c_M_look (l : Launch) (D : va_G) (cB cI : ClassId) (h xb xr xv xw xs xc st md mn ro sz wn sn : Nat) (th : Int32) (fb : Nat → Int32) (β : Nat → Nat) (h_β : ∀ j, β j < 2) (h_b : ∀ j, j < 16 → fb j = nI (β j)) (fc : Nat → Int32) (h_md : md < 2) : MV l D cB cI y_M_look b_M_look 3 none rm_M_look [.ref h] [(h, .inr (4, [.int th, .int (nI st), .int (nI md), .ref xb, .int (nI mn), .ref xr, .int (nI ro), .ref xv, .int (nI sz), .ref xw, .int (nI wn), .ref xs, .int (nI sn), .ref xc])), (xb, .inl (cI, 64, .inl fb)), (xc, .inl (cI, 5, .inl fc))] (fun (u : Nat × Nat × Nat × (Nat → Int32)) => u = if df β 16 = 0 ∨ (df β 16 = 1 ∧ md ≠ 0) then (2, 0, 0, upd (upd fc 0 (fc 0 + nI 1)) 4 ((upd fc 0 (fc 0 + nI 1)) 4 + nI (df β 16))) else (st, mn, ro, fc)) (fun u => [(h, .inr (4, [.int th, .int (nI u.1), .int (nI md), .ref xb, .int (nI u.2.1), .ref xr, .int (nI u.2.2.1), .ref xv, .int (nI sz), .ref xw, .int (nI wn), .ref xs, .int (nI sn), .ref xc])), (xb, .inl (cI, 64, .inl fb)), (xc, .inl (cI, 5, .inl u.2.2.2))]) := by
  refine m_entryV (by decide +kernel) (Nat.le_of_ble_eq_true rfl) ?_
  intro p e s m below meth c ls A E hr hlk hnm hA hP hD hl
  have hx := E.1.1
  have hb := E.1.2.1
  have hS : va_S A s.heap s.heap [] := va_S.rf
  have hl : lv_has ls 3 [(0, .ref h)] := hl
  refine lv_iconst (v := nI 0) hx hb d_M_look_0 (by decide +kernel) ?_
  refine lv_istore_n (lv' := [(1, .int (nI 0)), (0, .ref h)]) hx hb d_M_look_1 rfl hl (by decide) rfl (fun ls hl => ?_)
  refine lv_iconst (v := nI 0) hx hb d_M_look_2 (by decide +kernel) ?_
  refine lv_istore_n (lv' := [(2, .int (nI 0)), (1, .int (nI 0)), (0, .ref h)]) hx hb d_M_look_3 rfl hl (by decide) rfl (fun ls hl => ?_)
  refine L_M_look_4 l D cB cI h xb xr xv xw xs xc st md mn ro sz wn sn th fb β h_β h_b fc E hA (fun H locs ls _ hP hD hS hl => ?_) 16 0 _ _ ls (by omega) hP hD hS (lv_sub hl [2, 1, 0] rfl)
  have hdf := df_le β 16
  refine lv_iload_n hx hb d_M_look_42 rfl (lv_at hl 1 rfl) ?_
  refine r_join (rest := []) (ls := ls) 58 (df β 16 = 0 ∨ (df β 16 = 1 ∧ md ≠ 0)) (fun hj => ?_) (fun J => ?_)
  · skip
    refine lv_aload_n hx hb d_M_look_58 rfl (lv_at hl 0 rfl) ?_
    refine r_get E hP 0 fl_M_25 rfl rfl d_M_look_59 ?_
    refine lv_iconst (v := nI 0) hx hb d_M_look_62 (by decide +kernel) ?_
    refine lv_dup2_11 hx hb d_M_look_63 rfl rfl ?_
    refine r_iald E hP 2 rfl (by decide) (by decide) d_M_look_64 ?_
    refine lv_iconst (v := nI 1) hx hb d_M_look_65 (by decide +kernel) ?_
    refine lv_iadd hx hb d_M_look_66 ?_
    refine r_iast E hP hD hS 2 rfl (by decide) (by decide) (ws' := [(h, .inr (4, [.int th, .int (nI st), .int (nI md), .ref xb, .int (nI mn), .ref xr, .int (nI ro), .ref xv, .int (nI sz), .ref xw, .int (nI wn), .ref xs, .int (nI sn), .ref xc])), (xb, .inl (cI, 64, .inl fb)), (xc, .inl (cI, 5, .inl (upd fc 0 ((fc 0) + (nI 1)))))]) rfl d_M_look_67 (fun H locs hP hD hS => ?_)
    refine lv_aload_n hx hb d_M_look_68 rfl (lv_at hl 0 rfl) ?_
    refine r_get E hP 0 fl_M_25 rfl rfl d_M_look_69 ?_
    refine lv_iconst (v := nI 4) hx hb d_M_look_72 (by decide +kernel) ?_
    refine lv_dup2_11 hx hb d_M_look_73 rfl rfl ?_
    refine r_iald E hP 2 rfl (by decide) (by decide) d_M_look_74 ?_
    refine lv_iload_n hx hb d_M_look_75 rfl (lv_at hl 1 rfl) ?_
    refine lv_iadd hx hb d_M_look_76 ?_
    refine r_iast E hP hD hS 2 rfl (by decide) (by decide) (ws' := [(h, .inr (4, [.int th, .int (nI st), .int (nI md), .ref xb, .int (nI mn), .ref xr, .int (nI ro), .ref xv, .int (nI sz), .ref xw, .int (nI wn), .ref xs, .int (nI sn), .ref xc])), (xb, .inl (cI, 64, .inl fb)), (xc, .inl (cI, 5, .inl (upd (upd fc 0 ((fc 0) + (nI 1))) 4 (((upd fc 0 ((fc 0) + (nI 1))) 4) + (nI (df β 16))))))]) rfl d_M_look_77 (fun H locs hP hD hS => ?_)
    refine lv_aload_n hx hb d_M_look_78 rfl (lv_at hl 0 rfl) ?_
    refine lv_iconst (v := nI 0) hx hb d_M_look_79 (by decide +kernel) ?_
    refine r_put E hP hD hS 0 fl_M_46 rfl rfl (rfl) (rfl) (ws' := [(h, .inr (4, [.int th, .int (nI st), .int (nI md), .ref xb, .int (nI mn), .ref xr, .int (nI 0), .ref xv, .int (nI sz), .ref xw, .int (nI wn), .ref xs, .int (nI sn), .ref xc])), (xb, .inl (cI, 64, .inl fb)), (xc, .inl (cI, 5, .inl (upd (upd fc 0 ((fc 0) + (nI 1))) 4 (((upd fc 0 ((fc 0) + (nI 1))) 4) + (nI (df β 16))))))]) rfl d_M_look_80 (fun H locs hP hD hS => ?_)
    refine lv_aload_n hx hb d_M_look_83 rfl (lv_at hl 0 rfl) ?_
    refine lv_iconst (v := nI 2) hx hb d_M_look_84 (by decide +kernel) ?_
    refine r_callVV (wr := [(xb, .inl (cI, 64, .inl fb)), (xc, .inl (cI, 5, .inl (upd (upd fc 0 ((fc 0) + (nI 1))) 4 (((upd fc 0 ((fc 0) + (nI 1))) 4) + (nI (df β 16))))))]) (rest := []) E cs_M_52 (c_M_begins l D cB cI h xb xr xv xw xs xc st md mn 0 sz wn sn th 2) hP hD hS hA [0] [1, 2] ⟨rfl, rfl, by decide, by decide, by decide⟩ kc_M rfl hl.1 rfl rfl (Nat.le_of_ble_eq_true rfl) ⟨by decide, by decide⟩ ⟨by decide, by decide⟩ d_M_look_85 (fun u H locs hw hP hD hS => ?_)
    have hP : va_P D classes [(h, .inr (4, [.int th, .int (nI 2), .int (nI md), .ref xb, .int (nI 0), .ref xr, .int (nI 0), .ref xv, .int (nI sz), .ref xw, .int (nI wn), .ref xs, .int (nI sn), .ref xc])), (xb, .inl (cI, 64, .inl fb)), (xc, .inl (cI, 5, .inl (upd (upd fc 0 ((fc 0) + (nI 1))) 4 (((upd fc 0 ((fc 0) + (nI 1))) 4) + (nI (df β 16))))))] H := hP.sub [2, 0, 1] rfl
    have hD : va_D A [(h, .inr (4, [.int th, .int (nI 2), .int (nI md), .ref xb, .int (nI 0), .ref xr, .int (nI 0), .ref xv, .int (nI sz), .ref xw, .int (nI wn), .ref xs, .int (nI sn), .ref xc])), (xb, .inl (cI, 64, .inl fb)), (xc, .inl (cI, 5, .inl (upd (upd fc 0 ((fc 0) + (nI 1))) 4 (((upd fc 0 ((fc 0) + (nI 1))) 4) + (nI (df β 16))))))] := hD.sub [2, 0, 1] (by decide) rfl
    refine W.widen (k := 0) (n := 0) (Nat.le_of_ble_eq_true rfl) (Nat.le_of_ble_eq_true rfl) ?_
    exact r_vret E hr hlk hP hD hS ((2, 0, 0, upd (upd fc 0 (fc 0 + nI 1)) 4 ((upd fc 0 (fc 0 + nI 1)) 4 + nI (df β 16)))) rfl (by rw [if_pos hj]) d_M_look_88
  · skip
    refine r_if_eq (tgt := 58) hx hb (by omega) d_M_look_43 (by decide) (fun c43 => ?_) (fun c43 => ?_)
    · skip
      exact J (Or.inl c43)
    · skip
      refine lv_iload_n hx hb d_M_look_46 rfl (lv_at hl 1 rfl) ?_
      refine lv_iconst (v := nI 1) hx hb d_M_look_47 (by decide +kernel) ?_
      refine r_icmp_ne (tgt := 88) hx hb ⟨by omega, by omega⟩ d_M_look_48 (by decide) (fun c48 => ?_) (fun c48 => ?_)
      · skip
        exact r_vret E hr hlk hP hD hS ((st, mn, ro, fc)) rfl (by rw [if_neg (fun z => z.elim (fun z => c43 z) (fun z => absurd z.1 c48))]) d_M_look_88
      · skip
        refine lv_aload_n hx hb d_M_look_51 rfl (lv_at hl 0 rfl) ?_
        refine r_get E hP 0 fl_M_36 rfl rfl d_M_look_52 ?_
        skip
        refine r_if_eq (tgt := 88) hx hb (by omega) d_M_look_55 (by decide) (fun c55 => ?_) (fun c55 => ?_)
        · skip
          exact r_vret E hr hlk hP hD hS ((st, mn, ro, fc)) rfl (by rw [if_neg (fun z => z.elim (fun z => c43 z) (fun z => absurd c55 z.2))]) d_M_look_88
        · skip
          exact J (Or.inr ⟨c48, c55⟩)
end
section
abbrev rm_M_turn : Room := { frames := 1, cells := 0, slots := 0, locals := 21 }
set_option maxHeartbeats 4000000 in
set_option maxRecDepth 100000 in
/-- turn(on) -/
theorem c_M_turn (l : Launch) (D : va_G) (cB cI : ClassId) (h xb xr xv xw xs xc st md mn ro sz wn sn : Nat) (th : Int32) (on : Nat) (h_on : on < 2) (h_st : st ≤ 2) : MI l D cB cI y_M_turn b_M_turn 2 (some .boolean) rm_M_turn [.ref h, .int (nI on)] [(h, .inr (4, [.int th, .int (nI st), .int (nI md), .ref xb, .int (nI mn), .ref xr, .int (nI ro), .ref xv, .int (nI sz), .ref xw, .int (nI wn), .ref xs, .int (nI sn), .ref xc]))] (fun (v : Int32) (u : Nat × Nat × Nat) => if on = (if st = 0 then 0 else 1) then v = nI 0 ∧ u = (st, mn, ro) else v = nI 1 ∧ u = (on, 0, 0)) (fun u => [(h, .inr (4, [.int (nI 0), .int (nI u.1), .int (nI md), .ref xb, .int (nI u.2.1), .ref xr, .int (nI u.2.2), .ref xv, .int (nI sz), .ref xw, .int (nI wn), .ref xs, .int (nI sn), .ref xc]))]) := by
  refine m_entryI (by decide +kernel) (Nat.le_of_ble_eq_true rfl) ?_
  intro p e s m below meth c ls A E hr hlk hnm hA hP hD hl
  have hx := E.1.1
  have hb := E.1.2.1
  have hS : va_S A s.heap s.heap [] := va_S.rf
  have hl : lv_has ls 2 [(0, .ref h), (1, .int (nI on))] := hl
  refine lv_aload_n hx hb d_M_turn_0 rfl (lv_at hl 0 rfl) ?_
  refine lv_iconst (v := nI 0) hx hb d_M_turn_1 (by decide +kernel) ?_
  refine r_put E hP hD hS 0 fl_M_28 rfl rfl (rfl) (rfl) (ws' := [(h, .inr (4, [.int (nI 0), .int (nI st), .int (nI md), .ref xb, .int (nI mn), .ref xr, .int (nI ro), .ref xv, .int (nI sz), .ref xw, .int (nI wn), .ref xs, .int (nI sn), .ref xc]))]) rfl d_M_turn_2 (fun H locs hP hD hS => ?_)
  refine lv_iload_n hx hb d_M_turn_5 rfl (lv_at hl 1 rfl) ?_
  refine lv_aload_n hx hb d_M_turn_6 rfl (lv_at hl 0 rfl) ?_
  refine r_get E hP 0 fl_M_40 rfl rfl d_M_turn_7 ?_
  refine r_merge (rest := [.int (nI on)]) (ls := ls) 18 (fun v => v = nI (if st = 0 then 0 else 1)) (fun v hv => ?_) (fun J => ?_)
  · subst hv
    refine r_icmp_ne (tgt := 23) hx hb ⟨by omega, by split <;> omega⟩ d_M_turn_18 (by decide) (fun c18 => ?_) (fun c18 => ?_)
    · skip
      refine lv_aload_n hx hb d_M_turn_23 rfl (lv_at hl 0 rfl) ?_
      refine lv_iconst (v := nI 0) hx hb d_M_turn_24 (by decide +kernel) ?_
      refine r_put E hP hD hS 0 fl_M_46 rfl rfl (rfl) (rfl) (ws' := [(h, .inr (4, [.int (nI 0), .int (nI st), .int (nI md), .ref xb, .int (nI mn), .ref xr, .int (nI 0), .ref xv, .int (nI sz), .ref xw, .int (nI wn), .ref xs, .int (nI sn), .ref xc]))]) rfl d_M_turn_25 (fun H locs hP hD hS => ?_)
      refine lv_aload_n hx hb d_M_turn_28 rfl (lv_at hl 0 rfl) ?_
      refine lv_iload_n hx hb d_M_turn_29 rfl (lv_at hl 1 rfl) ?_
      refine r_merge (rest := [.ref h]) (ls := ls) 38 (fun v => v = nI on) (fun v hv => ?_) (fun J => ?_)
      · subst hv
        refine r_callVV (wr := []) (rest := []) E cs_M_52 (c_M_begins l D cB cI h xb xr xv xw xs xc st md mn 0 sz wn sn (nI 0) on) hP hD hS hA [0] [] ⟨rfl, rfl, by decide, by decide, by decide⟩ kc_M rfl hl.1 rfl rfl (Nat.le_of_ble_eq_true rfl) ⟨by decide, by decide⟩ ⟨by decide, by decide⟩ d_M_turn_38 (fun u H locs hw hP hD hS => ?_)
        have hP : va_P D classes [(h, .inr (4, [.int (nI 0), .int (nI on), .int (nI md), .ref xb, .int (nI 0), .ref xr, .int (nI 0), .ref xv, .int (nI sz), .ref xw, .int (nI wn), .ref xs, .int (nI sn), .ref xc]))] H := hP.sub [0] rfl
        have hD : va_D A [(h, .inr (4, [.int (nI 0), .int (nI on), .int (nI md), .ref xb, .int (nI 0), .ref xr, .int (nI 0), .ref xv, .int (nI sz), .ref xw, .int (nI wn), .ref xs, .int (nI sn), .ref xc]))] := hD.sub [0] (by decide) rfl
        refine W.widen (k := 0) (n := 0) (Nat.le_of_ble_eq_true rfl) (Nat.le_of_ble_eq_true rfl) ?_
        refine lv_iconst (v := nI 1) hx hb d_M_turn_41 (by decide +kernel) ?_
        exact r_iret E hr hlk hP hD hS (rfl) ((on, 0, 0)) rfl (by rw [if_neg c18]; exact ⟨rfl, rfl⟩) d_M_turn_42
      · skip
        refine r_if_eq (tgt := 37) hx hb (by omega) d_M_turn_30 (by decide) (fun c30 => ?_) (fun c30 => ?_)
        · skip
          refine lv_iconst (v := nI 0) hx hb d_M_turn_37 (by decide +kernel) ?_
          exact J _ (congrArg nI (by omega))
        · skip
          refine lv_iconst (v := nI 1) hx hb d_M_turn_33 (by decide +kernel) ?_
          refine lv_goto (tgt := 38) hx hb d_M_turn_34 (by decide) ?_
          exact J _ (congrArg nI (by omega))
    · skip
      refine lv_iconst (v := nI 0) hx hb d_M_turn_21 (by decide +kernel) ?_
      exact r_iret E hr hlk hP hD hS (rfl) ((st, mn, ro)) rfl (by rw [if_pos c18]; exact ⟨rfl, rfl⟩) d_M_turn_22
  · skip
    refine r_if_eq (tgt := 17) hx hb (by omega) d_M_turn_10 (by decide) (fun c10 => ?_) (fun c10 => ?_)
    · skip
      refine lv_iconst (v := nI 0) hx hb d_M_turn_17 (by decide +kernel) ?_
      exact J _ (by rw [if_pos c10])
    · skip
      refine lv_iconst (v := nI 1) hx hb d_M_turn_13 (by decide +kernel) ?_
      refine lv_goto (tgt := 18) hx hb d_M_turn_14 (by decide) ?_
      exact J _ (by rw [if_neg c10])

abbrev rm_M_mending : Room := { frames := 0, cells := 0, slots := 0, locals := 0 }
set_option maxHeartbeats 4000000 in
set_option maxRecDepth 100000 in
/-- mending(is) -/
theorem c_M_mending (l : Launch) (D : va_G) (cB cI : ClassId) (h xb xr xv xw xs xc st md mn ro sz wn sn : Nat) (th : Int32) (is_ : Nat) (h_is : is_ < 2) : MV l D cB cI y_M_mending b_M_mending 2 none rm_M_mending [.ref h, .int (nI is_)] [(h, .inr (4, [.int th, .int (nI st), .int (nI md), .ref xb, .int (nI mn), .ref xr, .int (nI ro), .ref xv, .int (nI sz), .ref xw, .int (nI wn), .ref xs, .int (nI sn), .ref xc]))] (fun (_ : Unit) => True) (fun _ => [(h, .inr (4, [.int (nI 0), .int (nI st), .int (nI is_), .ref xb, .int (nI mn), .ref xr, .int (nI ro), .ref xv, .int (nI sz), .ref xw, .int (nI wn), .ref xs, .int (nI sn), .ref xc]))]) := by
  refine m_entryV (by decide +kernel) (Nat.le_of_ble_eq_true rfl) ?_
  intro p e s m below meth c ls A E hr hlk hnm hA hP hD hl
  have hx := E.1.1
  have hb := E.1.2.1
  have hS : va_S A s.heap s.heap [] := va_S.rf
  have hl : lv_has ls 2 [(0, .ref h), (1, .int (nI is_))] := hl
  refine lv_aload_n hx hb d_M_mending_0 rfl (lv_at hl 0 rfl) ?_
  refine lv_iconst (v := nI 0) hx hb d_M_mending_1 (by decide +kernel) ?_
  refine r_put E hP hD hS 0 fl_M_28 rfl rfl (rfl) (rfl) (ws' := [(h, .inr (4, [.int (nI 0), .int (nI st), .int (nI md), .ref xb, .int (nI mn), .ref xr, .int (nI ro), .ref xv, .int (nI sz), .ref xw, .int (nI wn), .ref xs, .int (nI sn), .ref xc]))]) rfl d_M_mending_2 (fun H locs hP hD hS => ?_)
  refine lv_aload_n hx hb d_M_mending_5 rfl (lv_at hl 0 rfl) ?_
  refine lv_iload_n hx hb d_M_mending_6 rfl (lv_at hl 1 rfl) ?_
  refine r_put E hP hD hS 0 fl_M_36 rfl rfl ((nz2 h_is).1) ((nz2 h_is).2) (ws' := [(h, .inr (4, [.int (nI 0), .int (nI st), .int (nI is_), .ref xb, .int (nI mn), .ref xr, .int (nI ro), .ref xv, .int (nI sz), .ref xw, .int (nI wn), .ref xs, .int (nI sn), .ref xc]))]) rfl d_M_mending_7 (fun H locs hP hD hS => ?_)
  exact r_vret E hr hlk hP hD hS (()) rfl (trivial) d_M_mending_10

abbrev rm_M_state : Room := { frames := 0, cells := 0, slots := 0, locals := 0 }
set_option maxHeartbeats 4000000 in
set_option maxRecDepth 100000 in
/-- state -/
theorem c_M_state (l : Launch) (D : va_G) (cB cI : ClassId) (h xb xr xv xw xs xc st md mn ro sz wn sn : Nat) (th : Int32) : MI l D cB cI y_M_state b_M_state 1 (some .int) rm_M_state [.ref h] [(h, .inr (4, [.int th, .int (nI st), .int (nI md), .ref xb, .int (nI mn), .ref xr, .int (nI ro), .ref xv, .int (nI sz), .ref xw, .int (nI wn), .ref xs, .int (nI sn), .ref xc]))] (fun (v : Int32) (_ : Unit) => v = nI st) (fun _ => [(h, .inr (4, [.int (nI 0), .int (nI st), .int (nI md), .ref xb, .int (nI mn), .ref xr, .int (nI ro), .ref xv, .int (nI sz), .ref xw, .int (nI wn), .ref xs, .int (nI sn), .ref xc]))]) := by
  refine m_entryI (by decide +kernel) (Nat.le_of_ble_eq_true rfl) ?_
  intro p e s m below meth c ls A E hr hlk hnm hA hP hD hl
  have hx := E.1.1
  have hb := E.1.2.1
  have hS : va_S A s.heap s.heap [] := va_S.rf
  have hl : lv_has ls 1 [(0, .ref h)] := hl
  refine lv_aload_n hx hb d_M_state_0 rfl (lv_at hl 0 rfl) ?_
  refine lv_iconst (v := nI 0) hx hb d_M_state_1 (by decide +kernel) ?_
  refine r_put E hP hD hS 0 fl_M_28 rfl rfl (rfl) (rfl) (ws' := [(h, .inr (4, [.int (nI 0), .int (nI st), .int (nI md), .ref xb, .int (nI mn), .ref xr, .int (nI ro), .ref xv, .int (nI sz), .ref xw, .int (nI wn), .ref xs, .int (nI sn), .ref xc]))]) rfl d_M_state_2 (fun H locs hP hD hS => ?_)
  refine lv_aload_n hx hb d_M_state_5 rfl (lv_at hl 0 rfl) ?_
  refine r_get E hP 0 fl_M_40 rfl rfl d_M_state_6 ?_
  exact r_iret E hr hlk hP hD hS (rfl) (()) rfl (rfl) d_M_state_9

abbrev rm_M_size : Room := { frames := 0, cells := 0, slots := 0, locals := 0 }
set_option maxHeartbeats 4000000 in
set_option maxRecDepth 100000 in
/-- size -/
theorem c_M_size (l : Launch) (D : va_G) (cB cI : ClassId) (h xb xr xv xw xs xc st md mn ro sz wn sn : Nat) (th : Int32) : MI l D cB cI y_M_size b_M_size 1 (some .int) rm_M_size [.ref h] [(h, .inr (4, [.int th, .int (nI st), .int (nI md), .ref xb, .int (nI mn), .ref xr, .int (nI ro), .ref xv, .int (nI sz), .ref xw, .int (nI wn), .ref xs, .int (nI sn), .ref xc]))] (fun (v : Int32) (_ : Unit) => v = nI sz) (fun _ => [(h, .inr (4, [.int (nI 0), .int (nI st), .int (nI md), .ref xb, .int (nI mn), .ref xr, .int (nI ro), .ref xv, .int (nI sz), .ref xw, .int (nI wn), .ref xs, .int (nI sn), .ref xc]))]) := by
  refine m_entryI (by decide +kernel) (Nat.le_of_ble_eq_true rfl) ?_
  intro p e s m below meth c ls A E hr hlk hnm hA hP hD hl
  have hx := E.1.1
  have hb := E.1.2.1
  have hS : va_S A s.heap s.heap [] := va_S.rf
  have hl : lv_has ls 1 [(0, .ref h)] := hl
  refine lv_aload_n hx hb d_M_size_0 rfl (lv_at hl 0 rfl) ?_
  refine lv_iconst (v := nI 0) hx hb d_M_size_1 (by decide +kernel) ?_
  refine r_put E hP hD hS 0 fl_M_28 rfl rfl (rfl) (rfl) (ws' := [(h, .inr (4, [.int (nI 0), .int (nI st), .int (nI md), .ref xb, .int (nI mn), .ref xr, .int (nI ro), .ref xv, .int (nI sz), .ref xw, .int (nI wn), .ref xs, .int (nI sn), .ref xc]))]) rfl d_M_size_2 (fun H locs hP hD hS => ?_)
  refine lv_aload_n hx hb d_M_size_5 rfl (lv_at hl 0 rfl) ?_
  refine r_get E hP 0 fl_M_49 rfl rfl d_M_size_6 ?_
  exact r_iret E hr hlk hP hD hS (rfl) (()) rfl (rfl) d_M_size_9

abbrev rm_M_count : Room := { frames := 0, cells := 0, slots := 0, locals := 0 }
set_option maxHeartbeats 4000000 in
set_option maxRecDepth 100000 in
/-- count(what) -/
theorem c_M_count (l : Launch) (D : va_G) (cB cI : ClassId) (h xb xr xv xw xs xc st md mn ro sz wn sn : Nat) (th : Int32) (fc : Nat → Int32) (p0 : Int32) : MI l D cB cI y_M_count b_M_count 2 (some .int) rm_M_count [.ref h, .int p0] [(h, .inr (4, [.int th, .int (nI st), .int (nI md), .ref xb, .int (nI mn), .ref xr, .int (nI ro), .ref xv, .int (nI sz), .ref xw, .int (nI wn), .ref xs, .int (nI sn), .ref xc])), (xc, .inl (cI, 5, .inl fc))] (fun (v : Int32) (_ : Unit) => v = rd p0 5 fc) (fun _ => [(h, .inr (4, [.int (nI 0), .int (nI st), .int (nI md), .ref xb, .int (nI mn), .ref xr, .int (nI ro), .ref xv, .int (nI sz), .ref xw, .int (nI wn), .ref xs, .int (nI sn), .ref xc])), (xc, .inl (cI, 5, .inl fc))]) := by
  refine m_entryI (by decide +kernel) (Nat.le_of_ble_eq_true rfl) ?_
  intro p e s m below meth c ls A E hr hlk hnm hA hP hD hl
  have hx := E.1.1
  have hb := E.1.2.1
  have hS : va_S A s.heap s.heap [] := va_S.rf
  rcases pk_ix p0 (n := 5) (by decide) with h_p | h_p | ⟨j, h_j, rfl⟩
  · skip
    have hl : lv_has ls 2 [(0, .ref h), (1, .int p0)] := hl
    refine lv_aload_n hx hb d_M_count_0 rfl (lv_at hl 0 rfl) ?_
    refine lv_iconst (v := nI 0) hx hb d_M_count_1 (by decide +kernel) ?_
    refine r_put E hP hD hS 0 fl_M_28 rfl rfl (rfl) (rfl) (ws' := [(h, .inr (4, [.int (nI 0), .int (nI st), .int (nI md), .ref xb, .int (nI mn), .ref xr, .int (nI ro), .ref xv, .int (nI sz), .ref xw, .int (nI wn), .ref xs, .int (nI sn), .ref xc])), (xc, .inl (cI, 5, .inl fc))]) rfl d_M_count_2 (fun H locs hP hD hS => ?_)
    refine lv_iload_n hx hb d_M_count_5 rfl (lv_at hl 1 rfl) ?_
    refine lv_if_lt (tgt := 14) hx hb d_M_count_6 (by decide) (fun c6 => ?_) (fun c6 => False.elim (c6 h_p))
    refine lv_iconst (v := (-1)) hx hb d_M_count_14 (by decide +kernel) ?_
    refine lv_goto (tgt := 24) hx hb d_M_count_15 (by decide) ?_
    exact r_iret E hr hlk hP hD hS (rfl) (()) rfl ((rd_lo h_p).symm) d_M_count_24
  · skip
    have hl : lv_has ls 2 [(0, .ref h), (1, .int p0)] := hl
    refine lv_aload_n hx hb d_M_count_0 rfl (lv_at hl 0 rfl) ?_
    refine lv_iconst (v := nI 0) hx hb d_M_count_1 (by decide +kernel) ?_
    refine r_put E hP hD hS 0 fl_M_28 rfl rfl (rfl) (rfl) (ws' := [(h, .inr (4, [.int (nI 0), .int (nI st), .int (nI md), .ref xb, .int (nI mn), .ref xr, .int (nI ro), .ref xv, .int (nI sz), .ref xw, .int (nI wn), .ref xs, .int (nI sn), .ref xc])), (xc, .inl (cI, 5, .inl fc))]) rfl d_M_count_2 (fun H locs hP hD hS => ?_)
    refine lv_iload_n hx hb d_M_count_5 rfl (lv_at hl 1 rfl) ?_
    refine lv_if_lt (tgt := 14) hx hb d_M_count_6 (by decide) (fun c6 => ?_) (fun c6 => ?_)
    · skip
      refine lv_iconst (v := (-1)) hx hb d_M_count_14 (by decide +kernel) ?_
      refine lv_goto (tgt := 24) hx hb d_M_count_15 (by decide) ?_
      exact r_iret E hr hlk hP hD hS (rfl) (()) rfl ((rd_hi h_p).symm) d_M_count_24
    · skip
      refine lv_iload_n hx hb d_M_count_9 rfl (lv_at hl 1 rfl) ?_
      refine lv_iconst (v := nI 4) hx hb d_M_count_10 (by decide +kernel) ?_
      refine lv_icmp_le (tgt := 18) hx hb d_M_count_11 (by decide) (fun c11 => False.elim (by have a := Int32.le_iff_toInt_le.mp c11; have b := Int32.le_iff_toInt_le.mp h_p; rw [nI_toInt (by decide)] at a b; omega)) (fun c11 => ?_)
      refine lv_iconst (v := (-1)) hx hb d_M_count_14 (by decide +kernel) ?_
      refine lv_goto (tgt := 24) hx hb d_M_count_15 (by decide) ?_
      exact r_iret E hr hlk hP hD hS (rfl) (()) rfl ((rd_hi h_p).symm) d_M_count_24
  · skip
    have hl : lv_has ls 2 [(0, .ref h), (1, .int (nI j))] := hl
    refine lv_aload_n hx hb d_M_count_0 rfl (lv_at hl 0 rfl) ?_
    refine lv_iconst (v := nI 0) hx hb d_M_count_1 (by decide +kernel) ?_
    refine r_put E hP hD hS 0 fl_M_28 rfl rfl (rfl) (rfl) (ws' := [(h, .inr (4, [.int (nI 0), .int (nI st), .int (nI md), .ref xb, .int (nI mn), .ref xr, .int (nI ro), .ref xv, .int (nI sz), .ref xw, .int (nI wn), .ref xs, .int (nI sn), .ref xc])), (xc, .inl (cI, 5, .inl fc))]) rfl d_M_count_2 (fun H locs hP hD hS => ?_)
    refine lv_iload_n hx hb d_M_count_5 rfl (lv_at hl 1 rfl) ?_
    refine r_if_lt hx hb (by omega) (tgt := 14) d_M_count_6 (by decide) ?_
    refine lv_iload_n hx hb d_M_count_9 rfl (lv_at hl 1 rfl) ?_
    refine lv_iconst (v := nI 4) hx hb d_M_count_10 (by decide +kernel) ?_
    refine r_icmp_le (tgt := 18) hx hb ⟨by omega, by omega⟩ d_M_count_11 (by decide) (fun c11 => ?_) (fun c11 => False.elim (by omega))
    refine lv_aload_n hx hb d_M_count_18 rfl (lv_at hl 0 rfl) ?_
    refine r_get E hP 0 fl_M_25 rfl rfl d_M_count_19 ?_
    refine lv_iload_n hx hb d_M_count_22 rfl (lv_at hl 1 rfl) ?_
    refine r_iald E hP 1 rfl (by omega) (by decide) d_M_count_23 ?_
    exact r_iret E hr hlk hP hD hS (rfl) (()) rfl ((rd_in h_j (by decide)).symm) d_M_count_24

abbrev rm_M_byteAt : Room := { frames := 0, cells := 0, slots := 0, locals := 0 }
set_option maxHeartbeats 4000000 in
set_option maxRecDepth 100000 in
/-- M_byteAt -/
theorem c_M_byteAt (l : Launch) (D : va_G) (cB cI : ClassId) (h xb xr xv xw xs xc st md mn ro sz wn sn : Nat) (th : Int32) (fv : Nat → Int32) (p0 : Int32) (h_n : sz ≤ 259) : MI l D cB cI y_M_byteAt b_M_byteAt 2 (some .int) rm_M_byteAt [.ref h, .int p0] [(h, .inr (4, [.int th, .int (nI st), .int (nI md), .ref xb, .int (nI mn), .ref xr, .int (nI ro), .ref xv, .int (nI sz), .ref xw, .int (nI wn), .ref xs, .int (nI sn), .ref xc])), (xv, .inl (cI, 259, .inl fv))] (fun (v : Int32) (_ : Unit) => v = rd p0 sz fv) (fun _ => [(h, .inr (4, [.int (nI 0), .int (nI st), .int (nI md), .ref xb, .int (nI mn), .ref xr, .int (nI ro), .ref xv, .int (nI sz), .ref xw, .int (nI wn), .ref xs, .int (nI sn), .ref xc])), (xv, .inl (cI, 259, .inl fv))]) := by
  refine m_entryI (by decide +kernel) (Nat.le_of_ble_eq_true rfl) ?_
  intro p e s m below meth c ls A E hr hlk hnm hA hP hD hl
  have hx := E.1.1
  have hb := E.1.2.1
  have hS : va_S A s.heap s.heap [] := va_S.rf
  rcases pk_ix p0 (n := sz) (by omega) with h_p | h_p | ⟨j, h_j, rfl⟩
  · skip
    have hl : lv_has ls 2 [(0, .ref h), (1, .int p0)] := hl
    refine lv_aload_n hx hb d_M_byteAt_0 rfl (lv_at hl 0 rfl) ?_
    refine lv_iconst (v := nI 0) hx hb d_M_byteAt_1 (by decide +kernel) ?_
    refine r_put E hP hD hS 0 fl_M_28 rfl rfl (rfl) (rfl) (ws' := [(h, .inr (4, [.int (nI 0), .int (nI st), .int (nI md), .ref xb, .int (nI mn), .ref xr, .int (nI ro), .ref xv, .int (nI sz), .ref xw, .int (nI wn), .ref xs, .int (nI sn), .ref xc])), (xv, .inl (cI, 259, .inl fv))]) rfl d_M_byteAt_2 (fun H locs hP hD hS => ?_)
    refine lv_iload_n hx hb d_M_byteAt_5 rfl (lv_at hl 1 rfl) ?_
    refine lv_if_lt (tgt := 17) hx hb d_M_byteAt_6 (by decide) (fun c6 => ?_) (fun c6 => False.elim (c6 h_p))
    refine lv_iconst (v := (-1)) hx hb d_M_byteAt_17 (by decide +kernel) ?_
    refine lv_goto (tgt := 27) hx hb d_M_byteAt_18 (by decide) ?_
    exact r_iret E hr hlk hP hD hS (rfl) (()) rfl ((rd_lo h_p).symm) d_M_byteAt_27
  · skip
    have hl : lv_has ls 2 [(0, .ref h), (1, .int p0)] := hl
    refine lv_aload_n hx hb d_M_byteAt_0 rfl (lv_at hl 0 rfl) ?_
    refine lv_iconst (v := nI 0) hx hb d_M_byteAt_1 (by decide +kernel) ?_
    refine r_put E hP hD hS 0 fl_M_28 rfl rfl (rfl) (rfl) (ws' := [(h, .inr (4, [.int (nI 0), .int (nI st), .int (nI md), .ref xb, .int (nI mn), .ref xr, .int (nI ro), .ref xv, .int (nI sz), .ref xw, .int (nI wn), .ref xs, .int (nI sn), .ref xc])), (xv, .inl (cI, 259, .inl fv))]) rfl d_M_byteAt_2 (fun H locs hP hD hS => ?_)
    refine lv_iload_n hx hb d_M_byteAt_5 rfl (lv_at hl 1 rfl) ?_
    refine lv_if_lt (tgt := 17) hx hb d_M_byteAt_6 (by decide) (fun c6 => ?_) (fun c6 => ?_)
    · skip
      refine lv_iconst (v := (-1)) hx hb d_M_byteAt_17 (by decide +kernel) ?_
      refine lv_goto (tgt := 27) hx hb d_M_byteAt_18 (by decide) ?_
      exact r_iret E hr hlk hP hD hS (rfl) (()) rfl ((rd_hi h_p).symm) d_M_byteAt_27
    · skip
      refine lv_iload_n hx hb d_M_byteAt_9 rfl (lv_at hl 1 rfl) ?_
      refine lv_aload_n hx hb d_M_byteAt_10 rfl (lv_at hl 0 rfl) ?_
      refine r_get E hP 0 fl_M_49 rfl rfl d_M_byteAt_11 ?_
      refine lv_icmp_lt (tgt := 21) hx hb d_M_byteAt_14 (by decide) (fun c14 => absurd c14 (Int32.not_lt.mpr h_p)) (fun c14 => ?_)
      refine lv_iconst (v := (-1)) hx hb d_M_byteAt_17 (by decide +kernel) ?_
      refine lv_goto (tgt := 27) hx hb d_M_byteAt_18 (by decide) ?_
      exact r_iret E hr hlk hP hD hS (rfl) (()) rfl ((rd_hi h_p).symm) d_M_byteAt_27
  · skip
    have hl : lv_has ls 2 [(0, .ref h), (1, .int (nI j))] := hl
    refine lv_aload_n hx hb d_M_byteAt_0 rfl (lv_at hl 0 rfl) ?_
    refine lv_iconst (v := nI 0) hx hb d_M_byteAt_1 (by decide +kernel) ?_
    refine r_put E hP hD hS 0 fl_M_28 rfl rfl (rfl) (rfl) (ws' := [(h, .inr (4, [.int (nI 0), .int (nI st), .int (nI md), .ref xb, .int (nI mn), .ref xr, .int (nI ro), .ref xv, .int (nI sz), .ref xw, .int (nI wn), .ref xs, .int (nI sn), .ref xc])), (xv, .inl (cI, 259, .inl fv))]) rfl d_M_byteAt_2 (fun H locs hP hD hS => ?_)
    refine lv_iload_n hx hb d_M_byteAt_5 rfl (lv_at hl 1 rfl) ?_
    refine r_if_lt hx hb (by omega) (tgt := 17) d_M_byteAt_6 (by decide) ?_
    refine lv_iload_n hx hb d_M_byteAt_9 rfl (lv_at hl 1 rfl) ?_
    refine lv_aload_n hx hb d_M_byteAt_10 rfl (lv_at hl 0 rfl) ?_
    refine r_get E hP 0 fl_M_49 rfl rfl d_M_byteAt_11 ?_
    refine r_icmp_lt (tgt := 21) hx hb ⟨by omega, by omega⟩ d_M_byteAt_14 (by decide) (fun c14 => ?_) (fun c14 => False.elim (by omega))
    refine lv_aload_n hx hb d_M_byteAt_21 rfl (lv_at hl 0 rfl) ?_
    refine r_get E hP 0 fl_M_16 rfl rfl d_M_byteAt_22 ?_
    refine lv_iload_n hx hb d_M_byteAt_25 rfl (lv_at hl 1 rfl) ?_
    refine r_iald E hP 1 rfl (by omega) (by decide) d_M_byteAt_26 ?_
    exact r_iret E hr hlk hP hD hS (rfl) (()) rfl ((rd_in h_j (by omega)).symm) d_M_byteAt_27

abbrev rm_M_sent : Room := { frames := 0, cells := 0, slots := 0, locals := 0 }
set_option maxHeartbeats 4000000 in
set_option maxRecDepth 100000 in
/-- M_sent -/
theorem c_M_sent (l : Launch) (D : va_G) (cB cI : ClassId) (h xb xr xv xw xs xc st md mn ro sz wn sn : Nat) (th : Int32) (fs : Nat → Int32) (p0 : Int32) (h_n : sn ≤ 306) : MI l D cB cI y_M_sent b_M_sent 2 (some .int) rm_M_sent [.ref h, .int p0] [(h, .inr (4, [.int th, .int (nI st), .int (nI md), .ref xb, .int (nI mn), .ref xr, .int (nI ro), .ref xv, .int (nI sz), .ref xw, .int (nI wn), .ref xs, .int (nI sn), .ref xc])), (xs, .inl (cI, 306, .inl fs))] (fun (v : Int32) (_ : Unit) => v = rd p0 sn fs) (fun _ => [(h, .inr (4, [.int (nI 0), .int (nI st), .int (nI md), .ref xb, .int (nI mn), .ref xr, .int (nI ro), .ref xv, .int (nI sz), .ref xw, .int (nI wn), .ref xs, .int (nI sn), .ref xc])), (xs, .inl (cI, 306, .inl fs))]) := by
  refine m_entryI (by decide +kernel) (Nat.le_of_ble_eq_true rfl) ?_
  intro p e s m below meth c ls A E hr hlk hnm hA hP hD hl
  have hx := E.1.1
  have hb := E.1.2.1
  have hS : va_S A s.heap s.heap [] := va_S.rf
  rcases pk_ix p0 (n := sn) (by omega) with h_p | h_p | ⟨j, h_j, rfl⟩
  · skip
    have hl : lv_has ls 2 [(0, .ref h), (1, .int p0)] := hl
    refine lv_aload_n hx hb d_M_sent_0 rfl (lv_at hl 0 rfl) ?_
    refine lv_iconst (v := nI 0) hx hb d_M_sent_1 (by decide +kernel) ?_
    refine r_put E hP hD hS 0 fl_M_28 rfl rfl (rfl) (rfl) (ws' := [(h, .inr (4, [.int (nI 0), .int (nI st), .int (nI md), .ref xb, .int (nI mn), .ref xr, .int (nI ro), .ref xv, .int (nI sz), .ref xw, .int (nI wn), .ref xs, .int (nI sn), .ref xc])), (xs, .inl (cI, 306, .inl fs))]) rfl d_M_sent_2 (fun H locs hP hD hS => ?_)
    refine lv_iload_n hx hb d_M_sent_5 rfl (lv_at hl 1 rfl) ?_
    refine lv_if_lt (tgt := 17) hx hb d_M_sent_6 (by decide) (fun c6 => ?_) (fun c6 => False.elim (c6 h_p))
    refine lv_iconst (v := (-1)) hx hb d_M_sent_17 (by decide +kernel) ?_
    refine lv_goto (tgt := 27) hx hb d_M_sent_18 (by decide) ?_
    exact r_iret E hr hlk hP hD hS (rfl) (()) rfl ((rd_lo h_p).symm) d_M_sent_27
  · skip
    have hl : lv_has ls 2 [(0, .ref h), (1, .int p0)] := hl
    refine lv_aload_n hx hb d_M_sent_0 rfl (lv_at hl 0 rfl) ?_
    refine lv_iconst (v := nI 0) hx hb d_M_sent_1 (by decide +kernel) ?_
    refine r_put E hP hD hS 0 fl_M_28 rfl rfl (rfl) (rfl) (ws' := [(h, .inr (4, [.int (nI 0), .int (nI st), .int (nI md), .ref xb, .int (nI mn), .ref xr, .int (nI ro), .ref xv, .int (nI sz), .ref xw, .int (nI wn), .ref xs, .int (nI sn), .ref xc])), (xs, .inl (cI, 306, .inl fs))]) rfl d_M_sent_2 (fun H locs hP hD hS => ?_)
    refine lv_iload_n hx hb d_M_sent_5 rfl (lv_at hl 1 rfl) ?_
    refine lv_if_lt (tgt := 17) hx hb d_M_sent_6 (by decide) (fun c6 => ?_) (fun c6 => ?_)
    · skip
      refine lv_iconst (v := (-1)) hx hb d_M_sent_17 (by decide +kernel) ?_
      refine lv_goto (tgt := 27) hx hb d_M_sent_18 (by decide) ?_
      exact r_iret E hr hlk hP hD hS (rfl) (()) rfl ((rd_hi h_p).symm) d_M_sent_27
    · skip
      refine lv_iload_n hx hb d_M_sent_9 rfl (lv_at hl 1 rfl) ?_
      refine lv_aload_n hx hb d_M_sent_10 rfl (lv_at hl 0 rfl) ?_
      refine r_get E hP 0 fl_M_77 rfl rfl d_M_sent_11 ?_
      refine lv_icmp_lt (tgt := 21) hx hb d_M_sent_14 (by decide) (fun c14 => absurd c14 (Int32.not_lt.mpr h_p)) (fun c14 => ?_)
      refine lv_iconst (v := (-1)) hx hb d_M_sent_17 (by decide +kernel) ?_
      refine lv_goto (tgt := 27) hx hb d_M_sent_18 (by decide) ?_
      exact r_iret E hr hlk hP hD hS (rfl) (()) rfl ((rd_hi h_p).symm) d_M_sent_27
  · skip
    have hl : lv_has ls 2 [(0, .ref h), (1, .int (nI j))] := hl
    refine lv_aload_n hx hb d_M_sent_0 rfl (lv_at hl 0 rfl) ?_
    refine lv_iconst (v := nI 0) hx hb d_M_sent_1 (by decide +kernel) ?_
    refine r_put E hP hD hS 0 fl_M_28 rfl rfl (rfl) (rfl) (ws' := [(h, .inr (4, [.int (nI 0), .int (nI st), .int (nI md), .ref xb, .int (nI mn), .ref xr, .int (nI ro), .ref xv, .int (nI sz), .ref xw, .int (nI wn), .ref xs, .int (nI sn), .ref xc])), (xs, .inl (cI, 306, .inl fs))]) rfl d_M_sent_2 (fun H locs hP hD hS => ?_)
    refine lv_iload_n hx hb d_M_sent_5 rfl (lv_at hl 1 rfl) ?_
    refine r_if_lt hx hb (by omega) (tgt := 17) d_M_sent_6 (by decide) ?_
    refine lv_iload_n hx hb d_M_sent_9 rfl (lv_at hl 1 rfl) ?_
    refine lv_aload_n hx hb d_M_sent_10 rfl (lv_at hl 0 rfl) ?_
    refine r_get E hP 0 fl_M_77 rfl rfl d_M_sent_11 ?_
    refine r_icmp_lt (tgt := 21) hx hb ⟨by omega, by omega⟩ d_M_sent_14 (by decide) (fun c14 => ?_) (fun c14 => False.elim (by omega))
    refine lv_aload_n hx hb d_M_sent_21 rfl (lv_at hl 0 rfl) ?_
    refine r_get E hP 0 fl_M_22 rfl rfl d_M_sent_22 ?_
    refine lv_iload_n hx hb d_M_sent_25 rfl (lv_at hl 1 rfl) ?_
    refine r_iald E hP 1 rfl (by omega) (by decide) d_M_sent_26 ?_
    exact r_iret E hr hlk hP hD hS (rfl) (()) rfl ((rd_in h_j (by omega)).symm) d_M_sent_27

abbrev rm_M_put : Room := { frames := 0, cells := 0, slots := 0, locals := 0 }
set_option maxHeartbeats 4000000 in
set_option maxRecDepth 100000 in
/-- put(b) -/
theorem c_M_put (l : Launch) (D : va_G) (cB cI : ClassId) (h xb xr xv xw xs xc st md mn ro sz wn sn : Nat) (th : Int32) (fw : Nat → Int32) (p0 : Int32) (h_wn : wn ≤ 259) : MI l D cB cI y_M_put b_M_put 2 (some .int) rm_M_put [.ref h, .int p0] [(h, .inr (4, [.int th, .int (nI st), .int (nI md), .ref xb, .int (nI mn), .ref xr, .int (nI ro), .ref xv, .int (nI sz), .ref xw, .int (nI wn), .ref xs, .int (nI sn), .ref xc])), (xw, .inl (cI, 259, .inl fw))] (fun (v : Int32) (u : Nat × (Nat → Int32)) => (wn = 259 → v = -1 ∧ u = (wn, fw)) ∧ (wn ≠ 259 → v = nI (wn + 1) ∧ u = (wn + 1, upd fw wn (nI (bN p0))))) (fun u => [(h, .inr (4, [.int (nI 0), .int (nI st), .int (nI md), .ref xb, .int (nI mn), .ref xr, .int (nI ro), .ref xv, .int (nI sz), .ref xw, .int (nI u.1), .ref xs, .int (nI sn), .ref xc])), (xw, .inl (cI, 259, .inl u.2))]) := by
  refine m_entryI (by decide +kernel) (Nat.le_of_ble_eq_true rfl) ?_
  intro p e s m below meth c ls A E hr hlk hnm hA hP hD hl
  have hx := E.1.1
  have hb := E.1.2.1
  have hS : va_S A s.heap s.heap [] := va_S.rf
  have hl : lv_has ls 2 [(0, .ref h), (1, .int p0)] := hl
  refine lv_aload_n hx hb d_M_put_0 rfl (lv_at hl 0 rfl) ?_
  refine lv_iconst (v := nI 0) hx hb d_M_put_1 (by decide +kernel) ?_
  refine r_put E hP hD hS 0 fl_M_28 rfl rfl (rfl) (rfl) (ws' := [(h, .inr (4, [.int (nI 0), .int (nI st), .int (nI md), .ref xb, .int (nI mn), .ref xr, .int (nI ro), .ref xv, .int (nI sz), .ref xw, .int (nI wn), .ref xs, .int (nI sn), .ref xc])), (xw, .inl (cI, 259, .inl fw))]) rfl d_M_put_2 (fun H locs hP hD hS => ?_)
  refine lv_aload_n hx hb d_M_put_5 rfl (lv_at hl 0 rfl) ?_
  refine r_get E hP 0 fl_M_74 rfl rfl d_M_put_6 ?_
  refine lv_sipush (v := nI 259) hx hb d_M_put_9 (by decide +kernel) ?_
  refine r_icmp_ne (tgt := 17) hx hb ⟨by omega, by omega⟩ d_M_put_12 (by decide) (fun c12 => ?_) (fun c12 => ?_)
  · skip
    refine lv_aload_n hx hb d_M_put_17 rfl (lv_at hl 0 rfl) ?_
    refine r_get E hP 0 fl_M_19 rfl rfl d_M_put_18 ?_
    refine lv_aload_n hx hb d_M_put_21 rfl (lv_at hl 0 rfl) ?_
    refine r_get E hP 0 fl_M_74 rfl rfl d_M_put_22 ?_
    refine lv_iload_n hx hb d_M_put_25 rfl (lv_at hl 1 rfl) ?_
    refine lv_sipush (v := nI 255) hx hb d_M_put_26 (by decide +kernel) ?_
    refine lv_iand hx hb d_M_put_29 ?_
    refine r_topi (y := nI (bN p0)) (bN_and _) ?_
    refine r_iast E hP hD hS 1 rfl (by omega) (by decide) (ws' := [(h, .inr (4, [.int (nI 0), .int (nI st), .int (nI md), .ref xb, .int (nI mn), .ref xr, .int (nI ro), .ref xv, .int (nI sz), .ref xw, .int (nI wn), .ref xs, .int (nI sn), .ref xc])), (xw, .inl (cI, 259, .inl (upd fw wn (nI (bN p0)))))]) rfl d_M_put_30 (fun H locs hP hD hS => ?_)
    refine lv_aload_n hx hb d_M_put_31 rfl (lv_at hl 0 rfl) ?_
    refine lv_dup hx hb d_M_put_32 rfl ?_
    refine r_get E hP 0 fl_M_74 rfl rfl d_M_put_33 ?_
    refine lv_iconst (v := nI 1) hx hb d_M_put_36 (by decide +kernel) ?_
    refine r_iadd hx hb d_M_put_37 ?_
    refine r_put E hP hD hS 0 fl_M_74 rfl rfl (rfl) (rfl) (ws' := [(h, .inr (4, [.int (nI 0), .int (nI st), .int (nI md), .ref xb, .int (nI mn), .ref xr, .int (nI ro), .ref xv, .int (nI sz), .ref xw, .int (nI (wn + 1)), .ref xs, .int (nI sn), .ref xc])), (xw, .inl (cI, 259, .inl (upd fw wn (nI (bN p0)))))]) rfl d_M_put_38 (fun H locs hP hD hS => ?_)
    refine lv_aload_n hx hb d_M_put_41 rfl (lv_at hl 0 rfl) ?_
    refine r_get E hP 0 fl_M_74 rfl rfl d_M_put_42 ?_
    exact r_iret E hr hlk hP hD hS (rfl) ((wn + 1, upd fw wn (nI (bN p0)))) rfl (⟨fun z => absurd z c12, fun _ => ⟨rfl, rfl⟩⟩) d_M_put_45
  · skip
    refine lv_iconst (v := (-1)) hx hb d_M_put_15 (by decide +kernel) ?_
    exact r_iret E hr hlk hP hD hS (rfl) ((wn, fw)) rfl (⟨fun _ => ⟨rfl, rfl⟩, fun z => absurd c12 z⟩) d_M_put_16

abbrev rm_M_out : Room := { frames := 0, cells := 0, slots := 0, locals := 0 }
set_option maxHeartbeats 4000000 in
set_option maxRecDepth 100000 in
/-- out(b) -/
theorem c_M_out (l : Launch) (D : va_G) (cB cI : ClassId) (h xb xr xv xw xs xc st md mn ro sz wn sn : Nat) (th : Int32) (fs : Nat → Int32) (b0 : Int32) (h_sn : sn < 306) : MV l D cB cI y_M_out b_M_out 2 none rm_M_out [.ref h, .int b0] [(h, .inr (4, [.int th, .int (nI st), .int (nI md), .ref xb, .int (nI mn), .ref xr, .int (nI ro), .ref xv, .int (nI sz), .ref xw, .int (nI wn), .ref xs, .int (nI sn), .ref xc])), (xs, .inl (cI, 306, .inl fs))] (fun (_ : Unit) => True) (fun _ => [(h, .inr (4, [.int th, .int (nI st), .int (nI md), .ref xb, .int (nI mn), .ref xr, .int (nI ro), .ref xv, .int (nI sz), .ref xw, .int (nI wn), .ref xs, .int (nI (sn + 1)), .ref xc])), (xs, .inl (cI, 306, .inl (upd fs sn b0)))]) := by
  refine m_entryV (by decide +kernel) (Nat.le_of_ble_eq_true rfl) ?_
  intro p e s m below meth c ls A E hr hlk hnm hA hP hD hl
  have hx := E.1.1
  have hb := E.1.2.1
  have hS : va_S A s.heap s.heap [] := va_S.rf
  have hl : lv_has ls 2 [(0, .ref h), (1, .int b0)] := hl
  refine lv_aload_n hx hb d_M_out_0 rfl (lv_at hl 0 rfl) ?_
  refine r_get E hP 0 fl_M_22 rfl rfl d_M_out_1 ?_
  refine lv_aload_n hx hb d_M_out_4 rfl (lv_at hl 0 rfl) ?_
  refine r_get E hP 0 fl_M_77 rfl rfl d_M_out_5 ?_
  refine lv_iload_n hx hb d_M_out_8 rfl (lv_at hl 1 rfl) ?_
  refine r_iast E hP hD hS 1 rfl (by omega) (by decide) (ws' := [(h, .inr (4, [.int th, .int (nI st), .int (nI md), .ref xb, .int (nI mn), .ref xr, .int (nI ro), .ref xv, .int (nI sz), .ref xw, .int (nI wn), .ref xs, .int (nI sn), .ref xc])), (xs, .inl (cI, 306, .inl (upd fs sn b0)))]) rfl d_M_out_9 (fun H locs hP hD hS => ?_)
  refine lv_aload_n hx hb d_M_out_10 rfl (lv_at hl 0 rfl) ?_
  refine lv_dup hx hb d_M_out_11 rfl ?_
  refine r_get E hP 0 fl_M_77 rfl rfl d_M_out_12 ?_
  refine lv_iconst (v := nI 1) hx hb d_M_out_15 (by decide +kernel) ?_
  refine r_iadd hx hb d_M_out_16 ?_
  refine r_put E hP hD hS 0 fl_M_77 rfl rfl (rfl) (rfl) (ws' := [(h, .inr (4, [.int th, .int (nI st), .int (nI md), .ref xb, .int (nI mn), .ref xr, .int (nI ro), .ref xv, .int (nI sz), .ref xw, .int (nI wn), .ref xs, .int (nI (sn + 1)), .ref xc])), (xs, .inl (cI, 306, .inl (upd fs sn b0)))]) rfl d_M_out_17 (fun H locs hP hD hS => ?_)
  exact r_vret E hr hlk hP hD hS (()) rfl (trivial) d_M_out_20

abbrev rm_M_check : Room := { frames := 0, cells := 0, slots := 0, locals := 0 }
set_option maxHeartbeats 4000000 in
set_option maxRecDepth 100000 in
theorem L_M_check_17 (l : Launch) (D : va_G) (cB cI : ClassId) (h xb xr xv xw xs xc st md mn ro sz wn sn : Nat) (th : Int32) (fw : Nat → Int32) (pp : Nat → Nat) (z : Nat) (h_p : ∀ i, pp i < 256) (h_f : ∀ i, i < 7 → fw (z + i) = nI (pp (z + i))) (h_z : z + 7 ≤ 259) (ck : Nat) (h_ck : ck < 128) {p : Program} {e : Env} {s : State} {m : MethodId} {args : Array Value} {below : List Frame} {meth : Method} {c : Code} {A : Nat → Prop} {Q : State → Prop} (E : Ev p m c b_M_check 7 s args "CodeBlocksModel" D cB cI) (hA : ∀ q : Nat, s.heap.size ≤ q → A q)
    (K : ∀ (H : Heap) (locs : List Loc) (ls : Array Slot), (True) → va_P D classes [(h, .inr (4, [.int th, .int (nI st), .int (nI md), .ref xb, .int (nI mn), .ref xr, .int (nI ro), .ref xv, .int (nI sz), .ref xw, .int (nI wn), .ref xs, .int (nI sn), .ref xc])), (xw, .inl (cI, 259, .inl fw))] H → va_D A [(h, .inr (4, [.int th, .int (nI st), .int (nI md), .ref xb, .int (nI mn), .ref xr, .int (nI ro), .ref xv, .int (nI sz), .ref xw, .int (nI wn), .ref xs, .int (nI sn), .ref xc])), (xw, .inl (cI, 259, .inl fw))] → va_S A s.heap H locs → lv_has ls 7 [(0, .ref h), (1, .int (nI z)), (2, .int (nI (fch pp z ck))), (3, .int (nI ck)), (4, .int (nI (rm7 (cb pp z ck) 63)))] → W p l e rm_M_check s m args below meth c H locs 0 0 Q (F0 m 105 ls [])) :
    ∀ (n : Nat) (k : Nat) (H : Heap) (locs : List Loc) (ls : Array Slot), (k + n = 63) → va_P D classes [(h, .inr (4, [.int th, .int (nI st), .int (nI md), .ref xb, .int (nI mn), .ref xr, .int (nI ro), .ref xv, .int (nI sz), .ref xw, .int (nI wn), .ref xs, .int (nI sn), .ref xc])), (xw, .inl (cI, 259, .inl fw))] H → va_D A [(h, .inr (4, [.int th, .int (nI st), .int (nI md), .ref xb, .int (nI mn), .ref xr, .int (nI ro), .ref xv, .int (nI sz), .ref xw, .int (nI wn), .ref xs, .int (nI sn), .ref xc])), (xw, .inl (cI, 259, .inl fw))] → va_S A s.heap H locs → lv_has ls 7 [(0, .ref h), (1, .int (nI z)), (2, .int (nI (fch pp z ck))), (3, .int (nI ck)), (4, .int (nI (rm7 (cb pp z ck) k))), (5, .int (nI k))] → W p l e rm_M_check s m args below meth c H locs 0 0 Q (F0 m 17 ls []) := by
  have hx := E.1.1
  have hb := E.1.2.1
  intro n
  induction n with
  | zero =>
    intro k H locs ls hi hP hD hS hl
    obtain rfl : k = 63 := by omega
    have hl : lv_has ls 7 [(0, .ref h), (1, .int (nI z)), (2, .int (nI (fch pp z ck))), (3, .int (nI ck)), (4, .int (nI (rm7 (cb pp z ck) 63))), (5, .int (nI 63))] := hl
    refine lv_iload hx hb d_M_check_17 (lv_at hl 5 rfl) ?_
    refine lv_bipush (v := nI 63) hx hb d_M_check_19 (by decide +kernel) ?_
    refine r_icmp_ge (tgt := 105) hx hb ⟨by omega, by omega⟩ d_M_check_21 (by decide) (fun c21 => ?_) (fun c21 => False.elim (by omega))
    exact K  H locs ls (trivial) hP hD hS (lv_sub hl [0, 1, 2, 3, 4] rfl)
  | succ n ih =>
    intro k H locs ls hi hP hD hS hl
    have hrm := cb_rm pp z ck k
    have hcb := cb_lt pp z ck k
    refine lv_iload hx hb d_M_check_17 (lv_at hl 5 rfl) ?_
    refine lv_bipush (v := nI 63) hx hb d_M_check_19 (by decide +kernel) ?_
    refine r_icmp_ge (tgt := 105) hx hb ⟨by omega, by omega⟩ d_M_check_21 (by decide) (fun c21 => False.elim (by omega)) (fun c21 => ?_)
    refine lv_iload hx hb d_M_check_24 (lv_at hl 5 rfl) ?_
    refine lv_bipush (v := nI 56) hx hb d_M_check_26 (by decide +kernel) ?_
    refine r_merge (rest := []) (ls := ls) 68 (fun v => v = nI (cb pp z ck k)) (fun v hv => ?_) (fun J => ?_)
    · subst hv
      refine lv_istore (lv' := [(6, .int (nI (cb pp z ck k))), (0, .ref h), (1, .int (nI z)), (2, .int (nI (fch pp z ck))), (3, .int (nI ck)), (4, .int (nI (rm7 (cb pp z ck) k))), (5, .int (nI k))]) hx hb d_M_check_68 hl (by decide) rfl (fun ls hl => ?_)
      refine lv_iconst (v := nI 2) hx hb d_M_check_70 (by decide +kernel) ?_
      refine lv_iload hx hb d_M_check_71 (lv_at hl 5 rfl) ?_
      refine r_imul hx hb d_M_check_73 ?_
      refine lv_iload hx hb d_M_check_74 (lv_at hl 0 rfl) ?_
      refine r_iadd hx hb d_M_check_76 ?_
      refine lv_istore (lv' := [(4, .int (nI ((2 * (rm7 (cb pp z ck) k)) + (cb pp z ck k)))), (6, .int (nI (cb pp z ck k))), (0, .ref h), (1, .int (nI z)), (2, .int (nI (fch pp z ck))), (3, .int (nI ck)), (5, .int (nI k))]) hx hb d_M_check_77 hl (by decide) rfl (fun ls hl => ?_)
      refine lv_iload hx hb d_M_check_79 (lv_at hl 0 rfl) ?_
      refine lv_bipush (v := nI 127) hx hb d_M_check_81 (by decide +kernel) ?_
      refine r_merge (rest := []) (ls := ls) 97 (fun v => v = nI (rm7 (cb pp z ck) (k + 1))) (fun v hv => ?_) (fun J => ?_)
      · subst hv
        refine lv_istore (lv' := [(4, .int (nI (rm7 (cb pp z ck) (k + 1)))), (6, .int (nI (cb pp z ck k))), (0, .ref h), (1, .int (nI z)), (2, .int (nI (fch pp z ck))), (3, .int (nI ck)), (5, .int (nI k))]) hx hb d_M_check_97 hl (by decide) rfl (fun ls hl => ?_)
        refine lv_iinc (v := nI (k + 1)) (lv' := [(5, .int (nI (k + 1))), (4, .int (nI (rm7 (cb pp z ck) (k + 1)))), (6, .int (nI (cb pp z ck k))), (0, .ref h), (1, .int (nI z)), (2, .int (nI (fch pp z ck))), (3, .int (nI ck))]) hx hb d_M_check_99 hl (k := 6) rfl (nI_add _ _) (by decide) rfl (fun ls hl => ?_)
        refine lv_goto (tgt := 17) hx hb d_M_check_102 (by decide) ?_
        exact ih (k + 1) H locs ls (by omega) hP hD hS (lv_sub hl [3, 4, 5, 6, 1, 0] rfl)
      · skip
        refine r_icmp_le (tgt := 95) hx hb ⟨by omega, by omega⟩ d_M_check_83 (by decide) (fun c83 => ?_) (fun c83 => ?_)
        · skip
          refine lv_iload hx hb d_M_check_95 (lv_at hl 0 rfl) ?_
          exact J _ (by rw [rm7, st7, if_pos (by omega)])
        · skip
          refine lv_iload hx hb d_M_check_86 (lv_at hl 0 rfl) ?_
          refine lv_sipush (v := nI 197) hx hb d_M_check_88 (by decide +kernel) ?_
          refine lv_ixor hx hb d_M_check_91 ?_
          refine r_topi (y := nI (((2 * rm7 (cb pp z ck) k) + cb pp z ck k) ^^^ 197)) (nx_xor _ _) ?_
          refine lv_goto (tgt := 97) hx hb d_M_check_92 (by decide) ?_
          exact J _ (by rw [rm7, st7, if_neg (by omega)])
    · skip
      refine r_icmp_ge (tgt := 57) hx hb ⟨by omega, by omega⟩ d_M_check_28 (by decide) (fun c28 => ?_) (fun c28 => ?_)
      · skip
        refine lv_iconst (v := nI 1) hx hb d_M_check_57 (by decide +kernel) ?_
        refine lv_iload_n hx hb d_M_check_58 rfl (lv_at hl 3 rfl) ?_
        refine lv_bipush (v := nI 62) hx hb d_M_check_59 (by decide +kernel) ?_
        refine lv_iload hx hb d_M_check_61 (lv_at hl 5 rfl) ?_
        refine r_isub hx hb (by omega) d_M_check_63 ?_
        refine lv_ishr hx hb d_M_check_64 ?_
        refine r_topi (y := nI (ck / 2 ^ (62 - k))) (sh_i (by omega) (by omega)) ?_
        refine lv_iconst (v := nI 1) hx hb d_M_check_65 (by decide +kernel) ?_
        refine lv_iand hx hb d_M_check_66 ?_
        refine r_topi (y := nI (ck / 2 ^ (62 - k) % 2)) (bit_n _) ?_
        refine r_isub hx hb (by omega) d_M_check_67 ?_
        exact J _ (by rw [cb, if_neg (by omega)])
      · skip
        refine lv_aload_n hx hb d_M_check_31 rfl (lv_at hl 0 rfl) ?_
        refine r_get E hP 0 fl_M_19 rfl rfl d_M_check_32 ?_
        refine lv_iload_n hx hb d_M_check_35 rfl (lv_at hl 1 rfl) ?_
        refine lv_iload hx hb d_M_check_36 (lv_at hl 5 rfl) ?_
        refine lv_bipush (v := nI 8) hx hb d_M_check_38 (by decide +kernel) ?_
        refine r_idiv hx hb (by omega) d_M_check_40 ?_
        refine r_iadd hx hb d_M_check_41 ?_
        refine r_iald E hP 1 rfl (by omega) (by decide) d_M_check_42 ?_
        refine r_topi (y := nI (pp (z + (k / 8)))) (h_f (k / 8) (by omega)) ?_
        refine lv_bipush (v := nI 7) hx hb d_M_check_43 (by decide +kernel) ?_
        refine lv_iload hx hb d_M_check_45 (lv_at hl 5 rfl) ?_
        refine lv_bipush (v := nI 8) hx hb d_M_check_47 (by decide +kernel) ?_
        refine r_irem hx hb (by omega) d_M_check_49 ?_
        refine r_isub hx hb (by omega) d_M_check_50 ?_
        refine lv_ishr hx hb d_M_check_51 ?_
        refine r_topi (y := nI (pp (z + (k / 8)) / 2 ^ (7 - (k % 8)))) (sh_i (Nat.lt_trans (h_p _) (by decide)) (by omega)) ?_
        refine lv_iconst (v := nI 1) hx hb d_M_check_52 (by decide +kernel) ?_
        refine lv_iand hx hb d_M_check_53 ?_
        refine r_topi (y := nI (pp (z + (k / 8)) / 2 ^ (7 - (k % 8)) % 2)) (bit_n _) ?_
        refine lv_goto (tgt := 68) hx hb d_M_check_54 (by decide) ?_
        exact J _ (by rw [cb, if_pos c28])

set_option maxHeartbeats 4000000 in
set_option maxRecDepth 100000 in
theorem L_M_check_4 (l : Launch) (D : va_G) (cB cI : ClassId) (h xb xr xv xw xs xc st md mn ro sz wn sn : Nat) (th : Int32) (fw : Nat → Int32) (pp : Nat → Nat) (z : Nat) (h_p : ∀ i, pp i < 256) (h_f : ∀ i, i < 7 → fw (z + i) = nI (pp (z + i))) (h_z : z + 7 ≤ 259) {p : Program} {e : Env} {s : State} {m : MethodId} {args : Array Value} {below : List Frame} {meth : Method} {c : Code} {A : Nat → Prop} {Q : State → Prop} (E : Ev p m c b_M_check 7 s args "CodeBlocksModel" D cB cI) (hA : ∀ q : Nat, s.heap.size ≤ q → A q)
    (K : ∀ (H : Heap) (locs : List Loc) (ls : Array Slot), (True) → va_P D classes [(h, .inr (4, [.int th, .int (nI st), .int (nI md), .ref xb, .int (nI mn), .ref xr, .int (nI ro), .ref xv, .int (nI sz), .ref xw, .int (nI wn), .ref xs, .int (nI sn), .ref xc])), (xw, .inl (cI, 259, .inl fw))] H → va_D A [(h, .inr (4, [.int th, .int (nI st), .int (nI md), .ref xb, .int (nI mn), .ref xr, .int (nI ro), .ref xv, .int (nI sz), .ref xw, .int (nI wn), .ref xs, .int (nI sn), .ref xc])), (xw, .inl (cI, 259, .inl fw))] → va_S A s.heap H locs → lv_has ls 7 [(0, .ref h), (1, .int (nI z)), (2, .int (nI (fch pp z 128)))] → W p l e rm_M_check s m args below meth c H locs 0 0 Q (F0 m 124 ls [])) :
    ∀ (n : Nat) (ck : Nat) (H : Heap) (locs : List Loc) (ls : Array Slot), (ck + n = 128) → va_P D classes [(h, .inr (4, [.int th, .int (nI st), .int (nI md), .ref xb, .int (nI mn), .ref xr, .int (nI ro), .ref xv, .int (nI sz), .ref xw, .int (nI wn), .ref xs, .int (nI sn), .ref xc])), (xw, .inl (cI, 259, .inl fw))] H → va_D A [(h, .inr (4, [.int th, .int (nI st), .int (nI md), .ref xb, .int (nI mn), .ref xr, .int (nI ro), .ref xv, .int (nI sz), .ref xw, .int (nI wn), .ref xs, .int (nI sn), .ref xc])), (xw, .inl (cI, 259, .inl fw))] → va_S A s.heap H locs → lv_has ls 7 [(0, .ref h), (1, .int (nI z)), (2, .int (nI (fch pp z ck))), (3, .int (nI ck))] → W p l e rm_M_check s m args below meth c H locs 0 0 Q (F0 m 4 ls []) := by
  have hx := E.1.1
  have hb := E.1.2.1
  intro n
  induction n with
  | zero =>
    intro ck H locs ls hi hP hD hS hl
    obtain rfl : ck = 128 := by omega
    have hl : lv_has ls 7 [(0, .ref h), (1, .int (nI z)), (2, .int (nI (fch pp z 128))), (3, .int (nI 128))] := hl
    refine lv_iload_n hx hb d_M_check_4 rfl (lv_at hl 3 rfl) ?_
    refine lv_sipush (v := nI 128) hx hb d_M_check_5 (by decide +kernel) ?_
    refine r_icmp_ge (tgt := 124) hx hb ⟨by omega, by omega⟩ d_M_check_8 (by decide) (fun c8 => ?_) (fun c8 => False.elim (by omega))
    exact K  H locs ls (trivial) hP hD hS (lv_sub hl [0, 1, 2] rfl)
  | succ n ih =>
    intro ck H locs ls hi hP hD hS hl
    refine lv_iload_n hx hb d_M_check_4 rfl (lv_at hl 3 rfl) ?_
    refine lv_sipush (v := nI 128) hx hb d_M_check_5 (by decide +kernel) ?_
    refine r_icmp_ge (tgt := 124) hx hb ⟨by omega, by omega⟩ d_M_check_8 (by decide) (fun c8 => False.elim (by omega)) (fun c8 => ?_)
    refine lv_iconst (v := nI 0) hx hb d_M_check_11 (by decide +kernel) ?_
    refine lv_istore (lv' := [(4, .int (nI 0)), (0, .ref h), (1, .int (nI z)), (2, .int (nI (fch pp z ck))), (3, .int (nI ck))]) hx hb d_M_check_12 hl (by decide) rfl (fun ls hl => ?_)
    refine lv_iconst (v := nI 0) hx hb d_M_check_14 (by decide +kernel) ?_
    refine lv_istore (lv' := [(5, .int (nI 0)), (4, .int (nI 0)), (0, .ref h), (1, .int (nI z)), (2, .int (nI (fch pp z ck))), (3, .int (nI ck))]) hx hb d_M_check_15 hl (by decide) rfl (fun ls hl => ?_)
    refine L_M_check_17 l D cB cI h xb xr xv xw xs xc st md mn ro sz wn sn th fw pp z h_p h_f h_z ck c8 E hA (fun H locs ls _ hP hD hS hl => ?_) 63 0 _ _ ls (by omega) hP hD hS (lv_sub hl [2, 3, 4, 5, 1, 0] rfl)
    refine lv_iload hx hb d_M_check_105 (lv_at hl 4 rfl) ?_
    refine r_merge (rest := []) (ls := ls) 117 (fun v => v = nI (fch pp z (ck + 1))) (fun v hv => ?_) (fun J => ?_)
    · subst hv
      refine lv_istore_n (lv' := [(2, .int (nI (fch pp z (ck + 1)))), (0, .ref h), (1, .int (nI z)), (3, .int (nI ck)), (4, .int (nI (rm7 (cb pp z ck) 63)))]) hx hb d_M_check_117 rfl hl (by decide) rfl (fun ls hl => ?_)
      refine lv_iinc (v := nI (ck + 1)) (lv' := [(3, .int (nI (ck + 1))), (2, .int (nI (fch pp z (ck + 1)))), (0, .ref h), (1, .int (nI z)), (4, .int (nI (rm7 (cb pp z ck) 63)))]) hx hb d_M_check_118 hl (k := 3) rfl (nI_add _ _) (by decide) rfl (fun ls hl => ?_)
      refine lv_goto (tgt := 4) hx hb d_M_check_121 (by decide) ?_
      exact ih (ck + 1) H locs ls (by omega) hP hD hS (lv_sub hl [2, 3, 1, 0] rfl)
    · skip
      refine r_if_ne (tgt := 116) hx hb (Nat.lt_trans (cb_rm pp z ck 63) (by decide)) d_M_check_107 (by decide) (fun c107 => ?_) (fun c107 => ?_)
      · skip
        refine lv_iload_n hx hb d_M_check_116 rfl (lv_at hl 2 rfl) ?_
        exact J _ (by rw [fch, if_neg c107])
      · skip
        refine lv_iconst (v := nI 2) hx hb d_M_check_110 (by decide +kernel) ?_
        refine lv_iload_n hx hb d_M_check_111 rfl (lv_at hl 3 rfl) ?_
        refine r_imul hx hb d_M_check_112 ?_
        refine lv_goto (tgt := 117) hx hb d_M_check_113 (by decide) ?_
        exact J _ (by rw [fch, if_pos c107])

set_option maxHeartbeats 4000000 in
set_option maxRecDepth 100000 in
/-- check(from) -/
theorem c_M_check (l : Launch) (D : va_G) (cB cI : ClassId) (h xb xr xv xw xs xc st md mn ro sz wn sn : Nat) (th : Int32) (fw : Nat → Int32) (pp : Nat → Nat) (z : Nat) (h_p : ∀ i, pp i < 256) (h_f : ∀ i, i < 7 → fw (z + i) = nI (pp (z + i))) (h_z : z + 7 ≤ 259) : MI l D cB cI y_M_check b_M_check 7 (some .int) rm_M_check [.ref h, .int (nI z)] [(h, .inr (4, [.int th, .int (nI st), .int (nI md), .ref xb, .int (nI mn), .ref xr, .int (nI ro), .ref xv, .int (nI sz), .ref xw, .int (nI wn), .ref xs, .int (nI sn), .ref xc])), (xw, .inl (cI, 259, .inl fw))] (fun (v : Int32) (_ : Unit) => v = nI (fch pp z 128)) (fun _ => [(h, .inr (4, [.int th, .int (nI st), .int (nI md), .ref xb, .int (nI mn), .ref xr, .int (nI ro), .ref xv, .int (nI sz), .ref xw, .int (nI wn), .ref xs, .int (nI sn), .ref xc])), (xw, .inl (cI, 259, .inl fw))]) := by
  refine m_entryI (by decide +kernel) (Nat.le_of_ble_eq_true rfl) ?_
  intro p e s m below meth c ls A E hr hlk hnm hA hP hD hl
  have hx := E.1.1
  have hb := E.1.2.1
  have hS : va_S A s.heap s.heap [] := va_S.rf
  have hl : lv_has ls 7 [(0, .ref h), (1, .int (nI z))] := hl
  refine lv_iconst (v := nI 0) hx hb d_M_check_0 (by decide +kernel) ?_
  refine lv_istore_n (lv' := [(2, .int (nI 0)), (0, .ref h), (1, .int (nI z))]) hx hb d_M_check_1 rfl hl (by decide) rfl (fun ls hl => ?_)
  refine lv_iconst (v := nI 0) hx hb d_M_check_2 (by decide +kernel) ?_
  refine lv_istore_n (lv' := [(3, .int (nI 0)), (2, .int (nI 0)), (0, .ref h), (1, .int (nI z))]) hx hb d_M_check_3 rfl hl (by decide) rfl (fun ls hl => ?_)
  refine L_M_check_4 l D cB cI h xb xr xv xw xs xc st md mn ro sz wn sn th fw pp z h_p h_f h_z E hA (fun H locs ls _ hP hD hS hl => ?_) 128 0 _ _ ls (by omega) hP hD hS (lv_sub hl [2, 3, 1, 0] rfl)
  refine lv_iload_n hx hb d_M_check_124 rfl (lv_at hl 2 rfl) ?_
  exact r_iret E hr hlk hP hD hS (rfl) (()) rfl (rfl) d_M_check_125

abbrev rm_M_init : Room := { frames := 1, cells := 6, slots := 1152, locals := 12 }
set_option maxHeartbeats 4000000 in
set_option maxRecDepth 100000 in
/-- CodeBlocksModel() -/
theorem c_M_init (l : Launch) (D : va_G) (cB cI : ClassId) (h : Nat) : MV l D cB cI y_M_init b_M_init 1 none rm_M_init [.ref h] [(h, .inr (4, [.int (nI 0), .int (nI 0), .int (nI 0), .null, .int (nI 0), .null, .int (nI 0), .null, .int (nI 0), .null, .int (nI 0), .null, .int (nI 0), .null]))] (fun (_ : Nat × Nat × Nat × Nat × Nat × Nat) => True) (fun (xb, xr, xv, xw, xs, xc) => [(h, .inr (4, [.int (nI 0), .int (nI 0), .int (nI 0), .ref xb, .int (nI 0), .ref xr, .int (nI 0), .ref xv, .int (nI 0), .ref xw, .int (nI 0), .ref xs, .int (nI 0), .ref xc])), (xb, .inl (cI, 64, .inl (fun _ => 0))), (xr, .inl (cI, 259, .inl (fun _ => 0))), (xv, .inl (cI, 259, .inl (fun _ => 0))), (xw, .inl (cI, 259, .inl (fun _ => 0))), (xs, .inl (cI, 306, .inl (fun _ => 0))), (xc, .inl (cI, 5, .inl (fun _ => 0)))]) := by
  refine m_entryV (by decide +kernel) (Nat.le_of_ble_eq_true rfl) ?_
  intro p e s m below meth c ls A E hr hlk hnm hA hP hD hl
  have hx := E.1.1
  have hb := E.1.2.1
  have hS : va_S A s.heap s.heap [] := va_S.rf
  have hl : lv_has ls 1 [(0, .ref h)] := hl
  refine lv_aload_n hx hb d_M_init_0 rfl (lv_at hl 0 rfl) ?_
  refine r_objInit E k_206 hl.1 d_M_init_1 (by decide) (Nat.le_of_ble_eq_true rfl) ?_
  refine lv_aload_n hx hb d_M_init_4 rfl (lv_at hl 0 rfl) ?_
  refine lv_bipush (v := nI 64) hx hb d_M_init_5 (by decide +kernel) ?_
  refine r_newI E hP hD hS hA (by decide) (by decide) (by decide) d_M_init_7 (fun xb H hP hD hS => ?_)
  have hP : va_P D classes [(h, .inr (4, [.int (nI 0), .int (nI 0), .int (nI 0), .null, .int (nI 0), .null, .int (nI 0), .null, .int (nI 0), .null, .int (nI 0), .null, .int (nI 0), .null])), (xb, .inl (cI, 64, .inl (fun _ => 0)))] H := hP
  have hD : va_D A [(h, .inr (4, [.int (nI 0), .int (nI 0), .int (nI 0), .null, .int (nI 0), .null, .int (nI 0), .null, .int (nI 0), .null, .int (nI 0), .null, .int (nI 0), .null])), (xb, .inl (cI, 64, .inl (fun _ => 0)))] := hD
  refine W.widen (k := 1) (n := 64) (Nat.le_of_ble_eq_true rfl) (Nat.le_of_ble_eq_true rfl) ?_
  refine r_putF E hP hD hS 0 fl_M_7 hnm rfl rfl (rfl) (rfl) (ws' := [(h, .inr (4, [.int (nI 0), .int (nI 0), .int (nI 0), .ref xb, .int (nI 0), .null, .int (nI 0), .null, .int (nI 0), .null, .int (nI 0), .null, .int (nI 0), .null])), (xb, .inl (cI, 64, .inl (fun _ => 0)))]) rfl d_M_init_9 (fun H locs hP hD hS => ?_)
  refine lv_aload_n hx hb d_M_init_12 rfl (lv_at hl 0 rfl) ?_
  refine lv_sipush (v := nI 259) hx hb d_M_init_13 (by decide +kernel) ?_
  refine r_newI E hP hD hS hA (by decide) (by decide) (by decide) d_M_init_16 (fun xr H hP hD hS => ?_)
  have hP : va_P D classes [(h, .inr (4, [.int (nI 0), .int (nI 0), .int (nI 0), .ref xb, .int (nI 0), .null, .int (nI 0), .null, .int (nI 0), .null, .int (nI 0), .null, .int (nI 0), .null])), (xb, .inl (cI, 64, .inl (fun _ => 0))), (xr, .inl (cI, 259, .inl (fun _ => 0)))] H := hP
  have hD : va_D A [(h, .inr (4, [.int (nI 0), .int (nI 0), .int (nI 0), .ref xb, .int (nI 0), .null, .int (nI 0), .null, .int (nI 0), .null, .int (nI 0), .null, .int (nI 0), .null])), (xb, .inl (cI, 64, .inl (fun _ => 0))), (xr, .inl (cI, 259, .inl (fun _ => 0)))] := hD
  refine W.widen (k := 2) (n := 323) (Nat.le_of_ble_eq_true rfl) (Nat.le_of_ble_eq_true rfl) ?_
  refine r_putF E hP hD hS 0 fl_M_13 hnm rfl rfl (rfl) (rfl) (ws' := [(h, .inr (4, [.int (nI 0), .int (nI 0), .int (nI 0), .ref xb, .int (nI 0), .ref xr, .int (nI 0), .null, .int (nI 0), .null, .int (nI 0), .null, .int (nI 0), .null])), (xb, .inl (cI, 64, .inl (fun _ => 0))), (xr, .inl (cI, 259, .inl (fun _ => 0)))]) rfl d_M_init_18 (fun H locs hP hD hS => ?_)
  refine lv_aload_n hx hb d_M_init_21 rfl (lv_at hl 0 rfl) ?_
  refine lv_sipush (v := nI 259) hx hb d_M_init_22 (by decide +kernel) ?_
  refine r_newI E hP hD hS hA (by decide) (by decide) (by decide) d_M_init_25 (fun xv H hP hD hS => ?_)
  have hP : va_P D classes [(h, .inr (4, [.int (nI 0), .int (nI 0), .int (nI 0), .ref xb, .int (nI 0), .ref xr, .int (nI 0), .null, .int (nI 0), .null, .int (nI 0), .null, .int (nI 0), .null])), (xb, .inl (cI, 64, .inl (fun _ => 0))), (xr, .inl (cI, 259, .inl (fun _ => 0))), (xv, .inl (cI, 259, .inl (fun _ => 0)))] H := hP
  have hD : va_D A [(h, .inr (4, [.int (nI 0), .int (nI 0), .int (nI 0), .ref xb, .int (nI 0), .ref xr, .int (nI 0), .null, .int (nI 0), .null, .int (nI 0), .null, .int (nI 0), .null])), (xb, .inl (cI, 64, .inl (fun _ => 0))), (xr, .inl (cI, 259, .inl (fun _ => 0))), (xv, .inl (cI, 259, .inl (fun _ => 0)))] := hD
  refine W.widen (k := 3) (n := 582) (Nat.le_of_ble_eq_true rfl) (Nat.le_of_ble_eq_true rfl) ?_
  refine r_putF E hP hD hS 0 fl_M_16 hnm rfl rfl (rfl) (rfl) (ws' := [(h, .inr (4, [.int (nI 0), .int (nI 0), .int (nI 0), .ref xb, .int (nI 0), .ref xr, .int (nI 0), .ref xv, .int (nI 0), .null, .int (nI 0), .null, .int (nI 0), .null])), (xb, .inl (cI, 64, .inl (fun _ => 0))), (xr, .inl (cI, 259, .inl (fun _ => 0))), (xv, .inl (cI, 259, .inl (fun _ => 0)))]) rfl d_M_init_27 (fun H locs hP hD hS => ?_)
  refine lv_aload_n hx hb d_M_init_30 rfl (lv_at hl 0 rfl) ?_
  refine lv_sipush (v := nI 259) hx hb d_M_init_31 (by decide +kernel) ?_
  refine r_newI E hP hD hS hA (by decide) (by decide) (by decide) d_M_init_34 (fun xw H hP hD hS => ?_)
  have hP : va_P D classes [(h, .inr (4, [.int (nI 0), .int (nI 0), .int (nI 0), .ref xb, .int (nI 0), .ref xr, .int (nI 0), .ref xv, .int (nI 0), .null, .int (nI 0), .null, .int (nI 0), .null])), (xb, .inl (cI, 64, .inl (fun _ => 0))), (xr, .inl (cI, 259, .inl (fun _ => 0))), (xv, .inl (cI, 259, .inl (fun _ => 0))), (xw, .inl (cI, 259, .inl (fun _ => 0)))] H := hP
  have hD : va_D A [(h, .inr (4, [.int (nI 0), .int (nI 0), .int (nI 0), .ref xb, .int (nI 0), .ref xr, .int (nI 0), .ref xv, .int (nI 0), .null, .int (nI 0), .null, .int (nI 0), .null])), (xb, .inl (cI, 64, .inl (fun _ => 0))), (xr, .inl (cI, 259, .inl (fun _ => 0))), (xv, .inl (cI, 259, .inl (fun _ => 0))), (xw, .inl (cI, 259, .inl (fun _ => 0)))] := hD
  refine W.widen (k := 4) (n := 841) (Nat.le_of_ble_eq_true rfl) (Nat.le_of_ble_eq_true rfl) ?_
  refine r_putF E hP hD hS 0 fl_M_19 hnm rfl rfl (rfl) (rfl) (ws' := [(h, .inr (4, [.int (nI 0), .int (nI 0), .int (nI 0), .ref xb, .int (nI 0), .ref xr, .int (nI 0), .ref xv, .int (nI 0), .ref xw, .int (nI 0), .null, .int (nI 0), .null])), (xb, .inl (cI, 64, .inl (fun _ => 0))), (xr, .inl (cI, 259, .inl (fun _ => 0))), (xv, .inl (cI, 259, .inl (fun _ => 0))), (xw, .inl (cI, 259, .inl (fun _ => 0)))]) rfl d_M_init_36 (fun H locs hP hD hS => ?_)
  refine lv_aload_n hx hb d_M_init_39 rfl (lv_at hl 0 rfl) ?_
  refine lv_sipush (v := nI 306) hx hb d_M_init_40 (by decide +kernel) ?_
  refine r_newI E hP hD hS hA (by decide) (by decide) (by decide) d_M_init_43 (fun xs H hP hD hS => ?_)
  have hP : va_P D classes [(h, .inr (4, [.int (nI 0), .int (nI 0), .int (nI 0), .ref xb, .int (nI 0), .ref xr, .int (nI 0), .ref xv, .int (nI 0), .ref xw, .int (nI 0), .null, .int (nI 0), .null])), (xb, .inl (cI, 64, .inl (fun _ => 0))), (xr, .inl (cI, 259, .inl (fun _ => 0))), (xv, .inl (cI, 259, .inl (fun _ => 0))), (xw, .inl (cI, 259, .inl (fun _ => 0))), (xs, .inl (cI, 306, .inl (fun _ => 0)))] H := hP
  have hD : va_D A [(h, .inr (4, [.int (nI 0), .int (nI 0), .int (nI 0), .ref xb, .int (nI 0), .ref xr, .int (nI 0), .ref xv, .int (nI 0), .ref xw, .int (nI 0), .null, .int (nI 0), .null])), (xb, .inl (cI, 64, .inl (fun _ => 0))), (xr, .inl (cI, 259, .inl (fun _ => 0))), (xv, .inl (cI, 259, .inl (fun _ => 0))), (xw, .inl (cI, 259, .inl (fun _ => 0))), (xs, .inl (cI, 306, .inl (fun _ => 0)))] := hD
  refine W.widen (k := 5) (n := 1147) (Nat.le_of_ble_eq_true rfl) (Nat.le_of_ble_eq_true rfl) ?_
  refine r_putF E hP hD hS 0 fl_M_22 hnm rfl rfl (rfl) (rfl) (ws' := [(h, .inr (4, [.int (nI 0), .int (nI 0), .int (nI 0), .ref xb, .int (nI 0), .ref xr, .int (nI 0), .ref xv, .int (nI 0), .ref xw, .int (nI 0), .ref xs, .int (nI 0), .null])), (xb, .inl (cI, 64, .inl (fun _ => 0))), (xr, .inl (cI, 259, .inl (fun _ => 0))), (xv, .inl (cI, 259, .inl (fun _ => 0))), (xw, .inl (cI, 259, .inl (fun _ => 0))), (xs, .inl (cI, 306, .inl (fun _ => 0)))]) rfl d_M_init_45 (fun H locs hP hD hS => ?_)
  refine lv_aload_n hx hb d_M_init_48 rfl (lv_at hl 0 rfl) ?_
  refine lv_iconst (v := nI 5) hx hb d_M_init_49 (by decide +kernel) ?_
  refine r_newI E hP hD hS hA (by decide) (by decide) (by decide) d_M_init_50 (fun xc H hP hD hS => ?_)
  have hP : va_P D classes [(h, .inr (4, [.int (nI 0), .int (nI 0), .int (nI 0), .ref xb, .int (nI 0), .ref xr, .int (nI 0), .ref xv, .int (nI 0), .ref xw, .int (nI 0), .ref xs, .int (nI 0), .null])), (xb, .inl (cI, 64, .inl (fun _ => 0))), (xr, .inl (cI, 259, .inl (fun _ => 0))), (xv, .inl (cI, 259, .inl (fun _ => 0))), (xw, .inl (cI, 259, .inl (fun _ => 0))), (xs, .inl (cI, 306, .inl (fun _ => 0))), (xc, .inl (cI, 5, .inl (fun _ => 0)))] H := hP
  have hD : va_D A [(h, .inr (4, [.int (nI 0), .int (nI 0), .int (nI 0), .ref xb, .int (nI 0), .ref xr, .int (nI 0), .ref xv, .int (nI 0), .ref xw, .int (nI 0), .ref xs, .int (nI 0), .null])), (xb, .inl (cI, 64, .inl (fun _ => 0))), (xr, .inl (cI, 259, .inl (fun _ => 0))), (xv, .inl (cI, 259, .inl (fun _ => 0))), (xw, .inl (cI, 259, .inl (fun _ => 0))), (xs, .inl (cI, 306, .inl (fun _ => 0))), (xc, .inl (cI, 5, .inl (fun _ => 0)))] := hD
  refine W.widen (k := 6) (n := 1152) (Nat.le_of_ble_eq_true rfl) (Nat.le_of_ble_eq_true rfl) ?_
  refine r_putF E hP hD hS 0 fl_M_25 hnm rfl rfl (rfl) (rfl) (ws' := [(h, .inr (4, [.int (nI 0), .int (nI 0), .int (nI 0), .ref xb, .int (nI 0), .ref xr, .int (nI 0), .ref xv, .int (nI 0), .ref xw, .int (nI 0), .ref xs, .int (nI 0), .ref xc])), (xb, .inl (cI, 64, .inl (fun _ => 0))), (xr, .inl (cI, 259, .inl (fun _ => 0))), (xv, .inl (cI, 259, .inl (fun _ => 0))), (xw, .inl (cI, 259, .inl (fun _ => 0))), (xs, .inl (cI, 306, .inl (fun _ => 0))), (xc, .inl (cI, 5, .inl (fun _ => 0)))]) rfl d_M_init_52 (fun H locs hP hD hS => ?_)
  exact r_vret E hr hlk hP hD hS ((xb, xr, xv, xw, xs, xc)) rfl (trivial) d_M_init_55
end
section
/-! finite tables, by evaluation -/
theorem st7_xor : ∀ r, r < 128 → ∀ q, q < 128 → ∀ b, b < 2 → ∀ d, d < 2 → st7 (r ^^^ q) (b ^^^ d) = st7 r b ^^^ st7 q d := by decide +kernel
theorem rm7_e : ∀ t, t < 63 → rm7 (fun j => if j = t then 1 else 0) 63 = pw7 (62 - t) := by decide +kernel
def fnS (s : Nat) : Nat → Int32
  | 0 => -2
  | k + 1 => if s = pw7 (62 - k) then nI k else fnS s k
theorem tab : ∀ s, s < 128 → s ≠ 0 → (wt7 63 s = -2 ∧ fnS s 63 = -2) ∨ ((wt7 63 s).toNatClampNeg < 63 ∧ wt7 63 s = nI (wt7 63 s).toNatClampNeg ∧ fnS s 63 = nI (62 - (wt7 63 s).toNatClampNeg)) := by decide +kernel
theorem tab0 : wt7 63 0 = -1 := by decide +kernel
/-- the ones of sixteen bits, from the highest on -/
def pc16 (x : Nat) : Nat → Nat
  | 0 => 0
  | k + 1 => pc16 x k + x / 2 ^ (15 - k) % 2
end
section
/-! the two ways to look at a block agree -/
theorem xbit (a b i : Nat) : (a ^^^ b) / 2 ^ i % 2 = (a / 2 ^ i % 2) ^^^ (b / 2 ^ i % 2) := by
  rw [Nat.xor_div_two_pow]
  exact Nat.xor_mod_two_pow (n := 1)
theorem rm7_xor {f g : Nat → Nat} : ∀ n, (∀ j, j < n → f j < 2) → (∀ j, j < n → g j < 2) → rm7 (fun j => f j ^^^ g j) n = rm7 f n ^^^ rm7 g n
  | 0, _, _ => (Nat.xor_self 0).symm
  | n + 1, hf, hg => by
    rw [rm7, rm7, rm7, rm7_xor n (fun j hj => hf j (by omega)) (fun j hj => hg j (by omega))]
    exact st7_xor _ (rm7_lt n (fun j hj => hf j (by omega))) _ (rm7_lt n (fun j hj => hg j (by omega))) _ (hf n (by omega)) _ (hg n (by omega))
/-- the bits of 64, the highest first -/
def b64 (V j : Nat) : Nat := V / 2 ^ (63 - j) % 2
theorem b64_lt (V j : Nat) : b64 V j < 2 := Nat.mod_lt _ (by decide)
theorem c127 : ∀ j, j < 63 → 127 / 2 ^ (62 - j) % 2 = if j ≤ 55 then 0 else 1 := by decide +kernel
theorem dt_syn (V : Nat) : rm7 (dt (b64 V) 63) 63 = syn V := by
  refine rm7_eq 63 (fun j hj => ?_)
  rw [dt, tb7, xbit, c127 j hj, if_neg (show ¬ j = 63 by omega), Nat.xor_zero, b64, Nat.div_div_eq_div_mul, ← Nat.pow_succ', show (62 - j).succ = 63 - j by omega]
theorem dt_one (V t : Nat) (ht : t < 63) : rm7 (dt (b64 V) t) 63 = syn V ^^^ pw7 (62 - t) := by
  rw [← dt_syn, ← rm7_e t ht, ← rm7_xor 63 (fun j _ => dt_lt (b64_lt V) 63 j) (fun j _ => by show (if j = t then 1 else 0) < 2; split <;> omega)]
  refine rm7_eq 63 (fun j hj => ?_)
  show dt (b64 V) t j = dt (b64 V) 63 j ^^^ (if j = t then 1 else 0)
  rw [dt, dt, if_neg (show ¬ j = 63 by omega), Nat.xor_zero]
theorem xor_0 {a b : Nat} : a ^^^ b = 0 ↔ a = b := by
  constructor
  · intro h
    have h2 : (a ^^^ b) ^^^ b = 0 ^^^ b := by rw [h]
    rwa [Nat.xor_assoc, Nat.xor_self, Nat.xor_zero, Nat.zero_xor] at h2
  · rintro rfl
    exact Nat.xor_self a
theorem fnd_S (V : Nat) : ∀ n, n ≤ 63 → fnd (b64 V) n = fnS (syn V) n
  | 0, _ => rfl
  | n + 1, h => by
    rw [fnd, fnS, dt_one V n (by omega), fnd_S V n (by omega)]
    by_cases q : syn V = pw7 (62 - n)
    · rw [if_pos q, if_pos (xor_0.mpr q)]
    · rw [if_neg q, if_neg (fun z => q (xor_0.mp z))]
/-- good; lost (or not to be mended); one bit wrong and mended -/
theorem mw_cases (V md : Nat) : (wt7 63 (syn V) = -1 ∧ mwr (b64 V) md = -1) ∨ (¬ (wt7 63 (syn V) = -1 ∨ (wt7 63 (syn V) ≠ -2 ∧ md ≠ 0)) ∧ mwr (b64 V) md = -2) ∨ (∃ k, k < 63 ∧ wt7 63 (syn V) = nI k ∧ md ≠ 0 ∧ mwr (b64 V) md = nI (62 - k)) := by
  unfold mwr
  rw [dt_syn, fnd_S V 63 (Nat.le_refl _)]
  by_cases h0 : syn V = 0
  · rw [if_pos h0, h0]
    exact Or.inl ⟨tab0, rfl⟩
  · rw [if_neg h0]
    have hm1 : ¬ wt7 63 (syn V) = -1 := by
      rcases tab _ (syn_lt V) h0 with ⟨h1, -⟩ | ⟨h1, h2, -⟩
      · rw [h1]; decide
      · intro z
        rw [z] at h2
        exact absurd h2 (by decide +kernel)
    by_cases hm : md = 0
    · rw [if_pos hm]
      exact Or.inr (Or.inl ⟨fun z => z.elim hm1 (fun z => z.2 hm), rfl⟩)
    · rw [if_neg hm]
      rcases tab _ (syn_lt V) h0 with ⟨h1, h2⟩ | ⟨h1, h2, h3⟩
      · exact Or.inr (Or.inl ⟨fun z => z.elim hm1 (fun z => z.1 h1), h2⟩)
      · exact Or.inr (Or.inr ⟨_, h1, h2, hm, h3⟩)
/-- eight bits are a byte -/
theorem bv_eq {γ : Nat → Nat} {M s : Nat} : ∀ i, s + i ≤ 64 → (∀ t, t < i → γ (s + t) = M / 2 ^ (63 - (s + t)) % 2) → bv γ s i = M / 2 ^ (64 - (s + i)) % 2 ^ i
  | 0, _, _ => by rw [bv, Nat.pow_zero, Nat.mod_one]
  | i + 1, h, hg => by
    rw [bv, bv_eq i (by omega) (fun t ht => hg t (by omega)), hg i (by omega)]
    have e1 : 64 - (s + i) = (63 - (s + i)) + 1 := by omega
    have e2 : 64 - (s + (i + 1)) = 63 - (s + i) := by omega
    rw [e1, e2, Nat.pow_succ, ← Nat.div_div_eq_div_mul, Nat.pow_succ, Nat.mul_comm (2 ^ i) 2, Nat.mod_mul]
    omega
theorem tp_bit (a i : Nat) : 2 ^ a / 2 ^ i % 2 = if i = a then 1 else 0 := by
  have h := Nat.testBit_two_pow (n := a) (m := i)
  rw [Nat.testBit_eq_decide_div_mod_eq] at h
  by_cases q : i = a
  · subst q
    rw [if_pos rfl, Nat.div_self (Nat.two_pow_pos _)]
  · rw [if_neg q]
    have h2 : ¬ 2 ^ a / 2 ^ i % 2 = 1 := by
      intro z
      rw [z] at h
      simp at h
      exact q h.symm
    omega
theorem gm_good (V j : Nat) (hj : j < 56) : gm (b64 V) (-1) j = mnd V (-1) / 2 ^ (63 - j) % 2 := by
  rw [gm, if_neg (fun z => by have := (m1_c j (by omega)).mp z; omega), Nat.xor_zero, mnd_m1, b64]
theorem gm_one (V k j : Nat) (hk : k < 63) (hj : j < 56) : gm (b64 V) (nI (62 - k)) j = mnd V (nI k) / 2 ^ (63 - j) % 2 := by
  rw [gm, b64]
  by_cases h7 : k < 7
  · rw [mnd_lo h7, if_neg (fun z => by have := (nI_eq (by omega) (by omega)).mp z; omega), Nat.xor_zero]
  · rw [mnd_hi (by omega) hk, xbit, tp_bit]
    by_cases q : j = 62 - k
    · rw [if_pos (by rw [q]), if_pos (by omega)]
    · rw [if_neg (fun z => q ((nI_eq (by omega) (by omega)).mp z)), if_neg (by omega)]
/-- the rows of bytes behind a block -/
theorem rows_eq {f fr : Nat → Int32} {fl M : Nat} {γ : Nat → Nat} (h : ∀ j, j < fl → fr j = nI (bN (f j))) (hg : ∀ j, j < 56 → γ j = M / 2 ^ (63 - j) % 2) : ∀ j, j < fl + 7 → wm7 fr fl γ 7 j = nI (bN (wr7 f fl (M / 256) 7 j)) := by
  intro j hj
  by_cases hl : j < fl
  · rw [wm7, wr7, if_neg (by omega), if_neg (by omega)]
    exact h j hl
  · rw [wm7, wr7, if_pos (by omega), if_pos (by omega), bN_i8, bN_nI]
    obtain ⟨i, hi⟩ : ∃ i, i = j - fl := ⟨_, rfl⟩
    rw [← hi, bv_eq (M := M) 8 (by omega) (fun t ht => hg _ (by omega)), Nat.div_div_eq_div_mul, show 256 * 2 ^ (48 - 8 * i) = 2 ^ (64 - (8 * i + 8)) from by rw [show 256 = 2 ^ 8 from rfl, ← Nat.pow_add]; congr 1; omega]
/-! the mark -/
def pl : Nat → Nat → Nat
  | 0, _ => 0
  | n + 1, x => x % 2 + pl n (x / 2)
theorem pl_top : ∀ n x, pl (n + 1) x = pl n x + x / 2 ^ n % 2
  | 0, x => by
    show x % 2 + 0 = 0 + x / 2 ^ 0 % 2
    rw [Nat.pow_zero, Nat.div_one]
    omega
  | n + 1, x => by
    rw [pl, pl_top n (x / 2), pl, Nat.div_div_eq_div_mul, ← Nat.pow_succ', Nat.add_assoc]
theorem pc_part (x : Nat) : ∀ k, k ≤ 16 → pl 16 x = pc16 x k + pl (16 - k) x
  | 0, _ => by rw [pc16, Nat.zero_add]
  | k + 1, h => by
    have e := pl_top (15 - k) x
    rw [show 15 - k + 1 = 16 - k by omega] at e
    rw [pc_part x k (by omega), pc16, e, show 16 - (k + 1) = 15 - k by omega]
    omega
theorem pc_pl (x : Nat) : pc16 x 16 = pl 16 x := (pc_part x 16 (Nat.le_refl _)).symm
theorem pl_0 : ∀ n x, x < 2 ^ n → (pl n x = 0 ↔ x = 0)
  | 0, x, h => by
    rw [pl]
    rw [Nat.pow_zero] at h
    omega
  | n + 1, x, h => by
    rw [Nat.pow_succ] at h
    rw [pl]
    have := pl_0 n (x / 2) (by omega)
    omega
theorem and_h (x y : Nat) : x &&& y = 2 * (x / 2 &&& y / 2) + (if x % 2 = 1 ∧ y % 2 = 1 then 1 else 0) := by
  have h1 : (x &&& y) / 2 = x / 2 &&& y / 2 := Nat.and_div_two
  have h2 : (x &&& y) % 2 = 1 ↔ x % 2 = 1 ∧ y % 2 = 1 := Nat.and_mod_two_eq_one
  rw [← h1]
  split
  · rename_i h
    have := h2.mpr h
    omega
  · rename_i h
    have : ¬ (x &&& y) % 2 = 1 := fun z => h (h2.mp z)
    omega
theorem pl_1 : ∀ n x, x < 2 ^ n → (pl n x = 1 ↔ x ≠ 0 ∧ x &&& (x - 1) = 0)
  | 0, x, h => by
    rw [pl]
    rw [Nat.pow_zero] at h
    omega
  | n + 1, x, h => by
    rw [Nat.pow_succ] at h
    rw [pl, and_h]
    have i0 := pl_0 n (x / 2) (by omega)
    have i1 := pl_1 n (x / 2) (by omega)
    by_cases hb : x % 2 = 1
    · have e : (x - 1) / 2 = x / 2 := by omega
      rw [e, Nat.and_self, if_neg (by omega)]
      omega
    · by_cases hx : x = 0
      · subst hx
        omega
      · have e : (x - 1) / 2 = x / 2 - 1 := by omega
        rw [e, if_neg (by omega)]
        omega
theorem df_pc {β : Nat → Nat} {B : Nat} (hβ : ∀ j, j < 16 → β j = B / 2 ^ (15 - j) % 2) : ∀ k, k ≤ 16 → df β k = pc16 (off16 B) k
  | 0, _ => rfl
  | k + 1, h => by
    rw [df, pc16, df_pc hβ k (by omega), hβ k (by omega), off16, xbit]
    congr 1
    have e : B % 65536 / 2 ^ (15 - k) % 2 = B / 2 ^ (15 - k) % 2 := by
      have h1 : (65536 : Nat) = 2 ^ (15 - k) * 2 ^ (k + 1) := by rw [← Nat.pow_add, show 15 - k + (k + 1) = 16 by omega]
      rw [h1, Nat.mod_mul_right_div_self, Nat.pow_succ, Nat.mul_comm, Nat.mod_mul_right_mod]
    rw [e]
    have a1 : B / 2 ^ (15 - k) % 2 < 2 := Nat.mod_lt _ (by decide)
    have a2 : 60304 / 2 ^ (15 - k) % 2 < 2 := Nat.mod_lt _ (by decide)
    generalize B / 2 ^ (15 - k) % 2 = u at a1 ⊢
    generalize 60304 / 2 ^ (15 - k) % 2 = v at a2 ⊢
    rcases (show u = 0 ∨ u = 1 by omega) with rfl | rfl <;> rcases (show v = 0 ∨ v = 1 by omega) with rfl | rfl <;> rfl
theorem df_0 {β : Nat → Nat} {B : Nat} (hβ : ∀ j, j < 16 → β j = B / 2 ^ (15 - j) % 2) : df β 16 = 0 ↔ off16 B = 0 := by
  rw [df_pc hβ 16 (Nat.le_refl _), pc_pl, pl_0 16 _ (off16_lt B)]
theorem df_1 {β : Nat → Nat} {B : Nat} (hβ : ∀ j, j < 16 → β j = B / 2 ^ (15 - j) % 2) : df β 16 = 1 ↔ off16 B ≠ 0 ∧ off16 B &&& (off16 B - 1) = 0 := by
  rw [df_pc hβ 16 (Nat.le_refl _), pc_pl, pl_1 16 _ (off16_lt B)]
theorem df_hit {β : Nat → Nat} {B md : Nat} (hβ : ∀ j, j < 16 → β j = B / 2 ^ (15 - j) % 2) : (df β 16 = 0 ∨ (df β 16 = 1 ∧ md ≠ 0)) ↔ hit B md := by
  rw [df_0 hβ, df_1 hβ, hit]
  by_cases h : off16 B = 0
  · simp [h]
  · simp [h, and_comm]
end
section
/-! the model stands for the receiver -/
def MRep (u : RC) (md' : Nat) (fb : Nat → Int32) (w : MB) : Prop := match u, w with
  | (ar, ag, st, sz, fl, sn, md, B, c0, c1, c2, c3, c4, f, g), (st', mn, ro, sz', fr, fv, fc) => st' = st ∧ md' = md ∧ ro = fl ∧ sz' = sz ∧ (st = 2 → mn = sn ∧ sn < 64) ∧ (st ≠ 2 → fl = 0 ∧ mn = if sn < 16 then sn else 16) ∧ (∀ j, j < mn → fb j = nI (B / 2 ^ (mn - 1 - j) % 2)) ∧ (∀ j, j < fl → fr j = nI (bN (f j))) ∧ (∀ j, j < sz → fv j = nI (bN (g j))) ∧ fc 0 = c0 ∧ fc 1 = c1 ∧ fc 2 = c2 ∧ fc 3 = c3 ∧ fc 4 = c4
def rcB (u : RC) : Nat := u.2.2.2.2.2.2.2.1
theorem rep_bd {u : RC} {md st mn ro sz : Nat} {fb fr fv fc : Nat → Int32} (h : MRep u md fb (st, mn, ro, sz, fr, fv, fc)) (hi : RInv u) : st ≤ 2 ∧ md < 2 ∧ ro ≤ 252 ∧ sz ≤ 259 ∧ (st = 2 → mn < 64) ∧ (st ≠ 2 → mn ≤ 16) ∧ rcB u < 2 ^ 64 := by
  obtain ⟨ar, ag, st1, sz1, fl, sn, md1, B, c0, c1, c2, c3, c4, f, g⟩ := u
  obtain ⟨rfl, rfl, rfl, rfl, h5, h6, -⟩ := h
  obtain ⟨i1, i2, i3, i4, i5, i6, i7⟩ := hi
  exact ⟨i1, i6, i3, i2, fun z => by have := h5 z; omega, fun z => by rw [(h6 z).2]; split <;> omega, i7⟩
theorem modbit {B i n : Nat} (h : i < n) : B % 2 ^ n / 2 ^ i % 2 = B / 2 ^ i % 2 := by
  have h1 : 2 ^ n = 2 ^ i * 2 ^ (n - i) := by rw [← Nat.pow_add]; congr 1; omega
  have h2 : 2 ^ (n - i) = 2 * 2 ^ (n - i - 1) := by rw [← Nat.pow_succ']; congr 1; omega
  rw [h1, Nat.mod_mul_right_div_self, h2, Nat.mod_mul_right_mod]
theorem push_hi {B b m j : Nat} (hb : b < 2) (hm : m ≤ 63) (hj : j < m) : (2 * B + b) % 2 ^ 64 / 2 ^ (m - j) % 2 = B / 2 ^ (m - 1 - j) % 2 := by
  rw [modbit (by omega), show m - j = (m - 1 - j) + 1 by omega, Nat.pow_succ', ← Nat.div_div_eq_div_mul, show (2 * B + b) / 2 = B by omega]
theorem push_lo {B b : Nat} (hb : b < 2) : (2 * B + b) % 2 ^ 64 / 2 ^ 0 % 2 = b := by
  rw [Nat.pow_zero, Nat.div_one]
  omega
theorem rep_push {B b m : Nat} {fb : Nat → Int32} (hb : b < 2) (hm : m ≤ 63) (h : ∀ j, j < m → fb j = nI (B / 2 ^ (m - 1 - j) % 2)) : ∀ j, j < m + 1 → upd fb m (nI b) j = nI ((2 * B + b) % 2 ^ 64 / 2 ^ (m + 1 - 1 - j) % 2) := by
  intro j hj
  by_cases q : j = m
  · subst q
    rw [upd_s, show j + 1 - 1 - j = 0 by omega, push_lo hb]
  · rw [upd_n q, h j (by omega), show m + 1 - 1 - j = m - j by omega, push_hi hb hm (by omega)]
theorem br_end {ar ag st sz fl sn md B mn : Nat} {c0 c1 c2 c3 c4 : Int32} {f g fb fr fv fc : Nat → Int32} (hr : ∀ j, j < fl → fr j = nI (bN (f j))) (hv : ∀ j, j < sz → fv j = nI (bN (g j))) (h0 : fc 0 = c0) (h1 : fc 1 = c1) (h2 : fc 2 = c2) (h3 : fc 3 = c3) (h4 : fc 4 = c4) : MRep (rc_end (ar, ag, st, sz, fl, sn, md, B, c0, c1, c2, c3, c4, f, g)) md fb (mb_end (st, mn, fl, sz, fr, fv, fc)) := by
  have k0 : upd fc 1 (fc 1 + nI 1) 0 = c0 := (upd_n (by decide)).trans h0
  have k1 : upd fc 1 (fc 1 + nI 1) 1 = c1 + nI 1 := by rw [upd_s, h1]
  have k2 : upd fc 1 (fc 1 + nI 1) 2 = c2 := (upd_n (by decide)).trans h2
  have k3 : upd fc 1 (fc 1 + nI 1) 3 = c3 := (upd_n (by decide)).trans h3
  have k4 : upd fc 1 (fc 1 + nI 1) 4 = c4 := (upd_n (by decide)).trans h4
  by_cases h : fl = 0
  · rw [rce_0 h]
    subst h
    exact ⟨rfl, rfl, rfl, rfl, fun z => absurd z (by decide), fun _ => ⟨rfl, rfl⟩, fun j hj => absurd hj (Nat.not_lt_zero j), fun j hj => absurd hj (Nat.not_lt_zero j), fun j hj => by rw [cpy_0]; exact hv j hj, k0, k1, k2, k3, k4⟩
  · rw [rce_1 h]
    exact ⟨rfl, rfl, rfl, if_neg h, fun z => absurd z (by decide), fun _ => ⟨rfl, rfl⟩, fun j hj => absurd hj (Nat.not_lt_zero j), fun j hj => absurd hj (Nat.not_lt_zero j), fun j hj => by rw [cpy, if_pos hj]; exact hr j hj, k0, k1, k2, k3, k4⟩
theorem br_block {ar ag sz fl sn md B mn : Nat} {c0 c1 c2 c3 c4 : Int32} {f g fb fr fv fc : Nat → Int32} (hr : ∀ j, j < fl → fr j = nI (bN (f j))) (hv : ∀ j, j < sz → fv j = nI (bN (g j))) (h0 : fc 0 = c0) (h1 : fc 1 = c1) (h2 : fc 2 = c2) (h3 : fc 3 = c3) (h4 : fc 4 = c4) :
    (mb_block (b64 B) md (2, mn, fl, sz, fr, fv, fc)).2 = (rc_block (ar, ag, 2, sz, fl, sn, md, B, c0, c1, c2, c3, c4, f, g)).2 ∧ MRep (rc_block (ar, ag, 2, sz, fl, sn, md, B, c0, c1, c2, c3, c4, f, g)).1 md fb (mb_block (b64 B) md (2, mn, fl, sz, fr, fv, fc)).1 := by
  have good : ∀ w : Int32, mwr (b64 B) md = w → ¬ w = -2 → (wt7 63 (syn B) = -1 ∨ (wt7 63 (syn B) ≠ -2 ∧ md ≠ 0)) → (∀ j, j < 56 → gm (b64 B) w j = mnd B (wt7 63 (syn B)) / 2 ^ (63 - j) % 2) → (if w < 0 then 0 else 1) = (if wt7 63 (syn B) = -1 then 0 else 1) →
      (mb_block (b64 B) md (2, mn, fl, sz, fr, fv, fc)).2 = (rc_block (ar, ag, 2, sz, fl, sn, md, B, c0, c1, c2, c3, c4, f, g)).2 ∧ MRep (rc_block (ar, ag, 2, sz, fl, sn, md, B, c0, c1, c2, c3, c4, f, g)).1 md fb (mb_block (b64 B) md (2, mn, fl, sz, fr, fv, fc)).1 := by
    intro w ew hw hc hg hn
    have hrow := rows_eq (M := mnd B (wt7 63 (syn B))) hr hg
    have k0 : upd (upd fc 2 (fc 2 + nI 1)) 3 (upd fc 2 (fc 2 + nI 1) 3 + nI (if w < 0 then 0 else 1)) 0 = c0 := by rw [upd_n (by decide), upd_n (by decide)]; exact h0
    have k1 : upd (upd fc 2 (fc 2 + nI 1)) 3 (upd fc 2 (fc 2 + nI 1) 3 + nI (if w < 0 then 0 else 1)) 1 = c1 := by rw [upd_n (by decide), upd_n (by decide)]; exact h1
    have k2 : upd (upd fc 2 (fc 2 + nI 1)) 3 (upd fc 2 (fc 2 + nI 1) 3 + nI (if w < 0 then 0 else 1)) 2 = c2 + nI 1 := by rw [upd_n (by decide), upd_s, h2]
    have k3 : upd (upd fc 2 (fc 2 + nI 1)) 3 (upd fc 2 (fc 2 + nI 1) 3 + nI (if w < 0 then 0 else 1)) 3 = c3 + nI (if wt7 63 (syn B) = -1 then 0 else 1) := by rw [upd_s, upd_n (by decide), h3, hn]
    have k4 : upd (upd fc 2 (fc 2 + nI 1)) 3 (upd fc 2 (fc 2 + nI 1) 3 + nI (if w < 0 then 0 else 1)) 4 = c4 := by rw [upd_n (by decide), upd_n (by decide)]; exact h4
    by_cases hf : fl + 7 = 259
    · rw [rcb_1 hc hf, mbk_1 (by rw [ew]; exact hw) hf, ew]
      exact ⟨rfl, br_end (st := 2) (sn := 0) (mn := 0) hrow hv k0 k1 k2 k3 k4⟩
    · rw [rcb_2 hc hf, mbk_2 (by rw [ew]; exact hw) hf, ew]
      exact ⟨rfl, rfl, rfl, rfl, rfl, fun _ => ⟨rfl, by decide⟩, fun z => absurd rfl z, fun j hj => absurd hj (Nat.not_lt_zero j), hrow, hv, k0, k1, k2, k3, k4⟩
  rcases mw_cases B md with ⟨a1, a2⟩ | ⟨a1, a2⟩ | ⟨k, a1, a2, a3, a4⟩
  · refine good _ a2 (by decide) (Or.inl a1) (fun j hj => by rw [a1]; exact gm_good B j hj) (by rw [a1]; decide)
  · rw [rcb_0 a1, mbk_0 a2]
    exact ⟨rfl, br_end (st := 2) (sn := 0) (mn := mn) hr hv h0 h1 h2 h3 h4⟩
  · refine good _ a4 (fun z => ?_) (Or.inr ⟨?_, a3⟩) (fun j hj => by rw [a2]; exact gm_one B k j a1 hj) ?_
    · exact absurd z ((by decide +kernel : ∀ i, i < 63 → ¬ nI i = -2) (62 - k) (by omega))
    · rw [a2]; exact (by decide +kernel : ∀ i, i < 63 → nI i ≠ -2) k a1
    · rw [if_neg (nI_pos (by omega)), if_neg (by rw [a2]; exact (by decide +kernel : ∀ i, i < 63 → ¬ nI i = -1) k a1)]
def sf (fb : Nat → Int32) (k : Nat) : Nat → Int32 := fun j => if j < k then fb (j + 1) else fb j
theorem sf_0 (fb : Nat → Int32) : sf fb 0 = fb := by
  funext j
  exact if_neg (by omega)
theorem sf_s (fb : Nat → Int32) (k : Nat) : upd (sf fb k) k (sf fb k (k + 1)) = sf fb (k + 1) := by
  funext j
  by_cases h : j = k
  · subst h
    rw [upd_s, sf, sf, if_neg (by omega), if_pos (by omega)]
  · rw [upd_n h, sf, sf]
    by_cases h2 : j < k
    · rw [if_pos h2, if_pos (by omega)]
    · rw [if_neg h2, if_neg (by omega)]
section BR
variable {u : RC} {md st mn ro sz b m : Nat} {fb fb1 fr fv fc : Nat → Int32}
theorem br_1 (hb : b < 2) (h : MRep u md fb (st, mn, ro, sz, fr, fv, fc)) (h2 : st = 2) (h3 : mn + 1 ≠ 64) : (rc_bit b u).2 = 0 ∧ MRep (rc_bit b u).1 md (upd fb mn (nI b)) (st, mn + 1, ro, sz, fr, fv, fc) := by
  obtain ⟨ar, ag, st1, sz1, fl, sn, md1, B, c0, c1, c2, c3, c4, f, g⟩ := u
  obtain ⟨rfl, rfl, rfl, rfl, h5, h6, h7, h8⟩ := h
  obtain ⟨rfl, hs⟩ := h5 h2
  rw [rct_0 (k := mn + 1) (by rw [if_pos hs]) h2 h3]
  exact ⟨rfl, rfl, rfl, rfl, rfl, fun _ => ⟨rfl, by omega⟩, fun z => absurd h2 z, rep_push hb (by omega) h7, h8⟩
theorem br_2b (hb : b < 2) (h : MRep u md fb (st, mn, ro, sz, fr, fv, fc)) (h3 : mn + 1 = 64) : ∀ j, j < 63 → upd fb mn (nI b) j = nI (b64 ((2 * rcB u + b) % 2 ^ 64) j) := by
  obtain ⟨ar, ag, st1, sz1, fl, sn, md1, B, c0, c1, c2, c3, c4, f, g⟩ := u
  obtain ⟨rfl, rfl, rfl, rfl, h5, h6, h7, h8⟩ := h
  obtain rfl : mn = 63 := by omega
  intro j hj
  rw [rep_push hb (by omega) h7 j (by omega)]
  rfl
theorem br_2 (h : MRep u md fb (st, mn, ro, sz, fr, fv, fc)) (h2 : st = 2) (h3 : mn + 1 = 64) (fb' : Nat → Int32) : (mb_block (b64 ((2 * rcB u + b) % 2 ^ 64)) md (st, mn + 1, ro, sz, fr, fv, fc)).2 = (rc_bit b u).2 ∧ MRep (rc_bit b u).1 md fb' (mb_block (b64 ((2 * rcB u + b) % 2 ^ 64)) md (st, mn + 1, ro, sz, fr, fv, fc)).1 := by
  obtain ⟨ar, ag, st1, sz1, fl, sn, md1, B, c0, c1, c2, c3, c4, f, g⟩ := u
  obtain ⟨rfl, rfl, rfl, rfl, h5, h6, h7, h8, h9, k0, k1, k2, k3, k4⟩ := h
  obtain ⟨rfl, hs⟩ := h5 h2
  rw [rct_1 (k := mn + 1) (by rw [if_pos hs]) h2 h3]
  subst h2
  exact br_block h8 h9 k0 k1 k2 k3 k4
theorem br_m (h : MRep u md fb (st, mn, ro, sz, fr, fv, fc)) (h2 : st ≠ 2) (hm : (mn ≠ 16 ∧ m = mn ∧ fb1 = fb) ∨ (mn = 16 ∧ m = 15 ∧ fb1 = sf fb 15)) : m ≤ 15 ∧ ∀ j, j < m → fb1 j = nI (rcB u / 2 ^ (m - 1 - j) % 2) := by
  obtain ⟨ar, ag, st1, sz1, fl, sn, md1, B, c0, c1, c2, c3, c4, f, g⟩ := u
  obtain ⟨rfl, rfl, rfl, rfl, h5, h6, h7, h8⟩ := h
  have hmn : mn ≤ 16 := by rw [(h6 h2).2]; split <;> omega
  rcases hm with ⟨a, rfl, rfl⟩ | ⟨a, rfl, rfl⟩
  · exact ⟨by omega, h7⟩
  · refine ⟨by omega, fun j hj => ?_⟩
    subst a
    rw [sf, if_pos hj, h7 (j + 1) (by omega), show 16 - 1 - (j + 1) = 15 - 1 - j by omega]
    rfl
theorem br_k {sn mn m : Nat} (h : mn = if sn < 16 then sn else 16) (hm : (mn ≠ 16 ∧ m = mn ∧ fb1 = fb) ∨ (mn = 16 ∧ m = 15 ∧ fb1 = sf fb 15)) : m + 1 = if (if sn < 64 then sn + 1 else sn) < 16 then (if sn < 64 then sn + 1 else sn) else 16 := by
  have e : (if sn < 64 then sn + 1 else sn) = sn + 1 ∧ sn < 64 ∨ (if sn < 64 then sn + 1 else sn) = sn ∧ 64 ≤ sn := by
    by_cases q : sn < 64
    · exact Or.inl ⟨if_pos q, q⟩
    · exact Or.inr ⟨if_neg q, by omega⟩
  generalize (if sn < 64 then sn + 1 else sn) = k at e ⊢
  split at h <;> split <;> omega
theorem br_3 (hb : b < 2) (h : MRep u md fb (st, mn, ro, sz, fr, fv, fc)) (h2 : st ≠ 2) (hm : (mn ≠ 16 ∧ m = mn ∧ fb1 = fb) ∨ (mn = 16 ∧ m = 15 ∧ fb1 = sf fb 15)) (h3 : m + 1 ≠ 16) : (rc_bit b u).2 = 0 ∧ MRep (rc_bit b u).1 md (upd fb1 m (nI b)) (st, m + 1, ro, sz, fr, fv, fc) := by
  obtain ⟨m1, m2⟩ := br_m h h2 hm
  obtain ⟨ar, ag, st1, sz1, fl, sn, md1, B, c0, c1, c2, c3, c4, f, g⟩ := u
  obtain ⟨rfl, rfl, rfl, rfl, h5, h6, h7, h8⟩ := h
  have e := br_k (h6 h2).2 hm
  obtain ⟨k, hk⟩ : ∃ k, k = if sn < 64 then sn + 1 else sn := ⟨_, rfl⟩
  rw [← hk] at e
  have hk2 : k < 16 := by split at e <;> omega
  rw [if_pos hk2] at e
  subst e
  rw [rct_2 hk h2 hk2]
  exact ⟨rfl, rfl, rfl, rfl, rfl, fun z => absurd z h2, fun _ => ⟨(h6 h2).1, by rw [if_pos hk2]⟩, rep_push hb (by omega) m2, h8⟩
def wb16 (V j : Nat) : Nat := V / 2 ^ (15 - j) % 2
theorem wb16_lt (V j : Nat) : wb16 V j < 2 := Nat.mod_lt _ (by decide)
theorem br_4b (hb : b < 2) (h : MRep u md fb (st, mn, ro, sz, fr, fv, fc)) (h2 : st ≠ 2) (hm : (mn ≠ 16 ∧ m = mn ∧ fb1 = fb) ∨ (mn = 16 ∧ m = 15 ∧ fb1 = sf fb 15)) (h3 : m + 1 = 16) : ∀ j, j < 16 → upd fb1 m (nI b) j = nI (wb16 ((2 * rcB u + b) % 2 ^ 64) j) := by
  obtain ⟨m1, m2⟩ := br_m h h2 hm
  obtain rfl : m = 15 := by omega
  intro j hj
  rw [rep_push hb (by omega) m2 j (by omega)]
  rfl
theorem br_4 {x1 x2 x3 : Nat} {x4 : Nat → Int32} (hb : b < 2) (h : MRep u md fb (st, mn, ro, sz, fr, fv, fc)) (h2 : st ≠ 2) (hm : (mn ≠ 16 ∧ m = mn ∧ fb1 = fb) ∨ (mn = 16 ∧ m = 15 ∧ fb1 = sf fb 15)) (h3 : m + 1 = 16)
    (hx : (x1, x2, x3, x4) = if df (wb16 ((2 * rcB u + b) % 2 ^ 64)) 16 = 0 ∨ (df (wb16 ((2 * rcB u + b) % 2 ^ 64)) 16 = 1 ∧ md ≠ 0) then (2, 0, 0, upd (upd fc 0 (fc 0 + nI 1)) 4 ((upd fc 0 (fc 0 + nI 1)) 4 + nI (df (wb16 ((2 * rcB u + b) % 2 ^ 64)) 16))) else (st, m + 1, ro, fc)) : (rc_bit b u).2 = 0 ∧ MRep (rc_bit b u).1 md (upd fb1 m (nI b)) (x1, x2, x3, sz, fr, fv, x4) := by
  obtain ⟨m1, m2⟩ := br_m h h2 hm
  obtain ⟨ar, ag, st1, sz1, fl, sn, md1, B, c0, c1, c2, c3, c4, f, g⟩ := u
  obtain ⟨rfl, rfl, rfl, rfl, h5, h6, h7, h8, h9, k0, k1, k2, k3, k4⟩ := h
  have e := br_k (h6 h2).2 hm
  have hfl := (h6 h2).1
  obtain ⟨k, hk⟩ : ∃ k, k = if sn < 64 then sn + 1 else sn := ⟨_, rfl⟩
  rw [← hk] at e
  have hk2 : ¬ k < 16 := by split at e <;> omega
  rw [rct_3 hk h2 hk2]
  have hB : rcB (ar, ag, st, sz, ro, sn, md, B, c0, c1, c2, c3, c4, f, g) = B := rfl
  rw [hB] at hx m2
  obtain ⟨V, hV⟩ : ∃ V, V = (2 * B + b) % 2 ^ 64 := ⟨_, rfl⟩
  have hp := rep_push hb (by omega) m2
  rw [← hV] at hx hp ⊢
  have hit_ := df_hit (β := wb16 V) (B := V) (md := md) (fun j _ => rfl)
  refine ⟨rfl, ?_⟩
  by_cases q : hit V md
  · rw [if_pos (hit_.mpr q)] at hx
    cases hx
    rw [rcm_1 q]
    have hd : df (wb16 V) 16 = if off16 V = 0 then 0 else 1 := by
      by_cases z : off16 V = 0
      · rw [if_pos z]; exact (df_0 (fun j _ => rfl)).mpr z
      · rw [if_neg z]
        rcases q with q | q
        · exact absurd q z
        · exact (df_1 (fun j _ => rfl)).mpr ⟨z, q.2⟩
    refine ⟨rfl, rfl, hfl.symm, rfl, fun _ => ⟨rfl, by decide⟩, fun z => absurd rfl z, fun j hj => absurd hj (Nat.not_lt_zero j), fun j hj => by omega, h9, ?_, ?_, ?_, ?_, ?_⟩
    · rw [upd_n (by decide), upd_s, k0]
    · rw [upd_n (by decide), upd_n (by decide), k1]
    · rw [upd_n (by decide), upd_n (by decide), k2]
    · rw [upd_n (by decide), upd_n (by decide), k3]
    · rw [upd_s, upd_n (by decide), k4, hd]
  · rw [if_neg (fun z => q (hit_.mp z))] at hx
    cases hx
    rw [rcm_0 q]
    exact ⟨rfl, rfl, rfl, rfl, fun z => absurd z h2, fun _ => ⟨hfl, by rw [h3, if_neg hk2]⟩, hp, h8, h9, k0, k1, k2, k3, k4⟩
end BR
end
section
abbrev rm_M_bit : Room := { frames := 3, cells := 0, slots := 0, locals := 70 }
set_option maxHeartbeats 4000000 in
set_option maxRecDepth 100000 in
theorem L_M_bit_57 (l : Launch) (D : va_G) (cB cI : ClassId) (h xb xr xv xw xs xc st md mn ro sz wn sn : Nat) (th : Int32) (fb fr fv fc : Nat → Int32) (b : Nat) {p : Program} {e : Env} {s : State} {m : MethodId} {args : Array Value} {below : List Frame} {meth : Method} {c : Code} {A : Nat → Prop} {Q : State → Prop} (E : Ev p m c b_M_bit 3 s args "CodeBlocksModel" D cB cI) (hA : ∀ q : Nat, s.heap.size ≤ q → A q)
    (K : ∀ (H : Heap) (locs : List Loc) (ls : Array Slot), (True) → va_P D classes [(h, .inr (4, [.int th, .int (nI st), .int (nI md), .ref xb, .int (nI mn), .ref xr, .int (nI ro), .ref xv, .int (nI sz), .ref xw, .int (nI wn), .ref xs, .int (nI sn), .ref xc])), (xb, .inl (cI, 64, .inl (sf fb 15))), (xr, .inl (cI, 259, .inl fr)), (xv, .inl (cI, 259, .inl fv)), (xc, .inl (cI, 5, .inl fc))] H → va_D A [(h, .inr (4, [.int th, .int (nI st), .int (nI md), .ref xb, .int (nI mn), .ref xr, .int (nI ro), .ref xv, .int (nI sz), .ref xw, .int (nI wn), .ref xs, .int (nI sn), .ref xc])), (xb, .inl (cI, 64, .inl (sf fb 15))), (xr, .inl (cI, 259, .inl fr)), (xv, .inl (cI, 259, .inl fv)), (xc, .inl (cI, 5, .inl fc))] → va_S A s.heap H locs → lv_has ls 3 [(0, .ref h), (1, .int (nI b))] → W p l e rm_M_bit s m args below meth c H locs 0 0 Q (F0 m 83 ls [])) :
    ∀ (n : Nat) (k : Nat) (H : Heap) (locs : List Loc) (ls : Array Slot), (k + n = 15) → va_P D classes [(h, .inr (4, [.int th, .int (nI st), .int (nI md), .ref xb, .int (nI mn), .ref xr, .int (nI ro), .ref xv, .int (nI sz), .ref xw, .int (nI wn), .ref xs, .int (nI sn), .ref xc])), (xb, .inl (cI, 64, .inl (sf fb k))), (xr, .inl (cI, 259, .inl fr)), (xv, .inl (cI, 259, .inl fv)), (xc, .inl (cI, 5, .inl fc))] H → va_D A [(h, .inr (4, [.int th, .int (nI st), .int (nI md), .ref xb, .int (nI mn), .ref xr, .int (nI ro), .ref xv, .int (nI sz), .ref xw, .int (nI wn), .ref xs, .int (nI sn), .ref xc])), (xb, .inl (cI, 64, .inl (sf fb k))), (xr, .inl (cI, 259, .inl fr)), (xv, .inl (cI, 259, .inl fv)), (xc, .inl (cI, 5, .inl fc))] → va_S A s.heap H locs → lv_has ls 3 [(0, .ref h), (1, .int (nI b)), (2, .int (nI k))] → W p l e rm_M_bit s m args below meth c H locs 0 0 Q (F0 m 57 ls []) := by
  have hx := E.1.1
  have hb := E.1.2.1
  intro n
  induction n with
  | zero =>
    intro k H locs ls hi hP hD hS hl
    obtain rfl : k = 15 := by omega
    have hl : lv_has ls 3 [(0, .ref h), (1, .int (nI b)), (2, .int (nI 15))] := hl
    refine lv_iload_n hx hb d_M_bit_57 rfl (lv_at hl 2 rfl) ?_
    refine lv_bipush (v := nI 15) hx hb d_M_bit_58 (by decide +kernel) ?_
    refine r_icmp_ge (tgt := 83) hx hb ⟨by omega, by omega⟩ d_M_bit_60 (by decide) (fun c60 => ?_) (fun c60 => False.elim (by omega))
    exact K  H locs ls (trivial) hP hD hS (lv_sub hl [0, 1] rfl)
  | succ n ih =>
    intro k H locs ls hi hP hD hS hl
    refine lv_iload_n hx hb d_M_bit_57 rfl (lv_at hl 2 rfl) ?_
    refine lv_bipush (v := nI 15) hx hb d_M_bit_58 (by decide +kernel) ?_
    refine r_icmp_ge (tgt := 83) hx hb ⟨by omega, by omega⟩ d_M_bit_60 (by decide) (fun c60 => False.elim (by omega)) (fun c60 => ?_)
    refine lv_aload_n hx hb d_M_bit_63 rfl (lv_at hl 0 rfl) ?_
    refine r_get E hP 0 fl_M_7 rfl rfl d_M_bit_64 ?_
    refine lv_iload_n hx hb d_M_bit_67 rfl (lv_at hl 2 rfl) ?_
    refine lv_aload_n hx hb d_M_bit_68 rfl (lv_at hl 0 rfl) ?_
    refine r_get E hP 0 fl_M_7 rfl rfl d_M_bit_69 ?_
    refine lv_iload_n hx hb d_M_bit_72 rfl (lv_at hl 2 rfl) ?_
    refine lv_iconst (v := nI 1) hx hb d_M_bit_73 (by decide +kernel) ?_
    refine r_iadd hx hb d_M_bit_74 ?_
    refine r_iald E hP 1 rfl (by omega) (by decide) d_M_bit_75 ?_
    refine r_iast E hP hD hS 1 rfl (by omega) (by decide) (ws' := [(h, .inr (4, [.int th, .int (nI st), .int (nI md), .ref xb, .int (nI mn), .ref xr, .int (nI ro), .ref xv, .int (nI sz), .ref xw, .int (nI wn), .ref xs, .int (nI sn), .ref xc])), (xb, .inl (cI, 64, .inl (upd (sf fb k) k ((sf fb k) (k + 1))))), (xr, .inl (cI, 259, .inl fr)), (xv, .inl (cI, 259, .inl fv)), (xc, .inl (cI, 5, .inl fc))]) rfl d_M_bit_76 (fun H locs hP hD hS => ?_)
    rw [sf_s] at hP hD
    refine lv_iinc (v := nI (k + 1)) (lv' := [(2, .int (nI (k + 1))), (0, .ref h), (1, .int (nI b))]) hx hb d_M_bit_77 hl (k := 2) rfl (nI_add _ _) (by decide) rfl (fun ls hl => ?_)
    refine lv_goto (tgt := 57) hx hb d_M_bit_80 (by decide) ?_
    exact ih (k + 1) H locs ls (by omega) hP hD hS (lv_sub hl [1, 2, 0] rfl)

set_option maxHeartbeats 4000000 in
set_option maxRecDepth 100000 in
/-- bit(b) -/
theorem c_M_bit (l : Launch) (D : va_G) (cB cI : ClassId) (h xb xr xv xw xs xc st md mn ro sz wn sn : Nat) (th : Int32) (fb fr fv fc : Nat → Int32) (u : RC) (b : Nat) (h_b : b < 2) (h_rep : MRep u md fb (st, mn, ro, sz, fr, fv, fc)) (h_inv : RInv u) : MI l D cB cI y_M_bit b_M_bit 3 (some .int) rm_M_bit [.ref h, .int (nI b)] [(h, .inr (4, [.int th, .int (nI st), .int (nI md), .ref xb, .int (nI mn), .ref xr, .int (nI ro), .ref xv, .int (nI sz), .ref xw, .int (nI wn), .ref xs, .int (nI sn), .ref xc])), (xb, .inl (cI, 64, .inl fb)), (xr, .inl (cI, 259, .inl fr)), (xv, .inl (cI, 259, .inl fv)), (xc, .inl (cI, 5, .inl fc))] (fun (v : Int32) (t : MB × (Nat → Int32)) => v = nI (rc_bit b u).2 ∧ MRep (rc_bit b u).1 md t.2 t.1) (fun ((st, mn, ro, sz, fr, fv, fc), fb) => [(h, .inr (4, [.int th, .int (nI st), .int (nI md), .ref xb, .int (nI mn), .ref xr, .int (nI ro), .ref xv, .int (nI sz), .ref xw, .int (nI wn), .ref xs, .int (nI sn), .ref xc])), (xb, .inl (cI, 64, .inl fb)), (xr, .inl (cI, 259, .inl fr)), (xv, .inl (cI, 259, .inl fv)), (xc, .inl (cI, 5, .inl fc))]) := by
  refine m_entryI (by decide +kernel) (Nat.le_of_ble_eq_true rfl) ?_
  intro p e s m below meth c ls A E hr hlk hnm hA hP hD hl
  have hx := E.1.1
  have hb := E.1.2.1
  have hS : va_S A s.heap s.heap [] := va_S.rf
  have hl : lv_has ls 3 [(0, .ref h), (1, .int (nI b))] := hl
  obtain ⟨b1, b2, b3, b4, b5, b6, b7⟩ := rep_bd h_rep h_inv
  refine lv_aload_n hx hb d_M_bit_0 rfl (lv_at hl 0 rfl) ?_
  refine r_get E hP 0 fl_M_40 rfl rfl d_M_bit_1 ?_
  refine lv_iconst (v := nI 2) hx hb d_M_bit_4 (by decide +kernel) ?_
  refine r_icmp_ne (tgt := 46) hx hb ⟨by omega, by omega⟩ d_M_bit_5 (by decide) (fun c5 => ?_) (fun c5 => ?_)
  · skip
    refine lv_aload_n hx hb d_M_bit_46 rfl (lv_at hl 0 rfl) ?_
    refine r_get E hP 0 fl_M_43 rfl rfl d_M_bit_47 ?_
    refine lv_bipush (v := nI 16) hx hb d_M_bit_50 (by decide +kernel) ?_
    refine r_icmp_ne (tgt := 89) hx hb ⟨by have := b6 c5; omega, by omega⟩ d_M_bit_52 (by decide) (fun c52 => ?_) (fun c52 => ?_)
    · skip
      refine lv_aload_n hx hb d_M_bit_89 rfl (lv_at hl 0 rfl) ?_
      refine r_get E hP 0 fl_M_7 rfl rfl d_M_bit_90 ?_
      refine lv_aload_n hx hb d_M_bit_93 rfl (lv_at hl 0 rfl) ?_
      refine r_get E hP 0 fl_M_43 rfl rfl d_M_bit_94 ?_
      refine lv_iload_n hx hb d_M_bit_97 rfl (lv_at hl 1 rfl) ?_
      refine r_iast E hP hD hS 1 rfl (by have := b6 c5; omega) (by decide) (ws' := [(h, .inr (4, [.int th, .int (nI st), .int (nI md), .ref xb, .int (nI mn), .ref xr, .int (nI ro), .ref xv, .int (nI sz), .ref xw, .int (nI wn), .ref xs, .int (nI sn), .ref xc])), (xb, .inl (cI, 64, .inl (upd fb mn (nI b)))), (xr, .inl (cI, 259, .inl fr)), (xv, .inl (cI, 259, .inl fv)), (xc, .inl (cI, 5, .inl fc))]) rfl d_M_bit_98 (fun H locs hP hD hS => ?_)
      refine lv_aload_n hx hb d_M_bit_99 rfl (lv_at hl 0 rfl) ?_
      refine lv_dup hx hb d_M_bit_100 rfl ?_
      refine r_get E hP 0 fl_M_43 rfl rfl d_M_bit_101 ?_
      refine lv_iconst (v := nI 1) hx hb d_M_bit_104 (by decide +kernel) ?_
      refine r_iadd hx hb d_M_bit_105 ?_
      refine r_put E hP hD hS 0 fl_M_43 rfl rfl (rfl) (rfl) (ws' := [(h, .inr (4, [.int th, .int (nI st), .int (nI md), .ref xb, .int (nI (mn + 1)), .ref xr, .int (nI ro), .ref xv, .int (nI sz), .ref xw, .int (nI wn), .ref xs, .int (nI sn), .ref xc])), (xb, .inl (cI, 64, .inl (upd fb mn (nI b)))), (xr, .inl (cI, 259, .inl fr)), (xv, .inl (cI, 259, .inl fv)), (xc, .inl (cI, 5, .inl fc))]) rfl d_M_bit_106 (fun H locs hP hD hS => ?_)
      refine lv_aload_n hx hb d_M_bit_109 rfl (lv_at hl 0 rfl) ?_
      refine r_get E hP 0 fl_M_43 rfl rfl d_M_bit_110 ?_
      refine lv_bipush (v := nI 16) hx hb d_M_bit_113 (by decide +kernel) ?_
      refine r_icmp_ne (tgt := 122) hx hb ⟨by have := b6 c5; omega, by omega⟩ d_M_bit_115 (by decide) (fun c115 => ?_) (fun c115 => ?_)
      · skip
        refine lv_iconst (v := nI 0) hx hb d_M_bit_122 (by decide +kernel) ?_
        exact r_iret E hr hlk hP hD hS (rfl) (((st, mn + 1, ro, sz, fr, fv, fc), upd fb mn (nI b))) rfl (by have z := br_3 h_b h_rep c5 (Or.inl ⟨c52, rfl, rfl⟩) c115; exact ⟨congrArg nI z.1.symm, z.2⟩) d_M_bit_123
      · skip
        refine lv_aload_n hx hb d_M_bit_118 rfl (lv_at hl 0 rfl) ?_
        refine r_callVV (wr := [(xr, .inl (cI, 259, .inl fr)), (xv, .inl (cI, 259, .inl fv))]) (rest := []) E cs_M_67 (c_M_look l D cB cI h xb xr xv xw xs xc st md (mn + 1) ro sz wn sn th (upd fb mn (nI b)) (wb16 ((2 * rcB u + b) % 2 ^ 64)) (wb16_lt _) (br_4b h_b h_rep c5 (Or.inl ⟨c52, rfl, rfl⟩) c115) fc b2) hP hD hS hA [0, 1, 4] [2, 3] ⟨rfl, rfl, by decide, by decide, by decide⟩ kc_M rfl hl.1 rfl rfl (Nat.le_of_ble_eq_true rfl) ⟨by decide, by decide⟩ ⟨by decide, by decide⟩ d_M_bit_119 (fun u9 H locs hw hP hD hS => ?_)
        obtain ⟨x1, x2, x3, x4⟩ := u9
        have hP : va_P D classes [(h, .inr (4, [.int th, .int (nI x1), .int (nI md), .ref xb, .int (nI x2), .ref xr, .int (nI x3), .ref xv, .int (nI sz), .ref xw, .int (nI wn), .ref xs, .int (nI sn), .ref xc])), (xb, .inl (cI, 64, .inl (upd fb mn (nI b)))), (xr, .inl (cI, 259, .inl fr)), (xv, .inl (cI, 259, .inl fv)), (xc, .inl (cI, 5, .inl x4))] H := hP.sub [2, 3, 0, 1, 4] rfl
        have hD : va_D A [(h, .inr (4, [.int th, .int (nI x1), .int (nI md), .ref xb, .int (nI x2), .ref xr, .int (nI x3), .ref xv, .int (nI sz), .ref xw, .int (nI wn), .ref xs, .int (nI sn), .ref xc])), (xb, .inl (cI, 64, .inl (upd fb mn (nI b)))), (xr, .inl (cI, 259, .inl fr)), (xv, .inl (cI, 259, .inl fv)), (xc, .inl (cI, 5, .inl x4))] := hD.sub [2, 3, 0, 1, 4] (by decide) rfl
        refine W.widen (k := 0) (n := 0) (Nat.le_of_ble_eq_true rfl) (Nat.le_of_ble_eq_true rfl) ?_
        refine lv_iconst (v := nI 0) hx hb d_M_bit_122 (by decide +kernel) ?_
        exact r_iret E hr hlk hP hD hS (rfl) (((x1, x2, x3, sz, fr, fv, x4), upd fb mn (nI b))) rfl (by have z := br_4 h_b h_rep c5 (Or.inl ⟨c52, rfl, rfl⟩) c115 hw; exact ⟨congrArg nI z.1.symm, z.2⟩) d_M_bit_123
    · skip
      refine lv_iconst (v := nI 0) hx hb d_M_bit_55 (by decide +kernel) ?_
      refine lv_istore_n (lv' := [(2, .int (nI 0)), (0, .ref h), (1, .int (nI b))]) hx hb d_M_bit_56 rfl hl (by decide) rfl (fun ls hl => ?_)
      rw [← sf_0 fb] at hP hD
      refine L_M_bit_57 l D cB cI h xb xr xv xw xs xc st md mn ro sz wn sn th fb fr fv fc b E hA (fun H locs ls _ hP hD hS hl => ?_) 15 0 _ _ ls (by omega) hP hD hS (lv_sub hl [1, 2, 0] rfl)
      refine lv_aload_n hx hb d_M_bit_83 rfl (lv_at hl 0 rfl) ?_
      refine lv_bipush (v := nI 15) hx hb d_M_bit_84 (by decide +kernel) ?_
      refine r_put E hP hD hS 0 fl_M_43 rfl rfl (rfl) (rfl) (ws' := [(h, .inr (4, [.int th, .int (nI st), .int (nI md), .ref xb, .int (nI 15), .ref xr, .int (nI ro), .ref xv, .int (nI sz), .ref xw, .int (nI wn), .ref xs, .int (nI sn), .ref xc])), (xb, .inl (cI, 64, .inl (sf fb 15))), (xr, .inl (cI, 259, .inl fr)), (xv, .inl (cI, 259, .inl fv)), (xc, .inl (cI, 5, .inl fc))]) rfl d_M_bit_86 (fun H locs hP hD hS => ?_)
      refine lv_aload_n hx hb d_M_bit_89 rfl (lv_at hl 0 rfl) ?_
      refine r_get E hP 0 fl_M_7 rfl rfl d_M_bit_90 ?_
      refine lv_aload_n hx hb d_M_bit_93 rfl (lv_at hl 0 rfl) ?_
      refine r_get E hP 0 fl_M_43 rfl rfl d_M_bit_94 ?_
      refine lv_iload_n hx hb d_M_bit_97 rfl (lv_at hl 1 rfl) ?_
      refine r_iast E hP hD hS 1 rfl (by have := b6 c5; omega) (by decide) (ws' := [(h, .inr (4, [.int th, .int (nI st), .int (nI md), .ref xb, .int (nI 15), .ref xr, .int (nI ro), .ref xv, .int (nI sz), .ref xw, .int (nI wn), .ref xs, .int (nI sn), .ref xc])), (xb, .inl (cI, 64, .inl (upd (sf fb 15) 15 (nI b)))), (xr, .inl (cI, 259, .inl fr)), (xv, .inl (cI, 259, .inl fv)), (xc, .inl (cI, 5, .inl fc))]) rfl d_M_bit_98 (fun H locs hP hD hS => ?_)
      refine lv_aload_n hx hb d_M_bit_99 rfl (lv_at hl 0 rfl) ?_
      refine lv_dup hx hb d_M_bit_100 rfl ?_
      refine r_get E hP 0 fl_M_43 rfl rfl d_M_bit_101 ?_
      refine lv_iconst (v := nI 1) hx hb d_M_bit_104 (by decide +kernel) ?_
      refine r_iadd hx hb d_M_bit_105 ?_
      refine r_put E hP hD hS 0 fl_M_43 rfl rfl (rfl) (rfl) (ws' := [(h, .inr (4, [.int th, .int (nI st), .int (nI md), .ref xb, .int (nI (15 + 1)), .ref xr, .int (nI ro), .ref xv, .int (nI sz), .ref xw, .int (nI wn), .ref xs, .int (nI sn), .ref xc])), (xb, .inl (cI, 64, .inl (upd (sf fb 15) 15 (nI b)))), (xr, .inl (cI, 259, .inl fr)), (xv, .inl (cI, 259, .inl fv)), (xc, .inl (cI, 5, .inl fc))]) rfl d_M_bit_106 (fun H locs hP hD hS => ?_)
      refine lv_aload_n hx hb d_M_bit_109 rfl (lv_at hl 0 rfl) ?_
      refine r_get E hP 0 fl_M_43 rfl rfl d_M_bit_110 ?_
      refine lv_bipush (v := nI 16) hx hb d_M_bit_113 (by decide +kernel) ?_
      refine r_icmp_ne (tgt := 122) hx hb ⟨by have := b6 c5; omega, by omega⟩ d_M_bit_115 (by decide) (fun c115 => ?_) (fun c115 => ?_)
      · skip
        refine lv_iconst (v := nI 0) hx hb d_M_bit_122 (by decide +kernel) ?_
        exact r_iret E hr hlk hP hD hS (rfl) (((st, 15 + 1, ro, sz, fr, fv, fc), upd (sf fb 15) 15 (nI b))) rfl (by have z := br_3 h_b h_rep c5 (Or.inr ⟨c52, rfl, rfl⟩) c115; exact ⟨congrArg nI z.1.symm, z.2⟩) d_M_bit_123
      · skip
        refine lv_aload_n hx hb d_M_bit_118 rfl (lv_at hl 0 rfl) ?_
        refine r_callVV (wr := [(xr, .inl (cI, 259, .inl fr)), (xv, .inl (cI, 259, .inl fv))]) (rest := []) E cs_M_67 (c_M_look l D cB cI h xb xr xv xw xs xc st md (15 + 1) ro sz wn sn th (upd (sf fb 15) 15 (nI b)) (wb16 ((2 * rcB u + b) % 2 ^ 64)) (wb16_lt _) (br_4b h_b h_rep c5 (Or.inr ⟨c52, rfl, rfl⟩) c115) fc b2) hP hD hS hA [0, 1, 4] [2, 3] ⟨rfl, rfl, by decide, by decide, by decide⟩ kc_M rfl hl.1 rfl rfl (Nat.le_of_ble_eq_true rfl) ⟨by decide, by decide⟩ ⟨by decide, by decide⟩ d_M_bit_119 (fun u9 H locs hw hP hD hS => ?_)
        obtain ⟨x1, x2, x3, x4⟩ := u9
        have hP : va_P D classes [(h, .inr (4, [.int th, .int (nI x1), .int (nI md), .ref xb, .int (nI x2), .ref xr, .int (nI x3), .ref xv, .int (nI sz), .ref xw, .int (nI wn), .ref xs, .int (nI sn), .ref xc])), (xb, .inl (cI, 64, .inl (upd (sf fb 15) 15 (nI b)))), (xr, .inl (cI, 259, .inl fr)), (xv, .inl (cI, 259, .inl fv)), (xc, .inl (cI, 5, .inl x4))] H := hP.sub [2, 3, 0, 1, 4] rfl
        have hD : va_D A [(h, .inr (4, [.int th, .int (nI x1), .int (nI md), .ref xb, .int (nI x2), .ref xr, .int (nI x3), .ref xv, .int (nI sz), .ref xw, .int (nI wn), .ref xs, .int (nI sn), .ref xc])), (xb, .inl (cI, 64, .inl (upd (sf fb 15) 15 (nI b)))), (xr, .inl (cI, 259, .inl fr)), (xv, .inl (cI, 259, .inl fv)), (xc, .inl (cI, 5, .inl x4))] := hD.sub [2, 3, 0, 1, 4] (by decide) rfl
        refine W.widen (k := 0) (n := 0) (Nat.le_of_ble_eq_true rfl) (Nat.le_of_ble_eq_true rfl) ?_
        refine lv_iconst (v := nI 0) hx hb d_M_bit_122 (by decide +kernel) ?_
        exact r_iret E hr hlk hP hD hS (rfl) (((x1, x2, x3, sz, fr, fv, x4), upd (sf fb 15) 15 (nI b))) rfl (by have z := br_4 h_b h_rep c5 (Or.inr ⟨c52, rfl, rfl⟩) c115 hw; exact ⟨congrArg nI z.1.symm, z.2⟩) d_M_bit_123
  · skip
    refine lv_aload_n hx hb d_M_bit_8 rfl (lv_at hl 0 rfl) ?_
    refine r_get E hP 0 fl_M_7 rfl rfl d_M_bit_9 ?_
    refine lv_aload_n hx hb d_M_bit_12 rfl (lv_at hl 0 rfl) ?_
    refine r_get E hP 0 fl_M_43 rfl rfl d_M_bit_13 ?_
    refine lv_iload_n hx hb d_M_bit_16 rfl (lv_at hl 1 rfl) ?_
    refine r_iast E hP hD hS 1 rfl (by have := b5 c5; omega) (by decide) (ws' := [(h, .inr (4, [.int th, .int (nI st), .int (nI md), .ref xb, .int (nI mn), .ref xr, .int (nI ro), .ref xv, .int (nI sz), .ref xw, .int (nI wn), .ref xs, .int (nI sn), .ref xc])), (xb, .inl (cI, 64, .inl (upd fb mn (nI b)))), (xr, .inl (cI, 259, .inl fr)), (xv, .inl (cI, 259, .inl fv)), (xc, .inl (cI, 5, .inl fc))]) rfl d_M_bit_17 (fun H locs hP hD hS => ?_)
    refine lv_aload_n hx hb d_M_bit_18 rfl (lv_at hl 0 rfl) ?_
    refine lv_dup hx hb d_M_bit_19 rfl ?_
    refine r_get E hP 0 fl_M_43 rfl rfl d_M_bit_20 ?_
    refine lv_iconst (v := nI 1) hx hb d_M_bit_23 (by decide +kernel) ?_
    refine r_iadd hx hb d_M_bit_24 ?_
    refine r_put E hP hD hS 0 fl_M_43 rfl rfl (rfl) (rfl) (ws' := [(h, .inr (4, [.int th, .int (nI st), .int (nI md), .ref xb, .int (nI (mn + 1)), .ref xr, .int (nI ro), .ref xv, .int (nI sz), .ref xw, .int (nI wn), .ref xs, .int (nI sn), .ref xc])), (xb, .inl (cI, 64, .inl (upd fb mn (nI b)))), (xr, .inl (cI, 259, .inl fr)), (xv, .inl (cI, 259, .inl fv)), (xc, .inl (cI, 5, .inl fc))]) rfl d_M_bit_25 (fun H locs hP hD hS => ?_)
    refine lv_aload_n hx hb d_M_bit_28 rfl (lv_at hl 0 rfl) ?_
    refine r_get E hP 0 fl_M_43 rfl rfl d_M_bit_29 ?_
    refine lv_bipush (v := nI 64) hx hb d_M_bit_32 (by decide +kernel) ?_
    refine r_icmp_ne (tgt := 44) hx hb ⟨by have := b5 c5; omega, by omega⟩ d_M_bit_34 (by decide) (fun c34 => ?_) (fun c34 => ?_)
    · skip
      refine lv_iconst (v := nI 0) hx hb d_M_bit_44 (by decide +kernel) ?_
      exact r_iret E hr hlk hP hD hS (rfl) (((st, mn + 1, ro, sz, fr, fv, fc), upd fb mn (nI b))) rfl (by have z := br_1 h_b h_rep c5 c34; exact ⟨congrArg nI z.1.symm, z.2⟩) d_M_bit_45
    · skip
      refine lv_aload_n hx hb d_M_bit_37 rfl (lv_at hl 0 rfl) ?_
      refine r_callVI (wr := []) (rest := []) E cs_M_64 (c_M_block l D cB cI h xb xr xv xw xs xc st md (mn + 1) ro sz wn sn th (upd fb mn (nI b)) (b64 ((2 * rcB u + b) % 2 ^ 64)) (b64_lt _) (br_2b h_b h_rep c34) fr fv fc b2 b3) hP hD hS hA [0, 1, 2, 3, 4] [] ⟨rfl, rfl, by decide, by decide, by decide⟩ kc_M rfl hl.1 rfl rfl (Nat.le_of_ble_eq_true rfl) ⟨by decide, by decide⟩ ⟨by decide, by decide⟩ d_M_bit_38 (fun r u9 H locs hw hP hD hS => ?_)
      obtain ⟨x1, x2, x3, x4, x5, x6, x7⟩ := u9
      obtain ⟨hw, rfl⟩ := hw
      have hP : va_P D classes [(h, .inr (4, [.int th, .int (nI x1), .int (nI md), .ref xb, .int (nI x2), .ref xr, .int (nI x3), .ref xv, .int (nI x4), .ref xw, .int (nI wn), .ref xs, .int (nI sn), .ref xc])), (xb, .inl (cI, 64, .inl (upd fb mn (nI b)))), (xr, .inl (cI, 259, .inl x5)), (xv, .inl (cI, 259, .inl x6)), (xc, .inl (cI, 5, .inl x7))] H := hP.sub [0, 1, 2, 3, 4] rfl
      have hD : va_D A [(h, .inr (4, [.int th, .int (nI x1), .int (nI md), .ref xb, .int (nI x2), .ref xr, .int (nI x3), .ref xv, .int (nI x4), .ref xw, .int (nI wn), .ref xs, .int (nI sn), .ref xc])), (xb, .inl (cI, 64, .inl (upd fb mn (nI b)))), (xr, .inl (cI, 259, .inl x5)), (xv, .inl (cI, 259, .inl x6)), (xc, .inl (cI, 5, .inl x7))] := hD.sub [0, 1, 2, 3, 4] (by decide) rfl
      refine W.widen (k := 0) (n := 0) (Nat.le_of_ble_eq_true rfl) (Nat.le_of_ble_eq_true rfl) ?_
      refine lv_goto (tgt := 45) hx hb d_M_bit_41 (by decide) ?_
      exact r_iret E hr hlk hP hD hS (rfl) (((x1, x2, x3, x4, x5, x6, x7), upd fb mn (nI b))) rfl (by have z := br_2 (b := b) h_rep c5 c34 (upd fb mn (nI b)); rw [← hw] at z; exact ⟨congrArg nI z.1, z.2⟩) d_M_bit_45

abbrev rm_M_take : Room := { frames := 4, cells := 0, slots := 0, locals := 92 }
def wMt (cI : ClassId) (h xb xr xv xw xs xc md wn sn : Nat) (th : Int32) : MB × (Nat → Int32) → va_W := fun ((st, mn, ro, sz, fr, fv, fc), fb) => [(h, .inr (4, [.int th, .int (nI st), .int (nI md), .ref xb, .int (nI mn), .ref xr, .int (nI ro), .ref xv, .int (nI sz), .ref xw, .int (nI wn), .ref xs, .int (nI sn), .ref xc])), (xb, .inl (cI, 64, .inl fb)), (xr, .inl (cI, 259, .inl fr)), (xv, .inl (cI, 259, .inl fv)), (xc, .inl (cI, 5, .inl fc))]
set_option maxHeartbeats 4000000 in
set_option maxRecDepth 100000 in
theorem L_M_take_33 (l : Launch) (D : va_G) (cB cI : ClassId) (h xb xr xv xw xs xc md wn sn : Nat) (th : Int32) (w : Nat) (h_wv : w < 2 ^ 64) (F : RC) (tt : Nat) {p : Program} {e : Env} {s : State} {m : MethodId} {args : Array Value} {below : List Frame} {meth : Method} {c : Code} {A : Nat → Prop} {Q : State → Prop} (E : Ev p m c b_M_take 6 s args "CodeBlocksModel" D cB cI) (hA : ∀ q : Nat, s.heap.size ≤ q → A q)
    (K : ∀ (t : MB × (Nat → Int32)) (H : Heap) (locs : List Loc) (ls : Array Slot), (MRep F md t.2 t.1) → va_P D classes (wMt cI h xb xr xv xw xs xc md wn sn th t) H → va_D A (wMt cI h xb xr xv xw xs xc md wn sn th t) → va_S A s.heap H locs → lv_has ls 6 [(4, .int (nI tt))] → W p l e rm_M_take s m args below meth c H locs 0 0 Q (F0 m 60 ls [])) :
    ∀ (n : Nat) (u : RC) (t : MB × (Nat → Int32)) (e0 : Nat) (H : Heap) (locs : List Loc) (ls : Array Slot), (n ≤ 64 ∧ RInv u ∧ MRep u md t.2 t.1 ∧ (rc_take w n u).1 = F ∧ e0 + (rc_take w n u).2 = tt) → va_P D classes (wMt cI h xb xr xv xw xs xc md wn sn th t) H → va_D A (wMt cI h xb xr xv xw xs xc md wn sn th t) → va_S A s.heap H locs → lv_has ls 6 [(0, .ref h), (2, .long (lN w)), (4, .int (nI e0)), (5, .int (kd n))] → W p l e rm_M_take s m args below meth c H locs 0 0 Q (F0 m 33 ls []) := by
  have hx := E.1.1
  have hb := E.1.2.1
  intro n
  induction n with
  | zero =>
    intro u t e0 H locs ls hi hP hD hS hl
    obtain ⟨i1, i2, i3, i4, i5⟩ := hi
    obtain rfl : u = F := i4
    obtain rfl : e0 = tt := i5
    have hl : lv_has ls 6 [(0, .ref h), (2, .long (lN w)), (4, .int (nI e0)), (5, .int (-1))] := hl
    refine lv_iload hx hb d_M_take_33 (lv_at hl 3 rfl) ?_
    refine lv_if_lt (tgt := 60) hx hb d_M_take_35 (by decide) (fun c35 => ?_) (fun c35 => False.elim (c35 (by decide)))
    exact K t H locs ls (i3) hP hD hS (lv_sub hl [2] rfl)
  | succ n ih =>
    intro u t e0 H locs ls hi hP hD hS hl
    obtain ⟨i1, i2, i3, i4, i5⟩ := hi
    obtain ⟨⟨st, mn, ro, sz, fr, fv, fc⟩, fb⟩ := t
    have hP : va_P D classes [(h, .inr (4, [.int th, .int (nI st), .int (nI md), .ref xb, .int (nI mn), .ref xr, .int (nI ro), .ref xv, .int (nI sz), .ref xw, .int (nI wn), .ref xs, .int (nI sn), .ref xc])), (xb, .inl (cI, 64, .inl fb)), (xr, .inl (cI, 259, .inl fr)), (xv, .inl (cI, 259, .inl fv)), (xc, .inl (cI, 5, .inl fc))] H := hP
    have hD : va_D A [(h, .inr (4, [.int th, .int (nI st), .int (nI md), .ref xb, .int (nI mn), .ref xr, .int (nI ro), .ref xv, .int (nI sz), .ref xw, .int (nI wn), .ref xs, .int (nI sn), .ref xc])), (xb, .inl (cI, 64, .inl fb)), (xr, .inl (cI, 259, .inl fr)), (xv, .inl (cI, 259, .inl fv)), (xc, .inl (cI, 5, .inl fc))] := hD
    have hl : lv_has ls 6 [(0, .ref h), (2, .long (lN w)), (4, .int (nI e0)), (5, .int (nI n))] := hl
    refine lv_iload hx hb d_M_take_33 (lv_at hl 3 rfl) ?_
    refine r_if_lt hx hb (by omega) (tgt := 60) d_M_take_35 (by decide) ?_
    refine lv_iload hx hb d_M_take_38 (lv_at hl 2 rfl) ?_
    refine lv_aload_n hx hb d_M_take_40 rfl (lv_at hl 0 rfl) ?_
    refine lv_lload_n hx hb d_M_take_41 rfl (lv_at hl 1 rfl) ?_
    refine lv_iload hx hb d_M_take_42 (lv_at hl 3 rfl) ?_
    refine lv_lshr (v := lN w >>> ((nI n).toInt64 &&& 63)) hx hb d_M_take_44 rfl ?_
    refine lv_l2i (v := (lN w >>> ((nI n).toInt64 &&& 63)).toInt32) hx hb d_M_take_45 rfl ?_
    refine lv_iconst (v := nI 1) hx hb d_M_take_46 (by decide +kernel) ?_
    refine lv_iand hx hb d_M_take_47 ?_
    refine r_topi (y := nI (w / 2 ^ n % 2)) (sh_bit h_wv (by omega)) ?_
    refine r_callVI (wr := []) (rest := [.int (nI e0)]) E cs_M_70 (c_M_bit l D cB cI h xb xr xv xw xs xc st md mn ro sz wn sn th fb fr fv fc u (w / 2 ^ n % 2) (Nat.mod_lt _ (by decide)) i3 i2) hP hD hS hA [0, 1, 2, 3, 4] [] ⟨rfl, rfl, by decide, by decide, by decide⟩ kc_M rfl hl.1 rfl rfl (Nat.le_of_ble_eq_true rfl) ⟨by decide, by decide⟩ ⟨by decide, by decide⟩ d_M_take_48 (fun r u9 H locs hw hP hD hS => ?_)
    obtain ⟨rfl, hw⟩ := hw
    have hP : va_P D classes (wMt cI h xb xr xv xw xs xc md wn sn th u9) H := hP
    have hD : va_D A (wMt cI h xb xr xv xw xs xc md wn sn th u9) := hD
    refine W.widen (k := 0) (n := 0) (Nat.le_of_ble_eq_true rfl) (Nat.le_of_ble_eq_true rfl) ?_
    refine r_iadd hx hb d_M_take_51 ?_
    refine lv_istore (lv' := [(4, .int (nI (e0 + ((rc_bit (w / 2 ^ n % 2) u).2)))), (0, .ref h), (2, .long (lN w)), (5, .int (nI n))]) hx hb d_M_take_52 hl (by decide) rfl (fun ls hl => ?_)
    refine lv_iinc (v := kd n) (lv' := [(5, .int (kd n)), (4, .int (nI (e0 + ((rc_bit (w / 2 ^ n % 2) u).2)))), (0, .ref h), (2, .long (lN w))]) hx hb d_M_take_54 hl (k := 3) rfl (kd_pred n) (by decide) rfl (fun ls hl => ?_)
    refine lv_goto (tgt := 33) hx hb d_M_take_57 (by decide) ?_
    exact ih _ u9 _ H locs ls (⟨by omega, ri_bit _ i2, hw, i4, (Nat.add_assoc _ _ _).trans i5⟩) hP hD hS (lv_sub hl [2, 3, 1, 0] rfl)

set_option maxHeartbeats 4000000 in
set_option maxRecDepth 100000 in
/-- take(n, w) -/
theorem c_M_take (l : Launch) (D : va_G) (cB cI : ClassId) (h xb xr xv xw xs xc st md mn ro sz wn sn : Nat) (th : Int32) (fb fr fv fc : Nat → Int32) (u : RC) (p0 : Int32) (w : Nat) (h_wv : w < 2 ^ 64) (h_rep : MRep u md fb (st, mn, ro, sz, fr, fv, fc)) (h_inv : RInv u) : MI l D cB cI y_M_take b_M_take 6 (some .int) rm_M_take [.ref h, .int p0, .long (lN w)] [(h, .inr (4, [.int th, .int (nI st), .int (nI md), .ref xb, .int (nI mn), .ref xr, .int (nI ro), .ref xv, .int (nI sz), .ref xw, .int (nI wn), .ref xs, .int (nI sn), .ref xc])), (xb, .inl (cI, 64, .inl fb)), (xr, .inl (cI, 259, .inl fr)), (xv, .inl (cI, 259, .inl fv)), (xc, .inl (cI, 5, .inl fc))] (fun (v : Int32) (t : MB × (Nat → Int32)) => ((st = 0 ∨ p0 < nI 1 ∨ ¬ p0 ≤ nI 64) → v = -1 ∧ t = ((st, mn, ro, sz, fr, fv, fc), fb)) ∧ ∀ k, st ≠ 0 → 1 ≤ k → k ≤ 64 → p0 = nI k → v = nI (rc_take w k u).2 ∧ MRep (rc_take w k u).1 md t.2 t.1) (wMt cI h xb xr xv xw xs xc md wn sn 0) := by
  refine m_entryI (by decide +kernel) (Nat.le_of_ble_eq_true rfl) ?_
  intro p e s m below meth c ls A E hr hlk hnm hA hP hD hl
  have hx := E.1.1
  have hb := E.1.2.1
  have hS : va_S A s.heap s.heap [] := va_S.rf
  have hl : lv_has ls 6 [(0, .ref h), (1, .int p0), (2, .long (lN w))] := hl
  obtain ⟨b1, b2, b3, b4, b5, b6, b7⟩ := rep_bd h_rep h_inv
  refine lv_aload_n hx hb d_M_take_0 rfl (lv_at hl 0 rfl) ?_
  refine lv_iconst (v := nI 0) hx hb d_M_take_1 (by decide +kernel) ?_
  refine r_put E hP hD hS 0 fl_M_28 rfl rfl (rfl) (rfl) (ws' := [(h, .inr (4, [.int (nI 0), .int (nI st), .int (nI md), .ref xb, .int (nI mn), .ref xr, .int (nI ro), .ref xv, .int (nI sz), .ref xw, .int (nI wn), .ref xs, .int (nI sn), .ref xc])), (xb, .inl (cI, 64, .inl fb)), (xr, .inl (cI, 259, .inl fr)), (xv, .inl (cI, 259, .inl fv)), (xc, .inl (cI, 5, .inl fc))]) rfl d_M_take_2 (fun H locs hP hD hS => ?_)
  refine lv_aload_n hx hb d_M_take_5 rfl (lv_at hl 0 rfl) ?_
  refine r_get E hP 0 fl_M_40 rfl rfl d_M_take_6 ?_
  refine r_if_eq (tgt := 23) hx hb (by omega) d_M_take_9 (by decide) (fun c9 => ?_) (fun c9 => ?_)
  · skip
    refine lv_iconst (v := (-1)) hx hb d_M_take_23 (by decide +kernel) ?_
    exact r_iret E hr hlk hP hD hS (rfl) (((st, mn, ro, sz, fr, fv, fc), fb)) rfl (⟨fun _ => ⟨rfl, rfl⟩, fun k z1 z2 z3 z4 => absurd c9 (z1)⟩) d_M_take_24
  · skip
    refine lv_iload_n hx hb d_M_take_12 rfl (lv_at hl 1 rfl) ?_
    refine lv_iconst (v := nI 1) hx hb d_M_take_13 (by decide +kernel) ?_
    skip
    refine lv_icmp_lt (tgt := 23) hx hb d_M_take_14 (by decide) (fun c14 => ?_) (fun c14 => ?_)
    · skip
      refine lv_iconst (v := (-1)) hx hb d_M_take_23 (by decide +kernel) ?_
      exact r_iret E hr hlk hP hD hS (rfl) (((st, mn, ro, sz, fr, fv, fc), fb)) rfl (⟨fun _ => ⟨rfl, rfl⟩, fun k z1 z2 z3 z4 => absurd c14 (by subst z4; exact nI_nlt z2 (by omega))⟩) d_M_take_24
    · skip
      refine lv_iload_n hx hb d_M_take_17 rfl (lv_at hl 1 rfl) ?_
      refine lv_bipush (v := nI 64) hx hb d_M_take_18 (by decide +kernel) ?_
      skip
      refine lv_icmp_le (tgt := 25) hx hb d_M_take_20 (by decide) (fun c20 => ?_) (fun c20 => ?_)
      · skip
        obtain ⟨k, hk1, hk2, rfl⟩ := k64 c14 c20
        refine lv_iconst (v := nI 0) hx hb d_M_take_25 (by decide +kernel) ?_
        refine lv_istore (lv' := [(4, .int (nI 0)), (0, .ref h), (1, .int (nI k)), (2, .long (lN w))]) hx hb d_M_take_26 hl (by decide) rfl (fun ls hl => ?_)
        refine lv_iload_n hx hb d_M_take_28 rfl (lv_at hl 2 rfl) ?_
        refine lv_iconst (v := nI 1) hx hb d_M_take_29 (by decide +kernel) ?_
        refine r_isub hx hb hk1 d_M_take_30 ?_
        refine r_topi (y := kd k) (kd_of hk1) ?_
        refine lv_istore (lv' := [(5, .int (kd k)), (4, .int (nI 0)), (0, .ref h), (1, .int (nI k)), (2, .long (lN w))]) hx hb d_M_take_31 hl (by decide) rfl (fun ls hl => ?_)
        refine L_M_take_33 l D cB cI h xb xr xv xw xs xc md wn sn (nI 0) w h_wv _ _ E hA (fun t H locs ls i1 hP hD hS hl => ?_) k u ((st, mn, ro, sz, fr, fv, fc), fb) 0 _ _ ls ⟨hk2, h_inv, h_rep, rfl, Nat.zero_add _⟩ hP hD hS (lv_sub hl [2, 4, 1, 0] rfl)
        refine lv_iload hx hb d_M_take_60 (lv_at hl 0 rfl) ?_
        exact r_iret E hr hlk hP hD hS (rfl) (t) rfl (⟨fun z => z.elim (fun z => absurd z c9) (fun z => z.elim (fun z => absurd z c14) (fun z => absurd c20 z)), fun k2 z1 z2 z3 z4 => by obtain rfl : k = k2 := (nI_eq (by omega) (by omega)).mp z4; exact ⟨rfl, i1⟩⟩) d_M_take_62
      · skip
        refine lv_iconst (v := (-1)) hx hb d_M_take_23 (by decide +kernel) ?_
        exact r_iret E hr hlk hP hD hS (rfl) (((st, mn, ro, sz, fr, fv, fc), fb)) rfl (⟨fun _ => ⟨rfl, rfl⟩, fun k z1 z2 z3 z4 => absurd (show p0 ≤ nI 64 by subst z4; exact nI_le z3 (by decide)) (c20)⟩) d_M_take_24
end
section
/-! what is sent: the check by trying all is the register's; bytes of the words -/
theorem dv_byte {p : Nat → Nat} (hp : ∀ i, p i < 256) (z : Nat) : ∀ n i, i < n → dv p z n / 2 ^ (8 * (n - 1 - i)) % 256 = p (z + i)
  | 0, i, h => absurd h (Nat.not_lt_zero i)
  | n + 1, i, h => by
    have h2 := hp (z + n)
    rw [dv]
    by_cases q : i = n
    · subst q
      rw [show i + 1 - 1 - i = 0 by omega, Nat.mul_zero, Nat.pow_zero, Nat.div_one]
      omega
    · rw [show 8 * (n + 1 - 1 - i) = 8 + 8 * (n - 1 - i) by omega, Nat.pow_add, ← Nat.div_div_eq_div_mul, show (dv p z n * 256 + p (z + n)) / 2 ^ 8 = dv p z n by omega]
      exact dv_byte hp z n i (by omega)
theorem dv_bit {p : Nat → Nat} (hp : ∀ i, p i < 256) (z k : Nat) (hk : k < 56) : p (z + k / 8) / 2 ^ (7 - k % 8) % 2 = dv p z 7 / 2 ^ (55 - k) % 2 := by
  rw [← dv_byte hp z 7 (k / 8) (by omega), show 256 = 2 ^ 8 from rfl, modbit (by omega), Nat.div_div_eq_div_mul, ← Nat.pow_add]
  congr 3
  omega
theorem rm7_c : ∀ c, c < 128 → rm7 (fun k => if k < 56 then 0 else c / 2 ^ (62 - k) % 2) 63 = c := by decide +kernel
theorem b127 : ∀ i, i < 7 → 127 / 2 ^ i % 2 = 1 := by decide +kernel
theorem n1 {x : Nat} (h : x < 2) : 1 - x = x ^^^ 1 := by
  rcases (show x = 0 ∨ x = 1 by omega) with rfl | rfl <;> rfl
theorem cb_crc {p : Nat → Nat} (hp : ∀ i, p i < 256) (z c : Nat) (hc : c < 128) : rm7 (cb p z c) 63 = crc (dv p z 7) ^^^ (c ^^^ 127) := by
  rw [crc, ← rm7_c (c ^^^ 127) (sp_x127 c hc), ← rm7_xor 63 (fun j _ => db_lt _ j) (fun j _ => by show (if j < 56 then 0 else (c ^^^ 127) / 2 ^ (62 - j) % 2) < 2; split <;> omega)]
  refine rm7_eq 63 (fun j hj => ?_)
  show cb p z c j = db (dv p z 7) j ^^^ (if j < 56 then 0 else (c ^^^ 127) / 2 ^ (62 - j) % 2)
  rw [cb, db]
  by_cases h : j < 56
  · rw [if_pos h, if_pos h, if_pos h, Nat.xor_zero, dv_bit hp z j h]
  · rw [if_neg h, if_neg h, if_neg h, Nat.zero_xor, xbit, b127 _ (by omega), n1 (Nat.mod_lt _ (by decide))]
theorem x127_2 : ∀ u, u < 128 → (u ^^^ 127) ^^^ 127 = u := fun u _ => by rw [Nat.xor_assoc, Nat.xor_self, Nat.xor_zero]
theorem fch_c {p : Nat → Nat} (hp : ∀ i, p i < 256) (z : Nat) : ∀ n, n ≤ 128 → fch p z n = if crc (dv p z 7) ^^^ 127 < n then 2 * (crc (dv p z 7) ^^^ 127) else 0
  | 0, _ => by rw [fch, if_neg (Nat.not_lt_zero _)]
  | n + 1, h => by
    rw [fch, cb_crc hp z n (by omega), fch_c hp z n (by omega)]
    by_cases q : crc (dv p z 7) ^^^ 127 = n
    · rw [if_pos (xor_0.mpr (by rw [← q, x127_2 _ (crc_lt _)])), if_pos (by omega), q]
    · rw [if_neg (fun w => q (by rw [xor_0.mp w, x127_2 n (by omega)]))]
      by_cases q2 : crc (dv p z 7) ^^^ 127 < n
      · rw [if_pos q2, if_pos (by omega)]
      · rw [if_neg q2, if_neg (by omega)]
theorem fch_128 {p : Nat → Nat} (hp : ∀ i, p i < 256) (z : Nat) : fch p z 128 = 2 * (crc (dv p z 7) ^^^ 127) := by
  rw [fch_c hp z 128 (Nat.le_refl _), if_pos (sp_x127 _ (crc_lt _))]
theorem blk_7 (d : Nat) : blk d % 256 = 2 * (crc d ^^^ 127) := by
  have := sp_x127 _ (crc_lt d)
  rw [blk]
  omega
theorem blk_t (d t : Nat) (ht : t < 7) : blk d / 2 ^ (56 - 8 * t) % 256 = d / 2 ^ (48 - 8 * t) % 256 := by
  have := sp_x127 _ (crc_lt d)
  rw [show 56 - 8 * t = 8 + (48 - 8 * t) by omega, Nat.pow_add, ← Nat.div_div_eq_div_mul, blk, show (d * 256 + 2 * (crc d ^^^ 127)) / 2 ^ 8 = d by omega]
theorem en_data {f : Nat → Int32} {fl q t : Nat} (hq : 7 * q < fl) (ht : t < 7) : en f fl (2 + 8 * q + t) = pd f fl (7 * q + t) := by
  rw [en_at f fl q t (by omega), ew_in hq, blk_t _ _ ht, ← dv_byte (pd_lt f fl) (7 * q) 7 t ht, show 8 * (7 - 1 - t) = 48 - 8 * t by omega]
theorem en_chk {f : Nat → Int32} {fl q : Nat} (hq : 7 * q < fl) : en f fl (2 + 8 * q + 7) = fch (pd f fl) (7 * q) 128 := by
  rw [en_at f fl q 7 (by omega), ew_in hq, show 56 - 8 * 7 = 0 from rfl, Nat.pow_zero, Nat.div_one, blk_7, fch_128 (pd_lt f fl)]
theorem tl_t : ∀ t, t < 7 → 14251014049101104505 / 2 ^ (56 - 8 * t) % 256 = 197 := by decide +kernel
theorem en_tail {f : Nat → Int32} {fl q t : Nat} (hq : fl ≤ 7 * q) (ht : t < 7) : en f fl (2 + 8 * q + t) = 197 := by
  rw [en_at f fl q t (by omega), ew_out hq, tl_t t ht]
theorem en_last {f : Nat → Int32} {fl q : Nat} (hq : fl ≤ 7 * q) : en f fl (2 + 8 * q + 7) = 121 := by
  rw [en_at f fl q 7 (by omega), ew_out hq]
/-- one byte more -/
theorem en_one {f fs : Nat → Int32} {fl k x : Nat} (h : ∀ j, j < k → fs j = nI (en f fl j)) (hx : en f fl k = x) : ∀ j, j < k + 1 → upd fs k (nI x) j = nI (en f fl j) := by
  intro j hj
  by_cases q : j = k
  · subst q
    rw [upd_s, hx]
  · rw [upd_n q]
    exact h j (by omega)
theorem pd_pad {f fw : Nat → Int32} {fl m : Nat} (hm : fl ≤ m) (h : ∀ j, j < m → fw j = nI (pd f fl j)) : ∀ j, j < m + 1 → upd fw m (nI 85) j = nI (pd f fl j) := by
  intro j hj
  by_cases q : j = m
  · subst q
    rw [upd_s, pd, if_neg (by omega)]
  · rw [upd_n q]
    exact h j (by omega)
end
section
abbrev rm_M_send : Room := { frames := 1, cells := 0, slots := 0, locals := 26 }
set_option maxHeartbeats 4000000 in
set_option maxRecDepth 100000 in
theorem L_M_send_14 (l : Launch) (D : va_G) (cB cI : ClassId) (h xb xr xv xw xs xc st md mn ro sz wn sn : Nat) (f : Nat → Int32) (h_wn : wn ≤ 259) (fs : Nat → Int32) {p : Program} {e : Env} {s : State} {m : MethodId} {args : Array Value} {below : List Frame} {meth : Method} {c : Code} {A : Nat → Prop} {Q : State → Prop} (E : Ev p m c b_M_send 3 s args "CodeBlocksModel" D cB cI) (hA : ∀ q : Nat, s.heap.size ≤ q → A q)
    (K : ∀ (fw : Nat → Int32) (H : Heap) (locs : List Loc) (ls : Array Slot), (∀ j, j < 7 * ((wn + 6) / 7) → fw j = nI (pd f wn j)) → va_P D classes [(h, .inr (4, [.int (nI 0), .int (nI st), .int (nI md), .ref xb, .int (nI mn), .ref xr, .int (nI ro), .ref xv, .int (nI sz), .ref xw, .int (nI (7 * ((wn + 6) / 7))), .ref xs, .int (nI sn), .ref xc])), (xw, .inl (cI, 259, .inl fw)), (xs, .inl (cI, 306, .inl fs))] H → va_D A [(h, .inr (4, [.int (nI 0), .int (nI st), .int (nI md), .ref xb, .int (nI mn), .ref xr, .int (nI ro), .ref xv, .int (nI sz), .ref xw, .int (nI (7 * ((wn + 6) / 7))), .ref xs, .int (nI sn), .ref xc])), (xw, .inl (cI, 259, .inl fw)), (xs, .inl (cI, 306, .inl fs))] → va_S A s.heap H locs → lv_has ls 3 [(0, .ref h)] → W p l e rm_M_send s m args below meth c H locs 0 0 Q (F0 m 48 ls [])) :
    ∀ (n : Nat) (m_ : Nat) (fw : Nat → Int32) (H : Heap) (locs : List Loc) (ls : Array Slot), (m_ + n = 7 * ((wn + 6) / 7) ∧ wn ≤ m_ ∧ ∀ j, j < m_ → fw j = nI (pd f wn j)) → va_P D classes [(h, .inr (4, [.int (nI 0), .int (nI st), .int (nI md), .ref xb, .int (nI mn), .ref xr, .int (nI ro), .ref xv, .int (nI sz), .ref xw, .int (nI m_), .ref xs, .int (nI sn), .ref xc])), (xw, .inl (cI, 259, .inl fw)), (xs, .inl (cI, 306, .inl fs))] H → va_D A [(h, .inr (4, [.int (nI 0), .int (nI st), .int (nI md), .ref xb, .int (nI mn), .ref xr, .int (nI ro), .ref xv, .int (nI sz), .ref xw, .int (nI m_), .ref xs, .int (nI sn), .ref xc])), (xw, .inl (cI, 259, .inl fw)), (xs, .inl (cI, 306, .inl fs))] → va_S A s.heap H locs → lv_has ls 3 [(0, .ref h)] → W p l e rm_M_send s m args below meth c H locs 0 0 Q (F0 m 14 ls []) := by
  have hx := E.1.1
  have hb := E.1.2.1
  intro n
  induction n with
  | zero =>
    intro m_ fw H locs ls hi hP hD hS hl
    obtain ⟨i1, i2, i3⟩ := hi
    obtain rfl : m_ = 7 * ((wn + 6) / 7) := by omega
    refine lv_aload_n hx hb d_M_send_14 rfl (lv_at hl 0 rfl) ?_
    refine r_get E hP 0 fl_M_74 rfl rfl d_M_send_15 ?_
    refine lv_bipush (v := nI 7) hx hb d_M_send_18 (by decide +kernel) ?_
    refine r_irem hx hb (by omega) d_M_send_20 ?_
    refine r_if_eq (tgt := 48) hx hb (by omega) d_M_send_21 (by decide) (fun c21 => ?_) (fun c21 => False.elim (by omega))
    exact K fw H locs ls (i3) hP hD hS (lv_sub hl [0] rfl)
  | succ n ih =>
    intro m_ fw H locs ls hi hP hD hS hl
    obtain ⟨i1, i2, i3⟩ := hi
    refine lv_aload_n hx hb d_M_send_14 rfl (lv_at hl 0 rfl) ?_
    refine r_get E hP 0 fl_M_74 rfl rfl d_M_send_15 ?_
    refine lv_bipush (v := nI 7) hx hb d_M_send_18 (by decide +kernel) ?_
    refine r_irem hx hb (by omega) d_M_send_20 ?_
    refine r_if_eq (tgt := 48) hx hb (by omega) d_M_send_21 (by decide) (fun c21 => False.elim (by omega)) (fun c21 => ?_)
    refine lv_aload_n hx hb d_M_send_24 rfl (lv_at hl 0 rfl) ?_
    refine r_get E hP 0 fl_M_19 rfl rfl d_M_send_25 ?_
    refine lv_aload_n hx hb d_M_send_28 rfl (lv_at hl 0 rfl) ?_
    refine r_get E hP 0 fl_M_74 rfl rfl d_M_send_29 ?_
    refine lv_bipush (v := nI 85) hx hb d_M_send_32 (by decide +kernel) ?_
    refine r_iast E hP hD hS 1 rfl (by omega) (by decide) (ws' := [(h, .inr (4, [.int (nI 0), .int (nI st), .int (nI md), .ref xb, .int (nI mn), .ref xr, .int (nI ro), .ref xv, .int (nI sz), .ref xw, .int (nI m_), .ref xs, .int (nI sn), .ref xc])), (xw, .inl (cI, 259, .inl (upd fw m_ (nI 85)))), (xs, .inl (cI, 306, .inl fs))]) rfl d_M_send_34 (fun H locs hP hD hS => ?_)
    refine lv_aload_n hx hb d_M_send_35 rfl (lv_at hl 0 rfl) ?_
    refine lv_dup hx hb d_M_send_36 rfl ?_
    refine r_get E hP 0 fl_M_74 rfl rfl d_M_send_37 ?_
    refine lv_iconst (v := nI 1) hx hb d_M_send_40 (by decide +kernel) ?_
    refine r_iadd hx hb d_M_send_41 ?_
    refine r_put E hP hD hS 0 fl_M_74 rfl rfl (rfl) (rfl) (ws' := [(h, .inr (4, [.int (nI 0), .int (nI st), .int (nI md), .ref xb, .int (nI mn), .ref xr, .int (nI ro), .ref xv, .int (nI sz), .ref xw, .int (nI (m_ + 1)), .ref xs, .int (nI sn), .ref xc])), (xw, .inl (cI, 259, .inl (upd fw m_ (nI 85)))), (xs, .inl (cI, 306, .inl fs))]) rfl d_M_send_42 (fun H locs hP hD hS => ?_)
    refine lv_goto (tgt := 14) hx hb d_M_send_45 (by decide) ?_
    exact ih (m_ + 1) (upd fw m_ (nI 85)) H locs ls (⟨by omega, by omega, pd_pad i2 i3⟩) hP hD hS (lv_sub hl [0] rfl)

set_option maxHeartbeats 4000000 in
set_option maxRecDepth 100000 in
theorem L_M_send_79 (l : Launch) (D : va_G) (cB cI : ClassId) (h xb xr xv xw xs xc st md mn ro sz wn sn : Nat) (f : Nat → Int32) (h_wn : wn ≤ 259) (fw : Nat → Int32) (h_f : ∀ j, j < 7 * ((wn + 6) / 7) → fw j = nI (pd f wn j)) (q : Nat) (h_q : 7 * q < wn) {p : Program} {e : Env} {s : State} {m : MethodId} {args : Array Value} {below : List Frame} {meth : Method} {c : Code} {A : Nat → Prop} {Q : State → Prop} (E : Ev p m c b_M_send 3 s args "CodeBlocksModel" D cB cI) (hA : ∀ q : Nat, s.heap.size ≤ q → A q)
    (K : ∀ (fs : Nat → Int32) (H : Heap) (locs : List Loc) (ls : Array Slot), (∀ j, j < 2 + 8 * q + 7 → fs j = nI (en f wn j)) → va_P D classes [(h, .inr (4, [.int (nI 0), .int (nI st), .int (nI md), .ref xb, .int (nI mn), .ref xr, .int (nI ro), .ref xv, .int (nI sz), .ref xw, .int (nI (7 * ((wn + 6) / 7))), .ref xs, .int (nI (2 + 8 * q + 7)), .ref xc])), (xw, .inl (cI, 259, .inl fw)), (xs, .inl (cI, 306, .inl fs))] H → va_D A [(h, .inr (4, [.int (nI 0), .int (nI st), .int (nI md), .ref xb, .int (nI mn), .ref xr, .int (nI ro), .ref xv, .int (nI sz), .ref xw, .int (nI (7 * ((wn + 6) / 7))), .ref xs, .int (nI (2 + 8 * q + 7)), .ref xc])), (xw, .inl (cI, 259, .inl fw)), (xs, .inl (cI, 306, .inl fs))] → va_S A s.heap H locs → lv_has ls 3 [(0, .ref h), (1, .int (nI (7 * q)))] → W p l e rm_M_send s m args below meth c H locs 0 0 Q (F0 m 103 ls [])) :
    ∀ (n : Nat) (k : Nat) (fs : Nat → Int32) (H : Heap) (locs : List Loc) (ls : Array Slot), (k + n = 7 ∧ ∀ j, j < 2 + 8 * q + k → fs j = nI (en f wn j)) → va_P D classes [(h, .inr (4, [.int (nI 0), .int (nI st), .int (nI md), .ref xb, .int (nI mn), .ref xr, .int (nI ro), .ref xv, .int (nI sz), .ref xw, .int (nI (7 * ((wn + 6) / 7))), .ref xs, .int (nI (2 + 8 * q + k)), .ref xc])), (xw, .inl (cI, 259, .inl fw)), (xs, .inl (cI, 306, .inl fs))] H → va_D A [(h, .inr (4, [.int (nI 0), .int (nI st), .int (nI md), .ref xb, .int (nI mn), .ref xr, .int (nI ro), .ref xv, .int (nI sz), .ref xw, .int (nI (7 * ((wn + 6) / 7))), .ref xs, .int (nI (2 + 8 * q + k)), .ref xc])), (xw, .inl (cI, 259, .inl fw)), (xs, .inl (cI, 306, .inl fs))] → va_S A s.heap H locs → lv_has ls 3 [(0, .ref h), (1, .int (nI (7 * q))), (2, .int (nI k))] → W p l e rm_M_send s m args below meth c H locs 0 0 Q (F0 m 79 ls []) := by
  have hx := E.1.1
  have hb := E.1.2.1
  intro n
  induction n with
  | zero =>
    intro k fs H locs ls hi hP hD hS hl
    obtain ⟨i1, i2⟩ := hi
    obtain rfl : k = 7 := by omega
    have hl : lv_has ls 3 [(0, .ref h), (1, .int (nI (7 * q))), (2, .int (nI 7))] := hl
    refine lv_iload_n hx hb d_M_send_79 rfl (lv_at hl 2 rfl) ?_
    refine lv_bipush (v := nI 7) hx hb d_M_send_80 (by decide +kernel) ?_
    refine r_icmp_ge (tgt := 103) hx hb ⟨by omega, by omega⟩ d_M_send_82 (by decide) (fun c82 => ?_) (fun c82 => False.elim (by omega))
    exact K fs H locs ls (i2) hP hD hS (lv_sub hl [0, 1] rfl)
  | succ n ih =>
    intro k fs H locs ls hi hP hD hS hl
    obtain ⟨i1, i2⟩ := hi
    refine lv_iload_n hx hb d_M_send_79 rfl (lv_at hl 2 rfl) ?_
    refine lv_bipush (v := nI 7) hx hb d_M_send_80 (by decide +kernel) ?_
    refine r_icmp_ge (tgt := 103) hx hb ⟨by omega, by omega⟩ d_M_send_82 (by decide) (fun c82 => False.elim (by omega)) (fun c82 => ?_)
    refine lv_aload_n hx hb d_M_send_85 rfl (lv_at hl 0 rfl) ?_
    refine lv_aload_n hx hb d_M_send_86 rfl (lv_at hl 0 rfl) ?_
    refine r_get E hP 0 fl_M_19 rfl rfl d_M_send_87 ?_
    refine lv_iload_n hx hb d_M_send_90 rfl (lv_at hl 1 rfl) ?_
    refine lv_iload_n hx hb d_M_send_91 rfl (lv_at hl 2 rfl) ?_
    refine r_iadd hx hb d_M_send_92 ?_
    refine r_iald E hP 1 rfl (by omega) (by decide) d_M_send_93 ?_
    refine r_topi (y := nI (pd f wn (7 * q + k))) (h_f _ (by omega)) ?_
    refine r_callVV (wr := [(xw, .inl (cI, 259, .inl fw))]) (rest := []) E cs_M_80 (c_M_out l D cB cI h xb xr xv xw xs xc st md mn ro sz (7 * ((wn + 6) / 7)) (2 + 8 * q + k) (nI 0) fs (nI (pd f wn (7 * q + k))) (by omega)) hP hD hS hA [0, 2] [1] ⟨rfl, rfl, by decide, by decide, by decide⟩ kc_M rfl hl.1 rfl rfl (Nat.le_of_ble_eq_true rfl) ⟨by decide, by decide⟩ ⟨by decide, by decide⟩ d_M_send_94 (fun u H locs hw hP hD hS => ?_)
    have hP : va_P D classes [(h, .inr (4, [.int (nI 0), .int (nI st), .int (nI md), .ref xb, .int (nI mn), .ref xr, .int (nI ro), .ref xv, .int (nI sz), .ref xw, .int (nI (7 * ((wn + 6) / 7))), .ref xs, .int (nI (2 + 8 * q + k + 1)), .ref xc])), (xw, .inl (cI, 259, .inl fw)), (xs, .inl (cI, 306, .inl (upd fs (2 + 8 * q + k) (nI (pd f wn (7 * q + k))))))] H := hP.sub [1, 0, 2] rfl
    have hD : va_D A [(h, .inr (4, [.int (nI 0), .int (nI st), .int (nI md), .ref xb, .int (nI mn), .ref xr, .int (nI ro), .ref xv, .int (nI sz), .ref xw, .int (nI (7 * ((wn + 6) / 7))), .ref xs, .int (nI (2 + 8 * q + k + 1)), .ref xc])), (xw, .inl (cI, 259, .inl fw)), (xs, .inl (cI, 306, .inl (upd fs (2 + 8 * q + k) (nI (pd f wn (7 * q + k))))))] := hD.sub [1, 0, 2] (by decide) rfl
    refine W.widen (k := 0) (n := 0) (Nat.le_of_ble_eq_true rfl) (Nat.le_of_ble_eq_true rfl) ?_
    refine lv_iinc (v := nI (k + 1)) (lv' := [(2, .int (nI (k + 1))), (0, .ref h), (1, .int (nI (7 * q)))]) hx hb d_M_send_97 hl (k := 2) rfl (nI_add _ _) (by decide) rfl (fun ls hl => ?_)
    refine lv_goto (tgt := 79) hx hb d_M_send_100 (by decide) ?_
    exact ih (k + 1) (upd fs (2 + 8 * q + k) (nI (pd f wn (7 * q + k)))) H locs ls (⟨by omega, en_one i2 (en_data h_q (by omega))⟩) hP hD hS (lv_sub hl [1, 2, 0] rfl)

set_option maxHeartbeats 4000000 in
set_option maxRecDepth 100000 in
theorem L_M_send_69 (l : Launch) (D : va_G) (cB cI : ClassId) (h xb xr xv xw xs xc st md mn ro sz wn sn : Nat) (f : Nat → Int32) (h_wn : wn ≤ 259) (fw : Nat → Int32) (h_f : ∀ j, j < 7 * ((wn + 6) / 7) → fw j = nI (pd f wn j)) {p : Program} {e : Env} {s : State} {m : MethodId} {args : Array Value} {below : List Frame} {meth : Method} {c : Code} {A : Nat → Prop} {Q : State → Prop} (E : Ev p m c b_M_send 3 s args "CodeBlocksModel" D cB cI) (hA : ∀ q : Nat, s.heap.size ≤ q → A q)
    (K : ∀ (fs : Nat → Int32) (H : Heap) (locs : List Loc) (ls : Array Slot), (∀ j, j < 2 + 8 * ((wn + 6) / 7) → fs j = nI (en f wn j)) → va_P D classes [(h, .inr (4, [.int (nI 0), .int (nI st), .int (nI md), .ref xb, .int (nI mn), .ref xr, .int (nI ro), .ref xv, .int (nI sz), .ref xw, .int (nI (7 * ((wn + 6) / 7))), .ref xs, .int (nI (2 + 8 * ((wn + 6) / 7))), .ref xc])), (xw, .inl (cI, 259, .inl fw)), (xs, .inl (cI, 306, .inl fs))] H → va_D A [(h, .inr (4, [.int (nI 0), .int (nI st), .int (nI md), .ref xb, .int (nI mn), .ref xr, .int (nI ro), .ref xv, .int (nI sz), .ref xw, .int (nI (7 * ((wn + 6) / 7))), .ref xs, .int (nI (2 + 8 * ((wn + 6) / 7))), .ref xc])), (xw, .inl (cI, 259, .inl fw)), (xs, .inl (cI, 306, .inl fs))] → va_S A s.heap H locs → lv_has ls 3 [(0, .ref h)] → W p l e rm_M_send s m args below meth c H locs 0 0 Q (F0 m 118 ls [])) :
    ∀ (n : Nat) (q : Nat) (fs : Nat → Int32) (H : Heap) (locs : List Loc) (ls : Array Slot), (q + n = ((wn + 6) / 7) ∧ ∀ j, j < 2 + 8 * q → fs j = nI (en f wn j)) → va_P D classes [(h, .inr (4, [.int (nI 0), .int (nI st), .int (nI md), .ref xb, .int (nI mn), .ref xr, .int (nI ro), .ref xv, .int (nI sz), .ref xw, .int (nI (7 * ((wn + 6) / 7))), .ref xs, .int (nI (2 + 8 * q)), .ref xc])), (xw, .inl (cI, 259, .inl fw)), (xs, .inl (cI, 306, .inl fs))] H → va_D A [(h, .inr (4, [.int (nI 0), .int (nI st), .int (nI md), .ref xb, .int (nI mn), .ref xr, .int (nI ro), .ref xv, .int (nI sz), .ref xw, .int (nI (7 * ((wn + 6) / 7))), .ref xs, .int (nI (2 + 8 * q)), .ref xc])), (xw, .inl (cI, 259, .inl fw)), (xs, .inl (cI, 306, .inl fs))] → va_S A s.heap H locs → lv_has ls 3 [(0, .ref h), (1, .int (nI (7 * q)))] → W p l e rm_M_send s m args below meth c H locs 0 0 Q (F0 m 69 ls []) := by
  have hx := E.1.1
  have hb := E.1.2.1
  intro n
  induction n with
  | zero =>
    intro q fs H locs ls hi hP hD hS hl
    obtain ⟨i1, i2⟩ := hi
    obtain rfl : q = ((wn + 6) / 7) := by omega
    have hl : lv_has ls 3 [(0, .ref h), (1, .int (nI (7 * ((wn + 6) / 7))))] := hl
    refine lv_iload_n hx hb d_M_send_69 rfl (lv_at hl 1 rfl) ?_
    refine lv_aload_n hx hb d_M_send_70 rfl (lv_at hl 0 rfl) ?_
    refine r_get E hP 0 fl_M_74 rfl rfl d_M_send_71 ?_
    refine r_icmp_ge (tgt := 118) hx hb ⟨by omega, by omega⟩ d_M_send_74 (by decide) (fun c74 => ?_) (fun c74 => False.elim (by omega))
    exact K fs H locs ls (i2) hP hD hS (lv_sub hl [0] rfl)
  | succ n ih =>
    intro q fs H locs ls hi hP hD hS hl
    obtain ⟨i1, i2⟩ := hi
    refine lv_iload_n hx hb d_M_send_69 rfl (lv_at hl 1 rfl) ?_
    refine lv_aload_n hx hb d_M_send_70 rfl (lv_at hl 0 rfl) ?_
    refine r_get E hP 0 fl_M_74 rfl rfl d_M_send_71 ?_
    refine r_icmp_ge (tgt := 118) hx hb ⟨by omega, by omega⟩ d_M_send_74 (by decide) (fun c74 => False.elim (by omega)) (fun c74 => ?_)
    refine lv_iconst (v := nI 0) hx hb d_M_send_77 (by decide +kernel) ?_
    refine lv_istore_n (lv' := [(2, .int (nI 0)), (0, .ref h), (1, .int (nI (7 * q)))]) hx hb d_M_send_78 rfl hl (by decide) rfl (fun ls hl => ?_)
    refine L_M_send_79 l D cB cI h xb xr xv xw xs xc st md mn ro sz wn sn f h_wn fw h_f q (by omega) E hA (fun fs H locs ls i3 hP hD hS hl => ?_) 7 0 _ _ _ ls ⟨by omega, i2⟩ hP hD hS (lv_sub hl [1, 2, 0] rfl)
    refine lv_aload_n hx hb d_M_send_103 rfl (lv_at hl 0 rfl) ?_
    refine lv_aload_n hx hb d_M_send_104 rfl (lv_at hl 0 rfl) ?_
    refine lv_iload_n hx hb d_M_send_105 rfl (lv_at hl 1 rfl) ?_
    refine r_callVI (wr := [(xs, .inl (cI, 306, .inl fs))]) (rest := [.ref h]) E cs_M_83 (c_M_check l D cB cI h xb xr xv xw xs xc st md mn ro sz (7 * ((wn + 6) / 7)) (2 + 8 * q + 7) (nI 0) fw (pd f wn) (7 * q) (pd_lt f wn) (fun i hi => h_f _ (by omega)) (by omega)) hP hD hS hA [0, 1] [2] ⟨rfl, rfl, by decide, by decide, by decide⟩ kc_M rfl hl.1 rfl rfl (Nat.le_of_ble_eq_true rfl) ⟨by decide, by decide⟩ ⟨by decide, by decide⟩ d_M_send_106 (fun r u H locs hw hP hD hS => ?_)
    subst hw
    have hP : va_P D classes [(h, .inr (4, [.int (nI 0), .int (nI st), .int (nI md), .ref xb, .int (nI mn), .ref xr, .int (nI ro), .ref xv, .int (nI sz), .ref xw, .int (nI (7 * ((wn + 6) / 7))), .ref xs, .int (nI (2 + 8 * q + 7)), .ref xc])), (xw, .inl (cI, 259, .inl fw)), (xs, .inl (cI, 306, .inl fs))] H := hP.sub [1, 2, 0] rfl
    have hD : va_D A [(h, .inr (4, [.int (nI 0), .int (nI st), .int (nI md), .ref xb, .int (nI mn), .ref xr, .int (nI ro), .ref xv, .int (nI sz), .ref xw, .int (nI (7 * ((wn + 6) / 7))), .ref xs, .int (nI (2 + 8 * q + 7)), .ref xc])), (xw, .inl (cI, 259, .inl fw)), (xs, .inl (cI, 306, .inl fs))] := hD.sub [1, 2, 0] (by decide) rfl
    refine W.widen (k := 0) (n := 0) (Nat.le_of_ble_eq_true rfl) (Nat.le_of_ble_eq_true rfl) ?_
    refine r_callVV (wr := [(xw, .inl (cI, 259, .inl fw))]) (rest := []) E cs_M_80 (c_M_out l D cB cI h xb xr xv xw xs xc st md mn ro sz (7 * ((wn + 6) / 7)) (2 + 8 * q + 7) (nI 0) fs (nI (fch (pd f wn) (7 * q) 128)) (by omega)) hP hD hS hA [0, 2] [1] ⟨rfl, rfl, by decide, by decide, by decide⟩ kc_M rfl hl.1 rfl rfl (Nat.le_of_ble_eq_true rfl) ⟨by decide, by decide⟩ ⟨by decide, by decide⟩ d_M_send_109 (fun u H locs hw hP hD hS => ?_)
    have hP : va_P D classes [(h, .inr (4, [.int (nI 0), .int (nI st), .int (nI md), .ref xb, .int (nI mn), .ref xr, .int (nI ro), .ref xv, .int (nI sz), .ref xw, .int (nI (7 * ((wn + 6) / 7))), .ref xs, .int (nI (2 + 8 * q + 7 + 1)), .ref xc])), (xw, .inl (cI, 259, .inl fw)), (xs, .inl (cI, 306, .inl (upd fs (2 + 8 * q + 7) (nI (fch (pd f wn) (7 * q) 128)))))] H := hP.sub [1, 0, 2] rfl
    have hD : va_D A [(h, .inr (4, [.int (nI 0), .int (nI st), .int (nI md), .ref xb, .int (nI mn), .ref xr, .int (nI ro), .ref xv, .int (nI sz), .ref xw, .int (nI (7 * ((wn + 6) / 7))), .ref xs, .int (nI (2 + 8 * q + 7 + 1)), .ref xc])), (xw, .inl (cI, 259, .inl fw)), (xs, .inl (cI, 306, .inl (upd fs (2 + 8 * q + 7) (nI (fch (pd f wn) (7 * q) 128)))))] := hD.sub [1, 0, 2] (by decide) rfl
    refine W.widen (k := 0) (n := 0) (Nat.le_of_ble_eq_true rfl) (Nat.le_of_ble_eq_true rfl) ?_
    refine lv_iinc (v := nI (7 * (q + 1))) (lv' := [(1, .int (nI (7 * (q + 1)))), (0, .ref h)]) hx hb d_M_send_112 hl (k := 1) rfl ((nI_add (7 * q) 7).trans (congrArg nI (by omega))) (by decide) rfl (fun ls hl => ?_)
    refine lv_goto (tgt := 69) hx hb d_M_send_115 (by decide) ?_
    exact ih (q + 1) _ H locs ls ⟨by omega, en_one i3 (en_chk (by omega))⟩ hP hD hS (lv_sub hl [1, 0] rfl)

set_option maxHeartbeats 4000000 in
set_option maxRecDepth 100000 in
theorem L_M_send_120 (l : Launch) (D : va_G) (cB cI : ClassId) (h xb xr xv xw xs xc st md mn ro sz wn sn : Nat) (f : Nat → Int32) (h_wn : wn ≤ 259) (fw : Nat → Int32) (h_f : ∀ j, j < 7 * ((wn + 6) / 7) → fw j = nI (pd f wn j)) {p : Program} {e : Env} {s : State} {m : MethodId} {args : Array Value} {below : List Frame} {meth : Method} {c : Code} {A : Nat → Prop} {Q : State → Prop} (E : Ev p m c b_M_send 3 s args "CodeBlocksModel" D cB cI) (hA : ∀ q : Nat, s.heap.size ≤ q → A q)
    (K : ∀ (fs : Nat → Int32) (H : Heap) (locs : List Loc) (ls : Array Slot), (∀ j, j < 2 + 8 * ((wn + 6) / 7) + 7 → fs j = nI (en f wn j)) → va_P D classes [(h, .inr (4, [.int (nI 0), .int (nI st), .int (nI md), .ref xb, .int (nI mn), .ref xr, .int (nI ro), .ref xv, .int (nI sz), .ref xw, .int (nI (7 * ((wn + 6) / 7))), .ref xs, .int (nI (2 + 8 * ((wn + 6) / 7) + 7)), .ref xc])), (xw, .inl (cI, 259, .inl fw)), (xs, .inl (cI, 306, .inl fs))] H → va_D A [(h, .inr (4, [.int (nI 0), .int (nI st), .int (nI md), .ref xb, .int (nI mn), .ref xr, .int (nI ro), .ref xv, .int (nI sz), .ref xw, .int (nI (7 * ((wn + 6) / 7))), .ref xs, .int (nI (2 + 8 * ((wn + 6) / 7) + 7)), .ref xc])), (xw, .inl (cI, 259, .inl fw)), (xs, .inl (cI, 306, .inl fs))] → va_S A s.heap H locs → lv_has ls 3 [(0, .ref h)] → W p l e rm_M_send s m args below meth c H locs 0 0 Q (F0 m 139 ls [])) :
    ∀ (n : Nat) (k : Nat) (fs : Nat → Int32) (H : Heap) (locs : List Loc) (ls : Array Slot), (k + n = 7 ∧ ∀ j, j < 2 + 8 * ((wn + 6) / 7) + k → fs j = nI (en f wn j)) → va_P D classes [(h, .inr (4, [.int (nI 0), .int (nI st), .int (nI md), .ref xb, .int (nI mn), .ref xr, .int (nI ro), .ref xv, .int (nI sz), .ref xw, .int (nI (7 * ((wn + 6) / 7))), .ref xs, .int (nI (2 + 8 * ((wn + 6) / 7) + k)), .ref xc])), (xw, .inl (cI, 259, .inl fw)), (xs, .inl (cI, 306, .inl fs))] H → va_D A [(h, .inr (4, [.int (nI 0), .int (nI st), .int (nI md), .ref xb, .int (nI mn), .ref xr, .int (nI ro), .ref xv, .int (nI sz), .ref xw, .int (nI (7 * ((wn + 6) / 7))), .ref xs, .int (nI (2 + 8 * ((wn + 6) / 7) + k)), .ref xc])), (xw, .inl (cI, 259, .inl fw)), (xs, .inl (cI, 306, .inl fs))] → va_S A s.heap H locs → lv_has ls 3 [(0, .ref h), (1, .int (nI k))] → W p l e rm_M_send s m args below meth c H locs 0 0 Q (F0 m 120 ls []) := by
  have hx := E.1.1
  have hb := E.1.2.1
  intro n
  induction n with
  | zero =>
    intro k fs H locs ls hi hP hD hS hl
    obtain ⟨i1, i2⟩ := hi
    obtain rfl : k = 7 := by omega
    have hl : lv_has ls 3 [(0, .ref h), (1, .int (nI 7))] := hl
    refine lv_iload_n hx hb d_M_send_120 rfl (lv_at hl 1 rfl) ?_
    refine lv_bipush (v := nI 7) hx hb d_M_send_121 (by decide +kernel) ?_
    refine r_icmp_ge (tgt := 139) hx hb ⟨by omega, by omega⟩ d_M_send_123 (by decide) (fun c123 => ?_) (fun c123 => False.elim (by omega))
    exact K fs H locs ls (i2) hP hD hS (lv_sub hl [0] rfl)
  | succ n ih =>
    intro k fs H locs ls hi hP hD hS hl
    obtain ⟨i1, i2⟩ := hi
    refine lv_iload_n hx hb d_M_send_120 rfl (lv_at hl 1 rfl) ?_
    refine lv_bipush (v := nI 7) hx hb d_M_send_121 (by decide +kernel) ?_
    refine r_icmp_ge (tgt := 139) hx hb ⟨by omega, by omega⟩ d_M_send_123 (by decide) (fun c123 => False.elim (by omega)) (fun c123 => ?_)
    refine lv_aload_n hx hb d_M_send_126 rfl (lv_at hl 0 rfl) ?_
    refine lv_sipush (v := nI 197) hx hb d_M_send_127 (by decide +kernel) ?_
    refine r_callVV (wr := [(xw, .inl (cI, 259, .inl fw))]) (rest := []) E cs_M_80 (c_M_out l D cB cI h xb xr xv xw xs xc st md mn ro sz (7 * ((wn + 6) / 7)) (2 + 8 * ((wn + 6) / 7) + k) (nI 0) fs (nI 197) (by omega)) hP hD hS hA [0, 2] [1] ⟨rfl, rfl, by decide, by decide, by decide⟩ kc_M rfl hl.1 rfl rfl (Nat.le_of_ble_eq_true rfl) ⟨by decide, by decide⟩ ⟨by decide, by decide⟩ d_M_send_130 (fun u H locs hw hP hD hS => ?_)
    have hP : va_P D classes [(h, .inr (4, [.int (nI 0), .int (nI st), .int (nI md), .ref xb, .int (nI mn), .ref xr, .int (nI ro), .ref xv, .int (nI sz), .ref xw, .int (nI (7 * ((wn + 6) / 7))), .ref xs, .int (nI (2 + 8 * ((wn + 6) / 7) + k + 1)), .ref xc])), (xw, .inl (cI, 259, .inl fw)), (xs, .inl (cI, 306, .inl (upd fs (2 + 8 * ((wn + 6) / 7) + k) (nI 197))))] H := hP.sub [1, 0, 2] rfl
    have hD : va_D A [(h, .inr (4, [.int (nI 0), .int (nI st), .int (nI md), .ref xb, .int (nI mn), .ref xr, .int (nI ro), .ref xv, .int (nI sz), .ref xw, .int (nI (7 * ((wn + 6) / 7))), .ref xs, .int (nI (2 + 8 * ((wn + 6) / 7) + k + 1)), .ref xc])), (xw, .inl (cI, 259, .inl fw)), (xs, .inl (cI, 306, .inl (upd fs (2 + 8 * ((wn + 6) / 7) + k) (nI 197))))] := hD.sub [1, 0, 2] (by decide) rfl
    refine W.widen (k := 0) (n := 0) (Nat.le_of_ble_eq_true rfl) (Nat.le_of_ble_eq_true rfl) ?_
    refine lv_iinc (v := nI (k + 1)) (lv' := [(1, .int (nI (k + 1))), (0, .ref h)]) hx hb d_M_send_133 hl (k := 1) rfl (nI_add _ _) (by decide) rfl (fun ls hl => ?_)
    refine lv_goto (tgt := 120) hx hb d_M_send_136 (by decide) ?_
    exact ih (k + 1) (upd fs (2 + 8 * ((wn + 6) / 7) + k) (nI 197)) H locs ls (⟨by omega, en_one i2 (en_tail (by omega) (by omega))⟩) hP hD hS (lv_sub hl [1, 0] rfl)

set_option maxHeartbeats 4000000 in
set_option maxRecDepth 100000 in
/-- send() -/
theorem c_M_send (l : Launch) (D : va_G) (cB cI : ClassId) (h xb xr xv xw xs xc st md mn ro sz wn sn : Nat) (th : Int32) (fw fs f : Nat → Int32) (h_wn : wn ≤ 259) (h_w : ∀ j, j < wn → fw j = nI (bN (f j))) : MI l D cB cI y_M_send b_M_send 3 (some .int) rm_M_send [.ref h] [(h, .inr (4, [.int th, .int (nI st), .int (nI md), .ref xb, .int (nI mn), .ref xr, .int (nI ro), .ref xv, .int (nI sz), .ref xw, .int (nI wn), .ref xs, .int (nI sn), .ref xc])), (xw, .inl (cI, 259, .inl fw)), (xs, .inl (cI, 306, .inl fs))] (fun (v : Int32) (t : Nat × Nat × (Nat → Int32) × (Nat → Int32)) => (wn = 0 → v = -1 ∧ t = (wn, sn, fw, fs)) ∧ (wn ≠ 0 → v = nI (10 + 8 * ((wn + 6) / 7)) ∧ t.1 = 0 ∧ t.2.1 = 10 + 8 * ((wn + 6) / 7) ∧ ∀ j, j < 10 + 8 * ((wn + 6) / 7) → t.2.2.2 j = nI (en f wn j))) (fun t => [(h, .inr (4, [.int (nI 0), .int (nI st), .int (nI md), .ref xb, .int (nI mn), .ref xr, .int (nI ro), .ref xv, .int (nI sz), .ref xw, .int (nI t.1), .ref xs, .int (nI t.2.1), .ref xc])), (xw, .inl (cI, 259, .inl t.2.2.1)), (xs, .inl (cI, 306, .inl t.2.2.2))]) := by
  refine m_entryI (by decide +kernel) (Nat.le_of_ble_eq_true rfl) ?_
  intro p e s m below meth c ls A E hr hlk hnm hA hP hD hl
  have hx := E.1.1
  have hb := E.1.2.1
  have hS : va_S A s.heap s.heap [] := va_S.rf
  have hl : lv_has ls 3 [(0, .ref h)] := hl
  refine lv_aload_n hx hb d_M_send_0 rfl (lv_at hl 0 rfl) ?_
  refine lv_iconst (v := nI 0) hx hb d_M_send_1 (by decide +kernel) ?_
  refine r_put E hP hD hS 0 fl_M_28 rfl rfl (rfl) (rfl) (ws' := [(h, .inr (4, [.int (nI 0), .int (nI st), .int (nI md), .ref xb, .int (nI mn), .ref xr, .int (nI ro), .ref xv, .int (nI sz), .ref xw, .int (nI wn), .ref xs, .int (nI sn), .ref xc])), (xw, .inl (cI, 259, .inl fw)), (xs, .inl (cI, 306, .inl fs))]) rfl d_M_send_2 (fun H locs hP hD hS => ?_)
  refine lv_aload_n hx hb d_M_send_5 rfl (lv_at hl 0 rfl) ?_
  refine r_get E hP 0 fl_M_74 rfl rfl d_M_send_6 ?_
  refine r_if_ne (tgt := 14) hx hb (by omega) d_M_send_9 (by decide) (fun c9 => ?_) (fun c9 => ?_)
  · skip
    refine L_M_send_14 l D cB cI h xb xr xv xw xs xc st md mn ro sz wn sn f h_wn fs E hA (fun fw H locs ls h_f hP hD hS hl => ?_) (7 * ((wn + 6) / 7) - wn) wn fw _ _ ls ⟨by omega, Nat.le_refl _, fun j hj => by rw [pd, if_pos hj]; exact h_w j hj⟩ hP hD hS (lv_sub hl [0] rfl)
    refine lv_aload_n hx hb d_M_send_48 rfl (lv_at hl 0 rfl) ?_
    refine lv_iconst (v := nI 0) hx hb d_M_send_49 (by decide +kernel) ?_
    refine r_put E hP hD hS 0 fl_M_77 rfl rfl (rfl) (rfl) (ws' := [(h, .inr (4, [.int (nI 0), .int (nI st), .int (nI md), .ref xb, .int (nI mn), .ref xr, .int (nI ro), .ref xv, .int (nI sz), .ref xw, .int (nI (7 * ((wn + 6) / 7))), .ref xs, .int (nI 0), .ref xc])), (xw, .inl (cI, 259, .inl fw)), (xs, .inl (cI, 306, .inl fs))]) rfl d_M_send_50 (fun H locs hP hD hS => ?_)
    refine lv_aload_n hx hb d_M_send_53 rfl (lv_at hl 0 rfl) ?_
    refine lv_sipush (v := nI 235) hx hb d_M_send_54 (by decide +kernel) ?_
    refine r_callVV (wr := [(xw, .inl (cI, 259, .inl fw))]) (rest := []) E cs_M_80 (c_M_out l D cB cI h xb xr xv xw xs xc st md mn ro sz (7 * ((wn + 6) / 7)) 0 (nI 0) fs (nI 235) (by omega)) hP hD hS hA [0, 2] [1] ⟨rfl, rfl, by decide, by decide, by decide⟩ kc_M rfl hl.1 rfl rfl (Nat.le_of_ble_eq_true rfl) ⟨by decide, by decide⟩ ⟨by decide, by decide⟩ d_M_send_57 (fun u H locs hw hP hD hS => ?_)
    have hP : va_P D classes [(h, .inr (4, [.int (nI 0), .int (nI st), .int (nI md), .ref xb, .int (nI mn), .ref xr, .int (nI ro), .ref xv, .int (nI sz), .ref xw, .int (nI (7 * ((wn + 6) / 7))), .ref xs, .int (nI (0 + 1)), .ref xc])), (xw, .inl (cI, 259, .inl fw)), (xs, .inl (cI, 306, .inl (upd fs 0 (nI 235))))] H := hP.sub [1, 0, 2] rfl
    have hD : va_D A [(h, .inr (4, [.int (nI 0), .int (nI st), .int (nI md), .ref xb, .int (nI mn), .ref xr, .int (nI ro), .ref xv, .int (nI sz), .ref xw, .int (nI (7 * ((wn + 6) / 7))), .ref xs, .int (nI (0 + 1)), .ref xc])), (xw, .inl (cI, 259, .inl fw)), (xs, .inl (cI, 306, .inl (upd fs 0 (nI 235))))] := hD.sub [1, 0, 2] (by decide) rfl
    refine W.widen (k := 0) (n := 0) (Nat.le_of_ble_eq_true rfl) (Nat.le_of_ble_eq_true rfl) ?_
    refine lv_aload_n hx hb d_M_send_60 rfl (lv_at hl 0 rfl) ?_
    refine lv_sipush (v := nI 144) hx hb d_M_send_61 (by decide +kernel) ?_
    refine r_callVV (wr := [(xw, .inl (cI, 259, .inl fw))]) (rest := []) E cs_M_80 (c_M_out l D cB cI h xb xr xv xw xs xc st md mn ro sz (7 * ((wn + 6) / 7)) (0 + 1) (nI 0) (upd fs 0 (nI 235)) (nI 144) (by omega)) hP hD hS hA [0, 2] [1] ⟨rfl, rfl, by decide, by decide, by decide⟩ kc_M rfl hl.1 rfl rfl (Nat.le_of_ble_eq_true rfl) ⟨by decide, by decide⟩ ⟨by decide, by decide⟩ d_M_send_64 (fun u H locs hw hP hD hS => ?_)
    have hP : va_P D classes [(h, .inr (4, [.int (nI 0), .int (nI st), .int (nI md), .ref xb, .int (nI mn), .ref xr, .int (nI ro), .ref xv, .int (nI sz), .ref xw, .int (nI (7 * ((wn + 6) / 7))), .ref xs, .int (nI (0 + 1 + 1)), .ref xc])), (xw, .inl (cI, 259, .inl fw)), (xs, .inl (cI, 306, .inl (upd (upd fs 0 (nI 235)) (0 + 1) (nI 144))))] H := hP.sub [1, 0, 2] rfl
    have hD : va_D A [(h, .inr (4, [.int (nI 0), .int (nI st), .int (nI md), .ref xb, .int (nI mn), .ref xr, .int (nI ro), .ref xv, .int (nI sz), .ref xw, .int (nI (7 * ((wn + 6) / 7))), .ref xs, .int (nI (0 + 1 + 1)), .ref xc])), (xw, .inl (cI, 259, .inl fw)), (xs, .inl (cI, 306, .inl (upd (upd fs 0 (nI 235)) (0 + 1) (nI 144))))] := hD.sub [1, 0, 2] (by decide) rfl
    refine W.widen (k := 0) (n := 0) (Nat.le_of_ble_eq_true rfl) (Nat.le_of_ble_eq_true rfl) ?_
    refine lv_iconst (v := nI 0) hx hb d_M_send_67 (by decide +kernel) ?_
    refine lv_istore_n (lv' := [(1, .int (nI 0)), (0, .ref h)]) hx hb d_M_send_68 rfl hl (by decide) rfl (fun ls hl => ?_)
    refine L_M_send_69 l D cB cI h xb xr xv xw xs xc st md mn ro sz wn sn f h_wn fw h_f E hA (fun fs H locs ls i2 hP hD hS hl => ?_) ((wn + 6) / 7) 0 _ _ _ ls ⟨by omega, fun j hj => by rcases (show j = 0 ∨ j = 1 by omega) with rfl | rfl; exact (upd_n (by decide)).trans upd_s; exact upd_s⟩ hP hD hS (lv_sub hl [1, 0] rfl)
    refine lv_iconst (v := nI 0) hx hb d_M_send_118 (by decide +kernel) ?_
    refine lv_istore_n (lv' := [(1, .int (nI 0)), (0, .ref h)]) hx hb d_M_send_119 rfl hl (by decide) rfl (fun ls hl => ?_)
    refine L_M_send_120 l D cB cI h xb xr xv xw xs xc st md mn ro sz wn sn f h_wn fw h_f E hA (fun fs H locs ls i3 hP hD hS hl => ?_) 7 0 _ _ _ ls ⟨by omega, i2⟩ hP hD hS (lv_sub hl [1, 0] rfl)
    refine lv_aload_n hx hb d_M_send_139 rfl (lv_at hl 0 rfl) ?_
    refine lv_bipush (v := nI 121) hx hb d_M_send_140 (by decide +kernel) ?_
    refine r_callVV (wr := [(xw, .inl (cI, 259, .inl fw))]) (rest := []) E cs_M_80 (c_M_out l D cB cI h xb xr xv xw xs xc st md mn ro sz (7 * ((wn + 6) / 7)) (2 + 8 * ((wn + 6) / 7) + 7) (nI 0) fs (nI 121) (by omega)) hP hD hS hA [0, 2] [1] ⟨rfl, rfl, by decide, by decide, by decide⟩ kc_M rfl hl.1 rfl rfl (Nat.le_of_ble_eq_true rfl) ⟨by decide, by decide⟩ ⟨by decide, by decide⟩ d_M_send_142 (fun u H locs hw hP hD hS => ?_)
    have hP : va_P D classes [(h, .inr (4, [.int (nI 0), .int (nI st), .int (nI md), .ref xb, .int (nI mn), .ref xr, .int (nI ro), .ref xv, .int (nI sz), .ref xw, .int (nI (7 * ((wn + 6) / 7))), .ref xs, .int (nI (2 + 8 * ((wn + 6) / 7) + 7 + 1)), .ref xc])), (xw, .inl (cI, 259, .inl fw)), (xs, .inl (cI, 306, .inl (upd fs (2 + 8 * ((wn + 6) / 7) + 7) (nI 121))))] H := hP.sub [1, 0, 2] rfl
    have hD : va_D A [(h, .inr (4, [.int (nI 0), .int (nI st), .int (nI md), .ref xb, .int (nI mn), .ref xr, .int (nI ro), .ref xv, .int (nI sz), .ref xw, .int (nI (7 * ((wn + 6) / 7))), .ref xs, .int (nI (2 + 8 * ((wn + 6) / 7) + 7 + 1)), .ref xc])), (xw, .inl (cI, 259, .inl fw)), (xs, .inl (cI, 306, .inl (upd fs (2 + 8 * ((wn + 6) / 7) + 7) (nI 121))))] := hD.sub [1, 0, 2] (by decide) rfl
    refine W.widen (k := 0) (n := 0) (Nat.le_of_ble_eq_true rfl) (Nat.le_of_ble_eq_true rfl) ?_
    refine lv_aload_n hx hb d_M_send_145 rfl (lv_at hl 0 rfl) ?_
    refine lv_iconst (v := nI 0) hx hb d_M_send_146 (by decide +kernel) ?_
    refine r_put E hP hD hS 0 fl_M_74 rfl rfl (rfl) (rfl) (ws' := [(h, .inr (4, [.int (nI 0), .int (nI st), .int (nI md), .ref xb, .int (nI mn), .ref xr, .int (nI ro), .ref xv, .int (nI sz), .ref xw, .int (nI 0), .ref xs, .int (nI (2 + 8 * ((wn + 6) / 7) + 7 + 1)), .ref xc])), (xw, .inl (cI, 259, .inl fw)), (xs, .inl (cI, 306, .inl (upd fs (2 + 8 * ((wn + 6) / 7) + 7) (nI 121))))]) rfl d_M_send_147 (fun H locs hP hD hS => ?_)
    refine lv_aload_n hx hb d_M_send_150 rfl (lv_at hl 0 rfl) ?_
    refine r_get E hP 0 fl_M_77 rfl rfl d_M_send_151 ?_
    exact r_iret E hr hlk hP hD hS (rfl) ((0, 2 + 8 * ((wn + 6) / 7) + 7 + 1, fw, _)) rfl (⟨fun z => absurd z c9, fun _ => ⟨congrArg nI (by omega), rfl, (show 2 + 8 * ((wn + 6) / 7) + 7 + 1 = _ by omega), fun j hj => en_one i3 (en_last (by omega)) j (by omega)⟩⟩) d_M_send_154
  · skip
    refine lv_iconst (v := (-1)) hx hb d_M_send_12 (by decide +kernel) ?_
    exact r_iret E hr hlk hP hD hS (rfl) ((wn, sn, fw, fs)) rfl (⟨fun _ => ⟨rfl, rfl⟩, fun z => absurd c9 z⟩) d_M_send_13
end
section
/-! rows for the law's own loop -/
section LAWR
variable {p : Program} {l : Launch} {e : Env} {R : Room} {s : State} {m : MethodId} {args : Array Value} {below : List Frame} {meth : Method} {c : Code} {H : Heap} {locs : List Loc} {cells slots : Nat} {Q : State → Prop}
variable {cc : ByteArray} {pc : Nat} {ls : Array Slot} {rest : List Value} {A : Nat → Prop} {H0 : Heap} {b L : Nat} {xs : Nat → Int32}
theorem r_sld (hexec : p.tables.exec = Jvm.exec) (hb : c.code = cc) (hX : va_X b L xs s H0) (hbl : b < H0.size) (hbA : ¬ A b) (hS : va_S A H0 H locs) {i : Nat} (hi : i < L) (hL : L ≤ 2048) (hdg : decode cc pc = .ok (.iaload, 1))
    (kk : W p l e R s m args below meth c H locs cells slots Q (F0 m (pc + 1) ls (.int (xs i) :: rest))) : W p l e R s m args below meth c H locs cells slots Q (F0 m pc ls (.int (nI i) :: .ref b :: rest)) :=
  va_sld hexec hb hX hbl hbA hS (vp_in_nI hi (by omega)) hdg (by rw [nI_clamp (by omega)]; exact kk)
theorem r_slen (hexec : p.tables.exec = Jvm.exec) (hb : c.code = cc) (hX : va_X b L xs s H0) (hbl : b < H0.size) (hbA : ¬ A b) (hS : va_S A H0 H locs) (hdg : decode cc pc = .ok (.arraylength, 1))
    (kk : W p l e R s m args below meth c H locs cells slots Q (F0 m (pc + 1) ls (.int (nI L) :: rest))) : W p l e R s m args below meth c H locs cells slots Q (F0 m pc ls (.ref b :: rest)) := va_slen hexec hb hX hbl hbA hS hdg kk
end LAWR
theorem law_c {i L : Nat} (hi : i < 2 ^ 30) (hL : L < 2 ^ 30) : nI L - nI 4 < nI i ↔ L < i + 4 := by
  rw [Int32.lt_iff_toInt_lt, pk_sub_toInt hL (by decide), nI_toInt (by omega)]
  omega
/-- the sender: (filled, size, row, sent), and the model's two arrays -/
abbrev SC : Type := Nat × Nat × (Nat → Int32) × (Nat → Int32)
def SRep (v : SC) (fw fs : Nat → Int32) : Prop := v.1 ≤ 259 ∧ v.2.1 ≤ 306 ∧ (∀ j, j < v.1 → fw j = nI (bN (v.2.2.1 j))) ∧ ∀ j, j < v.2.1 → fs j = nI (bN (v.2.2.2 j))
theorem sr_put {fl sz : Nat} {f g fw fs : Nat → Int32} {p0 : Int32} (h : SRep (fl, sz, f, g) fw fs) (hn : fl ≠ 259) : SRep (fl + 1, sz, upd f fl p0.toInt8.toInt32, g) (upd fw fl (nI (bN p0))) fs := by
  obtain ⟨h1, h2, h3, h4⟩ := h
  have h1 : fl ≤ 259 := h1
  refine ⟨show fl + 1 ≤ 259 by omega, h2, fun j hj => ?_, h4⟩
  have hj : j < fl + 1 := hj
  show upd fw fl (nI (bN p0)) j = nI (bN (upd f fl p0.toInt8.toInt32 j))
  by_cases q : j = fl
  · subst q
    rw [upd_s, upd_s, bN_i8]
  · rw [upd_n q, upd_n q]
    exact h3 j (show j < fl by omega)
theorem sr_send {fl n : Nat} {f g fw fs : Nat → Int32} (hn : n ≤ 306) (h1 : ∀ j, j < n → bN (g j) = en f fl j) (h2 : ∀ j, j < n → fs j = nI (en f fl j)) : SRep (0, n, f, g) fw fs :=
  ⟨Nat.zero_le _, hn, fun j hj => absurd hj (Nat.not_lt_zero j), fun j hj => by
    show fs j = nI (bN (g j))
    rw [h2 j hj, h1 j hj]⟩
theorem cN_eq {c0 c1 c2 c3 c4 : Int32} {fc : Nat → Int32} (h0 : fc 0 = c0) (h1 : fc 1 = c1) (h2 : fc 2 = c2) (h3 : fc 3 = c3) (h4 : fc 4 = c4) : ∀ j, j < 5 → cN c0 c1 c2 c3 c4 j = fc j := by
  intro j hj
  rcases (show j = 0 ∨ j = 1 ∨ j = 2 ∨ j = 3 ∨ j = 4 by omega) with rfl | rfl | rfl | rfl | rfl
  · exact h0.symm
  · exact h1.symm
  · exact h2.symm
  · exact h3.symm
  · exact h4.symm
/-- turned on or off -/
theorem rep_turn {ar ag st sz fl sn md B mn on : Nat} {c0 c1 c2 c3 c4 : Int32} {f g fb fr fv fc : Nat → Int32} (h : MRep (ar, ag, st, sz, fl, sn, md, B, c0, c1, c2, c3, c4, f, g) md fb (st, mn, fl, sz, fr, fv, fc)) (ho : on < 2) : MRep (ar, ag, on, sz, 0, 0, md, B, c0, c1, c2, c3, c4, f, g) md fb (on, 0, 0, sz, fr, fv, fc) := by
  obtain ⟨-, -, -, -, -, -, -, -, h9, k⟩ := h
  exact ⟨rfl, rfl, rfl, rfl, fun z => by omega, fun _ => ⟨rfl, rfl⟩, fun j hj => absurd hj (Nat.not_lt_zero j), fun j hj => absurd hj (Nat.not_lt_zero j), h9, k⟩
theorem rep_mend {ar ag st sz fl sn md B mn on : Nat} {c0 c1 c2 c3 c4 : Int32} {f g fb fr fv fc : Nat → Int32} (h : MRep (ar, ag, st, sz, fl, sn, md, B, c0, c1, c2, c3, c4, f, g) md fb (st, mn, fl, sz, fr, fv, fc)) : MRep (ar, ag, st, sz, fl, sn, on, B, c0, c1, c2, c3, c4, f, g) on fb (st, mn, fl, sz, fr, fv, fc) := by
  obtain ⟨-, -, -, -, k⟩ := h
  exact ⟨rfl, rfl, rfl, rfl, k⟩
end
section
def wL (cB cI : ClassId) (ax hr hs ac aw sr ss hm yb yr yv yw ys yc : Nat) (wf : Nat → Int32) (u : RC) (t : MB × (Nat → Int32)) (md1 : Nat) (th : Int32) (v : SC) (fw fs : Nat → Int32) : va_W := match u, t, v with
  | (ar, ag, st, sz, fl, sn, md, B, c0, c1, c2, c3, c4, f, g), ((st1, mn, ro, sz1, fr, fv, fc), fb), (tl, tz, tf, tg) => [(ax, .inr (0, [.ref hr, .ref hs])), (hr, .inr (2, [.ref ac, .ref ar, .ref ag, .int (nI st), .int (nI sz), .int (nI fl), .int (nI sn), .int (nI md), .long (lN B), .int c0, .int c1, .int c2, .int c3, .int c4])), (ar, .inl (cB, 259, .inl f)), (ag, .inl (cB, 259, .inl g)), (ac, .inr (1, [.ref aw])), (aw, .inl (cB, 128, .inl wf)), (hs, .inr (3, [.ref sr, .ref ss, .int (nI tl), .int (nI tz)])), (sr, .inl (cB, 259, .inl tf)), (ss, .inl (cB, 306, .inl tg)), (hm, .inr (4, [.int th, .int (nI st1), .int (nI md1), .ref yb, .int (nI mn), .ref yr, .int (nI ro), .ref yv, .int (nI sz1), .ref yw, .int (nI tl), .ref ys, .int (nI tz), .ref yc])), (yb, .inl (cI, 64, .inl fb)), (yr, .inl (cI, 259, .inl fr)), (yv, .inl (cI, 259, .inl fv)), (yw, .inl (cI, 259, .inl fw)), (ys, .inl (cI, 306, .inl fs)), (yc, .inl (cI, 5, .inl fc))]
set_option maxHeartbeats 8000000 in
set_option maxRecDepth 100000 in
/-- THE LAW'S LOOP -/
theorem law_loop (l : Launch) (D : va_G) (cB cI : ClassId) (b L : Nat) (xs : Nat → Int32) (ax hr hs ac aw sr ss hm yb yr yv yw ys yc : Nat) (wf : Nat → Int32) (h_w : ∀ r, r < 128 → wf r = wt7 63 r) (hL : L ≤ 2048)
    {p : Program} {e : Env} {s : State} {m : MethodId} {args : Array Value} {below : List Frame} {meth : Method} {c : Code} {A : Nat → Prop} {Q : State → Prop} (E : Ev p m c code 4 s args "CodeBlocksLaw" D cB cI) (hA : ∀ q : Nat, s.heap.size ≤ q → A q) (hX : va_X b L xs s s.heap) (hbl : b < s.heap.size) (hbA : ¬ A b)
    (K : ∀ (H : Heap) (locs : List Loc) (ls : Array Slot), va_S A s.heap H locs → W p l e room_1 s m args below meth c H locs 16 2398 Q (F0 m 364 ls [])) :
    ∀ (n i : Nat) (u : RC) (t : MB × (Nat → Int32)) (md : Nat) (th : Int32) (v : SC) (fw fs : Nat → Int32) (H : Heap) (locs : List Loc) (ls : Array Slot), (L < i + 4 * n ∧ i ≤ 2051 ∧ RInv u ∧ MRep u md t.2 t.1 ∧ SRep v fw fs) → va_P D classes (wL cB cI ax hr hs ac aw sr ss hm yb yr yv yw ys yc wf u t md th v fw fs) H → va_D A (wL cB cI ax hr hs ac aw sr ss hm yb yr yv yw ys yc wf u t md th v fw fs) → va_S A s.heap H locs → lv_has ls 4 [(0, .ref b), (1, .ref ax), (2, .ref hm), (3, .int (nI i))] → W p l e room_1 s m args below meth c H locs 16 2398 Q (F0 m 18 ls []) := by
  have hx := E.1.1
  have hb := E.1.2.1
  intro n
  induction n with
  | zero =>
    intro i u t md th v fw fs H locs ls hi hP hD hS hl
    refine lv_iload_n hx hb d_law_18 rfl (lv_at hl 3 rfl) ?_
    refine lv_aload_n hx hb d_law_19 rfl (lv_at hl 0 rfl) ?_
    refine r_slen hx hb hX hbl hbA hS d_law_20 ?_
    refine lv_iconst (v := nI 4) hx hb d_law_21 (by decide +kernel) ?_
    refine lv_isub hx hb d_law_22 ?_
    refine lv_icmp_gt (tgt := 364) hx hb d_law_23 (by decide) (fun c23 => ?_) (fun c23 => False.elim (c23 ((law_c (by omega) (by omega)).mpr (by omega))))
    exact K H locs ls hS
  | succ n ih =>
    intro i u t md th v fw fs H locs ls hi hP hD hS hl
    obtain ⟨i1, i2, i3, i4, i5⟩ := hi
    obtain ⟨ar, ag, st_, sz_, fl_, sn, md_, B, c0, c1, c2, c3, c4, f, g⟩ := u
    obtain ⟨⟨st, mn, fl, sz, fr, fv, fc⟩, fb⟩ := t
    obtain ⟨tl, tz, tf, tg⟩ := v
    have hrep : MRep (ar, ag, st_, sz_, fl_, sn, md_, B, c0, c1, c2, c3, c4, f, g) md fb (st, mn, fl, sz, fr, fv, fc) := i4
    obtain ⟨e1, e2, e3, e4, h5, h6, h7, h8, h9, k0, k1, k2, k3, k4⟩ := i4
    have e1 : st = st_ := e1
    have e3 : fl = fl_ := e3
    have e4 : sz = sz_ := e4
    subst e1
    subst e2
    subst e3
    subst e4
    have hri : RInv (ar, ag, st, sz, fl, sn, md, B, c0, c1, c2, c3, c4, f, g) := i3
    obtain ⟨r1, r2, r3, r4, r5, r6, r7⟩ := i3
    have hsr : SRep (tl, tz, tf, tg) fw fs := i5
    obtain ⟨s1, s2, s3, s4⟩ := i5
    have s1 : tl ≤ 259 := s1
    have s2 : tz ≤ 306 := s2
    have hP : va_P D classes [(ax, .inr (0, [.ref hr, .ref hs])), (hr, .inr (2, [.ref ac, .ref ar, .ref ag, .int (nI st), .int (nI sz), .int (nI fl), .int (nI sn), .int (nI md), .long (lN B), .int c0, .int c1, .int c2, .int c3, .int c4])), (ar, .inl (cB, 259, .inl f)), (ag, .inl (cB, 259, .inl g)), (ac, .inr (1, [.ref aw])), (aw, .inl (cB, 128, .inl wf)), (hs, .inr (3, [.ref sr, .ref ss, .int (nI tl), .int (nI tz)])), (sr, .inl (cB, 259, .inl tf)), (ss, .inl (cB, 306, .inl tg)), (hm, .inr (4, [.int th, .int (nI st), .int (nI md), .ref yb, .int (nI mn), .ref yr, .int (nI fl), .ref yv, .int (nI sz), .ref yw, .int (nI tl), .ref ys, .int (nI tz), .ref yc])), (yb, .inl (cI, 64, .inl fb)), (yr, .inl (cI, 259, .inl fr)), (yv, .inl (cI, 259, .inl fv)), (yw, .inl (cI, 259, .inl fw)), (ys, .inl (cI, 306, .inl fs)), (yc, .inl (cI, 5, .inl fc))] H := hP
    have hD : va_D A [(ax, .inr (0, [.ref hr, .ref hs])), (hr, .inr (2, [.ref ac, .ref ar, .ref ag, .int (nI st), .int (nI sz), .int (nI fl), .int (nI sn), .int (nI md), .long (lN B), .int c0, .int c1, .int c2, .int c3, .int c4])), (ar, .inl (cB, 259, .inl f)), (ag, .inl (cB, 259, .inl g)), (ac, .inr (1, [.ref aw])), (aw, .inl (cB, 128, .inl wf)), (hs, .inr (3, [.ref sr, .ref ss, .int (nI tl), .int (nI tz)])), (sr, .inl (cB, 259, .inl tf)), (ss, .inl (cB, 306, .inl tg)), (hm, .inr (4, [.int th, .int (nI st), .int (nI md), .ref yb, .int (nI mn), .ref yr, .int (nI fl), .ref yv, .int (nI sz), .ref yw, .int (nI tl), .ref ys, .int (nI tz), .ref yc])), (yb, .inl (cI, 64, .inl fb)), (yr, .inl (cI, 259, .inl fr)), (yv, .inl (cI, 259, .inl fv)), (yw, .inl (cI, 259, .inl fw)), (ys, .inl (cI, 306, .inl fs)), (yc, .inl (cI, 5, .inl fc))] := hD
    refine lv_iload_n hx hb d_law_18 rfl (lv_at hl 3 rfl) ?_
    refine lv_aload_n hx hb d_law_19 rfl (lv_at hl 0 rfl) ?_
    refine r_slen hx hb hX hbl hbA hS d_law_20 ?_
    refine lv_iconst (v := nI 4) hx hb d_law_21 (by decide +kernel) ?_
    refine lv_isub hx hb d_law_22 ?_
    refine lv_icmp_gt (tgt := 364) hx hb d_law_23 (by decide) (fun c23 => ?_) (fun c23 => ?_)
    · skip
      exact K H locs ls hS
    · skip
      have hlt : i + 4 ≤ L := by rcases Nat.lt_or_ge L (i + 4) with z | z; exact absurd ((law_c (by omega) (by omega)).mpr z) c23; exact z
      refine lv_aload_n hx hb d_law_26 rfl (lv_at hl 0 rfl) ?_
      refine lv_iload_n hx hb d_law_27 rfl (lv_at hl 3 rfl) ?_
      refine r_sld hx hb hX hbl hbA hS (by omega) hL d_law_28 ?_
      refine lv_bipush (v := nI 15) hx hb d_law_29 (by decide +kernel) ?_
      refine lv_iand hx hb d_law_31 ?_
      obtain ⟨j, h_j, e_j⟩ := pk_andE (xs i) (m := nI 15) 4 (by decide +kernel)
      refine r_topi (y := nI j) e_j ?_
      skip
      rcases (show j = 0 ∨ j = 1 ∨ j = 2 ∨ j = 3 ∨ j = 4 ∨ j = 5 ∨ j = 6 ∨ j = 7 ∨ j = 8 ∨ j = 9 ∨ 9 < j by omega) with rfl | rfl | rfl | rfl | rfl | rfl | rfl | rfl | rfl | rfl | h_9
      · refine lv_tableIn (tgt := 88) (off := 56) hx hb d_law_32 (by decide +kernel) (by decide +kernel) (by decide +kernel) (by decide) ?_
        obtain ⟨on, hon⟩ : ∃ on, on = if xs (i + 1) = 0 then 0 else 1 := ⟨_, rfl⟩
        have h_on : on < 2 := by rw [hon]; split <;> omega
        by_cases hq : on = (if st = 0 then 0 else 1)
        · skip
          refine lv_aload_n hx hb d_law_88 rfl (lv_at hl 1 rfl) ?_
          refine lv_aload_n hx hb d_law_89 rfl (lv_at hl 0 rfl) ?_
          refine lv_iload_n hx hb d_law_90 rfl (lv_at hl 3 rfl) ?_
          refine lv_iconst (v := nI 1) hx hb d_law_91 (by decide +kernel) ?_
          refine r_iadd hx hb d_law_92 ?_
          refine r_sld hx hb hX hbl hbA hS (by omega) hL d_law_93 ?_
          refine r_merge (rest := [.ref ax]) (ls := ls) 102 (fun v => v = nI on) (fun v hv => ?_) (fun J => ?_)
          · subst hv
            refine r_callVI (wr := [(ar, .inl (cB, 259, .inl f)), (ag, .inl (cB, 259, .inl g)), (ac, .inr (1, [.ref aw])), (aw, .inl (cB, 128, .inl wf)), (hs, .inr (3, [.ref sr, .ref ss, .int (nI tl), .int (nI tz)])), (sr, .inl (cB, 259, .inl tf)), (ss, .inl (cB, 306, .inl tg)), (hm, .inr (4, [.int th, .int (nI st), .int (nI md), .ref yb, .int (nI mn), .ref yr, .int (nI fl), .ref yv, .int (nI sz), .ref yw, .int (nI tl), .ref ys, .int (nI tz), .ref yc])), (yb, .inl (cI, 64, .inl fb)), (yr, .inl (cI, 259, .inl fr)), (yv, .inl (cI, 259, .inl fv)), (yw, .inl (cI, 259, .inl fw)), (ys, .inl (cI, 306, .inl fs)), (yc, .inl (cI, 5, .inl fc))]) (rest := []) E cs_law_13 (c_X_turn l D cB cI ax hs hr ac ar ag st sz fl sn md B c0 c1 c2 c3 c4 on h_on r1) hP hD hS hA [0, 1] [2, 3, 4, 5, 6, 7, 8, 9, 10, 11, 12, 13, 14, 15] ⟨rfl, rfl, by decide, by decide, by decide⟩ kc_X rfl hl.1 rfl rfl (Nat.le_of_ble_eq_true rfl) ⟨by decide, by decide⟩ ⟨by decide, by decide⟩ d_law_102 (fun r u H locs hw hP hD hS => ?_)
            rw [if_pos hq] at hw
            obtain ⟨rfl, rfl⟩ := hw
            have hP : va_P D classes [(ax, .inr (0, [.ref hr, .ref hs])), (hr, .inr (2, [.ref ac, .ref ar, .ref ag, .int (nI st), .int (nI sz), .int (nI fl), .int (nI sn), .int (nI md), .long (lN B), .int c0, .int c1, .int c2, .int c3, .int c4])), (ar, .inl (cB, 259, .inl f)), (ag, .inl (cB, 259, .inl g)), (ac, .inr (1, [.ref aw])), (aw, .inl (cB, 128, .inl wf)), (hs, .inr (3, [.ref sr, .ref ss, .int (nI tl), .int (nI tz)])), (sr, .inl (cB, 259, .inl tf)), (ss, .inl (cB, 306, .inl tg)), (hm, .inr (4, [.int th, .int (nI st), .int (nI md), .ref yb, .int (nI mn), .ref yr, .int (nI fl), .ref yv, .int (nI sz), .ref yw, .int (nI tl), .ref ys, .int (nI tz), .ref yc])), (yb, .inl (cI, 64, .inl fb)), (yr, .inl (cI, 259, .inl fr)), (yv, .inl (cI, 259, .inl fv)), (yw, .inl (cI, 259, .inl fw)), (ys, .inl (cI, 306, .inl fs)), (yc, .inl (cI, 5, .inl fc))] H := hP.sub [14, 15, 0, 1, 2, 3, 4, 5, 6, 7, 8, 9, 10, 11, 12, 13] rfl
            have hD : va_D A [(ax, .inr (0, [.ref hr, .ref hs])), (hr, .inr (2, [.ref ac, .ref ar, .ref ag, .int (nI st), .int (nI sz), .int (nI fl), .int (nI sn), .int (nI md), .long (lN B), .int c0, .int c1, .int c2, .int c3, .int c4])), (ar, .inl (cB, 259, .inl f)), (ag, .inl (cB, 259, .inl g)), (ac, .inr (1, [.ref aw])), (aw, .inl (cB, 128, .inl wf)), (hs, .inr (3, [.ref sr, .ref ss, .int (nI tl), .int (nI tz)])), (sr, .inl (cB, 259, .inl tf)), (ss, .inl (cB, 306, .inl tg)), (hm, .inr (4, [.int th, .int (nI st), .int (nI md), .ref yb, .int (nI mn), .ref yr, .int (nI fl), .ref yv, .int (nI sz), .ref yw, .int (nI tl), .ref ys, .int (nI tz), .ref yc])), (yb, .inl (cI, 64, .inl fb)), (yr, .inl (cI, 259, .inl fr)), (yv, .inl (cI, 259, .inl fv)), (yw, .inl (cI, 259, .inl fw)), (ys, .inl (cI, 306, .inl fs)), (yc, .inl (cI, 5, .inl fc))] := hD.sub [14, 15, 0, 1, 2, 3, 4, 5, 6, 7, 8, 9, 10, 11, 12, 13] (by decide) rfl
            refine W.widen (k := 16) (n := 2398) (Nat.le_of_ble_eq_true rfl) (Nat.le_of_ble_eq_true rfl) ?_
            refine lv_aload_n hx hb d_law_105 rfl (lv_at hl 2 rfl) ?_
            refine lv_aload_n hx hb d_law_106 rfl (lv_at hl 0 rfl) ?_
            refine lv_iload_n hx hb d_law_107 rfl (lv_at hl 3 rfl) ?_
            refine lv_iconst (v := nI 1) hx hb d_law_108 (by decide +kernel) ?_
            refine r_iadd hx hb d_law_109 ?_
            refine r_sld hx hb hX hbl hbA hS (by omega) hL d_law_110 ?_
            refine r_merge (rest := [.ref hm, .int (nI 0)]) (ls := ls) 119 (fun v => v = nI on) (fun v hv => ?_) (fun J => ?_)
            · subst hv
              refine r_callVI (wr := [(ax, .inr (0, [.ref hr, .ref hs])), (hr, .inr (2, [.ref ac, .ref ar, .ref ag, .int (nI st), .int (nI sz), .int (nI fl), .int (nI sn), .int (nI md), .long (lN B), .int c0, .int c1, .int c2, .int c3, .int c4])), (ar, .inl (cB, 259, .inl f)), (ag, .inl (cB, 259, .inl g)), (ac, .inr (1, [.ref aw])), (aw, .inl (cB, 128, .inl wf)), (hs, .inr (3, [.ref sr, .ref ss, .int (nI tl), .int (nI tz)])), (sr, .inl (cB, 259, .inl tf)), (ss, .inl (cB, 306, .inl tg)), (yb, .inl (cI, 64, .inl fb)), (yr, .inl (cI, 259, .inl fr)), (yv, .inl (cI, 259, .inl fv)), (yw, .inl (cI, 259, .inl fw)), (ys, .inl (cI, 306, .inl fs)), (yc, .inl (cI, 5, .inl fc))]) (rest := [.int (nI 0)]) E cs_law_17 (c_M_turn l D cB cI hm yb yr yv yw ys yc st md mn fl sz tl tz th on h_on r1) hP hD hS hA [9] [0, 1, 2, 3, 4, 5, 6, 7, 8, 10, 11, 12, 13, 14, 15] ⟨rfl, rfl, by decide, by decide, by decide⟩ kc_M rfl hl.1 rfl rfl (Nat.le_of_ble_eq_true rfl) ⟨by decide, by decide⟩ ⟨by decide, by decide⟩ d_law_119 (fun r u H locs hw hP hD hS => ?_)
              rw [if_pos hq] at hw
              obtain ⟨rfl, rfl⟩ := hw
              have hP : va_P D classes [(ax, .inr (0, [.ref hr, .ref hs])), (hr, .inr (2, [.ref ac, .ref ar, .ref ag, .int (nI st), .int (nI sz), .int (nI fl), .int (nI sn), .int (nI md), .long (lN B), .int c0, .int c1, .int c2, .int c3, .int c4])), (ar, .inl (cB, 259, .inl f)), (ag, .inl (cB, 259, .inl g)), (ac, .inr (1, [.ref aw])), (aw, .inl (cB, 128, .inl wf)), (hs, .inr (3, [.ref sr, .ref ss, .int (nI tl), .int (nI tz)])), (sr, .inl (cB, 259, .inl tf)), (ss, .inl (cB, 306, .inl tg)), (hm, .inr (4, [.int (nI 0), .int (nI st), .int (nI md), .ref yb, .int (nI mn), .ref yr, .int (nI fl), .ref yv, .int (nI sz), .ref yw, .int (nI tl), .ref ys, .int (nI tz), .ref yc])), (yb, .inl (cI, 64, .inl fb)), (yr, .inl (cI, 259, .inl fr)), (yv, .inl (cI, 259, .inl fv)), (yw, .inl (cI, 259, .inl fw)), (ys, .inl (cI, 306, .inl fs)), (yc, .inl (cI, 5, .inl fc))] H := hP.sub [0, 1, 2, 3, 4, 5, 6, 7, 8, 15, 9, 10, 11, 12, 13, 14] rfl
              have hD : va_D A [(ax, .inr (0, [.ref hr, .ref hs])), (hr, .inr (2, [.ref ac, .ref ar, .ref ag, .int (nI st), .int (nI sz), .int (nI fl), .int (nI sn), .int (nI md), .long (lN B), .int c0, .int c1, .int c2, .int c3, .int c4])), (ar, .inl (cB, 259, .inl f)), (ag, .inl (cB, 259, .inl g)), (ac, .inr (1, [.ref aw])), (aw, .inl (cB, 128, .inl wf)), (hs, .inr (3, [.ref sr, .ref ss, .int (nI tl), .int (nI tz)])), (sr, .inl (cB, 259, .inl tf)), (ss, .inl (cB, 306, .inl tg)), (hm, .inr (4, [.int (nI 0), .int (nI st), .int (nI md), .ref yb, .int (nI mn), .ref yr, .int (nI fl), .ref yv, .int (nI sz), .ref yw, .int (nI tl), .ref ys, .int (nI tz), .ref yc])), (yb, .inl (cI, 64, .inl fb)), (yr, .inl (cI, 259, .inl fr)), (yv, .inl (cI, 259, .inl fv)), (yw, .inl (cI, 259, .inl fw)), (ys, .inl (cI, 306, .inl fs)), (yc, .inl (cI, 5, .inl fc))] := hD.sub [0, 1, 2, 3, 4, 5, 6, 7, 8, 15, 9, 10, 11, 12, 13, 14] (by decide) rfl
              refine W.widen (k := 16) (n := 2398) (Nat.le_of_ble_eq_true rfl) (Nat.le_of_ble_eq_true rfl) ?_
              refine r_icmp_eq (tgt := 358) hx hb ⟨by omega, by omega⟩ d_law_122 (by decide) (fun c122 => ?_) (fun c122 => False.elim (by omega))
              refine lv_iinc (v := nI (i + 4)) (lv' := [(3, .int (nI (i + 4))), (0, .ref b), (1, .ref ax), (2, .ref hm)]) hx hb d_law_358 hl (k := 3) rfl (nI_add _ _) (by decide) rfl (fun ls hl => ?_)
              refine lv_goto (tgt := 18) hx hb d_law_361 (by decide) ?_
              exact ih (i + 4) (ar, ag, st, sz, fl, sn, md, B, c0, c1, c2, c3, c4, f, g) ((st, mn, fl, sz, fr, fv, fc), fb) md (nI 0) (tl, tz, tf, tg) fw fs H locs ls ⟨by omega, by omega, hri, hrep, hsr⟩ hP hD hS (lv_sub hl [1, 2, 3, 0] rfl)
            · skip
              refine lv_if_eq (tgt := 118) hx hb d_law_111 (by decide) (fun c111 => ?_) (fun c111 => ?_)
              · skip
                refine lv_iconst (v := nI 0) hx hb d_law_118 (by decide +kernel) ?_
                exact J _ (by rw [hon, if_pos c111])
              · skip
                refine lv_iconst (v := nI 1) hx hb d_law_114 (by decide +kernel) ?_
                refine lv_goto (tgt := 119) hx hb d_law_115 (by decide) ?_
                exact J _ (by rw [hon, if_neg c111])
          · skip
            refine lv_if_eq (tgt := 101) hx hb d_law_94 (by decide) (fun c94 => ?_) (fun c94 => ?_)
            · skip
              refine lv_iconst (v := nI 0) hx hb d_law_101 (by decide +kernel) ?_
              exact J _ (by rw [hon, if_pos c94])
            · skip
              refine lv_iconst (v := nI 1) hx hb d_law_97 (by decide +kernel) ?_
              refine lv_goto (tgt := 102) hx hb d_law_98 (by decide) ?_
              exact J _ (by rw [hon, if_neg c94])
        · skip
          refine lv_aload_n hx hb d_law_88 rfl (lv_at hl 1 rfl) ?_
          refine lv_aload_n hx hb d_law_89 rfl (lv_at hl 0 rfl) ?_
          refine lv_iload_n hx hb d_law_90 rfl (lv_at hl 3 rfl) ?_
          refine lv_iconst (v := nI 1) hx hb d_law_91 (by decide +kernel) ?_
          refine r_iadd hx hb d_law_92 ?_
          refine r_sld hx hb hX hbl hbA hS (by omega) hL d_law_93 ?_
          refine r_merge (rest := [.ref ax]) (ls := ls) 102 (fun v => v = nI on) (fun v hv => ?_) (fun J => ?_)
          · subst hv
            refine r_callVI (wr := [(ar, .inl (cB, 259, .inl f)), (ag, .inl (cB, 259, .inl g)), (ac, .inr (1, [.ref aw])), (aw, .inl (cB, 128, .inl wf)), (hs, .inr (3, [.ref sr, .ref ss, .int (nI tl), .int (nI tz)])), (sr, .inl (cB, 259, .inl tf)), (ss, .inl (cB, 306, .inl tg)), (hm, .inr (4, [.int th, .int (nI st), .int (nI md), .ref yb, .int (nI mn), .ref yr, .int (nI fl), .ref yv, .int (nI sz), .ref yw, .int (nI tl), .ref ys, .int (nI tz), .ref yc])), (yb, .inl (cI, 64, .inl fb)), (yr, .inl (cI, 259, .inl fr)), (yv, .inl (cI, 259, .inl fv)), (yw, .inl (cI, 259, .inl fw)), (ys, .inl (cI, 306, .inl fs)), (yc, .inl (cI, 5, .inl fc))]) (rest := []) E cs_law_13 (c_X_turn l D cB cI ax hs hr ac ar ag st sz fl sn md B c0 c1 c2 c3 c4 on h_on r1) hP hD hS hA [0, 1] [2, 3, 4, 5, 6, 7, 8, 9, 10, 11, 12, 13, 14, 15] ⟨rfl, rfl, by decide, by decide, by decide⟩ kc_X rfl hl.1 rfl rfl (Nat.le_of_ble_eq_true rfl) ⟨by decide, by decide⟩ ⟨by decide, by decide⟩ d_law_102 (fun r u H locs hw hP hD hS => ?_)
            rw [if_neg hq] at hw
            obtain ⟨rfl, rfl⟩ := hw
            have hP : va_P D classes [(ax, .inr (0, [.ref hr, .ref hs])), (hr, .inr (2, [.ref ac, .ref ar, .ref ag, .int (nI on), .int (nI sz), .int (nI 0), .int (nI 0), .int (nI md), .long (lN B), .int c0, .int c1, .int c2, .int c3, .int c4])), (ar, .inl (cB, 259, .inl f)), (ag, .inl (cB, 259, .inl g)), (ac, .inr (1, [.ref aw])), (aw, .inl (cB, 128, .inl wf)), (hs, .inr (3, [.ref sr, .ref ss, .int (nI tl), .int (nI tz)])), (sr, .inl (cB, 259, .inl tf)), (ss, .inl (cB, 306, .inl tg)), (hm, .inr (4, [.int th, .int (nI st), .int (nI md), .ref yb, .int (nI mn), .ref yr, .int (nI fl), .ref yv, .int (nI sz), .ref yw, .int (nI tl), .ref ys, .int (nI tz), .ref yc])), (yb, .inl (cI, 64, .inl fb)), (yr, .inl (cI, 259, .inl fr)), (yv, .inl (cI, 259, .inl fv)), (yw, .inl (cI, 259, .inl fw)), (ys, .inl (cI, 306, .inl fs)), (yc, .inl (cI, 5, .inl fc))] H := hP.sub [14, 15, 0, 1, 2, 3, 4, 5, 6, 7, 8, 9, 10, 11, 12, 13] rfl
            have hD : va_D A [(ax, .inr (0, [.ref hr, .ref hs])), (hr, .inr (2, [.ref ac, .ref ar, .ref ag, .int (nI on), .int (nI sz), .int (nI 0), .int (nI 0), .int (nI md), .long (lN B), .int c0, .int c1, .int c2, .int c3, .int c4])), (ar, .inl (cB, 259, .inl f)), (ag, .inl (cB, 259, .inl g)), (ac, .inr (1, [.ref aw])), (aw, .inl (cB, 128, .inl wf)), (hs, .inr (3, [.ref sr, .ref ss, .int (nI tl), .int (nI tz)])), (sr, .inl (cB, 259, .inl tf)), (ss, .inl (cB, 306, .inl tg)), (hm, .inr (4, [.int th, .int (nI st), .int (nI md), .ref yb, .int (nI mn), .ref yr, .int (nI fl), .ref yv, .int (nI sz), .ref yw, .int (nI tl), .ref ys, .int (nI tz), .ref yc])), (yb, .inl (cI, 64, .inl fb)), (yr, .inl (cI, 259, .inl fr)), (yv, .inl (cI, 259, .inl fv)), (yw, .inl (cI, 259, .inl fw)), (ys, .inl (cI, 306, .inl fs)), (yc, .inl (cI, 5, .inl fc))] := hD.sub [14, 15, 0, 1, 2, 3, 4, 5, 6, 7, 8, 9, 10, 11, 12, 13] (by decide) rfl
            refine W.widen (k := 16) (n := 2398) (Nat.le_of_ble_eq_true rfl) (Nat.le_of_ble_eq_true rfl) ?_
            refine lv_aload_n hx hb d_law_105 rfl (lv_at hl 2 rfl) ?_
            refine lv_aload_n hx hb d_law_106 rfl (lv_at hl 0 rfl) ?_
            refine lv_iload_n hx hb d_law_107 rfl (lv_at hl 3 rfl) ?_
            refine lv_iconst (v := nI 1) hx hb d_law_108 (by decide +kernel) ?_
            refine r_iadd hx hb d_law_109 ?_
            refine r_sld hx hb hX hbl hbA hS (by omega) hL d_law_110 ?_
            refine r_merge (rest := [.ref hm, .int (nI 1)]) (ls := ls) 119 (fun v => v = nI on) (fun v hv => ?_) (fun J => ?_)
            · subst hv
              refine r_callVI (wr := [(ax, .inr (0, [.ref hr, .ref hs])), (hr, .inr (2, [.ref ac, .ref ar, .ref ag, .int (nI on), .int (nI sz), .int (nI 0), .int (nI 0), .int (nI md), .long (lN B), .int c0, .int c1, .int c2, .int c3, .int c4])), (ar, .inl (cB, 259, .inl f)), (ag, .inl (cB, 259, .inl g)), (ac, .inr (1, [.ref aw])), (aw, .inl (cB, 128, .inl wf)), (hs, .inr (3, [.ref sr, .ref ss, .int (nI tl), .int (nI tz)])), (sr, .inl (cB, 259, .inl tf)), (ss, .inl (cB, 306, .inl tg)), (yb, .inl (cI, 64, .inl fb)), (yr, .inl (cI, 259, .inl fr)), (yv, .inl (cI, 259, .inl fv)), (yw, .inl (cI, 259, .inl fw)), (ys, .inl (cI, 306, .inl fs)), (yc, .inl (cI, 5, .inl fc))]) (rest := [.int (nI 1)]) E cs_law_17 (c_M_turn l D cB cI hm yb yr yv yw ys yc st md mn fl sz tl tz th on h_on r1) hP hD hS hA [9] [0, 1, 2, 3, 4, 5, 6, 7, 8, 10, 11, 12, 13, 14, 15] ⟨rfl, rfl, by decide, by decide, by decide⟩ kc_M rfl hl.1 rfl rfl (Nat.le_of_ble_eq_true rfl) ⟨by decide, by decide⟩ ⟨by decide, by decide⟩ d_law_119 (fun r u H locs hw hP hD hS => ?_)
              rw [if_neg hq] at hw
              obtain ⟨rfl, rfl⟩ := hw
              have hP : va_P D classes [(ax, .inr (0, [.ref hr, .ref hs])), (hr, .inr (2, [.ref ac, .ref ar, .ref ag, .int (nI on), .int (nI sz), .int (nI 0), .int (nI 0), .int (nI md), .long (lN B), .int c0, .int c1, .int c2, .int c3, .int c4])), (ar, .inl (cB, 259, .inl f)), (ag, .inl (cB, 259, .inl g)), (ac, .inr (1, [.ref aw])), (aw, .inl (cB, 128, .inl wf)), (hs, .inr (3, [.ref sr, .ref ss, .int (nI tl), .int (nI tz)])), (sr, .inl (cB, 259, .inl tf)), (ss, .inl (cB, 306, .inl tg)), (hm, .inr (4, [.int (nI 0), .int (nI on), .int (nI md), .ref yb, .int (nI 0), .ref yr, .int (nI 0), .ref yv, .int (nI sz), .ref yw, .int (nI tl), .ref ys, .int (nI tz), .ref yc])), (yb, .inl (cI, 64, .inl fb)), (yr, .inl (cI, 259, .inl fr)), (yv, .inl (cI, 259, .inl fv)), (yw, .inl (cI, 259, .inl fw)), (ys, .inl (cI, 306, .inl fs)), (yc, .inl (cI, 5, .inl fc))] H := hP.sub [0, 1, 2, 3, 4, 5, 6, 7, 8, 15, 9, 10, 11, 12, 13, 14] rfl
              have hD : va_D A [(ax, .inr (0, [.ref hr, .ref hs])), (hr, .inr (2, [.ref ac, .ref ar, .ref ag, .int (nI on), .int (nI sz), .int (nI 0), .int (nI 0), .int (nI md), .long (lN B), .int c0, .int c1, .int c2, .int c3, .int c4])), (ar, .inl (cB, 259, .inl f)), (ag, .inl (cB, 259, .inl g)), (ac, .inr (1, [.ref aw])), (aw, .inl (cB, 128, .inl wf)), (hs, .inr (3, [.ref sr, .ref ss, .int (nI tl), .int (nI tz)])), (sr, .inl (cB, 259, .inl tf)), (ss, .inl (cB, 306, .inl tg)), (hm, .inr (4, [.int (nI 0), .int (nI on), .int (nI md), .ref yb, .int (nI 0), .ref yr, .int (nI 0), .ref yv, .int (nI sz), .ref yw, .int (nI tl), .ref ys, .int (nI tz), .ref yc])), (yb, .inl (cI, 64, .inl fb)), (yr, .inl (cI, 259, .inl fr)), (yv, .inl (cI, 259, .inl fv)), (yw, .inl (cI, 259, .inl fw)), (ys, .inl (cI, 306, .inl fs)), (yc, .inl (cI, 5, .inl fc))] := hD.sub [0, 1, 2, 3, 4, 5, 6, 7, 8, 15, 9, 10, 11, 12, 13, 14] (by decide) rfl
              refine W.widen (k := 16) (n := 2398) (Nat.le_of_ble_eq_true rfl) (Nat.le_of_ble_eq_true rfl) ?_
              refine r_icmp_eq (tgt := 358) hx hb ⟨by omega, by omega⟩ d_law_122 (by decide) (fun c122 => ?_) (fun c122 => False.elim (by omega))
              refine lv_iinc (v := nI (i + 4)) (lv' := [(3, .int (nI (i + 4))), (0, .ref b), (1, .ref ax), (2, .ref hm)]) hx hb d_law_358 hl (k := 3) rfl (nI_add _ _) (by decide) rfl (fun ls hl => ?_)
              refine lv_goto (tgt := 18) hx hb d_law_361 (by decide) ?_
              exact ih (i + 4) (ar, ag, on, sz, 0, 0, md, B, c0, c1, c2, c3, c4, f, g) ((on, 0, 0, sz, fr, fv, fc), fb) md (nI 0) (tl, tz, tf, tg) fw fs H locs ls ⟨by omega, by omega, ⟨by omega, r2, by omega, by omega, by omega, r6, r7⟩, rep_turn hrep h_on, hsr⟩ hP hD hS (lv_sub hl [1, 2, 3, 0] rfl)
            · skip
              refine lv_if_eq (tgt := 118) hx hb d_law_111 (by decide) (fun c111 => ?_) (fun c111 => ?_)
              · skip
                refine lv_iconst (v := nI 0) hx hb d_law_118 (by decide +kernel) ?_
                exact J _ (by rw [hon, if_pos c111])
              · skip
                refine lv_iconst (v := nI 1) hx hb d_law_114 (by decide +kernel) ?_
                refine lv_goto (tgt := 119) hx hb d_law_115 (by decide) ?_
                exact J _ (by rw [hon, if_neg c111])
          · skip
            refine lv_if_eq (tgt := 101) hx hb d_law_94 (by decide) (fun c94 => ?_) (fun c94 => ?_)
            · skip
              refine lv_iconst (v := nI 0) hx hb d_law_101 (by decide +kernel) ?_
              exact J _ (by rw [hon, if_pos c94])
            · skip
              refine lv_iconst (v := nI 1) hx hb d_law_97 (by decide +kernel) ?_
              refine lv_goto (tgt := 102) hx hb d_law_98 (by decide) ?_
              exact J _ (by rw [hon, if_neg c94])
      · refine lv_tableIn (tgt := 127) (off := 95) hx hb d_law_32 (by decide +kernel) (by decide +kernel) (by decide +kernel) (by decide) ?_
        obtain ⟨on, hon⟩ : ∃ on, on = if xs (i + 1) = 0 then 0 else 1 := ⟨_, rfl⟩
        have h_on : on < 2 := by rw [hon]; split <;> omega
        refine lv_aload_n hx hb d_law_127 rfl (lv_at hl 1 rfl) ?_
        refine lv_aload_n hx hb d_law_128 rfl (lv_at hl 0 rfl) ?_
        refine lv_iload_n hx hb d_law_129 rfl (lv_at hl 3 rfl) ?_
        refine lv_iconst (v := nI 1) hx hb d_law_130 (by decide +kernel) ?_
        refine r_iadd hx hb d_law_131 ?_
        refine r_sld hx hb hX hbl hbA hS (by omega) hL d_law_132 ?_
        refine r_merge (rest := [.ref ax]) (ls := ls) 141 (fun v => v = nI on) (fun v hv => ?_) (fun J => ?_)
        · subst hv
          refine r_callVV (wr := [(ar, .inl (cB, 259, .inl f)), (ag, .inl (cB, 259, .inl g)), (ac, .inr (1, [.ref aw])), (aw, .inl (cB, 128, .inl wf)), (hs, .inr (3, [.ref sr, .ref ss, .int (nI tl), .int (nI tz)])), (sr, .inl (cB, 259, .inl tf)), (ss, .inl (cB, 306, .inl tg)), (hm, .inr (4, [.int th, .int (nI st), .int (nI md), .ref yb, .int (nI mn), .ref yr, .int (nI fl), .ref yv, .int (nI sz), .ref yw, .int (nI tl), .ref ys, .int (nI tz), .ref yc])), (yb, .inl (cI, 64, .inl fb)), (yr, .inl (cI, 259, .inl fr)), (yv, .inl (cI, 259, .inl fv)), (yw, .inl (cI, 259, .inl fw)), (ys, .inl (cI, 306, .inl fs)), (yc, .inl (cI, 5, .inl fc))]) (rest := []) E cs_law_18 (c_X_mending l D cB cI ax hs hr ac ar ag st sz fl sn md B c0 c1 c2 c3 c4 on h_on) hP hD hS hA [0, 1] [2, 3, 4, 5, 6, 7, 8, 9, 10, 11, 12, 13, 14, 15] ⟨rfl, rfl, by decide, by decide, by decide⟩ kc_X rfl hl.1 rfl rfl (Nat.le_of_ble_eq_true rfl) ⟨by decide, by decide⟩ ⟨by decide, by decide⟩ d_law_141 (fun u H locs hw hP hD hS => ?_)
          have hP : va_P D classes [(ax, .inr (0, [.ref hr, .ref hs])), (hr, .inr (2, [.ref ac, .ref ar, .ref ag, .int (nI st), .int (nI sz), .int (nI fl), .int (nI sn), .int (nI on), .long (lN B), .int c0, .int c1, .int c2, .int c3, .int c4])), (ar, .inl (cB, 259, .inl f)), (ag, .inl (cB, 259, .inl g)), (ac, .inr (1, [.ref aw])), (aw, .inl (cB, 128, .inl wf)), (hs, .inr (3, [.ref sr, .ref ss, .int (nI tl), .int (nI tz)])), (sr, .inl (cB, 259, .inl tf)), (ss, .inl (cB, 306, .inl tg)), (hm, .inr (4, [.int th, .int (nI st), .int (nI md), .ref yb, .int (nI mn), .ref yr, .int (nI fl), .ref yv, .int (nI sz), .ref yw, .int (nI tl), .ref ys, .int (nI tz), .ref yc])), (yb, .inl (cI, 64, .inl fb)), (yr, .inl (cI, 259, .inl fr)), (yv, .inl (cI, 259, .inl fv)), (yw, .inl (cI, 259, .inl fw)), (ys, .inl (cI, 306, .inl fs)), (yc, .inl (cI, 5, .inl fc))] H := hP.sub [14, 15, 0, 1, 2, 3, 4, 5, 6, 7, 8, 9, 10, 11, 12, 13] rfl
          have hD : va_D A [(ax, .inr (0, [.ref hr, .ref hs])), (hr, .inr (2, [.ref ac, .ref ar, .ref ag, .int (nI st), .int (nI sz), .int (nI fl), .int (nI sn), .int (nI on), .long (lN B), .int c0, .int c1, .int c2, .int c3, .int c4])), (ar, .inl (cB, 259, .inl f)), (ag, .inl (cB, 259, .inl g)), (ac, .inr (1, [.ref aw])), (aw, .inl (cB, 128, .inl wf)), (hs, .inr (3, [.ref sr, .ref ss, .int (nI tl), .int (nI tz)])), (sr, .inl (cB, 259, .inl tf)), (ss, .inl (cB, 306, .inl tg)), (hm, .inr (4, [.int th, .int (nI st), .int (nI md), .ref yb, .int (nI mn), .ref yr, .int (nI fl), .ref yv, .int (nI sz), .ref yw, .int (nI tl), .ref ys, .int (nI tz), .ref yc])), (yb, .inl (cI, 64, .inl fb)), (yr, .inl (cI, 259, .inl fr)), (yv, .inl (cI, 259, .inl fv)), (yw, .inl (cI, 259, .inl fw)), (ys, .inl (cI, 306, .inl fs)), (yc, .inl (cI, 5, .inl fc))] := hD.sub [14, 15, 0, 1, 2, 3, 4, 5, 6, 7, 8, 9, 10, 11, 12, 13] (by decide) rfl
          refine W.widen (k := 16) (n := 2398) (Nat.le_of_ble_eq_true rfl) (Nat.le_of_ble_eq_true rfl) ?_
          refine lv_aload_n hx hb d_law_144 rfl (lv_at hl 2 rfl) ?_
          refine lv_aload_n hx hb d_law_145 rfl (lv_at hl 0 rfl) ?_
          refine lv_iload_n hx hb d_law_146 rfl (lv_at hl 3 rfl) ?_
          refine lv_iconst (v := nI 1) hx hb d_law_147 (by decide +kernel) ?_
          refine r_iadd hx hb d_law_148 ?_
          refine r_sld hx hb hX hbl hbA hS (by omega) hL d_law_149 ?_
          refine r_merge (rest := [.ref hm]) (ls := ls) 158 (fun v => v = nI on) (fun v hv => ?_) (fun J => ?_)
          · subst hv
            refine r_callVV (wr := [(ax, .inr (0, [.ref hr, .ref hs])), (hr, .inr (2, [.ref ac, .ref ar, .ref ag, .int (nI st), .int (nI sz), .int (nI fl), .int (nI sn), .int (nI on), .long (lN B), .int c0, .int c1, .int c2, .int c3, .int c4])), (ar, .inl (cB, 259, .inl f)), (ag, .inl (cB, 259, .inl g)), (ac, .inr (1, [.ref aw])), (aw, .inl (cB, 128, .inl wf)), (hs, .inr (3, [.ref sr, .ref ss, .int (nI tl), .int (nI tz)])), (sr, .inl (cB, 259, .inl tf)), (ss, .inl (cB, 306, .inl tg)), (yb, .inl (cI, 64, .inl fb)), (yr, .inl (cI, 259, .inl fr)), (yv, .inl (cI, 259, .inl fv)), (yw, .inl (cI, 259, .inl fw)), (ys, .inl (cI, 306, .inl fs)), (yc, .inl (cI, 5, .inl fc))]) (rest := []) E cs_law_22 (c_M_mending l D cB cI hm yb yr yv yw ys yc st md mn fl sz tl tz th on h_on) hP hD hS hA [9] [0, 1, 2, 3, 4, 5, 6, 7, 8, 10, 11, 12, 13, 14, 15] ⟨rfl, rfl, by decide, by decide, by decide⟩ kc_M rfl hl.1 rfl rfl (Nat.le_of_ble_eq_true rfl) ⟨by decide, by decide⟩ ⟨by decide, by decide⟩ d_law_158 (fun u H locs hw hP hD hS => ?_)
            have hP : va_P D classes [(ax, .inr (0, [.ref hr, .ref hs])), (hr, .inr (2, [.ref ac, .ref ar, .ref ag, .int (nI st), .int (nI sz), .int (nI fl), .int (nI sn), .int (nI on), .long (lN B), .int c0, .int c1, .int c2, .int c3, .int c4])), (ar, .inl (cB, 259, .inl f)), (ag, .inl (cB, 259, .inl g)), (ac, .inr (1, [.ref aw])), (aw, .inl (cB, 128, .inl wf)), (hs, .inr (3, [.ref sr, .ref ss, .int (nI tl), .int (nI tz)])), (sr, .inl (cB, 259, .inl tf)), (ss, .inl (cB, 306, .inl tg)), (hm, .inr (4, [.int (nI 0), .int (nI st), .int (nI on), .ref yb, .int (nI mn), .ref yr, .int (nI fl), .ref yv, .int (nI sz), .ref yw, .int (nI tl), .ref ys, .int (nI tz), .ref yc])), (yb, .inl (cI, 64, .inl fb)), (yr, .inl (cI, 259, .inl fr)), (yv, .inl (cI, 259, .inl fv)), (yw, .inl (cI, 259, .inl fw)), (ys, .inl (cI, 306, .inl fs)), (yc, .inl (cI, 5, .inl fc))] H := hP.sub [0, 1, 2, 3, 4, 5, 6, 7, 8, 15, 9, 10, 11, 12, 13, 14] rfl
            have hD : va_D A [(ax, .inr (0, [.ref hr, .ref hs])), (hr, .inr (2, [.ref ac, .ref ar, .ref ag, .int (nI st), .int (nI sz), .int (nI fl), .int (nI sn), .int (nI on), .long (lN B), .int c0, .int c1, .int c2, .int c3, .int c4])), (ar, .inl (cB, 259, .inl f)), (ag, .inl (cB, 259, .inl g)), (ac, .inr (1, [.ref aw])), (aw, .inl (cB, 128, .inl wf)), (hs, .inr (3, [.ref sr, .ref ss, .int (nI tl), .int (nI tz)])), (sr, .inl (cB, 259, .inl tf)), (ss, .inl (cB, 306, .inl tg)), (hm, .inr (4, [.int (nI 0), .int (nI st), .int (nI on), .ref yb, .int (nI mn), .ref yr, .int (nI fl), .ref yv, .int (nI sz), .ref yw, .int (nI tl), .ref ys, .int (nI tz), .ref yc])), (yb, .inl (cI, 64, .inl fb)), (yr, .inl (cI, 259, .inl fr)), (yv, .inl (cI, 259, .inl fv)), (yw, .inl (cI, 259, .inl fw)), (ys, .inl (cI, 306, .inl fs)), (yc, .inl (cI, 5, .inl fc))] := hD.sub [0, 1, 2, 3, 4, 5, 6, 7, 8, 15, 9, 10, 11, 12, 13, 14] (by decide) rfl
            refine W.widen (k := 16) (n := 2398) (Nat.le_of_ble_eq_true rfl) (Nat.le_of_ble_eq_true rfl) ?_
            refine lv_goto (tgt := 358) hx hb d_law_161 (by decide) ?_
            refine lv_iinc (v := nI (i + 4)) (lv' := [(3, .int (nI (i + 4))), (0, .ref b), (1, .ref ax), (2, .ref hm)]) hx hb d_law_358 hl (k := 3) rfl (nI_add _ _) (by decide) rfl (fun ls hl => ?_)
            refine lv_goto (tgt := 18) hx hb d_law_361 (by decide) ?_
            exact ih (i + 4) (ar, ag, st, sz, fl, sn, on, B, c0, c1, c2, c3, c4, f, g) ((st, mn, fl, sz, fr, fv, fc), fb) on (nI 0) (tl, tz, tf, tg) fw fs H locs ls ⟨by omega, by omega, ⟨r1, r2, r3, r4, r5, h_on, r7⟩, rep_mend hrep, hsr⟩ hP hD hS (lv_sub hl [1, 2, 3, 0] rfl)
          · skip
            refine lv_if_eq (tgt := 157) hx hb d_law_150 (by decide) (fun c150 => ?_) (fun c150 => ?_)
            · skip
              refine lv_iconst (v := nI 0) hx hb d_law_157 (by decide +kernel) ?_
              exact J _ (by rw [hon, if_pos c150])
            · skip
              refine lv_iconst (v := nI 1) hx hb d_law_153 (by decide +kernel) ?_
              refine lv_goto (tgt := 158) hx hb d_law_154 (by decide) ?_
              exact J _ (by rw [hon, if_neg c150])
        · skip
          refine lv_if_eq (tgt := 140) hx hb d_law_133 (by decide) (fun c133 => ?_) (fun c133 => ?_)
          · skip
            refine lv_iconst (v := nI 0) hx hb d_law_140 (by decide +kernel) ?_
            exact J _ (by rw [hon, if_pos c133])
          · skip
            refine lv_iconst (v := nI 1) hx hb d_law_136 (by decide +kernel) ?_
            refine lv_goto (tgt := 141) hx hb d_law_137 (by decide) ?_
            exact J _ (by rw [hon, if_neg c133])
      · refine lv_tableIn (tgt := 164) (off := 132) hx hb d_law_32 (by decide +kernel) (by decide +kernel) (by decide +kernel) (by decide) ?_
        by_cases hq : st = 0 ∨ xs (i + 1) < nI 1 ∨ ¬ xs (i + 1) ≤ nI 64
        · skip
          refine lv_aload_n hx hb d_law_164 rfl (lv_at hl 1 rfl) ?_
          refine lv_aload_n hx hb d_law_165 rfl (lv_at hl 0 rfl) ?_
          refine lv_iload_n hx hb d_law_166 rfl (lv_at hl 3 rfl) ?_
          refine lv_iconst (v := nI 1) hx hb d_law_167 (by decide +kernel) ?_
          refine r_iadd hx hb d_law_168 ?_
          refine r_sld hx hb hX hbl hbA hS (by omega) hL d_law_169 ?_
          refine lv_aload_n hx hb d_law_170 rfl (lv_at hl 0 rfl) ?_
          refine lv_iload_n hx hb d_law_171 rfl (lv_at hl 3 rfl) ?_
          refine lv_iconst (v := nI 2) hx hb d_law_172 (by decide +kernel) ?_
          refine r_iadd hx hb d_law_173 ?_
          refine r_sld hx hb hX hbl hbA hS (by omega) hL d_law_174 ?_
          refine lv_i2l (v := (xs (i + 2)).toInt64) hx hb d_law_175 rfl ?_
          refine lv_bipush (v := nI 32) hx hb d_law_176 (by decide +kernel) ?_
          refine lv_lshl (v := ((xs (i + 2)).toInt64) <<< ((nI 32).toInt64 &&& 63)) hx hb d_law_178 rfl ?_
          refine lv_aload_n hx hb d_law_179 rfl (lv_at hl 0 rfl) ?_
          refine lv_iload_n hx hb d_law_180 rfl (lv_at hl 3 rfl) ?_
          refine lv_iconst (v := nI 3) hx hb d_law_181 (by decide +kernel) ?_
          refine r_iadd hx hb d_law_182 ?_
          refine r_sld hx hb hX hbl hbA hS (by omega) hL d_law_183 ?_
          refine lv_i2l (v := (xs (i + 3)).toInt64) hx hb d_law_184 rfl ?_
          refine lv_ldc2 (v := 4294967295) hx hb E.1.2.2.2.1 (E.1.2.2.2.2 _ k_328) d_law_185 ?_
          refine r_topl (y := lN 4294967295) (by decide +kernel) ?_
          refine lv_land hx hb d_law_188 ?_
          refine lv_lor hx hb d_law_189 ?_
          obtain ⟨w, h_wv, h_we⟩ := wb_of ((((xs (i + 2)).toInt64) <<< ((nI 32).toInt64 &&& 63)) ||| (((xs (i + 3)).toInt64) &&& (lN 4294967295)))
          refine r_topl (y := lN w) h_we ?_
          skip
          refine r_callVI (wr := [(hs, .inr (3, [.ref sr, .ref ss, .int (nI tl), .int (nI tz)])), (sr, .inl (cB, 259, .inl tf)), (ss, .inl (cB, 306, .inl tg)), (hm, .inr (4, [.int th, .int (nI st), .int (nI md), .ref yb, .int (nI mn), .ref yr, .int (nI fl), .ref yv, .int (nI sz), .ref yw, .int (nI tl), .ref ys, .int (nI tz), .ref yc])), (yb, .inl (cI, 64, .inl fb)), (yr, .inl (cI, 259, .inl fr)), (yv, .inl (cI, 259, .inl fv)), (yw, .inl (cI, 259, .inl fw)), (ys, .inl (cI, 306, .inl fs)), (yc, .inl (cI, 5, .inl fc))]) (rest := []) E cs_law_25 (c_X_take l D cB cI ax hs hr ac ar ag st sz fl sn md B c0 c1 c2 c3 c4 aw wf f g (xs (i + 1)) w h_wv hri h_w) hP hD hS hA [0, 1, 2, 3, 4, 5] [6, 7, 8, 9, 10, 11, 12, 13, 14, 15] ⟨rfl, rfl, by decide, by decide, by decide⟩ kc_X rfl hl.1 rfl rfl (Nat.le_of_ble_eq_true rfl) ⟨by decide, by decide⟩ ⟨by decide, by decide⟩ d_law_190 (fun r u H locs hw hP hD hS => ?_)
          obtain ⟨rfl, rfl⟩ := hw.1 hq
          have hP : va_P D classes [(ax, .inr (0, [.ref hr, .ref hs])), (hr, .inr (2, [.ref ac, .ref ar, .ref ag, .int (nI st), .int (nI sz), .int (nI fl), .int (nI sn), .int (nI md), .long (lN B), .int c0, .int c1, .int c2, .int c3, .int c4])), (ar, .inl (cB, 259, .inl f)), (ag, .inl (cB, 259, .inl g)), (ac, .inr (1, [.ref aw])), (aw, .inl (cB, 128, .inl wf)), (hs, .inr (3, [.ref sr, .ref ss, .int (nI tl), .int (nI tz)])), (sr, .inl (cB, 259, .inl tf)), (ss, .inl (cB, 306, .inl tg)), (hm, .inr (4, [.int th, .int (nI st), .int (nI md), .ref yb, .int (nI mn), .ref yr, .int (nI fl), .ref yv, .int (nI sz), .ref yw, .int (nI tl), .ref ys, .int (nI tz), .ref yc])), (yb, .inl (cI, 64, .inl fb)), (yr, .inl (cI, 259, .inl fr)), (yv, .inl (cI, 259, .inl fv)), (yw, .inl (cI, 259, .inl fw)), (ys, .inl (cI, 306, .inl fs)), (yc, .inl (cI, 5, .inl fc))] H := hP.sub [10, 11, 12, 13, 14, 15, 0, 1, 2, 3, 4, 5, 6, 7, 8, 9] rfl
          have hD : va_D A [(ax, .inr (0, [.ref hr, .ref hs])), (hr, .inr (2, [.ref ac, .ref ar, .ref ag, .int (nI st), .int (nI sz), .int (nI fl), .int (nI sn), .int (nI md), .long (lN B), .int c0, .int c1, .int c2, .int c3, .int c4])), (ar, .inl (cB, 259, .inl f)), (ag, .inl (cB, 259, .inl g)), (ac, .inr (1, [.ref aw])), (aw, .inl (cB, 128, .inl wf)), (hs, .inr (3, [.ref sr, .ref ss, .int (nI tl), .int (nI tz)])), (sr, .inl (cB, 259, .inl tf)), (ss, .inl (cB, 306, .inl tg)), (hm, .inr (4, [.int th, .int (nI st), .int (nI md), .ref yb, .int (nI mn), .ref yr, .int (nI fl), .ref yv, .int (nI sz), .ref yw, .int (nI tl), .ref ys, .int (nI tz), .ref yc])), (yb, .inl (cI, 64, .inl fb)), (yr, .inl (cI, 259, .inl fr)), (yv, .inl (cI, 259, .inl fv)), (yw, .inl (cI, 259, .inl fw)), (ys, .inl (cI, 306, .inl fs)), (yc, .inl (cI, 5, .inl fc))] := hD.sub [10, 11, 12, 13, 14, 15, 0, 1, 2, 3, 4, 5, 6, 7, 8, 9] (by decide) rfl
          refine W.widen (k := 16) (n := 2398) (Nat.le_of_ble_eq_true rfl) (Nat.le_of_ble_eq_true rfl) ?_
          refine lv_aload_n hx hb d_law_193 rfl (lv_at hl 2 rfl) ?_
          refine lv_aload_n hx hb d_law_194 rfl (lv_at hl 0 rfl) ?_
          refine lv_iload_n hx hb d_law_195 rfl (lv_at hl 3 rfl) ?_
          refine lv_iconst (v := nI 1) hx hb d_law_196 (by decide +kernel) ?_
          refine r_iadd hx hb d_law_197 ?_
          refine r_sld hx hb hX hbl hbA hS (by omega) hL d_law_198 ?_
          refine lv_aload_n hx hb d_law_199 rfl (lv_at hl 0 rfl) ?_
          refine lv_iload_n hx hb d_law_200 rfl (lv_at hl 3 rfl) ?_
          refine lv_iconst (v := nI 2) hx hb d_law_201 (by decide +kernel) ?_
          refine r_iadd hx hb d_law_202 ?_
          refine r_sld hx hb hX hbl hbA hS (by omega) hL d_law_203 ?_
          refine lv_i2l (v := (xs (i + 2)).toInt64) hx hb d_law_204 rfl ?_
          refine lv_bipush (v := nI 32) hx hb d_law_205 (by decide +kernel) ?_
          refine lv_lshl (v := ((xs (i + 2)).toInt64) <<< ((nI 32).toInt64 &&& 63)) hx hb d_law_207 rfl ?_
          refine lv_aload_n hx hb d_law_208 rfl (lv_at hl 0 rfl) ?_
          refine lv_iload_n hx hb d_law_209 rfl (lv_at hl 3 rfl) ?_
          refine lv_iconst (v := nI 3) hx hb d_law_210 (by decide +kernel) ?_
          refine r_iadd hx hb d_law_211 ?_
          refine r_sld hx hb hX hbl hbA hS (by omega) hL d_law_212 ?_
          refine lv_i2l (v := (xs (i + 3)).toInt64) hx hb d_law_213 rfl ?_
          refine lv_ldc2 (v := 4294967295) hx hb E.1.2.2.2.1 (E.1.2.2.2.2 _ k_328) d_law_214 ?_
          refine r_topl (y := lN 4294967295) (by decide +kernel) ?_
          refine lv_land hx hb d_law_217 ?_
          refine lv_lor hx hb d_law_218 ?_
          refine r_topl (y := lN w) h_we ?_
          skip
          refine r_callVI (wr := [(ax, .inr (0, [.ref hr, .ref hs])), (hr, .inr (2, [.ref ac, .ref ar, .ref ag, .int (nI st), .int (nI sz), .int (nI fl), .int (nI sn), .int (nI md), .long (lN B), .int c0, .int c1, .int c2, .int c3, .int c4])), (ar, .inl (cB, 259, .inl f)), (ag, .inl (cB, 259, .inl g)), (ac, .inr (1, [.ref aw])), (aw, .inl (cB, 128, .inl wf)), (hs, .inr (3, [.ref sr, .ref ss, .int (nI tl), .int (nI tz)])), (sr, .inl (cB, 259, .inl tf)), (ss, .inl (cB, 306, .inl tg)), (yw, .inl (cI, 259, .inl fw)), (ys, .inl (cI, 306, .inl fs))]) (rest := [.int (-1)]) E cs_law_29 (c_M_take l D cB cI hm yb yr yv yw ys yc st md mn fl sz tl tz th fb fr fv fc (ar, ag, st, sz, fl, sn, md, B, c0, c1, c2, c3, c4, f, g) (xs (i + 1)) w h_wv hrep hri) hP hD hS hA [9, 10, 11, 12, 15] [0, 1, 2, 3, 4, 5, 6, 7, 8, 13, 14] ⟨rfl, rfl, by decide, by decide, by decide⟩ kc_M rfl hl.1 rfl rfl (Nat.le_of_ble_eq_true rfl) ⟨by decide, by decide⟩ ⟨by decide, by decide⟩ d_law_219 (fun r u H locs hw hP hD hS => ?_)
          obtain ⟨rfl, rfl⟩ := hw.1 hq
          have hP : va_P D classes [(ax, .inr (0, [.ref hr, .ref hs])), (hr, .inr (2, [.ref ac, .ref ar, .ref ag, .int (nI st), .int (nI sz), .int (nI fl), .int (nI sn), .int (nI md), .long (lN B), .int c0, .int c1, .int c2, .int c3, .int c4])), (ar, .inl (cB, 259, .inl f)), (ag, .inl (cB, 259, .inl g)), (ac, .inr (1, [.ref aw])), (aw, .inl (cB, 128, .inl wf)), (hs, .inr (3, [.ref sr, .ref ss, .int (nI tl), .int (nI tz)])), (sr, .inl (cB, 259, .inl tf)), (ss, .inl (cB, 306, .inl tg)), (hm, .inr (4, [.int (nI 0), .int (nI st), .int (nI md), .ref yb, .int (nI mn), .ref yr, .int (nI fl), .ref yv, .int (nI sz), .ref yw, .int (nI tl), .ref ys, .int (nI tz), .ref yc])), (yb, .inl (cI, 64, .inl fb)), (yr, .inl (cI, 259, .inl fr)), (yv, .inl (cI, 259, .inl fv)), (yw, .inl (cI, 259, .inl fw)), (ys, .inl (cI, 306, .inl fs)), (yc, .inl (cI, 5, .inl fc))] H := hP.sub [0, 1, 2, 3, 4, 5, 6, 7, 8, 11, 12, 13, 14, 9, 10, 15] rfl
          have hD : va_D A [(ax, .inr (0, [.ref hr, .ref hs])), (hr, .inr (2, [.ref ac, .ref ar, .ref ag, .int (nI st), .int (nI sz), .int (nI fl), .int (nI sn), .int (nI md), .long (lN B), .int c0, .int c1, .int c2, .int c3, .int c4])), (ar, .inl (cB, 259, .inl f)), (ag, .inl (cB, 259, .inl g)), (ac, .inr (1, [.ref aw])), (aw, .inl (cB, 128, .inl wf)), (hs, .inr (3, [.ref sr, .ref ss, .int (nI tl), .int (nI tz)])), (sr, .inl (cB, 259, .inl tf)), (ss, .inl (cB, 306, .inl tg)), (hm, .inr (4, [.int (nI 0), .int (nI st), .int (nI md), .ref yb, .int (nI mn), .ref yr, .int (nI fl), .ref yv, .int (nI sz), .ref yw, .int (nI tl), .ref ys, .int (nI tz), .ref yc])), (yb, .inl (cI, 64, .inl fb)), (yr, .inl (cI, 259, .inl fr)), (yv, .inl (cI, 259, .inl fv)), (yw, .inl (cI, 259, .inl fw)), (ys, .inl (cI, 306, .inl fs)), (yc, .inl (cI, 5, .inl fc))] := hD.sub [0, 1, 2, 3, 4, 5, 6, 7, 8, 11, 12, 13, 14, 9, 10, 15] (by decide) rfl
          refine W.widen (k := 16) (n := 2398) (Nat.le_of_ble_eq_true rfl) (Nat.le_of_ble_eq_true rfl) ?_
          refine lv_icmp_eq (tgt := 358) hx hb d_law_222 (by decide) (fun c222 => ?_) (fun c222 => False.elim (c222 rfl))
          refine lv_iinc (v := nI (i + 4)) (lv' := [(3, .int (nI (i + 4))), (0, .ref b), (1, .ref ax), (2, .ref hm)]) hx hb d_law_358 hl (k := 3) rfl (nI_add _ _) (by decide) rfl (fun ls hl => ?_)
          refine lv_goto (tgt := 18) hx hb d_law_361 (by decide) ?_
          exact ih (i + 4) (ar, ag, st, sz, fl, sn, md, B, c0, c1, c2, c3, c4, f, g) ((st, mn, fl, sz, fr, fv, fc), fb) md (nI 0) (tl, tz, tf, tg) fw fs H locs ls ⟨by omega, by omega, hri, hrep, hsr⟩ hP hD hS (lv_sub hl [1, 2, 3, 0] rfl)
        · skip
          refine lv_aload_n hx hb d_law_164 rfl (lv_at hl 1 rfl) ?_
          refine lv_aload_n hx hb d_law_165 rfl (lv_at hl 0 rfl) ?_
          refine lv_iload_n hx hb d_law_166 rfl (lv_at hl 3 rfl) ?_
          refine lv_iconst (v := nI 1) hx hb d_law_167 (by decide +kernel) ?_
          refine r_iadd hx hb d_law_168 ?_
          refine r_sld hx hb hX hbl hbA hS (by omega) hL d_law_169 ?_
          refine lv_aload_n hx hb d_law_170 rfl (lv_at hl 0 rfl) ?_
          refine lv_iload_n hx hb d_law_171 rfl (lv_at hl 3 rfl) ?_
          refine lv_iconst (v := nI 2) hx hb d_law_172 (by decide +kernel) ?_
          refine r_iadd hx hb d_law_173 ?_
          refine r_sld hx hb hX hbl hbA hS (by omega) hL d_law_174 ?_
          refine lv_i2l (v := (xs (i + 2)).toInt64) hx hb d_law_175 rfl ?_
          refine lv_bipush (v := nI 32) hx hb d_law_176 (by decide +kernel) ?_
          refine lv_lshl (v := ((xs (i + 2)).toInt64) <<< ((nI 32).toInt64 &&& 63)) hx hb d_law_178 rfl ?_
          refine lv_aload_n hx hb d_law_179 rfl (lv_at hl 0 rfl) ?_
          refine lv_iload_n hx hb d_law_180 rfl (lv_at hl 3 rfl) ?_
          refine lv_iconst (v := nI 3) hx hb d_law_181 (by decide +kernel) ?_
          refine r_iadd hx hb d_law_182 ?_
          refine r_sld hx hb hX hbl hbA hS (by omega) hL d_law_183 ?_
          refine lv_i2l (v := (xs (i + 3)).toInt64) hx hb d_law_184 rfl ?_
          refine lv_ldc2 (v := 4294967295) hx hb E.1.2.2.2.1 (E.1.2.2.2.2 _ k_328) d_law_185 ?_
          refine r_topl (y := lN 4294967295) (by decide +kernel) ?_
          refine lv_land hx hb d_law_188 ?_
          refine lv_lor hx hb d_law_189 ?_
          obtain ⟨w, h_wv, h_we⟩ := wb_of ((((xs (i + 2)).toInt64) <<< ((nI 32).toInt64 &&& 63)) ||| (((xs (i + 3)).toInt64) &&& (lN 4294967295)))
          refine r_topl (y := lN w) h_we ?_
          skip
          refine r_callVI (wr := [(hs, .inr (3, [.ref sr, .ref ss, .int (nI tl), .int (nI tz)])), (sr, .inl (cB, 259, .inl tf)), (ss, .inl (cB, 306, .inl tg)), (hm, .inr (4, [.int th, .int (nI st), .int (nI md), .ref yb, .int (nI mn), .ref yr, .int (nI fl), .ref yv, .int (nI sz), .ref yw, .int (nI tl), .ref ys, .int (nI tz), .ref yc])), (yb, .inl (cI, 64, .inl fb)), (yr, .inl (cI, 259, .inl fr)), (yv, .inl (cI, 259, .inl fv)), (yw, .inl (cI, 259, .inl fw)), (ys, .inl (cI, 306, .inl fs)), (yc, .inl (cI, 5, .inl fc))]) (rest := []) E cs_law_25 (c_X_take l D cB cI ax hs hr ac ar ag st sz fl sn md B c0 c1 c2 c3 c4 aw wf f g (xs (i + 1)) w h_wv hri h_w) hP hD hS hA [0, 1, 2, 3, 4, 5] [6, 7, 8, 9, 10, 11, 12, 13, 14, 15] ⟨rfl, rfl, by decide, by decide, by decide⟩ kc_X rfl hl.1 rfl rfl (Nat.le_of_ble_eq_true rfl) ⟨by decide, by decide⟩ ⟨by decide, by decide⟩ d_law_190 (fun r u H locs hw hP hD hS => ?_)
          obtain ⟨arz, agz, stz, szz, flz, snz, mdz, Bz, c0z, c1z, c2z, c3z, c4z, fz, gz⟩ := u
          have hq1 : st ≠ 0 := fun z => hq (Or.inl z)
          obtain ⟨k, hk1, hk2, hk3⟩ := k64 (fun z => hq (Or.inr (Or.inl z))) (Classical.byContradiction fun z => hq (Or.inr (Or.inr z)))
          obtain ⟨hz, rfl⟩ := hw.2 k hq1 hk1 hk2 hk3
          have hP : va_P D classes [(ax, .inr (0, [.ref hr, .ref hs])), (hr, .inr (2, [.ref ac, .ref arz, .ref agz, .int (nI stz), .int (nI szz), .int (nI flz), .int (nI snz), .int (nI mdz), .long (lN Bz), .int c0z, .int c1z, .int c2z, .int c3z, .int c4z])), (arz, .inl (cB, 259, .inl fz)), (agz, .inl (cB, 259, .inl gz)), (ac, .inr (1, [.ref aw])), (aw, .inl (cB, 128, .inl wf)), (hs, .inr (3, [.ref sr, .ref ss, .int (nI tl), .int (nI tz)])), (sr, .inl (cB, 259, .inl tf)), (ss, .inl (cB, 306, .inl tg)), (hm, .inr (4, [.int th, .int (nI st), .int (nI md), .ref yb, .int (nI mn), .ref yr, .int (nI fl), .ref yv, .int (nI sz), .ref yw, .int (nI tl), .ref ys, .int (nI tz), .ref yc])), (yb, .inl (cI, 64, .inl fb)), (yr, .inl (cI, 259, .inl fr)), (yv, .inl (cI, 259, .inl fv)), (yw, .inl (cI, 259, .inl fw)), (ys, .inl (cI, 306, .inl fs)), (yc, .inl (cI, 5, .inl fc))] H := hP.sub [10, 11, 12, 13, 14, 15, 0, 1, 2, 3, 4, 5, 6, 7, 8, 9] rfl
          have hD : va_D A [(ax, .inr (0, [.ref hr, .ref hs])), (hr, .inr (2, [.ref ac, .ref arz, .ref agz, .int (nI stz), .int (nI szz), .int (nI flz), .int (nI snz), .int (nI mdz), .long (lN Bz), .int c0z, .int c1z, .int c2z, .int c3z, .int c4z])), (arz, .inl (cB, 259, .inl fz)), (agz, .inl (cB, 259, .inl gz)), (ac, .inr (1, [.ref aw])), (aw, .inl (cB, 128, .inl wf)), (hs, .inr (3, [.ref sr, .ref ss, .int (nI tl), .int (nI tz)])), (sr, .inl (cB, 259, .inl tf)), (ss, .inl (cB, 306, .inl tg)), (hm, .inr (4, [.int th, .int (nI st), .int (nI md), .ref yb, .int (nI mn), .ref yr, .int (nI fl), .ref yv, .int (nI sz), .ref yw, .int (nI tl), .ref ys, .int (nI tz), .ref yc])), (yb, .inl (cI, 64, .inl fb)), (yr, .inl (cI, 259, .inl fr)), (yv, .inl (cI, 259, .inl fv)), (yw, .inl (cI, 259, .inl fw)), (ys, .inl (cI, 306, .inl fs)), (yc, .inl (cI, 5, .inl fc))] := hD.sub [10, 11, 12, 13, 14, 15, 0, 1, 2, 3, 4, 5, 6, 7, 8, 9] (by decide) rfl
          refine W.widen (k := 16) (n := 2398) (Nat.le_of_ble_eq_true rfl) (Nat.le_of_ble_eq_true rfl) ?_
          refine lv_aload_n hx hb d_law_193 rfl (lv_at hl 2 rfl) ?_
          refine lv_aload_n hx hb d_law_194 rfl (lv_at hl 0 rfl) ?_
          refine lv_iload_n hx hb d_law_195 rfl (lv_at hl 3 rfl) ?_
          refine lv_iconst (v := nI 1) hx hb d_law_196 (by decide +kernel) ?_
          refine r_iadd hx hb d_law_197 ?_
          refine r_sld hx hb hX hbl hbA hS (by omega) hL d_law_198 ?_
          refine lv_aload_n hx hb d_law_199 rfl (lv_at hl 0 rfl) ?_
          refine lv_iload_n hx hb d_law_200 rfl (lv_at hl 3 rfl) ?_
          refine lv_iconst (v := nI 2) hx hb d_law_201 (by decide +kernel) ?_
          refine r_iadd hx hb d_law_202 ?_
          refine r_sld hx hb hX hbl hbA hS (by omega) hL d_law_203 ?_
          refine lv_i2l (v := (xs (i + 2)).toInt64) hx hb d_law_204 rfl ?_
          refine lv_bipush (v := nI 32) hx hb d_law_205 (by decide +kernel) ?_
          refine lv_lshl (v := ((xs (i + 2)).toInt64) <<< ((nI 32).toInt64 &&& 63)) hx hb d_law_207 rfl ?_
          refine lv_aload_n hx hb d_law_208 rfl (lv_at hl 0 rfl) ?_
          refine lv_iload_n hx hb d_law_209 rfl (lv_at hl 3 rfl) ?_
          refine lv_iconst (v := nI 3) hx hb d_law_210 (by decide +kernel) ?_
          refine r_iadd hx hb d_law_211 ?_
          refine r_sld hx hb hX hbl hbA hS (by omega) hL d_law_212 ?_
          refine lv_i2l (v := (xs (i + 3)).toInt64) hx hb d_law_213 rfl ?_
          refine lv_ldc2 (v := 4294967295) hx hb E.1.2.2.2.1 (E.1.2.2.2.2 _ k_328) d_law_214 ?_
          refine r_topl (y := lN 4294967295) (by decide +kernel) ?_
          refine lv_land hx hb d_law_217 ?_
          refine lv_lor hx hb d_law_218 ?_
          refine r_topl (y := lN w) h_we ?_
          skip
          refine r_callVI (wr := [(ax, .inr (0, [.ref hr, .ref hs])), (hr, .inr (2, [.ref ac, .ref arz, .ref agz, .int (nI stz), .int (nI szz), .int (nI flz), .int (nI snz), .int (nI mdz), .long (lN Bz), .int c0z, .int c1z, .int c2z, .int c3z, .int c4z])), (arz, .inl (cB, 259, .inl fz)), (agz, .inl (cB, 259, .inl gz)), (ac, .inr (1, [.ref aw])), (aw, .inl (cB, 128, .inl wf)), (hs, .inr (3, [.ref sr, .ref ss, .int (nI tl), .int (nI tz)])), (sr, .inl (cB, 259, .inl tf)), (ss, .inl (cB, 306, .inl tg)), (yw, .inl (cI, 259, .inl fw)), (ys, .inl (cI, 306, .inl fs))]) (rest := [.int (nI ((rc_take w k (ar, ag, st, sz, fl, sn, md, B, c0, c1, c2, c3, c4, f, g)).2))]) E cs_law_29 (c_M_take l D cB cI hm yb yr yv yw ys yc st md mn fl sz tl tz th fb fr fv fc (ar, ag, st, sz, fl, sn, md, B, c0, c1, c2, c3, c4, f, g) (xs (i + 1)) w h_wv hrep hri) hP hD hS hA [9, 10, 11, 12, 15] [0, 1, 2, 3, 4, 5, 6, 7, 8, 13, 14] ⟨rfl, rfl, by decide, by decide, by decide⟩ kc_M rfl hl.1 rfl rfl (Nat.le_of_ble_eq_true rfl) ⟨by decide, by decide⟩ ⟨by decide, by decide⟩ d_law_219 (fun r u9 H locs hw hP hD hS => ?_)
          obtain ⟨⟨stm, mnm, rom, szm, frm, fvm, fcm⟩, fbm⟩ := u9
          obtain ⟨rfl, hzm⟩ := hw.2 k hq1 hk1 hk2 hk3
          have hP : va_P D classes [(ax, .inr (0, [.ref hr, .ref hs])), (hr, .inr (2, [.ref ac, .ref arz, .ref agz, .int (nI stz), .int (nI szz), .int (nI flz), .int (nI snz), .int (nI mdz), .long (lN Bz), .int c0z, .int c1z, .int c2z, .int c3z, .int c4z])), (arz, .inl (cB, 259, .inl fz)), (agz, .inl (cB, 259, .inl gz)), (ac, .inr (1, [.ref aw])), (aw, .inl (cB, 128, .inl wf)), (hs, .inr (3, [.ref sr, .ref ss, .int (nI tl), .int (nI tz)])), (sr, .inl (cB, 259, .inl tf)), (ss, .inl (cB, 306, .inl tg)), (hm, .inr (4, [.int (nI 0), .int (nI stm), .int (nI md), .ref yb, .int (nI mnm), .ref yr, .int (nI rom), .ref yv, .int (nI szm), .ref yw, .int (nI tl), .ref ys, .int (nI tz), .ref yc])), (yb, .inl (cI, 64, .inl fbm)), (yr, .inl (cI, 259, .inl frm)), (yv, .inl (cI, 259, .inl fvm)), (yw, .inl (cI, 259, .inl fw)), (ys, .inl (cI, 306, .inl fs)), (yc, .inl (cI, 5, .inl fcm))] H := hP.sub [0, 1, 2, 3, 4, 5, 6, 7, 8, 11, 12, 13, 14, 9, 10, 15] rfl
          have hD : va_D A [(ax, .inr (0, [.ref hr, .ref hs])), (hr, .inr (2, [.ref ac, .ref arz, .ref agz, .int (nI stz), .int (nI szz), .int (nI flz), .int (nI snz), .int (nI mdz), .long (lN Bz), .int c0z, .int c1z, .int c2z, .int c3z, .int c4z])), (arz, .inl (cB, 259, .inl fz)), (agz, .inl (cB, 259, .inl gz)), (ac, .inr (1, [.ref aw])), (aw, .inl (cB, 128, .inl wf)), (hs, .inr (3, [.ref sr, .ref ss, .int (nI tl), .int (nI tz)])), (sr, .inl (cB, 259, .inl tf)), (ss, .inl (cB, 306, .inl tg)), (hm, .inr (4, [.int (nI 0), .int (nI stm), .int (nI md), .ref yb, .int (nI mnm), .ref yr, .int (nI rom), .ref yv, .int (nI szm), .ref yw, .int (nI tl), .ref ys, .int (nI tz), .ref yc])), (yb, .inl (cI, 64, .inl fbm)), (yr, .inl (cI, 259, .inl frm)), (yv, .inl (cI, 259, .inl fvm)), (yw, .inl (cI, 259, .inl fw)), (ys, .inl (cI, 306, .inl fs)), (yc, .inl (cI, 5, .inl fcm))] := hD.sub [0, 1, 2, 3, 4, 5, 6, 7, 8, 11, 12, 13, 14, 9, 10, 15] (by decide) rfl
          refine W.widen (k := 16) (n := 2398) (Nat.le_of_ble_eq_true rfl) (Nat.le_of_ble_eq_true rfl) ?_
          refine lv_icmp_eq (tgt := 358) hx hb d_law_222 (by decide) (fun c222 => ?_) (fun c222 => False.elim (c222 rfl))
          refine lv_iinc (v := nI (i + 4)) (lv' := [(3, .int (nI (i + 4))), (0, .ref b), (1, .ref ax), (2, .ref hm)]) hx hb d_law_358 hl (k := 3) rfl (nI_add _ _) (by decide) rfl (fun ls hl => ?_)
          refine lv_goto (tgt := 18) hx hb d_law_361 (by decide) ?_
          exact ih (i + 4) (arz, agz, stz, szz, flz, snz, mdz, Bz, c0z, c1z, c2z, c3z, c4z, fz, gz) ((stm, mnm, rom, szm, frm, fvm, fcm), fbm) md (nI 0) (tl, tz, tf, tg) fw fs H locs ls ⟨by omega, by omega, (by rw [hz]; exact ri_take _ _ hri), (by rw [hz]; exact hzm), hsr⟩ hP hD hS (lv_sub hl [1, 2, 3, 0] rfl)
      · refine lv_tableIn (tgt := 227) (off := 195) hx hb d_law_32 (by decide +kernel) (by decide +kernel) (by decide +kernel) (by decide) ?_
        refine lv_aload_n hx hb d_law_227 rfl (lv_at hl 1 rfl) ?_
        refine r_callVI (wr := [(ar, .inl (cB, 259, .inl f)), (ag, .inl (cB, 259, .inl g)), (ac, .inr (1, [.ref aw])), (aw, .inl (cB, 128, .inl wf)), (hs, .inr (3, [.ref sr, .ref ss, .int (nI tl), .int (nI tz)])), (sr, .inl (cB, 259, .inl tf)), (ss, .inl (cB, 306, .inl tg)), (hm, .inr (4, [.int th, .int (nI st), .int (nI md), .ref yb, .int (nI mn), .ref yr, .int (nI fl), .ref yv, .int (nI sz), .ref yw, .int (nI tl), .ref ys, .int (nI tz), .ref yc])), (yb, .inl (cI, 64, .inl fb)), (yr, .inl (cI, 259, .inl fr)), (yv, .inl (cI, 259, .inl fv)), (yw, .inl (cI, 259, .inl fw)), (ys, .inl (cI, 306, .inl fs)), (yc, .inl (cI, 5, .inl fc))]) (rest := []) E cs_law_30 (c_X_state l D cB cI ax hs hr ac ar ag st sz fl sn md B c0 c1 c2 c3 c4) hP hD hS hA [0, 1] [2, 3, 4, 5, 6, 7, 8, 9, 10, 11, 12, 13, 14, 15] ⟨rfl, rfl, by decide, by decide, by decide⟩ kc_X rfl hl.1 rfl rfl (Nat.le_of_ble_eq_true rfl) ⟨by decide, by decide⟩ ⟨by decide, by decide⟩ d_law_228 (fun r u H locs hw hP hD hS => ?_)
        subst hw
        have hP : va_P D classes [(ax, .inr (0, [.ref hr, .ref hs])), (hr, .inr (2, [.ref ac, .ref ar, .ref ag, .int (nI st), .int (nI sz), .int (nI fl), .int (nI sn), .int (nI md), .long (lN B), .int c0, .int c1, .int c2, .int c3, .int c4])), (ar, .inl (cB, 259, .inl f)), (ag, .inl (cB, 259, .inl g)), (ac, .inr (1, [.ref aw])), (aw, .inl (cB, 128, .inl wf)), (hs, .inr (3, [.ref sr, .ref ss, .int (nI tl), .int (nI tz)])), (sr, .inl (cB, 259, .inl tf)), (ss, .inl (cB, 306, .inl tg)), (hm, .inr (4, [.int th, .int (nI st), .int (nI md), .ref yb, .int (nI mn), .ref yr, .int (nI fl), .ref yv, .int (nI sz), .ref yw, .int (nI tl), .ref ys, .int (nI tz), .ref yc])), (yb, .inl (cI, 64, .inl fb)), (yr, .inl (cI, 259, .inl fr)), (yv, .inl (cI, 259, .inl fv)), (yw, .inl (cI, 259, .inl fw)), (ys, .inl (cI, 306, .inl fs)), (yc, .inl (cI, 5, .inl fc))] H := hP.sub [14, 15, 0, 1, 2, 3, 4, 5, 6, 7, 8, 9, 10, 11, 12, 13] rfl
        have hD : va_D A [(ax, .inr (0, [.ref hr, .ref hs])), (hr, .inr (2, [.ref ac, .ref ar, .ref ag, .int (nI st), .int (nI sz), .int (nI fl), .int (nI sn), .int (nI md), .long (lN B), .int c0, .int c1, .int c2, .int c3, .int c4])), (ar, .inl (cB, 259, .inl f)), (ag, .inl (cB, 259, .inl g)), (ac, .inr (1, [.ref aw])), (aw, .inl (cB, 128, .inl wf)), (hs, .inr (3, [.ref sr, .ref ss, .int (nI tl), .int (nI tz)])), (sr, .inl (cB, 259, .inl tf)), (ss, .inl (cB, 306, .inl tg)), (hm, .inr (4, [.int th, .int (nI st), .int (nI md), .ref yb, .int (nI mn), .ref yr, .int (nI fl), .ref yv, .int (nI sz), .ref yw, .int (nI tl), .ref ys, .int (nI tz), .ref yc])), (yb, .inl (cI, 64, .inl fb)), (yr, .inl (cI, 259, .inl fr)), (yv, .inl (cI, 259, .inl fv)), (yw, .inl (cI, 259, .inl fw)), (ys, .inl (cI, 306, .inl fs)), (yc, .inl (cI, 5, .inl fc))] := hD.sub [14, 15, 0, 1, 2, 3, 4, 5, 6, 7, 8, 9, 10, 11, 12, 13] (by decide) rfl
        refine W.widen (k := 16) (n := 2398) (Nat.le_of_ble_eq_true rfl) (Nat.le_of_ble_eq_true rfl) ?_
        refine lv_aload_n hx hb d_law_231 rfl (lv_at hl 2 rfl) ?_
        refine r_callVI (wr := [(ax, .inr (0, [.ref hr, .ref hs])), (hr, .inr (2, [.ref ac, .ref ar, .ref ag, .int (nI st), .int (nI sz), .int (nI fl), .int (nI sn), .int (nI md), .long (lN B), .int c0, .int c1, .int c2, .int c3, .int c4])), (ar, .inl (cB, 259, .inl f)), (ag, .inl (cB, 259, .inl g)), (ac, .inr (1, [.ref aw])), (aw, .inl (cB, 128, .inl wf)), (hs, .inr (3, [.ref sr, .ref ss, .int (nI tl), .int (nI tz)])), (sr, .inl (cB, 259, .inl tf)), (ss, .inl (cB, 306, .inl tg)), (yb, .inl (cI, 64, .inl fb)), (yr, .inl (cI, 259, .inl fr)), (yv, .inl (cI, 259, .inl fv)), (yw, .inl (cI, 259, .inl fw)), (ys, .inl (cI, 306, .inl fs)), (yc, .inl (cI, 5, .inl fc))]) (rest := [.int (nI st)]) E cs_law_34 (c_M_state l D cB cI hm yb yr yv yw ys yc st md mn fl sz tl tz th) hP hD hS hA [9] [0, 1, 2, 3, 4, 5, 6, 7, 8, 10, 11, 12, 13, 14, 15] ⟨rfl, rfl, by decide, by decide, by decide⟩ kc_M rfl hl.1 rfl rfl (Nat.le_of_ble_eq_true rfl) ⟨by decide, by decide⟩ ⟨by decide, by decide⟩ d_law_232 (fun r u H locs hw hP hD hS => ?_)
        subst hw
        have hP : va_P D classes [(ax, .inr (0, [.ref hr, .ref hs])), (hr, .inr (2, [.ref ac, .ref ar, .ref ag, .int (nI st), .int (nI sz), .int (nI fl), .int (nI sn), .int (nI md), .long (lN B), .int c0, .int c1, .int c2, .int c3, .int c4])), (ar, .inl (cB, 259, .inl f)), (ag, .inl (cB, 259, .inl g)), (ac, .inr (1, [.ref aw])), (aw, .inl (cB, 128, .inl wf)), (hs, .inr (3, [.ref sr, .ref ss, .int (nI tl), .int (nI tz)])), (sr, .inl (cB, 259, .inl tf)), (ss, .inl (cB, 306, .inl tg)), (hm, .inr (4, [.int (nI 0), .int (nI st), .int (nI md), .ref yb, .int (nI mn), .ref yr, .int (nI fl), .ref yv, .int (nI sz), .ref yw, .int (nI tl), .ref ys, .int (nI tz), .ref yc])), (yb, .inl (cI, 64, .inl fb)), (yr, .inl (cI, 259, .inl fr)), (yv, .inl (cI, 259, .inl fv)), (yw, .inl (cI, 259, .inl fw)), (ys, .inl (cI, 306, .inl fs)), (yc, .inl (cI, 5, .inl fc))] H := hP.sub [0, 1, 2, 3, 4, 5, 6, 7, 8, 15, 9, 10, 11, 12, 13, 14] rfl
        have hD : va_D A [(ax, .inr (0, [.ref hr, .ref hs])), (hr, .inr (2, [.ref ac, .ref ar, .ref ag, .int (nI st), .int (nI sz), .int (nI fl), .int (nI sn), .int (nI md), .long (lN B), .int c0, .int c1, .int c2, .int c3, .int c4])), (ar, .inl (cB, 259, .inl f)), (ag, .inl (cB, 259, .inl g)), (ac, .inr (1, [.ref aw])), (aw, .inl (cB, 128, .inl wf)), (hs, .inr (3, [.ref sr, .ref ss, .int (nI tl), .int (nI tz)])), (sr, .inl (cB, 259, .inl tf)), (ss, .inl (cB, 306, .inl tg)), (hm, .inr (4, [.int (nI 0), .int (nI st), .int (nI md), .ref yb, .int (nI mn), .ref yr, .int (nI fl), .ref yv, .int (nI sz), .ref yw, .int (nI tl), .ref ys, .int (nI tz), .ref yc])), (yb, .inl (cI, 64, .inl fb)), (yr, .inl (cI, 259, .inl fr)), (yv, .inl (cI, 259, .inl fv)), (yw, .inl (cI, 259, .inl fw)), (ys, .inl (cI, 306, .inl fs)), (yc, .inl (cI, 5, .inl fc))] := hD.sub [0, 1, 2, 3, 4, 5, 6, 7, 8, 15, 9, 10, 11, 12, 13, 14] (by decide) rfl
        refine W.widen (k := 16) (n := 2398) (Nat.le_of_ble_eq_true rfl) (Nat.le_of_ble_eq_true rfl) ?_
        refine lv_icmp_eq (tgt := 358) hx hb d_law_235 (by decide) (fun c235 => ?_) (fun c235 => False.elim (c235 rfl))
        refine lv_iinc (v := nI (i + 4)) (lv' := [(3, .int (nI (i + 4))), (0, .ref b), (1, .ref ax), (2, .ref hm)]) hx hb d_law_358 hl (k := 3) rfl (nI_add _ _) (by decide) rfl (fun ls hl => ?_)
        refine lv_goto (tgt := 18) hx hb d_law_361 (by decide) ?_
        exact ih (i + 4) (ar, ag, st, sz, fl, sn, md, B, c0, c1, c2, c3, c4, f, g) ((st, mn, fl, sz, fr, fv, fc), fb) md (nI 0) (tl, tz, tf, tg) fw fs H locs ls ⟨by omega, by omega, hri, hrep, hsr⟩ hP hD hS (lv_sub hl [1, 2, 3, 0] rfl)
      · refine lv_tableIn (tgt := 240) (off := 208) hx hb d_law_32 (by decide +kernel) (by decide +kernel) (by decide +kernel) (by decide) ?_
        refine lv_aload_n hx hb d_law_240 rfl (lv_at hl 1 rfl) ?_
        refine lv_aload_n hx hb d_law_241 rfl (lv_at hl 0 rfl) ?_
        refine lv_iload_n hx hb d_law_242 rfl (lv_at hl 3 rfl) ?_
        refine lv_iconst (v := nI 1) hx hb d_law_243 (by decide +kernel) ?_
        refine r_iadd hx hb d_law_244 ?_
        refine r_sld hx hb hX hbl hbA hS (by omega) hL d_law_245 ?_
        refine r_callVI (wr := [(ar, .inl (cB, 259, .inl f)), (ag, .inl (cB, 259, .inl g)), (ac, .inr (1, [.ref aw])), (aw, .inl (cB, 128, .inl wf)), (hs, .inr (3, [.ref sr, .ref ss, .int (nI tl), .int (nI tz)])), (sr, .inl (cB, 259, .inl tf)), (ss, .inl (cB, 306, .inl tg)), (hm, .inr (4, [.int th, .int (nI st), .int (nI md), .ref yb, .int (nI mn), .ref yr, .int (nI fl), .ref yv, .int (nI sz), .ref yw, .int (nI tl), .ref ys, .int (nI tz), .ref yc])), (yb, .inl (cI, 64, .inl fb)), (yr, .inl (cI, 259, .inl fr)), (yv, .inl (cI, 259, .inl fv)), (yw, .inl (cI, 259, .inl fw)), (ys, .inl (cI, 306, .inl fs)), (yc, .inl (cI, 5, .inl fc))]) (rest := []) E cs_law_35 (c_X_count l D cB cI ax hs hr ac ar ag st sz fl sn md B c0 c1 c2 c3 c4 (xs (i + 1))) hP hD hS hA [0, 1] [2, 3, 4, 5, 6, 7, 8, 9, 10, 11, 12, 13, 14, 15] ⟨rfl, rfl, by decide, by decide, by decide⟩ kc_X rfl hl.1 rfl rfl (Nat.le_of_ble_eq_true rfl) ⟨by decide, by decide⟩ ⟨by decide, by decide⟩ d_law_246 (fun r u H locs hw hP hD hS => ?_)
        subst hw
        have hP : va_P D classes [(ax, .inr (0, [.ref hr, .ref hs])), (hr, .inr (2, [.ref ac, .ref ar, .ref ag, .int (nI st), .int (nI sz), .int (nI fl), .int (nI sn), .int (nI md), .long (lN B), .int c0, .int c1, .int c2, .int c3, .int c4])), (ar, .inl (cB, 259, .inl f)), (ag, .inl (cB, 259, .inl g)), (ac, .inr (1, [.ref aw])), (aw, .inl (cB, 128, .inl wf)), (hs, .inr (3, [.ref sr, .ref ss, .int (nI tl), .int (nI tz)])), (sr, .inl (cB, 259, .inl tf)), (ss, .inl (cB, 306, .inl tg)), (hm, .inr (4, [.int th, .int (nI st), .int (nI md), .ref yb, .int (nI mn), .ref yr, .int (nI fl), .ref yv, .int (nI sz), .ref yw, .int (nI tl), .ref ys, .int (nI tz), .ref yc])), (yb, .inl (cI, 64, .inl fb)), (yr, .inl (cI, 259, .inl fr)), (yv, .inl (cI, 259, .inl fv)), (yw, .inl (cI, 259, .inl fw)), (ys, .inl (cI, 306, .inl fs)), (yc, .inl (cI, 5, .inl fc))] H := hP.sub [14, 15, 0, 1, 2, 3, 4, 5, 6, 7, 8, 9, 10, 11, 12, 13] rfl
        have hD : va_D A [(ax, .inr (0, [.ref hr, .ref hs])), (hr, .inr (2, [.ref ac, .ref ar, .ref ag, .int (nI st), .int (nI sz), .int (nI fl), .int (nI sn), .int (nI md), .long (lN B), .int c0, .int c1, .int c2, .int c3, .int c4])), (ar, .inl (cB, 259, .inl f)), (ag, .inl (cB, 259, .inl g)), (ac, .inr (1, [.ref aw])), (aw, .inl (cB, 128, .inl wf)), (hs, .inr (3, [.ref sr, .ref ss, .int (nI tl), .int (nI tz)])), (sr, .inl (cB, 259, .inl tf)), (ss, .inl (cB, 306, .inl tg)), (hm, .inr (4, [.int th, .int (nI st), .int (nI md), .ref yb, .int (nI mn), .ref yr, .int (nI fl), .ref yv, .int (nI sz), .ref yw, .int (nI tl), .ref ys, .int (nI tz), .ref yc])), (yb, .inl (cI, 64, .inl fb)), (yr, .inl (cI, 259, .inl fr)), (yv, .inl (cI, 259, .inl fv)), (yw, .inl (cI, 259, .inl fw)), (ys, .inl (cI, 306, .inl fs)), (yc, .inl (cI, 5, .inl fc))] := hD.sub [14, 15, 0, 1, 2, 3, 4, 5, 6, 7, 8, 9, 10, 11, 12, 13] (by decide) rfl
        refine W.widen (k := 16) (n := 2398) (Nat.le_of_ble_eq_true rfl) (Nat.le_of_ble_eq_true rfl) ?_
        refine lv_aload_n hx hb d_law_249 rfl (lv_at hl 2 rfl) ?_
        refine lv_aload_n hx hb d_law_250 rfl (lv_at hl 0 rfl) ?_
        refine lv_iload_n hx hb d_law_251 rfl (lv_at hl 3 rfl) ?_
        refine lv_iconst (v := nI 1) hx hb d_law_252 (by decide +kernel) ?_
        refine r_iadd hx hb d_law_253 ?_
        refine r_sld hx hb hX hbl hbA hS (by omega) hL d_law_254 ?_
        refine r_callVI (wr := [(ax, .inr (0, [.ref hr, .ref hs])), (hr, .inr (2, [.ref ac, .ref ar, .ref ag, .int (nI st), .int (nI sz), .int (nI fl), .int (nI sn), .int (nI md), .long (lN B), .int c0, .int c1, .int c2, .int c3, .int c4])), (ar, .inl (cB, 259, .inl f)), (ag, .inl (cB, 259, .inl g)), (ac, .inr (1, [.ref aw])), (aw, .inl (cB, 128, .inl wf)), (hs, .inr (3, [.ref sr, .ref ss, .int (nI tl), .int (nI tz)])), (sr, .inl (cB, 259, .inl tf)), (ss, .inl (cB, 306, .inl tg)), (yb, .inl (cI, 64, .inl fb)), (yr, .inl (cI, 259, .inl fr)), (yv, .inl (cI, 259, .inl fv)), (yw, .inl (cI, 259, .inl fw)), (ys, .inl (cI, 306, .inl fs))]) (rest := [.int (rd (xs (i + 1)) 5 (cN c0 c1 c2 c3 c4))]) E cs_law_39 (c_M_count l D cB cI hm yb yr yv yw ys yc st md mn fl sz tl tz th fc (xs (i + 1))) hP hD hS hA [9, 15] [0, 1, 2, 3, 4, 5, 6, 7, 8, 10, 11, 12, 13, 14] ⟨rfl, rfl, by decide, by decide, by decide⟩ kc_M rfl hl.1 rfl rfl (Nat.le_of_ble_eq_true rfl) ⟨by decide, by decide⟩ ⟨by decide, by decide⟩ d_law_255 (fun r u H locs hw hP hD hS => ?_)
        subst hw
        have hP : va_P D classes [(ax, .inr (0, [.ref hr, .ref hs])), (hr, .inr (2, [.ref ac, .ref ar, .ref ag, .int (nI st), .int (nI sz), .int (nI fl), .int (nI sn), .int (nI md), .long (lN B), .int c0, .int c1, .int c2, .int c3, .int c4])), (ar, .inl (cB, 259, .inl f)), (ag, .inl (cB, 259, .inl g)), (ac, .inr (1, [.ref aw])), (aw, .inl (cB, 128, .inl wf)), (hs, .inr (3, [.ref sr, .ref ss, .int (nI tl), .int (nI tz)])), (sr, .inl (cB, 259, .inl tf)), (ss, .inl (cB, 306, .inl tg)), (hm, .inr (4, [.int (nI 0), .int (nI st), .int (nI md), .ref yb, .int (nI mn), .ref yr, .int (nI fl), .ref yv, .int (nI sz), .ref yw, .int (nI tl), .ref ys, .int (nI tz), .ref yc])), (yb, .inl (cI, 64, .inl fb)), (yr, .inl (cI, 259, .inl fr)), (yv, .inl (cI, 259, .inl fv)), (yw, .inl (cI, 259, .inl fw)), (ys, .inl (cI, 306, .inl fs)), (yc, .inl (cI, 5, .inl fc))] H := hP.sub [0, 1, 2, 3, 4, 5, 6, 7, 8, 14, 9, 10, 11, 12, 13, 15] rfl
        have hD : va_D A [(ax, .inr (0, [.ref hr, .ref hs])), (hr, .inr (2, [.ref ac, .ref ar, .ref ag, .int (nI st), .int (nI sz), .int (nI fl), .int (nI sn), .int (nI md), .long (lN B), .int c0, .int c1, .int c2, .int c3, .int c4])), (ar, .inl (cB, 259, .inl f)), (ag, .inl (cB, 259, .inl g)), (ac, .inr (1, [.ref aw])), (aw, .inl (cB, 128, .inl wf)), (hs, .inr (3, [.ref sr, .ref ss, .int (nI tl), .int (nI tz)])), (sr, .inl (cB, 259, .inl tf)), (ss, .inl (cB, 306, .inl tg)), (hm, .inr (4, [.int (nI 0), .int (nI st), .int (nI md), .ref yb, .int (nI mn), .ref yr, .int (nI fl), .ref yv, .int (nI sz), .ref yw, .int (nI tl), .ref ys, .int (nI tz), .ref yc])), (yb, .inl (cI, 64, .inl fb)), (yr, .inl (cI, 259, .inl fr)), (yv, .inl (cI, 259, .inl fv)), (yw, .inl (cI, 259, .inl fw)), (ys, .inl (cI, 306, .inl fs)), (yc, .inl (cI, 5, .inl fc))] := hD.sub [0, 1, 2, 3, 4, 5, 6, 7, 8, 14, 9, 10, 11, 12, 13, 15] (by decide) rfl
        refine W.widen (k := 16) (n := 2398) (Nat.le_of_ble_eq_true rfl) (Nat.le_of_ble_eq_true rfl) ?_
        refine lv_icmp_eq (tgt := 358) hx hb d_law_258 (by decide) (fun c258 => ?_) (fun c258 => False.elim (c258 (rd_eq (by decide) (cN_eq k0 k1 k2 k3 k4))))
        refine lv_iinc (v := nI (i + 4)) (lv' := [(3, .int (nI (i + 4))), (0, .ref b), (1, .ref ax), (2, .ref hm)]) hx hb d_law_358 hl (k := 3) rfl (nI_add _ _) (by decide) rfl (fun ls hl => ?_)
        refine lv_goto (tgt := 18) hx hb d_law_361 (by decide) ?_
        exact ih (i + 4) (ar, ag, st, sz, fl, sn, md, B, c0, c1, c2, c3, c4, f, g) ((st, mn, fl, sz, fr, fv, fc), fb) md (nI 0) (tl, tz, tf, tg) fw fs H locs ls ⟨by omega, by omega, hri, hrep, hsr⟩ hP hD hS (lv_sub hl [1, 2, 3, 0] rfl)
      · refine lv_tableIn (tgt := 263) (off := 231) hx hb d_law_32 (by decide +kernel) (by decide +kernel) (by decide +kernel) (by decide) ?_
        refine lv_aload_n hx hb d_law_263 rfl (lv_at hl 1 rfl) ?_
        refine r_callVI (wr := [(ar, .inl (cB, 259, .inl f)), (ag, .inl (cB, 259, .inl g)), (ac, .inr (1, [.ref aw])), (aw, .inl (cB, 128, .inl wf)), (hs, .inr (3, [.ref sr, .ref ss, .int (nI tl), .int (nI tz)])), (sr, .inl (cB, 259, .inl tf)), (ss, .inl (cB, 306, .inl tg)), (hm, .inr (4, [.int th, .int (nI st), .int (nI md), .ref yb, .int (nI mn), .ref yr, .int (nI fl), .ref yv, .int (nI sz), .ref yw, .int (nI tl), .ref ys, .int (nI tz), .ref yc])), (yb, .inl (cI, 64, .inl fb)), (yr, .inl (cI, 259, .inl fr)), (yv, .inl (cI, 259, .inl fv)), (yw, .inl (cI, 259, .inl fw)), (ys, .inl (cI, 306, .inl fs)), (yc, .inl (cI, 5, .inl fc))]) (rest := []) E cs_law_40 (c_X_size l D cB cI ax hs hr ac ar ag st sz fl sn md B c0 c1 c2 c3 c4) hP hD hS hA [0, 1] [2, 3, 4, 5, 6, 7, 8, 9, 10, 11, 12, 13, 14, 15] ⟨rfl, rfl, by decide, by decide, by decide⟩ kc_X rfl hl.1 rfl rfl (Nat.le_of_ble_eq_true rfl) ⟨by decide, by decide⟩ ⟨by decide, by decide⟩ d_law_264 (fun r u H locs hw hP hD hS => ?_)
        subst hw
        have hP : va_P D classes [(ax, .inr (0, [.ref hr, .ref hs])), (hr, .inr (2, [.ref ac, .ref ar, .ref ag, .int (nI st), .int (nI sz), .int (nI fl), .int (nI sn), .int (nI md), .long (lN B), .int c0, .int c1, .int c2, .int c3, .int c4])), (ar, .inl (cB, 259, .inl f)), (ag, .inl (cB, 259, .inl g)), (ac, .inr (1, [.ref aw])), (aw, .inl (cB, 128, .inl wf)), (hs, .inr (3, [.ref sr, .ref ss, .int (nI tl), .int (nI tz)])), (sr, .inl (cB, 259, .inl tf)), (ss, .inl (cB, 306, .inl tg)), (hm, .inr (4, [.int th, .int (nI st), .int (nI md), .ref yb, .int (nI mn), .ref yr, .int (nI fl), .ref yv, .int (nI sz), .ref yw, .int (nI tl), .ref ys, .int (nI tz), .ref yc])), (yb, .inl (cI, 64, .inl fb)), (yr, .inl (cI, 259, .inl fr)), (yv, .inl (cI, 259, .inl fv)), (yw, .inl (cI, 259, .inl fw)), (ys, .inl (cI, 306, .inl fs)), (yc, .inl (cI, 5, .inl fc))] H := hP.sub [14, 15, 0, 1, 2, 3, 4, 5, 6, 7, 8, 9, 10, 11, 12, 13] rfl
        have hD : va_D A [(ax, .inr (0, [.ref hr, .ref hs])), (hr, .inr (2, [.ref ac, .ref ar, .ref ag, .int (nI st), .int (nI sz), .int (nI fl), .int (nI sn), .int (nI md), .long (lN B), .int c0, .int c1, .int c2, .int c3, .int c4])), (ar, .inl (cB, 259, .inl f)), (ag, .inl (cB, 259, .inl g)), (ac, .inr (1, [.ref aw])), (aw, .inl (cB, 128, .inl wf)), (hs, .inr (3, [.ref sr, .ref ss, .int (nI tl), .int (nI tz)])), (sr, .inl (cB, 259, .inl tf)), (ss, .inl (cB, 306, .inl tg)), (hm, .inr (4, [.int th, .int (nI st), .int (nI md), .ref yb, .int (nI mn), .ref yr, .int (nI fl), .ref yv, .int (nI sz), .ref yw, .int (nI tl), .ref ys, .int (nI tz), .ref yc])), (yb, .inl (cI, 64, .inl fb)), (yr, .inl (cI, 259, .inl fr)), (yv, .inl (cI, 259, .inl fv)), (yw, .inl (cI, 259, .inl fw)), (ys, .inl (cI, 306, .inl fs)), (yc, .inl (cI, 5, .inl fc))] := hD.sub [14, 15, 0, 1, 2, 3, 4, 5, 6, 7, 8, 9, 10, 11, 12, 13] (by decide) rfl
        refine W.widen (k := 16) (n := 2398) (Nat.le_of_ble_eq_true rfl) (Nat.le_of_ble_eq_true rfl) ?_
        refine lv_aload_n hx hb d_law_267 rfl (lv_at hl 2 rfl) ?_
        refine r_callVI (wr := [(ax, .inr (0, [.ref hr, .ref hs])), (hr, .inr (2, [.ref ac, .ref ar, .ref ag, .int (nI st), .int (nI sz), .int (nI fl), .int (nI sn), .int (nI md), .long (lN B), .int c0, .int c1, .int c2, .int c3, .int c4])), (ar, .inl (cB, 259, .inl f)), (ag, .inl (cB, 259, .inl g)), (ac, .inr (1, [.ref aw])), (aw, .inl (cB, 128, .inl wf)), (hs, .inr (3, [.ref sr, .ref ss, .int (nI tl), .int (nI tz)])), (sr, .inl (cB, 259, .inl tf)), (ss, .inl (cB, 306, .inl tg)), (yb, .inl (cI, 64, .inl fb)), (yr, .inl (cI, 259, .inl fr)), (yv, .inl (cI, 259, .inl fv)), (yw, .inl (cI, 259, .inl fw)), (ys, .inl (cI, 306, .inl fs)), (yc, .inl (cI, 5, .inl fc))]) (rest := [.int (nI sz)]) E cs_law_43 (c_M_size l D cB cI hm yb yr yv yw ys yc st md mn fl sz tl tz th) hP hD hS hA [9] [0, 1, 2, 3, 4, 5, 6, 7, 8, 10, 11, 12, 13, 14, 15] ⟨rfl, rfl, by decide, by decide, by decide⟩ kc_M rfl hl.1 rfl rfl (Nat.le_of_ble_eq_true rfl) ⟨by decide, by decide⟩ ⟨by decide, by decide⟩ d_law_268 (fun r u H locs hw hP hD hS => ?_)
        subst hw
        have hP : va_P D classes [(ax, .inr (0, [.ref hr, .ref hs])), (hr, .inr (2, [.ref ac, .ref ar, .ref ag, .int (nI st), .int (nI sz), .int (nI fl), .int (nI sn), .int (nI md), .long (lN B), .int c0, .int c1, .int c2, .int c3, .int c4])), (ar, .inl (cB, 259, .inl f)), (ag, .inl (cB, 259, .inl g)), (ac, .inr (1, [.ref aw])), (aw, .inl (cB, 128, .inl wf)), (hs, .inr (3, [.ref sr, .ref ss, .int (nI tl), .int (nI tz)])), (sr, .inl (cB, 259, .inl tf)), (ss, .inl (cB, 306, .inl tg)), (hm, .inr (4, [.int (nI 0), .int (nI st), .int (nI md), .ref yb, .int (nI mn), .ref yr, .int (nI fl), .ref yv, .int (nI sz), .ref yw, .int (nI tl), .ref ys, .int (nI tz), .ref yc])), (yb, .inl (cI, 64, .inl fb)), (yr, .inl (cI, 259, .inl fr)), (yv, .inl (cI, 259, .inl fv)), (yw, .inl (cI, 259, .inl fw)), (ys, .inl (cI, 306, .inl fs)), (yc, .inl (cI, 5, .inl fc))] H := hP.sub [0, 1, 2, 3, 4, 5, 6, 7, 8, 15, 9, 10, 11, 12, 13, 14] rfl
        have hD : va_D A [(ax, .inr (0, [.ref hr, .ref hs])), (hr, .inr (2, [.ref ac, .ref ar, .ref ag, .int (nI st), .int (nI sz), .int (nI fl), .int (nI sn), .int (nI md), .long (lN B), .int c0, .int c1, .int c2, .int c3, .int c4])), (ar, .inl (cB, 259, .inl f)), (ag, .inl (cB, 259, .inl g)), (ac, .inr (1, [.ref aw])), (aw, .inl (cB, 128, .inl wf)), (hs, .inr (3, [.ref sr, .ref ss, .int (nI tl), .int (nI tz)])), (sr, .inl (cB, 259, .inl tf)), (ss, .inl (cB, 306, .inl tg)), (hm, .inr (4, [.int (nI 0), .int (nI st), .int (nI md), .ref yb, .int (nI mn), .ref yr, .int (nI fl), .ref yv, .int (nI sz), .ref yw, .int (nI tl), .ref ys, .int (nI tz), .ref yc])), (yb, .inl (cI, 64, .inl fb)), (yr, .inl (cI, 259, .inl fr)), (yv, .inl (cI, 259, .inl fv)), (yw, .inl (cI, 259, .inl fw)), (ys, .inl (cI, 306, .inl fs)), (yc, .inl (cI, 5, .inl fc))] := hD.sub [0, 1, 2, 3, 4, 5, 6, 7, 8, 15, 9, 10, 11, 12, 13, 14] (by decide) rfl
        refine W.widen (k := 16) (n := 2398) (Nat.le_of_ble_eq_true rfl) (Nat.le_of_ble_eq_true rfl) ?_
        refine lv_icmp_eq (tgt := 358) hx hb d_law_271 (by decide) (fun c271 => ?_) (fun c271 => False.elim (c271 rfl))
        refine lv_iinc (v := nI (i + 4)) (lv' := [(3, .int (nI (i + 4))), (0, .ref b), (1, .ref ax), (2, .ref hm)]) hx hb d_law_358 hl (k := 3) rfl (nI_add _ _) (by decide) rfl (fun ls hl => ?_)
        refine lv_goto (tgt := 18) hx hb d_law_361 (by decide) ?_
        exact ih (i + 4) (ar, ag, st, sz, fl, sn, md, B, c0, c1, c2, c3, c4, f, g) ((st, mn, fl, sz, fr, fv, fc), fb) md (nI 0) (tl, tz, tf, tg) fw fs H locs ls ⟨by omega, by omega, hri, hrep, hsr⟩ hP hD hS (lv_sub hl [1, 2, 3, 0] rfl)
      · refine lv_tableIn (tgt := 276) (off := 244) hx hb d_law_32 (by decide +kernel) (by decide +kernel) (by decide +kernel) (by decide) ?_
        refine lv_aload_n hx hb d_law_276 rfl (lv_at hl 1 rfl) ?_
        refine lv_aload_n hx hb d_law_277 rfl (lv_at hl 0 rfl) ?_
        refine lv_iload_n hx hb d_law_278 rfl (lv_at hl 3 rfl) ?_
        refine lv_iconst (v := nI 1) hx hb d_law_279 (by decide +kernel) ?_
        refine r_iadd hx hb d_law_280 ?_
        refine r_sld hx hb hX hbl hbA hS (by omega) hL d_law_281 ?_
        refine r_callVI (wr := [(ar, .inl (cB, 259, .inl f)), (ac, .inr (1, [.ref aw])), (aw, .inl (cB, 128, .inl wf)), (hs, .inr (3, [.ref sr, .ref ss, .int (nI tl), .int (nI tz)])), (sr, .inl (cB, 259, .inl tf)), (ss, .inl (cB, 306, .inl tg)), (hm, .inr (4, [.int th, .int (nI st), .int (nI md), .ref yb, .int (nI mn), .ref yr, .int (nI fl), .ref yv, .int (nI sz), .ref yw, .int (nI tl), .ref ys, .int (nI tz), .ref yc])), (yb, .inl (cI, 64, .inl fb)), (yr, .inl (cI, 259, .inl fr)), (yv, .inl (cI, 259, .inl fv)), (yw, .inl (cI, 259, .inl fw)), (ys, .inl (cI, 306, .inl fs)), (yc, .inl (cI, 5, .inl fc))]) (rest := []) E cs_law_44 (c_X_byteAt l D cB cI ax hs hr ac ar ag st sz fl sn md B c0 c1 c2 c3 c4 g (xs (i + 1)) r2) hP hD hS hA [0, 1, 3] [2, 4, 5, 6, 7, 8, 9, 10, 11, 12, 13, 14, 15] ⟨rfl, rfl, by decide, by decide, by decide⟩ kc_X rfl hl.1 rfl rfl (Nat.le_of_ble_eq_true rfl) ⟨by decide, by decide⟩ ⟨by decide, by decide⟩ d_law_282 (fun r u H locs hw hP hD hS => ?_)
        subst hw
        have hP : va_P D classes [(ax, .inr (0, [.ref hr, .ref hs])), (hr, .inr (2, [.ref ac, .ref ar, .ref ag, .int (nI st), .int (nI sz), .int (nI fl), .int (nI sn), .int (nI md), .long (lN B), .int c0, .int c1, .int c2, .int c3, .int c4])), (ar, .inl (cB, 259, .inl f)), (ag, .inl (cB, 259, .inl g)), (ac, .inr (1, [.ref aw])), (aw, .inl (cB, 128, .inl wf)), (hs, .inr (3, [.ref sr, .ref ss, .int (nI tl), .int (nI tz)])), (sr, .inl (cB, 259, .inl tf)), (ss, .inl (cB, 306, .inl tg)), (hm, .inr (4, [.int th, .int (nI st), .int (nI md), .ref yb, .int (nI mn), .ref yr, .int (nI fl), .ref yv, .int (nI sz), .ref yw, .int (nI tl), .ref ys, .int (nI tz), .ref yc])), (yb, .inl (cI, 64, .inl fb)), (yr, .inl (cI, 259, .inl fr)), (yv, .inl (cI, 259, .inl fv)), (yw, .inl (cI, 259, .inl fw)), (ys, .inl (cI, 306, .inl fs)), (yc, .inl (cI, 5, .inl fc))] H := hP.sub [13, 14, 0, 15, 1, 2, 3, 4, 5, 6, 7, 8, 9, 10, 11, 12] rfl
        have hD : va_D A [(ax, .inr (0, [.ref hr, .ref hs])), (hr, .inr (2, [.ref ac, .ref ar, .ref ag, .int (nI st), .int (nI sz), .int (nI fl), .int (nI sn), .int (nI md), .long (lN B), .int c0, .int c1, .int c2, .int c3, .int c4])), (ar, .inl (cB, 259, .inl f)), (ag, .inl (cB, 259, .inl g)), (ac, .inr (1, [.ref aw])), (aw, .inl (cB, 128, .inl wf)), (hs, .inr (3, [.ref sr, .ref ss, .int (nI tl), .int (nI tz)])), (sr, .inl (cB, 259, .inl tf)), (ss, .inl (cB, 306, .inl tg)), (hm, .inr (4, [.int th, .int (nI st), .int (nI md), .ref yb, .int (nI mn), .ref yr, .int (nI fl), .ref yv, .int (nI sz), .ref yw, .int (nI tl), .ref ys, .int (nI tz), .ref yc])), (yb, .inl (cI, 64, .inl fb)), (yr, .inl (cI, 259, .inl fr)), (yv, .inl (cI, 259, .inl fv)), (yw, .inl (cI, 259, .inl fw)), (ys, .inl (cI, 306, .inl fs)), (yc, .inl (cI, 5, .inl fc))] := hD.sub [13, 14, 0, 15, 1, 2, 3, 4, 5, 6, 7, 8, 9, 10, 11, 12] (by decide) rfl
        refine W.widen (k := 16) (n := 2398) (Nat.le_of_ble_eq_true rfl) (Nat.le_of_ble_eq_true rfl) ?_
        refine lv_aload_n hx hb d_law_285 rfl (lv_at hl 2 rfl) ?_
        refine lv_aload_n hx hb d_law_286 rfl (lv_at hl 0 rfl) ?_
        refine lv_iload_n hx hb d_law_287 rfl (lv_at hl 3 rfl) ?_
        refine lv_iconst (v := nI 1) hx hb d_law_288 (by decide +kernel) ?_
        refine r_iadd hx hb d_law_289 ?_
        refine r_sld hx hb hX hbl hbA hS (by omega) hL d_law_290 ?_
        refine r_callVI (wr := [(ax, .inr (0, [.ref hr, .ref hs])), (hr, .inr (2, [.ref ac, .ref ar, .ref ag, .int (nI st), .int (nI sz), .int (nI fl), .int (nI sn), .int (nI md), .long (lN B), .int c0, .int c1, .int c2, .int c3, .int c4])), (ar, .inl (cB, 259, .inl f)), (ag, .inl (cB, 259, .inl g)), (ac, .inr (1, [.ref aw])), (aw, .inl (cB, 128, .inl wf)), (hs, .inr (3, [.ref sr, .ref ss, .int (nI tl), .int (nI tz)])), (sr, .inl (cB, 259, .inl tf)), (ss, .inl (cB, 306, .inl tg)), (yb, .inl (cI, 64, .inl fb)), (yr, .inl (cI, 259, .inl fr)), (yw, .inl (cI, 259, .inl fw)), (ys, .inl (cI, 306, .inl fs)), (yc, .inl (cI, 5, .inl fc))]) (rest := [.int (rd (xs (i + 1)) sz (fun j => nI (bN (g j))))]) E cs_law_47 (c_M_byteAt l D cB cI hm yb yr yv yw ys yc st md mn fl sz tl tz th fv (xs (i + 1)) r2) hP hD hS hA [9, 12] [0, 1, 2, 3, 4, 5, 6, 7, 8, 10, 11, 13, 14, 15] ⟨rfl, rfl, by decide, by decide, by decide⟩ kc_M rfl hl.1 rfl rfl (Nat.le_of_ble_eq_true rfl) ⟨by decide, by decide⟩ ⟨by decide, by decide⟩ d_law_291 (fun r u H locs hw hP hD hS => ?_)
        subst hw
        have hP : va_P D classes [(ax, .inr (0, [.ref hr, .ref hs])), (hr, .inr (2, [.ref ac, .ref ar, .ref ag, .int (nI st), .int (nI sz), .int (nI fl), .int (nI sn), .int (nI md), .long (lN B), .int c0, .int c1, .int c2, .int c3, .int c4])), (ar, .inl (cB, 259, .inl f)), (ag, .inl (cB, 259, .inl g)), (ac, .inr (1, [.ref aw])), (aw, .inl (cB, 128, .inl wf)), (hs, .inr (3, [.ref sr, .ref ss, .int (nI tl), .int (nI tz)])), (sr, .inl (cB, 259, .inl tf)), (ss, .inl (cB, 306, .inl tg)), (hm, .inr (4, [.int (nI 0), .int (nI st), .int (nI md), .ref yb, .int (nI mn), .ref yr, .int (nI fl), .ref yv, .int (nI sz), .ref yw, .int (nI tl), .ref ys, .int (nI tz), .ref yc])), (yb, .inl (cI, 64, .inl fb)), (yr, .inl (cI, 259, .inl fr)), (yv, .inl (cI, 259, .inl fv)), (yw, .inl (cI, 259, .inl fw)), (ys, .inl (cI, 306, .inl fs)), (yc, .inl (cI, 5, .inl fc))] H := hP.sub [0, 1, 2, 3, 4, 5, 6, 7, 8, 14, 9, 10, 15, 11, 12, 13] rfl
        have hD : va_D A [(ax, .inr (0, [.ref hr, .ref hs])), (hr, .inr (2, [.ref ac, .ref ar, .ref ag, .int (nI st), .int (nI sz), .int (nI fl), .int (nI sn), .int (nI md), .long (lN B), .int c0, .int c1, .int c2, .int c3, .int c4])), (ar, .inl (cB, 259, .inl f)), (ag, .inl (cB, 259, .inl g)), (ac, .inr (1, [.ref aw])), (aw, .inl (cB, 128, .inl wf)), (hs, .inr (3, [.ref sr, .ref ss, .int (nI tl), .int (nI tz)])), (sr, .inl (cB, 259, .inl tf)), (ss, .inl (cB, 306, .inl tg)), (hm, .inr (4, [.int (nI 0), .int (nI st), .int (nI md), .ref yb, .int (nI mn), .ref yr, .int (nI fl), .ref yv, .int (nI sz), .ref yw, .int (nI tl), .ref ys, .int (nI tz), .ref yc])), (yb, .inl (cI, 64, .inl fb)), (yr, .inl (cI, 259, .inl fr)), (yv, .inl (cI, 259, .inl fv)), (yw, .inl (cI, 259, .inl fw)), (ys, .inl (cI, 306, .inl fs)), (yc, .inl (cI, 5, .inl fc))] := hD.sub [0, 1, 2, 3, 4, 5, 6, 7, 8, 14, 9, 10, 15, 11, 12, 13] (by decide) rfl
        refine W.widen (k := 16) (n := 2398) (Nat.le_of_ble_eq_true rfl) (Nat.le_of_ble_eq_true rfl) ?_
        refine lv_icmp_eq (tgt := 358) hx hb d_law_294 (by decide) (fun c294 => ?_) (fun c294 => False.elim (c294 (rd_eq (by omega) (fun j hj => (h9 j hj).symm))))
        refine lv_iinc (v := nI (i + 4)) (lv' := [(3, .int (nI (i + 4))), (0, .ref b), (1, .ref ax), (2, .ref hm)]) hx hb d_law_358 hl (k := 3) rfl (nI_add _ _) (by decide) rfl (fun ls hl => ?_)
        refine lv_goto (tgt := 18) hx hb d_law_361 (by decide) ?_
        exact ih (i + 4) (ar, ag, st, sz, fl, sn, md, B, c0, c1, c2, c3, c4, f, g) ((st, mn, fl, sz, fr, fv, fc), fb) md (nI 0) (tl, tz, tf, tg) fw fs H locs ls ⟨by omega, by omega, hri, hrep, hsr⟩ hP hD hS (lv_sub hl [1, 2, 3, 0] rfl)
      · refine lv_tableIn (tgt := 299) (off := 267) hx hb d_law_32 (by decide +kernel) (by decide +kernel) (by decide +kernel) (by decide) ?_
        by_cases hq : tl = 259
        · skip
          refine lv_aload_n hx hb d_law_299 rfl (lv_at hl 1 rfl) ?_
          refine lv_aload_n hx hb d_law_300 rfl (lv_at hl 0 rfl) ?_
          refine lv_iload_n hx hb d_law_301 rfl (lv_at hl 3 rfl) ?_
          refine lv_iconst (v := nI 1) hx hb d_law_302 (by decide +kernel) ?_
          refine r_iadd hx hb d_law_303 ?_
          refine r_sld hx hb hX hbl hbA hS (by omega) hL d_law_304 ?_
          refine r_callVI (wr := [(hr, .inr (2, [.ref ac, .ref ar, .ref ag, .int (nI st), .int (nI sz), .int (nI fl), .int (nI sn), .int (nI md), .long (lN B), .int c0, .int c1, .int c2, .int c3, .int c4])), (ar, .inl (cB, 259, .inl f)), (ag, .inl (cB, 259, .inl g)), (ac, .inr (1, [.ref aw])), (aw, .inl (cB, 128, .inl wf)), (ss, .inl (cB, 306, .inl tg)), (hm, .inr (4, [.int th, .int (nI st), .int (nI md), .ref yb, .int (nI mn), .ref yr, .int (nI fl), .ref yv, .int (nI sz), .ref yw, .int (nI tl), .ref ys, .int (nI tz), .ref yc])), (yb, .inl (cI, 64, .inl fb)), (yr, .inl (cI, 259, .inl fr)), (yv, .inl (cI, 259, .inl fv)), (yw, .inl (cI, 259, .inl fw)), (ys, .inl (cI, 306, .inl fs)), (yc, .inl (cI, 5, .inl fc))]) (rest := []) E cs_law_48 (c_X_put l D cB cI ax hr hs sr ss tl tz tf (xs (i + 1)) s1) hP hD hS hA [0, 6, 7] [1, 2, 3, 4, 5, 8, 9, 10, 11, 12, 13, 14, 15] ⟨rfl, rfl, by decide, by decide, by decide⟩ kc_X rfl hl.1 rfl rfl (Nat.le_of_ble_eq_true rfl) ⟨by decide, by decide⟩ ⟨by decide, by decide⟩ d_law_305 (fun r u H locs hw hP hD hS => ?_)
          obtain ⟨rfl, rfl⟩ := hw.1 hq
          have hP : va_P D classes [(ax, .inr (0, [.ref hr, .ref hs])), (hr, .inr (2, [.ref ac, .ref ar, .ref ag, .int (nI st), .int (nI sz), .int (nI fl), .int (nI sn), .int (nI md), .long (lN B), .int c0, .int c1, .int c2, .int c3, .int c4])), (ar, .inl (cB, 259, .inl f)), (ag, .inl (cB, 259, .inl g)), (ac, .inr (1, [.ref aw])), (aw, .inl (cB, 128, .inl wf)), (hs, .inr (3, [.ref sr, .ref ss, .int (nI tl), .int (nI tz)])), (sr, .inl (cB, 259, .inl tf)), (ss, .inl (cB, 306, .inl tg)), (hm, .inr (4, [.int th, .int (nI st), .int (nI md), .ref yb, .int (nI mn), .ref yr, .int (nI fl), .ref yv, .int (nI sz), .ref yw, .int (nI tl), .ref ys, .int (nI tz), .ref yc])), (yb, .inl (cI, 64, .inl fb)), (yr, .inl (cI, 259, .inl fr)), (yv, .inl (cI, 259, .inl fv)), (yw, .inl (cI, 259, .inl fw)), (ys, .inl (cI, 306, .inl fs)), (yc, .inl (cI, 5, .inl fc))] H := hP.sub [13, 0, 1, 2, 3, 4, 14, 15, 5, 6, 7, 8, 9, 10, 11, 12] rfl
          have hD : va_D A [(ax, .inr (0, [.ref hr, .ref hs])), (hr, .inr (2, [.ref ac, .ref ar, .ref ag, .int (nI st), .int (nI sz), .int (nI fl), .int (nI sn), .int (nI md), .long (lN B), .int c0, .int c1, .int c2, .int c3, .int c4])), (ar, .inl (cB, 259, .inl f)), (ag, .inl (cB, 259, .inl g)), (ac, .inr (1, [.ref aw])), (aw, .inl (cB, 128, .inl wf)), (hs, .inr (3, [.ref sr, .ref ss, .int (nI tl), .int (nI tz)])), (sr, .inl (cB, 259, .inl tf)), (ss, .inl (cB, 306, .inl tg)), (hm, .inr (4, [.int th, .int (nI st), .int (nI md), .ref yb, .int (nI mn), .ref yr, .int (nI fl), .ref yv, .int (nI sz), .ref yw, .int (nI tl), .ref ys, .int (nI tz), .ref yc])), (yb, .inl (cI, 64, .inl fb)), (yr, .inl (cI, 259, .inl fr)), (yv, .inl (cI, 259, .inl fv)), (yw, .inl (cI, 259, .inl fw)), (ys, .inl (cI, 306, .inl fs)), (yc, .inl (cI, 5, .inl fc))] := hD.sub [13, 0, 1, 2, 3, 4, 14, 15, 5, 6, 7, 8, 9, 10, 11, 12] (by decide) rfl
          refine W.widen (k := 16) (n := 2398) (Nat.le_of_ble_eq_true rfl) (Nat.le_of_ble_eq_true rfl) ?_
          refine lv_aload_n hx hb d_law_308 rfl (lv_at hl 2 rfl) ?_
          refine lv_aload_n hx hb d_law_309 rfl (lv_at hl 0 rfl) ?_
          refine lv_iload_n hx hb d_law_310 rfl (lv_at hl 3 rfl) ?_
          refine lv_iconst (v := nI 1) hx hb d_law_311 (by decide +kernel) ?_
          refine r_iadd hx hb d_law_312 ?_
          refine r_sld hx hb hX hbl hbA hS (by omega) hL d_law_313 ?_
          refine r_callVI (wr := [(ax, .inr (0, [.ref hr, .ref hs])), (hr, .inr (2, [.ref ac, .ref ar, .ref ag, .int (nI st), .int (nI sz), .int (nI fl), .int (nI sn), .int (nI md), .long (lN B), .int c0, .int c1, .int c2, .int c3, .int c4])), (ar, .inl (cB, 259, .inl f)), (ag, .inl (cB, 259, .inl g)), (ac, .inr (1, [.ref aw])), (aw, .inl (cB, 128, .inl wf)), (hs, .inr (3, [.ref sr, .ref ss, .int (nI tl), .int (nI tz)])), (sr, .inl (cB, 259, .inl tf)), (ss, .inl (cB, 306, .inl tg)), (yb, .inl (cI, 64, .inl fb)), (yr, .inl (cI, 259, .inl fr)), (yv, .inl (cI, 259, .inl fv)), (ys, .inl (cI, 306, .inl fs)), (yc, .inl (cI, 5, .inl fc))]) (rest := [.int (-1)]) E cs_law_51 (c_M_put l D cB cI hm yb yr yv yw ys yc st md mn fl sz tl tz th fw (xs (i + 1)) s1) hP hD hS hA [9, 13] [0, 1, 2, 3, 4, 5, 6, 7, 8, 10, 11, 12, 14, 15] ⟨rfl, rfl, by decide, by decide, by decide⟩ kc_M rfl hl.1 rfl rfl (Nat.le_of_ble_eq_true rfl) ⟨by decide, by decide⟩ ⟨by decide, by decide⟩ d_law_314 (fun r u H locs hw hP hD hS => ?_)
          obtain ⟨rfl, rfl⟩ := hw.1 hq
          have hP : va_P D classes [(ax, .inr (0, [.ref hr, .ref hs])), (hr, .inr (2, [.ref ac, .ref ar, .ref ag, .int (nI st), .int (nI sz), .int (nI fl), .int (nI sn), .int (nI md), .long (lN B), .int c0, .int c1, .int c2, .int c3, .int c4])), (ar, .inl (cB, 259, .inl f)), (ag, .inl (cB, 259, .inl g)), (ac, .inr (1, [.ref aw])), (aw, .inl (cB, 128, .inl wf)), (hs, .inr (3, [.ref sr, .ref ss, .int (nI tl), .int (nI tz)])), (sr, .inl (cB, 259, .inl tf)), (ss, .inl (cB, 306, .inl tg)), (hm, .inr (4, [.int (nI 0), .int (nI st), .int (nI md), .ref yb, .int (nI mn), .ref yr, .int (nI fl), .ref yv, .int (nI sz), .ref yw, .int (nI tl), .ref ys, .int (nI tz), .ref yc])), (yb, .inl (cI, 64, .inl fb)), (yr, .inl (cI, 259, .inl fr)), (yv, .inl (cI, 259, .inl fv)), (yw, .inl (cI, 259, .inl fw)), (ys, .inl (cI, 306, .inl fs)), (yc, .inl (cI, 5, .inl fc))] H := hP.sub [0, 1, 2, 3, 4, 5, 6, 7, 8, 14, 9, 10, 11, 15, 12, 13] rfl
          have hD : va_D A [(ax, .inr (0, [.ref hr, .ref hs])), (hr, .inr (2, [.ref ac, .ref ar, .ref ag, .int (nI st), .int (nI sz), .int (nI fl), .int (nI sn), .int (nI md), .long (lN B), .int c0, .int c1, .int c2, .int c3, .int c4])), (ar, .inl (cB, 259, .inl f)), (ag, .inl (cB, 259, .inl g)), (ac, .inr (1, [.ref aw])), (aw, .inl (cB, 128, .inl wf)), (hs, .inr (3, [.ref sr, .ref ss, .int (nI tl), .int (nI tz)])), (sr, .inl (cB, 259, .inl tf)), (ss, .inl (cB, 306, .inl tg)), (hm, .inr (4, [.int (nI 0), .int (nI st), .int (nI md), .ref yb, .int (nI mn), .ref yr, .int (nI fl), .ref yv, .int (nI sz), .ref yw, .int (nI tl), .ref ys, .int (nI tz), .ref yc])), (yb, .inl (cI, 64, .inl fb)), (yr, .inl (cI, 259, .inl fr)), (yv, .inl (cI, 259, .inl fv)), (yw, .inl (cI, 259, .inl fw)), (ys, .inl (cI, 306, .inl fs)), (yc, .inl (cI, 5, .inl fc))] := hD.sub [0, 1, 2, 3, 4, 5, 6, 7, 8, 14, 9, 10, 11, 15, 12, 13] (by decide) rfl
          refine W.widen (k := 16) (n := 2398) (Nat.le_of_ble_eq_true rfl) (Nat.le_of_ble_eq_true rfl) ?_
          refine lv_icmp_eq (tgt := 358) hx hb d_law_317 (by decide) (fun c317 => ?_) (fun c317 => False.elim (c317 rfl))
          refine lv_iinc (v := nI (i + 4)) (lv' := [(3, .int (nI (i + 4))), (0, .ref b), (1, .ref ax), (2, .ref hm)]) hx hb d_law_358 hl (k := 3) rfl (nI_add _ _) (by decide) rfl (fun ls hl => ?_)
          refine lv_goto (tgt := 18) hx hb d_law_361 (by decide) ?_
          exact ih (i + 4) (ar, ag, st, sz, fl, sn, md, B, c0, c1, c2, c3, c4, f, g) ((st, mn, fl, sz, fr, fv, fc), fb) md (nI 0) (tl, tz, tf, tg) fw fs H locs ls ⟨by omega, by omega, hri, hrep, hsr⟩ hP hD hS (lv_sub hl [1, 2, 3, 0] rfl)
        · skip
          refine lv_aload_n hx hb d_law_299 rfl (lv_at hl 1 rfl) ?_
          refine lv_aload_n hx hb d_law_300 rfl (lv_at hl 0 rfl) ?_
          refine lv_iload_n hx hb d_law_301 rfl (lv_at hl 3 rfl) ?_
          refine lv_iconst (v := nI 1) hx hb d_law_302 (by decide +kernel) ?_
          refine r_iadd hx hb d_law_303 ?_
          refine r_sld hx hb hX hbl hbA hS (by omega) hL d_law_304 ?_
          refine r_callVI (wr := [(hr, .inr (2, [.ref ac, .ref ar, .ref ag, .int (nI st), .int (nI sz), .int (nI fl), .int (nI sn), .int (nI md), .long (lN B), .int c0, .int c1, .int c2, .int c3, .int c4])), (ar, .inl (cB, 259, .inl f)), (ag, .inl (cB, 259, .inl g)), (ac, .inr (1, [.ref aw])), (aw, .inl (cB, 128, .inl wf)), (ss, .inl (cB, 306, .inl tg)), (hm, .inr (4, [.int th, .int (nI st), .int (nI md), .ref yb, .int (nI mn), .ref yr, .int (nI fl), .ref yv, .int (nI sz), .ref yw, .int (nI tl), .ref ys, .int (nI tz), .ref yc])), (yb, .inl (cI, 64, .inl fb)), (yr, .inl (cI, 259, .inl fr)), (yv, .inl (cI, 259, .inl fv)), (yw, .inl (cI, 259, .inl fw)), (ys, .inl (cI, 306, .inl fs)), (yc, .inl (cI, 5, .inl fc))]) (rest := []) E cs_law_48 (c_X_put l D cB cI ax hr hs sr ss tl tz tf (xs (i + 1)) s1) hP hD hS hA [0, 6, 7] [1, 2, 3, 4, 5, 8, 9, 10, 11, 12, 13, 14, 15] ⟨rfl, rfl, by decide, by decide, by decide⟩ kc_X rfl hl.1 rfl rfl (Nat.le_of_ble_eq_true rfl) ⟨by decide, by decide⟩ ⟨by decide, by decide⟩ d_law_305 (fun r u H locs hw hP hD hS => ?_)
          obtain ⟨rfl, rfl⟩ := hw.2 hq
          have hP : va_P D classes [(ax, .inr (0, [.ref hr, .ref hs])), (hr, .inr (2, [.ref ac, .ref ar, .ref ag, .int (nI st), .int (nI sz), .int (nI fl), .int (nI sn), .int (nI md), .long (lN B), .int c0, .int c1, .int c2, .int c3, .int c4])), (ar, .inl (cB, 259, .inl f)), (ag, .inl (cB, 259, .inl g)), (ac, .inr (1, [.ref aw])), (aw, .inl (cB, 128, .inl wf)), (hs, .inr (3, [.ref sr, .ref ss, .int (nI (tl + 1)), .int (nI tz)])), (sr, .inl (cB, 259, .inl (upd tf tl (xs (i + 1)).toInt8.toInt32))), (ss, .inl (cB, 306, .inl tg)), (hm, .inr (4, [.int th, .int (nI st), .int (nI md), .ref yb, .int (nI mn), .ref yr, .int (nI fl), .ref yv, .int (nI sz), .ref yw, .int (nI tl), .ref ys, .int (nI tz), .ref yc])), (yb, .inl (cI, 64, .inl fb)), (yr, .inl (cI, 259, .inl fr)), (yv, .inl (cI, 259, .inl fv)), (yw, .inl (cI, 259, .inl fw)), (ys, .inl (cI, 306, .inl fs)), (yc, .inl (cI, 5, .inl fc))] H := hP.sub [13, 0, 1, 2, 3, 4, 14, 15, 5, 6, 7, 8, 9, 10, 11, 12] rfl
          have hD : va_D A [(ax, .inr (0, [.ref hr, .ref hs])), (hr, .inr (2, [.ref ac, .ref ar, .ref ag, .int (nI st), .int (nI sz), .int (nI fl), .int (nI sn), .int (nI md), .long (lN B), .int c0, .int c1, .int c2, .int c3, .int c4])), (ar, .inl (cB, 259, .inl f)), (ag, .inl (cB, 259, .inl g)), (ac, .inr (1, [.ref aw])), (aw, .inl (cB, 128, .inl wf)), (hs, .inr (3, [.ref sr, .ref ss, .int (nI (tl + 1)), .int (nI tz)])), (sr, .inl (cB, 259, .inl (upd tf tl (xs (i + 1)).toInt8.toInt32))), (ss, .inl (cB, 306, .inl tg)), (hm, .inr (4, [.int th, .int (nI st), .int (nI md), .ref yb, .int (nI mn), .ref yr, .int (nI fl), .ref yv, .int (nI sz), .ref yw, .int (nI tl), .ref ys, .int (nI tz), .ref yc])), (yb, .inl (cI, 64, .inl fb)), (yr, .inl (cI, 259, .inl fr)), (yv, .inl (cI, 259, .inl fv)), (yw, .inl (cI, 259, .inl fw)), (ys, .inl (cI, 306, .inl fs)), (yc, .inl (cI, 5, .inl fc))] := hD.sub [13, 0, 1, 2, 3, 4, 14, 15, 5, 6, 7, 8, 9, 10, 11, 12] (by decide) rfl
          refine W.widen (k := 16) (n := 2398) (Nat.le_of_ble_eq_true rfl) (Nat.le_of_ble_eq_true rfl) ?_
          refine lv_aload_n hx hb d_law_308 rfl (lv_at hl 2 rfl) ?_
          refine lv_aload_n hx hb d_law_309 rfl (lv_at hl 0 rfl) ?_
          refine lv_iload_n hx hb d_law_310 rfl (lv_at hl 3 rfl) ?_
          refine lv_iconst (v := nI 1) hx hb d_law_311 (by decide +kernel) ?_
          refine r_iadd hx hb d_law_312 ?_
          refine r_sld hx hb hX hbl hbA hS (by omega) hL d_law_313 ?_
          refine r_callVI (wr := [(ax, .inr (0, [.ref hr, .ref hs])), (hr, .inr (2, [.ref ac, .ref ar, .ref ag, .int (nI st), .int (nI sz), .int (nI fl), .int (nI sn), .int (nI md), .long (lN B), .int c0, .int c1, .int c2, .int c3, .int c4])), (ar, .inl (cB, 259, .inl f)), (ag, .inl (cB, 259, .inl g)), (ac, .inr (1, [.ref aw])), (aw, .inl (cB, 128, .inl wf)), (hs, .inr (3, [.ref sr, .ref ss, .int (nI (tl + 1)), .int (nI tz)])), (sr, .inl (cB, 259, .inl (upd tf tl (xs (i + 1)).toInt8.toInt32))), (ss, .inl (cB, 306, .inl tg)), (yb, .inl (cI, 64, .inl fb)), (yr, .inl (cI, 259, .inl fr)), (yv, .inl (cI, 259, .inl fv)), (ys, .inl (cI, 306, .inl fs)), (yc, .inl (cI, 5, .inl fc))]) (rest := [.int (nI (tl + 1))]) E cs_law_51 (c_M_put l D cB cI hm yb yr yv yw ys yc st md mn fl sz tl tz th fw (xs (i + 1)) s1) hP hD hS hA [9, 13] [0, 1, 2, 3, 4, 5, 6, 7, 8, 10, 11, 12, 14, 15] ⟨rfl, rfl, by decide, by decide, by decide⟩ kc_M rfl hl.1 rfl rfl (Nat.le_of_ble_eq_true rfl) ⟨by decide, by decide⟩ ⟨by decide, by decide⟩ d_law_314 (fun r u H locs hw hP hD hS => ?_)
          obtain ⟨rfl, rfl⟩ := hw.2 hq
          have hP : va_P D classes [(ax, .inr (0, [.ref hr, .ref hs])), (hr, .inr (2, [.ref ac, .ref ar, .ref ag, .int (nI st), .int (nI sz), .int (nI fl), .int (nI sn), .int (nI md), .long (lN B), .int c0, .int c1, .int c2, .int c3, .int c4])), (ar, .inl (cB, 259, .inl f)), (ag, .inl (cB, 259, .inl g)), (ac, .inr (1, [.ref aw])), (aw, .inl (cB, 128, .inl wf)), (hs, .inr (3, [.ref sr, .ref ss, .int (nI (tl + 1)), .int (nI tz)])), (sr, .inl (cB, 259, .inl (upd tf tl (xs (i + 1)).toInt8.toInt32))), (ss, .inl (cB, 306, .inl tg)), (hm, .inr (4, [.int (nI 0), .int (nI st), .int (nI md), .ref yb, .int (nI mn), .ref yr, .int (nI fl), .ref yv, .int (nI sz), .ref yw, .int (nI (tl + 1)), .ref ys, .int (nI tz), .ref yc])), (yb, .inl (cI, 64, .inl fb)), (yr, .inl (cI, 259, .inl fr)), (yv, .inl (cI, 259, .inl fv)), (yw, .inl (cI, 259, .inl (upd fw tl (nI (bN (xs (i + 1))))))), (ys, .inl (cI, 306, .inl fs)), (yc, .inl (cI, 5, .inl fc))] H := hP.sub [0, 1, 2, 3, 4, 5, 6, 7, 8, 14, 9, 10, 11, 15, 12, 13] rfl
          have hD : va_D A [(ax, .inr (0, [.ref hr, .ref hs])), (hr, .inr (2, [.ref ac, .ref ar, .ref ag, .int (nI st), .int (nI sz), .int (nI fl), .int (nI sn), .int (nI md), .long (lN B), .int c0, .int c1, .int c2, .int c3, .int c4])), (ar, .inl (cB, 259, .inl f)), (ag, .inl (cB, 259, .inl g)), (ac, .inr (1, [.ref aw])), (aw, .inl (cB, 128, .inl wf)), (hs, .inr (3, [.ref sr, .ref ss, .int (nI (tl + 1)), .int (nI tz)])), (sr, .inl (cB, 259, .inl (upd tf tl (xs (i + 1)).toInt8.toInt32))), (ss, .inl (cB, 306, .inl tg)), (hm, .inr (4, [.int (nI 0), .int (nI st), .int (nI md), .ref yb, .int (nI mn), .ref yr, .int (nI fl), .ref yv, .int (nI sz), .ref yw, .int (nI (tl + 1)), .ref ys, .int (nI tz), .ref yc])), (yb, .inl (cI, 64, .inl fb)), (yr, .inl (cI, 259, .inl fr)), (yv, .inl (cI, 259, .inl fv)), (yw, .inl (cI, 259, .inl (upd fw tl (nI (bN (xs (i + 1))))))), (ys, .inl (cI, 306, .inl fs)), (yc, .inl (cI, 5, .inl fc))] := hD.sub [0, 1, 2, 3, 4, 5, 6, 7, 8, 14, 9, 10, 11, 15, 12, 13] (by decide) rfl
          refine W.widen (k := 16) (n := 2398) (Nat.le_of_ble_eq_true rfl) (Nat.le_of_ble_eq_true rfl) ?_
          refine lv_icmp_eq (tgt := 358) hx hb d_law_317 (by decide) (fun c317 => ?_) (fun c317 => False.elim (c317 rfl))
          refine lv_iinc (v := nI (i + 4)) (lv' := [(3, .int (nI (i + 4))), (0, .ref b), (1, .ref ax), (2, .ref hm)]) hx hb d_law_358 hl (k := 3) rfl (nI_add _ _) (by decide) rfl (fun ls hl => ?_)
          refine lv_goto (tgt := 18) hx hb d_law_361 (by decide) ?_
          exact ih (i + 4) (ar, ag, st, sz, fl, sn, md, B, c0, c1, c2, c3, c4, f, g) ((st, mn, fl, sz, fr, fv, fc), fb) md (nI 0) (tl + 1, tz, upd tf tl (xs (i + 1)).toInt8.toInt32, tg) (upd fw tl (nI (bN (xs (i + 1))))) fs H locs ls ⟨by omega, by omega, hri, hrep, sr_put hsr hq⟩ hP hD hS (lv_sub hl [1, 2, 3, 0] rfl)
      · refine lv_tableIn (tgt := 322) (off := 290) hx hb d_law_32 (by decide +kernel) (by decide +kernel) (by decide +kernel) (by decide) ?_
        by_cases hq : tl = 0
        · skip
          refine lv_aload_n hx hb d_law_322 rfl (lv_at hl 1 rfl) ?_
          refine r_callVI (wr := [(hr, .inr (2, [.ref ac, .ref ar, .ref ag, .int (nI st), .int (nI sz), .int (nI fl), .int (nI sn), .int (nI md), .long (lN B), .int c0, .int c1, .int c2, .int c3, .int c4])), (ar, .inl (cB, 259, .inl f)), (ag, .inl (cB, 259, .inl g)), (ac, .inr (1, [.ref aw])), (aw, .inl (cB, 128, .inl wf)), (hm, .inr (4, [.int th, .int (nI st), .int (nI md), .ref yb, .int (nI mn), .ref yr, .int (nI fl), .ref yv, .int (nI sz), .ref yw, .int (nI tl), .ref ys, .int (nI tz), .ref yc])), (yb, .inl (cI, 64, .inl fb)), (yr, .inl (cI, 259, .inl fr)), (yv, .inl (cI, 259, .inl fv)), (yw, .inl (cI, 259, .inl fw)), (ys, .inl (cI, 306, .inl fs)), (yc, .inl (cI, 5, .inl fc))]) (rest := []) E cs_law_52 (c_X_send l D cB cI ax hr hs sr ss tl tz tf tg s1) hP hD hS hA [0, 6, 7, 8] [1, 2, 3, 4, 5, 9, 10, 11, 12, 13, 14, 15] ⟨rfl, rfl, by decide, by decide, by decide⟩ kc_X rfl hl.1 rfl rfl (Nat.le_of_ble_eq_true rfl) ⟨by decide, by decide⟩ ⟨by decide, by decide⟩ d_law_323 (fun r u H locs hw hP hD hS => ?_)
          obtain ⟨rfl, rfl⟩ := hw.1 hq
          have hP : va_P D classes [(ax, .inr (0, [.ref hr, .ref hs])), (hr, .inr (2, [.ref ac, .ref ar, .ref ag, .int (nI st), .int (nI sz), .int (nI fl), .int (nI sn), .int (nI md), .long (lN B), .int c0, .int c1, .int c2, .int c3, .int c4])), (ar, .inl (cB, 259, .inl f)), (ag, .inl (cB, 259, .inl g)), (ac, .inr (1, [.ref aw])), (aw, .inl (cB, 128, .inl wf)), (hs, .inr (3, [.ref sr, .ref ss, .int (nI tl), .int (nI tz)])), (sr, .inl (cB, 259, .inl tf)), (ss, .inl (cB, 306, .inl tg)), (hm, .inr (4, [.int th, .int (nI st), .int (nI md), .ref yb, .int (nI mn), .ref yr, .int (nI fl), .ref yv, .int (nI sz), .ref yw, .int (nI tl), .ref ys, .int (nI tz), .ref yc])), (yb, .inl (cI, 64, .inl fb)), (yr, .inl (cI, 259, .inl fr)), (yv, .inl (cI, 259, .inl fv)), (yw, .inl (cI, 259, .inl fw)), (ys, .inl (cI, 306, .inl fs)), (yc, .inl (cI, 5, .inl fc))] H := hP.sub [12, 0, 1, 2, 3, 4, 13, 14, 15, 5, 6, 7, 8, 9, 10, 11] rfl
          have hD : va_D A [(ax, .inr (0, [.ref hr, .ref hs])), (hr, .inr (2, [.ref ac, .ref ar, .ref ag, .int (nI st), .int (nI sz), .int (nI fl), .int (nI sn), .int (nI md), .long (lN B), .int c0, .int c1, .int c2, .int c3, .int c4])), (ar, .inl (cB, 259, .inl f)), (ag, .inl (cB, 259, .inl g)), (ac, .inr (1, [.ref aw])), (aw, .inl (cB, 128, .inl wf)), (hs, .inr (3, [.ref sr, .ref ss, .int (nI tl), .int (nI tz)])), (sr, .inl (cB, 259, .inl tf)), (ss, .inl (cB, 306, .inl tg)), (hm, .inr (4, [.int th, .int (nI st), .int (nI md), .ref yb, .int (nI mn), .ref yr, .int (nI fl), .ref yv, .int (nI sz), .ref yw, .int (nI tl), .ref ys, .int (nI tz), .ref yc])), (yb, .inl (cI, 64, .inl fb)), (yr, .inl (cI, 259, .inl fr)), (yv, .inl (cI, 259, .inl fv)), (yw, .inl (cI, 259, .inl fw)), (ys, .inl (cI, 306, .inl fs)), (yc, .inl (cI, 5, .inl fc))] := hD.sub [12, 0, 1, 2, 3, 4, 13, 14, 15, 5, 6, 7, 8, 9, 10, 11] (by decide) rfl
          refine W.widen (k := 16) (n := 2398) (Nat.le_of_ble_eq_true rfl) (Nat.le_of_ble_eq_true rfl) ?_
          refine lv_aload_n hx hb d_law_326 rfl (lv_at hl 2 rfl) ?_
          refine r_callVI (wr := [(ax, .inr (0, [.ref hr, .ref hs])), (hr, .inr (2, [.ref ac, .ref ar, .ref ag, .int (nI st), .int (nI sz), .int (nI fl), .int (nI sn), .int (nI md), .long (lN B), .int c0, .int c1, .int c2, .int c3, .int c4])), (ar, .inl (cB, 259, .inl f)), (ag, .inl (cB, 259, .inl g)), (ac, .inr (1, [.ref aw])), (aw, .inl (cB, 128, .inl wf)), (hs, .inr (3, [.ref sr, .ref ss, .int (nI tl), .int (nI tz)])), (sr, .inl (cB, 259, .inl tf)), (ss, .inl (cB, 306, .inl tg)), (yb, .inl (cI, 64, .inl fb)), (yr, .inl (cI, 259, .inl fr)), (yv, .inl (cI, 259, .inl fv)), (yc, .inl (cI, 5, .inl fc))]) (rest := [.int (-1)]) E cs_law_55 (c_M_send l D cB cI hm yb yr yv yw ys yc st md mn fl sz tl tz th fw fs tf s1 s3) hP hD hS hA [9, 13, 14] [0, 1, 2, 3, 4, 5, 6, 7, 8, 10, 11, 12, 15] ⟨rfl, rfl, by decide, by decide, by decide⟩ kc_M rfl hl.1 rfl rfl (Nat.le_of_ble_eq_true rfl) ⟨by decide, by decide⟩ ⟨by decide, by decide⟩ d_law_327 (fun r u H locs hw hP hD hS => ?_)
          obtain ⟨rfl, rfl⟩ := hw.1 hq
          have hP : va_P D classes [(ax, .inr (0, [.ref hr, .ref hs])), (hr, .inr (2, [.ref ac, .ref ar, .ref ag, .int (nI st), .int (nI sz), .int (nI fl), .int (nI sn), .int (nI md), .long (lN B), .int c0, .int c1, .int c2, .int c3, .int c4])), (ar, .inl (cB, 259, .inl f)), (ag, .inl (cB, 259, .inl g)), (ac, .inr (1, [.ref aw])), (aw, .inl (cB, 128, .inl wf)), (hs, .inr (3, [.ref sr, .ref ss, .int (nI tl), .int (nI tz)])), (sr, .inl (cB, 259, .inl tf)), (ss, .inl (cB, 306, .inl tg)), (hm, .inr (4, [.int (nI 0), .int (nI st), .int (nI md), .ref yb, .int (nI mn), .ref yr, .int (nI fl), .ref yv, .int (nI sz), .ref yw, .int (nI tl), .ref ys, .int (nI tz), .ref yc])), (yb, .inl (cI, 64, .inl fb)), (yr, .inl (cI, 259, .inl fr)), (yv, .inl (cI, 259, .inl fv)), (yw, .inl (cI, 259, .inl fw)), (ys, .inl (cI, 306, .inl fs)), (yc, .inl (cI, 5, .inl fc))] H := hP.sub [0, 1, 2, 3, 4, 5, 6, 7, 8, 13, 9, 10, 11, 14, 15, 12] rfl
          have hD : va_D A [(ax, .inr (0, [.ref hr, .ref hs])), (hr, .inr (2, [.ref ac, .ref ar, .ref ag, .int (nI st), .int (nI sz), .int (nI fl), .int (nI sn), .int (nI md), .long (lN B), .int c0, .int c1, .int c2, .int c3, .int c4])), (ar, .inl (cB, 259, .inl f)), (ag, .inl (cB, 259, .inl g)), (ac, .inr (1, [.ref aw])), (aw, .inl (cB, 128, .inl wf)), (hs, .inr (3, [.ref sr, .ref ss, .int (nI tl), .int (nI tz)])), (sr, .inl (cB, 259, .inl tf)), (ss, .inl (cB, 306, .inl tg)), (hm, .inr (4, [.int (nI 0), .int (nI st), .int (nI md), .ref yb, .int (nI mn), .ref yr, .int (nI fl), .ref yv, .int (nI sz), .ref yw, .int (nI tl), .ref ys, .int (nI tz), .ref yc])), (yb, .inl (cI, 64, .inl fb)), (yr, .inl (cI, 259, .inl fr)), (yv, .inl (cI, 259, .inl fv)), (yw, .inl (cI, 259, .inl fw)), (ys, .inl (cI, 306, .inl fs)), (yc, .inl (cI, 5, .inl fc))] := hD.sub [0, 1, 2, 3, 4, 5, 6, 7, 8, 13, 9, 10, 11, 14, 15, 12] (by decide) rfl
          refine W.widen (k := 16) (n := 2398) (Nat.le_of_ble_eq_true rfl) (Nat.le_of_ble_eq_true rfl) ?_
          refine lv_icmp_eq (tgt := 358) hx hb d_law_330 (by decide) (fun c330 => ?_) (fun c330 => False.elim (c330 rfl))
          refine lv_iinc (v := nI (i + 4)) (lv' := [(3, .int (nI (i + 4))), (0, .ref b), (1, .ref ax), (2, .ref hm)]) hx hb d_law_358 hl (k := 3) rfl (nI_add _ _) (by decide) rfl (fun ls hl => ?_)
          refine lv_goto (tgt := 18) hx hb d_law_361 (by decide) ?_
          exact ih (i + 4) (ar, ag, st, sz, fl, sn, md, B, c0, c1, c2, c3, c4, f, g) ((st, mn, fl, sz, fr, fv, fc), fb) md (nI 0) (tl, tz, tf, tg) fw fs H locs ls ⟨by omega, by omega, hri, hrep, hsr⟩ hP hD hS (lv_sub hl [1, 2, 3, 0] rfl)
        · skip
          refine lv_aload_n hx hb d_law_322 rfl (lv_at hl 1 rfl) ?_
          refine r_callVI (wr := [(hr, .inr (2, [.ref ac, .ref ar, .ref ag, .int (nI st), .int (nI sz), .int (nI fl), .int (nI sn), .int (nI md), .long (lN B), .int c0, .int c1, .int c2, .int c3, .int c4])), (ar, .inl (cB, 259, .inl f)), (ag, .inl (cB, 259, .inl g)), (ac, .inr (1, [.ref aw])), (aw, .inl (cB, 128, .inl wf)), (hm, .inr (4, [.int th, .int (nI st), .int (nI md), .ref yb, .int (nI mn), .ref yr, .int (nI fl), .ref yv, .int (nI sz), .ref yw, .int (nI tl), .ref ys, .int (nI tz), .ref yc])), (yb, .inl (cI, 64, .inl fb)), (yr, .inl (cI, 259, .inl fr)), (yv, .inl (cI, 259, .inl fv)), (yw, .inl (cI, 259, .inl fw)), (ys, .inl (cI, 306, .inl fs)), (yc, .inl (cI, 5, .inl fc))]) (rest := []) E cs_law_52 (c_X_send l D cB cI ax hr hs sr ss tl tz tf tg s1) hP hD hS hA [0, 6, 7, 8] [1, 2, 3, 4, 5, 9, 10, 11, 12, 13, 14, 15] ⟨rfl, rfl, by decide, by decide, by decide⟩ kc_X rfl hl.1 rfl rfl (Nat.le_of_ble_eq_true rfl) ⟨by decide, by decide⟩ ⟨by decide, by decide⟩ d_law_323 (fun r u H locs hw hP hD hS => ?_)
          obtain ⟨tl8, tz8, tg8⟩ := u
          obtain ⟨rfl, y1, y2, y3⟩ := hw.2 hq
          have y1 : tl8 = 0 := y1
          have y2 : tz8 = 10 + 8 * ((tl + 6) / 7) := y2
          subst y1
          subst y2
          have hP : va_P D classes [(ax, .inr (0, [.ref hr, .ref hs])), (hr, .inr (2, [.ref ac, .ref ar, .ref ag, .int (nI st), .int (nI sz), .int (nI fl), .int (nI sn), .int (nI md), .long (lN B), .int c0, .int c1, .int c2, .int c3, .int c4])), (ar, .inl (cB, 259, .inl f)), (ag, .inl (cB, 259, .inl g)), (ac, .inr (1, [.ref aw])), (aw, .inl (cB, 128, .inl wf)), (hs, .inr (3, [.ref sr, .ref ss, .int (nI 0), .int (nI (10 + 8 * ((tl + 6) / 7)))])), (sr, .inl (cB, 259, .inl tf)), (ss, .inl (cB, 306, .inl tg8)), (hm, .inr (4, [.int th, .int (nI st), .int (nI md), .ref yb, .int (nI mn), .ref yr, .int (nI fl), .ref yv, .int (nI sz), .ref yw, .int (nI tl), .ref ys, .int (nI tz), .ref yc])), (yb, .inl (cI, 64, .inl fb)), (yr, .inl (cI, 259, .inl fr)), (yv, .inl (cI, 259, .inl fv)), (yw, .inl (cI, 259, .inl fw)), (ys, .inl (cI, 306, .inl fs)), (yc, .inl (cI, 5, .inl fc))] H := hP.sub [12, 0, 1, 2, 3, 4, 13, 14, 15, 5, 6, 7, 8, 9, 10, 11] rfl
          have hD : va_D A [(ax, .inr (0, [.ref hr, .ref hs])), (hr, .inr (2, [.ref ac, .ref ar, .ref ag, .int (nI st), .int (nI sz), .int (nI fl), .int (nI sn), .int (nI md), .long (lN B), .int c0, .int c1, .int c2, .int c3, .int c4])), (ar, .inl (cB, 259, .inl f)), (ag, .inl (cB, 259, .inl g)), (ac, .inr (1, [.ref aw])), (aw, .inl (cB, 128, .inl wf)), (hs, .inr (3, [.ref sr, .ref ss, .int (nI 0), .int (nI (10 + 8 * ((tl + 6) / 7)))])), (sr, .inl (cB, 259, .inl tf)), (ss, .inl (cB, 306, .inl tg8)), (hm, .inr (4, [.int th, .int (nI st), .int (nI md), .ref yb, .int (nI mn), .ref yr, .int (nI fl), .ref yv, .int (nI sz), .ref yw, .int (nI tl), .ref ys, .int (nI tz), .ref yc])), (yb, .inl (cI, 64, .inl fb)), (yr, .inl (cI, 259, .inl fr)), (yv, .inl (cI, 259, .inl fv)), (yw, .inl (cI, 259, .inl fw)), (ys, .inl (cI, 306, .inl fs)), (yc, .inl (cI, 5, .inl fc))] := hD.sub [12, 0, 1, 2, 3, 4, 13, 14, 15, 5, 6, 7, 8, 9, 10, 11] (by decide) rfl
          refine W.widen (k := 16) (n := 2398) (Nat.le_of_ble_eq_true rfl) (Nat.le_of_ble_eq_true rfl) ?_
          refine lv_aload_n hx hb d_law_326 rfl (lv_at hl 2 rfl) ?_
          refine r_callVI (wr := [(ax, .inr (0, [.ref hr, .ref hs])), (hr, .inr (2, [.ref ac, .ref ar, .ref ag, .int (nI st), .int (nI sz), .int (nI fl), .int (nI sn), .int (nI md), .long (lN B), .int c0, .int c1, .int c2, .int c3, .int c4])), (ar, .inl (cB, 259, .inl f)), (ag, .inl (cB, 259, .inl g)), (ac, .inr (1, [.ref aw])), (aw, .inl (cB, 128, .inl wf)), (hs, .inr (3, [.ref sr, .ref ss, .int (nI 0), .int (nI (10 + 8 * ((tl + 6) / 7)))])), (sr, .inl (cB, 259, .inl tf)), (ss, .inl (cB, 306, .inl tg8)), (yb, .inl (cI, 64, .inl fb)), (yr, .inl (cI, 259, .inl fr)), (yv, .inl (cI, 259, .inl fv)), (yc, .inl (cI, 5, .inl fc))]) (rest := [.int (nI (10 + 8 * ((tl + 6) / 7)))]) E cs_law_55 (c_M_send l D cB cI hm yb yr yv yw ys yc st md mn fl sz tl tz th fw fs tf s1 s3) hP hD hS hA [9, 13, 14] [0, 1, 2, 3, 4, 5, 6, 7, 8, 10, 11, 12, 15] ⟨rfl, rfl, by decide, by decide, by decide⟩ kc_M rfl hl.1 rfl rfl (Nat.le_of_ble_eq_true rfl) ⟨by decide, by decide⟩ ⟨by decide, by decide⟩ d_law_327 (fun r u9 H locs hw hP hD hS => ?_)
          obtain ⟨wn8, sn8, fw8, fs8⟩ := u9
          obtain ⟨rfl, y4, y5, y6⟩ := hw.2 hq
          have y4 : wn8 = 0 := y4
          have y5 : sn8 = 10 + 8 * ((tl + 6) / 7) := y5
          subst y4
          subst y5
          have hP : va_P D classes [(ax, .inr (0, [.ref hr, .ref hs])), (hr, .inr (2, [.ref ac, .ref ar, .ref ag, .int (nI st), .int (nI sz), .int (nI fl), .int (nI sn), .int (nI md), .long (lN B), .int c0, .int c1, .int c2, .int c3, .int c4])), (ar, .inl (cB, 259, .inl f)), (ag, .inl (cB, 259, .inl g)), (ac, .inr (1, [.ref aw])), (aw, .inl (cB, 128, .inl wf)), (hs, .inr (3, [.ref sr, .ref ss, .int (nI 0), .int (nI (10 + 8 * ((tl + 6) / 7)))])), (sr, .inl (cB, 259, .inl tf)), (ss, .inl (cB, 306, .inl tg8)), (hm, .inr (4, [.int (nI 0), .int (nI st), .int (nI md), .ref yb, .int (nI mn), .ref yr, .int (nI fl), .ref yv, .int (nI sz), .ref yw, .int (nI 0), .ref ys, .int (nI (10 + 8 * ((tl + 6) / 7))), .ref yc])), (yb, .inl (cI, 64, .inl fb)), (yr, .inl (cI, 259, .inl fr)), (yv, .inl (cI, 259, .inl fv)), (yw, .inl (cI, 259, .inl fw8)), (ys, .inl (cI, 306, .inl fs8)), (yc, .inl (cI, 5, .inl fc))] H := hP.sub [0, 1, 2, 3, 4, 5, 6, 7, 8, 13, 9, 10, 11, 14, 15, 12] rfl
          have hD : va_D A [(ax, .inr (0, [.ref hr, .ref hs])), (hr, .inr (2, [.ref ac, .ref ar, .ref ag, .int (nI st), .int (nI sz), .int (nI fl), .int (nI sn), .int (nI md), .long (lN B), .int c0, .int c1, .int c2, .int c3, .int c4])), (ar, .inl (cB, 259, .inl f)), (ag, .inl (cB, 259, .inl g)), (ac, .inr (1, [.ref aw])), (aw, .inl (cB, 128, .inl wf)), (hs, .inr (3, [.ref sr, .ref ss, .int (nI 0), .int (nI (10 + 8 * ((tl + 6) / 7)))])), (sr, .inl (cB, 259, .inl tf)), (ss, .inl (cB, 306, .inl tg8)), (hm, .inr (4, [.int (nI 0), .int (nI st), .int (nI md), .ref yb, .int (nI mn), .ref yr, .int (nI fl), .ref yv, .int (nI sz), .ref yw, .int (nI 0), .ref ys, .int (nI (10 + 8 * ((tl + 6) / 7))), .ref yc])), (yb, .inl (cI, 64, .inl fb)), (yr, .inl (cI, 259, .inl fr)), (yv, .inl (cI, 259, .inl fv)), (yw, .inl (cI, 259, .inl fw8)), (ys, .inl (cI, 306, .inl fs8)), (yc, .inl (cI, 5, .inl fc))] := hD.sub [0, 1, 2, 3, 4, 5, 6, 7, 8, 13, 9, 10, 11, 14, 15, 12] (by decide) rfl
          refine W.widen (k := 16) (n := 2398) (Nat.le_of_ble_eq_true rfl) (Nat.le_of_ble_eq_true rfl) ?_
          refine lv_icmp_eq (tgt := 358) hx hb d_law_330 (by decide) (fun c330 => ?_) (fun c330 => False.elim (c330 rfl))
          refine lv_iinc (v := nI (i + 4)) (lv' := [(3, .int (nI (i + 4))), (0, .ref b), (1, .ref ax), (2, .ref hm)]) hx hb d_law_358 hl (k := 3) rfl (nI_add _ _) (by decide) rfl (fun ls hl => ?_)
          refine lv_goto (tgt := 18) hx hb d_law_361 (by decide) ?_
          exact ih (i + 4) (ar, ag, st, sz, fl, sn, md, B, c0, c1, c2, c3, c4, f, g) ((st, mn, fl, sz, fr, fv, fc), fb) md (nI 0) (0, 10 + 8 * ((tl + 6) / 7), tf, tg8) fw8 fs8 H locs ls ⟨by omega, by omega, hri, hrep, sr_send (by omega) y3 y6⟩ hP hD hS (lv_sub hl [1, 2, 3, 0] rfl)
      · refine lv_tableIn (tgt := 335) (off := 303) hx hb d_law_32 (by decide +kernel) (by decide +kernel) (by decide +kernel) (by decide) ?_
        refine lv_aload_n hx hb d_law_335 rfl (lv_at hl 1 rfl) ?_
        refine lv_aload_n hx hb d_law_336 rfl (lv_at hl 0 rfl) ?_
        refine lv_iload_n hx hb d_law_337 rfl (lv_at hl 3 rfl) ?_
        refine lv_iconst (v := nI 1) hx hb d_law_338 (by decide +kernel) ?_
        refine r_iadd hx hb d_law_339 ?_
        refine r_sld hx hb hX hbl hbA hS (by omega) hL d_law_340 ?_
        refine r_callVI (wr := [(hr, .inr (2, [.ref ac, .ref ar, .ref ag, .int (nI st), .int (nI sz), .int (nI fl), .int (nI sn), .int (nI md), .long (lN B), .int c0, .int c1, .int c2, .int c3, .int c4])), (ar, .inl (cB, 259, .inl f)), (ag, .inl (cB, 259, .inl g)), (ac, .inr (1, [.ref aw])), (aw, .inl (cB, 128, .inl wf)), (sr, .inl (cB, 259, .inl tf)), (hm, .inr (4, [.int th, .int (nI st), .int (nI md), .ref yb, .int (nI mn), .ref yr, .int (nI fl), .ref yv, .int (nI sz), .ref yw, .int (nI tl), .ref ys, .int (nI tz), .ref yc])), (yb, .inl (cI, 64, .inl fb)), (yr, .inl (cI, 259, .inl fr)), (yv, .inl (cI, 259, .inl fv)), (yw, .inl (cI, 259, .inl fw)), (ys, .inl (cI, 306, .inl fs)), (yc, .inl (cI, 5, .inl fc))]) (rest := []) E cs_law_56 (c_X_sent l D cB cI ax hr hs sr ss tl tz tg (xs (i + 1)) s2) hP hD hS hA [0, 6, 8] [1, 2, 3, 4, 5, 7, 9, 10, 11, 12, 13, 14, 15] ⟨rfl, rfl, by decide, by decide, by decide⟩ kc_X rfl hl.1 rfl rfl (Nat.le_of_ble_eq_true rfl) ⟨by decide, by decide⟩ ⟨by decide, by decide⟩ d_law_341 (fun r u H locs hw hP hD hS => ?_)
        subst hw
        have hP : va_P D classes [(ax, .inr (0, [.ref hr, .ref hs])), (hr, .inr (2, [.ref ac, .ref ar, .ref ag, .int (nI st), .int (nI sz), .int (nI fl), .int (nI sn), .int (nI md), .long (lN B), .int c0, .int c1, .int c2, .int c3, .int c4])), (ar, .inl (cB, 259, .inl f)), (ag, .inl (cB, 259, .inl g)), (ac, .inr (1, [.ref aw])), (aw, .inl (cB, 128, .inl wf)), (hs, .inr (3, [.ref sr, .ref ss, .int (nI tl), .int (nI tz)])), (sr, .inl (cB, 259, .inl tf)), (ss, .inl (cB, 306, .inl tg)), (hm, .inr (4, [.int th, .int (nI st), .int (nI md), .ref yb, .int (nI mn), .ref yr, .int (nI fl), .ref yv, .int (nI sz), .ref yw, .int (nI tl), .ref ys, .int (nI tz), .ref yc])), (yb, .inl (cI, 64, .inl fb)), (yr, .inl (cI, 259, .inl fr)), (yv, .inl (cI, 259, .inl fv)), (yw, .inl (cI, 259, .inl fw)), (ys, .inl (cI, 306, .inl fs)), (yc, .inl (cI, 5, .inl fc))] H := hP.sub [13, 0, 1, 2, 3, 4, 14, 5, 15, 6, 7, 8, 9, 10, 11, 12] rfl
        have hD : va_D A [(ax, .inr (0, [.ref hr, .ref hs])), (hr, .inr (2, [.ref ac, .ref ar, .ref ag, .int (nI st), .int (nI sz), .int (nI fl), .int (nI sn), .int (nI md), .long (lN B), .int c0, .int c1, .int c2, .int c3, .int c4])), (ar, .inl (cB, 259, .inl f)), (ag, .inl (cB, 259, .inl g)), (ac, .inr (1, [.ref aw])), (aw, .inl (cB, 128, .inl wf)), (hs, .inr (3, [.ref sr, .ref ss, .int (nI tl), .int (nI tz)])), (sr, .inl (cB, 259, .inl tf)), (ss, .inl (cB, 306, .inl tg)), (hm, .inr (4, [.int th, .int (nI st), .int (nI md), .ref yb, .int (nI mn), .ref yr, .int (nI fl), .ref yv, .int (nI sz), .ref yw, .int (nI tl), .ref ys, .int (nI tz), .ref yc])), (yb, .inl (cI, 64, .inl fb)), (yr, .inl (cI, 259, .inl fr)), (yv, .inl (cI, 259, .inl fv)), (yw, .inl (cI, 259, .inl fw)), (ys, .inl (cI, 306, .inl fs)), (yc, .inl (cI, 5, .inl fc))] := hD.sub [13, 0, 1, 2, 3, 4, 14, 5, 15, 6, 7, 8, 9, 10, 11, 12] (by decide) rfl
        refine W.widen (k := 16) (n := 2398) (Nat.le_of_ble_eq_true rfl) (Nat.le_of_ble_eq_true rfl) ?_
        refine lv_aload_n hx hb d_law_344 rfl (lv_at hl 2 rfl) ?_
        refine lv_aload_n hx hb d_law_345 rfl (lv_at hl 0 rfl) ?_
        refine lv_iload_n hx hb d_law_346 rfl (lv_at hl 3 rfl) ?_
        refine lv_iconst (v := nI 1) hx hb d_law_347 (by decide +kernel) ?_
        refine r_iadd hx hb d_law_348 ?_
        refine r_sld hx hb hX hbl hbA hS (by omega) hL d_law_349 ?_
        refine r_callVI (wr := [(ax, .inr (0, [.ref hr, .ref hs])), (hr, .inr (2, [.ref ac, .ref ar, .ref ag, .int (nI st), .int (nI sz), .int (nI fl), .int (nI sn), .int (nI md), .long (lN B), .int c0, .int c1, .int c2, .int c3, .int c4])), (ar, .inl (cB, 259, .inl f)), (ag, .inl (cB, 259, .inl g)), (ac, .inr (1, [.ref aw])), (aw, .inl (cB, 128, .inl wf)), (hs, .inr (3, [.ref sr, .ref ss, .int (nI tl), .int (nI tz)])), (sr, .inl (cB, 259, .inl tf)), (ss, .inl (cB, 306, .inl tg)), (yb, .inl (cI, 64, .inl fb)), (yr, .inl (cI, 259, .inl fr)), (yv, .inl (cI, 259, .inl fv)), (yw, .inl (cI, 259, .inl fw)), (yc, .inl (cI, 5, .inl fc))]) (rest := [.int (rd (xs (i + 1)) tz (fun j => nI (bN (tg j))))]) E cs_law_59 (c_M_sent l D cB cI hm yb yr yv yw ys yc st md mn fl sz tl tz th fs (xs (i + 1)) s2) hP hD hS hA [9, 14] [0, 1, 2, 3, 4, 5, 6, 7, 8, 10, 11, 12, 13, 15] ⟨rfl, rfl, by decide, by decide, by decide⟩ kc_M rfl hl.1 rfl rfl (Nat.le_of_ble_eq_true rfl) ⟨by decide, by decide⟩ ⟨by decide, by decide⟩ d_law_350 (fun r u H locs hw hP hD hS => ?_)
        subst hw
        have hP : va_P D classes [(ax, .inr (0, [.ref hr, .ref hs])), (hr, .inr (2, [.ref ac, .ref ar, .ref ag, .int (nI st), .int (nI sz), .int (nI fl), .int (nI sn), .int (nI md), .long (lN B), .int c0, .int c1, .int c2, .int c3, .int c4])), (ar, .inl (cB, 259, .inl f)), (ag, .inl (cB, 259, .inl g)), (ac, .inr (1, [.ref aw])), (aw, .inl (cB, 128, .inl wf)), (hs, .inr (3, [.ref sr, .ref ss, .int (nI tl), .int (nI tz)])), (sr, .inl (cB, 259, .inl tf)), (ss, .inl (cB, 306, .inl tg)), (hm, .inr (4, [.int (nI 0), .int (nI st), .int (nI md), .ref yb, .int (nI mn), .ref yr, .int (nI fl), .ref yv, .int (nI sz), .ref yw, .int (nI tl), .ref ys, .int (nI tz), .ref yc])), (yb, .inl (cI, 64, .inl fb)), (yr, .inl (cI, 259, .inl fr)), (yv, .inl (cI, 259, .inl fv)), (yw, .inl (cI, 259, .inl fw)), (ys, .inl (cI, 306, .inl fs)), (yc, .inl (cI, 5, .inl fc))] H := hP.sub [0, 1, 2, 3, 4, 5, 6, 7, 8, 14, 9, 10, 11, 12, 15, 13] rfl
        have hD : va_D A [(ax, .inr (0, [.ref hr, .ref hs])), (hr, .inr (2, [.ref ac, .ref ar, .ref ag, .int (nI st), .int (nI sz), .int (nI fl), .int (nI sn), .int (nI md), .long (lN B), .int c0, .int c1, .int c2, .int c3, .int c4])), (ar, .inl (cB, 259, .inl f)), (ag, .inl (cB, 259, .inl g)), (ac, .inr (1, [.ref aw])), (aw, .inl (cB, 128, .inl wf)), (hs, .inr (3, [.ref sr, .ref ss, .int (nI tl), .int (nI tz)])), (sr, .inl (cB, 259, .inl tf)), (ss, .inl (cB, 306, .inl tg)), (hm, .inr (4, [.int (nI 0), .int (nI st), .int (nI md), .ref yb, .int (nI mn), .ref yr, .int (nI fl), .ref yv, .int (nI sz), .ref yw, .int (nI tl), .ref ys, .int (nI tz), .ref yc])), (yb, .inl (cI, 64, .inl fb)), (yr, .inl (cI, 259, .inl fr)), (yv, .inl (cI, 259, .inl fv)), (yw, .inl (cI, 259, .inl fw)), (ys, .inl (cI, 306, .inl fs)), (yc, .inl (cI, 5, .inl fc))] := hD.sub [0, 1, 2, 3, 4, 5, 6, 7, 8, 14, 9, 10, 11, 12, 15, 13] (by decide) rfl
        refine W.widen (k := 16) (n := 2398) (Nat.le_of_ble_eq_true rfl) (Nat.le_of_ble_eq_true rfl) ?_
        refine lv_icmp_eq (tgt := 358) hx hb d_law_353 (by decide) (fun c353 => ?_) (fun c353 => False.elim (c353 (rd_eq (by omega) (fun j hj => (s4 j hj).symm))))
        refine lv_iinc (v := nI (i + 4)) (lv' := [(3, .int (nI (i + 4))), (0, .ref b), (1, .ref ax), (2, .ref hm)]) hx hb d_law_358 hl (k := 3) rfl (nI_add _ _) (by decide) rfl (fun ls hl => ?_)
        refine lv_goto (tgt := 18) hx hb d_law_361 (by decide) ?_
        exact ih (i + 4) (ar, ag, st, sz, fl, sn, md, B, c0, c1, c2, c3, c4, f, g) ((st, mn, fl, sz, fr, fv, fc), fb) md (nI 0) (tl, tz, tf, tg) fw fs H locs ls ⟨by omega, by omega, hri, hrep, hsr⟩ hP hD hS (lv_sub hl [1, 2, 3, 0] rfl)
      · refine lv_tableOut (tgt := 358) hx hb d_law_32 (Or.inr (by rw [nI_toInt (by omega)]; omega)) (by decide) ?_
        refine lv_iinc (v := nI (i + 4)) (lv' := [(3, .int (nI (i + 4))), (0, .ref b), (1, .ref ax), (2, .ref hm)]) hx hb d_law_358 hl (k := 3) rfl (nI_add _ _) (by decide) rfl (fun ls hl => ?_)
        refine lv_goto (tgt := 18) hx hb d_law_361 (by decide) ?_
        exact ih (i + 4) (ar, ag, st, sz, fl, sn, md, B, c0, c1, c2, c3, c4, f, g) ((st, mn, fl, sz, fr, fv, fc), fb) md th (tl, tz, tf, tg) fw fs H locs ls ⟨by omega, by omega, hri, hrep, hsr⟩ hP hD hS (lv_sub hl [1, 2, 3, 0] rfl)
end
section
def lw_P (b : Addr) (xs : List Int32) (args : Array Value) (s : State) : Prop := args = #[.ref b] ∧ s.IntsAt b xs ∧ xs.length ≤ 2048 ∧ (Jvm.Cond.and given_1 narrow_1).before args s = true
def lw_Q (_ : Array Value) (s : State) (o : Outcome) (t : State) : Prop := o = .returned (some (.int 1)) ∧ Framed s o t [] 16 2398
def lw_Z (below : List Frame) (a : Array Value) (s : State) : State → Prop := fun t => ∃ o, t.status = .running ∧ Ended t below o ∧ lw_Q a s o t
/-- the law's own end, with 1 on the stack, nothing written that was there before, its room as the claim has it -/
theorem lw_ret {p : Program} {l : Launch} {e : Env} {s : State} {m : MethodId} {below : List Frame} {meth : Method} {c : Code} {b : Nat} (hx : p.tables.exec = Jvm.exec) (hb : c.code = code) (hr : meth.sig.returnType = ret) (hlocks : meth.locks = false) {pc : Nat} {H : Heap} {ls : Array Slot} (hdg : decode code pc = .ok (.ireturn, 1)) : W p l e room_1 s m #[Value.ref b] below meth c H [] 16 2398 (lw_Z below #[Value.ref b] s) (F0 m pc ls [.int 1]) := by
  intro T hT X
  obtain ⟨fs, hret, hrun, hended, hW, hframe⟩ := X.leave (v := some (.int 1)) (hlocks := hlocks) (fun h => by rw [hr] at h; cases h)
  have hmeth' : T.vm.method? m = some meth := X.method'
  refine ⟨T.setFrames fs, ?_, .returned (some (.int 1)), hrun, hended, rfl, ⟨_, rfl⟩, hW, hframe⟩
  jvm_step X.here [X.here.top, hx, hb, hdg, hmeth', hr, ret, narrow_b1]
  (try refine ⟨rfl, ?_⟩); (try refine ⟨rfl, ?_⟩)
  first | (intro acts; rw [hret _ acts rfl rfl rfl]) | rw [hret _ _ rfl rfl rfl]
  exact Steps.refl _
/-- what holds at the law's entry: the machine, the code, the tables' words (any of lw_tbl by 'hts w (by decide +kernel)'), the script of L ints xs at the cell b, what the Statement gives of the start (any of its parts by flat_of_before) -/
def lw_At (p : Program) (s : State) (m : MethodId) (meth : Method) (c : Code) (b L : Nat) (xs : Nat → Int32) : Prop :=
  p.tables.exec = Jvm.exec ∧ c.code = code ∧ meth.sig.returnType = ret ∧ c.maxLocals = 4 ∧ s.vm.findClass R_law = some m.cls ∧ (∀ w ∈ lw_tbl, w.before #[Value.ref b] s = true) ∧ va_X b L xs s s.heap ∧ b < s.heap.size ∧ meth.locks = false ∧ (Jvm.Cond.and given_1 narrow_1).before #[Value.ref b] s = true
theorem nw_in : ∀ q ∈ NF, Cond.fieldLinkNest "CodeBlocks" q.1 q.2.1 q.2.2.1 q.2.2.2 "CodeBlocks" ∈ lw_tbl := by decide +kernel
theorem nm_in : Cond.methodLinkNest "CodeBlocks" 23 y_S_init "CodeBlocks" ∈ lw_tbl := by decide +kernel
theorem arr_K {s : State} {a : Array Value} {ty : FieldType} (h : (Cond.arrayClass ty).before a s = true) : ∃ cA : ClassId, s.vm.findClass ("[" ++ ty.toString) = some cA ∧ ArrOfT s cA ty := by
  obtain ⟨cA, kA, comp, h1, h2, h3⟩ := Cond.arrayClass_spec h
  exact ⟨cA, h1, fun n z => ⟨fun k h => (by cases h), kA, h2, comp, h3⟩⟩
set_option maxHeartbeats 4000000 in
set_option maxRecDepth 100000 in
theorem whole_start {p : Program} {e : Env} {s : State} {m : MethodId} {below : List Frame} {meth : Method} {c : Code} (l : Launch) {b L : Nat} {xs : Nat → Int32} (hL : L ≤ 2048) (C0 : lw_At p s m meth c b L xs) : W p l e room_1 s m #[Value.ref b] below meth c s.heap [] 0 0 (lw_Z below #[Value.ref b] s) (entryFrame m ([Value.ref b] : List Value).toArray 4) := by
  obtain ⟨hx, hb, hr, hml, hown, hts, hX, hbl, hlocks, hgv⟩ := id C0
  have htb : ∀ w ∈ tb, w.before #[Value.ref b] s = true := fun w h => hts w (List.mem_filter.mp h).1
  obtain ⟨d0, j0, n0⟩ := u_known (C := R_X) (T := F_X) (N := 2) (n := 2) htb i_X (htb _ k_7)
  obtain ⟨d1, j1, n1⟩ := u_known (C := R_C) (T := F_C) (N := 1) (n := 1) htb i_C (htb _ k_17)
  obtain ⟨d2, j2, n2⟩ := u_known (C := R_R) (T := F_R) (N := 14) (n := 14) htb i_R (htb _ k_15)
  obtain ⟨d3, j3, n3⟩ := u_known (C := R_S) (T := F_S) (N := 4) (n := 4) htb i_S (htb _ k_87)
  obtain ⟨d4, j4, n4⟩ := u_known (C := R_M) (T := F_M) (N := 14) (n := 14) htb i_M (htb _ k_202)
  obtain ⟨cB, hB1, hB2⟩ := arr_K (htb _ k_29)
  obtain ⟨cI, hI1, hI2⟩ := arr_K (htb _ k_250)
  obtain ⟨D, hD5⟩ : ∃ D : va_G, ∀ (k : Nat) (q : vw_C), classes[k]? = some q → u_Kn s q.1 q.2.1 q.2.2 (D.1 k) (D.2 k) := by
    refine ⟨(fun k => if k = 0 then d0 else if k = 1 then d1 else if k = 2 then d2 else if k = 3 then d3 else d4, fun k => if k = 0 then j0 else if k = 1 then j1 else if k = 2 then j2 else if k = 3 then j3 else j4), ?_⟩
    intro k q hq
    match k, hq with
    | 0, hq => cases hq; exact n0
    | 1, hq => cases hq; exact n1
    | 2, hq => cases hq; exact n2
    | 3, hq => cases hq; exact n3
    | 4, hq => cases hq; exact n4
    | k + 5, hq => simp [classes] at hq
  have hK : va_K D classes (TY cB cI) s := ⟨hD5, fun k q h => by
    match k, h with
    | 0, h => cases h; exact ⟨hB2, hB1⟩
    | 1, h => cases h; exact ⟨hI2, hI1⟩
    | k + 2, h => simp at h⟩
  have hN : NW s := ⟨fun q hq => va_Nw.of rfl (hts _ (nw_in q hq)), va_Nw.of rfl (hts _ nm_in)⟩
  have E : Ev p m c code 4 s #[Value.ref b] "CodeBlocksLaw" D cB cI := ⟨⟨hx, hb, hml, hown, htb⟩, hK, hN⟩
  obtain ⟨A, hAe⟩ : ∃ A : Nat → Prop, A = fun q : Nat => s.heap.size ≤ q := ⟨_, rfl⟩
  have hA : ∀ q : Nat, s.heap.size ≤ q → A q := fun q h => by rw [hAe]; exact h
  have hbA : ¬ A b := by rw [hAe]; exact Nat.not_le.mpr hbl
  have hS : va_S A s.heap s.heap [] := va_S.rf
  have hP : va_P D classes [] s.heap := fun k q h => by simp at h
  have hD : va_D A [] := ⟨fun i j p q h => by simp at h, fun k q h => by simp at h⟩
  have hl := lv_entry ([.ref b]) (n := 4) (Nat.le_of_ble_eq_true rfl)
  rw [lg_entry_eq]
  generalize (lg_sl ([.ref b]) ++ List.replicate (4 - (lg_sl ([.ref b])).length) Slot.unset).toArray = ls at hl ⊢
  have hl : lv_has ls 4 [(0, .ref b)] := hl
  have hr0 := hr
  refine va_new (ci := 0) (fs := [.null, .null]) (C := R_X) (T := F_X) (N := 2) hx hb E.1.2.2.2.2 i_X t_X t_X_ok E.1.2.2.2.1 (E.1.2.2.2.2 _ k_6) (E.1.2.2.2.2 _ k_7) (E.1.2.2.2.2 _ k_1) E.2.1 hP hD hS hA rfl (by decide +kernel) (by decide) (by decide) d_law_0 (fun ax H hP hD hS => ?_)
  have hP : va_P D classes [(ax, .inr (0, [.null, .null]))] H := hP
  have hD : va_D A [(ax, .inr (0, [.null, .null]))] := hD
  refine W.widen (k := 1) (n := 2) (Nat.le_of_ble_eq_true rfl) (Nat.le_of_ble_eq_true rfl) ?_
  refine lv_dup hx hb d_law_3 rfl ?_
  refine r_callIV (wr := []) (rest := [.ref ax]) E cs_law_9 (c_X_init l D cB cI ax) hP hD hS hA [0] [] ⟨rfl, rfl, by decide, by decide, by decide⟩ hl.1 rfl rfl (Nat.le_of_ble_eq_true rfl) ⟨by decide, by decide⟩ ⟨by decide, by decide⟩ d_law_4 (fun u H locs hw hP hD hS => ?_)
  obtain ⟨hr, hs, ac, aw, ar, ag, sr, ss, wf⟩ := u
  have hwf := hw
  have hP : va_P D classes [(ax, .inr (0, [.ref hr, .ref hs])), (hr, .inr (2, [.ref ac, .ref ar, .ref ag, .int (nI 0), .int (nI 0), .int (nI 0), .int (nI 0), .int (nI 0), .long (lN 0), .int 0, .int 0, .int 0, .int 0, .int 0])), (ar, .inl (cB, 259, .inl (fun _ => 0))), (ag, .inl (cB, 259, .inl (fun _ => 0))), (ac, .inr (1, [.ref aw])), (aw, .inl (cB, 128, .inl wf)), (hs, .inr (3, [.ref sr, .ref ss, .int (nI 0), .int (nI 0)])), (sr, .inl (cB, 259, .inl (fun _ => 0))), (ss, .inl (cB, 306, .inl (fun _ => 0)))] H := hP.sub [0, 1, 2, 3, 4, 5, 6, 7, 8] rfl
  have hD : va_D A [(ax, .inr (0, [.ref hr, .ref hs])), (hr, .inr (2, [.ref ac, .ref ar, .ref ag, .int (nI 0), .int (nI 0), .int (nI 0), .int (nI 0), .int (nI 0), .long (lN 0), .int 0, .int 0, .int 0, .int 0, .int 0])), (ar, .inl (cB, 259, .inl (fun _ => 0))), (ag, .inl (cB, 259, .inl (fun _ => 0))), (ac, .inr (1, [.ref aw])), (aw, .inl (cB, 128, .inl wf)), (hs, .inr (3, [.ref sr, .ref ss, .int (nI 0), .int (nI 0)])), (sr, .inl (cB, 259, .inl (fun _ => 0))), (ss, .inl (cB, 306, .inl (fun _ => 0)))] := hD.sub [0, 1, 2, 3, 4, 5, 6, 7, 8] (by decide) rfl
  refine W.widen (k := 9) (n := 1232) (Nat.le_of_ble_eq_true rfl) (Nat.le_of_ble_eq_true rfl) ?_
  refine lv_astore_n (lv' := [(1, .ref ax), (0, .ref b)]) hx hb d_law_7 rfl hl (by decide) rfl (fun ls hl => ?_)
  refine va_new (ci := 4) (fs := [.int (nI 0), .int (nI 0), .int (nI 0), .null, .int (nI 0), .null, .int (nI 0), .null, .int (nI 0), .null, .int (nI 0), .null, .int (nI 0), .null]) (C := R_M) (T := F_M) (N := 14) hx hb E.1.2.2.2.2 i_M t_M t_M_ok E.1.2.2.2.1 (E.1.2.2.2.2 _ k_201) (E.1.2.2.2.2 _ k_202) (E.1.2.2.2.2 _ k_5) E.2.1 hP hD hS hA rfl (by decide +kernel) (by decide) (by decide) d_law_8 (fun hm H hP hD hS => ?_)
  have hP : va_P D classes [(ax, .inr (0, [.ref hr, .ref hs])), (hr, .inr (2, [.ref ac, .ref ar, .ref ag, .int (nI 0), .int (nI 0), .int (nI 0), .int (nI 0), .int (nI 0), .long (lN 0), .int 0, .int 0, .int 0, .int 0, .int 0])), (ar, .inl (cB, 259, .inl (fun _ => 0))), (ag, .inl (cB, 259, .inl (fun _ => 0))), (ac, .inr (1, [.ref aw])), (aw, .inl (cB, 128, .inl wf)), (hs, .inr (3, [.ref sr, .ref ss, .int (nI 0), .int (nI 0)])), (sr, .inl (cB, 259, .inl (fun _ => 0))), (ss, .inl (cB, 306, .inl (fun _ => 0))), (hm, .inr (4, [.int (nI 0), .int (nI 0), .int (nI 0), .null, .int (nI 0), .null, .int (nI 0), .null, .int (nI 0), .null, .int (nI 0), .null, .int (nI 0), .null]))] H := hP
  have hD : va_D A [(ax, .inr (0, [.ref hr, .ref hs])), (hr, .inr (2, [.ref ac, .ref ar, .ref ag, .int (nI 0), .int (nI 0), .int (nI 0), .int (nI 0), .int (nI 0), .long (lN 0), .int 0, .int 0, .int 0, .int 0, .int 0])), (ar, .inl (cB, 259, .inl (fun _ => 0))), (ag, .inl (cB, 259, .inl (fun _ => 0))), (ac, .inr (1, [.ref aw])), (aw, .inl (cB, 128, .inl wf)), (hs, .inr (3, [.ref sr, .ref ss, .int (nI 0), .int (nI 0)])), (sr, .inl (cB, 259, .inl (fun _ => 0))), (ss, .inl (cB, 306, .inl (fun _ => 0))), (hm, .inr (4, [.int (nI 0), .int (nI 0), .int (nI 0), .null, .int (nI 0), .null, .int (nI 0), .null, .int (nI 0), .null, .int (nI 0), .null, .int (nI 0), .null]))] := hD
  refine W.widen (k := 10) (n := 1246) (Nat.le_of_ble_eq_true rfl) (Nat.le_of_ble_eq_true rfl) ?_
  refine lv_dup hx hb d_law_11 rfl ?_
  refine r_callIV (wr := [(ax, .inr (0, [.ref hr, .ref hs])), (hr, .inr (2, [.ref ac, .ref ar, .ref ag, .int (nI 0), .int (nI 0), .int (nI 0), .int (nI 0), .int (nI 0), .long (lN 0), .int 0, .int 0, .int 0, .int 0, .int 0])), (ar, .inl (cB, 259, .inl (fun _ => 0))), (ag, .inl (cB, 259, .inl (fun _ => 0))), (ac, .inr (1, [.ref aw])), (aw, .inl (cB, 128, .inl wf)), (hs, .inr (3, [.ref sr, .ref ss, .int (nI 0), .int (nI 0)])), (sr, .inl (cB, 259, .inl (fun _ => 0))), (ss, .inl (cB, 306, .inl (fun _ => 0)))]) (rest := [.ref hm]) E cs_law_12 (c_M_init l D cB cI hm) hP hD hS hA [9] [0, 1, 2, 3, 4, 5, 6, 7, 8] ⟨rfl, rfl, by decide, by decide, by decide⟩ hl.1 rfl rfl (Nat.le_of_ble_eq_true rfl) ⟨by decide, by decide⟩ ⟨by decide, by decide⟩ d_law_12 (fun u H locs hw hP hD hS => ?_)
  obtain ⟨yb, yr, yv, yw, ys, yc⟩ := u
  have hP : va_P D classes [(ax, .inr (0, [.ref hr, .ref hs])), (hr, .inr (2, [.ref ac, .ref ar, .ref ag, .int (nI 0), .int (nI 0), .int (nI 0), .int (nI 0), .int (nI 0), .long (lN 0), .int 0, .int 0, .int 0, .int 0, .int 0])), (ar, .inl (cB, 259, .inl (fun _ => 0))), (ag, .inl (cB, 259, .inl (fun _ => 0))), (ac, .inr (1, [.ref aw])), (aw, .inl (cB, 128, .inl wf)), (hs, .inr (3, [.ref sr, .ref ss, .int (nI 0), .int (nI 0)])), (sr, .inl (cB, 259, .inl (fun _ => 0))), (ss, .inl (cB, 306, .inl (fun _ => 0))), (hm, .inr (4, [.int (nI 0), .int (nI 0), .int (nI 0), .ref yb, .int (nI 0), .ref yr, .int (nI 0), .ref yv, .int (nI 0), .ref yw, .int (nI 0), .ref ys, .int (nI 0), .ref yc])), (yb, .inl (cI, 64, .inl (fun _ => 0))), (yr, .inl (cI, 259, .inl (fun _ => 0))), (yv, .inl (cI, 259, .inl (fun _ => 0))), (yw, .inl (cI, 259, .inl (fun _ => 0))), (ys, .inl (cI, 306, .inl (fun _ => 0))), (yc, .inl (cI, 5, .inl (fun _ => 0)))] H := hP.sub [0, 1, 2, 3, 4, 5, 6, 7, 8, 9, 10, 11, 12, 13, 14, 15] rfl
  have hD : va_D A [(ax, .inr (0, [.ref hr, .ref hs])), (hr, .inr (2, [.ref ac, .ref ar, .ref ag, .int (nI 0), .int (nI 0), .int (nI 0), .int (nI 0), .int (nI 0), .long (lN 0), .int 0, .int 0, .int 0, .int 0, .int 0])), (ar, .inl (cB, 259, .inl (fun _ => 0))), (ag, .inl (cB, 259, .inl (fun _ => 0))), (ac, .inr (1, [.ref aw])), (aw, .inl (cB, 128, .inl wf)), (hs, .inr (3, [.ref sr, .ref ss, .int (nI 0), .int (nI 0)])), (sr, .inl (cB, 259, .inl (fun _ => 0))), (ss, .inl (cB, 306, .inl (fun _ => 0))), (hm, .inr (4, [.int (nI 0), .int (nI 0), .int (nI 0), .ref yb, .int (nI 0), .ref yr, .int (nI 0), .ref yv, .int (nI 0), .ref yw, .int (nI 0), .ref ys, .int (nI 0), .ref yc])), (yb, .inl (cI, 64, .inl (fun _ => 0))), (yr, .inl (cI, 259, .inl (fun _ => 0))), (yv, .inl (cI, 259, .inl (fun _ => 0))), (yw, .inl (cI, 259, .inl (fun _ => 0))), (ys, .inl (cI, 306, .inl (fun _ => 0))), (yc, .inl (cI, 5, .inl (fun _ => 0)))] := hD.sub [0, 1, 2, 3, 4, 5, 6, 7, 8, 9, 10, 11, 12, 13, 14, 15] (by decide) rfl
  refine W.widen (k := 16) (n := 2398) (Nat.le_of_ble_eq_true rfl) (Nat.le_of_ble_eq_true rfl) ?_
  refine lv_astore_n (lv' := [(2, .ref hm), (1, .ref ax), (0, .ref b)]) hx hb d_law_15 rfl hl (by decide) rfl (fun ls hl => ?_)
  refine lv_iconst (v := nI 0) hx hb d_law_16 (by decide +kernel) ?_
  refine lv_istore_n (lv' := [(3, .int (nI 0)), (2, .ref hm), (1, .ref ax), (0, .ref b)]) hx hb d_law_17 rfl hl (by decide) rfl (fun ls hl => ?_)
  refine law_loop l D cB cI b L xs ax hr hs ac aw sr ss hm yb yr yv yw ys yc wf hwf hL E hA hX hbl hbA (fun H locs ls hS => ?_) (L + 1) 0 (ar, ag, 0, 0, 0, 0, 0, 0, 0, 0, 0, 0, 0, fun _ => 0, fun _ => 0) ((0, 0, 0, 0, fun _ => 0, fun _ => 0, fun _ => 0), fun _ => 0) 0 (nI 0) (0, 0, fun _ => 0, fun _ => 0) (fun _ => 0) (fun _ => 0) H _ ls ⟨by omega, by omega, ?_, ?_, ?_⟩ hP hD hS (lv_sub hl [3, 2, 1, 0] rfl)
  · refine lv_iconst (v := 1) hx hb d_law_364 (by decide +kernel) ?_
    refine va_forget (fun q hq => by have z := hS.2.2 q hq; rw [hAe] at z; exact z) ?_
    exact lw_ret hx hb hr0 hlocks d_law_365
  · exact ⟨by decide, by decide, by decide, by decide, by decide, by decide, by decide⟩
  · exact ⟨rfl, rfl, rfl, rfl, fun z => absurd z (by decide), fun _ => ⟨rfl, rfl⟩, fun j hj => absurd hj (Nat.not_lt_zero j), fun j hj => absurd hj (Nat.not_lt_zero j), fun j hj => absurd hj (Nat.not_lt_zero j), rfl, rfl, rfl, rfl, rfl⟩
  · exact ⟨by decide, by decide, fun j hj => absurd hj (Nat.not_lt_zero j), fun j hj => absurd hj (Nat.not_lt_zero j)⟩
-- ===== YOUR PART ENDS =====
set_option maxHeartbeats 4000000 in
theorem lw_walk (l : Launch) (b : Addr) (xs : List Int32) : MetFree l x (headSpec (Jvm.Cond.code x code maxLocals ret :: tables_1) room_1) (lw_P b xs) (fun _ _ _ _ _ => True) lw_Q := by
  refine MetFree.of_bodyS (code := code) (maxLocals := maxLocals) (ret := ret) (by decide) ?_ ?_
  · intro args s m h hn
    obtain ⟨meth, c, h1, h2, h3, h4, h5, h6, -, -⟩ := Cond.code_spec hn (atoms_spec (ws := Jvm.Cond.code x code maxLocals ret :: tables_1) h _ List.mem_cons_self)
    exact ⟨meth, c, h1, h2, h3, h4, h5, h6⟩
  · intro p e s m args below meth c s₁ B hml0 hP _
    obtain ⟨rfl, hx, hbd, hgv⟩ := hP
    obtain ⟨scr, harrAt, hlist, hof, hsmall⟩ := hx
    obtain ⟨hcb, hkn, -, -⟩ := State.arrayAt?_spec harrAt
    have hown : s.vm.findClass R_law = some m.cls := findClass_of_methodNamed B.named
    have hts0 : ∀ c ∈ (Jvm.Cond.code x code maxLocals ret :: tables_1), c.before #[Value.ref b] s = true := atoms_spec (ws := Jvm.Cond.code x code maxLocals ret :: tables_1) B.pre
    have hts : ∀ w ∈ lw_tbl, w.before #[Value.ref b] s = true := k2_hts_sels lw_privs (fun w hw => hts0 w (List.mem_cons_of_mem _ hw)) lw_privs_ok
    have hml : c.maxLocals = 4 := B.maxLocals_eq (hts0 _ List.mem_cons_self)
    have X₀ : Stand p l e room_1 s m #[Value.ref b] below meth c s₁ [] 0 0 := Stand.of_body B
    have hh0 : s₁.heap = s.heap := by rw [B.state]; rfl
    have hsz : scr.slots.size = xs.length := by rw [← Array.length_toList, hlist, List.length_map]
    have hval : ∀ j : Nat, j < xs.length → scr.slots[j]? = some (.int (xs.getD j 0)) := fun j hj => by
      rw [← Array.getElem?_toList, hlist]
      simp [hj]
    have hbl : b < s.heap.size := (Array.getElem?_eq_some_iff.mp hcb).1
    have hX : va_X b xs.length (fun j => xs.getD j 0) s s.heap := ⟨scr, hcb, hof, hkn, hsz, hval⟩
    have K : W p l e room_1 s m #[Value.ref b] below meth c s₁.heap [] 0 0 (lw_Z below #[Value.ref b] s) (entryFrame m ([Value.ref b] : List Value).toArray 4) := by
      rw [hh0]
      exact whole_start l hbd ⟨B.exec, B.bytes, B.returns, hml, hown, hts, hX, hbl, B.notSynchronized, hgv⟩
    obtain ⟨t, a1, o, b1, b2, b3⟩ := K s₁ rfl X₀
    exact ⟨t, o, a1, b1, b2, b3⟩
theorem lw_pre_spec {args : Array Value} {s : State} (h : (Jvm.Cond.and given_1 narrow_1).before args s = true) (hr : rest_1_c.before args s = true) : ∃ (b : Addr) (xs : List Int32), lw_P b xs args s := by
  have hs := flat_of_before _ h
  have hq := flat_of_before _ hr
  have hc : (Cond.count 1).before args s = true := hs _ (by decide +kernel)
  have harr : (Cond.arrayOf (.arg 0) .int).before args s = true := hs _ (by decide +kernel)
  have hle : (Cond.le (.length (.arg 0)) (.int 2048)).before args s = true := hs _ (by decide +kernel)
  have hlen : (Cond.isInt (.length (.arg 0))).before args s = true := hq _ (by decide +kernel)
  have hall : (Cond.all (.arg 0) (.isInt (.elem (.arg 0) (.index 0)))).before args s = true := hq _ (by decide +kernel)
  obtain ⟨b, xs, hb, hx⟩ := State.ints_of_pre rfl harr hlen hall
  have hsm : xs.length < 2 ^ 31 := hx.choose_spec.2.2.2
  have hev : (Term.length (.arg 0)).eval args s none [] s = some (.int xs.length.toInt32) := hx.length_eval hb
  have hv := Cond.le_ints hev (show (Term.int 2048).eval args s none [] s = some (.int 2048) from rfl)
  have hd : xs.length.toInt32 ≤ 2048 := by
    simpa [Cond.before, Cond.holds, hv] using hle
  have hN : xs.length ≤ 2048 := (Int32.ofNat_le_ofNat hsm (by decide)).mp (show Int32.ofNat xs.length ≤ Int32.ofNat 2048 from hd)
  exact ⟨b, xs, Cond.one_arg hc (show args[0]? = some (.ref b) from hb), hx, hN, h⟩
theorem lw_comes (l : Launch) : Comes l x (Jvm.Cond.code x code maxLocals ret :: tables_1) room_1 (fun tb e args s => Calls_1 tb e args s ∧ rest_1 tb e args s ∧ Pre_1 tb e args s)
    (fun _ _ args s o t => lw_Q args s o t) := by
  intro p e ha hc hk s m args below hf hfit hheap happ hpre
  obtain ⟨b, xs, hP⟩ := lw_pre_spec hpre.2.2 hpre.2.1
  obtain ⟨k, o, h1, h2, h3, hQ⟩ := lw_walk l b xs p e ha hc hk s m args below hf ((Spec.applies_iff_loose hf).mp happ).1 hP trivial
  exact ⟨k, o, h1, h2, h3, hQ⟩
theorem lw_frame {s t : State} {o : Outcome} {args : Array Value} (h : Framed s o t [] 16 2398) :
    Framed s o t (fieldLocs frame_1_writes args s ++ arrayLocs frame_1_arrays args s ++ staticLocs frame_1_statics s) 16 2398 := h
theorem lw_limb (L : Cond) (hL : ∀ (args : Array Value) (s t : State), L.after args s (.returned (some (.int 1))) t = true) :
    ArmFor flags0 classFile x code maxLocals ret World_1 tables_1 room_1 Calls_1 rest_1 Pre_1
      (fun tb e a s o t => postC L tb e a s o t ∧ Framed s o t (fieldLocs frame_1_writes a s ++ arrayLocs frame_1_arrays a s ++ staticLocs frame_1_statics s) 16 2398) := by
  intro l _ _ _ p e ha hc hk s m args below hf hfit hheap happ hpre
  obtain ⟨k, o, h1, h2, h3, rfl, hF⟩ := lw_comes l p e ha hc hk s m args below hf hfit hheap happ hpre
  exact ⟨k, _, h1, h2, h3, hL args s _, lw_frame hF⟩
theorem i_vc : Claimed_1_1 ∧ Claimed_1_2 := ⟨lw_limb limb_1_1 (fun args s t => by simp [limb_1_1, Cond.after, Cond.holds, Cond.value]), lw_limb limb_1_2 (fun args s t => Cond.after_iff.mpr (by
  first | (rw [show limb_1_2 = Cond.eq .result (.int 1) from rfl, Cond.eq_ints (x := 1) (y := 1) rfl rfl]; simp; done) | (simp [limb_1_2, Cond.value, Term.eval]; done)))⟩
end
