section
-- ===== PART A: goes FIRST, ahead of the names: the tables' words, and 'selects' of the private methods out of them =====
/-- a private method of a class that the tables say can be made, by its rows of tables_1 -/
def lw_okq (q : MethodName × Nat) : Prop := (q.1.cls ≠ "java/lang/invoke/MethodHandle" ∧ q.1.cls ≠ "java/lang/invoke/VarHandle") ∧ Cond.instantiable q.1.cls q.2 ∈ tables_1 ∧ Cond.privateMethod q.1 ∈ tables_1 ∧ Cond.instanceMethod q.1 ∈ tables_1
theorem lw_p0 : lw_okq (⟨"CharDesk$Chars", "fail", "(I)I"⟩, 5) := ⟨⟨by decide +kernel, by decide +kernel⟩, List.mem_of_getElem? (i := 16) (by decide +kernel), List.mem_of_getElem? (i := 109) (by decide +kernel), List.mem_of_getElem? (i := 110) (by decide +kernel)⟩
theorem lw_p1 : lw_okq (⟨"CharDesk$Chars", "add", "(I)V"⟩, 5) := ⟨⟨by decide +kernel, by decide +kernel⟩, List.mem_of_getElem? (i := 16) (by decide +kernel), List.mem_of_getElem? (i := 122) (by decide +kernel), List.mem_of_getElem? (i := 123) (by decide +kernel)⟩
theorem lw_p2 : lw_okq (⟨"CharDesk$Chars", "is", "(IIZ)Z"⟩, 5) := ⟨⟨by decide +kernel, by decide +kernel⟩, List.mem_of_getElem? (i := 16) (by decide +kernel), List.mem_of_getElem? (i := 167) (by decide +kernel), List.mem_of_getElem? (i := 168) (by decide +kernel)⟩
theorem lw_p3 : lw_okq (⟨"CharDeskModel", "sequence", "()I"⟩, 9) := ⟨⟨by decide +kernel, by decide +kernel⟩, List.mem_of_getElem? (i := 185) (by decide +kernel), List.mem_of_getElem? (i := 245) (by decide +kernel), List.mem_of_getElem? (i := 246) (by decide +kernel)⟩
theorem lw_p4 : lw_okq (⟨"CharDeskModel", "next", "()Z"⟩, 9) := ⟨⟨by decide +kernel, by decide +kernel⟩, List.mem_of_getElem? (i := 185) (by decide +kernel), List.mem_of_getElem? (i := 255) (by decide +kernel), List.mem_of_getElem? (i := 256) (by decide +kernel)⟩
theorem lw_p5 : lw_okq (⟨"CharDeskModel", "go", "(I)Z"⟩, 9) := ⟨⟨by decide +kernel, by decide +kernel⟩, List.mem_of_getElem? (i := 185) (by decide +kernel), List.mem_of_getElem? (i := 267) (by decide +kernel), List.mem_of_getElem? (i := 268) (by decide +kernel)⟩
def lw_privs_1 : List (MethodName × Nat) := [(⟨"CharDesk$Chars", "fail", "(I)I"⟩, 5), (⟨"CharDesk$Chars", "add", "(I)V"⟩, 5), (⟨"CharDesk$Chars", "is", "(IIZ)Z"⟩, 5), (⟨"CharDeskModel", "sequence", "()I"⟩, 9), (⟨"CharDeskModel", "next", "()Z"⟩, 9), (⟨"CharDeskModel", "go", "(I)Z"⟩, 9)]
theorem lw_r1 : ∀ q ∈ lw_privs_1, lw_okq q := List.forall_mem_cons.mpr ⟨lw_p0, List.forall_mem_cons.mpr ⟨lw_p1, List.forall_mem_cons.mpr ⟨lw_p2, List.forall_mem_cons.mpr ⟨lw_p3, List.forall_mem_cons.mpr ⟨lw_p4, List.forall_mem_cons.mpr ⟨lw_p5, fun _ h => absurd h List.not_mem_nil⟩⟩⟩⟩⟩⟩
def lw_privs : List (MethodName × Nat) := lw_privs_1
def lw_tbl : List Cond := k2_sels lw_privs ++ tables_1
theorem lw_privs_ok : ∀ q ∈ lw_privs, lw_okq q := lw_r1

def cd_big : List Cond := lw_tbl.filter goodWord
def R_Desk : String := "CharDesk"
def R_Chars : String := "CharDesk$Chars"
def R_Coder : String := "CharDesk$Coder"
def R_Letters : String := "CharDesk$Letters"
def R_Model : String := "CharDeskModel"
def R_Integer : String := "java/lang/Integer"
def R_law : String := "CharDeskLaw"
def F_Coder : u_T := fun k => match k with
  | _ => ("CharDesk$Coder", "size", "I", false)
def t_Coder : Nat → FieldType := fun k => match k with
  | _ => .int
theorem n_Coder : ∀ a, a < 1 → ∀ b, b < 1 → a ≠ b → (F_Coder a).2.1 ≠ (F_Coder b).2.1 := by decide +kernel
theorem t_Coder_ok : ∀ k, k < 1 → parseFieldDescriptor (F_Coder k).2.2.1 = some (t_Coder k) := by decide +kernel
def F_Chars : u_T := fun k => match k with
  | 0 => ("CharDesk$Chars", "chars", "[I", true)
  | 1 => ("CharDesk$Chars", "places", "[I", true)
  | 2 => ("CharDesk$Chars", "coder", "LCharDesk$Coder;", true)
  | 3 => ("CharDesk$Chars", "size", "I", false)
  | _ => ("CharDesk$Chars", "place", "I", false)
def t_Chars : Nat → FieldType := fun k => match k with
  | 0 => .array .int
  | 1 => .array .int
  | 2 => .object "CharDesk$Coder"
  | 3 => .int
  | _ => .int
theorem n_Chars : ∀ a, a < 5 → ∀ b, b < 5 → a ≠ b → (F_Chars a).2.1 ≠ (F_Chars b).2.1 := by decide +kernel
theorem t_Chars_ok : ∀ k, k < 5 → parseFieldDescriptor (F_Chars k).2.2.1 = some (t_Chars k) := by decide +kernel
def F_Desk : u_T := fun k => match k with
  | 0 => ("CharDesk", "text", "[B", true)
  | 1 => ("CharDesk", "textSize", "I", false)
  | 2 => ("CharDesk", "chars", "LCharDesk$Chars;", true)
  | 3 => ("CharDesk", "isRead", "Z", false)
  | _ => ("CharDesk", "place", "I", false)
def t_Desk : Nat → FieldType := fun k => match k with
  | 0 => .array .byte
  | 1 => .int
  | 2 => .object "CharDesk$Chars"
  | 3 => .boolean
  | _ => .int
theorem n_Desk : ∀ a, a < 5 → ∀ b, b < 5 → a ≠ b → (F_Desk a).2.1 ≠ (F_Desk b).2.1 := by decide +kernel
theorem t_Desk_ok : ∀ k, k < 5 → parseFieldDescriptor (F_Desk k).2.2.1 = some (t_Desk k) := by decide +kernel
def F_Model : u_T := fun k => match k with
  | 0 => ("CharDeskModel", "text", "[I", true)
  | 1 => ("CharDeskModel", "size", "I", false)
  | 2 => ("CharDeskModel", "kept", "[I", true)
  | 3 => ("CharDeskModel", "length", "I", false)
  | 4 => ("CharDeskModel", "read", "Z", false)
  | 5 => ("CharDeskModel", "place", "I", false)
  | 6 => ("CharDeskModel", "stand", "I", false)
  | 7 => ("CharDeskModel", "met", "I", false)
  | _ => ("CharDeskModel", "began", "I", false)
def t_Model : Nat → FieldType := fun k => match k with
  | 0 => .array .int
  | 1 => .int
  | 2 => .array .int
  | 3 => .int
  | 4 => .boolean
  | 5 => .int
  | 6 => .int
  | 7 => .int
  | _ => .int
theorem n_Model : ∀ a, a < 9 → ∀ b, b < 9 → a ≠ b → (F_Model a).2.1 ≠ (F_Model b).2.1 := by decide +kernel
theorem t_Model_ok : ∀ k, k < 9 → parseFieldDescriptor (F_Model k).2.2.1 = some (t_Model k) := by decide +kernel
abbrev classes : List vw_C := [(R_Coder, F_Coder, 1), (R_Chars, F_Chars, 5), (R_Desk, F_Desk, 5), (R_Model, F_Model, 9)]
abbrev b_Desk_init : ByteArray := prog_1_method_1_code
def y_Desk_init : MethodName := ⟨R_Desk, "<init>", "()V"⟩
abbrev b_Desk_put : ByteArray := prog_1_method_2_code
def y_Desk_put : MethodName := ⟨R_Desk, "put", "(JI)Z"⟩
abbrev b_Desk_character : ByteArray := prog_1_method_3_code
def y_Desk_character : MethodName := ⟨R_Desk, "character", "(I)Z"⟩
abbrev b_Desk_read : ByteArray := prog_1_method_4_code
def y_Desk_read : MethodName := ⟨R_Desk, "read", "()I"⟩
abbrev b_Desk_place : ByteArray := prog_1_method_5_code
def y_Desk_place : MethodName := ⟨R_Desk, "place", "()I"⟩
abbrev b_Desk_at : ByteArray := prog_1_method_6_code
def y_Desk_at : MethodName := ⟨R_Desk, "at", "(I)I"⟩
abbrev b_Desk_placeOf : ByteArray := prog_1_method_7_code
def y_Desk_placeOf : MethodName := ⟨R_Desk, "placeOf", "(I)I"⟩
abbrev b_Desk_kind : ByteArray := prog_1_method_8_code
def y_Desk_kind : MethodName := ⟨R_Desk, "kind", "(I)I"⟩
abbrev b_Desk_run : ByteArray := prog_1_method_9_code
def y_Desk_run : MethodName := ⟨R_Desk, "run", "(II)I"⟩
abbrev b_Desk_compare : ByteArray := prog_1_method_10_code
def y_Desk_compare : MethodName := ⟨R_Desk, "compare", "(III)I"⟩
abbrev b_Desk_bytes : ByteArray := prog_1_method_11_code
def y_Desk_bytes : MethodName := ⟨R_Desk, "bytes", "(I)J"⟩
abbrev b_Model_init : ByteArray := prog_6_method_1_code
def y_Model_init : MethodName := ⟨R_Model, "<init>", "()V"⟩
abbrev b_Model_put : ByteArray := prog_6_method_2_code
def y_Model_put : MethodName := ⟨R_Model, "put", "(JI)Z"⟩
abbrev b_Model_has : ByteArray := prog_6_method_3_code
def y_Model_has : MethodName := ⟨R_Model, "has", "(I)Z"⟩
abbrev b_Model_sizeOf : ByteArray := prog_6_method_4_code
def y_Model_sizeOf : MethodName := ⟨R_Model, "sizeOf", "(I)I"⟩
abbrev b_Model_byteOf : ByteArray := prog_6_method_5_code
def y_Model_byteOf : MethodName := ⟨R_Model, "byteOf", "(II)I"⟩
abbrev b_Model_character : ByteArray := prog_6_method_6_code
def y_Model_character : MethodName := ⟨R_Model, "character", "(I)Z"⟩
abbrev b_Model_sequence : ByteArray := prog_6_method_7_code
def y_Model_sequence : MethodName := ⟨R_Model, "sequence", "()I"⟩
abbrev b_Model_isAllowed : ByteArray := prog_6_method_8_code
def y_Model_isAllowed : MethodName := ⟨R_Model, "isAllowed", "(I)Z"⟩
abbrev b_Model_next : ByteArray := prog_6_method_9_code
def y_Model_next : MethodName := ⟨R_Model, "next", "()Z"⟩
abbrev b_Model_read : ByteArray := prog_6_method_10_code
def y_Model_read : MethodName := ⟨R_Model, "read", "()I"⟩
abbrev b_Model_place : ByteArray := prog_6_method_11_code
def y_Model_place : MethodName := ⟨R_Model, "place", "()I"⟩
abbrev b_Model_go : ByteArray := prog_6_method_12_code
def y_Model_go : MethodName := ⟨R_Model, "go", "(I)Z"⟩
abbrev b_Model_at : ByteArray := prog_6_method_13_code
def y_Model_at : MethodName := ⟨R_Model, "at", "(I)I"⟩
abbrev b_Model_placeOf : ByteArray := prog_6_method_14_code
def y_Model_placeOf : MethodName := ⟨R_Model, "placeOf", "(I)I"⟩
abbrev b_Model_isBlank : ByteArray := prog_6_method_15_code
def y_Model_isBlank : MethodName := ⟨R_Model, "isBlank", "(I)Z"⟩
abbrev b_Model_within : ByteArray := prog_6_method_16_code
def y_Model_within : MethodName := ⟨R_Model, "within", "(III)Z"⟩
abbrev b_Model_isBegin : ByteArray := prog_6_method_17_code
def y_Model_isBegin : MethodName := ⟨R_Model, "isBegin", "(I)Z"⟩
abbrev b_Model_isPart : ByteArray := prog_6_method_18_code
def y_Model_isPart : MethodName := ⟨R_Model, "isPart", "(I)Z"⟩
abbrev b_Model_kind : ByteArray := prog_6_method_19_code
def y_Model_kind : MethodName := ⟨R_Model, "kind", "(I)I"⟩
abbrev b_Model_run : ByteArray := prog_6_method_20_code
def y_Model_run : MethodName := ⟨R_Model, "run", "(II)I"⟩
abbrev b_Model_compare : ByteArray := prog_6_method_21_code
def y_Model_compare : MethodName := ⟨R_Model, "compare", "(III)I"⟩
abbrev b_Model_bytes : ByteArray := prog_6_method_22_code
def y_Model_bytes : MethodName := ⟨R_Model, "bytes", "(I)J"⟩
abbrev b_Chars_init : ByteArray := prog_2_method_1_code
def y_Chars_init : MethodName := ⟨R_Chars, "<init>", "(I)V"⟩
abbrev b_Chars_read : ByteArray := prog_2_method_2_code
def y_Chars_read : MethodName := ⟨R_Chars, "read", "([BI)I"⟩
abbrev b_Chars_fail : ByteArray := prog_2_method_3_code
def y_Chars_fail : MethodName := ⟨R_Chars, "fail", "(I)I"⟩
abbrev b_Chars_add : ByteArray := prog_2_method_4_code
def y_Chars_add : MethodName := ⟨R_Chars, "add", "(I)V"⟩
abbrev b_Chars_is : ByteArray := prog_2_method_5_code
def y_Chars_is : MethodName := ⟨R_Chars, "is", "(IIZ)Z"⟩
abbrev b_Chars_run : ByteArray := prog_2_method_6_code
def y_Chars_run : MethodName := ⟨R_Chars, "run", "(II)I"⟩
abbrev b_Coder_init : ByteArray := prog_3_method_1_code
def y_Coder_init : MethodName := ⟨R_Coder, "<init>", "()V"⟩
abbrev b_Coder_has : ByteArray := prog_3_method_2_code
def y_Coder_has : MethodName := ⟨R_Coder, "has", "(I)Z"⟩
abbrev b_Coder_sizeOf : ByteArray := prog_3_method_3_code
def y_Coder_sizeOf : MethodName := ⟨R_Coder, "sizeOf", "(I)I"⟩
abbrev b_Coder_byteOf : ByteArray := prog_3_method_4_code
def y_Coder_byteOf : MethodName := ⟨R_Coder, "byteOf", "(III)I"⟩
abbrev b_Coder_begins : ByteArray := prog_3_method_5_code
def y_Coder_begins : MethodName := ⟨R_Coder, "begins", "(I)I"⟩
abbrev b_Coder_read : ByteArray := prog_3_method_6_code
def y_Coder_read : MethodName := ⟨R_Coder, "read", "([BII)I"⟩
abbrev b_Letters_isIn : ByteArray := prog_4_method_2_code
def y_Letters_isIn : MethodName := ⟨R_Letters, "isIn", "([II)Z"⟩
abbrev b_Letters_isAllowed : ByteArray := prog_4_method_3_code
def y_Letters_isAllowed : MethodName := ⟨R_Letters, "isAllowed", "(I)Z"⟩
abbrev b_Letters_isBlank : ByteArray := prog_4_method_4_code
def y_Letters_isBlank : MethodName := ⟨R_Letters, "isBlank", "(I)Z"⟩
abbrev b_Letters_isBegin : ByteArray := prog_4_method_5_code
def y_Letters_isBegin : MethodName := ⟨R_Letters, "isBegin", "(I)Z"⟩
abbrev b_Letters_isPart : ByteArray := prog_4_method_6_code
def y_Letters_isPart : MethodName := ⟨R_Letters, "isPart", "(I)Z"⟩
abbrev b_Letters_kind : ByteArray := prog_4_method_7_code
def y_Letters_kind : MethodName := ⟨R_Letters, "kind", "(I)I"⟩
abbrev b_Integer_compare : ByteArray := prog_7_method_40_code
def y_Integer_compare : MethodName := ⟨R_Integer, "compare", "(II)I"⟩
theorem cd_mem {w : Cond} (h : w ∈ tables_1) (g : goodWord w = true) : w ∈ cd_big := List.mem_filter.mpr ⟨List.mem_append_right _ h, g⟩
theorem cd_memS {w : Cond} (h : w ∈ k2_sels lw_privs) (g : goodWord w = true) : w ∈ cd_big := List.mem_filter.mpr ⟨List.mem_append_left _ h, g⟩
theorem i_Coder : ∀ w ∈ u_ws R_Coder F_Coder 1, w ∈ cd_big := fun w h => List.mem_filter.mpr ⟨List.mem_append_right _ ((by decide +kernel : ∀ w ∈ u_ws R_Coder F_Coder 1, w ∈ tables_1) w h), (by decide +kernel : ∀ w ∈ u_ws R_Coder F_Coder 1, goodWord w = true) w h⟩
theorem i_Chars : ∀ w ∈ u_ws R_Chars F_Chars 5, w ∈ cd_big := fun w h => List.mem_filter.mpr ⟨List.mem_append_right _ ((by decide +kernel : ∀ w ∈ u_ws R_Chars F_Chars 5, w ∈ tables_1) w h), (by decide +kernel : ∀ w ∈ u_ws R_Chars F_Chars 5, goodWord w = true) w h⟩
theorem i_Desk : ∀ w ∈ u_ws R_Desk F_Desk 5, w ∈ cd_big := fun w h => List.mem_filter.mpr ⟨List.mem_append_right _ ((by decide +kernel : ∀ w ∈ u_ws R_Desk F_Desk 5, w ∈ tables_1) w h), (by decide +kernel : ∀ w ∈ u_ws R_Desk F_Desk 5, goodWord w = true) w h⟩
theorem i_Model : ∀ w ∈ u_ws R_Model F_Model 9, w ∈ cd_big := fun w h => List.mem_filter.mpr ⟨List.mem_append_right _ ((by decide +kernel : ∀ w ∈ u_ws R_Model F_Model 9, w ∈ tables_1) w h), (by decide +kernel : ∀ w ∈ u_ws R_Model F_Model 9, goodWord w = true) w h⟩
theorem k_0 : Cond.initialized R_law ∈ cd_big := cd_mem (List.mem_of_getElem? (i := 0) (by decide +kernel)) (by decide +kernel)
theorem k_1 : Cond.initialized R_Desk ∈ cd_big := cd_mem (List.mem_of_getElem? (i := 1) (by decide +kernel)) (by decide +kernel)
theorem k_2 : Cond.initialized R_Chars ∈ cd_big := cd_mem (List.mem_of_getElem? (i := 2) (by decide +kernel)) (by decide +kernel)
theorem k_3 : Cond.initialized R_Coder ∈ cd_big := cd_mem (List.mem_of_getElem? (i := 3) (by decide +kernel)) (by decide +kernel)
theorem k_4 : Cond.initialized R_Model ∈ cd_big := cd_mem (List.mem_of_getElem? (i := 4) (by decide +kernel)) (by decide +kernel)
theorem k_5 : Cond.initialized R_Letters ∈ cd_big := cd_mem (List.mem_of_getElem? (i := 5) (by decide +kernel)) (by decide +kernel)
theorem k_6 : Cond.initialized R_Integer ∈ cd_big := cd_mem (List.mem_of_getElem? (i := 6) (by decide +kernel)) (by decide +kernel)
theorem k_7 : Cond.classLink R_law (7 : Nat) R_Desk ∈ cd_big := cd_mem (List.mem_of_getElem? (i := 7) (by decide +kernel)) (by decide +kernel)
theorem k_8 : Cond.instantiable R_Desk (5 : Nat) ∈ cd_big := cd_mem (List.mem_of_getElem? (i := 8) (by decide +kernel)) (by decide +kernel)
theorem k_9 : Cond.methodLink R_law (9 : Nat) y_Desk_init ∈ cd_big := cd_mem (List.mem_of_getElem? (i := 9) (by decide +kernel)) (by decide +kernel)
theorem k_10 : Cond.instanceMethod y_Desk_init ∈ cd_big := cd_mem (List.mem_of_getElem? (i := 10) (by decide +kernel)) (by decide +kernel)
theorem k_11 : Cond.code y_Desk_init b_Desk_init 1 none ∈ cd_big := cd_mem (List.mem_of_getElem? (i := 11) rfl) rfl
theorem k_12 : Cond.methodLink R_Desk (1 : Nat) objectInit ∈ cd_big := cd_mem (List.mem_of_getElem? (i := 12) (by decide +kernel)) (by decide +kernel)
theorem k_13 : Cond.instanceMethod objectInit ∈ cd_big := cd_mem (List.mem_of_getElem? (i := 13) (by decide +kernel)) (by decide +kernel)
theorem k_14 : Cond.code objectInit ⟨#[0xb1]⟩ 1 none ∈ cd_big := cd_mem (List.mem_of_getElem? (i := 14) rfl) rfl
theorem k_15 : Cond.classLink R_Desk (13 : Nat) R_Chars ∈ cd_big := cd_mem (List.mem_of_getElem? (i := 15) (by decide +kernel)) (by decide +kernel)
theorem k_16 : Cond.instantiable R_Chars (5 : Nat) ∈ cd_big := cd_mem (List.mem_of_getElem? (i := 16) (by decide +kernel)) (by decide +kernel)
theorem k_17 : Cond.methodLink R_Desk (15 : Nat) y_Chars_init ∈ cd_big := cd_mem (List.mem_of_getElem? (i := 17) (by decide +kernel)) (by decide +kernel)
theorem k_18 : Cond.instanceMethod y_Chars_init ∈ cd_big := cd_mem (List.mem_of_getElem? (i := 18) (by decide +kernel)) (by decide +kernel)
theorem k_19 : Cond.code y_Chars_init b_Chars_init 2 none ∈ cd_big := cd_mem (List.mem_of_getElem? (i := 19) rfl) rfl
theorem k_20 : Cond.methodLink R_Chars (1 : Nat) objectInit ∈ cd_big := cd_mem (List.mem_of_getElem? (i := 20) (by decide +kernel)) (by decide +kernel)
theorem k_21 : Cond.classLink R_Chars (7 : Nat) R_Coder ∈ cd_big := cd_mem (List.mem_of_getElem? (i := 21) (by decide +kernel)) (by decide +kernel)
theorem k_22 : Cond.instantiable R_Coder (1 : Nat) ∈ cd_big := cd_mem (List.mem_of_getElem? (i := 22) (by decide +kernel)) (by decide +kernel)
theorem k_24 : Cond.instanceMethod y_Coder_init ∈ cd_big := cd_mem (List.mem_of_getElem? (i := 24) (by decide +kernel)) (by decide +kernel)
theorem k_25 : Cond.code y_Coder_init b_Coder_init 1 none ∈ cd_big := cd_mem (List.mem_of_getElem? (i := 25) rfl) rfl
theorem k_26 : Cond.methodLink R_Coder (1 : Nat) objectInit ∈ cd_big := cd_mem (List.mem_of_getElem? (i := 26) (by decide +kernel)) (by decide +kernel)
theorem k_28 : Cond.fieldLink R_Coder (17 : Nat) R_Coder "size" "I" ∈ cd_big := cd_mem (List.mem_of_getElem? (i := 28) (by decide +kernel)) (by decide +kernel)
theorem k_32 : Cond.arrayClass FieldType.byte ∈ cd_big := cd_mem (List.mem_of_getElem? (i := 32) (by decide +kernel)) (by decide +kernel)
theorem k_33 : Cond.fieldLink R_Chars (16 : Nat) R_Chars "chars" "[I" ∈ cd_big := cd_mem (List.mem_of_getElem? (i := 33) (by decide +kernel)) (by decide +kernel)
theorem k_35 : Cond.fieldLink R_Chars (20 : Nat) R_Chars "places" "[I" ∈ cd_big := cd_mem (List.mem_of_getElem? (i := 35) (by decide +kernel)) (by decide +kernel)
theorem k_37 : Cond.fieldLink R_Chars (10 : Nat) R_Chars "coder" "LCharDesk$Coder;" ∈ cd_big := cd_mem (List.mem_of_getElem? (i := 37) (by decide +kernel)) (by decide +kernel)
theorem k_38 : Cond.fieldLink R_Chars (23 : Nat) R_Chars "size" "I" ∈ cd_big := cd_mem (List.mem_of_getElem? (i := 38) (by decide +kernel)) (by decide +kernel)
theorem k_40 : Cond.fieldLink R_Chars (27 : Nat) R_Chars "place" "I" ∈ cd_big := cd_mem (List.mem_of_getElem? (i := 40) (by decide +kernel)) (by decide +kernel)
theorem k_53 : Cond.arrayClass FieldType.int ∈ cd_big := cd_mem (List.mem_of_getElem? (i := 53) (by decide +kernel)) (by decide +kernel)
theorem k_54 : Cond.fieldLink R_Desk (9 : Nat) R_Desk "text" "[B" ∈ cd_big := cd_mem (List.mem_of_getElem? (i := 54) (by decide +kernel)) (by decide +kernel)
theorem k_55 : Cond.fieldLink R_Desk (26 : Nat) R_Desk "textSize" "I" ∈ cd_big := cd_mem (List.mem_of_getElem? (i := 55) (by decide +kernel)) (by decide +kernel)
theorem k_56 : Cond.fieldLink R_Desk (18 : Nat) R_Desk "chars" "LCharDesk$Chars;" ∈ cd_big := cd_mem (List.mem_of_getElem? (i := 56) (by decide +kernel)) (by decide +kernel)
theorem k_57 : Cond.fieldLink R_Desk (47 : Nat) R_Desk "isRead" "Z" ∈ cd_big := cd_mem (List.mem_of_getElem? (i := 57) (by decide +kernel)) (by decide +kernel)
theorem k_58 : Cond.fieldLink R_Desk (22 : Nat) R_Desk "place" "I" ∈ cd_big := cd_mem (List.mem_of_getElem? (i := 58) (by decide +kernel)) (by decide +kernel)
theorem k_70 : Cond.methodLink R_law (15 : Nat) y_Desk_put ∈ cd_big := cd_mem (List.mem_of_getElem? (i := 70) (by decide +kernel)) (by decide +kernel)
theorem k_71 : Cond.instanceMethod y_Desk_put ∈ cd_big := cd_mem (List.mem_of_getElem? (i := 71) (by decide +kernel)) (by decide +kernel)
theorem k_72 : Cond.selects R_Desk y_Desk_put y_Desk_put ∈ cd_big := cd_mem (List.mem_of_getElem? (i := 72) (by decide +kernel)) (by decide +kernel)
theorem k_73 : Cond.code y_Desk_put b_Desk_put 5 (some .boolean) ∈ cd_big := cd_mem (List.mem_of_getElem? (i := 73) rfl) rfl
theorem k_74 : Cond.methodLink R_law (20 : Nat) y_Desk_character ∈ cd_big := cd_mem (List.mem_of_getElem? (i := 74) (by decide +kernel)) (by decide +kernel)
theorem k_75 : Cond.instanceMethod y_Desk_character ∈ cd_big := cd_mem (List.mem_of_getElem? (i := 75) (by decide +kernel)) (by decide +kernel)
theorem k_76 : Cond.selects R_Desk y_Desk_character y_Desk_character ∈ cd_big := cd_mem (List.mem_of_getElem? (i := 76) (by decide +kernel)) (by decide +kernel)
theorem k_77 : Cond.code y_Desk_character b_Desk_character 4 (some .boolean) ∈ cd_big := cd_mem (List.mem_of_getElem? (i := 77) rfl) rfl
theorem k_78 : Cond.methodLink R_Desk (29 : Nat) y_Coder_sizeOf ∈ cd_big := cd_mem (List.mem_of_getElem? (i := 78) (by decide +kernel)) (by decide +kernel)
theorem k_79 : Cond.static y_Coder_sizeOf ∈ cd_big := cd_mem (List.mem_of_getElem? (i := 79) (by decide +kernel)) (by decide +kernel)
theorem k_80 : Cond.code y_Coder_sizeOf b_Coder_sizeOf 1 (some .int) ∈ cd_big := cd_mem (List.mem_of_getElem? (i := 80) rfl) rfl
theorem k_81 : Cond.constant R_Coder (12 : Nat) (65536 : Int32) ∈ cd_big := cd_mem (List.mem_of_getElem? (i := 81) (by decide +kernel)) (by decide +kernel)
theorem k_82 : Cond.methodLink R_Desk (35 : Nat) y_Coder_has ∈ cd_big := cd_mem (List.mem_of_getElem? (i := 82) (by decide +kernel)) (by decide +kernel)
theorem k_83 : Cond.static y_Coder_has ∈ cd_big := cd_mem (List.mem_of_getElem? (i := 83) (by decide +kernel)) (by decide +kernel)
theorem k_84 : Cond.code y_Coder_has b_Coder_has 1 (some .boolean) ∈ cd_big := cd_mem (List.mem_of_getElem? (i := 84) rfl) rfl
theorem k_85 : Cond.constant R_Coder (9 : Nat) (1114111 : Int32) ∈ cd_big := cd_mem (List.mem_of_getElem? (i := 85) (by decide +kernel)) (by decide +kernel)
theorem k_86 : Cond.constant R_Coder (10 : Nat) (55296 : Int32) ∈ cd_big := cd_mem (List.mem_of_getElem? (i := 86) (by decide +kernel)) (by decide +kernel)
theorem k_87 : Cond.constant R_Coder (11 : Nat) (57344 : Int32) ∈ cd_big := cd_mem (List.mem_of_getElem? (i := 87) (by decide +kernel)) (by decide +kernel)
theorem k_88 : Cond.methodLink R_Desk (39 : Nat) y_Coder_byteOf ∈ cd_big := cd_mem (List.mem_of_getElem? (i := 88) (by decide +kernel)) (by decide +kernel)
theorem k_89 : Cond.static y_Coder_byteOf ∈ cd_big := cd_mem (List.mem_of_getElem? (i := 89) (by decide +kernel)) (by decide +kernel)
theorem k_90 : Cond.code y_Coder_byteOf b_Coder_byteOf 4 (some .int) ∈ cd_big := cd_mem (List.mem_of_getElem? (i := 90) rfl) rfl
theorem k_91 : Cond.methodLink R_law (25 : Nat) y_Desk_read ∈ cd_big := cd_mem (List.mem_of_getElem? (i := 91) (by decide +kernel)) (by decide +kernel)
theorem k_92 : Cond.instanceMethod y_Desk_read ∈ cd_big := cd_mem (List.mem_of_getElem? (i := 92) (by decide +kernel)) (by decide +kernel)
theorem k_93 : Cond.selects R_Desk y_Desk_read y_Desk_read ∈ cd_big := cd_mem (List.mem_of_getElem? (i := 93) (by decide +kernel)) (by decide +kernel)
theorem k_94 : Cond.code y_Desk_read b_Desk_read 2 (some .int) ∈ cd_big := cd_mem (List.mem_of_getElem? (i := 94) rfl) rfl
theorem k_95 : Cond.methodLink R_Desk (43 : Nat) y_Chars_read ∈ cd_big := cd_mem (List.mem_of_getElem? (i := 95) (by decide +kernel)) (by decide +kernel)
theorem k_96 : Cond.instanceMethod y_Chars_read ∈ cd_big := cd_mem (List.mem_of_getElem? (i := 96) (by decide +kernel)) (by decide +kernel)
theorem k_97 : Cond.selects R_Chars y_Chars_read y_Chars_read ∈ cd_big := cd_mem (List.mem_of_getElem? (i := 97) (by decide +kernel)) (by decide +kernel)
theorem k_98 : Cond.code y_Chars_read b_Chars_read 5 (some .int) ∈ cd_big := cd_mem (List.mem_of_getElem? (i := 98) rfl) rfl
theorem k_99 : Cond.methodLink R_Chars (30 : Nat) y_Coder_read ∈ cd_big := cd_mem (List.mem_of_getElem? (i := 99) (by decide +kernel)) (by decide +kernel)
theorem k_100 : Cond.instanceMethod y_Coder_read ∈ cd_big := cd_mem (List.mem_of_getElem? (i := 100) (by decide +kernel)) (by decide +kernel)
theorem k_101 : Cond.selects R_Coder y_Coder_read y_Coder_read ∈ cd_big := cd_mem (List.mem_of_getElem? (i := 101) (by decide +kernel)) (by decide +kernel)
theorem k_102 : Cond.code y_Coder_read b_Coder_read 8 (some .int) ∈ cd_big := cd_mem (List.mem_of_getElem? (i := 102) rfl) rfl
theorem k_103 : Cond.methodLink R_Coder (13 : Nat) y_Coder_begins ∈ cd_big := cd_mem (List.mem_of_getElem? (i := 103) (by decide +kernel)) (by decide +kernel)
theorem k_104 : Cond.static y_Coder_begins ∈ cd_big := cd_mem (List.mem_of_getElem? (i := 104) (by decide +kernel)) (by decide +kernel)
theorem k_105 : Cond.code y_Coder_begins b_Coder_begins 1 (some .int) ∈ cd_big := cd_mem (List.mem_of_getElem? (i := 105) rfl) rfl
theorem k_106 : Cond.methodLink R_Coder (21 : Nat) y_Coder_has ∈ cd_big := cd_mem (List.mem_of_getElem? (i := 106) (by decide +kernel)) (by decide +kernel)
theorem k_107 : Cond.methodLink R_Coder (25 : Nat) y_Coder_sizeOf ∈ cd_big := cd_mem (List.mem_of_getElem? (i := 107) (by decide +kernel)) (by decide +kernel)
theorem k_108 : Cond.methodLink R_Chars (34 : Nat) y_Chars_fail ∈ cd_big := cd_mem (List.mem_of_getElem? (i := 108) (by decide +kernel)) (by decide +kernel)
theorem k_110 : Cond.instanceMethod y_Chars_fail ∈ cd_big := cd_mem (List.mem_of_getElem? (i := 110) (by decide +kernel)) (by decide +kernel)
theorem k_111 : Cond.code y_Chars_fail b_Chars_fail 2 (some .int) ∈ cd_big := cd_mem (List.mem_of_getElem? (i := 111) rfl) rfl
theorem k_112 : Cond.methodLink R_Chars (38 : Nat) y_Letters_isAllowed ∈ cd_big := cd_mem (List.mem_of_getElem? (i := 112) (by decide +kernel)) (by decide +kernel)
theorem k_113 : Cond.static y_Letters_isAllowed ∈ cd_big := cd_mem (List.mem_of_getElem? (i := 113) (by decide +kernel)) (by decide +kernel)
theorem k_114 : Cond.code y_Letters_isAllowed b_Letters_isAllowed 1 (some .boolean) ∈ cd_big := cd_mem (List.mem_of_getElem? (i := 114) rfl) rfl
theorem k_115 : Cond.fieldLink R_Letters (7 : Nat) R_Letters "MAY" "[I" ∈ cd_big := cd_mem (List.mem_of_getElem? (i := 115) (by decide +kernel)) (by decide +kernel)
theorem k_117 : Cond.methodLink R_Letters (13 : Nat) y_Letters_isIn ∈ cd_big := cd_mem (List.mem_of_getElem? (i := 117) (by decide +kernel)) (by decide +kernel)
theorem k_118 : Cond.static y_Letters_isIn ∈ cd_big := cd_mem (List.mem_of_getElem? (i := 118) (by decide +kernel)) (by decide +kernel)
theorem k_119 : Cond.code y_Letters_isIn b_Letters_isIn 5 (some .boolean) ∈ cd_big := cd_mem (List.mem_of_getElem? (i := 119) rfl) rfl
theorem k_120 : Cond.constant R_Chars (45 : Nat) (65279 : Int32) ∈ cd_big := cd_mem (List.mem_of_getElem? (i := 120) (by decide +kernel)) (by decide +kernel)
theorem k_121 : Cond.methodLink R_Chars (46 : Nat) y_Chars_add ∈ cd_big := cd_mem (List.mem_of_getElem? (i := 121) (by decide +kernel)) (by decide +kernel)
theorem k_123 : Cond.instanceMethod y_Chars_add ∈ cd_big := cd_mem (List.mem_of_getElem? (i := 123) (by decide +kernel)) (by decide +kernel)
theorem k_124 : Cond.code y_Chars_add b_Chars_add 2 none ∈ cd_big := cd_mem (List.mem_of_getElem? (i := 124) rfl) rfl
theorem k_125 : Cond.methodLink R_law (30 : Nat) y_Desk_place ∈ cd_big := cd_mem (List.mem_of_getElem? (i := 125) (by decide +kernel)) (by decide +kernel)
theorem k_126 : Cond.instanceMethod y_Desk_place ∈ cd_big := cd_mem (List.mem_of_getElem? (i := 126) (by decide +kernel)) (by decide +kernel)
theorem k_127 : Cond.selects R_Desk y_Desk_place y_Desk_place ∈ cd_big := cd_mem (List.mem_of_getElem? (i := 127) (by decide +kernel)) (by decide +kernel)
theorem k_128 : Cond.code y_Desk_place b_Desk_place 1 (some .int) ∈ cd_big := cd_mem (List.mem_of_getElem? (i := 128) rfl) rfl
theorem k_129 : Cond.methodLink R_law (34 : Nat) y_Desk_at ∈ cd_big := cd_mem (List.mem_of_getElem? (i := 129) (by decide +kernel)) (by decide +kernel)
theorem k_130 : Cond.instanceMethod y_Desk_at ∈ cd_big := cd_mem (List.mem_of_getElem? (i := 130) (by decide +kernel)) (by decide +kernel)
theorem k_131 : Cond.selects R_Desk y_Desk_at y_Desk_at ∈ cd_big := cd_mem (List.mem_of_getElem? (i := 131) (by decide +kernel)) (by decide +kernel)
theorem k_132 : Cond.code y_Desk_at b_Desk_at 2 (some .int) ∈ cd_big := cd_mem (List.mem_of_getElem? (i := 132) rfl) rfl
theorem k_133 : Cond.methodLink R_law (39 : Nat) y_Desk_placeOf ∈ cd_big := cd_mem (List.mem_of_getElem? (i := 133) (by decide +kernel)) (by decide +kernel)
theorem k_134 : Cond.instanceMethod y_Desk_placeOf ∈ cd_big := cd_mem (List.mem_of_getElem? (i := 134) (by decide +kernel)) (by decide +kernel)
theorem k_135 : Cond.selects R_Desk y_Desk_placeOf y_Desk_placeOf ∈ cd_big := cd_mem (List.mem_of_getElem? (i := 135) (by decide +kernel)) (by decide +kernel)
theorem k_136 : Cond.code y_Desk_placeOf b_Desk_placeOf 2 (some .int) ∈ cd_big := cd_mem (List.mem_of_getElem? (i := 136) rfl) rfl
theorem k_137 : Cond.methodLink R_law (43 : Nat) y_Desk_kind ∈ cd_big := cd_mem (List.mem_of_getElem? (i := 137) (by decide +kernel)) (by decide +kernel)
theorem k_138 : Cond.instanceMethod y_Desk_kind ∈ cd_big := cd_mem (List.mem_of_getElem? (i := 138) (by decide +kernel)) (by decide +kernel)
theorem k_139 : Cond.selects R_Desk y_Desk_kind y_Desk_kind ∈ cd_big := cd_mem (List.mem_of_getElem? (i := 139) (by decide +kernel)) (by decide +kernel)
theorem k_140 : Cond.code y_Desk_kind b_Desk_kind 2 (some .int) ∈ cd_big := cd_mem (List.mem_of_getElem? (i := 140) rfl) rfl
theorem k_141 : Cond.methodLink R_Desk (61 : Nat) y_Letters_kind ∈ cd_big := cd_mem (List.mem_of_getElem? (i := 141) (by decide +kernel)) (by decide +kernel)
theorem k_142 : Cond.static y_Letters_kind ∈ cd_big := cd_mem (List.mem_of_getElem? (i := 142) (by decide +kernel)) (by decide +kernel)
theorem k_143 : Cond.code y_Letters_kind b_Letters_kind 1 (some .int) ∈ cd_big := cd_mem (List.mem_of_getElem? (i := 143) rfl) rfl
theorem k_144 : Cond.methodLink R_Letters (27 : Nat) y_Letters_isAllowed ∈ cd_big := cd_mem (List.mem_of_getElem? (i := 144) (by decide +kernel)) (by decide +kernel)
theorem k_145 : Cond.methodLink R_Letters (30 : Nat) y_Letters_isBlank ∈ cd_big := cd_mem (List.mem_of_getElem? (i := 145) (by decide +kernel)) (by decide +kernel)
theorem k_146 : Cond.static y_Letters_isBlank ∈ cd_big := cd_mem (List.mem_of_getElem? (i := 146) (by decide +kernel)) (by decide +kernel)
theorem k_147 : Cond.code y_Letters_isBlank b_Letters_isBlank 1 (some .boolean) ∈ cd_big := cd_mem (List.mem_of_getElem? (i := 147) rfl) rfl
theorem k_148 : Cond.methodLink R_Letters (20 : Nat) y_Letters_isBegin ∈ cd_big := cd_mem (List.mem_of_getElem? (i := 148) (by decide +kernel)) (by decide +kernel)
theorem k_149 : Cond.static y_Letters_isBegin ∈ cd_big := cd_mem (List.mem_of_getElem? (i := 149) (by decide +kernel)) (by decide +kernel)
theorem k_150 : Cond.code y_Letters_isBegin b_Letters_isBegin 1 (some .boolean) ∈ cd_big := cd_mem (List.mem_of_getElem? (i := 150) rfl) rfl
theorem k_151 : Cond.fieldLink R_Letters (17 : Nat) R_Letters "BEGINS" "[I" ∈ cd_big := cd_mem (List.mem_of_getElem? (i := 151) (by decide +kernel)) (by decide +kernel)
theorem k_153 : Cond.methodLink R_Letters (33 : Nat) y_Letters_isPart ∈ cd_big := cd_mem (List.mem_of_getElem? (i := 153) (by decide +kernel)) (by decide +kernel)
theorem k_154 : Cond.static y_Letters_isPart ∈ cd_big := cd_mem (List.mem_of_getElem? (i := 154) (by decide +kernel)) (by decide +kernel)
theorem k_155 : Cond.code y_Letters_isPart b_Letters_isPart 1 (some .boolean) ∈ cd_big := cd_mem (List.mem_of_getElem? (i := 155) rfl) rfl
theorem k_156 : Cond.fieldLink R_Letters (24 : Nat) R_Letters "PARTS" "[I" ∈ cd_big := cd_mem (List.mem_of_getElem? (i := 156) (by decide +kernel)) (by decide +kernel)
theorem k_158 : Cond.methodLink R_law (47 : Nat) y_Desk_run ∈ cd_big := cd_mem (List.mem_of_getElem? (i := 158) (by decide +kernel)) (by decide +kernel)
theorem k_159 : Cond.instanceMethod y_Desk_run ∈ cd_big := cd_mem (List.mem_of_getElem? (i := 159) (by decide +kernel)) (by decide +kernel)
theorem k_160 : Cond.selects R_Desk y_Desk_run y_Desk_run ∈ cd_big := cd_mem (List.mem_of_getElem? (i := 160) (by decide +kernel)) (by decide +kernel)
theorem k_161 : Cond.code y_Desk_run b_Desk_run 3 (some .int) ∈ cd_big := cd_mem (List.mem_of_getElem? (i := 161) rfl) rfl
theorem k_162 : Cond.methodLink R_Desk (66 : Nat) y_Chars_run ∈ cd_big := cd_mem (List.mem_of_getElem? (i := 162) (by decide +kernel)) (by decide +kernel)
theorem k_163 : Cond.instanceMethod y_Chars_run ∈ cd_big := cd_mem (List.mem_of_getElem? (i := 163) (by decide +kernel)) (by decide +kernel)
theorem k_164 : Cond.selects R_Chars y_Chars_run y_Chars_run ∈ cd_big := cd_mem (List.mem_of_getElem? (i := 164) (by decide +kernel)) (by decide +kernel)
theorem k_165 : Cond.code y_Chars_run b_Chars_run 4 (some .int) ∈ cd_big := cd_mem (List.mem_of_getElem? (i := 165) rfl) rfl
theorem k_166 : Cond.methodLink R_Chars (59 : Nat) y_Chars_is ∈ cd_big := cd_mem (List.mem_of_getElem? (i := 166) (by decide +kernel)) (by decide +kernel)
theorem k_168 : Cond.instanceMethod y_Chars_is ∈ cd_big := cd_mem (List.mem_of_getElem? (i := 168) (by decide +kernel)) (by decide +kernel)
theorem k_169 : Cond.code y_Chars_is b_Chars_is 5 (some .boolean) ∈ cd_big := cd_mem (List.mem_of_getElem? (i := 169) rfl) rfl
theorem k_170 : Cond.methodLink R_Chars (50 : Nat) y_Letters_isBegin ∈ cd_big := cd_mem (List.mem_of_getElem? (i := 170) (by decide +kernel)) (by decide +kernel)
theorem k_171 : Cond.methodLink R_Chars (53 : Nat) y_Letters_isPart ∈ cd_big := cd_mem (List.mem_of_getElem? (i := 171) (by decide +kernel)) (by decide +kernel)
theorem k_172 : Cond.methodLink R_Chars (56 : Nat) y_Letters_isBlank ∈ cd_big := cd_mem (List.mem_of_getElem? (i := 172) (by decide +kernel)) (by decide +kernel)
theorem k_173 : Cond.methodLink R_law (52 : Nat) y_Desk_compare ∈ cd_big := cd_mem (List.mem_of_getElem? (i := 173) (by decide +kernel)) (by decide +kernel)
theorem k_174 : Cond.instanceMethod y_Desk_compare ∈ cd_big := cd_mem (List.mem_of_getElem? (i := 174) (by decide +kernel)) (by decide +kernel)
theorem k_175 : Cond.selects R_Desk y_Desk_compare y_Desk_compare ∈ cd_big := cd_mem (List.mem_of_getElem? (i := 175) (by decide +kernel)) (by decide +kernel)
theorem k_176 : Cond.code y_Desk_compare b_Desk_compare 6 (some .int) ∈ cd_big := cd_mem (List.mem_of_getElem? (i := 176) rfl) rfl
theorem k_177 : Cond.methodLink R_Desk (70 : Nat) y_Integer_compare ∈ cd_big := cd_mem (List.mem_of_getElem? (i := 177) (by decide +kernel)) (by decide +kernel)
theorem k_178 : Cond.static y_Integer_compare ∈ cd_big := cd_mem (List.mem_of_getElem? (i := 178) (by decide +kernel)) (by decide +kernel)
theorem k_179 : Cond.code y_Integer_compare b_Integer_compare 2 (some .int) ∈ cd_big := cd_mem (List.mem_of_getElem? (i := 179) rfl) rfl
theorem k_180 : Cond.methodLink R_law (57 : Nat) y_Desk_bytes ∈ cd_big := cd_mem (List.mem_of_getElem? (i := 180) (by decide +kernel)) (by decide +kernel)
theorem k_181 : Cond.instanceMethod y_Desk_bytes ∈ cd_big := cd_mem (List.mem_of_getElem? (i := 181) (by decide +kernel)) (by decide +kernel)
theorem k_182 : Cond.selects R_Desk y_Desk_bytes y_Desk_bytes ∈ cd_big := cd_mem (List.mem_of_getElem? (i := 182) (by decide +kernel)) (by decide +kernel)
theorem k_183 : Cond.code y_Desk_bytes b_Desk_bytes 6 (some .long) ∈ cd_big := cd_mem (List.mem_of_getElem? (i := 183) rfl) rfl
theorem k_184 : Cond.classLink R_law (10 : Nat) R_Model ∈ cd_big := cd_mem (List.mem_of_getElem? (i := 184) (by decide +kernel)) (by decide +kernel)
theorem k_185 : Cond.instantiable R_Model (9 : Nat) ∈ cd_big := cd_mem (List.mem_of_getElem? (i := 185) (by decide +kernel)) (by decide +kernel)
theorem k_186 : Cond.methodLink R_law (12 : Nat) y_Model_init ∈ cd_big := cd_mem (List.mem_of_getElem? (i := 186) (by decide +kernel)) (by decide +kernel)
theorem k_187 : Cond.instanceMethod y_Model_init ∈ cd_big := cd_mem (List.mem_of_getElem? (i := 187) (by decide +kernel)) (by decide +kernel)
theorem k_188 : Cond.code y_Model_init b_Model_init 1 none ∈ cd_big := cd_mem (List.mem_of_getElem? (i := 188) rfl) rfl
theorem k_189 : Cond.methodLink R_Model (1 : Nat) objectInit ∈ cd_big := cd_mem (List.mem_of_getElem? (i := 189) (by decide +kernel)) (by decide +kernel)
theorem k_190 : Cond.fieldLink R_Model (7 : Nat) R_Model "text" "[I" ∈ cd_big := cd_mem (List.mem_of_getElem? (i := 190) (by decide +kernel)) (by decide +kernel)
theorem k_191 : Cond.fieldLink R_Model (20 : Nat) R_Model "size" "I" ∈ cd_big := cd_mem (List.mem_of_getElem? (i := 191) (by decide +kernel)) (by decide +kernel)
theorem k_192 : Cond.fieldLink R_Model (13 : Nat) R_Model "kept" "[I" ∈ cd_big := cd_mem (List.mem_of_getElem? (i := 192) (by decide +kernel)) (by decide +kernel)
theorem k_193 : Cond.fieldLink R_Model (44 : Nat) R_Model "length" "I" ∈ cd_big := cd_mem (List.mem_of_getElem? (i := 193) (by decide +kernel)) (by decide +kernel)
theorem k_194 : Cond.fieldLink R_Model (60 : Nat) R_Model "read" "Z" ∈ cd_big := cd_mem (List.mem_of_getElem? (i := 194) (by decide +kernel)) (by decide +kernel)
theorem k_195 : Cond.fieldLink R_Model (16 : Nat) R_Model "place" "I" ∈ cd_big := cd_mem (List.mem_of_getElem? (i := 195) (by decide +kernel)) (by decide +kernel)
theorem k_196 : Cond.fieldLink R_Model (41 : Nat) R_Model "stand" "I" ∈ cd_big := cd_mem (List.mem_of_getElem? (i := 196) (by decide +kernel)) (by decide +kernel)
theorem k_197 : Cond.fieldLink R_Model (57 : Nat) R_Model "met" "I" ∈ cd_big := cd_mem (List.mem_of_getElem? (i := 197) (by decide +kernel)) (by decide +kernel)
theorem k_198 : Cond.fieldLink R_Model (50 : Nat) R_Model "began" "I" ∈ cd_big := cd_mem (List.mem_of_getElem? (i := 198) (by decide +kernel)) (by decide +kernel)
theorem k_218 : Cond.methodLink R_law (19 : Nat) y_Model_put ∈ cd_big := cd_mem (List.mem_of_getElem? (i := 218) (by decide +kernel)) (by decide +kernel)
theorem k_219 : Cond.instanceMethod y_Model_put ∈ cd_big := cd_mem (List.mem_of_getElem? (i := 219) (by decide +kernel)) (by decide +kernel)
theorem k_220 : Cond.selects R_Model y_Model_put y_Model_put ∈ cd_big := cd_mem (List.mem_of_getElem? (i := 220) (by decide +kernel)) (by decide +kernel)
theorem k_221 : Cond.code y_Model_put b_Model_put 5 (some .boolean) ∈ cd_big := cd_mem (List.mem_of_getElem? (i := 221) rfl) rfl
theorem k_222 : Cond.constantLong R_Model (23 : Nat) (255 : Int64) ∈ cd_big := cd_mem (List.mem_of_getElem? (i := 222) (by decide +kernel)) (by decide +kernel)
theorem k_223 : Cond.methodLink R_law (24 : Nat) y_Model_character ∈ cd_big := cd_mem (List.mem_of_getElem? (i := 223) (by decide +kernel)) (by decide +kernel)
theorem k_224 : Cond.instanceMethod y_Model_character ∈ cd_big := cd_mem (List.mem_of_getElem? (i := 224) (by decide +kernel)) (by decide +kernel)
theorem k_225 : Cond.selects R_Model y_Model_character y_Model_character ∈ cd_big := cd_mem (List.mem_of_getElem? (i := 225) (by decide +kernel)) (by decide +kernel)
theorem k_226 : Cond.code y_Model_character b_Model_character 4 (some .boolean) ∈ cd_big := cd_mem (List.mem_of_getElem? (i := 226) rfl) rfl
theorem k_227 : Cond.methodLink R_Model (33 : Nat) y_Model_has ∈ cd_big := cd_mem (List.mem_of_getElem? (i := 227) (by decide +kernel)) (by decide +kernel)
theorem k_228 : Cond.static y_Model_has ∈ cd_big := cd_mem (List.mem_of_getElem? (i := 228) (by decide +kernel)) (by decide +kernel)
theorem k_229 : Cond.code y_Model_has b_Model_has 1 (some .boolean) ∈ cd_big := cd_mem (List.mem_of_getElem? (i := 229) rfl) rfl
theorem k_230 : Cond.constant R_Model (25 : Nat) (55296 : Int32) ∈ cd_big := cd_mem (List.mem_of_getElem? (i := 230) (by decide +kernel)) (by decide +kernel)
theorem k_231 : Cond.constant R_Model (26 : Nat) (57343 : Int32) ∈ cd_big := cd_mem (List.mem_of_getElem? (i := 231) (by decide +kernel)) (by decide +kernel)
theorem k_232 : Cond.constant R_Model (27 : Nat) (1114112 : Int32) ∈ cd_big := cd_mem (List.mem_of_getElem? (i := 232) (by decide +kernel)) (by decide +kernel)
theorem k_233 : Cond.methodLink R_Model (29 : Nat) y_Model_sizeOf ∈ cd_big := cd_mem (List.mem_of_getElem? (i := 233) (by decide +kernel)) (by decide +kernel)
theorem k_234 : Cond.static y_Model_sizeOf ∈ cd_big := cd_mem (List.mem_of_getElem? (i := 234) (by decide +kernel)) (by decide +kernel)
theorem k_235 : Cond.code y_Model_sizeOf b_Model_sizeOf 2 (some .int) ∈ cd_big := cd_mem (List.mem_of_getElem? (i := 235) rfl) rfl
theorem k_236 : Cond.constant R_Model (28 : Nat) (65535 : Int32) ∈ cd_big := cd_mem (List.mem_of_getElem? (i := 236) (by decide +kernel)) (by decide +kernel)
theorem k_237 : Cond.methodLink R_Model (37 : Nat) y_Model_byteOf ∈ cd_big := cd_mem (List.mem_of_getElem? (i := 237) (by decide +kernel)) (by decide +kernel)
theorem k_238 : Cond.static y_Model_byteOf ∈ cd_big := cd_mem (List.mem_of_getElem? (i := 238) (by decide +kernel)) (by decide +kernel)
theorem k_239 : Cond.code y_Model_byteOf b_Model_byteOf 5 (some .int) ∈ cd_big := cd_mem (List.mem_of_getElem? (i := 239) rfl) rfl
theorem k_240 : Cond.methodLink R_law (29 : Nat) y_Model_read ∈ cd_big := cd_mem (List.mem_of_getElem? (i := 240) (by decide +kernel)) (by decide +kernel)
theorem k_241 : Cond.instanceMethod y_Model_read ∈ cd_big := cd_mem (List.mem_of_getElem? (i := 241) (by decide +kernel)) (by decide +kernel)
theorem k_242 : Cond.selects R_Model y_Model_read y_Model_read ∈ cd_big := cd_mem (List.mem_of_getElem? (i := 242) (by decide +kernel)) (by decide +kernel)
theorem k_243 : Cond.code y_Model_read b_Model_read 2 (some .int) ∈ cd_big := cd_mem (List.mem_of_getElem? (i := 243) rfl) rfl
theorem k_244 : Cond.methodLink R_Model (53 : Nat) y_Model_sequence ∈ cd_big := cd_mem (List.mem_of_getElem? (i := 244) (by decide +kernel)) (by decide +kernel)
theorem k_246 : Cond.instanceMethod y_Model_sequence ∈ cd_big := cd_mem (List.mem_of_getElem? (i := 246) (by decide +kernel)) (by decide +kernel)
theorem k_247 : Cond.code y_Model_sequence b_Model_sequence 6 (some .int) ∈ cd_big := cd_mem (List.mem_of_getElem? (i := 247) rfl) rfl
theorem k_248 : Cond.methodLink R_Model (64 : Nat) y_Model_isAllowed ∈ cd_big := cd_mem (List.mem_of_getElem? (i := 248) (by decide +kernel)) (by decide +kernel)
theorem k_249 : Cond.static y_Model_isAllowed ∈ cd_big := cd_mem (List.mem_of_getElem? (i := 249) (by decide +kernel)) (by decide +kernel)
theorem k_250 : Cond.code y_Model_isAllowed b_Model_isAllowed 1 (some .boolean) ∈ cd_big := cd_mem (List.mem_of_getElem? (i := 250) rfl) rfl
theorem k_251 : Cond.constant R_Model (47 : Nat) (57344 : Int32) ∈ cd_big := cd_mem (List.mem_of_getElem? (i := 251) (by decide +kernel)) (by decide +kernel)
theorem k_252 : Cond.constant R_Model (48 : Nat) (65534 : Int32) ∈ cd_big := cd_mem (List.mem_of_getElem? (i := 252) (by decide +kernel)) (by decide +kernel)
theorem k_253 : Cond.constant R_Model (49 : Nat) (65536 : Int32) ∈ cd_big := cd_mem (List.mem_of_getElem? (i := 253) (by decide +kernel)) (by decide +kernel)
theorem k_254 : Cond.methodLink R_Model (67 : Nat) y_Model_next ∈ cd_big := cd_mem (List.mem_of_getElem? (i := 254) (by decide +kernel)) (by decide +kernel)
theorem k_256 : Cond.instanceMethod y_Model_next ∈ cd_big := cd_mem (List.mem_of_getElem? (i := 256) (by decide +kernel)) (by decide +kernel)
theorem k_257 : Cond.code y_Model_next b_Model_next 1 (some .boolean) ∈ cd_big := cd_mem (List.mem_of_getElem? (i := 257) rfl) rfl
theorem k_258 : Cond.methodLink R_law (33 : Nat) y_Model_place ∈ cd_big := cd_mem (List.mem_of_getElem? (i := 258) (by decide +kernel)) (by decide +kernel)
theorem k_259 : Cond.instanceMethod y_Model_place ∈ cd_big := cd_mem (List.mem_of_getElem? (i := 259) (by decide +kernel)) (by decide +kernel)
theorem k_260 : Cond.selects R_Model y_Model_place y_Model_place ∈ cd_big := cd_mem (List.mem_of_getElem? (i := 260) (by decide +kernel)) (by decide +kernel)
theorem k_261 : Cond.code y_Model_place b_Model_place 1 (some .int) ∈ cd_big := cd_mem (List.mem_of_getElem? (i := 261) rfl) rfl
theorem k_262 : Cond.methodLink R_law (38 : Nat) y_Model_at ∈ cd_big := cd_mem (List.mem_of_getElem? (i := 262) (by decide +kernel)) (by decide +kernel)
theorem k_263 : Cond.instanceMethod y_Model_at ∈ cd_big := cd_mem (List.mem_of_getElem? (i := 263) (by decide +kernel)) (by decide +kernel)
theorem k_264 : Cond.selects R_Model y_Model_at y_Model_at ∈ cd_big := cd_mem (List.mem_of_getElem? (i := 264) (by decide +kernel)) (by decide +kernel)
theorem k_265 : Cond.code y_Model_at b_Model_at 2 (some .int) ∈ cd_big := cd_mem (List.mem_of_getElem? (i := 265) rfl) rfl
theorem k_266 : Cond.methodLink R_Model (71 : Nat) y_Model_go ∈ cd_big := cd_mem (List.mem_of_getElem? (i := 266) (by decide +kernel)) (by decide +kernel)
theorem k_268 : Cond.instanceMethod y_Model_go ∈ cd_big := cd_mem (List.mem_of_getElem? (i := 268) (by decide +kernel)) (by decide +kernel)
theorem k_269 : Cond.code y_Model_go b_Model_go 4 (some .boolean) ∈ cd_big := cd_mem (List.mem_of_getElem? (i := 269) rfl) rfl
theorem k_270 : Cond.methodLink R_law (42 : Nat) y_Model_placeOf ∈ cd_big := cd_mem (List.mem_of_getElem? (i := 270) (by decide +kernel)) (by decide +kernel)
theorem k_271 : Cond.instanceMethod y_Model_placeOf ∈ cd_big := cd_mem (List.mem_of_getElem? (i := 271) (by decide +kernel)) (by decide +kernel)
theorem k_272 : Cond.selects R_Model y_Model_placeOf y_Model_placeOf ∈ cd_big := cd_mem (List.mem_of_getElem? (i := 272) (by decide +kernel)) (by decide +kernel)
theorem k_273 : Cond.code y_Model_placeOf b_Model_placeOf 2 (some .int) ∈ cd_big := cd_mem (List.mem_of_getElem? (i := 273) rfl) rfl
theorem k_274 : Cond.methodLink R_law (46 : Nat) y_Model_kind ∈ cd_big := cd_mem (List.mem_of_getElem? (i := 274) (by decide +kernel)) (by decide +kernel)
theorem k_275 : Cond.instanceMethod y_Model_kind ∈ cd_big := cd_mem (List.mem_of_getElem? (i := 275) (by decide +kernel)) (by decide +kernel)
theorem k_276 : Cond.selects R_Model y_Model_kind y_Model_kind ∈ cd_big := cd_mem (List.mem_of_getElem? (i := 276) (by decide +kernel)) (by decide +kernel)
theorem k_277 : Cond.code y_Model_kind b_Model_kind 3 (some .int) ∈ cd_big := cd_mem (List.mem_of_getElem? (i := 277) rfl) rfl
theorem k_278 : Cond.methodLink R_Model (87 : Nat) y_Model_isBlank ∈ cd_big := cd_mem (List.mem_of_getElem? (i := 278) (by decide +kernel)) (by decide +kernel)
theorem k_279 : Cond.static y_Model_isBlank ∈ cd_big := cd_mem (List.mem_of_getElem? (i := 279) (by decide +kernel)) (by decide +kernel)
theorem k_280 : Cond.code y_Model_isBlank b_Model_isBlank 1 (some .boolean) ∈ cd_big := cd_mem (List.mem_of_getElem? (i := 280) rfl) rfl
theorem k_281 : Cond.methodLink R_Model (84 : Nat) y_Model_isBegin ∈ cd_big := cd_mem (List.mem_of_getElem? (i := 281) (by decide +kernel)) (by decide +kernel)
theorem k_282 : Cond.static y_Model_isBegin ∈ cd_big := cd_mem (List.mem_of_getElem? (i := 282) (by decide +kernel)) (by decide +kernel)
theorem k_283 : Cond.code y_Model_isBegin b_Model_isBegin 3 (some .boolean) ∈ cd_big := cd_mem (List.mem_of_getElem? (i := 283) rfl) rfl
theorem k_284 : Cond.methodLink R_Model (74 : Nat) y_Model_within ∈ cd_big := cd_mem (List.mem_of_getElem? (i := 284) (by decide +kernel)) (by decide +kernel)
theorem k_285 : Cond.static y_Model_within ∈ cd_big := cd_mem (List.mem_of_getElem? (i := 285) (by decide +kernel)) (by decide +kernel)
theorem k_286 : Cond.code y_Model_within b_Model_within 3 (some .boolean) ∈ cd_big := cd_mem (List.mem_of_getElem? (i := 286) rfl) rfl
theorem k_287 : Cond.constant R_Model (78 : Nat) (55295 : Int32) ∈ cd_big := cd_mem (List.mem_of_getElem? (i := 287) (by decide +kernel)) (by decide +kernel)
theorem k_288 : Cond.constant R_Model (79 : Nat) (63744 : Int32) ∈ cd_big := cd_mem (List.mem_of_getElem? (i := 288) (by decide +kernel)) (by decide +kernel)
theorem k_289 : Cond.constant R_Model (80 : Nat) (64975 : Int32) ∈ cd_big := cd_mem (List.mem_of_getElem? (i := 289) (by decide +kernel)) (by decide +kernel)
theorem k_290 : Cond.constant R_Model (81 : Nat) (65008 : Int32) ∈ cd_big := cd_mem (List.mem_of_getElem? (i := 290) (by decide +kernel)) (by decide +kernel)
theorem k_291 : Cond.constant R_Model (82 : Nat) (65533 : Int32) ∈ cd_big := cd_mem (List.mem_of_getElem? (i := 291) (by decide +kernel)) (by decide +kernel)
theorem k_292 : Cond.constant R_Model (83 : Nat) (983039 : Int32) ∈ cd_big := cd_mem (List.mem_of_getElem? (i := 292) (by decide +kernel)) (by decide +kernel)
theorem k_293 : Cond.methodLink R_Model (90 : Nat) y_Model_isPart ∈ cd_big := cd_mem (List.mem_of_getElem? (i := 293) (by decide +kernel)) (by decide +kernel)
theorem k_294 : Cond.static y_Model_isPart ∈ cd_big := cd_mem (List.mem_of_getElem? (i := 294) (by decide +kernel)) (by decide +kernel)
theorem k_295 : Cond.code y_Model_isPart b_Model_isPart 1 (some .boolean) ∈ cd_big := cd_mem (List.mem_of_getElem? (i := 295) rfl) rfl
theorem k_296 : Cond.methodLink R_law (51 : Nat) y_Model_run ∈ cd_big := cd_mem (List.mem_of_getElem? (i := 296) (by decide +kernel)) (by decide +kernel)
theorem k_297 : Cond.instanceMethod y_Model_run ∈ cd_big := cd_mem (List.mem_of_getElem? (i := 297) (by decide +kernel)) (by decide +kernel)
theorem k_298 : Cond.selects R_Model y_Model_run y_Model_run ∈ cd_big := cd_mem (List.mem_of_getElem? (i := 298) (by decide +kernel)) (by decide +kernel)
theorem k_299 : Cond.code y_Model_run b_Model_run 6 (some .int) ∈ cd_big := cd_mem (List.mem_of_getElem? (i := 299) rfl) rfl
theorem k_300 : Cond.methodLink R_law (56 : Nat) y_Model_compare ∈ cd_big := cd_mem (List.mem_of_getElem? (i := 300) (by decide +kernel)) (by decide +kernel)
theorem k_301 : Cond.instanceMethod y_Model_compare ∈ cd_big := cd_mem (List.mem_of_getElem? (i := 301) (by decide +kernel)) (by decide +kernel)
theorem k_302 : Cond.selects R_Model y_Model_compare y_Model_compare ∈ cd_big := cd_mem (List.mem_of_getElem? (i := 302) (by decide +kernel)) (by decide +kernel)
theorem k_303 : Cond.code y_Model_compare b_Model_compare 7 (some .int) ∈ cd_big := cd_mem (List.mem_of_getElem? (i := 303) rfl) rfl
theorem k_304 : Cond.methodLink R_law (61 : Nat) y_Model_bytes ∈ cd_big := cd_mem (List.mem_of_getElem? (i := 304) (by decide +kernel)) (by decide +kernel)
theorem k_305 : Cond.instanceMethod y_Model_bytes ∈ cd_big := cd_mem (List.mem_of_getElem? (i := 305) (by decide +kernel)) (by decide +kernel)
theorem k_306 : Cond.selects R_Model y_Model_bytes y_Model_bytes ∈ cd_big := cd_mem (List.mem_of_getElem? (i := 306) (by decide +kernel)) (by decide +kernel)
theorem k_307 : Cond.code y_Model_bytes b_Model_bytes 5 (some .long) ∈ cd_big := cd_mem (List.mem_of_getElem? (i := 307) rfl) rfl
theorem k_308 : Cond.constantLong R_Model (93 : Nat) (256 : Int64) ∈ cd_big := cd_mem (List.mem_of_getElem? (i := 308) (by decide +kernel)) (by decide +kernel)
theorem k_309 : Cond.constantLong R_law (13 : Nat) (4294967295 : Int64) ∈ cd_big := cd_mem (List.mem_of_getElem? (i := 309) (by decide +kernel)) (by decide +kernel)
theorem k_s0 : Cond.selects R_Chars y_Chars_fail y_Chars_fail ∈ cd_big := cd_memS (List.mem_of_getElem? (i := 0) (by decide +kernel)) (by decide +kernel)
theorem k_s1 : Cond.selects R_Chars y_Chars_add y_Chars_add ∈ cd_big := cd_memS (List.mem_of_getElem? (i := 1) (by decide +kernel)) (by decide +kernel)
theorem k_s2 : Cond.selects R_Chars y_Chars_is y_Chars_is ∈ cd_big := cd_memS (List.mem_of_getElem? (i := 2) (by decide +kernel)) (by decide +kernel)
theorem k_s3 : Cond.selects R_Model y_Model_sequence y_Model_sequence ∈ cd_big := cd_memS (List.mem_of_getElem? (i := 3) (by decide +kernel)) (by decide +kernel)
theorem k_s4 : Cond.selects R_Model y_Model_next y_Model_next ∈ cd_big := cd_memS (List.mem_of_getElem? (i := 4) (by decide +kernel)) (by decide +kernel)
theorem k_s5 : Cond.selects R_Model y_Model_go y_Model_go ∈ cd_big := cd_memS (List.mem_of_getElem? (i := 5) (by decide +kernel)) (by decide +kernel)
end
section
theorem d_Desk_init_0 : decode b_Desk_init 0 = .ok (.aload_n 0, 1) := by decide +kernel
theorem d_Desk_init_1 : decode b_Desk_init 1 = .ok (.invokespecial 1, 3) := by decide +kernel
theorem d_Desk_init_4 : decode b_Desk_init 4 = .ok (.aload_n 0, 1) := by decide +kernel
theorem d_Desk_init_5 : decode b_Desk_init 5 = .ok (.sipush 1000, 3) := by decide +kernel
theorem d_Desk_init_8 : decode b_Desk_init 8 = .ok (.newarray .byte, 2) := by decide +kernel
theorem d_Desk_init_10 : decode b_Desk_init 10 = .ok (.putfield 9, 3) := by decide +kernel
theorem d_Desk_init_13 : decode b_Desk_init 13 = .ok (.aload_n 0, 1) := by decide +kernel
theorem d_Desk_init_14 : decode b_Desk_init 14 = .ok (.new 13, 3) := by decide +kernel
theorem d_Desk_init_17 : decode b_Desk_init 17 = .ok (.dup, 1) := by decide +kernel
theorem d_Desk_init_18 : decode b_Desk_init 18 = .ok (.sipush 1000, 3) := by decide +kernel
theorem d_Desk_init_21 : decode b_Desk_init 21 = .ok (.invokespecial 15, 3) := by decide +kernel
theorem d_Desk_init_24 : decode b_Desk_init 24 = .ok (.putfield 18, 3) := by decide +kernel
theorem d_Desk_init_27 : decode b_Desk_init 27 = .ok (.aload_n 0, 1) := by decide +kernel
theorem d_Desk_init_28 : decode b_Desk_init 28 = .ok (.iconst (-1), 1) := by decide +kernel
theorem d_Desk_init_29 : decode b_Desk_init 29 = .ok (.putfield 22, 3) := by decide +kernel
theorem d_Desk_init_32 : decode b_Desk_init 32 = .ok (.return_, 1) := by decide +kernel
theorem d_Desk_put_0 : decode b_Desk_put 0 = .ok (.iload_n 3, 1) := by decide +kernel
theorem d_Desk_put_1 : decode b_Desk_put 1 = .ok (.iconst 1, 1) := by decide +kernel
theorem d_Desk_put_2 : decode b_Desk_put 2 = .ok (.if_icmp .lt 21, 3) := by decide +kernel
theorem d_Desk_put_5 : decode b_Desk_put 5 = .ok (.iload_n 3, 1) := by decide +kernel
theorem d_Desk_put_6 : decode b_Desk_put 6 = .ok (.bipush 8, 2) := by decide +kernel
theorem d_Desk_put_8 : decode b_Desk_put 8 = .ok (.if_icmp .gt 15, 3) := by decide +kernel
theorem d_Desk_put_11 : decode b_Desk_put 11 = .ok (.aload_n 0, 1) := by decide +kernel
theorem d_Desk_put_12 : decode b_Desk_put 12 = .ok (.getfield 26, 3) := by decide +kernel
theorem d_Desk_put_15 : decode b_Desk_put 15 = .ok (.iload_n 3, 1) := by decide +kernel
theorem d_Desk_put_16 : decode b_Desk_put 16 = .ok (.iadd, 1) := by decide +kernel
theorem d_Desk_put_17 : decode b_Desk_put 17 = .ok (.sipush 1000, 3) := by decide +kernel
theorem d_Desk_put_20 : decode b_Desk_put 20 = .ok (.if_icmp .le 5, 3) := by decide +kernel
theorem d_Desk_put_23 : decode b_Desk_put 23 = .ok (.iconst 0, 1) := by decide +kernel
theorem d_Desk_put_24 : decode b_Desk_put 24 = .ok (.ireturn, 1) := by decide +kernel
theorem d_Desk_put_25 : decode b_Desk_put 25 = .ok (.iload_n 3, 1) := by decide +kernel
theorem d_Desk_put_26 : decode b_Desk_put 26 = .ok (.iconst 1, 1) := by decide +kernel
theorem d_Desk_put_27 : decode b_Desk_put 27 = .ok (.isub, 1) := by decide +kernel
theorem d_Desk_put_28 : decode b_Desk_put 28 = .ok (.istore 4, 2) := by decide +kernel
theorem d_Desk_put_30 : decode b_Desk_put 30 = .ok (.iload 4, 2) := by decide +kernel
theorem d_Desk_put_32 : decode b_Desk_put 32 = .ok (.ifCond .lt 37, 3) := by decide +kernel
theorem d_Desk_put_35 : decode b_Desk_put 35 = .ok (.aload_n 0, 1) := by decide +kernel
theorem d_Desk_put_36 : decode b_Desk_put 36 = .ok (.getfield 9, 3) := by decide +kernel
theorem d_Desk_put_39 : decode b_Desk_put 39 = .ok (.aload_n 0, 1) := by decide +kernel
theorem d_Desk_put_40 : decode b_Desk_put 40 = .ok (.getfield 26, 3) := by decide +kernel
theorem d_Desk_put_43 : decode b_Desk_put 43 = .ok (.lload_n 1, 1) := by decide +kernel
theorem d_Desk_put_44 : decode b_Desk_put 44 = .ok (.bipush 8, 2) := by decide +kernel
theorem d_Desk_put_46 : decode b_Desk_put 46 = .ok (.iload 4, 2) := by decide +kernel
theorem d_Desk_put_48 : decode b_Desk_put 48 = .ok (.imul, 1) := by decide +kernel
theorem d_Desk_put_49 : decode b_Desk_put 49 = .ok (.lshr, 1) := by decide +kernel
theorem d_Desk_put_50 : decode b_Desk_put 50 = .ok (.l2i, 1) := by decide +kernel
theorem d_Desk_put_51 : decode b_Desk_put 51 = .ok (.i2b, 1) := by decide +kernel
theorem d_Desk_put_52 : decode b_Desk_put 52 = .ok (.bastore, 1) := by decide +kernel
theorem d_Desk_put_53 : decode b_Desk_put 53 = .ok (.aload_n 0, 1) := by decide +kernel
theorem d_Desk_put_54 : decode b_Desk_put 54 = .ok (.dup, 1) := by decide +kernel
theorem d_Desk_put_55 : decode b_Desk_put 55 = .ok (.getfield 26, 3) := by decide +kernel
theorem d_Desk_put_58 : decode b_Desk_put 58 = .ok (.iconst 1, 1) := by decide +kernel
theorem d_Desk_put_59 : decode b_Desk_put 59 = .ok (.iadd, 1) := by decide +kernel
theorem d_Desk_put_60 : decode b_Desk_put 60 = .ok (.putfield 26, 3) := by decide +kernel
theorem d_Desk_put_63 : decode b_Desk_put 63 = .ok (.iinc 4 (-1), 3) := by decide +kernel
theorem d_Desk_put_66 : decode b_Desk_put 66 = .ok (.goto (-36), 3) := by decide +kernel
theorem d_Desk_put_69 : decode b_Desk_put 69 = .ok (.iconst 1, 1) := by decide +kernel
theorem d_Desk_put_70 : decode b_Desk_put 70 = .ok (.ireturn, 1) := by decide +kernel
theorem d_Desk_character_0 : decode b_Desk_character 0 = .ok (.iload_n 1, 1) := by decide +kernel
theorem d_Desk_character_1 : decode b_Desk_character 1 = .ok (.invokestatic 29, 3) := by decide +kernel
theorem d_Desk_character_4 : decode b_Desk_character 4 = .ok (.istore_n 2, 1) := by decide +kernel
theorem d_Desk_character_5 : decode b_Desk_character 5 = .ok (.iload_n 1, 1) := by decide +kernel
theorem d_Desk_character_6 : decode b_Desk_character 6 = .ok (.invokestatic 35, 3) := by decide +kernel
theorem d_Desk_character_9 : decode b_Desk_character 9 = .ok (.ifCond .eq 15, 3) := by decide +kernel
theorem d_Desk_character_12 : decode b_Desk_character 12 = .ok (.aload_n 0, 1) := by decide +kernel
theorem d_Desk_character_13 : decode b_Desk_character 13 = .ok (.getfield 26, 3) := by decide +kernel
theorem d_Desk_character_16 : decode b_Desk_character 16 = .ok (.iload_n 2, 1) := by decide +kernel
theorem d_Desk_character_17 : decode b_Desk_character 17 = .ok (.iadd, 1) := by decide +kernel
theorem d_Desk_character_18 : decode b_Desk_character 18 = .ok (.sipush 1000, 3) := by decide +kernel
theorem d_Desk_character_21 : decode b_Desk_character 21 = .ok (.if_icmp .le 5, 3) := by decide +kernel
theorem d_Desk_character_24 : decode b_Desk_character 24 = .ok (.iconst 0, 1) := by decide +kernel
theorem d_Desk_character_25 : decode b_Desk_character 25 = .ok (.ireturn, 1) := by decide +kernel
theorem d_Desk_character_26 : decode b_Desk_character 26 = .ok (.iconst 0, 1) := by decide +kernel
theorem d_Desk_character_27 : decode b_Desk_character 27 = .ok (.istore_n 3, 1) := by decide +kernel
theorem d_Desk_character_28 : decode b_Desk_character 28 = .ok (.iload_n 3, 1) := by decide +kernel
theorem d_Desk_character_29 : decode b_Desk_character 29 = .ok (.iload_n 2, 1) := by decide +kernel
theorem d_Desk_character_30 : decode b_Desk_character 30 = .ok (.if_icmp .ge 27, 3) := by decide +kernel
theorem d_Desk_character_33 : decode b_Desk_character 33 = .ok (.aload_n 0, 1) := by decide +kernel
theorem d_Desk_character_34 : decode b_Desk_character 34 = .ok (.getfield 9, 3) := by decide +kernel
theorem d_Desk_character_37 : decode b_Desk_character 37 = .ok (.aload_n 0, 1) := by decide +kernel
theorem d_Desk_character_38 : decode b_Desk_character 38 = .ok (.getfield 26, 3) := by decide +kernel
theorem d_Desk_character_41 : decode b_Desk_character 41 = .ok (.iload_n 3, 1) := by decide +kernel
theorem d_Desk_character_42 : decode b_Desk_character 42 = .ok (.iadd, 1) := by decide +kernel
theorem d_Desk_character_43 : decode b_Desk_character 43 = .ok (.iload_n 1, 1) := by decide +kernel
theorem d_Desk_character_44 : decode b_Desk_character 44 = .ok (.iload_n 2, 1) := by decide +kernel
theorem d_Desk_character_45 : decode b_Desk_character 45 = .ok (.iload_n 3, 1) := by decide +kernel
theorem d_Desk_character_46 : decode b_Desk_character 46 = .ok (.invokestatic 39, 3) := by decide +kernel
theorem d_Desk_character_49 : decode b_Desk_character 49 = .ok (.i2b, 1) := by decide +kernel
theorem d_Desk_character_50 : decode b_Desk_character 50 = .ok (.bastore, 1) := by decide +kernel
theorem d_Desk_character_51 : decode b_Desk_character 51 = .ok (.iinc 3 1, 3) := by decide +kernel
theorem d_Desk_character_54 : decode b_Desk_character 54 = .ok (.goto (-26), 3) := by decide +kernel
theorem d_Desk_character_57 : decode b_Desk_character 57 = .ok (.aload_n 0, 1) := by decide +kernel
theorem d_Desk_character_58 : decode b_Desk_character 58 = .ok (.dup, 1) := by decide +kernel
theorem d_Desk_character_59 : decode b_Desk_character 59 = .ok (.getfield 26, 3) := by decide +kernel
theorem d_Desk_character_62 : decode b_Desk_character 62 = .ok (.iload_n 2, 1) := by decide +kernel
theorem d_Desk_character_63 : decode b_Desk_character 63 = .ok (.iadd, 1) := by decide +kernel
theorem d_Desk_character_64 : decode b_Desk_character 64 = .ok (.putfield 26, 3) := by decide +kernel
theorem d_Desk_character_67 : decode b_Desk_character 67 = .ok (.iconst 1, 1) := by decide +kernel
theorem d_Desk_character_68 : decode b_Desk_character 68 = .ok (.ireturn, 1) := by decide +kernel
theorem d_Desk_read_0 : decode b_Desk_read 0 = .ok (.aload_n 0, 1) := by decide +kernel
theorem d_Desk_read_1 : decode b_Desk_read 1 = .ok (.getfield 18, 3) := by decide +kernel
theorem d_Desk_read_4 : decode b_Desk_read 4 = .ok (.aload_n 0, 1) := by decide +kernel
theorem d_Desk_read_5 : decode b_Desk_read 5 = .ok (.getfield 9, 3) := by decide +kernel
theorem d_Desk_read_8 : decode b_Desk_read 8 = .ok (.aload_n 0, 1) := by decide +kernel
theorem d_Desk_read_9 : decode b_Desk_read 9 = .ok (.getfield 26, 3) := by decide +kernel
theorem d_Desk_read_12 : decode b_Desk_read 12 = .ok (.invokevirtual 43, 3) := by decide +kernel
theorem d_Desk_read_15 : decode b_Desk_read 15 = .ok (.istore_n 1, 1) := by decide +kernel
theorem d_Desk_read_16 : decode b_Desk_read 16 = .ok (.aload_n 0, 1) := by decide +kernel
theorem d_Desk_read_17 : decode b_Desk_read 17 = .ok (.iconst 0, 1) := by decide +kernel
theorem d_Desk_read_18 : decode b_Desk_read 18 = .ok (.putfield 26, 3) := by decide +kernel
theorem d_Desk_read_21 : decode b_Desk_read 21 = .ok (.aload_n 0, 1) := by decide +kernel
theorem d_Desk_read_22 : decode b_Desk_read 22 = .ok (.iload_n 1, 1) := by decide +kernel
theorem d_Desk_read_23 : decode b_Desk_read 23 = .ok (.ifCond .ne 7, 3) := by decide +kernel
theorem d_Desk_read_26 : decode b_Desk_read 26 = .ok (.iconst 1, 1) := by decide +kernel
theorem d_Desk_read_27 : decode b_Desk_read 27 = .ok (.goto 4, 3) := by decide +kernel
theorem d_Desk_read_30 : decode b_Desk_read 30 = .ok (.iconst 0, 1) := by decide +kernel
theorem d_Desk_read_31 : decode b_Desk_read 31 = .ok (.putfield 47, 3) := by decide +kernel
theorem d_Desk_read_34 : decode b_Desk_read 34 = .ok (.aload_n 0, 1) := by decide +kernel
theorem d_Desk_read_35 : decode b_Desk_read 35 = .ok (.aload_n 0, 1) := by decide +kernel
theorem d_Desk_read_36 : decode b_Desk_read 36 = .ok (.getfield 47, 3) := by decide +kernel
theorem d_Desk_read_39 : decode b_Desk_read 39 = .ok (.ifCond .eq 7, 3) := by decide +kernel
theorem d_Desk_read_42 : decode b_Desk_read 42 = .ok (.iconst (-1), 1) := by decide +kernel
theorem d_Desk_read_43 : decode b_Desk_read 43 = .ok (.goto 10, 3) := by decide +kernel
theorem d_Desk_read_46 : decode b_Desk_read 46 = .ok (.aload_n 0, 1) := by decide +kernel
theorem d_Desk_read_47 : decode b_Desk_read 47 = .ok (.getfield 18, 3) := by decide +kernel
theorem d_Desk_read_50 : decode b_Desk_read 50 = .ok (.getfield 51, 3) := by decide +kernel
theorem d_Desk_read_53 : decode b_Desk_read 53 = .ok (.putfield 22, 3) := by decide +kernel
theorem d_Desk_read_56 : decode b_Desk_read 56 = .ok (.aload_n 0, 1) := by decide +kernel
theorem d_Desk_read_57 : decode b_Desk_read 57 = .ok (.getfield 47, 3) := by decide +kernel
theorem d_Desk_read_60 : decode b_Desk_read 60 = .ok (.ifCond .eq 13, 3) := by decide +kernel
theorem d_Desk_read_63 : decode b_Desk_read 63 = .ok (.aload_n 0, 1) := by decide +kernel
theorem d_Desk_read_64 : decode b_Desk_read 64 = .ok (.getfield 18, 3) := by decide +kernel
theorem d_Desk_read_67 : decode b_Desk_read 67 = .ok (.getfield 52, 3) := by decide +kernel
theorem d_Desk_read_70 : decode b_Desk_read 70 = .ok (.goto 6, 3) := by decide +kernel
theorem d_Desk_read_73 : decode b_Desk_read 73 = .ok (.iconst (-1), 1) := by decide +kernel
theorem d_Desk_read_74 : decode b_Desk_read 74 = .ok (.iload_n 1, 1) := by decide +kernel
theorem d_Desk_read_75 : decode b_Desk_read 75 = .ok (.isub, 1) := by decide +kernel
theorem d_Desk_read_76 : decode b_Desk_read 76 = .ok (.ireturn, 1) := by decide +kernel
theorem d_Desk_place_0 : decode b_Desk_place 0 = .ok (.aload_n 0, 1) := by decide +kernel
theorem d_Desk_place_1 : decode b_Desk_place 1 = .ok (.getfield 22, 3) := by decide +kernel
theorem d_Desk_place_4 : decode b_Desk_place 4 = .ok (.ireturn, 1) := by decide +kernel
theorem d_Desk_at_0 : decode b_Desk_at 0 = .ok (.aload_n 0, 1) := by decide +kernel
theorem d_Desk_at_1 : decode b_Desk_at 1 = .ok (.getfield 47, 3) := by decide +kernel
theorem d_Desk_at_4 : decode b_Desk_at 4 = .ok (.ifCond .eq 30, 3) := by decide +kernel
theorem d_Desk_at_7 : decode b_Desk_at 7 = .ok (.iload_n 1, 1) := by decide +kernel
theorem d_Desk_at_8 : decode b_Desk_at 8 = .ok (.ifCond .lt 26, 3) := by decide +kernel
theorem d_Desk_at_11 : decode b_Desk_at 11 = .ok (.iload_n 1, 1) := by decide +kernel
theorem d_Desk_at_12 : decode b_Desk_at 12 = .ok (.aload_n 0, 1) := by decide +kernel
theorem d_Desk_at_13 : decode b_Desk_at 13 = .ok (.getfield 18, 3) := by decide +kernel
theorem d_Desk_at_16 : decode b_Desk_at 16 = .ok (.getfield 52, 3) := by decide +kernel
theorem d_Desk_at_19 : decode b_Desk_at 19 = .ok (.if_icmp .ge 15, 3) := by decide +kernel
theorem d_Desk_at_22 : decode b_Desk_at 22 = .ok (.aload_n 0, 1) := by decide +kernel
theorem d_Desk_at_23 : decode b_Desk_at 23 = .ok (.getfield 18, 3) := by decide +kernel
theorem d_Desk_at_26 : decode b_Desk_at 26 = .ok (.getfield 55, 3) := by decide +kernel
theorem d_Desk_at_29 : decode b_Desk_at 29 = .ok (.iload_n 1, 1) := by decide +kernel
theorem d_Desk_at_30 : decode b_Desk_at 30 = .ok (.iaload, 1) := by decide +kernel
theorem d_Desk_at_31 : decode b_Desk_at 31 = .ok (.goto 4, 3) := by decide +kernel
theorem d_Desk_at_34 : decode b_Desk_at 34 = .ok (.iconst (-1), 1) := by decide +kernel
theorem d_Desk_at_35 : decode b_Desk_at 35 = .ok (.ireturn, 1) := by decide +kernel
theorem d_Desk_placeOf_0 : decode b_Desk_placeOf 0 = .ok (.aload_n 0, 1) := by decide +kernel
theorem d_Desk_placeOf_1 : decode b_Desk_placeOf 1 = .ok (.getfield 47, 3) := by decide +kernel
theorem d_Desk_placeOf_4 : decode b_Desk_placeOf 4 = .ok (.ifCond .eq 30, 3) := by decide +kernel
theorem d_Desk_placeOf_7 : decode b_Desk_placeOf 7 = .ok (.iload_n 1, 1) := by decide +kernel
theorem d_Desk_placeOf_8 : decode b_Desk_placeOf 8 = .ok (.ifCond .lt 26, 3) := by decide +kernel
theorem d_Desk_placeOf_11 : decode b_Desk_placeOf 11 = .ok (.iload_n 1, 1) := by decide +kernel
theorem d_Desk_placeOf_12 : decode b_Desk_placeOf 12 = .ok (.aload_n 0, 1) := by decide +kernel
theorem d_Desk_placeOf_13 : decode b_Desk_placeOf 13 = .ok (.getfield 18, 3) := by decide +kernel
theorem d_Desk_placeOf_16 : decode b_Desk_placeOf 16 = .ok (.getfield 52, 3) := by decide +kernel
theorem d_Desk_placeOf_19 : decode b_Desk_placeOf 19 = .ok (.if_icmp .gt 15, 3) := by decide +kernel
theorem d_Desk_placeOf_22 : decode b_Desk_placeOf 22 = .ok (.aload_n 0, 1) := by decide +kernel
theorem d_Desk_placeOf_23 : decode b_Desk_placeOf 23 = .ok (.getfield 18, 3) := by decide +kernel
theorem d_Desk_placeOf_26 : decode b_Desk_placeOf 26 = .ok (.getfield 58, 3) := by decide +kernel
theorem d_Desk_placeOf_29 : decode b_Desk_placeOf 29 = .ok (.iload_n 1, 1) := by decide +kernel
theorem d_Desk_placeOf_30 : decode b_Desk_placeOf 30 = .ok (.iaload, 1) := by decide +kernel
theorem d_Desk_placeOf_31 : decode b_Desk_placeOf 31 = .ok (.goto 4, 3) := by decide +kernel
theorem d_Desk_placeOf_34 : decode b_Desk_placeOf 34 = .ok (.iconst (-1), 1) := by decide +kernel
theorem d_Desk_placeOf_35 : decode b_Desk_placeOf 35 = .ok (.ireturn, 1) := by decide +kernel
theorem d_Desk_kind_0 : decode b_Desk_kind 0 = .ok (.iload_n 1, 1) := by decide +kernel
theorem d_Desk_kind_1 : decode b_Desk_kind 1 = .ok (.invokestatic 61, 3) := by decide +kernel
theorem d_Desk_kind_4 : decode b_Desk_kind 4 = .ok (.ireturn, 1) := by decide +kernel
theorem d_Desk_run_0 : decode b_Desk_run 0 = .ok (.aload_n 0, 1) := by decide +kernel
theorem d_Desk_run_1 : decode b_Desk_run 1 = .ok (.getfield 47, 3) := by decide +kernel
theorem d_Desk_run_4 : decode b_Desk_run 4 = .ok (.ifCond .eq 39, 3) := by decide +kernel
theorem d_Desk_run_7 : decode b_Desk_run 7 = .ok (.iload_n 1, 1) := by decide +kernel
theorem d_Desk_run_8 : decode b_Desk_run 8 = .ok (.ifCond .lt 35, 3) := by decide +kernel
theorem d_Desk_run_11 : decode b_Desk_run 11 = .ok (.iload_n 1, 1) := by decide +kernel
theorem d_Desk_run_12 : decode b_Desk_run 12 = .ok (.iconst 3, 1) := by decide +kernel
theorem d_Desk_run_13 : decode b_Desk_run 13 = .ok (.if_icmp .ge 30, 3) := by decide +kernel
theorem d_Desk_run_16 : decode b_Desk_run 16 = .ok (.iload_n 2, 1) := by decide +kernel
theorem d_Desk_run_17 : decode b_Desk_run 17 = .ok (.ifCond .lt 26, 3) := by decide +kernel
theorem d_Desk_run_20 : decode b_Desk_run 20 = .ok (.iload_n 2, 1) := by decide +kernel
theorem d_Desk_run_21 : decode b_Desk_run 21 = .ok (.aload_n 0, 1) := by decide +kernel
theorem d_Desk_run_22 : decode b_Desk_run 22 = .ok (.getfield 18, 3) := by decide +kernel
theorem d_Desk_run_25 : decode b_Desk_run 25 = .ok (.getfield 52, 3) := by decide +kernel
theorem d_Desk_run_28 : decode b_Desk_run 28 = .ok (.if_icmp .ge 15, 3) := by decide +kernel
theorem d_Desk_run_31 : decode b_Desk_run 31 = .ok (.aload_n 0, 1) := by decide +kernel
theorem d_Desk_run_32 : decode b_Desk_run 32 = .ok (.getfield 18, 3) := by decide +kernel
theorem d_Desk_run_35 : decode b_Desk_run 35 = .ok (.iload_n 1, 1) := by decide +kernel
theorem d_Desk_run_36 : decode b_Desk_run 36 = .ok (.iload_n 2, 1) := by decide +kernel
theorem d_Desk_run_37 : decode b_Desk_run 37 = .ok (.invokevirtual 66, 3) := by decide +kernel
theorem d_Desk_run_40 : decode b_Desk_run 40 = .ok (.goto 4, 3) := by decide +kernel
theorem d_Desk_run_43 : decode b_Desk_run 43 = .ok (.iconst 0, 1) := by decide +kernel
theorem d_Desk_run_44 : decode b_Desk_run 44 = .ok (.ireturn, 1) := by decide +kernel
theorem d_Desk_compare_0 : decode b_Desk_compare 0 = .ok (.aload_n 0, 1) := by decide +kernel
theorem d_Desk_compare_1 : decode b_Desk_compare 1 = .ok (.getfield 47, 3) := by decide +kernel
theorem d_Desk_compare_4 : decode b_Desk_compare 4 = .ok (.ifCond .eq 41, 3) := by decide +kernel
theorem d_Desk_compare_7 : decode b_Desk_compare 7 = .ok (.iload_n 3, 1) := by decide +kernel
theorem d_Desk_compare_8 : decode b_Desk_compare 8 = .ok (.ifCond .lt 37, 3) := by decide +kernel
theorem d_Desk_compare_11 : decode b_Desk_compare 11 = .ok (.iload_n 1, 1) := by decide +kernel
theorem d_Desk_compare_12 : decode b_Desk_compare 12 = .ok (.ifCond .lt 33, 3) := by decide +kernel
theorem d_Desk_compare_15 : decode b_Desk_compare 15 = .ok (.iload_n 2, 1) := by decide +kernel
theorem d_Desk_compare_16 : decode b_Desk_compare 16 = .ok (.ifCond .lt 29, 3) := by decide +kernel
theorem d_Desk_compare_19 : decode b_Desk_compare 19 = .ok (.iload_n 3, 1) := by decide +kernel
theorem d_Desk_compare_20 : decode b_Desk_compare 20 = .ok (.aload_n 0, 1) := by decide +kernel
theorem d_Desk_compare_21 : decode b_Desk_compare 21 = .ok (.getfield 18, 3) := by decide +kernel
theorem d_Desk_compare_24 : decode b_Desk_compare 24 = .ok (.getfield 52, 3) := by decide +kernel
theorem d_Desk_compare_27 : decode b_Desk_compare 27 = .ok (.iload_n 1, 1) := by decide +kernel
theorem d_Desk_compare_28 : decode b_Desk_compare 28 = .ok (.isub, 1) := by decide +kernel
theorem d_Desk_compare_29 : decode b_Desk_compare 29 = .ok (.if_icmp .gt 16, 3) := by decide +kernel
theorem d_Desk_compare_32 : decode b_Desk_compare 32 = .ok (.iload_n 3, 1) := by decide +kernel
theorem d_Desk_compare_33 : decode b_Desk_compare 33 = .ok (.aload_n 0, 1) := by decide +kernel
theorem d_Desk_compare_34 : decode b_Desk_compare 34 = .ok (.getfield 18, 3) := by decide +kernel
theorem d_Desk_compare_37 : decode b_Desk_compare 37 = .ok (.getfield 52, 3) := by decide +kernel
theorem d_Desk_compare_40 : decode b_Desk_compare 40 = .ok (.iload_n 2, 1) := by decide +kernel
theorem d_Desk_compare_41 : decode b_Desk_compare 41 = .ok (.isub, 1) := by decide +kernel
theorem d_Desk_compare_42 : decode b_Desk_compare 42 = .ok (.if_icmp .le 6, 3) := by decide +kernel
theorem d_Desk_compare_45 : decode b_Desk_compare 45 = .ok (.bipush (-2), 2) := by decide +kernel
theorem d_Desk_compare_47 : decode b_Desk_compare 47 = .ok (.ireturn, 1) := by decide +kernel
theorem d_Desk_compare_48 : decode b_Desk_compare 48 = .ok (.iconst 0, 1) := by decide +kernel
theorem d_Desk_compare_49 : decode b_Desk_compare 49 = .ok (.istore 4, 2) := by decide +kernel
theorem d_Desk_compare_51 : decode b_Desk_compare 51 = .ok (.iload 4, 2) := by decide +kernel
theorem d_Desk_compare_53 : decode b_Desk_compare 53 = .ok (.iload_n 3, 1) := by decide +kernel
theorem d_Desk_compare_54 : decode b_Desk_compare 54 = .ok (.if_icmp .ge 46, 3) := by decide +kernel
theorem d_Desk_compare_57 : decode b_Desk_compare 57 = .ok (.aload_n 0, 1) := by decide +kernel
theorem d_Desk_compare_58 : decode b_Desk_compare 58 = .ok (.getfield 18, 3) := by decide +kernel
theorem d_Desk_compare_61 : decode b_Desk_compare 61 = .ok (.getfield 55, 3) := by decide +kernel
theorem d_Desk_compare_64 : decode b_Desk_compare 64 = .ok (.iload_n 1, 1) := by decide +kernel
theorem d_Desk_compare_65 : decode b_Desk_compare 65 = .ok (.iload 4, 2) := by decide +kernel
theorem d_Desk_compare_67 : decode b_Desk_compare 67 = .ok (.iadd, 1) := by decide +kernel
theorem d_Desk_compare_68 : decode b_Desk_compare 68 = .ok (.iaload, 1) := by decide +kernel
theorem d_Desk_compare_69 : decode b_Desk_compare 69 = .ok (.aload_n 0, 1) := by decide +kernel
theorem d_Desk_compare_70 : decode b_Desk_compare 70 = .ok (.getfield 18, 3) := by decide +kernel
theorem d_Desk_compare_73 : decode b_Desk_compare 73 = .ok (.getfield 55, 3) := by decide +kernel
theorem d_Desk_compare_76 : decode b_Desk_compare 76 = .ok (.iload_n 2, 1) := by decide +kernel
theorem d_Desk_compare_77 : decode b_Desk_compare 77 = .ok (.iload 4, 2) := by decide +kernel
theorem d_Desk_compare_79 : decode b_Desk_compare 79 = .ok (.iadd, 1) := by decide +kernel
theorem d_Desk_compare_80 : decode b_Desk_compare 80 = .ok (.iaload, 1) := by decide +kernel
theorem d_Desk_compare_81 : decode b_Desk_compare 81 = .ok (.invokestatic 70, 3) := by decide +kernel
theorem d_Desk_compare_84 : decode b_Desk_compare 84 = .ok (.istore 5, 2) := by decide +kernel
theorem d_Desk_compare_86 : decode b_Desk_compare 86 = .ok (.iload 5, 2) := by decide +kernel
theorem d_Desk_compare_88 : decode b_Desk_compare 88 = .ok (.ifCond .eq 6, 3) := by decide +kernel
theorem d_Desk_compare_91 : decode b_Desk_compare 91 = .ok (.iload 5, 2) := by decide +kernel
theorem d_Desk_compare_93 : decode b_Desk_compare 93 = .ok (.ireturn, 1) := by decide +kernel
theorem d_Desk_compare_94 : decode b_Desk_compare 94 = .ok (.iinc 4 1, 3) := by decide +kernel
theorem d_Desk_compare_97 : decode b_Desk_compare 97 = .ok (.goto (-46), 3) := by decide +kernel
theorem d_Desk_compare_100 : decode b_Desk_compare 100 = .ok (.iconst 0, 1) := by decide +kernel
theorem d_Desk_compare_101 : decode b_Desk_compare 101 = .ok (.ireturn, 1) := by decide +kernel
theorem d_Desk_bytes_0 : decode b_Desk_bytes 0 = .ok (.iload_n 1, 1) := by decide +kernel
theorem d_Desk_bytes_1 : decode b_Desk_bytes 1 = .ok (.invokestatic 35, 3) := by decide +kernel
theorem d_Desk_bytes_4 : decode b_Desk_bytes 4 = .ok (.ifCond .ne 5, 3) := by decide +kernel
theorem d_Desk_bytes_7 : decode b_Desk_bytes 7 = .ok (.lconst 0, 1) := by decide +kernel
theorem d_Desk_bytes_8 : decode b_Desk_bytes 8 = .ok (.lreturn, 1) := by decide +kernel
theorem d_Desk_bytes_9 : decode b_Desk_bytes 9 = .ok (.iload_n 1, 1) := by decide +kernel
theorem d_Desk_bytes_10 : decode b_Desk_bytes 10 = .ok (.invokestatic 29, 3) := by decide +kernel
theorem d_Desk_bytes_13 : decode b_Desk_bytes 13 = .ok (.istore_n 2, 1) := by decide +kernel
theorem d_Desk_bytes_14 : decode b_Desk_bytes 14 = .ok (.iload_n 2, 1) := by decide +kernel
theorem d_Desk_bytes_15 : decode b_Desk_bytes 15 = .ok (.i2l, 1) := by decide +kernel
theorem d_Desk_bytes_16 : decode b_Desk_bytes 16 = .ok (.bipush 56, 2) := by decide +kernel
theorem d_Desk_bytes_18 : decode b_Desk_bytes 18 = .ok (.lshl, 1) := by decide +kernel
theorem d_Desk_bytes_19 : decode b_Desk_bytes 19 = .ok (.lstore_n 3, 1) := by decide +kernel
theorem d_Desk_bytes_20 : decode b_Desk_bytes 20 = .ok (.iconst 0, 1) := by decide +kernel
theorem d_Desk_bytes_21 : decode b_Desk_bytes 21 = .ok (.istore 5, 2) := by decide +kernel
theorem d_Desk_bytes_23 : decode b_Desk_bytes 23 = .ok (.iload 5, 2) := by decide +kernel
theorem d_Desk_bytes_25 : decode b_Desk_bytes 25 = .ok (.iload_n 2, 1) := by decide +kernel
theorem d_Desk_bytes_26 : decode b_Desk_bytes 26 = .ok (.if_icmp .ge 29, 3) := by decide +kernel
theorem d_Desk_bytes_29 : decode b_Desk_bytes 29 = .ok (.lload_n 3, 1) := by decide +kernel
theorem d_Desk_bytes_30 : decode b_Desk_bytes 30 = .ok (.iload_n 1, 1) := by decide +kernel
theorem d_Desk_bytes_31 : decode b_Desk_bytes 31 = .ok (.iload_n 2, 1) := by decide +kernel
theorem d_Desk_bytes_32 : decode b_Desk_bytes 32 = .ok (.iload 5, 2) := by decide +kernel
theorem d_Desk_bytes_34 : decode b_Desk_bytes 34 = .ok (.invokestatic 39, 3) := by decide +kernel
theorem d_Desk_bytes_37 : decode b_Desk_bytes 37 = .ok (.i2l, 1) := by decide +kernel
theorem d_Desk_bytes_38 : decode b_Desk_bytes 38 = .ok (.bipush 48, 2) := by decide +kernel
theorem d_Desk_bytes_40 : decode b_Desk_bytes 40 = .ok (.bipush 8, 2) := by decide +kernel
theorem d_Desk_bytes_42 : decode b_Desk_bytes 42 = .ok (.iload 5, 2) := by decide +kernel
theorem d_Desk_bytes_44 : decode b_Desk_bytes 44 = .ok (.imul, 1) := by decide +kernel
theorem d_Desk_bytes_45 : decode b_Desk_bytes 45 = .ok (.isub, 1) := by decide +kernel
theorem d_Desk_bytes_46 : decode b_Desk_bytes 46 = .ok (.lshl, 1) := by decide +kernel
theorem d_Desk_bytes_47 : decode b_Desk_bytes 47 = .ok (.lor, 1) := by decide +kernel
theorem d_Desk_bytes_48 : decode b_Desk_bytes 48 = .ok (.lstore_n 3, 1) := by decide +kernel
theorem d_Desk_bytes_49 : decode b_Desk_bytes 49 = .ok (.iinc 5 1, 3) := by decide +kernel
theorem d_Desk_bytes_52 : decode b_Desk_bytes 52 = .ok (.goto (-29), 3) := by decide +kernel
theorem d_Desk_bytes_55 : decode b_Desk_bytes 55 = .ok (.lload_n 3, 1) := by decide +kernel
theorem d_Desk_bytes_56 : decode b_Desk_bytes 56 = .ok (.lreturn, 1) := by decide +kernel
theorem d_Chars_init_0 : decode b_Chars_init 0 = .ok (.aload_n 0, 1) := by decide +kernel
theorem d_Chars_init_1 : decode b_Chars_init 1 = .ok (.invokespecial 1, 3) := by decide +kernel
theorem d_Chars_init_4 : decode b_Chars_init 4 = .ok (.aload_n 0, 1) := by decide +kernel
theorem d_Chars_init_5 : decode b_Chars_init 5 = .ok (.new 7, 3) := by decide +kernel
theorem d_Chars_init_8 : decode b_Chars_init 8 = .ok (.dup, 1) := by decide +kernel
theorem d_Chars_init_9 : decode b_Chars_init 9 = .ok (.invokespecial 9, 3) := by decide +kernel
theorem d_Chars_init_12 : decode b_Chars_init 12 = .ok (.putfield 10, 3) := by decide +kernel
theorem d_Chars_init_15 : decode b_Chars_init 15 = .ok (.aload_n 0, 1) := by decide +kernel
theorem d_Chars_init_16 : decode b_Chars_init 16 = .ok (.iload_n 1, 1) := by decide +kernel
theorem d_Chars_init_17 : decode b_Chars_init 17 = .ok (.newarray .int, 2) := by decide +kernel
theorem d_Chars_init_19 : decode b_Chars_init 19 = .ok (.putfield 16, 3) := by decide +kernel
theorem d_Chars_init_22 : decode b_Chars_init 22 = .ok (.aload_n 0, 1) := by decide +kernel
theorem d_Chars_init_23 : decode b_Chars_init 23 = .ok (.iload_n 1, 1) := by decide +kernel
theorem d_Chars_init_24 : decode b_Chars_init 24 = .ok (.iconst 1, 1) := by decide +kernel
theorem d_Chars_init_25 : decode b_Chars_init 25 = .ok (.iadd, 1) := by decide +kernel
theorem d_Chars_init_26 : decode b_Chars_init 26 = .ok (.newarray .int, 2) := by decide +kernel
theorem d_Chars_init_28 : decode b_Chars_init 28 = .ok (.putfield 20, 3) := by decide +kernel
theorem d_Chars_init_31 : decode b_Chars_init 31 = .ok (.return_, 1) := by decide +kernel
theorem d_Chars_read_0 : decode b_Chars_read 0 = .ok (.aload_n 0, 1) := by decide +kernel
theorem d_Chars_read_1 : decode b_Chars_read 1 = .ok (.iconst 0, 1) := by decide +kernel
theorem d_Chars_read_2 : decode b_Chars_read 2 = .ok (.putfield 23, 3) := by decide +kernel
theorem d_Chars_read_5 : decode b_Chars_read 5 = .ok (.aload_n 0, 1) := by decide +kernel
theorem d_Chars_read_6 : decode b_Chars_read 6 = .ok (.iconst 0, 1) := by decide +kernel
theorem d_Chars_read_7 : decode b_Chars_read 7 = .ok (.putfield 27, 3) := by decide +kernel
theorem d_Chars_read_10 : decode b_Chars_read 10 = .ok (.aload_n 0, 1) := by decide +kernel
theorem d_Chars_read_11 : decode b_Chars_read 11 = .ok (.getfield 27, 3) := by decide +kernel
theorem d_Chars_read_14 : decode b_Chars_read 14 = .ok (.iload_n 2, 1) := by decide +kernel
theorem d_Chars_read_15 : decode b_Chars_read 15 = .ok (.if_icmp .ge 109, 3) := by decide +kernel
theorem d_Chars_read_18 : decode b_Chars_read 18 = .ok (.aload_n 0, 1) := by decide +kernel
theorem d_Chars_read_19 : decode b_Chars_read 19 = .ok (.getfield 10, 3) := by decide +kernel
theorem d_Chars_read_22 : decode b_Chars_read 22 = .ok (.aload_n 1, 1) := by decide +kernel
theorem d_Chars_read_23 : decode b_Chars_read 23 = .ok (.aload_n 0, 1) := by decide +kernel
theorem d_Chars_read_24 : decode b_Chars_read 24 = .ok (.getfield 27, 3) := by decide +kernel
theorem d_Chars_read_27 : decode b_Chars_read 27 = .ok (.iload_n 2, 1) := by decide +kernel
theorem d_Chars_read_28 : decode b_Chars_read 28 = .ok (.invokevirtual 30, 3) := by decide +kernel
theorem d_Chars_read_31 : decode b_Chars_read 31 = .ok (.istore_n 3, 1) := by decide +kernel
theorem d_Chars_read_32 : decode b_Chars_read 32 = .ok (.iload_n 3, 1) := by decide +kernel
theorem d_Chars_read_33 : decode b_Chars_read 33 = .ok (.iconst (-1), 1) := by decide +kernel
theorem d_Chars_read_34 : decode b_Chars_read 34 = .ok (.if_icmp .ne 9, 3) := by decide +kernel
theorem d_Chars_read_37 : decode b_Chars_read 37 = .ok (.aload_n 0, 1) := by decide +kernel
theorem d_Chars_read_38 : decode b_Chars_read 38 = .ok (.iconst 1, 1) := by decide +kernel
theorem d_Chars_read_39 : decode b_Chars_read 39 = .ok (.invokevirtual 34, 3) := by decide +kernel
theorem d_Chars_read_42 : decode b_Chars_read 42 = .ok (.ireturn, 1) := by decide +kernel
theorem d_Chars_read_43 : decode b_Chars_read 43 = .ok (.iload_n 3, 1) := by decide +kernel
theorem d_Chars_read_44 : decode b_Chars_read 44 = .ok (.invokestatic 38, 3) := by decide +kernel
theorem d_Chars_read_47 : decode b_Chars_read 47 = .ok (.ifCond .ne 9, 3) := by decide +kernel
theorem d_Chars_read_50 : decode b_Chars_read 50 = .ok (.aload_n 0, 1) := by decide +kernel
theorem d_Chars_read_51 : decode b_Chars_read 51 = .ok (.iconst 2, 1) := by decide +kernel
theorem d_Chars_read_52 : decode b_Chars_read 52 = .ok (.invokevirtual 34, 3) := by decide +kernel
theorem d_Chars_read_55 : decode b_Chars_read 55 = .ok (.ireturn, 1) := by decide +kernel
theorem d_Chars_read_56 : decode b_Chars_read 56 = .ok (.aload_n 0, 1) := by decide +kernel
theorem d_Chars_read_57 : decode b_Chars_read 57 = .ok (.getfield 27, 3) := by decide +kernel
theorem d_Chars_read_60 : decode b_Chars_read 60 = .ok (.aload_n 0, 1) := by decide +kernel
theorem d_Chars_read_61 : decode b_Chars_read 61 = .ok (.getfield 10, 3) := by decide +kernel
theorem d_Chars_read_64 : decode b_Chars_read 64 = .ok (.getfield 44, 3) := by decide +kernel
theorem d_Chars_read_67 : decode b_Chars_read 67 = .ok (.iadd, 1) := by decide +kernel
theorem d_Chars_read_68 : decode b_Chars_read 68 = .ok (.istore 4, 2) := by decide +kernel
theorem d_Chars_read_70 : decode b_Chars_read 70 = .ok (.iload_n 3, 1) := by decide +kernel
theorem d_Chars_read_71 : decode b_Chars_read 71 = .ok (.bipush 13, 2) := by decide +kernel
theorem d_Chars_read_73 : decode b_Chars_read 73 = .ok (.if_icmp .ne 24, 3) := by decide +kernel
theorem d_Chars_read_76 : decode b_Chars_read 76 = .ok (.bipush 10, 2) := by decide +kernel
theorem d_Chars_read_78 : decode b_Chars_read 78 = .ok (.istore_n 3, 1) := by decide +kernel
theorem d_Chars_read_79 : decode b_Chars_read 79 = .ok (.iload 4, 2) := by decide +kernel
theorem d_Chars_read_81 : decode b_Chars_read 81 = .ok (.iload_n 2, 1) := by decide +kernel
theorem d_Chars_read_82 : decode b_Chars_read 82 = .ok (.if_icmp .ge 15, 3) := by decide +kernel
theorem d_Chars_read_85 : decode b_Chars_read 85 = .ok (.aload_n 1, 1) := by decide +kernel
theorem d_Chars_read_86 : decode b_Chars_read 86 = .ok (.iload 4, 2) := by decide +kernel
theorem d_Chars_read_88 : decode b_Chars_read 88 = .ok (.baload, 1) := by decide +kernel
theorem d_Chars_read_89 : decode b_Chars_read 89 = .ok (.bipush 10, 2) := by decide +kernel
theorem d_Chars_read_91 : decode b_Chars_read 91 = .ok (.if_icmp .ne 6, 3) := by decide +kernel
theorem d_Chars_read_94 : decode b_Chars_read 94 = .ok (.iinc 4 1, 3) := by decide +kernel
theorem d_Chars_read_97 : decode b_Chars_read 97 = .ok (.aload_n 0, 1) := by decide +kernel
theorem d_Chars_read_98 : decode b_Chars_read 98 = .ok (.getfield 27, 3) := by decide +kernel
theorem d_Chars_read_101 : decode b_Chars_read 101 = .ok (.ifCond .gt 9, 3) := by decide +kernel
theorem d_Chars_read_104 : decode b_Chars_read 104 = .ok (.iload_n 3, 1) := by decide +kernel
theorem d_Chars_read_105 : decode b_Chars_read 105 = .ok (.ldc 45, 2) := by decide +kernel
theorem d_Chars_read_107 : decode b_Chars_read 107 = .ok (.if_icmp .eq 8, 3) := by decide +kernel
theorem d_Chars_read_110 : decode b_Chars_read 110 = .ok (.aload_n 0, 1) := by decide +kernel
theorem d_Chars_read_111 : decode b_Chars_read 111 = .ok (.iload_n 3, 1) := by decide +kernel
theorem d_Chars_read_112 : decode b_Chars_read 112 = .ok (.invokevirtual 46, 3) := by decide +kernel
theorem d_Chars_read_115 : decode b_Chars_read 115 = .ok (.aload_n 0, 1) := by decide +kernel
theorem d_Chars_read_116 : decode b_Chars_read 116 = .ok (.iload 4, 2) := by decide +kernel
theorem d_Chars_read_118 : decode b_Chars_read 118 = .ok (.putfield 27, 3) := by decide +kernel
theorem d_Chars_read_121 : decode b_Chars_read 121 = .ok (.goto (-111), 3) := by decide +kernel
theorem d_Chars_read_124 : decode b_Chars_read 124 = .ok (.aload_n 0, 1) := by decide +kernel
theorem d_Chars_read_125 : decode b_Chars_read 125 = .ok (.getfield 20, 3) := by decide +kernel
theorem d_Chars_read_128 : decode b_Chars_read 128 = .ok (.aload_n 0, 1) := by decide +kernel
theorem d_Chars_read_129 : decode b_Chars_read 129 = .ok (.getfield 23, 3) := by decide +kernel
theorem d_Chars_read_132 : decode b_Chars_read 132 = .ok (.iload_n 2, 1) := by decide +kernel
theorem d_Chars_read_133 : decode b_Chars_read 133 = .ok (.iastore, 1) := by decide +kernel
theorem d_Chars_read_134 : decode b_Chars_read 134 = .ok (.iconst 0, 1) := by decide +kernel
theorem d_Chars_read_135 : decode b_Chars_read 135 = .ok (.ireturn, 1) := by decide +kernel
theorem d_Chars_fail_0 : decode b_Chars_fail 0 = .ok (.aload_n 0, 1) := by decide +kernel
theorem d_Chars_fail_1 : decode b_Chars_fail 1 = .ok (.iconst 0, 1) := by decide +kernel
theorem d_Chars_fail_2 : decode b_Chars_fail 2 = .ok (.putfield 23, 3) := by decide +kernel
theorem d_Chars_fail_5 : decode b_Chars_fail 5 = .ok (.iload_n 1, 1) := by decide +kernel
theorem d_Chars_fail_6 : decode b_Chars_fail 6 = .ok (.ireturn, 1) := by decide +kernel
theorem d_Chars_add_0 : decode b_Chars_add 0 = .ok (.aload_n 0, 1) := by decide +kernel
theorem d_Chars_add_1 : decode b_Chars_add 1 = .ok (.getfield 16, 3) := by decide +kernel
theorem d_Chars_add_4 : decode b_Chars_add 4 = .ok (.aload_n 0, 1) := by decide +kernel
theorem d_Chars_add_5 : decode b_Chars_add 5 = .ok (.getfield 23, 3) := by decide +kernel
theorem d_Chars_add_8 : decode b_Chars_add 8 = .ok (.iload_n 1, 1) := by decide +kernel
theorem d_Chars_add_9 : decode b_Chars_add 9 = .ok (.iastore, 1) := by decide +kernel
theorem d_Chars_add_10 : decode b_Chars_add 10 = .ok (.aload_n 0, 1) := by decide +kernel
theorem d_Chars_add_11 : decode b_Chars_add 11 = .ok (.getfield 20, 3) := by decide +kernel
theorem d_Chars_add_14 : decode b_Chars_add 14 = .ok (.aload_n 0, 1) := by decide +kernel
theorem d_Chars_add_15 : decode b_Chars_add 15 = .ok (.getfield 23, 3) := by decide +kernel
theorem d_Chars_add_18 : decode b_Chars_add 18 = .ok (.aload_n 0, 1) := by decide +kernel
theorem d_Chars_add_19 : decode b_Chars_add 19 = .ok (.getfield 27, 3) := by decide +kernel
theorem d_Chars_add_22 : decode b_Chars_add 22 = .ok (.iastore, 1) := by decide +kernel
theorem d_Chars_add_23 : decode b_Chars_add 23 = .ok (.aload_n 0, 1) := by decide +kernel
theorem d_Chars_add_24 : decode b_Chars_add 24 = .ok (.dup, 1) := by decide +kernel
theorem d_Chars_add_25 : decode b_Chars_add 25 = .ok (.getfield 23, 3) := by decide +kernel
theorem d_Chars_add_28 : decode b_Chars_add 28 = .ok (.iconst 1, 1) := by decide +kernel
theorem d_Chars_add_29 : decode b_Chars_add 29 = .ok (.iadd, 1) := by decide +kernel
theorem d_Chars_add_30 : decode b_Chars_add 30 = .ok (.putfield 23, 3) := by decide +kernel
theorem d_Chars_add_33 : decode b_Chars_add 33 = .ok (.return_, 1) := by decide +kernel
theorem d_Chars_is_0 : decode b_Chars_is 0 = .ok (.aload_n 0, 1) := by decide +kernel
theorem d_Chars_is_1 : decode b_Chars_is 1 = .ok (.getfield 16, 3) := by decide +kernel
theorem d_Chars_is_4 : decode b_Chars_is 4 = .ok (.iload_n 2, 1) := by decide +kernel
theorem d_Chars_is_5 : decode b_Chars_is 5 = .ok (.iaload, 1) := by decide +kernel
theorem d_Chars_is_6 : decode b_Chars_is 6 = .ok (.istore 4, 2) := by decide +kernel
theorem d_Chars_is_8 : decode b_Chars_is 8 = .ok (.iload_n 1, 1) := by decide +kernel
theorem d_Chars_is_9 : decode b_Chars_is 9 = .ok (.ifCond .ne 23, 3) := by decide +kernel
theorem d_Chars_is_12 : decode b_Chars_is 12 = .ok (.iload_n 3, 1) := by decide +kernel
theorem d_Chars_is_13 : decode b_Chars_is 13 = .ok (.ifCond .eq 11, 3) := by decide +kernel
theorem d_Chars_is_16 : decode b_Chars_is 16 = .ok (.iload 4, 2) := by decide +kernel
theorem d_Chars_is_18 : decode b_Chars_is 18 = .ok (.invokestatic 50, 3) := by decide +kernel
theorem d_Chars_is_21 : decode b_Chars_is 21 = .ok (.goto 29, 3) := by decide +kernel
theorem d_Chars_is_24 : decode b_Chars_is 24 = .ok (.iload 4, 2) := by decide +kernel
theorem d_Chars_is_26 : decode b_Chars_is 26 = .ok (.invokestatic 53, 3) := by decide +kernel
theorem d_Chars_is_29 : decode b_Chars_is 29 = .ok (.goto 21, 3) := by decide +kernel
theorem d_Chars_is_32 : decode b_Chars_is 32 = .ok (.iload_n 1, 1) := by decide +kernel
theorem d_Chars_is_33 : decode b_Chars_is 33 = .ok (.iconst 1, 1) := by decide +kernel
theorem d_Chars_is_34 : decode b_Chars_is 34 = .ok (.if_icmp .ne 11, 3) := by decide +kernel
theorem d_Chars_is_37 : decode b_Chars_is 37 = .ok (.iload 4, 2) := by decide +kernel
theorem d_Chars_is_39 : decode b_Chars_is 39 = .ok (.invokestatic 53, 3) := by decide +kernel
theorem d_Chars_is_42 : decode b_Chars_is 42 = .ok (.goto 8, 3) := by decide +kernel
theorem d_Chars_is_45 : decode b_Chars_is 45 = .ok (.iload 4, 2) := by decide +kernel
theorem d_Chars_is_47 : decode b_Chars_is 47 = .ok (.invokestatic 56, 3) := by decide +kernel
theorem d_Chars_is_50 : decode b_Chars_is 50 = .ok (.ireturn, 1) := by decide +kernel
theorem d_Chars_run_0 : decode b_Chars_run 0 = .ok (.iconst 0, 1) := by decide +kernel
theorem d_Chars_run_1 : decode b_Chars_run 1 = .ok (.istore_n 3, 1) := by decide +kernel
theorem d_Chars_run_2 : decode b_Chars_run 2 = .ok (.iload_n 2, 1) := by decide +kernel
theorem d_Chars_run_3 : decode b_Chars_run 3 = .ok (.iload_n 3, 1) := by decide +kernel
theorem d_Chars_run_4 : decode b_Chars_run 4 = .ok (.iadd, 1) := by decide +kernel
theorem d_Chars_run_5 : decode b_Chars_run 5 = .ok (.aload_n 0, 1) := by decide +kernel
theorem d_Chars_run_6 : decode b_Chars_run 6 = .ok (.getfield 23, 3) := by decide +kernel
theorem d_Chars_run_9 : decode b_Chars_run 9 = .ok (.if_icmp .ge 29, 3) := by decide +kernel
theorem d_Chars_run_12 : decode b_Chars_run 12 = .ok (.aload_n 0, 1) := by decide +kernel
theorem d_Chars_run_13 : decode b_Chars_run 13 = .ok (.iload_n 1, 1) := by decide +kernel
theorem d_Chars_run_14 : decode b_Chars_run 14 = .ok (.iload_n 2, 1) := by decide +kernel
theorem d_Chars_run_15 : decode b_Chars_run 15 = .ok (.iload_n 3, 1) := by decide +kernel
theorem d_Chars_run_16 : decode b_Chars_run 16 = .ok (.iadd, 1) := by decide +kernel
theorem d_Chars_run_17 : decode b_Chars_run 17 = .ok (.iload_n 3, 1) := by decide +kernel
theorem d_Chars_run_18 : decode b_Chars_run 18 = .ok (.ifCond .ne 7, 3) := by decide +kernel
theorem d_Chars_run_21 : decode b_Chars_run 21 = .ok (.iconst 1, 1) := by decide +kernel
theorem d_Chars_run_22 : decode b_Chars_run 22 = .ok (.goto 4, 3) := by decide +kernel
theorem d_Chars_run_25 : decode b_Chars_run 25 = .ok (.iconst 0, 1) := by decide +kernel
theorem d_Chars_run_26 : decode b_Chars_run 26 = .ok (.invokevirtual 59, 3) := by decide +kernel
theorem d_Chars_run_29 : decode b_Chars_run 29 = .ok (.ifCond .eq 9, 3) := by decide +kernel
theorem d_Chars_run_32 : decode b_Chars_run 32 = .ok (.iinc 3 1, 3) := by decide +kernel
theorem d_Chars_run_35 : decode b_Chars_run 35 = .ok (.goto (-33), 3) := by decide +kernel
theorem d_Chars_run_38 : decode b_Chars_run 38 = .ok (.iload_n 3, 1) := by decide +kernel
theorem d_Chars_run_39 : decode b_Chars_run 39 = .ok (.ireturn, 1) := by decide +kernel
theorem d_Coder_init_0 : decode b_Coder_init 0 = .ok (.aload_n 0, 1) := by decide +kernel
theorem d_Coder_init_1 : decode b_Coder_init 1 = .ok (.invokespecial 1, 3) := by decide +kernel
theorem d_Coder_init_4 : decode b_Coder_init 4 = .ok (.return_, 1) := by decide +kernel
theorem d_Coder_has_0 : decode b_Coder_has 0 = .ok (.iload_n 0, 1) := by decide +kernel
theorem d_Coder_has_1 : decode b_Coder_has 1 = .ok (.ifCond .lt 25, 3) := by decide +kernel
theorem d_Coder_has_4 : decode b_Coder_has 4 = .ok (.iload_n 0, 1) := by decide +kernel
theorem d_Coder_has_5 : decode b_Coder_has 5 = .ok (.ldc 9, 2) := by decide +kernel
theorem d_Coder_has_7 : decode b_Coder_has 7 = .ok (.if_icmp .gt 19, 3) := by decide +kernel
theorem d_Coder_has_10 : decode b_Coder_has 10 = .ok (.iload_n 0, 1) := by decide +kernel
theorem d_Coder_has_11 : decode b_Coder_has 11 = .ok (.ldc 10, 2) := by decide +kernel
theorem d_Coder_has_13 : decode b_Coder_has 13 = .ok (.if_icmp .lt 9, 3) := by decide +kernel
theorem d_Coder_has_16 : decode b_Coder_has 16 = .ok (.iload_n 0, 1) := by decide +kernel
theorem d_Coder_has_17 : decode b_Coder_has 17 = .ok (.ldc 11, 2) := by decide +kernel
theorem d_Coder_has_19 : decode b_Coder_has 19 = .ok (.if_icmp .lt 7, 3) := by decide +kernel
theorem d_Coder_has_22 : decode b_Coder_has 22 = .ok (.iconst 1, 1) := by decide +kernel
theorem d_Coder_has_23 : decode b_Coder_has 23 = .ok (.goto 4, 3) := by decide +kernel
theorem d_Coder_has_26 : decode b_Coder_has 26 = .ok (.iconst 0, 1) := by decide +kernel
theorem d_Coder_has_27 : decode b_Coder_has 27 = .ok (.ireturn, 1) := by decide +kernel
theorem d_Coder_sizeOf_0 : decode b_Coder_sizeOf 0 = .ok (.iload_n 0, 1) := by decide +kernel
theorem d_Coder_sizeOf_1 : decode b_Coder_sizeOf 1 = .ok (.sipush 128, 3) := by decide +kernel
theorem d_Coder_sizeOf_4 : decode b_Coder_sizeOf 4 = .ok (.if_icmp .ge 7, 3) := by decide +kernel
theorem d_Coder_sizeOf_7 : decode b_Coder_sizeOf 7 = .ok (.iconst 1, 1) := by decide +kernel
theorem d_Coder_sizeOf_8 : decode b_Coder_sizeOf 8 = .ok (.goto 25, 3) := by decide +kernel
theorem d_Coder_sizeOf_11 : decode b_Coder_sizeOf 11 = .ok (.iload_n 0, 1) := by decide +kernel
theorem d_Coder_sizeOf_12 : decode b_Coder_sizeOf 12 = .ok (.sipush 2048, 3) := by decide +kernel
theorem d_Coder_sizeOf_15 : decode b_Coder_sizeOf 15 = .ok (.if_icmp .ge 7, 3) := by decide +kernel
theorem d_Coder_sizeOf_18 : decode b_Coder_sizeOf 18 = .ok (.iconst 2, 1) := by decide +kernel
theorem d_Coder_sizeOf_19 : decode b_Coder_sizeOf 19 = .ok (.goto 14, 3) := by decide +kernel
theorem d_Coder_sizeOf_22 : decode b_Coder_sizeOf 22 = .ok (.iload_n 0, 1) := by decide +kernel
theorem d_Coder_sizeOf_23 : decode b_Coder_sizeOf 23 = .ok (.ldc 12, 2) := by decide +kernel
theorem d_Coder_sizeOf_25 : decode b_Coder_sizeOf 25 = .ok (.if_icmp .ge 7, 3) := by decide +kernel
theorem d_Coder_sizeOf_28 : decode b_Coder_sizeOf 28 = .ok (.iconst 3, 1) := by decide +kernel
theorem d_Coder_sizeOf_29 : decode b_Coder_sizeOf 29 = .ok (.goto 4, 3) := by decide +kernel
theorem d_Coder_sizeOf_32 : decode b_Coder_sizeOf 32 = .ok (.iconst 4, 1) := by decide +kernel
theorem d_Coder_sizeOf_33 : decode b_Coder_sizeOf 33 = .ok (.ireturn, 1) := by decide +kernel
theorem d_Coder_byteOf_0 : decode b_Coder_byteOf 0 = .ok (.iload_n 1, 1) := by decide +kernel
theorem d_Coder_byteOf_1 : decode b_Coder_byteOf 1 = .ok (.iconst 1, 1) := by decide +kernel
theorem d_Coder_byteOf_2 : decode b_Coder_byteOf 2 = .ok (.if_icmp .ne 5, 3) := by decide +kernel
theorem d_Coder_byteOf_5 : decode b_Coder_byteOf 5 = .ok (.iload_n 0, 1) := by decide +kernel
theorem d_Coder_byteOf_6 : decode b_Coder_byteOf 6 = .ok (.ireturn, 1) := by decide +kernel
theorem d_Coder_byteOf_7 : decode b_Coder_byteOf 7 = .ok (.iload_n 0, 1) := by decide +kernel
theorem d_Coder_byteOf_8 : decode b_Coder_byteOf 8 = .ok (.bipush 6, 2) := by decide +kernel
theorem d_Coder_byteOf_10 : decode b_Coder_byteOf 10 = .ok (.iload_n 1, 1) := by decide +kernel
theorem d_Coder_byteOf_11 : decode b_Coder_byteOf 11 = .ok (.iconst 1, 1) := by decide +kernel
theorem d_Coder_byteOf_12 : decode b_Coder_byteOf 12 = .ok (.isub, 1) := by decide +kernel
theorem d_Coder_byteOf_13 : decode b_Coder_byteOf 13 = .ok (.iload_n 2, 1) := by decide +kernel
theorem d_Coder_byteOf_14 : decode b_Coder_byteOf 14 = .ok (.isub, 1) := by decide +kernel
theorem d_Coder_byteOf_15 : decode b_Coder_byteOf 15 = .ok (.imul, 1) := by decide +kernel
theorem d_Coder_byteOf_16 : decode b_Coder_byteOf 16 = .ok (.ishr, 1) := by decide +kernel
theorem d_Coder_byteOf_17 : decode b_Coder_byteOf 17 = .ok (.istore_n 3, 1) := by decide +kernel
theorem d_Coder_byteOf_18 : decode b_Coder_byteOf 18 = .ok (.iload_n 2, 1) := by decide +kernel
theorem d_Coder_byteOf_19 : decode b_Coder_byteOf 19 = .ok (.ifCond .ne 19, 3) := by decide +kernel
theorem d_Coder_byteOf_22 : decode b_Coder_byteOf 22 = .ok (.sipush 240, 3) := by decide +kernel
theorem d_Coder_byteOf_25 : decode b_Coder_byteOf 25 = .ok (.iconst 4, 1) := by decide +kernel
theorem d_Coder_byteOf_26 : decode b_Coder_byteOf 26 = .ok (.iload_n 1, 1) := by decide +kernel
theorem d_Coder_byteOf_27 : decode b_Coder_byteOf 27 = .ok (.isub, 1) := by decide +kernel
theorem d_Coder_byteOf_28 : decode b_Coder_byteOf 28 = .ok (.ishl, 1) := by decide +kernel
theorem d_Coder_byteOf_29 : decode b_Coder_byteOf 29 = .ok (.sipush 255, 3) := by decide +kernel
theorem d_Coder_byteOf_32 : decode b_Coder_byteOf 32 = .ok (.iand, 1) := by decide +kernel
theorem d_Coder_byteOf_33 : decode b_Coder_byteOf 33 = .ok (.iload_n 3, 1) := by decide +kernel
theorem d_Coder_byteOf_34 : decode b_Coder_byteOf 34 = .ok (.ior, 1) := by decide +kernel
theorem d_Coder_byteOf_35 : decode b_Coder_byteOf 35 = .ok (.goto 11, 3) := by decide +kernel
theorem d_Coder_byteOf_38 : decode b_Coder_byteOf 38 = .ok (.sipush 128, 3) := by decide +kernel
theorem d_Coder_byteOf_41 : decode b_Coder_byteOf 41 = .ok (.iload_n 3, 1) := by decide +kernel
theorem d_Coder_byteOf_42 : decode b_Coder_byteOf 42 = .ok (.bipush 63, 2) := by decide +kernel
theorem d_Coder_byteOf_44 : decode b_Coder_byteOf 44 = .ok (.iand, 1) := by decide +kernel
theorem d_Coder_byteOf_45 : decode b_Coder_byteOf 45 = .ok (.ior, 1) := by decide +kernel
theorem d_Coder_byteOf_46 : decode b_Coder_byteOf 46 = .ok (.ireturn, 1) := by decide +kernel
theorem d_Coder_begins_0 : decode b_Coder_begins 0 = .ok (.iload_n 0, 1) := by decide +kernel
theorem d_Coder_begins_1 : decode b_Coder_begins 1 = .ok (.sipush 128, 3) := by decide +kernel
theorem d_Coder_begins_4 : decode b_Coder_begins 4 = .ok (.if_icmp .ge 7, 3) := by decide +kernel
theorem d_Coder_begins_7 : decode b_Coder_begins 7 = .ok (.iconst 1, 1) := by decide +kernel
theorem d_Coder_begins_8 : decode b_Coder_begins 8 = .ok (.goto 48, 3) := by decide +kernel
theorem d_Coder_begins_11 : decode b_Coder_begins 11 = .ok (.iload_n 0, 1) := by decide +kernel
theorem d_Coder_begins_12 : decode b_Coder_begins 12 = .ok (.sipush 194, 3) := by decide +kernel
theorem d_Coder_begins_15 : decode b_Coder_begins 15 = .ok (.if_icmp .ge 7, 3) := by decide +kernel
theorem d_Coder_begins_18 : decode b_Coder_begins 18 = .ok (.iconst 0, 1) := by decide +kernel
theorem d_Coder_begins_19 : decode b_Coder_begins 19 = .ok (.goto 37, 3) := by decide +kernel
theorem d_Coder_begins_22 : decode b_Coder_begins 22 = .ok (.iload_n 0, 1) := by decide +kernel
theorem d_Coder_begins_23 : decode b_Coder_begins 23 = .ok (.sipush 224, 3) := by decide +kernel
theorem d_Coder_begins_26 : decode b_Coder_begins 26 = .ok (.if_icmp .ge 7, 3) := by decide +kernel
theorem d_Coder_begins_29 : decode b_Coder_begins 29 = .ok (.iconst 2, 1) := by decide +kernel
theorem d_Coder_begins_30 : decode b_Coder_begins 30 = .ok (.goto 26, 3) := by decide +kernel
theorem d_Coder_begins_33 : decode b_Coder_begins 33 = .ok (.iload_n 0, 1) := by decide +kernel
theorem d_Coder_begins_34 : decode b_Coder_begins 34 = .ok (.sipush 240, 3) := by decide +kernel
theorem d_Coder_begins_37 : decode b_Coder_begins 37 = .ok (.if_icmp .ge 7, 3) := by decide +kernel
theorem d_Coder_begins_40 : decode b_Coder_begins 40 = .ok (.iconst 3, 1) := by decide +kernel
theorem d_Coder_begins_41 : decode b_Coder_begins 41 = .ok (.goto 15, 3) := by decide +kernel
theorem d_Coder_begins_44 : decode b_Coder_begins 44 = .ok (.iload_n 0, 1) := by decide +kernel
theorem d_Coder_begins_45 : decode b_Coder_begins 45 = .ok (.sipush 245, 3) := by decide +kernel
theorem d_Coder_begins_48 : decode b_Coder_begins 48 = .ok (.if_icmp .ge 7, 3) := by decide +kernel
theorem d_Coder_begins_51 : decode b_Coder_begins 51 = .ok (.iconst 4, 1) := by decide +kernel
theorem d_Coder_begins_52 : decode b_Coder_begins 52 = .ok (.goto 4, 3) := by decide +kernel
theorem d_Coder_begins_55 : decode b_Coder_begins 55 = .ok (.iconst 0, 1) := by decide +kernel
theorem d_Coder_begins_56 : decode b_Coder_begins 56 = .ok (.ireturn, 1) := by decide +kernel
theorem d_Coder_read_0 : decode b_Coder_read 0 = .ok (.aload_n 1, 1) := by decide +kernel
theorem d_Coder_read_1 : decode b_Coder_read 1 = .ok (.iload_n 2, 1) := by decide +kernel
theorem d_Coder_read_2 : decode b_Coder_read 2 = .ok (.baload, 1) := by decide +kernel
theorem d_Coder_read_3 : decode b_Coder_read 3 = .ok (.sipush 255, 3) := by decide +kernel
theorem d_Coder_read_6 : decode b_Coder_read 6 = .ok (.iand, 1) := by decide +kernel
theorem d_Coder_read_7 : decode b_Coder_read 7 = .ok (.istore 4, 2) := by decide +kernel
theorem d_Coder_read_9 : decode b_Coder_read 9 = .ok (.aload_n 0, 1) := by decide +kernel
theorem d_Coder_read_10 : decode b_Coder_read 10 = .ok (.iload 4, 2) := by decide +kernel
theorem d_Coder_read_12 : decode b_Coder_read 12 = .ok (.invokestatic 13, 3) := by decide +kernel
theorem d_Coder_read_15 : decode b_Coder_read 15 = .ok (.putfield 17, 3) := by decide +kernel
theorem d_Coder_read_18 : decode b_Coder_read 18 = .ok (.aload_n 0, 1) := by decide +kernel
theorem d_Coder_read_19 : decode b_Coder_read 19 = .ok (.getfield 17, 3) := by decide +kernel
theorem d_Coder_read_22 : decode b_Coder_read 22 = .ok (.ifCond .eq 13, 3) := by decide +kernel
theorem d_Coder_read_25 : decode b_Coder_read 25 = .ok (.iload_n 2, 1) := by decide +kernel
theorem d_Coder_read_26 : decode b_Coder_read 26 = .ok (.aload_n 0, 1) := by decide +kernel
theorem d_Coder_read_27 : decode b_Coder_read 27 = .ok (.getfield 17, 3) := by decide +kernel
theorem d_Coder_read_30 : decode b_Coder_read 30 = .ok (.iadd, 1) := by decide +kernel
theorem d_Coder_read_31 : decode b_Coder_read 31 = .ok (.iload_n 3, 1) := by decide +kernel
theorem d_Coder_read_32 : decode b_Coder_read 32 = .ok (.if_icmp .le 5, 3) := by decide +kernel
theorem d_Coder_read_35 : decode b_Coder_read 35 = .ok (.iconst (-1), 1) := by decide +kernel
theorem d_Coder_read_36 : decode b_Coder_read 36 = .ok (.ireturn, 1) := by decide +kernel
theorem d_Coder_read_37 : decode b_Coder_read 37 = .ok (.aload_n 0, 1) := by decide +kernel
theorem d_Coder_read_38 : decode b_Coder_read 38 = .ok (.getfield 17, 3) := by decide +kernel
theorem d_Coder_read_41 : decode b_Coder_read 41 = .ok (.iconst 1, 1) := by decide +kernel
theorem d_Coder_read_42 : decode b_Coder_read 42 = .ok (.if_icmp .ne 8, 3) := by decide +kernel
theorem d_Coder_read_45 : decode b_Coder_read 45 = .ok (.iload 4, 2) := by decide +kernel
theorem d_Coder_read_47 : decode b_Coder_read 47 = .ok (.goto 13, 3) := by decide +kernel
theorem d_Coder_read_50 : decode b_Coder_read 50 = .ok (.iload 4, 2) := by decide +kernel
theorem d_Coder_read_52 : decode b_Coder_read 52 = .ok (.bipush 127, 2) := by decide +kernel
theorem d_Coder_read_54 : decode b_Coder_read 54 = .ok (.aload_n 0, 1) := by decide +kernel
theorem d_Coder_read_55 : decode b_Coder_read 55 = .ok (.getfield 17, 3) := by decide +kernel
theorem d_Coder_read_58 : decode b_Coder_read 58 = .ok (.ishr, 1) := by decide +kernel
theorem d_Coder_read_59 : decode b_Coder_read 59 = .ok (.iand, 1) := by decide +kernel
theorem d_Coder_read_60 : decode b_Coder_read 60 = .ok (.istore 5, 2) := by decide +kernel
theorem d_Coder_read_62 : decode b_Coder_read 62 = .ok (.iconst 1, 1) := by decide +kernel
theorem d_Coder_read_63 : decode b_Coder_read 63 = .ok (.istore 6, 2) := by decide +kernel
theorem d_Coder_read_65 : decode b_Coder_read 65 = .ok (.iload 6, 2) := by decide +kernel
theorem d_Coder_read_67 : decode b_Coder_read 67 = .ok (.aload_n 0, 1) := by decide +kernel
theorem d_Coder_read_68 : decode b_Coder_read 68 = .ok (.getfield 17, 3) := by decide +kernel
theorem d_Coder_read_71 : decode b_Coder_read 71 = .ok (.if_icmp .ge 45, 3) := by decide +kernel
theorem d_Coder_read_74 : decode b_Coder_read 74 = .ok (.aload_n 1, 1) := by decide +kernel
theorem d_Coder_read_75 : decode b_Coder_read 75 = .ok (.iload_n 2, 1) := by decide +kernel
theorem d_Coder_read_76 : decode b_Coder_read 76 = .ok (.iload 6, 2) := by decide +kernel
theorem d_Coder_read_78 : decode b_Coder_read 78 = .ok (.iadd, 1) := by decide +kernel
theorem d_Coder_read_79 : decode b_Coder_read 79 = .ok (.baload, 1) := by decide +kernel
theorem d_Coder_read_80 : decode b_Coder_read 80 = .ok (.sipush 255, 3) := by decide +kernel
theorem d_Coder_read_83 : decode b_Coder_read 83 = .ok (.iand, 1) := by decide +kernel
theorem d_Coder_read_84 : decode b_Coder_read 84 = .ok (.istore 7, 2) := by decide +kernel
theorem d_Coder_read_86 : decode b_Coder_read 86 = .ok (.iload 7, 2) := by decide +kernel
theorem d_Coder_read_88 : decode b_Coder_read 88 = .ok (.bipush 6, 2) := by decide +kernel
theorem d_Coder_read_90 : decode b_Coder_read 90 = .ok (.ishr, 1) := by decide +kernel
theorem d_Coder_read_91 : decode b_Coder_read 91 = .ok (.iconst 2, 1) := by decide +kernel
theorem d_Coder_read_92 : decode b_Coder_read 92 = .ok (.if_icmp .eq 5, 3) := by decide +kernel
theorem d_Coder_read_95 : decode b_Coder_read 95 = .ok (.iconst (-1), 1) := by decide +kernel
theorem d_Coder_read_96 : decode b_Coder_read 96 = .ok (.ireturn, 1) := by decide +kernel
theorem d_Coder_read_97 : decode b_Coder_read 97 = .ok (.iload 5, 2) := by decide +kernel
theorem d_Coder_read_99 : decode b_Coder_read 99 = .ok (.bipush 6, 2) := by decide +kernel
theorem d_Coder_read_101 : decode b_Coder_read 101 = .ok (.ishl, 1) := by decide +kernel
theorem d_Coder_read_102 : decode b_Coder_read 102 = .ok (.iload 7, 2) := by decide +kernel
theorem d_Coder_read_104 : decode b_Coder_read 104 = .ok (.bipush 63, 2) := by decide +kernel
theorem d_Coder_read_106 : decode b_Coder_read 106 = .ok (.iand, 1) := by decide +kernel
theorem d_Coder_read_107 : decode b_Coder_read 107 = .ok (.ior, 1) := by decide +kernel
theorem d_Coder_read_108 : decode b_Coder_read 108 = .ok (.istore 5, 2) := by decide +kernel
theorem d_Coder_read_110 : decode b_Coder_read 110 = .ok (.iinc 6 1, 3) := by decide +kernel
theorem d_Coder_read_113 : decode b_Coder_read 113 = .ok (.goto (-48), 3) := by decide +kernel
theorem d_Coder_read_116 : decode b_Coder_read 116 = .ok (.iload 5, 2) := by decide +kernel
theorem d_Coder_read_118 : decode b_Coder_read 118 = .ok (.invokestatic 21, 3) := by decide +kernel
theorem d_Coder_read_121 : decode b_Coder_read 121 = .ok (.ifCond .eq 20, 3) := by decide +kernel
theorem d_Coder_read_124 : decode b_Coder_read 124 = .ok (.iload 5, 2) := by decide +kernel
theorem d_Coder_read_126 : decode b_Coder_read 126 = .ok (.invokestatic 25, 3) := by decide +kernel
theorem d_Coder_read_129 : decode b_Coder_read 129 = .ok (.aload_n 0, 1) := by decide +kernel
theorem d_Coder_read_130 : decode b_Coder_read 130 = .ok (.getfield 17, 3) := by decide +kernel
theorem d_Coder_read_133 : decode b_Coder_read 133 = .ok (.if_icmp .ne 8, 3) := by decide +kernel
theorem d_Coder_read_136 : decode b_Coder_read 136 = .ok (.iload 5, 2) := by decide +kernel
theorem d_Coder_read_138 : decode b_Coder_read 138 = .ok (.goto 4, 3) := by decide +kernel
theorem d_Coder_read_141 : decode b_Coder_read 141 = .ok (.iconst (-1), 1) := by decide +kernel
theorem d_Coder_read_142 : decode b_Coder_read 142 = .ok (.ireturn, 1) := by decide +kernel
theorem d_Letters_isIn_0 : decode b_Letters_isIn 0 = .ok (.iconst 0, 1) := by decide +kernel
theorem d_Letters_isIn_1 : decode b_Letters_isIn 1 = .ok (.istore_n 2, 1) := by decide +kernel
theorem d_Letters_isIn_2 : decode b_Letters_isIn 2 = .ok (.aload_n 0, 1) := by decide +kernel
theorem d_Letters_isIn_3 : decode b_Letters_isIn 3 = .ok (.arraylength, 1) := by decide +kernel
theorem d_Letters_isIn_4 : decode b_Letters_isIn 4 = .ok (.istore_n 3, 1) := by decide +kernel
theorem d_Letters_isIn_5 : decode b_Letters_isIn 5 = .ok (.iload_n 2, 1) := by decide +kernel
theorem d_Letters_isIn_6 : decode b_Letters_isIn 6 = .ok (.iload_n 3, 1) := by decide +kernel
theorem d_Letters_isIn_7 : decode b_Letters_isIn 7 = .ok (.if_icmp .ge 32, 3) := by decide +kernel
theorem d_Letters_isIn_10 : decode b_Letters_isIn 10 = .ok (.iload_n 2, 1) := by decide +kernel
theorem d_Letters_isIn_11 : decode b_Letters_isIn 11 = .ok (.iload_n 3, 1) := by decide +kernel
theorem d_Letters_isIn_12 : decode b_Letters_isIn 12 = .ok (.iadd, 1) := by decide +kernel
theorem d_Letters_isIn_13 : decode b_Letters_isIn 13 = .ok (.iconst 2, 1) := by decide +kernel
theorem d_Letters_isIn_14 : decode b_Letters_isIn 14 = .ok (.idiv, 1) := by decide +kernel
theorem d_Letters_isIn_15 : decode b_Letters_isIn 15 = .ok (.istore 4, 2) := by decide +kernel
theorem d_Letters_isIn_17 : decode b_Letters_isIn 17 = .ok (.aload_n 0, 1) := by decide +kernel
theorem d_Letters_isIn_18 : decode b_Letters_isIn 18 = .ok (.iload 4, 2) := by decide +kernel
theorem d_Letters_isIn_20 : decode b_Letters_isIn 20 = .ok (.iaload, 1) := by decide +kernel
theorem d_Letters_isIn_21 : decode b_Letters_isIn 21 = .ok (.iload_n 1, 1) := by decide +kernel
theorem d_Letters_isIn_22 : decode b_Letters_isIn 22 = .ok (.if_icmp .gt 11, 3) := by decide +kernel
theorem d_Letters_isIn_25 : decode b_Letters_isIn 25 = .ok (.iload 4, 2) := by decide +kernel
theorem d_Letters_isIn_27 : decode b_Letters_isIn 27 = .ok (.iconst 1, 1) := by decide +kernel
theorem d_Letters_isIn_28 : decode b_Letters_isIn 28 = .ok (.iadd, 1) := by decide +kernel
theorem d_Letters_isIn_29 : decode b_Letters_isIn 29 = .ok (.istore_n 2, 1) := by decide +kernel
theorem d_Letters_isIn_30 : decode b_Letters_isIn 30 = .ok (.goto 6, 3) := by decide +kernel
theorem d_Letters_isIn_33 : decode b_Letters_isIn 33 = .ok (.iload 4, 2) := by decide +kernel
theorem d_Letters_isIn_35 : decode b_Letters_isIn 35 = .ok (.istore_n 3, 1) := by decide +kernel
theorem d_Letters_isIn_36 : decode b_Letters_isIn 36 = .ok (.goto (-31), 3) := by decide +kernel
theorem d_Letters_isIn_39 : decode b_Letters_isIn 39 = .ok (.iload_n 2, 1) := by decide +kernel
theorem d_Letters_isIn_40 : decode b_Letters_isIn 40 = .ok (.iconst 2, 1) := by decide +kernel
theorem d_Letters_isIn_41 : decode b_Letters_isIn 41 = .ok (.irem, 1) := by decide +kernel
theorem d_Letters_isIn_42 : decode b_Letters_isIn 42 = .ok (.iconst 1, 1) := by decide +kernel
theorem d_Letters_isIn_43 : decode b_Letters_isIn 43 = .ok (.if_icmp .ne 7, 3) := by decide +kernel
theorem d_Letters_isIn_46 : decode b_Letters_isIn 46 = .ok (.iconst 1, 1) := by decide +kernel
theorem d_Letters_isIn_47 : decode b_Letters_isIn 47 = .ok (.goto 4, 3) := by decide +kernel
theorem d_Letters_isIn_50 : decode b_Letters_isIn 50 = .ok (.iconst 0, 1) := by decide +kernel
theorem d_Letters_isIn_51 : decode b_Letters_isIn 51 = .ok (.ireturn, 1) := by decide +kernel
theorem d_Letters_isAllowed_0 : decode b_Letters_isAllowed 0 = .ok (.getstatic 7, 3) := by decide +kernel
theorem d_Letters_isAllowed_3 : decode b_Letters_isAllowed 3 = .ok (.iload_n 0, 1) := by decide +kernel
theorem d_Letters_isAllowed_4 : decode b_Letters_isAllowed 4 = .ok (.invokestatic 13, 3) := by decide +kernel
theorem d_Letters_isAllowed_7 : decode b_Letters_isAllowed 7 = .ok (.ireturn, 1) := by decide +kernel
theorem d_Letters_isBlank_0 : decode b_Letters_isBlank 0 = .ok (.iload_n 0, 1) := by decide +kernel
theorem d_Letters_isBlank_1 : decode b_Letters_isBlank 1 = .ok (.bipush 32, 2) := by decide +kernel
theorem d_Letters_isBlank_3 : decode b_Letters_isBlank 3 = .ok (.if_icmp .eq 21, 3) := by decide +kernel
theorem d_Letters_isBlank_6 : decode b_Letters_isBlank 6 = .ok (.iload_n 0, 1) := by decide +kernel
theorem d_Letters_isBlank_7 : decode b_Letters_isBlank 7 = .ok (.bipush 9, 2) := by decide +kernel
theorem d_Letters_isBlank_9 : decode b_Letters_isBlank 9 = .ok (.if_icmp .eq 15, 3) := by decide +kernel
theorem d_Letters_isBlank_12 : decode b_Letters_isBlank 12 = .ok (.iload_n 0, 1) := by decide +kernel
theorem d_Letters_isBlank_13 : decode b_Letters_isBlank 13 = .ok (.bipush 10, 2) := by decide +kernel
theorem d_Letters_isBlank_15 : decode b_Letters_isBlank 15 = .ok (.if_icmp .eq 9, 3) := by decide +kernel
theorem d_Letters_isBlank_18 : decode b_Letters_isBlank 18 = .ok (.iload_n 0, 1) := by decide +kernel
theorem d_Letters_isBlank_19 : decode b_Letters_isBlank 19 = .ok (.bipush 13, 2) := by decide +kernel
theorem d_Letters_isBlank_21 : decode b_Letters_isBlank 21 = .ok (.if_icmp .ne 7, 3) := by decide +kernel
theorem d_Letters_isBlank_24 : decode b_Letters_isBlank 24 = .ok (.iconst 1, 1) := by decide +kernel
theorem d_Letters_isBlank_25 : decode b_Letters_isBlank 25 = .ok (.goto 4, 3) := by decide +kernel
theorem d_Letters_isBlank_28 : decode b_Letters_isBlank 28 = .ok (.iconst 0, 1) := by decide +kernel
theorem d_Letters_isBlank_29 : decode b_Letters_isBlank 29 = .ok (.ireturn, 1) := by decide +kernel
theorem d_Letters_isBegin_0 : decode b_Letters_isBegin 0 = .ok (.getstatic 17, 3) := by decide +kernel
theorem d_Letters_isBegin_3 : decode b_Letters_isBegin 3 = .ok (.iload_n 0, 1) := by decide +kernel
theorem d_Letters_isBegin_4 : decode b_Letters_isBegin 4 = .ok (.invokestatic 13, 3) := by decide +kernel
theorem d_Letters_isBegin_7 : decode b_Letters_isBegin 7 = .ok (.ireturn, 1) := by decide +kernel
theorem d_Letters_isPart_0 : decode b_Letters_isPart 0 = .ok (.iload_n 0, 1) := by decide +kernel
theorem d_Letters_isPart_1 : decode b_Letters_isPart 1 = .ok (.invokestatic 20, 3) := by decide +kernel
theorem d_Letters_isPart_4 : decode b_Letters_isPart 4 = .ok (.ifCond .ne 13, 3) := by decide +kernel
theorem d_Letters_isPart_7 : decode b_Letters_isPart 7 = .ok (.getstatic 24, 3) := by decide +kernel
theorem d_Letters_isPart_10 : decode b_Letters_isPart 10 = .ok (.iload_n 0, 1) := by decide +kernel
theorem d_Letters_isPart_11 : decode b_Letters_isPart 11 = .ok (.invokestatic 13, 3) := by decide +kernel
theorem d_Letters_isPart_14 : decode b_Letters_isPart 14 = .ok (.ifCond .eq 7, 3) := by decide +kernel
theorem d_Letters_isPart_17 : decode b_Letters_isPart 17 = .ok (.iconst 1, 1) := by decide +kernel
theorem d_Letters_isPart_18 : decode b_Letters_isPart 18 = .ok (.goto 4, 3) := by decide +kernel
theorem d_Letters_isPart_21 : decode b_Letters_isPart 21 = .ok (.iconst 0, 1) := by decide +kernel
theorem d_Letters_isPart_22 : decode b_Letters_isPart 22 = .ok (.ireturn, 1) := by decide +kernel
theorem d_Letters_kind_0 : decode b_Letters_kind 0 = .ok (.iload_n 0, 1) := by decide +kernel
theorem d_Letters_kind_1 : decode b_Letters_kind 1 = .ok (.invokestatic 27, 3) := by decide +kernel
theorem d_Letters_kind_4 : decode b_Letters_kind 4 = .ok (.ifCond .eq 7, 3) := by decide +kernel
theorem d_Letters_kind_7 : decode b_Letters_kind 7 = .ok (.iconst 1, 1) := by decide +kernel
theorem d_Letters_kind_8 : decode b_Letters_kind 8 = .ok (.goto 4, 3) := by decide +kernel
theorem d_Letters_kind_11 : decode b_Letters_kind 11 = .ok (.iconst 0, 1) := by decide +kernel
theorem d_Letters_kind_12 : decode b_Letters_kind 12 = .ok (.iload_n 0, 1) := by decide +kernel
theorem d_Letters_kind_13 : decode b_Letters_kind 13 = .ok (.invokestatic 30, 3) := by decide +kernel
theorem d_Letters_kind_16 : decode b_Letters_kind 16 = .ok (.ifCond .eq 7, 3) := by decide +kernel
theorem d_Letters_kind_19 : decode b_Letters_kind 19 = .ok (.iconst 2, 1) := by decide +kernel
theorem d_Letters_kind_20 : decode b_Letters_kind 20 = .ok (.goto 4, 3) := by decide +kernel
theorem d_Letters_kind_23 : decode b_Letters_kind 23 = .ok (.iconst 0, 1) := by decide +kernel
theorem d_Letters_kind_24 : decode b_Letters_kind 24 = .ok (.iadd, 1) := by decide +kernel
theorem d_Letters_kind_25 : decode b_Letters_kind 25 = .ok (.iload_n 0, 1) := by decide +kernel
theorem d_Letters_kind_26 : decode b_Letters_kind 26 = .ok (.invokestatic 20, 3) := by decide +kernel
theorem d_Letters_kind_29 : decode b_Letters_kind 29 = .ok (.ifCond .eq 7, 3) := by decide +kernel
theorem d_Letters_kind_32 : decode b_Letters_kind 32 = .ok (.iconst 4, 1) := by decide +kernel
theorem d_Letters_kind_33 : decode b_Letters_kind 33 = .ok (.goto 4, 3) := by decide +kernel
theorem d_Letters_kind_36 : decode b_Letters_kind 36 = .ok (.iconst 0, 1) := by decide +kernel
theorem d_Letters_kind_37 : decode b_Letters_kind 37 = .ok (.iadd, 1) := by decide +kernel
theorem d_Letters_kind_38 : decode b_Letters_kind 38 = .ok (.iload_n 0, 1) := by decide +kernel
theorem d_Letters_kind_39 : decode b_Letters_kind 39 = .ok (.invokestatic 33, 3) := by decide +kernel
theorem d_Letters_kind_42 : decode b_Letters_kind 42 = .ok (.ifCond .eq 8, 3) := by decide +kernel
theorem d_Letters_kind_45 : decode b_Letters_kind 45 = .ok (.bipush 8, 2) := by decide +kernel
theorem d_Letters_kind_47 : decode b_Letters_kind 47 = .ok (.goto 4, 3) := by decide +kernel
theorem d_Letters_kind_50 : decode b_Letters_kind 50 = .ok (.iconst 0, 1) := by decide +kernel
theorem d_Letters_kind_51 : decode b_Letters_kind 51 = .ok (.iadd, 1) := by decide +kernel
theorem d_Letters_kind_52 : decode b_Letters_kind 52 = .ok (.ireturn, 1) := by decide +kernel
theorem d_Integer_compare_0 : decode b_Integer_compare 0 = .ok (.iload_n 0, 1) := by decide +kernel
theorem d_Integer_compare_1 : decode b_Integer_compare 1 = .ok (.iload_n 1, 1) := by decide +kernel
theorem d_Integer_compare_2 : decode b_Integer_compare 2 = .ok (.if_icmp .ge 7, 3) := by decide +kernel
theorem d_Integer_compare_5 : decode b_Integer_compare 5 = .ok (.iconst (-1), 1) := by decide +kernel
theorem d_Integer_compare_6 : decode b_Integer_compare 6 = .ok (.goto 13, 3) := by decide +kernel
theorem d_Integer_compare_9 : decode b_Integer_compare 9 = .ok (.iload_n 0, 1) := by decide +kernel
theorem d_Integer_compare_10 : decode b_Integer_compare 10 = .ok (.iload_n 1, 1) := by decide +kernel
theorem d_Integer_compare_11 : decode b_Integer_compare 11 = .ok (.if_icmp .ne 7, 3) := by decide +kernel
theorem d_Integer_compare_14 : decode b_Integer_compare 14 = .ok (.iconst 0, 1) := by decide +kernel
theorem d_Integer_compare_15 : decode b_Integer_compare 15 = .ok (.goto 4, 3) := by decide +kernel
theorem d_Integer_compare_18 : decode b_Integer_compare 18 = .ok (.iconst 1, 1) := by decide +kernel
theorem d_Integer_compare_19 : decode b_Integer_compare 19 = .ok (.ireturn, 1) := by decide +kernel
end
section
theorem d_Model_init_0 : decode b_Model_init 0 = .ok (.aload_n 0, 1) := by decide +kernel
theorem d_Model_init_1 : decode b_Model_init 1 = .ok (.invokespecial 1, 3) := by decide +kernel
theorem d_Model_init_4 : decode b_Model_init 4 = .ok (.aload_n 0, 1) := by decide +kernel
theorem d_Model_init_5 : decode b_Model_init 5 = .ok (.sipush 1000, 3) := by decide +kernel
theorem d_Model_init_8 : decode b_Model_init 8 = .ok (.newarray .int, 2) := by decide +kernel
theorem d_Model_init_10 : decode b_Model_init 10 = .ok (.putfield 7, 3) := by decide +kernel
theorem d_Model_init_13 : decode b_Model_init 13 = .ok (.aload_n 0, 1) := by decide +kernel
theorem d_Model_init_14 : decode b_Model_init 14 = .ok (.sipush 1000, 3) := by decide +kernel
theorem d_Model_init_17 : decode b_Model_init 17 = .ok (.newarray .int, 2) := by decide +kernel
theorem d_Model_init_19 : decode b_Model_init 19 = .ok (.putfield 13, 3) := by decide +kernel
theorem d_Model_init_22 : decode b_Model_init 22 = .ok (.aload_n 0, 1) := by decide +kernel
theorem d_Model_init_23 : decode b_Model_init 23 = .ok (.iconst (-1), 1) := by decide +kernel
theorem d_Model_init_24 : decode b_Model_init 24 = .ok (.putfield 16, 3) := by decide +kernel
theorem d_Model_init_27 : decode b_Model_init 27 = .ok (.return_, 1) := by decide +kernel
theorem d_Model_put_0 : decode b_Model_put 0 = .ok (.iload_n 3, 1) := by decide +kernel
theorem d_Model_put_1 : decode b_Model_put 1 = .ok (.iconst 1, 1) := by decide +kernel
theorem d_Model_put_2 : decode b_Model_put 2 = .ok (.if_icmp .lt 21, 3) := by decide +kernel
theorem d_Model_put_5 : decode b_Model_put 5 = .ok (.iload_n 3, 1) := by decide +kernel
theorem d_Model_put_6 : decode b_Model_put 6 = .ok (.bipush 8, 2) := by decide +kernel
theorem d_Model_put_8 : decode b_Model_put 8 = .ok (.if_icmp .gt 15, 3) := by decide +kernel
theorem d_Model_put_11 : decode b_Model_put 11 = .ok (.aload_n 0, 1) := by decide +kernel
theorem d_Model_put_12 : decode b_Model_put 12 = .ok (.getfield 20, 3) := by decide +kernel
theorem d_Model_put_15 : decode b_Model_put 15 = .ok (.iload_n 3, 1) := by decide +kernel
theorem d_Model_put_16 : decode b_Model_put 16 = .ok (.iadd, 1) := by decide +kernel
theorem d_Model_put_17 : decode b_Model_put 17 = .ok (.sipush 1000, 3) := by decide +kernel
theorem d_Model_put_20 : decode b_Model_put 20 = .ok (.if_icmp .le 5, 3) := by decide +kernel
theorem d_Model_put_23 : decode b_Model_put 23 = .ok (.iconst 0, 1) := by decide +kernel
theorem d_Model_put_24 : decode b_Model_put 24 = .ok (.ireturn, 1) := by decide +kernel
theorem d_Model_put_25 : decode b_Model_put 25 = .ok (.iload_n 3, 1) := by decide +kernel
theorem d_Model_put_26 : decode b_Model_put 26 = .ok (.iconst 1, 1) := by decide +kernel
theorem d_Model_put_27 : decode b_Model_put 27 = .ok (.isub, 1) := by decide +kernel
theorem d_Model_put_28 : decode b_Model_put 28 = .ok (.istore 4, 2) := by decide +kernel
theorem d_Model_put_30 : decode b_Model_put 30 = .ok (.iload 4, 2) := by decide +kernel
theorem d_Model_put_32 : decode b_Model_put 32 = .ok (.ifCond .lt 40, 3) := by decide +kernel
theorem d_Model_put_35 : decode b_Model_put 35 = .ok (.aload_n 0, 1) := by decide +kernel
theorem d_Model_put_36 : decode b_Model_put 36 = .ok (.getfield 7, 3) := by decide +kernel
theorem d_Model_put_39 : decode b_Model_put 39 = .ok (.aload_n 0, 1) := by decide +kernel
theorem d_Model_put_40 : decode b_Model_put 40 = .ok (.getfield 20, 3) := by decide +kernel
theorem d_Model_put_43 : decode b_Model_put 43 = .ok (.lload_n 1, 1) := by decide +kernel
theorem d_Model_put_44 : decode b_Model_put 44 = .ok (.bipush 8, 2) := by decide +kernel
theorem d_Model_put_46 : decode b_Model_put 46 = .ok (.iload 4, 2) := by decide +kernel
theorem d_Model_put_48 : decode b_Model_put 48 = .ok (.imul, 1) := by decide +kernel
theorem d_Model_put_49 : decode b_Model_put 49 = .ok (.lshr, 1) := by decide +kernel
theorem d_Model_put_50 : decode b_Model_put 50 = .ok (.ldc2_w 23, 3) := by decide +kernel
theorem d_Model_put_53 : decode b_Model_put 53 = .ok (.land, 1) := by decide +kernel
theorem d_Model_put_54 : decode b_Model_put 54 = .ok (.l2i, 1) := by decide +kernel
theorem d_Model_put_55 : decode b_Model_put 55 = .ok (.iastore, 1) := by decide +kernel
theorem d_Model_put_56 : decode b_Model_put 56 = .ok (.aload_n 0, 1) := by decide +kernel
theorem d_Model_put_57 : decode b_Model_put 57 = .ok (.dup, 1) := by decide +kernel
theorem d_Model_put_58 : decode b_Model_put 58 = .ok (.getfield 20, 3) := by decide +kernel
theorem d_Model_put_61 : decode b_Model_put 61 = .ok (.iconst 1, 1) := by decide +kernel
theorem d_Model_put_62 : decode b_Model_put 62 = .ok (.iadd, 1) := by decide +kernel
theorem d_Model_put_63 : decode b_Model_put 63 = .ok (.putfield 20, 3) := by decide +kernel
theorem d_Model_put_66 : decode b_Model_put 66 = .ok (.iinc 4 (-1), 3) := by decide +kernel
theorem d_Model_put_69 : decode b_Model_put 69 = .ok (.goto (-39), 3) := by decide +kernel
theorem d_Model_put_72 : decode b_Model_put 72 = .ok (.iconst 1, 1) := by decide +kernel
theorem d_Model_put_73 : decode b_Model_put 73 = .ok (.ireturn, 1) := by decide +kernel
theorem d_Model_has_0 : decode b_Model_has 0 = .ok (.iload_n 0, 1) := by decide +kernel
theorem d_Model_has_1 : decode b_Model_has 1 = .ok (.ifCond .lt 9, 3) := by decide +kernel
theorem d_Model_has_4 : decode b_Model_has 4 = .ok (.iload_n 0, 1) := by decide +kernel
theorem d_Model_has_5 : decode b_Model_has 5 = .ok (.ldc 25, 2) := by decide +kernel
theorem d_Model_has_7 : decode b_Model_has 7 = .ok (.if_icmp .lt 15, 3) := by decide +kernel
theorem d_Model_has_10 : decode b_Model_has 10 = .ok (.iload_n 0, 1) := by decide +kernel
theorem d_Model_has_11 : decode b_Model_has 11 = .ok (.ldc 26, 2) := by decide +kernel
theorem d_Model_has_13 : decode b_Model_has 13 = .ok (.if_icmp .le 13, 3) := by decide +kernel
theorem d_Model_has_16 : decode b_Model_has 16 = .ok (.iload_n 0, 1) := by decide +kernel
theorem d_Model_has_17 : decode b_Model_has 17 = .ok (.ldc 27, 2) := by decide +kernel
theorem d_Model_has_19 : decode b_Model_has 19 = .ok (.if_icmp .ge 7, 3) := by decide +kernel
theorem d_Model_has_22 : decode b_Model_has 22 = .ok (.iconst 1, 1) := by decide +kernel
theorem d_Model_has_23 : decode b_Model_has 23 = .ok (.goto 4, 3) := by decide +kernel
theorem d_Model_has_26 : decode b_Model_has 26 = .ok (.iconst 0, 1) := by decide +kernel
theorem d_Model_has_27 : decode b_Model_has 27 = .ok (.ireturn, 1) := by decide +kernel
theorem d_Model_sizeOf_0 : decode b_Model_sizeOf 0 = .ok (.iconst 1, 1) := by decide +kernel
theorem d_Model_sizeOf_1 : decode b_Model_sizeOf 1 = .ok (.istore_n 1, 1) := by decide +kernel
theorem d_Model_sizeOf_2 : decode b_Model_sizeOf 2 = .ok (.iload_n 0, 1) := by decide +kernel
theorem d_Model_sizeOf_3 : decode b_Model_sizeOf 3 = .ok (.bipush 127, 2) := by decide +kernel
theorem d_Model_sizeOf_5 : decode b_Model_sizeOf 5 = .ok (.if_icmp .le 7, 3) := by decide +kernel
theorem d_Model_sizeOf_8 : decode b_Model_sizeOf 8 = .ok (.iconst 2, 1) := by decide +kernel
theorem d_Model_sizeOf_9 : decode b_Model_sizeOf 9 = .ok (.goto 4, 3) := by decide +kernel
theorem d_Model_sizeOf_12 : decode b_Model_sizeOf 12 = .ok (.iload_n 1, 1) := by decide +kernel
theorem d_Model_sizeOf_13 : decode b_Model_sizeOf 13 = .ok (.istore_n 1, 1) := by decide +kernel
theorem d_Model_sizeOf_14 : decode b_Model_sizeOf 14 = .ok (.iload_n 0, 1) := by decide +kernel
theorem d_Model_sizeOf_15 : decode b_Model_sizeOf 15 = .ok (.sipush 2047, 3) := by decide +kernel
theorem d_Model_sizeOf_18 : decode b_Model_sizeOf 18 = .ok (.if_icmp .le 7, 3) := by decide +kernel
theorem d_Model_sizeOf_21 : decode b_Model_sizeOf 21 = .ok (.iconst 3, 1) := by decide +kernel
theorem d_Model_sizeOf_22 : decode b_Model_sizeOf 22 = .ok (.goto 4, 3) := by decide +kernel
theorem d_Model_sizeOf_25 : decode b_Model_sizeOf 25 = .ok (.iload_n 1, 1) := by decide +kernel
theorem d_Model_sizeOf_26 : decode b_Model_sizeOf 26 = .ok (.istore_n 1, 1) := by decide +kernel
theorem d_Model_sizeOf_27 : decode b_Model_sizeOf 27 = .ok (.iload_n 0, 1) := by decide +kernel
theorem d_Model_sizeOf_28 : decode b_Model_sizeOf 28 = .ok (.ldc 28, 2) := by decide +kernel
theorem d_Model_sizeOf_30 : decode b_Model_sizeOf 30 = .ok (.if_icmp .le 7, 3) := by decide +kernel
theorem d_Model_sizeOf_33 : decode b_Model_sizeOf 33 = .ok (.iconst 4, 1) := by decide +kernel
theorem d_Model_sizeOf_34 : decode b_Model_sizeOf 34 = .ok (.goto 4, 3) := by decide +kernel
theorem d_Model_sizeOf_37 : decode b_Model_sizeOf 37 = .ok (.iload_n 1, 1) := by decide +kernel
theorem d_Model_sizeOf_38 : decode b_Model_sizeOf 38 = .ok (.ireturn, 1) := by decide +kernel
theorem d_Model_byteOf_0 : decode b_Model_byteOf 0 = .ok (.iload_n 0, 1) := by decide +kernel
theorem d_Model_byteOf_1 : decode b_Model_byteOf 1 = .ok (.invokestatic 29, 3) := by decide +kernel
theorem d_Model_byteOf_4 : decode b_Model_byteOf 4 = .ok (.istore_n 2, 1) := by decide +kernel
theorem d_Model_byteOf_5 : decode b_Model_byteOf 5 = .ok (.iload_n 0, 1) := by decide +kernel
theorem d_Model_byteOf_6 : decode b_Model_byteOf 6 = .ok (.istore_n 3, 1) := by decide +kernel
theorem d_Model_byteOf_7 : decode b_Model_byteOf 7 = .ok (.iload_n 2, 1) := by decide +kernel
theorem d_Model_byteOf_8 : decode b_Model_byteOf 8 = .ok (.iconst 1, 1) := by decide +kernel
theorem d_Model_byteOf_9 : decode b_Model_byteOf 9 = .ok (.isub, 1) := by decide +kernel
theorem d_Model_byteOf_10 : decode b_Model_byteOf 10 = .ok (.istore 4, 2) := by decide +kernel
theorem d_Model_byteOf_12 : decode b_Model_byteOf 12 = .ok (.iload 4, 2) := by decide +kernel
theorem d_Model_byteOf_14 : decode b_Model_byteOf 14 = .ok (.iload_n 1, 1) := by decide +kernel
theorem d_Model_byteOf_15 : decode b_Model_byteOf 15 = .ok (.if_icmp .le 14, 3) := by decide +kernel
theorem d_Model_byteOf_18 : decode b_Model_byteOf 18 = .ok (.iload_n 3, 1) := by decide +kernel
theorem d_Model_byteOf_19 : decode b_Model_byteOf 19 = .ok (.bipush 64, 2) := by decide +kernel
theorem d_Model_byteOf_21 : decode b_Model_byteOf 21 = .ok (.idiv, 1) := by decide +kernel
theorem d_Model_byteOf_22 : decode b_Model_byteOf 22 = .ok (.istore_n 3, 1) := by decide +kernel
theorem d_Model_byteOf_23 : decode b_Model_byteOf 23 = .ok (.iinc 4 (-1), 3) := by decide +kernel
theorem d_Model_byteOf_26 : decode b_Model_byteOf 26 = .ok (.goto (-14), 3) := by decide +kernel
theorem d_Model_byteOf_29 : decode b_Model_byteOf 29 = .ok (.iload_n 1, 1) := by decide +kernel
theorem d_Model_byteOf_30 : decode b_Model_byteOf 30 = .ok (.ifCond .le 12, 3) := by decide +kernel
theorem d_Model_byteOf_33 : decode b_Model_byteOf 33 = .ok (.sipush 128, 3) := by decide +kernel
theorem d_Model_byteOf_36 : decode b_Model_byteOf 36 = .ok (.iload_n 3, 1) := by decide +kernel
theorem d_Model_byteOf_37 : decode b_Model_byteOf 37 = .ok (.bipush 64, 2) := by decide +kernel
theorem d_Model_byteOf_39 : decode b_Model_byteOf 39 = .ok (.irem, 1) := by decide +kernel
theorem d_Model_byteOf_40 : decode b_Model_byteOf 40 = .ok (.iadd, 1) := by decide +kernel
theorem d_Model_byteOf_41 : decode b_Model_byteOf 41 = .ok (.ireturn, 1) := by decide +kernel
theorem d_Model_byteOf_42 : decode b_Model_byteOf 42 = .ok (.iload_n 2, 1) := by decide +kernel
theorem d_Model_byteOf_43 : decode b_Model_byteOf 43 = .ok (.iconst 1, 1) := by decide +kernel
theorem d_Model_byteOf_44 : decode b_Model_byteOf 44 = .ok (.if_icmp .ne 7, 3) := by decide +kernel
theorem d_Model_byteOf_47 : decode b_Model_byteOf 47 = .ok (.iload_n 0, 1) := by decide +kernel
theorem d_Model_byteOf_48 : decode b_Model_byteOf 48 = .ok (.goto 34, 3) := by decide +kernel
theorem d_Model_byteOf_51 : decode b_Model_byteOf 51 = .ok (.iload_n 2, 1) := by decide +kernel
theorem d_Model_byteOf_52 : decode b_Model_byteOf 52 = .ok (.iconst 2, 1) := by decide +kernel
theorem d_Model_byteOf_53 : decode b_Model_byteOf 53 = .ok (.if_icmp .ne 11, 3) := by decide +kernel
theorem d_Model_byteOf_56 : decode b_Model_byteOf 56 = .ok (.sipush 192, 3) := by decide +kernel
theorem d_Model_byteOf_59 : decode b_Model_byteOf 59 = .ok (.iload_n 3, 1) := by decide +kernel
theorem d_Model_byteOf_60 : decode b_Model_byteOf 60 = .ok (.iadd, 1) := by decide +kernel
theorem d_Model_byteOf_61 : decode b_Model_byteOf 61 = .ok (.goto 21, 3) := by decide +kernel
theorem d_Model_byteOf_64 : decode b_Model_byteOf 64 = .ok (.iload_n 2, 1) := by decide +kernel
theorem d_Model_byteOf_65 : decode b_Model_byteOf 65 = .ok (.iconst 3, 1) := by decide +kernel
theorem d_Model_byteOf_66 : decode b_Model_byteOf 66 = .ok (.if_icmp .ne 11, 3) := by decide +kernel
theorem d_Model_byteOf_69 : decode b_Model_byteOf 69 = .ok (.sipush 224, 3) := by decide +kernel
theorem d_Model_byteOf_72 : decode b_Model_byteOf 72 = .ok (.iload_n 3, 1) := by decide +kernel
theorem d_Model_byteOf_73 : decode b_Model_byteOf 73 = .ok (.iadd, 1) := by decide +kernel
theorem d_Model_byteOf_74 : decode b_Model_byteOf 74 = .ok (.goto 8, 3) := by decide +kernel
theorem d_Model_byteOf_77 : decode b_Model_byteOf 77 = .ok (.sipush 240, 3) := by decide +kernel
theorem d_Model_byteOf_80 : decode b_Model_byteOf 80 = .ok (.iload_n 3, 1) := by decide +kernel
theorem d_Model_byteOf_81 : decode b_Model_byteOf 81 = .ok (.iadd, 1) := by decide +kernel
theorem d_Model_byteOf_82 : decode b_Model_byteOf 82 = .ok (.ireturn, 1) := by decide +kernel
theorem d_Model_character_0 : decode b_Model_character 0 = .ok (.iload_n 1, 1) := by decide +kernel
theorem d_Model_character_1 : decode b_Model_character 1 = .ok (.invokestatic 33, 3) := by decide +kernel
theorem d_Model_character_4 : decode b_Model_character 4 = .ok (.ifCond .eq 18, 3) := by decide +kernel
theorem d_Model_character_7 : decode b_Model_character 7 = .ok (.aload_n 0, 1) := by decide +kernel
theorem d_Model_character_8 : decode b_Model_character 8 = .ok (.getfield 20, 3) := by decide +kernel
theorem d_Model_character_11 : decode b_Model_character 11 = .ok (.iload_n 1, 1) := by decide +kernel
theorem d_Model_character_12 : decode b_Model_character 12 = .ok (.invokestatic 29, 3) := by decide +kernel
theorem d_Model_character_15 : decode b_Model_character 15 = .ok (.iadd, 1) := by decide +kernel
theorem d_Model_character_16 : decode b_Model_character 16 = .ok (.sipush 1000, 3) := by decide +kernel
theorem d_Model_character_19 : decode b_Model_character 19 = .ok (.if_icmp .le 5, 3) := by decide +kernel
theorem d_Model_character_22 : decode b_Model_character 22 = .ok (.iconst 0, 1) := by decide +kernel
theorem d_Model_character_23 : decode b_Model_character 23 = .ok (.ireturn, 1) := by decide +kernel
theorem d_Model_character_24 : decode b_Model_character 24 = .ok (.iload_n 1, 1) := by decide +kernel
theorem d_Model_character_25 : decode b_Model_character 25 = .ok (.invokestatic 29, 3) := by decide +kernel
theorem d_Model_character_28 : decode b_Model_character 28 = .ok (.istore_n 2, 1) := by decide +kernel
theorem d_Model_character_29 : decode b_Model_character 29 = .ok (.iconst 0, 1) := by decide +kernel
theorem d_Model_character_30 : decode b_Model_character 30 = .ok (.istore_n 3, 1) := by decide +kernel
theorem d_Model_character_31 : decode b_Model_character 31 = .ok (.iload_n 3, 1) := by decide +kernel
theorem d_Model_character_32 : decode b_Model_character 32 = .ok (.iload_n 2, 1) := by decide +kernel
theorem d_Model_character_33 : decode b_Model_character 33 = .ok (.if_icmp .ge 33, 3) := by decide +kernel
theorem d_Model_character_36 : decode b_Model_character 36 = .ok (.aload_n 0, 1) := by decide +kernel
theorem d_Model_character_37 : decode b_Model_character 37 = .ok (.getfield 7, 3) := by decide +kernel
theorem d_Model_character_40 : decode b_Model_character 40 = .ok (.aload_n 0, 1) := by decide +kernel
theorem d_Model_character_41 : decode b_Model_character 41 = .ok (.getfield 20, 3) := by decide +kernel
theorem d_Model_character_44 : decode b_Model_character 44 = .ok (.iload_n 1, 1) := by decide +kernel
theorem d_Model_character_45 : decode b_Model_character 45 = .ok (.iload_n 3, 1) := by decide +kernel
theorem d_Model_character_46 : decode b_Model_character 46 = .ok (.invokestatic 37, 3) := by decide +kernel
theorem d_Model_character_49 : decode b_Model_character 49 = .ok (.iastore, 1) := by decide +kernel
theorem d_Model_character_50 : decode b_Model_character 50 = .ok (.aload_n 0, 1) := by decide +kernel
theorem d_Model_character_51 : decode b_Model_character 51 = .ok (.dup, 1) := by decide +kernel
theorem d_Model_character_52 : decode b_Model_character 52 = .ok (.getfield 20, 3) := by decide +kernel
theorem d_Model_character_55 : decode b_Model_character 55 = .ok (.iconst 1, 1) := by decide +kernel
theorem d_Model_character_56 : decode b_Model_character 56 = .ok (.iadd, 1) := by decide +kernel
theorem d_Model_character_57 : decode b_Model_character 57 = .ok (.putfield 20, 3) := by decide +kernel
theorem d_Model_character_60 : decode b_Model_character 60 = .ok (.iinc 3 1, 3) := by decide +kernel
theorem d_Model_character_63 : decode b_Model_character 63 = .ok (.goto (-32), 3) := by decide +kernel
theorem d_Model_character_66 : decode b_Model_character 66 = .ok (.iconst 1, 1) := by decide +kernel
theorem d_Model_character_67 : decode b_Model_character 67 = .ok (.ireturn, 1) := by decide +kernel
theorem d_Model_sequence_0 : decode b_Model_sequence 0 = .ok (.aload_n 0, 1) := by decide +kernel
theorem d_Model_sequence_1 : decode b_Model_sequence 1 = .ok (.getfield 13, 3) := by decide +kernel
theorem d_Model_sequence_4 : decode b_Model_sequence 4 = .ok (.aload_n 0, 1) := by decide +kernel
theorem d_Model_sequence_5 : decode b_Model_sequence 5 = .ok (.getfield 41, 3) := by decide +kernel
theorem d_Model_sequence_8 : decode b_Model_sequence 8 = .ok (.iaload, 1) := by decide +kernel
theorem d_Model_sequence_9 : decode b_Model_sequence 9 = .ok (.istore_n 1, 1) := by decide +kernel
theorem d_Model_sequence_10 : decode b_Model_sequence 10 = .ok (.iload_n 1, 1) := by decide +kernel
theorem d_Model_sequence_11 : decode b_Model_sequence 11 = .ok (.sipush 128, 3) := by decide +kernel
theorem d_Model_sequence_14 : decode b_Model_sequence 14 = .ok (.if_icmp .ge 7, 3) := by decide +kernel
theorem d_Model_sequence_17 : decode b_Model_sequence 17 = .ok (.iconst 1, 1) := by decide +kernel
theorem d_Model_sequence_18 : decode b_Model_sequence 18 = .ok (.goto 48, 3) := by decide +kernel
theorem d_Model_sequence_21 : decode b_Model_sequence 21 = .ok (.iload_n 1, 1) := by decide +kernel
theorem d_Model_sequence_22 : decode b_Model_sequence 22 = .ok (.sipush 192, 3) := by decide +kernel
theorem d_Model_sequence_25 : decode b_Model_sequence 25 = .ok (.if_icmp .ge 7, 3) := by decide +kernel
theorem d_Model_sequence_28 : decode b_Model_sequence 28 = .ok (.iconst 0, 1) := by decide +kernel
theorem d_Model_sequence_29 : decode b_Model_sequence 29 = .ok (.goto 37, 3) := by decide +kernel
theorem d_Model_sequence_32 : decode b_Model_sequence 32 = .ok (.iload_n 1, 1) := by decide +kernel
theorem d_Model_sequence_33 : decode b_Model_sequence 33 = .ok (.sipush 224, 3) := by decide +kernel
theorem d_Model_sequence_36 : decode b_Model_sequence 36 = .ok (.if_icmp .ge 7, 3) := by decide +kernel
theorem d_Model_sequence_39 : decode b_Model_sequence 39 = .ok (.iconst 2, 1) := by decide +kernel
theorem d_Model_sequence_40 : decode b_Model_sequence 40 = .ok (.goto 26, 3) := by decide +kernel
theorem d_Model_sequence_43 : decode b_Model_sequence 43 = .ok (.iload_n 1, 1) := by decide +kernel
theorem d_Model_sequence_44 : decode b_Model_sequence 44 = .ok (.sipush 240, 3) := by decide +kernel
theorem d_Model_sequence_47 : decode b_Model_sequence 47 = .ok (.if_icmp .ge 7, 3) := by decide +kernel
theorem d_Model_sequence_50 : decode b_Model_sequence 50 = .ok (.iconst 3, 1) := by decide +kernel
theorem d_Model_sequence_51 : decode b_Model_sequence 51 = .ok (.goto 15, 3) := by decide +kernel
theorem d_Model_sequence_54 : decode b_Model_sequence 54 = .ok (.iload_n 1, 1) := by decide +kernel
theorem d_Model_sequence_55 : decode b_Model_sequence 55 = .ok (.sipush 248, 3) := by decide +kernel
theorem d_Model_sequence_58 : decode b_Model_sequence 58 = .ok (.if_icmp .ge 7, 3) := by decide +kernel
theorem d_Model_sequence_61 : decode b_Model_sequence 61 = .ok (.iconst 4, 1) := by decide +kernel
theorem d_Model_sequence_62 : decode b_Model_sequence 62 = .ok (.goto 4, 3) := by decide +kernel
theorem d_Model_sequence_65 : decode b_Model_sequence 65 = .ok (.iconst 0, 1) := by decide +kernel
theorem d_Model_sequence_66 : decode b_Model_sequence 66 = .ok (.istore_n 2, 1) := by decide +kernel
theorem d_Model_sequence_67 : decode b_Model_sequence 67 = .ok (.iload_n 2, 1) := by decide +kernel
theorem d_Model_sequence_68 : decode b_Model_sequence 68 = .ok (.ifCond .eq 16, 3) := by decide +kernel
theorem d_Model_sequence_71 : decode b_Model_sequence 71 = .ok (.aload_n 0, 1) := by decide +kernel
theorem d_Model_sequence_72 : decode b_Model_sequence 72 = .ok (.getfield 41, 3) := by decide +kernel
theorem d_Model_sequence_75 : decode b_Model_sequence 75 = .ok (.iload_n 2, 1) := by decide +kernel
theorem d_Model_sequence_76 : decode b_Model_sequence 76 = .ok (.iadd, 1) := by decide +kernel
theorem d_Model_sequence_77 : decode b_Model_sequence 77 = .ok (.aload_n 0, 1) := by decide +kernel
theorem d_Model_sequence_78 : decode b_Model_sequence 78 = .ok (.getfield 44, 3) := by decide +kernel
theorem d_Model_sequence_81 : decode b_Model_sequence 81 = .ok (.if_icmp .le 5, 3) := by decide +kernel
theorem d_Model_sequence_84 : decode b_Model_sequence 84 = .ok (.iconst (-1), 1) := by decide +kernel
theorem d_Model_sequence_85 : decode b_Model_sequence 85 = .ok (.ireturn, 1) := by decide +kernel
theorem d_Model_sequence_86 : decode b_Model_sequence 86 = .ok (.iload_n 2, 1) := by decide +kernel
theorem d_Model_sequence_87 : decode b_Model_sequence 87 = .ok (.iconst 1, 1) := by decide +kernel
theorem d_Model_sequence_88 : decode b_Model_sequence 88 = .ok (.if_icmp .ne 7, 3) := by decide +kernel
theorem d_Model_sequence_91 : decode b_Model_sequence 91 = .ok (.iload_n 1, 1) := by decide +kernel
theorem d_Model_sequence_92 : decode b_Model_sequence 92 = .ok (.goto 34, 3) := by decide +kernel
theorem d_Model_sequence_95 : decode b_Model_sequence 95 = .ok (.iload_n 2, 1) := by decide +kernel
theorem d_Model_sequence_96 : decode b_Model_sequence 96 = .ok (.iconst 2, 1) := by decide +kernel
theorem d_Model_sequence_97 : decode b_Model_sequence 97 = .ok (.if_icmp .ne 11, 3) := by decide +kernel
theorem d_Model_sequence_100 : decode b_Model_sequence 100 = .ok (.iload_n 1, 1) := by decide +kernel
theorem d_Model_sequence_101 : decode b_Model_sequence 101 = .ok (.sipush 192, 3) := by decide +kernel
theorem d_Model_sequence_104 : decode b_Model_sequence 104 = .ok (.isub, 1) := by decide +kernel
theorem d_Model_sequence_105 : decode b_Model_sequence 105 = .ok (.goto 21, 3) := by decide +kernel
theorem d_Model_sequence_108 : decode b_Model_sequence 108 = .ok (.iload_n 2, 1) := by decide +kernel
theorem d_Model_sequence_109 : decode b_Model_sequence 109 = .ok (.iconst 3, 1) := by decide +kernel
theorem d_Model_sequence_110 : decode b_Model_sequence 110 = .ok (.if_icmp .ne 11, 3) := by decide +kernel
theorem d_Model_sequence_113 : decode b_Model_sequence 113 = .ok (.iload_n 1, 1) := by decide +kernel
theorem d_Model_sequence_114 : decode b_Model_sequence 114 = .ok (.sipush 224, 3) := by decide +kernel
theorem d_Model_sequence_117 : decode b_Model_sequence 117 = .ok (.isub, 1) := by decide +kernel
theorem d_Model_sequence_118 : decode b_Model_sequence 118 = .ok (.goto 8, 3) := by decide +kernel
theorem d_Model_sequence_121 : decode b_Model_sequence 121 = .ok (.iload_n 1, 1) := by decide +kernel
theorem d_Model_sequence_122 : decode b_Model_sequence 122 = .ok (.sipush 240, 3) := by decide +kernel
theorem d_Model_sequence_125 : decode b_Model_sequence 125 = .ok (.isub, 1) := by decide +kernel
theorem d_Model_sequence_126 : decode b_Model_sequence 126 = .ok (.istore_n 3, 1) := by decide +kernel
theorem d_Model_sequence_127 : decode b_Model_sequence 127 = .ok (.iconst 1, 1) := by decide +kernel
theorem d_Model_sequence_128 : decode b_Model_sequence 128 = .ok (.istore 4, 2) := by decide +kernel
theorem d_Model_sequence_130 : decode b_Model_sequence 130 = .ok (.iload 4, 2) := by decide +kernel
theorem d_Model_sequence_132 : decode b_Model_sequence 132 = .ok (.iload_n 2, 1) := by decide +kernel
theorem d_Model_sequence_133 : decode b_Model_sequence 133 = .ok (.if_icmp .ge 53, 3) := by decide +kernel
theorem d_Model_sequence_136 : decode b_Model_sequence 136 = .ok (.aload_n 0, 1) := by decide +kernel
theorem d_Model_sequence_137 : decode b_Model_sequence 137 = .ok (.getfield 13, 3) := by decide +kernel
theorem d_Model_sequence_140 : decode b_Model_sequence 140 = .ok (.aload_n 0, 1) := by decide +kernel
theorem d_Model_sequence_141 : decode b_Model_sequence 141 = .ok (.getfield 41, 3) := by decide +kernel
theorem d_Model_sequence_144 : decode b_Model_sequence 144 = .ok (.iload 4, 2) := by decide +kernel
theorem d_Model_sequence_146 : decode b_Model_sequence 146 = .ok (.iadd, 1) := by decide +kernel
theorem d_Model_sequence_147 : decode b_Model_sequence 147 = .ok (.iaload, 1) := by decide +kernel
theorem d_Model_sequence_148 : decode b_Model_sequence 148 = .ok (.istore 5, 2) := by decide +kernel
theorem d_Model_sequence_150 : decode b_Model_sequence 150 = .ok (.iload 5, 2) := by decide +kernel
theorem d_Model_sequence_152 : decode b_Model_sequence 152 = .ok (.sipush 128, 3) := by decide +kernel
theorem d_Model_sequence_155 : decode b_Model_sequence 155 = .ok (.if_icmp .lt 11, 3) := by decide +kernel
theorem d_Model_sequence_158 : decode b_Model_sequence 158 = .ok (.iload 5, 2) := by decide +kernel
theorem d_Model_sequence_160 : decode b_Model_sequence 160 = .ok (.sipush 191, 3) := by decide +kernel
theorem d_Model_sequence_163 : decode b_Model_sequence 163 = .ok (.if_icmp .le 5, 3) := by decide +kernel
theorem d_Model_sequence_166 : decode b_Model_sequence 166 = .ok (.iconst (-1), 1) := by decide +kernel
theorem d_Model_sequence_167 : decode b_Model_sequence 167 = .ok (.ireturn, 1) := by decide +kernel
theorem d_Model_sequence_168 : decode b_Model_sequence 168 = .ok (.bipush 64, 2) := by decide +kernel
theorem d_Model_sequence_170 : decode b_Model_sequence 170 = .ok (.iload_n 3, 1) := by decide +kernel
theorem d_Model_sequence_171 : decode b_Model_sequence 171 = .ok (.imul, 1) := by decide +kernel
theorem d_Model_sequence_172 : decode b_Model_sequence 172 = .ok (.iload 5, 2) := by decide +kernel
theorem d_Model_sequence_174 : decode b_Model_sequence 174 = .ok (.iadd, 1) := by decide +kernel
theorem d_Model_sequence_175 : decode b_Model_sequence 175 = .ok (.sipush 128, 3) := by decide +kernel
theorem d_Model_sequence_178 : decode b_Model_sequence 178 = .ok (.isub, 1) := by decide +kernel
theorem d_Model_sequence_179 : decode b_Model_sequence 179 = .ok (.istore_n 3, 1) := by decide +kernel
theorem d_Model_sequence_180 : decode b_Model_sequence 180 = .ok (.iinc 4 1, 3) := by decide +kernel
theorem d_Model_sequence_183 : decode b_Model_sequence 183 = .ok (.goto (-53), 3) := by decide +kernel
theorem d_Model_sequence_186 : decode b_Model_sequence 186 = .ok (.iload_n 3, 1) := by decide +kernel
theorem d_Model_sequence_187 : decode b_Model_sequence 187 = .ok (.invokestatic 33, 3) := by decide +kernel
theorem d_Model_sequence_190 : decode b_Model_sequence 190 = .ok (.ifCond .eq 11, 3) := by decide +kernel
theorem d_Model_sequence_193 : decode b_Model_sequence 193 = .ok (.iload_n 3, 1) := by decide +kernel
theorem d_Model_sequence_194 : decode b_Model_sequence 194 = .ok (.invokestatic 29, 3) := by decide +kernel
theorem d_Model_sequence_197 : decode b_Model_sequence 197 = .ok (.iload_n 2, 1) := by decide +kernel
theorem d_Model_sequence_198 : decode b_Model_sequence 198 = .ok (.if_icmp .eq 5, 3) := by decide +kernel
theorem d_Model_sequence_201 : decode b_Model_sequence 201 = .ok (.iconst (-1), 1) := by decide +kernel
theorem d_Model_sequence_202 : decode b_Model_sequence 202 = .ok (.ireturn, 1) := by decide +kernel
theorem d_Model_sequence_203 : decode b_Model_sequence 203 = .ok (.aload_n 0, 1) := by decide +kernel
theorem d_Model_sequence_204 : decode b_Model_sequence 204 = .ok (.aload_n 0, 1) := by decide +kernel
theorem d_Model_sequence_205 : decode b_Model_sequence 205 = .ok (.getfield 41, 3) := by decide +kernel
theorem d_Model_sequence_208 : decode b_Model_sequence 208 = .ok (.iload_n 2, 1) := by decide +kernel
theorem d_Model_sequence_209 : decode b_Model_sequence 209 = .ok (.iadd, 1) := by decide +kernel
theorem d_Model_sequence_210 : decode b_Model_sequence 210 = .ok (.putfield 41, 3) := by decide +kernel
theorem d_Model_sequence_213 : decode b_Model_sequence 213 = .ok (.iload_n 3, 1) := by decide +kernel
theorem d_Model_sequence_214 : decode b_Model_sequence 214 = .ok (.ireturn, 1) := by decide +kernel
theorem d_Model_isAllowed_0 : decode b_Model_isAllowed 0 = .ok (.iload_n 0, 1) := by decide +kernel
theorem d_Model_isAllowed_1 : decode b_Model_isAllowed 1 = .ok (.bipush 9, 2) := by decide +kernel
theorem d_Model_isAllowed_3 : decode b_Model_isAllowed 3 = .ok (.if_icmp .eq 51, 3) := by decide +kernel
theorem d_Model_isAllowed_6 : decode b_Model_isAllowed 6 = .ok (.iload_n 0, 1) := by decide +kernel
theorem d_Model_isAllowed_7 : decode b_Model_isAllowed 7 = .ok (.bipush 10, 2) := by decide +kernel
theorem d_Model_isAllowed_9 : decode b_Model_isAllowed 9 = .ok (.if_icmp .eq 45, 3) := by decide +kernel
theorem d_Model_isAllowed_12 : decode b_Model_isAllowed 12 = .ok (.iload_n 0, 1) := by decide +kernel
theorem d_Model_isAllowed_13 : decode b_Model_isAllowed 13 = .ok (.bipush 13, 2) := by decide +kernel
theorem d_Model_isAllowed_15 : decode b_Model_isAllowed 15 = .ok (.if_icmp .eq 39, 3) := by decide +kernel
theorem d_Model_isAllowed_18 : decode b_Model_isAllowed 18 = .ok (.iload_n 0, 1) := by decide +kernel
theorem d_Model_isAllowed_19 : decode b_Model_isAllowed 19 = .ok (.bipush 32, 2) := by decide +kernel
theorem d_Model_isAllowed_21 : decode b_Model_isAllowed 21 = .ok (.if_icmp .lt 9, 3) := by decide +kernel
theorem d_Model_isAllowed_24 : decode b_Model_isAllowed 24 = .ok (.iload_n 0, 1) := by decide +kernel
theorem d_Model_isAllowed_25 : decode b_Model_isAllowed 25 = .ok (.ldc 25, 2) := by decide +kernel
theorem d_Model_isAllowed_27 : decode b_Model_isAllowed 27 = .ok (.if_icmp .lt 27, 3) := by decide +kernel
theorem d_Model_isAllowed_30 : decode b_Model_isAllowed 30 = .ok (.iload_n 0, 1) := by decide +kernel
theorem d_Model_isAllowed_31 : decode b_Model_isAllowed 31 = .ok (.ldc 47, 2) := by decide +kernel
theorem d_Model_isAllowed_33 : decode b_Model_isAllowed 33 = .ok (.if_icmp .lt 9, 3) := by decide +kernel
theorem d_Model_isAllowed_36 : decode b_Model_isAllowed 36 = .ok (.iload_n 0, 1) := by decide +kernel
theorem d_Model_isAllowed_37 : decode b_Model_isAllowed 37 = .ok (.ldc 48, 2) := by decide +kernel
theorem d_Model_isAllowed_39 : decode b_Model_isAllowed 39 = .ok (.if_icmp .lt 15, 3) := by decide +kernel
theorem d_Model_isAllowed_42 : decode b_Model_isAllowed 42 = .ok (.iload_n 0, 1) := by decide +kernel
theorem d_Model_isAllowed_43 : decode b_Model_isAllowed 43 = .ok (.ldc 49, 2) := by decide +kernel
theorem d_Model_isAllowed_45 : decode b_Model_isAllowed 45 = .ok (.if_icmp .lt 13, 3) := by decide +kernel
theorem d_Model_isAllowed_48 : decode b_Model_isAllowed 48 = .ok (.iload_n 0, 1) := by decide +kernel
theorem d_Model_isAllowed_49 : decode b_Model_isAllowed 49 = .ok (.ldc 27, 2) := by decide +kernel
theorem d_Model_isAllowed_51 : decode b_Model_isAllowed 51 = .ok (.if_icmp .ge 7, 3) := by decide +kernel
theorem d_Model_isAllowed_54 : decode b_Model_isAllowed 54 = .ok (.iconst 1, 1) := by decide +kernel
theorem d_Model_isAllowed_55 : decode b_Model_isAllowed 55 = .ok (.goto 4, 3) := by decide +kernel
theorem d_Model_isAllowed_58 : decode b_Model_isAllowed 58 = .ok (.iconst 0, 1) := by decide +kernel
theorem d_Model_isAllowed_59 : decode b_Model_isAllowed 59 = .ok (.ireturn, 1) := by decide +kernel
theorem d_Model_next_0 : decode b_Model_next 0 = .ok (.aload_n 0, 1) := by decide +kernel
theorem d_Model_next_1 : decode b_Model_next 1 = .ok (.getfield 41, 3) := by decide +kernel
theorem d_Model_next_4 : decode b_Model_next 4 = .ok (.ifCond .ne 52, 3) := by decide +kernel
theorem d_Model_next_7 : decode b_Model_next 7 = .ok (.aload_n 0, 1) := by decide +kernel
theorem d_Model_next_8 : decode b_Model_next 8 = .ok (.getfield 44, 3) := by decide +kernel
theorem d_Model_next_11 : decode b_Model_next 11 = .ok (.iconst 2, 1) := by decide +kernel
theorem d_Model_next_12 : decode b_Model_next 12 = .ok (.if_icmp .le 44, 3) := by decide +kernel
theorem d_Model_next_15 : decode b_Model_next 15 = .ok (.aload_n 0, 1) := by decide +kernel
theorem d_Model_next_16 : decode b_Model_next 16 = .ok (.getfield 13, 3) := by decide +kernel
theorem d_Model_next_19 : decode b_Model_next 19 = .ok (.iconst 0, 1) := by decide +kernel
theorem d_Model_next_20 : decode b_Model_next 20 = .ok (.iaload, 1) := by decide +kernel
theorem d_Model_next_21 : decode b_Model_next 21 = .ok (.sipush 239, 3) := by decide +kernel
theorem d_Model_next_24 : decode b_Model_next 24 = .ok (.if_icmp .ne 32, 3) := by decide +kernel
theorem d_Model_next_27 : decode b_Model_next 27 = .ok (.aload_n 0, 1) := by decide +kernel
theorem d_Model_next_28 : decode b_Model_next 28 = .ok (.getfield 13, 3) := by decide +kernel
theorem d_Model_next_31 : decode b_Model_next 31 = .ok (.iconst 1, 1) := by decide +kernel
theorem d_Model_next_32 : decode b_Model_next 32 = .ok (.iaload, 1) := by decide +kernel
theorem d_Model_next_33 : decode b_Model_next 33 = .ok (.sipush 187, 3) := by decide +kernel
theorem d_Model_next_36 : decode b_Model_next 36 = .ok (.if_icmp .ne 20, 3) := by decide +kernel
theorem d_Model_next_39 : decode b_Model_next 39 = .ok (.aload_n 0, 1) := by decide +kernel
theorem d_Model_next_40 : decode b_Model_next 40 = .ok (.getfield 13, 3) := by decide +kernel
theorem d_Model_next_43 : decode b_Model_next 43 = .ok (.iconst 2, 1) := by decide +kernel
theorem d_Model_next_44 : decode b_Model_next 44 = .ok (.iaload, 1) := by decide +kernel
theorem d_Model_next_45 : decode b_Model_next 45 = .ok (.sipush 191, 3) := by decide +kernel
theorem d_Model_next_48 : decode b_Model_next 48 = .ok (.if_icmp .ne 8, 3) := by decide +kernel
theorem d_Model_next_51 : decode b_Model_next 51 = .ok (.aload_n 0, 1) := by decide +kernel
theorem d_Model_next_52 : decode b_Model_next 52 = .ok (.iconst 3, 1) := by decide +kernel
theorem d_Model_next_53 : decode b_Model_next 53 = .ok (.putfield 41, 3) := by decide +kernel
theorem d_Model_next_56 : decode b_Model_next 56 = .ok (.aload_n 0, 1) := by decide +kernel
theorem d_Model_next_57 : decode b_Model_next 57 = .ok (.getfield 41, 3) := by decide +kernel
theorem d_Model_next_60 : decode b_Model_next 60 = .ok (.aload_n 0, 1) := by decide +kernel
theorem d_Model_next_61 : decode b_Model_next 61 = .ok (.getfield 44, 3) := by decide +kernel
theorem d_Model_next_64 : decode b_Model_next 64 = .ok (.if_icmp .lt 5, 3) := by decide +kernel
theorem d_Model_next_67 : decode b_Model_next 67 = .ok (.iconst 0, 1) := by decide +kernel
theorem d_Model_next_68 : decode b_Model_next 68 = .ok (.ireturn, 1) := by decide +kernel
theorem d_Model_next_69 : decode b_Model_next 69 = .ok (.aload_n 0, 1) := by decide +kernel
theorem d_Model_next_70 : decode b_Model_next 70 = .ok (.aload_n 0, 1) := by decide +kernel
theorem d_Model_next_71 : decode b_Model_next 71 = .ok (.getfield 41, 3) := by decide +kernel
theorem d_Model_next_74 : decode b_Model_next 74 = .ok (.putfield 50, 3) := by decide +kernel
theorem d_Model_next_77 : decode b_Model_next 77 = .ok (.aload_n 0, 1) := by decide +kernel
theorem d_Model_next_78 : decode b_Model_next 78 = .ok (.aload_n 0, 1) := by decide +kernel
theorem d_Model_next_79 : decode b_Model_next 79 = .ok (.invokevirtual 53, 3) := by decide +kernel
theorem d_Model_next_82 : decode b_Model_next 82 = .ok (.putfield 57, 3) := by decide +kernel
theorem d_Model_next_85 : decode b_Model_next 85 = .ok (.aload_n 0, 1) := by decide +kernel
theorem d_Model_next_86 : decode b_Model_next 86 = .ok (.getfield 57, 3) := by decide +kernel
theorem d_Model_next_89 : decode b_Model_next 89 = .ok (.bipush 13, 2) := by decide +kernel
theorem d_Model_next_91 : decode b_Model_next 91 = .ok (.if_icmp .ne 51, 3) := by decide +kernel
theorem d_Model_next_94 : decode b_Model_next 94 = .ok (.aload_n 0, 1) := by decide +kernel
theorem d_Model_next_95 : decode b_Model_next 95 = .ok (.bipush 10, 2) := by decide +kernel
theorem d_Model_next_97 : decode b_Model_next 97 = .ok (.putfield 57, 3) := by decide +kernel
theorem d_Model_next_100 : decode b_Model_next 100 = .ok (.aload_n 0, 1) := by decide +kernel
theorem d_Model_next_101 : decode b_Model_next 101 = .ok (.aload_n 0, 1) := by decide +kernel
theorem d_Model_next_102 : decode b_Model_next 102 = .ok (.getfield 41, 3) := by decide +kernel
theorem d_Model_next_105 : decode b_Model_next 105 = .ok (.aload_n 0, 1) := by decide +kernel
theorem d_Model_next_106 : decode b_Model_next 106 = .ok (.getfield 44, 3) := by decide +kernel
theorem d_Model_next_109 : decode b_Model_next 109 = .ok (.if_icmp .ge 26, 3) := by decide +kernel
theorem d_Model_next_112 : decode b_Model_next 112 = .ok (.aload_n 0, 1) := by decide +kernel
theorem d_Model_next_113 : decode b_Model_next 113 = .ok (.getfield 13, 3) := by decide +kernel
theorem d_Model_next_116 : decode b_Model_next 116 = .ok (.aload_n 0, 1) := by decide +kernel
theorem d_Model_next_117 : decode b_Model_next 117 = .ok (.getfield 41, 3) := by decide +kernel
theorem d_Model_next_120 : decode b_Model_next 120 = .ok (.iaload, 1) := by decide +kernel
theorem d_Model_next_121 : decode b_Model_next 121 = .ok (.bipush 10, 2) := by decide +kernel
theorem d_Model_next_123 : decode b_Model_next 123 = .ok (.if_icmp .ne 12, 3) := by decide +kernel
theorem d_Model_next_126 : decode b_Model_next 126 = .ok (.aload_n 0, 1) := by decide +kernel
theorem d_Model_next_127 : decode b_Model_next 127 = .ok (.getfield 41, 3) := by decide +kernel
theorem d_Model_next_130 : decode b_Model_next 130 = .ok (.iconst 1, 1) := by decide +kernel
theorem d_Model_next_131 : decode b_Model_next 131 = .ok (.iadd, 1) := by decide +kernel
theorem d_Model_next_132 : decode b_Model_next 132 = .ok (.goto 7, 3) := by decide +kernel
theorem d_Model_next_135 : decode b_Model_next 135 = .ok (.aload_n 0, 1) := by decide +kernel
theorem d_Model_next_136 : decode b_Model_next 136 = .ok (.getfield 41, 3) := by decide +kernel
theorem d_Model_next_139 : decode b_Model_next 139 = .ok (.putfield 41, 3) := by decide +kernel
theorem d_Model_next_142 : decode b_Model_next 142 = .ok (.iconst 1, 1) := by decide +kernel
theorem d_Model_next_143 : decode b_Model_next 143 = .ok (.ireturn, 1) := by decide +kernel
theorem d_Model_read_0 : decode b_Model_read 0 = .ok (.aload_n 0, 1) := by decide +kernel
theorem d_Model_read_1 : decode b_Model_read 1 = .ok (.aload_n 0, 1) := by decide +kernel
theorem d_Model_read_2 : decode b_Model_read 2 = .ok (.getfield 20, 3) := by decide +kernel
theorem d_Model_read_5 : decode b_Model_read 5 = .ok (.putfield 44, 3) := by decide +kernel
theorem d_Model_read_8 : decode b_Model_read 8 = .ok (.aload_n 0, 1) := by decide +kernel
theorem d_Model_read_9 : decode b_Model_read 9 = .ok (.iconst 0, 1) := by decide +kernel
theorem d_Model_read_10 : decode b_Model_read 10 = .ok (.putfield 20, 3) := by decide +kernel
theorem d_Model_read_13 : decode b_Model_read 13 = .ok (.aload_n 0, 1) := by decide +kernel
theorem d_Model_read_14 : decode b_Model_read 14 = .ok (.iconst 0, 1) := by decide +kernel
theorem d_Model_read_15 : decode b_Model_read 15 = .ok (.putfield 60, 3) := by decide +kernel
theorem d_Model_read_18 : decode b_Model_read 18 = .ok (.iconst 0, 1) := by decide +kernel
theorem d_Model_read_19 : decode b_Model_read 19 = .ok (.istore_n 1, 1) := by decide +kernel
theorem d_Model_read_20 : decode b_Model_read 20 = .ok (.iload_n 1, 1) := by decide +kernel
theorem d_Model_read_21 : decode b_Model_read 21 = .ok (.aload_n 0, 1) := by decide +kernel
theorem d_Model_read_22 : decode b_Model_read 22 = .ok (.getfield 44, 3) := by decide +kernel
theorem d_Model_read_25 : decode b_Model_read 25 = .ok (.if_icmp .ge 21, 3) := by decide +kernel
theorem d_Model_read_28 : decode b_Model_read 28 = .ok (.aload_n 0, 1) := by decide +kernel
theorem d_Model_read_29 : decode b_Model_read 29 = .ok (.getfield 13, 3) := by decide +kernel
theorem d_Model_read_32 : decode b_Model_read 32 = .ok (.iload_n 1, 1) := by decide +kernel
theorem d_Model_read_33 : decode b_Model_read 33 = .ok (.aload_n 0, 1) := by decide +kernel
theorem d_Model_read_34 : decode b_Model_read 34 = .ok (.getfield 7, 3) := by decide +kernel
theorem d_Model_read_37 : decode b_Model_read 37 = .ok (.iload_n 1, 1) := by decide +kernel
theorem d_Model_read_38 : decode b_Model_read 38 = .ok (.iaload, 1) := by decide +kernel
theorem d_Model_read_39 : decode b_Model_read 39 = .ok (.iastore, 1) := by decide +kernel
theorem d_Model_read_40 : decode b_Model_read 40 = .ok (.iinc 1 1, 3) := by decide +kernel
theorem d_Model_read_43 : decode b_Model_read 43 = .ok (.goto (-23), 3) := by decide +kernel
theorem d_Model_read_46 : decode b_Model_read 46 = .ok (.aload_n 0, 1) := by decide +kernel
theorem d_Model_read_47 : decode b_Model_read 47 = .ok (.iconst 0, 1) := by decide +kernel
theorem d_Model_read_48 : decode b_Model_read 48 = .ok (.putfield 41, 3) := by decide +kernel
theorem d_Model_read_51 : decode b_Model_read 51 = .ok (.aload_n 0, 1) := by decide +kernel
theorem d_Model_read_52 : decode b_Model_read 52 = .ok (.getfield 41, 3) := by decide +kernel
theorem d_Model_read_55 : decode b_Model_read 55 = .ok (.aload_n 0, 1) := by decide +kernel
theorem d_Model_read_56 : decode b_Model_read 56 = .ok (.getfield 44, 3) := by decide +kernel
theorem d_Model_read_59 : decode b_Model_read 59 = .ok (.if_icmp .ge 36, 3) := by decide +kernel
theorem d_Model_read_62 : decode b_Model_read 62 = .ok (.aload_n 0, 1) := by decide +kernel
theorem d_Model_read_63 : decode b_Model_read 63 = .ok (.aload_n 0, 1) := by decide +kernel
theorem d_Model_read_64 : decode b_Model_read 64 = .ok (.getfield 41, 3) := by decide +kernel
theorem d_Model_read_67 : decode b_Model_read 67 = .ok (.putfield 16, 3) := by decide +kernel
theorem d_Model_read_70 : decode b_Model_read 70 = .ok (.aload_n 0, 1) := by decide +kernel
theorem d_Model_read_71 : decode b_Model_read 71 = .ok (.invokevirtual 53, 3) := by decide +kernel
theorem d_Model_read_74 : decode b_Model_read 74 = .ok (.istore_n 1, 1) := by decide +kernel
theorem d_Model_read_75 : decode b_Model_read 75 = .ok (.iload_n 1, 1) := by decide +kernel
theorem d_Model_read_76 : decode b_Model_read 76 = .ok (.ifCond .ge 6, 3) := by decide +kernel
theorem d_Model_read_79 : decode b_Model_read 79 = .ok (.bipush (-2), 2) := by decide +kernel
theorem d_Model_read_81 : decode b_Model_read 81 = .ok (.ireturn, 1) := by decide +kernel
theorem d_Model_read_82 : decode b_Model_read 82 = .ok (.iload_n 1, 1) := by decide +kernel
theorem d_Model_read_83 : decode b_Model_read 83 = .ok (.invokestatic 64, 3) := by decide +kernel
theorem d_Model_read_86 : decode b_Model_read 86 = .ok (.ifCond .ne 6, 3) := by decide +kernel
theorem d_Model_read_89 : decode b_Model_read 89 = .ok (.bipush (-3), 2) := by decide +kernel
theorem d_Model_read_91 : decode b_Model_read 91 = .ok (.ireturn, 1) := by decide +kernel
theorem d_Model_read_92 : decode b_Model_read 92 = .ok (.goto (-41), 3) := by decide +kernel
theorem d_Model_read_95 : decode b_Model_read 95 = .ok (.aload_n 0, 1) := by decide +kernel
theorem d_Model_read_96 : decode b_Model_read 96 = .ok (.iconst (-1), 1) := by decide +kernel
theorem d_Model_read_97 : decode b_Model_read 97 = .ok (.putfield 16, 3) := by decide +kernel
theorem d_Model_read_100 : decode b_Model_read 100 = .ok (.aload_n 0, 1) := by decide +kernel
theorem d_Model_read_101 : decode b_Model_read 101 = .ok (.iconst 1, 1) := by decide +kernel
theorem d_Model_read_102 : decode b_Model_read 102 = .ok (.putfield 60, 3) := by decide +kernel
theorem d_Model_read_105 : decode b_Model_read 105 = .ok (.iconst 0, 1) := by decide +kernel
theorem d_Model_read_106 : decode b_Model_read 106 = .ok (.istore_n 1, 1) := by decide +kernel
theorem d_Model_read_107 : decode b_Model_read 107 = .ok (.aload_n 0, 1) := by decide +kernel
theorem d_Model_read_108 : decode b_Model_read 108 = .ok (.iconst 0, 1) := by decide +kernel
theorem d_Model_read_109 : decode b_Model_read 109 = .ok (.putfield 41, 3) := by decide +kernel
theorem d_Model_read_112 : decode b_Model_read 112 = .ok (.aload_n 0, 1) := by decide +kernel
theorem d_Model_read_113 : decode b_Model_read 113 = .ok (.invokevirtual 67, 3) := by decide +kernel
theorem d_Model_read_116 : decode b_Model_read 116 = .ok (.ifCond .eq 9, 3) := by decide +kernel
theorem d_Model_read_119 : decode b_Model_read 119 = .ok (.iinc 1 1, 3) := by decide +kernel
theorem d_Model_read_122 : decode b_Model_read 122 = .ok (.goto (-10), 3) := by decide +kernel
theorem d_Model_read_125 : decode b_Model_read 125 = .ok (.iload_n 1, 1) := by decide +kernel
theorem d_Model_read_126 : decode b_Model_read 126 = .ok (.ireturn, 1) := by decide +kernel
theorem d_Model_place_0 : decode b_Model_place 0 = .ok (.aload_n 0, 1) := by decide +kernel
theorem d_Model_place_1 : decode b_Model_place 1 = .ok (.getfield 16, 3) := by decide +kernel
theorem d_Model_place_4 : decode b_Model_place 4 = .ok (.ireturn, 1) := by decide +kernel
theorem d_Model_go_0 : decode b_Model_go 0 = .ok (.aload_n 0, 1) := by decide +kernel
theorem d_Model_go_1 : decode b_Model_go 1 = .ok (.iconst 0, 1) := by decide +kernel
theorem d_Model_go_2 : decode b_Model_go 2 = .ok (.putfield 41, 3) := by decide +kernel
theorem d_Model_go_5 : decode b_Model_go 5 = .ok (.aload_n 0, 1) := by decide +kernel
theorem d_Model_go_6 : decode b_Model_go 6 = .ok (.getfield 60, 3) := by decide +kernel
theorem d_Model_go_9 : decode b_Model_go 9 = .ok (.ifCond .eq 11, 3) := by decide +kernel
theorem d_Model_go_12 : decode b_Model_go 12 = .ok (.iload_n 1, 1) := by decide +kernel
theorem d_Model_go_13 : decode b_Model_go 13 = .ok (.ifCond .lt 7, 3) := by decide +kernel
theorem d_Model_go_16 : decode b_Model_go 16 = .ok (.iconst 1, 1) := by decide +kernel
theorem d_Model_go_17 : decode b_Model_go 17 = .ok (.goto 4, 3) := by decide +kernel
theorem d_Model_go_20 : decode b_Model_go 20 = .ok (.iconst 0, 1) := by decide +kernel
theorem d_Model_go_21 : decode b_Model_go 21 = .ok (.istore_n 2, 1) := by decide +kernel
theorem d_Model_go_22 : decode b_Model_go 22 = .ok (.iconst 0, 1) := by decide +kernel
theorem d_Model_go_23 : decode b_Model_go 23 = .ok (.istore_n 3, 1) := by decide +kernel
theorem d_Model_go_24 : decode b_Model_go 24 = .ok (.iload_n 3, 1) := by decide +kernel
theorem d_Model_go_25 : decode b_Model_go 25 = .ok (.iload_n 1, 1) := by decide +kernel
theorem d_Model_go_26 : decode b_Model_go 26 = .ok (.if_icmp .gt 18, 3) := by decide +kernel
theorem d_Model_go_29 : decode b_Model_go 29 = .ok (.iload_n 2, 1) := by decide +kernel
theorem d_Model_go_30 : decode b_Model_go 30 = .ok (.ifCond .eq 14, 3) := by decide +kernel
theorem d_Model_go_33 : decode b_Model_go 33 = .ok (.aload_n 0, 1) := by decide +kernel
theorem d_Model_go_34 : decode b_Model_go 34 = .ok (.invokevirtual 67, 3) := by decide +kernel
theorem d_Model_go_37 : decode b_Model_go 37 = .ok (.istore_n 2, 1) := by decide +kernel
theorem d_Model_go_38 : decode b_Model_go 38 = .ok (.iinc 3 1, 3) := by decide +kernel
theorem d_Model_go_41 : decode b_Model_go 41 = .ok (.goto (-17), 3) := by decide +kernel
theorem d_Model_go_44 : decode b_Model_go 44 = .ok (.iload_n 2, 1) := by decide +kernel
theorem d_Model_go_45 : decode b_Model_go 45 = .ok (.ireturn, 1) := by decide +kernel
theorem d_Model_at_0 : decode b_Model_at 0 = .ok (.aload_n 0, 1) := by decide +kernel
theorem d_Model_at_1 : decode b_Model_at 1 = .ok (.iload_n 1, 1) := by decide +kernel
theorem d_Model_at_2 : decode b_Model_at 2 = .ok (.invokevirtual 71, 3) := by decide +kernel
theorem d_Model_at_5 : decode b_Model_at 5 = .ok (.ifCond .eq 10, 3) := by decide +kernel
theorem d_Model_at_8 : decode b_Model_at 8 = .ok (.aload_n 0, 1) := by decide +kernel
theorem d_Model_at_9 : decode b_Model_at 9 = .ok (.getfield 57, 3) := by decide +kernel
theorem d_Model_at_12 : decode b_Model_at 12 = .ok (.goto 4, 3) := by decide +kernel
theorem d_Model_at_15 : decode b_Model_at 15 = .ok (.iconst (-1), 1) := by decide +kernel
theorem d_Model_at_16 : decode b_Model_at 16 = .ok (.ireturn, 1) := by decide +kernel
theorem d_Model_placeOf_0 : decode b_Model_placeOf 0 = .ok (.aload_n 0, 1) := by decide +kernel
theorem d_Model_placeOf_1 : decode b_Model_placeOf 1 = .ok (.iload_n 1, 1) := by decide +kernel
theorem d_Model_placeOf_2 : decode b_Model_placeOf 2 = .ok (.invokevirtual 71, 3) := by decide +kernel
theorem d_Model_placeOf_5 : decode b_Model_placeOf 5 = .ok (.ifCond .eq 8, 3) := by decide +kernel
theorem d_Model_placeOf_8 : decode b_Model_placeOf 8 = .ok (.aload_n 0, 1) := by decide +kernel
theorem d_Model_placeOf_9 : decode b_Model_placeOf 9 = .ok (.getfield 50, 3) := by decide +kernel
theorem d_Model_placeOf_12 : decode b_Model_placeOf 12 = .ok (.ireturn, 1) := by decide +kernel
theorem d_Model_placeOf_13 : decode b_Model_placeOf 13 = .ok (.aload_n 0, 1) := by decide +kernel
theorem d_Model_placeOf_14 : decode b_Model_placeOf 14 = .ok (.getfield 60, 3) := by decide +kernel
theorem d_Model_placeOf_17 : decode b_Model_placeOf 17 = .ok (.ifCond .eq 36, 3) := by decide +kernel
theorem d_Model_placeOf_20 : decode b_Model_placeOf 20 = .ok (.iload_n 1, 1) := by decide +kernel
theorem d_Model_placeOf_21 : decode b_Model_placeOf 21 = .ok (.ifCond .eq 13, 3) := by decide +kernel
theorem d_Model_placeOf_24 : decode b_Model_placeOf 24 = .ok (.aload_n 0, 1) := by decide +kernel
theorem d_Model_placeOf_25 : decode b_Model_placeOf 25 = .ok (.iload_n 1, 1) := by decide +kernel
theorem d_Model_placeOf_26 : decode b_Model_placeOf 26 = .ok (.iconst 1, 1) := by decide +kernel
theorem d_Model_placeOf_27 : decode b_Model_placeOf 27 = .ok (.isub, 1) := by decide +kernel
theorem d_Model_placeOf_28 : decode b_Model_placeOf 28 = .ok (.invokevirtual 71, 3) := by decide +kernel
theorem d_Model_placeOf_31 : decode b_Model_placeOf 31 = .ok (.ifCond .eq 22, 3) := by decide +kernel
theorem d_Model_placeOf_34 : decode b_Model_placeOf 34 = .ok (.iload_n 1, 1) := by decide +kernel
theorem d_Model_placeOf_35 : decode b_Model_placeOf 35 = .ok (.ifCond .lt 18, 3) := by decide +kernel
theorem d_Model_placeOf_38 : decode b_Model_placeOf 38 = .ok (.aload_n 0, 1) := by decide +kernel
theorem d_Model_placeOf_39 : decode b_Model_placeOf 39 = .ok (.iload_n 1, 1) := by decide +kernel
theorem d_Model_placeOf_40 : decode b_Model_placeOf 40 = .ok (.invokevirtual 71, 3) := by decide +kernel
theorem d_Model_placeOf_43 : decode b_Model_placeOf 43 = .ok (.ifCond .ne 10, 3) := by decide +kernel
theorem d_Model_placeOf_46 : decode b_Model_placeOf 46 = .ok (.aload_n 0, 1) := by decide +kernel
theorem d_Model_placeOf_47 : decode b_Model_placeOf 47 = .ok (.getfield 44, 3) := by decide +kernel
theorem d_Model_placeOf_50 : decode b_Model_placeOf 50 = .ok (.goto 4, 3) := by decide +kernel
theorem d_Model_placeOf_53 : decode b_Model_placeOf 53 = .ok (.iconst (-1), 1) := by decide +kernel
theorem d_Model_placeOf_54 : decode b_Model_placeOf 54 = .ok (.ireturn, 1) := by decide +kernel
theorem d_Model_isBlank_0 : decode b_Model_isBlank 0 = .ok (.iload_n 0, 1) := by decide +kernel
theorem d_Model_isBlank_1 : decode b_Model_isBlank 1 = .ok (.bipush 32, 2) := by decide +kernel
theorem d_Model_isBlank_3 : decode b_Model_isBlank 3 = .ok (.if_icmp .eq 21, 3) := by decide +kernel
theorem d_Model_isBlank_6 : decode b_Model_isBlank 6 = .ok (.iload_n 0, 1) := by decide +kernel
theorem d_Model_isBlank_7 : decode b_Model_isBlank 7 = .ok (.bipush 9, 2) := by decide +kernel
theorem d_Model_isBlank_9 : decode b_Model_isBlank 9 = .ok (.if_icmp .eq 15, 3) := by decide +kernel
theorem d_Model_isBlank_12 : decode b_Model_isBlank 12 = .ok (.iload_n 0, 1) := by decide +kernel
theorem d_Model_isBlank_13 : decode b_Model_isBlank 13 = .ok (.bipush 13, 2) := by decide +kernel
theorem d_Model_isBlank_15 : decode b_Model_isBlank 15 = .ok (.if_icmp .eq 9, 3) := by decide +kernel
theorem d_Model_isBlank_18 : decode b_Model_isBlank 18 = .ok (.iload_n 0, 1) := by decide +kernel
theorem d_Model_isBlank_19 : decode b_Model_isBlank 19 = .ok (.bipush 10, 2) := by decide +kernel
theorem d_Model_isBlank_21 : decode b_Model_isBlank 21 = .ok (.if_icmp .ne 7, 3) := by decide +kernel
theorem d_Model_isBlank_24 : decode b_Model_isBlank 24 = .ok (.iconst 1, 1) := by decide +kernel
theorem d_Model_isBlank_25 : decode b_Model_isBlank 25 = .ok (.goto 4, 3) := by decide +kernel
theorem d_Model_isBlank_28 : decode b_Model_isBlank 28 = .ok (.iconst 0, 1) := by decide +kernel
theorem d_Model_isBlank_29 : decode b_Model_isBlank 29 = .ok (.ireturn, 1) := by decide +kernel
theorem d_Model_within_0 : decode b_Model_within 0 = .ok (.iload_n 0, 1) := by decide +kernel
theorem d_Model_within_1 : decode b_Model_within 1 = .ok (.iload_n 1, 1) := by decide +kernel
theorem d_Model_within_2 : decode b_Model_within 2 = .ok (.if_icmp .lt 12, 3) := by decide +kernel
theorem d_Model_within_5 : decode b_Model_within 5 = .ok (.iload_n 0, 1) := by decide +kernel
theorem d_Model_within_6 : decode b_Model_within 6 = .ok (.iload_n 2, 1) := by decide +kernel
theorem d_Model_within_7 : decode b_Model_within 7 = .ok (.if_icmp .gt 7, 3) := by decide +kernel
theorem d_Model_within_10 : decode b_Model_within 10 = .ok (.iconst 1, 1) := by decide +kernel
theorem d_Model_within_11 : decode b_Model_within 11 = .ok (.goto 4, 3) := by decide +kernel
theorem d_Model_within_14 : decode b_Model_within 14 = .ok (.iconst 0, 1) := by decide +kernel
theorem d_Model_within_15 : decode b_Model_within 15 = .ok (.ireturn, 1) := by decide +kernel
theorem d_Model_isBegin_0 : decode b_Model_isBegin 0 = .ok (.iload_n 0, 1) := by decide +kernel
theorem d_Model_isBegin_1 : decode b_Model_isBegin 1 = .ok (.bipush 58, 2) := by decide +kernel
theorem d_Model_isBegin_3 : decode b_Model_isBegin 3 = .ok (.if_icmp .eq 70, 3) := by decide +kernel
theorem d_Model_isBegin_6 : decode b_Model_isBegin 6 = .ok (.iload_n 0, 1) := by decide +kernel
theorem d_Model_isBegin_7 : decode b_Model_isBegin 7 = .ok (.bipush 95, 2) := by decide +kernel
theorem d_Model_isBegin_9 : decode b_Model_isBegin 9 = .ok (.if_icmp .eq 64, 3) := by decide +kernel
theorem d_Model_isBegin_12 : decode b_Model_isBegin 12 = .ok (.iload_n 0, 1) := by decide +kernel
theorem d_Model_isBegin_13 : decode b_Model_isBegin 13 = .ok (.bipush 65, 2) := by decide +kernel
theorem d_Model_isBegin_15 : decode b_Model_isBegin 15 = .ok (.bipush 90, 2) := by decide +kernel
theorem d_Model_isBegin_17 : decode b_Model_isBegin 17 = .ok (.invokestatic 74, 3) := by decide +kernel
theorem d_Model_isBegin_20 : decode b_Model_isBegin 20 = .ok (.ifCond .ne 53, 3) := by decide +kernel
theorem d_Model_isBegin_23 : decode b_Model_isBegin 23 = .ok (.iload_n 0, 1) := by decide +kernel
theorem d_Model_isBegin_24 : decode b_Model_isBegin 24 = .ok (.bipush 97, 2) := by decide +kernel
theorem d_Model_isBegin_26 : decode b_Model_isBegin 26 = .ok (.bipush 122, 2) := by decide +kernel
theorem d_Model_isBegin_28 : decode b_Model_isBegin 28 = .ok (.invokestatic 74, 3) := by decide +kernel
theorem d_Model_isBegin_31 : decode b_Model_isBegin 31 = .ok (.ifCond .ne 42, 3) := by decide +kernel
theorem d_Model_isBegin_34 : decode b_Model_isBegin 34 = .ok (.iload_n 0, 1) := by decide +kernel
theorem d_Model_isBegin_35 : decode b_Model_isBegin 35 = .ok (.sipush 192, 3) := by decide +kernel
theorem d_Model_isBegin_38 : decode b_Model_isBegin 38 = .ok (.sipush 214, 3) := by decide +kernel
theorem d_Model_isBegin_41 : decode b_Model_isBegin 41 = .ok (.invokestatic 74, 3) := by decide +kernel
theorem d_Model_isBegin_44 : decode b_Model_isBegin 44 = .ok (.ifCond .ne 29, 3) := by decide +kernel
theorem d_Model_isBegin_47 : decode b_Model_isBegin 47 = .ok (.iload_n 0, 1) := by decide +kernel
theorem d_Model_isBegin_48 : decode b_Model_isBegin 48 = .ok (.sipush 216, 3) := by decide +kernel
theorem d_Model_isBegin_51 : decode b_Model_isBegin 51 = .ok (.sipush 246, 3) := by decide +kernel
theorem d_Model_isBegin_54 : decode b_Model_isBegin 54 = .ok (.invokestatic 74, 3) := by decide +kernel
theorem d_Model_isBegin_57 : decode b_Model_isBegin 57 = .ok (.ifCond .ne 16, 3) := by decide +kernel
theorem d_Model_isBegin_60 : decode b_Model_isBegin 60 = .ok (.iload_n 0, 1) := by decide +kernel
theorem d_Model_isBegin_61 : decode b_Model_isBegin 61 = .ok (.sipush 248, 3) := by decide +kernel
theorem d_Model_isBegin_64 : decode b_Model_isBegin 64 = .ok (.sipush 767, 3) := by decide +kernel
theorem d_Model_isBegin_67 : decode b_Model_isBegin 67 = .ok (.invokestatic 74, 3) := by decide +kernel
theorem d_Model_isBegin_70 : decode b_Model_isBegin 70 = .ok (.ifCond .eq 7, 3) := by decide +kernel
theorem d_Model_isBegin_73 : decode b_Model_isBegin 73 = .ok (.iconst 1, 1) := by decide +kernel
theorem d_Model_isBegin_74 : decode b_Model_isBegin 74 = .ok (.goto 4, 3) := by decide +kernel
theorem d_Model_isBegin_77 : decode b_Model_isBegin 77 = .ok (.iconst 0, 1) := by decide +kernel
theorem d_Model_isBegin_78 : decode b_Model_isBegin 78 = .ok (.istore_n 1, 1) := by decide +kernel
theorem d_Model_isBegin_79 : decode b_Model_isBegin 79 = .ok (.iload_n 0, 1) := by decide +kernel
theorem d_Model_isBegin_80 : decode b_Model_isBegin 80 = .ok (.sipush 880, 3) := by decide +kernel
theorem d_Model_isBegin_83 : decode b_Model_isBegin 83 = .ok (.sipush 893, 3) := by decide +kernel
theorem d_Model_isBegin_86 : decode b_Model_isBegin 86 = .ok (.invokestatic 74, 3) := by decide +kernel
theorem d_Model_isBegin_89 : decode b_Model_isBegin 89 = .ok (.ifCond .ne 55, 3) := by decide +kernel
theorem d_Model_isBegin_92 : decode b_Model_isBegin 92 = .ok (.iload_n 0, 1) := by decide +kernel
theorem d_Model_isBegin_93 : decode b_Model_isBegin 93 = .ok (.sipush 895, 3) := by decide +kernel
theorem d_Model_isBegin_96 : decode b_Model_isBegin 96 = .ok (.sipush 8191, 3) := by decide +kernel
theorem d_Model_isBegin_99 : decode b_Model_isBegin 99 = .ok (.invokestatic 74, 3) := by decide +kernel
theorem d_Model_isBegin_102 : decode b_Model_isBegin 102 = .ok (.ifCond .ne 42, 3) := by decide +kernel
theorem d_Model_isBegin_105 : decode b_Model_isBegin 105 = .ok (.iload_n 0, 1) := by decide +kernel
theorem d_Model_isBegin_106 : decode b_Model_isBegin 106 = .ok (.sipush 8204, 3) := by decide +kernel
theorem d_Model_isBegin_109 : decode b_Model_isBegin 109 = .ok (.sipush 8205, 3) := by decide +kernel
theorem d_Model_isBegin_112 : decode b_Model_isBegin 112 = .ok (.invokestatic 74, 3) := by decide +kernel
theorem d_Model_isBegin_115 : decode b_Model_isBegin 115 = .ok (.ifCond .ne 29, 3) := by decide +kernel
theorem d_Model_isBegin_118 : decode b_Model_isBegin 118 = .ok (.iload_n 0, 1) := by decide +kernel
theorem d_Model_isBegin_119 : decode b_Model_isBegin 119 = .ok (.sipush 8304, 3) := by decide +kernel
theorem d_Model_isBegin_122 : decode b_Model_isBegin 122 = .ok (.sipush 8591, 3) := by decide +kernel
theorem d_Model_isBegin_125 : decode b_Model_isBegin 125 = .ok (.invokestatic 74, 3) := by decide +kernel
theorem d_Model_isBegin_128 : decode b_Model_isBegin 128 = .ok (.ifCond .ne 16, 3) := by decide +kernel
theorem d_Model_isBegin_131 : decode b_Model_isBegin 131 = .ok (.iload_n 0, 1) := by decide +kernel
theorem d_Model_isBegin_132 : decode b_Model_isBegin 132 = .ok (.sipush 11264, 3) := by decide +kernel
theorem d_Model_isBegin_135 : decode b_Model_isBegin 135 = .ok (.sipush 12271, 3) := by decide +kernel
theorem d_Model_isBegin_138 : decode b_Model_isBegin 138 = .ok (.invokestatic 74, 3) := by decide +kernel
theorem d_Model_isBegin_141 : decode b_Model_isBegin 141 = .ok (.ifCond .eq 7, 3) := by decide +kernel
theorem d_Model_isBegin_144 : decode b_Model_isBegin 144 = .ok (.iconst 1, 1) := by decide +kernel
theorem d_Model_isBegin_145 : decode b_Model_isBegin 145 = .ok (.goto 4, 3) := by decide +kernel
theorem d_Model_isBegin_148 : decode b_Model_isBegin 148 = .ok (.iconst 0, 1) := by decide +kernel
theorem d_Model_isBegin_149 : decode b_Model_isBegin 149 = .ok (.istore_n 2, 1) := by decide +kernel
theorem d_Model_isBegin_150 : decode b_Model_isBegin 150 = .ok (.iload_n 1, 1) := by decide +kernel
theorem d_Model_isBegin_151 : decode b_Model_isBegin 151 = .ok (.ifCond .ne 52, 3) := by decide +kernel
theorem d_Model_isBegin_154 : decode b_Model_isBegin 154 = .ok (.iload_n 2, 1) := by decide +kernel
theorem d_Model_isBegin_155 : decode b_Model_isBegin 155 = .ok (.ifCond .ne 48, 3) := by decide +kernel
theorem d_Model_isBegin_158 : decode b_Model_isBegin 158 = .ok (.iload_n 0, 1) := by decide +kernel
theorem d_Model_isBegin_159 : decode b_Model_isBegin 159 = .ok (.sipush 12289, 3) := by decide +kernel
theorem d_Model_isBegin_162 : decode b_Model_isBegin 162 = .ok (.ldc 78, 2) := by decide +kernel
theorem d_Model_isBegin_164 : decode b_Model_isBegin 164 = .ok (.invokestatic 74, 3) := by decide +kernel
theorem d_Model_isBegin_167 : decode b_Model_isBegin 167 = .ok (.ifCond .ne 36, 3) := by decide +kernel
theorem d_Model_isBegin_170 : decode b_Model_isBegin 170 = .ok (.iload_n 0, 1) := by decide +kernel
theorem d_Model_isBegin_171 : decode b_Model_isBegin 171 = .ok (.ldc 79, 2) := by decide +kernel
theorem d_Model_isBegin_173 : decode b_Model_isBegin 173 = .ok (.ldc 80, 2) := by decide +kernel
theorem d_Model_isBegin_175 : decode b_Model_isBegin 175 = .ok (.invokestatic 74, 3) := by decide +kernel
theorem d_Model_isBegin_178 : decode b_Model_isBegin 178 = .ok (.ifCond .ne 25, 3) := by decide +kernel
theorem d_Model_isBegin_181 : decode b_Model_isBegin 181 = .ok (.iload_n 0, 1) := by decide +kernel
theorem d_Model_isBegin_182 : decode b_Model_isBegin 182 = .ok (.ldc 81, 2) := by decide +kernel
theorem d_Model_isBegin_184 : decode b_Model_isBegin 184 = .ok (.ldc 82, 2) := by decide +kernel
theorem d_Model_isBegin_186 : decode b_Model_isBegin 186 = .ok (.invokestatic 74, 3) := by decide +kernel
theorem d_Model_isBegin_189 : decode b_Model_isBegin 189 = .ok (.ifCond .ne 14, 3) := by decide +kernel
theorem d_Model_isBegin_192 : decode b_Model_isBegin 192 = .ok (.iload_n 0, 1) := by decide +kernel
theorem d_Model_isBegin_193 : decode b_Model_isBegin 193 = .ok (.ldc 49, 2) := by decide +kernel
theorem d_Model_isBegin_195 : decode b_Model_isBegin 195 = .ok (.ldc 83, 2) := by decide +kernel
theorem d_Model_isBegin_197 : decode b_Model_isBegin 197 = .ok (.invokestatic 74, 3) := by decide +kernel
theorem d_Model_isBegin_200 : decode b_Model_isBegin 200 = .ok (.ifCond .eq 7, 3) := by decide +kernel
theorem d_Model_isBegin_203 : decode b_Model_isBegin 203 = .ok (.iconst 1, 1) := by decide +kernel
theorem d_Model_isBegin_204 : decode b_Model_isBegin 204 = .ok (.goto 4, 3) := by decide +kernel
theorem d_Model_isBegin_207 : decode b_Model_isBegin 207 = .ok (.iconst 0, 1) := by decide +kernel
theorem d_Model_isBegin_208 : decode b_Model_isBegin 208 = .ok (.ireturn, 1) := by decide +kernel
theorem d_Model_isPart_0 : decode b_Model_isPart 0 = .ok (.iload_n 0, 1) := by decide +kernel
theorem d_Model_isPart_1 : decode b_Model_isPart 1 = .ok (.invokestatic 84, 3) := by decide +kernel
theorem d_Model_isPart_4 : decode b_Model_isPart 4 = .ok (.ifCond .ne 59, 3) := by decide +kernel
theorem d_Model_isPart_7 : decode b_Model_isPart 7 = .ok (.iload_n 0, 1) := by decide +kernel
theorem d_Model_isPart_8 : decode b_Model_isPart 8 = .ok (.bipush 45, 2) := by decide +kernel
theorem d_Model_isPart_10 : decode b_Model_isPart 10 = .ok (.if_icmp .eq 53, 3) := by decide +kernel
theorem d_Model_isPart_13 : decode b_Model_isPart 13 = .ok (.iload_n 0, 1) := by decide +kernel
theorem d_Model_isPart_14 : decode b_Model_isPart 14 = .ok (.bipush 46, 2) := by decide +kernel
theorem d_Model_isPart_16 : decode b_Model_isPart 16 = .ok (.if_icmp .eq 47, 3) := by decide +kernel
theorem d_Model_isPart_19 : decode b_Model_isPart 19 = .ok (.iload_n 0, 1) := by decide +kernel
theorem d_Model_isPart_20 : decode b_Model_isPart 20 = .ok (.bipush 48, 2) := by decide +kernel
theorem d_Model_isPart_22 : decode b_Model_isPart 22 = .ok (.bipush 57, 2) := by decide +kernel
theorem d_Model_isPart_24 : decode b_Model_isPart 24 = .ok (.invokestatic 74, 3) := by decide +kernel
theorem d_Model_isPart_27 : decode b_Model_isPart 27 = .ok (.ifCond .ne 36, 3) := by decide +kernel
theorem d_Model_isPart_30 : decode b_Model_isPart 30 = .ok (.iload_n 0, 1) := by decide +kernel
theorem d_Model_isPart_31 : decode b_Model_isPart 31 = .ok (.sipush 183, 3) := by decide +kernel
theorem d_Model_isPart_34 : decode b_Model_isPart 34 = .ok (.if_icmp .eq 29, 3) := by decide +kernel
theorem d_Model_isPart_37 : decode b_Model_isPart 37 = .ok (.iload_n 0, 1) := by decide +kernel
theorem d_Model_isPart_38 : decode b_Model_isPart 38 = .ok (.sipush 768, 3) := by decide +kernel
theorem d_Model_isPart_41 : decode b_Model_isPart 41 = .ok (.sipush 879, 3) := by decide +kernel
theorem d_Model_isPart_44 : decode b_Model_isPart 44 = .ok (.invokestatic 74, 3) := by decide +kernel
theorem d_Model_isPart_47 : decode b_Model_isPart 47 = .ok (.ifCond .ne 16, 3) := by decide +kernel
theorem d_Model_isPart_50 : decode b_Model_isPart 50 = .ok (.iload_n 0, 1) := by decide +kernel
theorem d_Model_isPart_51 : decode b_Model_isPart 51 = .ok (.sipush 8255, 3) := by decide +kernel
theorem d_Model_isPart_54 : decode b_Model_isPart 54 = .ok (.sipush 8256, 3) := by decide +kernel
theorem d_Model_isPart_57 : decode b_Model_isPart 57 = .ok (.invokestatic 74, 3) := by decide +kernel
theorem d_Model_isPart_60 : decode b_Model_isPart 60 = .ok (.ifCond .eq 7, 3) := by decide +kernel
theorem d_Model_isPart_63 : decode b_Model_isPart 63 = .ok (.iconst 1, 1) := by decide +kernel
theorem d_Model_isPart_64 : decode b_Model_isPart 64 = .ok (.goto 4, 3) := by decide +kernel
theorem d_Model_isPart_67 : decode b_Model_isPart 67 = .ok (.iconst 0, 1) := by decide +kernel
theorem d_Model_isPart_68 : decode b_Model_isPart 68 = .ok (.ireturn, 1) := by decide +kernel
theorem d_Model_kind_0 : decode b_Model_kind 0 = .ok (.iload_n 1, 1) := by decide +kernel
theorem d_Model_kind_1 : decode b_Model_kind 1 = .ok (.invokestatic 64, 3) := by decide +kernel
theorem d_Model_kind_4 : decode b_Model_kind 4 = .ok (.ifCond .eq 7, 3) := by decide +kernel
theorem d_Model_kind_7 : decode b_Model_kind 7 = .ok (.iconst 1, 1) := by decide +kernel
theorem d_Model_kind_8 : decode b_Model_kind 8 = .ok (.goto 4, 3) := by decide +kernel
theorem d_Model_kind_11 : decode b_Model_kind 11 = .ok (.iconst 0, 1) := by decide +kernel
theorem d_Model_kind_12 : decode b_Model_kind 12 = .ok (.istore_n 2, 1) := by decide +kernel
theorem d_Model_kind_13 : decode b_Model_kind 13 = .ok (.iload_n 1, 1) := by decide +kernel
theorem d_Model_kind_14 : decode b_Model_kind 14 = .ok (.invokestatic 87, 3) := by decide +kernel
theorem d_Model_kind_17 : decode b_Model_kind 17 = .ok (.ifCond .eq 9, 3) := by decide +kernel
theorem d_Model_kind_20 : decode b_Model_kind 20 = .ok (.iload_n 2, 1) := by decide +kernel
theorem d_Model_kind_21 : decode b_Model_kind 21 = .ok (.iconst 2, 1) := by decide +kernel
theorem d_Model_kind_22 : decode b_Model_kind 22 = .ok (.iadd, 1) := by decide +kernel
theorem d_Model_kind_23 : decode b_Model_kind 23 = .ok (.goto 4, 3) := by decide +kernel
theorem d_Model_kind_26 : decode b_Model_kind 26 = .ok (.iload_n 2, 1) := by decide +kernel
theorem d_Model_kind_27 : decode b_Model_kind 27 = .ok (.istore_n 2, 1) := by decide +kernel
theorem d_Model_kind_28 : decode b_Model_kind 28 = .ok (.iload_n 1, 1) := by decide +kernel
theorem d_Model_kind_29 : decode b_Model_kind 29 = .ok (.invokestatic 84, 3) := by decide +kernel
theorem d_Model_kind_32 : decode b_Model_kind 32 = .ok (.ifCond .eq 9, 3) := by decide +kernel
theorem d_Model_kind_35 : decode b_Model_kind 35 = .ok (.iload_n 2, 1) := by decide +kernel
theorem d_Model_kind_36 : decode b_Model_kind 36 = .ok (.iconst 4, 1) := by decide +kernel
theorem d_Model_kind_37 : decode b_Model_kind 37 = .ok (.iadd, 1) := by decide +kernel
theorem d_Model_kind_38 : decode b_Model_kind 38 = .ok (.goto 4, 3) := by decide +kernel
theorem d_Model_kind_41 : decode b_Model_kind 41 = .ok (.iload_n 2, 1) := by decide +kernel
theorem d_Model_kind_42 : decode b_Model_kind 42 = .ok (.istore_n 2, 1) := by decide +kernel
theorem d_Model_kind_43 : decode b_Model_kind 43 = .ok (.iload_n 1, 1) := by decide +kernel
theorem d_Model_kind_44 : decode b_Model_kind 44 = .ok (.invokestatic 90, 3) := by decide +kernel
theorem d_Model_kind_47 : decode b_Model_kind 47 = .ok (.ifCond .eq 10, 3) := by decide +kernel
theorem d_Model_kind_50 : decode b_Model_kind 50 = .ok (.iload_n 2, 1) := by decide +kernel
theorem d_Model_kind_51 : decode b_Model_kind 51 = .ok (.bipush 8, 2) := by decide +kernel
theorem d_Model_kind_53 : decode b_Model_kind 53 = .ok (.iadd, 1) := by decide +kernel
theorem d_Model_kind_54 : decode b_Model_kind 54 = .ok (.goto 4, 3) := by decide +kernel
theorem d_Model_kind_57 : decode b_Model_kind 57 = .ok (.iload_n 2, 1) := by decide +kernel
theorem d_Model_kind_58 : decode b_Model_kind 58 = .ok (.ireturn, 1) := by decide +kernel
theorem d_Model_run_0 : decode b_Model_run 0 = .ok (.iload_n 1, 1) := by decide +kernel
theorem d_Model_run_1 : decode b_Model_run 1 = .ok (.ifCond .lt 16, 3) := by decide +kernel
theorem d_Model_run_4 : decode b_Model_run 4 = .ok (.iload_n 1, 1) := by decide +kernel
theorem d_Model_run_5 : decode b_Model_run 5 = .ok (.iconst 2, 1) := by decide +kernel
theorem d_Model_run_6 : decode b_Model_run 6 = .ok (.if_icmp .gt 11, 3) := by decide +kernel
theorem d_Model_run_9 : decode b_Model_run 9 = .ok (.aload_n 0, 1) := by decide +kernel
theorem d_Model_run_10 : decode b_Model_run 10 = .ok (.iload_n 2, 1) := by decide +kernel
theorem d_Model_run_11 : decode b_Model_run 11 = .ok (.invokevirtual 71, 3) := by decide +kernel
theorem d_Model_run_14 : decode b_Model_run 14 = .ok (.ifCond .ne 5, 3) := by decide +kernel
theorem d_Model_run_17 : decode b_Model_run 17 = .ok (.iconst 0, 1) := by decide +kernel
theorem d_Model_run_18 : decode b_Model_run 18 = .ok (.ireturn, 1) := by decide +kernel
theorem d_Model_run_19 : decode b_Model_run 19 = .ok (.iconst 0, 1) := by decide +kernel
theorem d_Model_run_20 : decode b_Model_run 20 = .ok (.istore_n 3, 1) := by decide +kernel
theorem d_Model_run_21 : decode b_Model_run 21 = .ok (.iconst 1, 1) := by decide +kernel
theorem d_Model_run_22 : decode b_Model_run 22 = .ok (.istore 4, 2) := by decide +kernel
theorem d_Model_run_24 : decode b_Model_run 24 = .ok (.iload 4, 2) := by decide +kernel
theorem d_Model_run_26 : decode b_Model_run 26 = .ok (.ifCond .eq 90, 3) := by decide +kernel
theorem d_Model_run_29 : decode b_Model_run 29 = .ok (.iload_n 1, 1) := by decide +kernel
theorem d_Model_run_30 : decode b_Model_run 30 = .ok (.ifCond .ne 27, 3) := by decide +kernel
theorem d_Model_run_33 : decode b_Model_run 33 = .ok (.iload_n 3, 1) := by decide +kernel
theorem d_Model_run_34 : decode b_Model_run 34 = .ok (.ifCond .ne 13, 3) := by decide +kernel
theorem d_Model_run_37 : decode b_Model_run 37 = .ok (.aload_n 0, 1) := by decide +kernel
theorem d_Model_run_38 : decode b_Model_run 38 = .ok (.getfield 57, 3) := by decide +kernel
theorem d_Model_run_41 : decode b_Model_run 41 = .ok (.invokestatic 84, 3) := by decide +kernel
theorem d_Model_run_44 : decode b_Model_run 44 = .ok (.goto 35, 3) := by decide +kernel
theorem d_Model_run_47 : decode b_Model_run 47 = .ok (.aload_n 0, 1) := by decide +kernel
theorem d_Model_run_48 : decode b_Model_run 48 = .ok (.getfield 57, 3) := by decide +kernel
theorem d_Model_run_51 : decode b_Model_run 51 = .ok (.invokestatic 90, 3) := by decide +kernel
theorem d_Model_run_54 : decode b_Model_run 54 = .ok (.goto 25, 3) := by decide +kernel
theorem d_Model_run_57 : decode b_Model_run 57 = .ok (.iload_n 1, 1) := by decide +kernel
theorem d_Model_run_58 : decode b_Model_run 58 = .ok (.iconst 1, 1) := by decide +kernel
theorem d_Model_run_59 : decode b_Model_run 59 = .ok (.if_icmp .ne 13, 3) := by decide +kernel
theorem d_Model_run_62 : decode b_Model_run 62 = .ok (.aload_n 0, 1) := by decide +kernel
theorem d_Model_run_63 : decode b_Model_run 63 = .ok (.getfield 57, 3) := by decide +kernel
theorem d_Model_run_66 : decode b_Model_run 66 = .ok (.invokestatic 90, 3) := by decide +kernel
theorem d_Model_run_69 : decode b_Model_run 69 = .ok (.goto 10, 3) := by decide +kernel
theorem d_Model_run_72 : decode b_Model_run 72 = .ok (.aload_n 0, 1) := by decide +kernel
theorem d_Model_run_73 : decode b_Model_run 73 = .ok (.getfield 57, 3) := by decide +kernel
theorem d_Model_run_76 : decode b_Model_run 76 = .ok (.invokestatic 87, 3) := by decide +kernel
theorem d_Model_run_79 : decode b_Model_run 79 = .ok (.istore 5, 2) := by decide +kernel
theorem d_Model_run_81 : decode b_Model_run 81 = .ok (.iload 5, 2) := by decide +kernel
theorem d_Model_run_83 : decode b_Model_run 83 = .ok (.ifCond .eq 9, 3) := by decide +kernel
theorem d_Model_run_86 : decode b_Model_run 86 = .ok (.iload_n 3, 1) := by decide +kernel
theorem d_Model_run_87 : decode b_Model_run 87 = .ok (.iconst 1, 1) := by decide +kernel
theorem d_Model_run_88 : decode b_Model_run 88 = .ok (.iadd, 1) := by decide +kernel
theorem d_Model_run_89 : decode b_Model_run 89 = .ok (.goto 4, 3) := by decide +kernel
theorem d_Model_run_92 : decode b_Model_run 92 = .ok (.iload_n 3, 1) := by decide +kernel
theorem d_Model_run_93 : decode b_Model_run 93 = .ok (.istore_n 3, 1) := by decide +kernel
theorem d_Model_run_94 : decode b_Model_run 94 = .ok (.iload 5, 2) := by decide +kernel
theorem d_Model_run_96 : decode b_Model_run 96 = .ok (.ifCond .eq 14, 3) := by decide +kernel
theorem d_Model_run_99 : decode b_Model_run 99 = .ok (.aload_n 0, 1) := by decide +kernel
theorem d_Model_run_100 : decode b_Model_run 100 = .ok (.invokevirtual 67, 3) := by decide +kernel
theorem d_Model_run_103 : decode b_Model_run 103 = .ok (.ifCond .eq 7, 3) := by decide +kernel
theorem d_Model_run_106 : decode b_Model_run 106 = .ok (.iconst 1, 1) := by decide +kernel
theorem d_Model_run_107 : decode b_Model_run 107 = .ok (.goto 4, 3) := by decide +kernel
theorem d_Model_run_110 : decode b_Model_run 110 = .ok (.iconst 0, 1) := by decide +kernel
theorem d_Model_run_111 : decode b_Model_run 111 = .ok (.istore 4, 2) := by decide +kernel
theorem d_Model_run_113 : decode b_Model_run 113 = .ok (.goto (-89), 3) := by decide +kernel
theorem d_Model_run_116 : decode b_Model_run 116 = .ok (.iload_n 3, 1) := by decide +kernel
theorem d_Model_run_117 : decode b_Model_run 117 = .ok (.ireturn, 1) := by decide +kernel
theorem d_Model_compare_0 : decode b_Model_compare 0 = .ok (.aload_n 0, 1) := by decide +kernel
theorem d_Model_compare_1 : decode b_Model_compare 1 = .ok (.getfield 60, 3) := by decide +kernel
theorem d_Model_compare_4 : decode b_Model_compare 4 = .ok (.ifCond .eq 15, 3) := by decide +kernel
theorem d_Model_compare_7 : decode b_Model_compare 7 = .ok (.iload_n 3, 1) := by decide +kernel
theorem d_Model_compare_8 : decode b_Model_compare 8 = .ok (.ifCond .lt 11, 3) := by decide +kernel
theorem d_Model_compare_11 : decode b_Model_compare 11 = .ok (.iload_n 1, 1) := by decide +kernel
theorem d_Model_compare_12 : decode b_Model_compare 12 = .ok (.ifCond .lt 7, 3) := by decide +kernel
theorem d_Model_compare_15 : decode b_Model_compare 15 = .ok (.iload_n 2, 1) := by decide +kernel
theorem d_Model_compare_16 : decode b_Model_compare 16 = .ok (.ifCond .ge 6, 3) := by decide +kernel
theorem d_Model_compare_19 : decode b_Model_compare 19 = .ok (.bipush (-2), 2) := by decide +kernel
theorem d_Model_compare_21 : decode b_Model_compare 21 = .ok (.ireturn, 1) := by decide +kernel
theorem d_Model_compare_22 : decode b_Model_compare 22 = .ok (.iconst 0, 1) := by decide +kernel
theorem d_Model_compare_23 : decode b_Model_compare 23 = .ok (.istore 4, 2) := by decide +kernel
theorem d_Model_compare_25 : decode b_Model_compare 25 = .ok (.aload_n 0, 1) := by decide +kernel
theorem d_Model_compare_26 : decode b_Model_compare 26 = .ok (.iconst 0, 1) := by decide +kernel
theorem d_Model_compare_27 : decode b_Model_compare 27 = .ok (.putfield 41, 3) := by decide +kernel
theorem d_Model_compare_30 : decode b_Model_compare 30 = .ok (.aload_n 0, 1) := by decide +kernel
theorem d_Model_compare_31 : decode b_Model_compare 31 = .ok (.invokevirtual 67, 3) := by decide +kernel
theorem d_Model_compare_34 : decode b_Model_compare 34 = .ok (.ifCond .eq 9, 3) := by decide +kernel
theorem d_Model_compare_37 : decode b_Model_compare 37 = .ok (.iinc 4 1, 3) := by decide +kernel
theorem d_Model_compare_40 : decode b_Model_compare 40 = .ok (.goto (-10), 3) := by decide +kernel
theorem d_Model_compare_43 : decode b_Model_compare 43 = .ok (.iload_n 3, 1) := by decide +kernel
theorem d_Model_compare_44 : decode b_Model_compare 44 = .ok (.iload 4, 2) := by decide +kernel
theorem d_Model_compare_46 : decode b_Model_compare 46 = .ok (.iload_n 1, 1) := by decide +kernel
theorem d_Model_compare_47 : decode b_Model_compare 47 = .ok (.isub, 1) := by decide +kernel
theorem d_Model_compare_48 : decode b_Model_compare 48 = .ok (.if_icmp .gt 11, 3) := by decide +kernel
theorem d_Model_compare_51 : decode b_Model_compare 51 = .ok (.iload_n 3, 1) := by decide +kernel
theorem d_Model_compare_52 : decode b_Model_compare 52 = .ok (.iload 4, 2) := by decide +kernel
theorem d_Model_compare_54 : decode b_Model_compare 54 = .ok (.iload_n 2, 1) := by decide +kernel
theorem d_Model_compare_55 : decode b_Model_compare 55 = .ok (.isub, 1) := by decide +kernel
theorem d_Model_compare_56 : decode b_Model_compare 56 = .ok (.if_icmp .le 6, 3) := by decide +kernel
theorem d_Model_compare_59 : decode b_Model_compare 59 = .ok (.bipush (-2), 2) := by decide +kernel
theorem d_Model_compare_61 : decode b_Model_compare 61 = .ok (.ireturn, 1) := by decide +kernel
theorem d_Model_compare_62 : decode b_Model_compare 62 = .ok (.iconst 0, 1) := by decide +kernel
theorem d_Model_compare_63 : decode b_Model_compare 63 = .ok (.istore 5, 2) := by decide +kernel
theorem d_Model_compare_65 : decode b_Model_compare 65 = .ok (.iload 5, 2) := by decide +kernel
theorem d_Model_compare_67 : decode b_Model_compare 67 = .ok (.iload_n 3, 1) := by decide +kernel
theorem d_Model_compare_68 : decode b_Model_compare 68 = .ok (.if_icmp .ge 57, 3) := by decide +kernel
theorem d_Model_compare_71 : decode b_Model_compare 71 = .ok (.aload_n 0, 1) := by decide +kernel
theorem d_Model_compare_72 : decode b_Model_compare 72 = .ok (.iload_n 1, 1) := by decide +kernel
theorem d_Model_compare_73 : decode b_Model_compare 73 = .ok (.iload 5, 2) := by decide +kernel
theorem d_Model_compare_75 : decode b_Model_compare 75 = .ok (.iadd, 1) := by decide +kernel
theorem d_Model_compare_76 : decode b_Model_compare 76 = .ok (.invokevirtual 71, 3) := by decide +kernel
theorem d_Model_compare_79 : decode b_Model_compare 79 = .ok (.pop, 1) := by decide +kernel
theorem d_Model_compare_80 : decode b_Model_compare 80 = .ok (.aload_n 0, 1) := by decide +kernel
theorem d_Model_compare_81 : decode b_Model_compare 81 = .ok (.getfield 57, 3) := by decide +kernel
theorem d_Model_compare_84 : decode b_Model_compare 84 = .ok (.istore 6, 2) := by decide +kernel
theorem d_Model_compare_86 : decode b_Model_compare 86 = .ok (.aload_n 0, 1) := by decide +kernel
theorem d_Model_compare_87 : decode b_Model_compare 87 = .ok (.iload_n 2, 1) := by decide +kernel
theorem d_Model_compare_88 : decode b_Model_compare 88 = .ok (.iload 5, 2) := by decide +kernel
theorem d_Model_compare_90 : decode b_Model_compare 90 = .ok (.iadd, 1) := by decide +kernel
theorem d_Model_compare_91 : decode b_Model_compare 91 = .ok (.invokevirtual 71, 3) := by decide +kernel
theorem d_Model_compare_94 : decode b_Model_compare 94 = .ok (.pop, 1) := by decide +kernel
theorem d_Model_compare_95 : decode b_Model_compare 95 = .ok (.iload 6, 2) := by decide +kernel
theorem d_Model_compare_97 : decode b_Model_compare 97 = .ok (.aload_n 0, 1) := by decide +kernel
theorem d_Model_compare_98 : decode b_Model_compare 98 = .ok (.getfield 57, 3) := by decide +kernel
theorem d_Model_compare_101 : decode b_Model_compare 101 = .ok (.if_icmp .eq 18, 3) := by decide +kernel
theorem d_Model_compare_104 : decode b_Model_compare 104 = .ok (.iload 6, 2) := by decide +kernel
theorem d_Model_compare_106 : decode b_Model_compare 106 = .ok (.aload_n 0, 1) := by decide +kernel
theorem d_Model_compare_107 : decode b_Model_compare 107 = .ok (.getfield 57, 3) := by decide +kernel
theorem d_Model_compare_110 : decode b_Model_compare 110 = .ok (.if_icmp .ge 7, 3) := by decide +kernel
theorem d_Model_compare_113 : decode b_Model_compare 113 = .ok (.iconst (-1), 1) := by decide +kernel
theorem d_Model_compare_114 : decode b_Model_compare 114 = .ok (.goto 4, 3) := by decide +kernel
theorem d_Model_compare_117 : decode b_Model_compare 117 = .ok (.iconst 1, 1) := by decide +kernel
theorem d_Model_compare_118 : decode b_Model_compare 118 = .ok (.ireturn, 1) := by decide +kernel
theorem d_Model_compare_119 : decode b_Model_compare 119 = .ok (.iinc 5 1, 3) := by decide +kernel
theorem d_Model_compare_122 : decode b_Model_compare 122 = .ok (.goto (-57), 3) := by decide +kernel
theorem d_Model_compare_125 : decode b_Model_compare 125 = .ok (.iconst 0, 1) := by decide +kernel
theorem d_Model_compare_126 : decode b_Model_compare 126 = .ok (.ireturn, 1) := by decide +kernel
theorem d_Model_bytes_0 : decode b_Model_bytes 0 = .ok (.iload_n 1, 1) := by decide +kernel
theorem d_Model_bytes_1 : decode b_Model_bytes 1 = .ok (.invokestatic 33, 3) := by decide +kernel
theorem d_Model_bytes_4 : decode b_Model_bytes 4 = .ok (.ifCond .ne 5, 3) := by decide +kernel
theorem d_Model_bytes_7 : decode b_Model_bytes 7 = .ok (.lconst 0, 1) := by decide +kernel
theorem d_Model_bytes_8 : decode b_Model_bytes 8 = .ok (.lreturn, 1) := by decide +kernel
theorem d_Model_bytes_9 : decode b_Model_bytes 9 = .ok (.iload_n 1, 1) := by decide +kernel
theorem d_Model_bytes_10 : decode b_Model_bytes 10 = .ok (.invokestatic 29, 3) := by decide +kernel
theorem d_Model_bytes_13 : decode b_Model_bytes 13 = .ok (.i2l, 1) := by decide +kernel
theorem d_Model_bytes_14 : decode b_Model_bytes 14 = .ok (.lstore_n 2, 1) := by decide +kernel
theorem d_Model_bytes_15 : decode b_Model_bytes 15 = .ok (.iconst 0, 1) := by decide +kernel
theorem d_Model_bytes_16 : decode b_Model_bytes 16 = .ok (.istore 4, 2) := by decide +kernel
theorem d_Model_bytes_18 : decode b_Model_bytes 18 = .ok (.iload 4, 2) := by decide +kernel
theorem d_Model_bytes_20 : decode b_Model_bytes 20 = .ok (.bipush 7, 2) := by decide +kernel
theorem d_Model_bytes_22 : decode b_Model_bytes 22 = .ok (.if_icmp .ge 36, 3) := by decide +kernel
theorem d_Model_bytes_25 : decode b_Model_bytes 25 = .ok (.lload_n 2, 1) := by decide +kernel
theorem d_Model_bytes_26 : decode b_Model_bytes 26 = .ok (.ldc2_w 93, 3) := by decide +kernel
theorem d_Model_bytes_29 : decode b_Model_bytes 29 = .ok (.lmul, 1) := by decide +kernel
theorem d_Model_bytes_30 : decode b_Model_bytes 30 = .ok (.iload 4, 2) := by decide +kernel
theorem d_Model_bytes_32 : decode b_Model_bytes 32 = .ok (.iload_n 1, 1) := by decide +kernel
theorem d_Model_bytes_33 : decode b_Model_bytes 33 = .ok (.invokestatic 29, 3) := by decide +kernel
theorem d_Model_bytes_36 : decode b_Model_bytes 36 = .ok (.if_icmp .ge 12, 3) := by decide +kernel
theorem d_Model_bytes_39 : decode b_Model_bytes 39 = .ok (.iload_n 1, 1) := by decide +kernel
theorem d_Model_bytes_40 : decode b_Model_bytes 40 = .ok (.iload 4, 2) := by decide +kernel
theorem d_Model_bytes_42 : decode b_Model_bytes 42 = .ok (.invokestatic 37, 3) := by decide +kernel
theorem d_Model_bytes_45 : decode b_Model_bytes 45 = .ok (.goto 4, 3) := by decide +kernel
theorem d_Model_bytes_48 : decode b_Model_bytes 48 = .ok (.iconst 0, 1) := by decide +kernel
theorem d_Model_bytes_49 : decode b_Model_bytes 49 = .ok (.i2l, 1) := by decide +kernel
theorem d_Model_bytes_50 : decode b_Model_bytes 50 = .ok (.ladd, 1) := by decide +kernel
theorem d_Model_bytes_51 : decode b_Model_bytes 51 = .ok (.lstore_n 2, 1) := by decide +kernel
theorem d_Model_bytes_52 : decode b_Model_bytes 52 = .ok (.iinc 4 1, 3) := by decide +kernel
theorem d_Model_bytes_55 : decode b_Model_bytes 55 = .ok (.goto (-37), 3) := by decide +kernel
theorem d_Model_bytes_58 : decode b_Model_bytes 58 = .ok (.lload_n 2, 1) := by decide +kernel
theorem d_Model_bytes_59 : decode b_Model_bytes 59 = .ok (.lreturn, 1) := by decide +kernel
end
section
theorem d_law_0 : decode code 0 = .ok (.new 7, 3) := by decide +kernel
theorem d_law_3 : decode code 3 = .ok (.dup, 1) := by decide +kernel
theorem d_law_4 : decode code 4 = .ok (.invokespecial 9, 3) := by decide +kernel
theorem d_law_7 : decode code 7 = .ok (.astore_n 1, 1) := by decide +kernel
theorem d_law_8 : decode code 8 = .ok (.new 10, 3) := by decide +kernel
theorem d_law_11 : decode code 11 = .ok (.dup, 1) := by decide +kernel
theorem d_law_12 : decode code 12 = .ok (.invokespecial 12, 3) := by decide +kernel
theorem d_law_15 : decode code 15 = .ok (.astore_n 2, 1) := by decide +kernel
theorem d_law_16 : decode code 16 = .ok (.iconst 0, 1) := by decide +kernel
theorem d_law_17 : decode code 17 = .ok (.istore_n 3, 1) := by decide +kernel
theorem d_law_18 : decode code 18 = .ok (.iload_n 3, 1) := by decide +kernel
theorem d_law_19 : decode code 19 = .ok (.aload_n 0, 1) := by decide +kernel
theorem d_law_20 : decode code 20 = .ok (.arraylength, 1) := by decide +kernel
theorem d_law_21 : decode code 21 = .ok (.iconst 4, 1) := by decide +kernel
theorem d_law_22 : decode code 22 = .ok (.isub, 1) := by decide +kernel
theorem d_law_23 : decode code 23 = .ok (.if_icmp .gt 352, 3) := by decide +kernel
theorem d_law_26 : decode code 26 = .ok (.aload_n 0, 1) := by decide +kernel
theorem d_law_27 : decode code 27 = .ok (.iload_n 3, 1) := by decide +kernel
theorem d_law_28 : decode code 28 = .ok (.iaload, 1) := by decide +kernel
theorem d_law_29 : decode code 29 = .ok (.bipush 15, 2) := by decide +kernel
theorem d_law_31 : decode code 31 = .ok (.iand, 1) := by decide +kernel
theorem d_law_32 : decode code 32 = .ok (.tableswitch 337 0 9 #[56, 119, 142, 155, 168, 191, 214, 237, 270, 313], 56) := by decide +kernel
theorem d_law_88 : decode code 88 = .ok (.aload_n 1, 1) := by decide +kernel
theorem d_law_89 : decode code 89 = .ok (.aload_n 0, 1) := by decide +kernel
theorem d_law_90 : decode code 90 = .ok (.iload_n 3, 1) := by decide +kernel
theorem d_law_91 : decode code 91 = .ok (.iconst 1, 1) := by decide +kernel
theorem d_law_92 : decode code 92 = .ok (.iadd, 1) := by decide +kernel
theorem d_law_93 : decode code 93 = .ok (.iaload, 1) := by decide +kernel
theorem d_law_94 : decode code 94 = .ok (.i2l, 1) := by decide +kernel
theorem d_law_95 : decode code 95 = .ok (.bipush 32, 2) := by decide +kernel
theorem d_law_97 : decode code 97 = .ok (.lshl, 1) := by decide +kernel
theorem d_law_98 : decode code 98 = .ok (.aload_n 0, 1) := by decide +kernel
theorem d_law_99 : decode code 99 = .ok (.iload_n 3, 1) := by decide +kernel
theorem d_law_100 : decode code 100 = .ok (.iconst 2, 1) := by decide +kernel
theorem d_law_101 : decode code 101 = .ok (.iadd, 1) := by decide +kernel
theorem d_law_102 : decode code 102 = .ok (.iaload, 1) := by decide +kernel
theorem d_law_103 : decode code 103 = .ok (.i2l, 1) := by decide +kernel
theorem d_law_104 : decode code 104 = .ok (.ldc2_w 13, 3) := by decide +kernel
theorem d_law_107 : decode code 107 = .ok (.land, 1) := by decide +kernel
theorem d_law_108 : decode code 108 = .ok (.lor, 1) := by decide +kernel
theorem d_law_109 : decode code 109 = .ok (.aload_n 0, 1) := by decide +kernel
theorem d_law_110 : decode code 110 = .ok (.iload_n 3, 1) := by decide +kernel
theorem d_law_111 : decode code 111 = .ok (.iconst 3, 1) := by decide +kernel
theorem d_law_112 : decode code 112 = .ok (.iadd, 1) := by decide +kernel
theorem d_law_113 : decode code 113 = .ok (.iaload, 1) := by decide +kernel
theorem d_law_114 : decode code 114 = .ok (.invokevirtual 15, 3) := by decide +kernel
theorem d_law_117 : decode code 117 = .ok (.aload_n 2, 1) := by decide +kernel
theorem d_law_118 : decode code 118 = .ok (.aload_n 0, 1) := by decide +kernel
theorem d_law_119 : decode code 119 = .ok (.iload_n 3, 1) := by decide +kernel
theorem d_law_120 : decode code 120 = .ok (.iconst 1, 1) := by decide +kernel
theorem d_law_121 : decode code 121 = .ok (.iadd, 1) := by decide +kernel
theorem d_law_122 : decode code 122 = .ok (.iaload, 1) := by decide +kernel
theorem d_law_123 : decode code 123 = .ok (.i2l, 1) := by decide +kernel
theorem d_law_124 : decode code 124 = .ok (.bipush 32, 2) := by decide +kernel
theorem d_law_126 : decode code 126 = .ok (.lshl, 1) := by decide +kernel
theorem d_law_127 : decode code 127 = .ok (.aload_n 0, 1) := by decide +kernel
theorem d_law_128 : decode code 128 = .ok (.iload_n 3, 1) := by decide +kernel
theorem d_law_129 : decode code 129 = .ok (.iconst 2, 1) := by decide +kernel
theorem d_law_130 : decode code 130 = .ok (.iadd, 1) := by decide +kernel
theorem d_law_131 : decode code 131 = .ok (.iaload, 1) := by decide +kernel
theorem d_law_132 : decode code 132 = .ok (.i2l, 1) := by decide +kernel
theorem d_law_133 : decode code 133 = .ok (.ldc2_w 13, 3) := by decide +kernel
theorem d_law_136 : decode code 136 = .ok (.land, 1) := by decide +kernel
theorem d_law_137 : decode code 137 = .ok (.lor, 1) := by decide +kernel
theorem d_law_138 : decode code 138 = .ok (.aload_n 0, 1) := by decide +kernel
theorem d_law_139 : decode code 139 = .ok (.iload_n 3, 1) := by decide +kernel
theorem d_law_140 : decode code 140 = .ok (.iconst 3, 1) := by decide +kernel
theorem d_law_141 : decode code 141 = .ok (.iadd, 1) := by decide +kernel
theorem d_law_142 : decode code 142 = .ok (.iaload, 1) := by decide +kernel
theorem d_law_143 : decode code 143 = .ok (.invokevirtual 19, 3) := by decide +kernel
theorem d_law_146 : decode code 146 = .ok (.if_icmp .eq 223, 3) := by decide +kernel
theorem d_law_149 : decode code 149 = .ok (.iconst 0, 1) := by decide +kernel
theorem d_law_150 : decode code 150 = .ok (.ireturn, 1) := by decide +kernel
theorem d_law_151 : decode code 151 = .ok (.aload_n 1, 1) := by decide +kernel
theorem d_law_152 : decode code 152 = .ok (.aload_n 0, 1) := by decide +kernel
theorem d_law_153 : decode code 153 = .ok (.iload_n 3, 1) := by decide +kernel
theorem d_law_154 : decode code 154 = .ok (.iconst 1, 1) := by decide +kernel
theorem d_law_155 : decode code 155 = .ok (.iadd, 1) := by decide +kernel
theorem d_law_156 : decode code 156 = .ok (.iaload, 1) := by decide +kernel
theorem d_law_157 : decode code 157 = .ok (.invokevirtual 20, 3) := by decide +kernel
theorem d_law_160 : decode code 160 = .ok (.aload_n 2, 1) := by decide +kernel
theorem d_law_161 : decode code 161 = .ok (.aload_n 0, 1) := by decide +kernel
theorem d_law_162 : decode code 162 = .ok (.iload_n 3, 1) := by decide +kernel
theorem d_law_163 : decode code 163 = .ok (.iconst 1, 1) := by decide +kernel
theorem d_law_164 : decode code 164 = .ok (.iadd, 1) := by decide +kernel
theorem d_law_165 : decode code 165 = .ok (.iaload, 1) := by decide +kernel
theorem d_law_166 : decode code 166 = .ok (.invokevirtual 24, 3) := by decide +kernel
theorem d_law_169 : decode code 169 = .ok (.if_icmp .eq 200, 3) := by decide +kernel
theorem d_law_172 : decode code 172 = .ok (.iconst 0, 1) := by decide +kernel
theorem d_law_173 : decode code 173 = .ok (.ireturn, 1) := by decide +kernel
theorem d_law_174 : decode code 174 = .ok (.aload_n 1, 1) := by decide +kernel
theorem d_law_175 : decode code 175 = .ok (.invokevirtual 25, 3) := by decide +kernel
theorem d_law_178 : decode code 178 = .ok (.aload_n 2, 1) := by decide +kernel
theorem d_law_179 : decode code 179 = .ok (.invokevirtual 29, 3) := by decide +kernel
theorem d_law_182 : decode code 182 = .ok (.if_icmp .eq 187, 3) := by decide +kernel
theorem d_law_185 : decode code 185 = .ok (.iconst 0, 1) := by decide +kernel
theorem d_law_186 : decode code 186 = .ok (.ireturn, 1) := by decide +kernel
theorem d_law_187 : decode code 187 = .ok (.aload_n 1, 1) := by decide +kernel
theorem d_law_188 : decode code 188 = .ok (.invokevirtual 30, 3) := by decide +kernel
theorem d_law_191 : decode code 191 = .ok (.aload_n 2, 1) := by decide +kernel
theorem d_law_192 : decode code 192 = .ok (.invokevirtual 33, 3) := by decide +kernel
theorem d_law_195 : decode code 195 = .ok (.if_icmp .eq 174, 3) := by decide +kernel
theorem d_law_198 : decode code 198 = .ok (.iconst 0, 1) := by decide +kernel
theorem d_law_199 : decode code 199 = .ok (.ireturn, 1) := by decide +kernel
theorem d_law_200 : decode code 200 = .ok (.aload_n 1, 1) := by decide +kernel
theorem d_law_201 : decode code 201 = .ok (.aload_n 0, 1) := by decide +kernel
theorem d_law_202 : decode code 202 = .ok (.iload_n 3, 1) := by decide +kernel
theorem d_law_203 : decode code 203 = .ok (.iconst 1, 1) := by decide +kernel
theorem d_law_204 : decode code 204 = .ok (.iadd, 1) := by decide +kernel
theorem d_law_205 : decode code 205 = .ok (.iaload, 1) := by decide +kernel
theorem d_law_206 : decode code 206 = .ok (.invokevirtual 34, 3) := by decide +kernel
theorem d_law_209 : decode code 209 = .ok (.aload_n 2, 1) := by decide +kernel
theorem d_law_210 : decode code 210 = .ok (.aload_n 0, 1) := by decide +kernel
theorem d_law_211 : decode code 211 = .ok (.iload_n 3, 1) := by decide +kernel
theorem d_law_212 : decode code 212 = .ok (.iconst 1, 1) := by decide +kernel
theorem d_law_213 : decode code 213 = .ok (.iadd, 1) := by decide +kernel
theorem d_law_214 : decode code 214 = .ok (.iaload, 1) := by decide +kernel
theorem d_law_215 : decode code 215 = .ok (.invokevirtual 38, 3) := by decide +kernel
theorem d_law_218 : decode code 218 = .ok (.if_icmp .eq 151, 3) := by decide +kernel
theorem d_law_221 : decode code 221 = .ok (.iconst 0, 1) := by decide +kernel
theorem d_law_222 : decode code 222 = .ok (.ireturn, 1) := by decide +kernel
theorem d_law_223 : decode code 223 = .ok (.aload_n 1, 1) := by decide +kernel
theorem d_law_224 : decode code 224 = .ok (.aload_n 0, 1) := by decide +kernel
theorem d_law_225 : decode code 225 = .ok (.iload_n 3, 1) := by decide +kernel
theorem d_law_226 : decode code 226 = .ok (.iconst 1, 1) := by decide +kernel
theorem d_law_227 : decode code 227 = .ok (.iadd, 1) := by decide +kernel
theorem d_law_228 : decode code 228 = .ok (.iaload, 1) := by decide +kernel
theorem d_law_229 : decode code 229 = .ok (.invokevirtual 39, 3) := by decide +kernel
theorem d_law_232 : decode code 232 = .ok (.aload_n 2, 1) := by decide +kernel
theorem d_law_233 : decode code 233 = .ok (.aload_n 0, 1) := by decide +kernel
theorem d_law_234 : decode code 234 = .ok (.iload_n 3, 1) := by decide +kernel
theorem d_law_235 : decode code 235 = .ok (.iconst 1, 1) := by decide +kernel
theorem d_law_236 : decode code 236 = .ok (.iadd, 1) := by decide +kernel
theorem d_law_237 : decode code 237 = .ok (.iaload, 1) := by decide +kernel
theorem d_law_238 : decode code 238 = .ok (.invokevirtual 42, 3) := by decide +kernel
theorem d_law_241 : decode code 241 = .ok (.if_icmp .eq 128, 3) := by decide +kernel
theorem d_law_244 : decode code 244 = .ok (.iconst 0, 1) := by decide +kernel
theorem d_law_245 : decode code 245 = .ok (.ireturn, 1) := by decide +kernel
theorem d_law_246 : decode code 246 = .ok (.aload_n 1, 1) := by decide +kernel
theorem d_law_247 : decode code 247 = .ok (.aload_n 0, 1) := by decide +kernel
theorem d_law_248 : decode code 248 = .ok (.iload_n 3, 1) := by decide +kernel
theorem d_law_249 : decode code 249 = .ok (.iconst 1, 1) := by decide +kernel
theorem d_law_250 : decode code 250 = .ok (.iadd, 1) := by decide +kernel
theorem d_law_251 : decode code 251 = .ok (.iaload, 1) := by decide +kernel
theorem d_law_252 : decode code 252 = .ok (.invokevirtual 43, 3) := by decide +kernel
theorem d_law_255 : decode code 255 = .ok (.aload_n 2, 1) := by decide +kernel
theorem d_law_256 : decode code 256 = .ok (.aload_n 0, 1) := by decide +kernel
theorem d_law_257 : decode code 257 = .ok (.iload_n 3, 1) := by decide +kernel
theorem d_law_258 : decode code 258 = .ok (.iconst 1, 1) := by decide +kernel
theorem d_law_259 : decode code 259 = .ok (.iadd, 1) := by decide +kernel
theorem d_law_260 : decode code 260 = .ok (.iaload, 1) := by decide +kernel
theorem d_law_261 : decode code 261 = .ok (.invokevirtual 46, 3) := by decide +kernel
theorem d_law_264 : decode code 264 = .ok (.if_icmp .eq 105, 3) := by decide +kernel
theorem d_law_267 : decode code 267 = .ok (.iconst 0, 1) := by decide +kernel
theorem d_law_268 : decode code 268 = .ok (.ireturn, 1) := by decide +kernel
theorem d_law_269 : decode code 269 = .ok (.aload_n 1, 1) := by decide +kernel
theorem d_law_270 : decode code 270 = .ok (.aload_n 0, 1) := by decide +kernel
theorem d_law_271 : decode code 271 = .ok (.iload_n 3, 1) := by decide +kernel
theorem d_law_272 : decode code 272 = .ok (.iconst 1, 1) := by decide +kernel
theorem d_law_273 : decode code 273 = .ok (.iadd, 1) := by decide +kernel
theorem d_law_274 : decode code 274 = .ok (.iaload, 1) := by decide +kernel
theorem d_law_275 : decode code 275 = .ok (.aload_n 0, 1) := by decide +kernel
theorem d_law_276 : decode code 276 = .ok (.iload_n 3, 1) := by decide +kernel
theorem d_law_277 : decode code 277 = .ok (.iconst 2, 1) := by decide +kernel
theorem d_law_278 : decode code 278 = .ok (.iadd, 1) := by decide +kernel
theorem d_law_279 : decode code 279 = .ok (.iaload, 1) := by decide +kernel
theorem d_law_280 : decode code 280 = .ok (.invokevirtual 47, 3) := by decide +kernel
theorem d_law_283 : decode code 283 = .ok (.aload_n 2, 1) := by decide +kernel
theorem d_law_284 : decode code 284 = .ok (.aload_n 0, 1) := by decide +kernel
theorem d_law_285 : decode code 285 = .ok (.iload_n 3, 1) := by decide +kernel
theorem d_law_286 : decode code 286 = .ok (.iconst 1, 1) := by decide +kernel
theorem d_law_287 : decode code 287 = .ok (.iadd, 1) := by decide +kernel
theorem d_law_288 : decode code 288 = .ok (.iaload, 1) := by decide +kernel
theorem d_law_289 : decode code 289 = .ok (.aload_n 0, 1) := by decide +kernel
theorem d_law_290 : decode code 290 = .ok (.iload_n 3, 1) := by decide +kernel
theorem d_law_291 : decode code 291 = .ok (.iconst 2, 1) := by decide +kernel
theorem d_law_292 : decode code 292 = .ok (.iadd, 1) := by decide +kernel
theorem d_law_293 : decode code 293 = .ok (.iaload, 1) := by decide +kernel
theorem d_law_294 : decode code 294 = .ok (.invokevirtual 51, 3) := by decide +kernel
theorem d_law_297 : decode code 297 = .ok (.if_icmp .eq 72, 3) := by decide +kernel
theorem d_law_300 : decode code 300 = .ok (.iconst 0, 1) := by decide +kernel
theorem d_law_301 : decode code 301 = .ok (.ireturn, 1) := by decide +kernel
theorem d_law_302 : decode code 302 = .ok (.aload_n 1, 1) := by decide +kernel
theorem d_law_303 : decode code 303 = .ok (.aload_n 0, 1) := by decide +kernel
theorem d_law_304 : decode code 304 = .ok (.iload_n 3, 1) := by decide +kernel
theorem d_law_305 : decode code 305 = .ok (.iconst 1, 1) := by decide +kernel
theorem d_law_306 : decode code 306 = .ok (.iadd, 1) := by decide +kernel
theorem d_law_307 : decode code 307 = .ok (.iaload, 1) := by decide +kernel
theorem d_law_308 : decode code 308 = .ok (.aload_n 0, 1) := by decide +kernel
theorem d_law_309 : decode code 309 = .ok (.iload_n 3, 1) := by decide +kernel
theorem d_law_310 : decode code 310 = .ok (.iconst 2, 1) := by decide +kernel
theorem d_law_311 : decode code 311 = .ok (.iadd, 1) := by decide +kernel
theorem d_law_312 : decode code 312 = .ok (.iaload, 1) := by decide +kernel
theorem d_law_313 : decode code 313 = .ok (.aload_n 0, 1) := by decide +kernel
theorem d_law_314 : decode code 314 = .ok (.iload_n 3, 1) := by decide +kernel
theorem d_law_315 : decode code 315 = .ok (.iconst 3, 1) := by decide +kernel
theorem d_law_316 : decode code 316 = .ok (.iadd, 1) := by decide +kernel
theorem d_law_317 : decode code 317 = .ok (.iaload, 1) := by decide +kernel
theorem d_law_318 : decode code 318 = .ok (.invokevirtual 52, 3) := by decide +kernel
theorem d_law_321 : decode code 321 = .ok (.aload_n 2, 1) := by decide +kernel
theorem d_law_322 : decode code 322 = .ok (.aload_n 0, 1) := by decide +kernel
theorem d_law_323 : decode code 323 = .ok (.iload_n 3, 1) := by decide +kernel
theorem d_law_324 : decode code 324 = .ok (.iconst 1, 1) := by decide +kernel
theorem d_law_325 : decode code 325 = .ok (.iadd, 1) := by decide +kernel
theorem d_law_326 : decode code 326 = .ok (.iaload, 1) := by decide +kernel
theorem d_law_327 : decode code 327 = .ok (.aload_n 0, 1) := by decide +kernel
theorem d_law_328 : decode code 328 = .ok (.iload_n 3, 1) := by decide +kernel
theorem d_law_329 : decode code 329 = .ok (.iconst 2, 1) := by decide +kernel
theorem d_law_330 : decode code 330 = .ok (.iadd, 1) := by decide +kernel
theorem d_law_331 : decode code 331 = .ok (.iaload, 1) := by decide +kernel
theorem d_law_332 : decode code 332 = .ok (.aload_n 0, 1) := by decide +kernel
theorem d_law_333 : decode code 333 = .ok (.iload_n 3, 1) := by decide +kernel
theorem d_law_334 : decode code 334 = .ok (.iconst 3, 1) := by decide +kernel
theorem d_law_335 : decode code 335 = .ok (.iadd, 1) := by decide +kernel
theorem d_law_336 : decode code 336 = .ok (.iaload, 1) := by decide +kernel
theorem d_law_337 : decode code 337 = .ok (.invokevirtual 56, 3) := by decide +kernel
theorem d_law_340 : decode code 340 = .ok (.if_icmp .eq 29, 3) := by decide +kernel
theorem d_law_343 : decode code 343 = .ok (.iconst 0, 1) := by decide +kernel
theorem d_law_344 : decode code 344 = .ok (.ireturn, 1) := by decide +kernel
theorem d_law_345 : decode code 345 = .ok (.aload_n 1, 1) := by decide +kernel
theorem d_law_346 : decode code 346 = .ok (.aload_n 0, 1) := by decide +kernel
theorem d_law_347 : decode code 347 = .ok (.iload_n 3, 1) := by decide +kernel
theorem d_law_348 : decode code 348 = .ok (.iconst 1, 1) := by decide +kernel
theorem d_law_349 : decode code 349 = .ok (.iadd, 1) := by decide +kernel
theorem d_law_350 : decode code 350 = .ok (.iaload, 1) := by decide +kernel
theorem d_law_351 : decode code 351 = .ok (.invokevirtual 57, 3) := by decide +kernel
theorem d_law_354 : decode code 354 = .ok (.aload_n 2, 1) := by decide +kernel
theorem d_law_355 : decode code 355 = .ok (.aload_n 0, 1) := by decide +kernel
theorem d_law_356 : decode code 356 = .ok (.iload_n 3, 1) := by decide +kernel
theorem d_law_357 : decode code 357 = .ok (.iconst 1, 1) := by decide +kernel
theorem d_law_358 : decode code 358 = .ok (.iadd, 1) := by decide +kernel
theorem d_law_359 : decode code 359 = .ok (.iaload, 1) := by decide +kernel
theorem d_law_360 : decode code 360 = .ok (.invokevirtual 61, 3) := by decide +kernel
theorem d_law_363 : decode code 363 = .ok (.lcmp, 1) := by decide +kernel
theorem d_law_364 : decode code 364 = .ok (.ifCond .eq 5, 3) := by decide +kernel
theorem d_law_367 : decode code 367 = .ok (.iconst 0, 1) := by decide +kernel
theorem d_law_368 : decode code 368 = .ok (.ireturn, 1) := by decide +kernel
theorem d_law_369 : decode code 369 = .ok (.iinc 3 4, 3) := by decide +kernel
theorem d_law_372 : decode code 372 = .ok (.goto (-354), 3) := by decide +kernel
theorem d_law_375 : decode code 375 = .ok (.iconst 1, 1) := by decide +kernel
theorem d_law_376 : decode code 376 = .ok (.ireturn, 1) := by decide +kernel
end
section
def cd_b (b : Bool) : Int32 := if b = true then 1 else 0
theorem cd_b1 {b : Bool} (h : b = true) : (1 : Int32) = cd_b b := by rw [h]; rfl
theorem cd_b0 {b : Bool} (h : b = false) : (0 : Int32) = cd_b b := by rw [h]; rfl
theorem cd_d1 {P : Prop} [Decidable P] (h : P) : (1 : Int32) = cd_b (decide P) := cd_b1 (decide_eq_true h)
theorem cd_d0 {P : Prop} [Decidable P] (h : ¬ P) : (0 : Int32) = cd_b (decide P) := cd_b0 (decide_eq_false h)
theorem cd_nz (b : Bool) : narrow .boolean (.int (cd_b b)) = .int (cd_b b) := by cases b <;> rfl
theorem cd_fz (b : Bool) : fits .boolean (.int (cd_b b)) = true := by cases b <;> rfl
theorem cd_b_eq0 {b : Bool} : cd_b b = 0 ↔ b = false := by cases b <;> decide
theorem cd_big_tbl {w : Cond} (h : w ∈ cd_big) : w ∈ lw_tbl := (List.mem_filter.mp h).1
theorem cd_good {w : Cond} (h : w ∈ cd_big) : (w.onTables && w.keeps) = true ∨ ∃ ty, w = .arrayClass ty := good_of_word (List.mem_filter.mp h).2
def cd_rm (k mc ms : Nat) : Room := { frames := k, cells := mc, slots := ms, locals := 27 * k }
/-- what stands fixed in a walk of a method of own: the machine, the code, the words, the frames that are left -/
abbrev cd_Fx (p : Program) (s : State) (m : MethodId) (args : Array Value) (c : Code) (cc : ByteArray) (nL : Nat) (own : String) (K : Nat) (R : Room) : Prop :=
  p.tables.exec = Jvm.exec ∧ c.code = cc ∧ c.maxLocals = nL ∧ s.vm.findClass own = some m.cls ∧ (∀ w ∈ cd_big, w.before args s = true) ∧ K ≤ R.frames ∧ 27 * K ≤ R.locals
abbrev cd_desc (y : MethodName) (n : Nat) : Prop := y.cls ≠ "java/lang/invoke/MethodHandle" ∧ y.cls ≠ "java/lang/invoke/VarHandle" ∧ (parseMethodDescriptor y.desc).map (fun d => d.parameters.length) = some n
theorem cd_met {l : Launch} {y : MethodName} {K mc ms : Nat} {av : List Value} {B : State → Prop} {Qc : Array Value → State → Outcome → State → Prop} {free : Addr → Prop} {cc : ByteArray} {maxL : Nat} {ret : Option FieldType}
    (hy : plainName y.cls = true) (hn : (lg_sl av).length ≤ maxL)
    (body : ∀ (p : Program) (e : Env) (s : State) (m : MethodId) (args : Array Value) (below : List Frame) (meth : Method) (c : Code) (R : Room) (Q : State → Prop) (ls : Array Slot),
      R = cd_rm K mc ms → Q = MQ below Qc args s mc ms free → meth.sig.returnType = ret → meth.locks = false → (y.name = "<init>" → meth.name = "<init>") → cd_Fx p s m args c cc maxL y.cls K R → B s → lv_has ls maxL (lv_args 0 av) →
      W p l e R s m args below meth c s.heap [] 0 0 Q (F0 m 0 ls [])) :
    Met l y (.code y cc maxL ret :: cd_big) (cd_rm K mc ms) (va_Pc av B) Qc mc ms free := by
  refine Met.ofW (cc := cc) (maxL := maxL) (ret := ret) hy rfl ?_
  intro p e s m args below meth c s₁ BB hml hv
  obtain ⟨rfl, hB⟩ := hv
  have hts := atoms_spec (ws := .code y cc maxL ret :: cd_big) BB.pre
  have h := body p e s m _ below meth c _ _ _ rfl rfl BB.returns BB.notSynchronized (fun h => (name_of_methodNamed BB.named BB.method).1.trans h) ⟨BB.exec, BB.bytes, hml, findClass_of_methodNamed BB.named, fun w hw => hts w (List.mem_cons_of_mem _ hw), Nat.le_refl _, Nat.le_refl _⟩ hB (lv_entry av hn)
  rw [lg_entry_eq]
  exact h
section CORE
variable {p : Program} {l : Launch} {e : Env} {R : Room} {s : State} {m : MethodId} {args : Array Value} {below : List Frame} {meth : Method} {c : Code} {H : Heap} {locs : List Loc} {cells slots : Nat} {Q : State → Prop}
variable {cc : ByteArray} {pc nL K : Nat} {ls : Array Slot} {rest st : List Value} {own : String}

theorem cd_goodIn {y : MethodName} {b : ByteArray} {n : Nat} {r : Option FieldType} (h4 : Cond.code y b n r ∈ cd_big) : GoodIn cd_big (.code y b n r :: cd_big) := by
  intro w hw
  rcases List.mem_cons.mp hw with rfl | hw
  · exact ⟨h4, cd_good h4⟩
  · exact ⟨hw, cd_good hw⟩
theorem cd_cb {y : MethodName} {b : ByteArray} {n k mc ms len idx : Nat} {r : Option FieldType} (F : cd_Fx p s m args c cc nL own K R) (hk : k + 1 ≤ K) (hn : n ≤ 8) (h1 : Cond.methodLink own idx y ∈ cd_big) (h3 : Cond.initialized y.cls ∈ cd_big) (h4 : Cond.code y b n r ∈ cd_big) (hd : cd_desc y len) :
    CallB R s args own idx y b n r (.code y b n r :: cd_big) (cd_rm k mc ms) mc ms len := by
  obtain ⟨-, -, -, -, hts, hf, hl⟩ := F
  exact callB_of len hts (cd_goodIn h4) rfl rfl rfl (hts _ h3) (hts _ h1) hd ⟨show k + 1 ≤ R.frames by omega, show 8 + (n + 11) + 27 * k ≤ R.locals by omega⟩
/-- a static method that only computes -/
theorem cd_callP {y : MethodName} {b : ByteArray} {n k idx : Nat} {r : Option FieldType} {As : List Value} {B : State → Prop} {post : Int32 → Prop} (F : cd_Fx p s m args c cc nL own K R)
    (hM : Met l y (.code y b n r :: cd_big) (cd_rm k 0 0) (va_Pc As B) (vp_Si post) 0 0 (fun _ => False)) (hk : k + 1 ≤ K) (hn : n ≤ 8)
    (h1 : Cond.methodLink own idx y ∈ cd_big) (h2 : Cond.static y ∈ cd_big) (h3 : Cond.initialized y.cls ∈ cd_big) (h4 : Cond.code y b n r ∈ cd_big) (hd : cd_desc y As.length)
    (hbl : ∀ (U : State) (g : JFrame) (mk : MethodId) (a : Array Value), B U → B (U.calling g mk a)) (hpre : ∀ U : State, U.heap = H → s.WarmedH U.vm → B U)
    (hf : cells ≤ R.cells ∧ slots ≤ R.slots) (hst : st = As.reverse ++ rest) (hsz : ls.size = nL) (hW : (rest.map fun v => v.category).sum ≤ 8) (hdg : decode cc pc = .ok (.invokestatic idx, 3))
    (kk : ∀ r : Int32, post r → W p l e R s m args below meth c H locs cells slots Q (F0 m (pc + 3) ls (.int r :: rest))) : W p l e R s m args below meth c H locs cells slots Q (F0 m pc ls st) := by
  subst hst
  have hcb := cd_cb (mc := 0) (ms := 0) F hk hn h1 h3 h4 hd
  obtain ⟨hx, hb, hml, ho, hts, -⟩ := F
  exact vp_callSi (va_runS (As := As) (rest := rest) ⟨hx, hb, hml, ho, hts⟩ hM ⟨hcb, hts _ h2⟩ ⟨fun a U g mk q => ⟨q.1, hbl U g mk a q.2⟩, fun U hU hW => ⟨rfl, hpre U hU hW⟩⟩ rfl rfl hsz rfl (lv_room hW) hdg hf).run kk
/-- a method of an object that only computes -/
theorem cd_callPV {y : MethodName} {b : ByteArray} {n k idx : Nat} {r : Option FieldType} {As : List Value} {B : State → Prop} {post : Int32 → Prop} {G : va_G} {tys : List (ClassId × FieldType)} {ws : va_W} {o : Nat} {fs : List Value} {q : vw_C} (F : cd_Fx p s m args c cc nL own K R)
    (hM : Met l y (.code y b n r :: cd_big) (cd_rm k 0 0) (va_Pc (.ref o :: As) B) (vp_Si post) 0 0 (fun _ => False)) (hk : k + 1 ≤ K) (hn : n ≤ 8)
    (hK : va_K G classes tys s) (hP : va_P G classes ws H) (q0 ci : Nat) (he : ws[q0]? = some (o, .inr (ci, fs))) (hc : classes[ci]? = some q)
    (h1 : Cond.methodLink own idx y ∈ cd_big) (h2 : Cond.instanceMethod y ∈ cd_big) (h5 : Cond.selects q.1 y y ∈ cd_big) (h3 : Cond.initialized y.cls ∈ cd_big) (h4 : Cond.code y b n r ∈ cd_big) (hd : cd_desc y As.length)
    (hbl : ∀ (U : State) (g : JFrame) (mk : MethodId) (a : Array Value), B U → B (U.calling g mk a)) (hpre : ∀ U : State, U.heap = H → s.WarmedH U.vm → B U)
    (hf : cells ≤ R.cells ∧ slots ≤ R.slots) (hst : st = As.reverse ++ .ref o :: rest) (hsz : ls.size = nL) (hW : (rest.map fun v => v.category).sum ≤ 8) (hdg : decode cc pc = .ok (.invokevirtual idx, 3))
    (kk : ∀ r : Int32, post r → W p l e R s m args below meth c H locs cells slots Q (F0 m (pc + 3) ls (.int r :: rest))) : W p l e R s m args below meth c H locs cells slots Q (F0 m pc ls st) := by
  subst hst
  have hcb := cd_cb (mc := 0) (ms := 0) F hk hn h1 h3 h4 hd
  obtain ⟨hx, hb, hml, ho, hts, -⟩ := F
  exact vp_callSi (va_runV (C := q.1) (As := As) (rest := rest) ⟨hx, hb, hml, ho, hts⟩ hM ⟨hcb, hts _ h2, hts _ h5⟩ ⟨fun a U g mk q => ⟨q.1, hbl U g mk a q.2⟩, va_recv hK hP hc he, fun U hU hW => ⟨rfl, hpre U hU hW⟩⟩ rfl rfl hsz rfl (lv_room hW) hdg hf).run kk
theorem cd_callPVl {y : MethodName} {b : ByteArray} {n k idx : Nat} {r : Option FieldType} {As : List Value} {B : State → Prop} {post : Int64 → Prop} {G : va_G} {tys : List (ClassId × FieldType)} {ws : va_W} {o : Nat} {fs : List Value} {q : vw_C} (F : cd_Fx p s m args c cc nL own K R)
    (hM : Met l y (.code y b n r :: cd_big) (cd_rm k 0 0) (va_Pc (.ref o :: As) B) (vp_Sl post) 0 0 (fun _ => False)) (hk : k + 1 ≤ K) (hn : n ≤ 8)
    (hK : va_K G classes tys s) (hP : va_P G classes ws H) (q0 ci : Nat) (he : ws[q0]? = some (o, .inr (ci, fs))) (hc : classes[ci]? = some q)
    (h1 : Cond.methodLink own idx y ∈ cd_big) (h2 : Cond.instanceMethod y ∈ cd_big) (h5 : Cond.selects q.1 y y ∈ cd_big) (h3 : Cond.initialized y.cls ∈ cd_big) (h4 : Cond.code y b n r ∈ cd_big) (hd : cd_desc y As.length)
    (hbl : ∀ (U : State) (g : JFrame) (mk : MethodId) (a : Array Value), B U → B (U.calling g mk a)) (hpre : ∀ U : State, U.heap = H → s.WarmedH U.vm → B U)
    (hf : cells ≤ R.cells ∧ slots ≤ R.slots) (hst : st = As.reverse ++ .ref o :: rest) (hsz : ls.size = nL) (hW : (rest.map fun v => v.category).sum ≤ 8) (hdg : decode cc pc = .ok (.invokevirtual idx, 3))
    (kk : ∀ r : Int64, post r → W p l e R s m args below meth c H locs cells slots Q (F0 m (pc + 3) ls (.long r :: rest))) : W p l e R s m args below meth c H locs cells slots Q (F0 m pc ls st) := by
  subst hst
  have hcb := cd_cb (mc := 0) (ms := 0) F hk hn h1 h3 h4 hd
  obtain ⟨hx, hb, hml, ho, hts, -⟩ := F
  exact vp_callSl (va_runV (C := q.1) (As := As) (rest := rest) ⟨hx, hb, hml, ho, hts⟩ hM ⟨hcb, hts _ h2, hts _ h5⟩ ⟨fun a U g mk q => ⟨q.1, hbl U g mk a q.2⟩, va_recv hK hP hc he, fun U hU hW => ⟨rfl, hpre U hU hW⟩⟩ rfl rfl hsz rfl (lv_room hW) hdg hf).run kk
theorem cd_top {x y : Int32} (h : x = y) (k : W p l e R s m args below meth c H locs cells slots Q (F0 m pc ls (.int y :: rest))) : W p l e R s m args below meth c H locs cells slots Q (F0 m pc ls (.int x :: rest)) := by rw [h]; exact k
theorem cd_topl {x y : Int64} (h : x = y) (k : W p l e R s m args below meth c H locs cells slots Q (F0 m pc ls (.long y :: rest))) : W p l e R s m args below meth c H locs cells slots Q (F0 m pc ls (.long x :: rest)) := by rw [h]; exact k
/-- the end of a method that only computes: an int, a boolean, a long -/
theorem cd_retI {post : Int32 → Prop} {v : Int32} (hQ : Q = MQ below (vp_Si post) args s 0 0 (fun _ => False)) (hx : p.tables.exec = Jvm.exec) (hb : c.code = cc) (hr : meth.sig.returnType = some .int) (hlk : meth.locks = false) (hdg : decode cc pc = .ok (.ireturn, 1)) (hp : post v) : W p l e R s m args below meth c s.heap [] 0 0 Q (F0 m pc ls [.int v]) := by
  subst hQ
  exact W.iret hx hb hr (fun t ht _ => ⟨v, rfl, hp, ht⟩) (fun q h => by cases h) hdg hlk
theorem cd_retZ {post : Int32 → Prop} {v : Int32} (hQ : Q = MQ below (vp_Si post) args s 0 0 (fun _ => False)) (hx : p.tables.exec = Jvm.exec) (hb : c.code = cc) (hr : meth.sig.returnType = some .boolean) (hlk : meth.locks = false) (hdg : decode cc pc = .ok (.ireturn, 1)) (hn : narrow .boolean (.int v) = .int v) (hp : post v) : W p l e R s m args below meth c s.heap [] 0 0 Q (F0 m pc ls [.int v]) := by
  subst hQ
  exact W.zret hx hb hr hn (fun t ht _ => ⟨v, rfl, hp, ht⟩) (fun q h => by cases h) hdg hlk
theorem cd_retL {post : Int64 → Prop} {v : Int64} (hQ : Q = MQ below (vp_Sl post) args s 0 0 (fun _ => False)) (hx : p.tables.exec = Jvm.exec) (hb : c.code = cc) (hr : meth.sig.returnType = some .long) (hlk : meth.locks = false) (hdg : decode cc pc = .ok (.lreturn, 1)) (hp : post v) : W p l e R s m args below meth c s.heap [] 0 0 Q (F0 m pc ls [.long v]) := by
  subst hQ
  exact W.lret hx hb hr (fun t ht _ => ⟨v, rfl, hp, ht⟩) (fun q h => by cases h) hdg hlk

theorem cd_icmp_eq (hexec : p.tables.exec = Jvm.exec) (hb : c.code = cc) {x y : Int32} {a b off : Int} {tgt : Nat} (hdg : decode cc pc = .ok (.if_icmp .eq off, 3)) (ht : (pc : Int) + off = (tgt : Int)) (hx : x.toInt = a) (hy : y.toInt = b)
    (kt : a = b → W p l e R s m args below meth c H locs cells slots Q (F0 m tgt ls rest)) (kf : ¬ a = b → W p l e R s m args below meth c H locs cells slots Q (F0 m (pc + 3) ls rest)) : W p l e R s m args below meth c H locs cells slots Q (F0 m pc ls (.int y :: .int x :: rest)) := by
  subst hx; subst hy
  exact lv_icmp_eq hexec hb hdg ht (fun h => kt (by simpa only [← Int32.toInt_inj] using h)) (fun h => kf (by simpa only [← Int32.toInt_inj] using h))
theorem cd_if_eq (hexec : p.tables.exec = Jvm.exec) (hb : c.code = cc) {x : Int32} {a off : Int} {tgt : Nat} (hdg : decode cc pc = .ok (.ifCond .eq off, 3)) (ht : (pc : Int) + off = (tgt : Int)) (hx : x.toInt = a)
    (kt : a = 0 → W p l e R s m args below meth c H locs cells slots Q (F0 m tgt ls rest)) (kf : ¬ a = 0 → W p l e R s m args below meth c H locs cells slots Q (F0 m (pc + 3) ls rest)) : W p l e R s m args below meth c H locs cells slots Q (F0 m pc ls (.int x :: rest)) := by
  subst hx
  exact lv_if_eq hexec hb hdg ht (fun h => kt (by simpa only [← Int32.toInt_inj, Int32.toInt_zero] using h)) (fun h => kf (by simpa only [← Int32.toInt_inj, Int32.toInt_zero] using h))
theorem cd_icmp_ne (hexec : p.tables.exec = Jvm.exec) (hb : c.code = cc) {x y : Int32} {a b off : Int} {tgt : Nat} (hdg : decode cc pc = .ok (.if_icmp .ne off, 3)) (ht : (pc : Int) + off = (tgt : Int)) (hx : x.toInt = a) (hy : y.toInt = b)
    (kt : ¬ a = b → W p l e R s m args below meth c H locs cells slots Q (F0 m tgt ls rest)) (kf : a = b → W p l e R s m args below meth c H locs cells slots Q (F0 m (pc + 3) ls rest)) : W p l e R s m args below meth c H locs cells slots Q (F0 m pc ls (.int y :: .int x :: rest)) := by
  subst hx; subst hy
  exact lv_icmp_ne hexec hb hdg ht (fun h => kt (by simpa only [← Int32.toInt_inj] using h)) (fun h => kf (by simpa only [← Int32.toInt_inj] using h))
theorem cd_if_ne (hexec : p.tables.exec = Jvm.exec) (hb : c.code = cc) {x : Int32} {a off : Int} {tgt : Nat} (hdg : decode cc pc = .ok (.ifCond .ne off, 3)) (ht : (pc : Int) + off = (tgt : Int)) (hx : x.toInt = a)
    (kt : ¬ a = 0 → W p l e R s m args below meth c H locs cells slots Q (F0 m tgt ls rest)) (kf : a = 0 → W p l e R s m args below meth c H locs cells slots Q (F0 m (pc + 3) ls rest)) : W p l e R s m args below meth c H locs cells slots Q (F0 m pc ls (.int x :: rest)) := by
  subst hx
  exact lv_if_ne hexec hb hdg ht (fun h => kt (by simpa only [← Int32.toInt_inj, Int32.toInt_zero] using h)) (fun h => kf (by simpa only [← Int32.toInt_inj, Int32.toInt_zero] using h))
theorem cd_icmp_lt (hexec : p.tables.exec = Jvm.exec) (hb : c.code = cc) {x y : Int32} {a b off : Int} {tgt : Nat} (hdg : decode cc pc = .ok (.if_icmp .lt off, 3)) (ht : (pc : Int) + off = (tgt : Int)) (hx : x.toInt = a) (hy : y.toInt = b)
    (kt : a < b → W p l e R s m args below meth c H locs cells slots Q (F0 m tgt ls rest)) (kf : ¬ a < b → W p l e R s m args below meth c H locs cells slots Q (F0 m (pc + 3) ls rest)) : W p l e R s m args below meth c H locs cells slots Q (F0 m pc ls (.int y :: .int x :: rest)) := by
  subst hx; subst hy
  exact lv_icmp_lt hexec hb hdg ht (fun h => kt (by simpa only [Int32.lt_iff_toInt_lt] using h)) (fun h => kf (by simpa only [Int32.lt_iff_toInt_lt] using h))
theorem cd_if_lt (hexec : p.tables.exec = Jvm.exec) (hb : c.code = cc) {x : Int32} {a off : Int} {tgt : Nat} (hdg : decode cc pc = .ok (.ifCond .lt off, 3)) (ht : (pc : Int) + off = (tgt : Int)) (hx : x.toInt = a)
    (kt : a < 0 → W p l e R s m args below meth c H locs cells slots Q (F0 m tgt ls rest)) (kf : ¬ a < 0 → W p l e R s m args below meth c H locs cells slots Q (F0 m (pc + 3) ls rest)) : W p l e R s m args below meth c H locs cells slots Q (F0 m pc ls (.int x :: rest)) := by
  subst hx
  exact lv_if_lt hexec hb hdg ht (fun h => kt (by simpa only [Int32.lt_iff_toInt_lt, Int32.toInt_zero] using h)) (fun h => kf (by simpa only [Int32.lt_iff_toInt_lt, Int32.toInt_zero] using h))
theorem cd_icmp_ge (hexec : p.tables.exec = Jvm.exec) (hb : c.code = cc) {x y : Int32} {a b off : Int} {tgt : Nat} (hdg : decode cc pc = .ok (.if_icmp .ge off, 3)) (ht : (pc : Int) + off = (tgt : Int)) (hx : x.toInt = a) (hy : y.toInt = b)
    (kt : b ≤ a → W p l e R s m args below meth c H locs cells slots Q (F0 m tgt ls rest)) (kf : ¬ b ≤ a → W p l e R s m args below meth c H locs cells slots Q (F0 m (pc + 3) ls rest)) : W p l e R s m args below meth c H locs cells slots Q (F0 m pc ls (.int y :: .int x :: rest)) := by
  subst hx; subst hy
  exact lv_icmp_ge hexec hb hdg ht (fun h => kt (by simpa only [Int32.le_iff_toInt_le] using h)) (fun h => kf (by simpa only [Int32.le_iff_toInt_le] using h))
theorem cd_if_ge (hexec : p.tables.exec = Jvm.exec) (hb : c.code = cc) {x : Int32} {a off : Int} {tgt : Nat} (hdg : decode cc pc = .ok (.ifCond .ge off, 3)) (ht : (pc : Int) + off = (tgt : Int)) (hx : x.toInt = a)
    (kt : 0 ≤ a → W p l e R s m args below meth c H locs cells slots Q (F0 m tgt ls rest)) (kf : ¬ 0 ≤ a → W p l e R s m args below meth c H locs cells slots Q (F0 m (pc + 3) ls rest)) : W p l e R s m args below meth c H locs cells slots Q (F0 m pc ls (.int x :: rest)) := by
  subst hx
  exact lv_if_ge hexec hb hdg ht (fun h => kt (by simpa only [Int32.le_iff_toInt_le, Int32.toInt_zero] using h)) (fun h => kf (by simpa only [Int32.le_iff_toInt_le, Int32.toInt_zero] using h))
theorem cd_icmp_gt (hexec : p.tables.exec = Jvm.exec) (hb : c.code = cc) {x y : Int32} {a b off : Int} {tgt : Nat} (hdg : decode cc pc = .ok (.if_icmp .gt off, 3)) (ht : (pc : Int) + off = (tgt : Int)) (hx : x.toInt = a) (hy : y.toInt = b)
    (kt : b < a → W p l e R s m args below meth c H locs cells slots Q (F0 m tgt ls rest)) (kf : ¬ b < a → W p l e R s m args below meth c H locs cells slots Q (F0 m (pc + 3) ls rest)) : W p l e R s m args below meth c H locs cells slots Q (F0 m pc ls (.int y :: .int x :: rest)) := by
  subst hx; subst hy
  exact lv_icmp_gt hexec hb hdg ht (fun h => kt (by simpa only [Int32.lt_iff_toInt_lt] using h)) (fun h => kf (by simpa only [Int32.lt_iff_toInt_lt] using h))
theorem cd_if_gt (hexec : p.tables.exec = Jvm.exec) (hb : c.code = cc) {x : Int32} {a off : Int} {tgt : Nat} (hdg : decode cc pc = .ok (.ifCond .gt off, 3)) (ht : (pc : Int) + off = (tgt : Int)) (hx : x.toInt = a)
    (kt : 0 < a → W p l e R s m args below meth c H locs cells slots Q (F0 m tgt ls rest)) (kf : ¬ 0 < a → W p l e R s m args below meth c H locs cells slots Q (F0 m (pc + 3) ls rest)) : W p l e R s m args below meth c H locs cells slots Q (F0 m pc ls (.int x :: rest)) := by
  subst hx
  exact lv_if_gt hexec hb hdg ht (fun h => kt (by simpa only [Int32.lt_iff_toInt_lt, Int32.toInt_zero] using h)) (fun h => kf (by simpa only [Int32.lt_iff_toInt_lt, Int32.toInt_zero] using h))
theorem cd_icmp_le (hexec : p.tables.exec = Jvm.exec) (hb : c.code = cc) {x y : Int32} {a b off : Int} {tgt : Nat} (hdg : decode cc pc = .ok (.if_icmp .le off, 3)) (ht : (pc : Int) + off = (tgt : Int)) (hx : x.toInt = a) (hy : y.toInt = b)
    (kt : a ≤ b → W p l e R s m args below meth c H locs cells slots Q (F0 m tgt ls rest)) (kf : ¬ a ≤ b → W p l e R s m args below meth c H locs cells slots Q (F0 m (pc + 3) ls rest)) : W p l e R s m args below meth c H locs cells slots Q (F0 m pc ls (.int y :: .int x :: rest)) := by
  subst hx; subst hy
  exact lv_icmp_le hexec hb hdg ht (fun h => kt (by simpa only [Int32.le_iff_toInt_le] using h)) (fun h => kf (by simpa only [Int32.le_iff_toInt_le] using h))
theorem cd_if_le (hexec : p.tables.exec = Jvm.exec) (hb : c.code = cc) {x : Int32} {a off : Int} {tgt : Nat} (hdg : decode cc pc = .ok (.ifCond .le off, 3)) (ht : (pc : Int) + off = (tgt : Int)) (hx : x.toInt = a)
    (kt : a ≤ 0 → W p l e R s m args below meth c H locs cells slots Q (F0 m tgt ls rest)) (kf : ¬ a ≤ 0 → W p l e R s m args below meth c H locs cells slots Q (F0 m (pc + 3) ls rest)) : W p l e R s m args below meth c H locs cells slots Q (F0 m pc ls (.int x :: rest)) := by
  subst hx
  exact lv_if_le hexec hb hdg ht (fun h => kt (by simpa only [Int32.le_iff_toInt_le, Int32.toInt_zero] using h)) (fun h => kf (by simpa only [Int32.le_iff_toInt_le, Int32.toInt_zero] using h))
theorem cd_if_eq_b (hexec : p.tables.exec = Jvm.exec) (hb : c.code = cc) {b : Bool} {off : Int} {tgt : Nat} (hdg : decode cc pc = .ok (.ifCond .eq off, 3)) (ht : (pc : Int) + off = (tgt : Int))
    (kt : b = false → W p l e R s m args below meth c H locs cells slots Q (F0 m tgt ls rest)) (kf : b = true → W p l e R s m args below meth c H locs cells slots Q (F0 m (pc + 3) ls rest)) : W p l e R s m args below meth c H locs cells slots Q (F0 m pc ls (.int (cd_b b) :: rest)) :=
  lv_if_eq hexec hb hdg ht (fun h => kt (cd_b_eq0.mp h)) (fun h => kf (by cases b <;> simp_all [cd_b_eq0]))
theorem cd_if_ne_b (hexec : p.tables.exec = Jvm.exec) (hb : c.code = cc) {b : Bool} {off : Int} {tgt : Nat} (hdg : decode cc pc = .ok (.ifCond .ne off, 3)) (ht : (pc : Int) + off = (tgt : Int))
    (kt : b = true → W p l e R s m args below meth c H locs cells slots Q (F0 m tgt ls rest)) (kf : b = false → W p l e R s m args below meth c H locs cells slots Q (F0 m (pc + 3) ls rest)) : W p l e R s m args below meth c H locs cells slots Q (F0 m pc ls (.int (cd_b b) :: rest)) :=
  lv_if_ne hexec hb hdg ht (fun h => kt (by cases b <;> simp_all [cd_b_eq0])) (fun h => kf (cd_b_eq0.mp h))
theorem cd_if_eq_d (hexec : p.tables.exec = Jvm.exec) (hb : c.code = cc) {P : Prop} [Decidable P] {off : Int} {tgt : Nat} (hdg : decode cc pc = .ok (.ifCond .eq off, 3)) (ht : (pc : Int) + off = (tgt : Int))
    (kt : ¬ P → W p l e R s m args below meth c H locs cells slots Q (F0 m tgt ls rest)) (kf : P → W p l e R s m args below meth c H locs cells slots Q (F0 m (pc + 3) ls rest)) : W p l e R s m args below meth c H locs cells slots Q (F0 m pc ls (.int (cd_b (decide P)) :: rest)) :=
  cd_if_eq_b hexec hb hdg ht (fun h => kt (of_decide_eq_false h)) (fun h => kf (of_decide_eq_true h))
theorem cd_if_ne_d (hexec : p.tables.exec = Jvm.exec) (hb : c.code = cc) {P : Prop} [Decidable P] {off : Int} {tgt : Nat} (hdg : decode cc pc = .ok (.ifCond .ne off, 3)) (ht : (pc : Int) + off = (tgt : Int))
    (kt : P → W p l e R s m args below meth c H locs cells slots Q (F0 m tgt ls rest)) (kf : ¬ P → W p l e R s m args below meth c H locs cells slots Q (F0 m (pc + 3) ls rest)) : W p l e R s m args below meth c H locs cells slots Q (F0 m pc ls (.int (cd_b (decide P)) :: rest)) :=
  cd_if_ne_b hexec hb hdg ht (fun h => kt (of_decide_eq_true h)) (fun h => kf (of_decide_eq_false h))
end CORE
end
section
/-! what characters are, as whole numbers -/
def cd_has (c : Int) : Bool := decide ((0 ≤ c ∧ c < 55296) ∨ (57344 ≤ c ∧ c < 1114112))
def cd_sz (c : Int) : Nat := if c < 128 then 1 else if c < 2048 then 2 else if c < 65536 then 3 else 4
def cd_alw (c : Int) : Bool := decide (c = 9 ∨ c = 10 ∨ c = 13 ∨ (32 ≤ c ∧ c < 55296) ∨ (57344 ≤ c ∧ c < 65534) ∨ (65536 ≤ c ∧ c < 1114112))
def cd_blk (c : Int) : Bool := decide (c = 32 ∨ c = 9 ∨ c = 13 ∨ c = 10)
def cd_bgl (c : Int) : Bool := decide (c = 58 ∨ c = 95 ∨ (65 ≤ c ∧ c ≤ 90) ∨ (97 ≤ c ∧ c ≤ 122) ∨ (192 ≤ c ∧ c ≤ 214) ∨ (216 ≤ c ∧ c ≤ 246) ∨ (248 ≤ c ∧ c ≤ 767))
def cd_bgm (c : Int) : Bool := decide ((880 ≤ c ∧ c ≤ 893) ∨ (895 ≤ c ∧ c ≤ 8191) ∨ (8204 ≤ c ∧ c ≤ 8205) ∨ (8304 ≤ c ∧ c ≤ 8591) ∨ (11264 ≤ c ∧ c ≤ 12271))
def cd_bgh (c : Int) : Bool := decide ((12289 ≤ c ∧ c ≤ 55295) ∨ (63744 ≤ c ∧ c ≤ 64975) ∨ (65008 ≤ c ∧ c ≤ 65533) ∨ (65536 ≤ c ∧ c ≤ 983039))
def cd_beg (c : Int) : Bool := cd_bgl c || (cd_bgm c || cd_bgh c)
def cd_prt (c : Int) : Bool := decide (c = 45 ∨ c = 46 ∨ (48 ≤ c ∧ c ≤ 57) ∨ c = 183 ∨ (768 ≤ c ∧ c ≤ 879) ∨ (8255 ≤ c ∧ c ≤ 8256))
def cd_part (c : Int) : Bool := cd_beg c || cd_prt c
def cd_n (b : Bool) (k : Nat) : Nat := if b = true then k else 0
def cd_kd (c : Int) : Nat := cd_n (cd_alw c) 1 + cd_n (cd_blk c) 2 + cd_n (cd_beg c) 4 + cd_n (cd_part c) 8
theorem cd_nt {b : Bool} {k : Nat} (h : b = true) : cd_n b k = k := by simp [cd_n, h]
theorem cd_nf {b : Bool} {k : Nat} (h : b = false) : cd_n b k = 0 := by simp [cd_n, h]
/-! the tables -/
def cd_may : List Int32 := [0x9, 0xB, 0xD, 0xE, 0x20, 0xD800, 0xE000, 0xFFFE, 0x10000, 0x110000]
def cd_bgs : List Int32 := [0x3A, 0x3B, 0x41, 0x5B, 0x5F, 0x60, 0x61, 0x7B, 0xC0, 0xD7, 0xD8, 0xF7, 0xF8, 0x300, 0x370, 0x37E, 0x37F, 0x2000, 0x200C, 0x200E, 0x2070, 0x2190, 0x2C00, 0x2FF0, 0x3001, 0xD800, 0xF900, 0xFDD0, 0xFDF0, 0xFFFE, 0x10000, 0xF0000]
def cd_pts : List Int32 := [0x2D, 0x2F, 0x30, 0x3A, 0xB7, 0xB8, 0x300, 0x370, 0x203F, 0x2041]
/-- k ends of the table are not above c -/
def cd_cut (L : List Int32) (c : Int) (k : Nat) : Prop := k ≤ L.length ∧ (∀ j, j < k → (L.getD j 0).toInt ≤ c) ∧ ∀ j, k ≤ j → j < L.length → c < (L.getD j 0).toInt
def cd_up (L : List Int32) : Prop := ∀ i j, i ≤ j → j < L.length → (L.getD i 0).toInt ≤ (L.getD j 0).toInt
theorem cd_up_of {L : List Int32} (h : (List.range L.length).all (fun j => (List.range (j + 1)).all (fun i => decide ((L.getD i 0).toInt ≤ (L.getD j 0).toInt))) = true) : cd_up L := by
  intro i j hij hj
  have h1 := List.all_eq_true.mp h j (List.mem_range.mpr hj)
  have h2 := List.all_eq_true.mp h1 i (List.mem_range.mpr (by omega))
  exact of_decide_eq_true h2
theorem cd_up_may : cd_up cd_may := cd_up_of (by decide +kernel)
theorem cd_up_bgs : cd_up cd_bgs := cd_up_of (by decide +kernel)
theorem cd_up_pts : cd_up cd_pts := cd_up_of (by decide +kernel)
theorem cd_cut_may {c : Int} {k : Nat} (h : cd_cut cd_may c k) : decide (k % 2 = 1) = cd_alw c := by
  obtain ⟨h1, h2, h3⟩ := h
  have h1 : k ≤ 10 := h1
  have hk : k = 0 ∨ k = 1 ∨ k = 2 ∨ k = 3 ∨ k = 4 ∨ k = 5 ∨ k = 6 ∨ k = 7 ∨ k = 8 ∨ k = 9 ∨ k = 10 := by omega
  rcases hk with rfl | rfl | rfl | rfl | rfl | rfl | rfl | rfl | rfl | rfl | rfl
  · skip
    have b : c < (9 : Int) := h3 0 (by decide) (by decide)
    exact (show false = cd_alw c by rw [eq_comm]; simp only [cd_alw, decide_eq_false_iff_not]; omega)
  · have a : (9 : Int) ≤ c := h2 0 (by decide)
    have b : c < (11 : Int) := h3 1 (by decide) (by decide)
    exact (show true = cd_alw c by rw [eq_comm]; simp only [cd_alw, decide_eq_true_eq]; omega)
  · have a : (11 : Int) ≤ c := h2 1 (by decide)
    have b : c < (13 : Int) := h3 2 (by decide) (by decide)
    exact (show false = cd_alw c by rw [eq_comm]; simp only [cd_alw, decide_eq_false_iff_not]; omega)
  · have a : (13 : Int) ≤ c := h2 2 (by decide)
    have b : c < (14 : Int) := h3 3 (by decide) (by decide)
    exact (show true = cd_alw c by rw [eq_comm]; simp only [cd_alw, decide_eq_true_eq]; omega)
  · have a : (14 : Int) ≤ c := h2 3 (by decide)
    have b : c < (32 : Int) := h3 4 (by decide) (by decide)
    exact (show false = cd_alw c by rw [eq_comm]; simp only [cd_alw, decide_eq_false_iff_not]; omega)
  · have a : (32 : Int) ≤ c := h2 4 (by decide)
    have b : c < (55296 : Int) := h3 5 (by decide) (by decide)
    exact (show true = cd_alw c by rw [eq_comm]; simp only [cd_alw, decide_eq_true_eq]; omega)
  · have a : (55296 : Int) ≤ c := h2 5 (by decide)
    have b : c < (57344 : Int) := h3 6 (by decide) (by decide)
    exact (show false = cd_alw c by rw [eq_comm]; simp only [cd_alw, decide_eq_false_iff_not]; omega)
  · have a : (57344 : Int) ≤ c := h2 6 (by decide)
    have b : c < (65534 : Int) := h3 7 (by decide) (by decide)
    exact (show true = cd_alw c by rw [eq_comm]; simp only [cd_alw, decide_eq_true_eq]; omega)
  · have a : (65534 : Int) ≤ c := h2 7 (by decide)
    have b : c < (65536 : Int) := h3 8 (by decide) (by decide)
    exact (show false = cd_alw c by rw [eq_comm]; simp only [cd_alw, decide_eq_false_iff_not]; omega)
  · have a : (65536 : Int) ≤ c := h2 8 (by decide)
    have b : c < (1114112 : Int) := h3 9 (by decide) (by decide)
    exact (show true = cd_alw c by rw [eq_comm]; simp only [cd_alw, decide_eq_true_eq]; omega)
  · have a : (1114112 : Int) ≤ c := h2 9 (by decide)
    exact (show false = cd_alw c by rw [eq_comm]; simp only [cd_alw, decide_eq_false_iff_not]; omega)
theorem cd_cut_pts {c : Int} {k : Nat} (h : cd_cut cd_pts c k) : decide (k % 2 = 1) = cd_prt c := by
  obtain ⟨h1, h2, h3⟩ := h
  have h1 : k ≤ 10 := h1
  have hk : k = 0 ∨ k = 1 ∨ k = 2 ∨ k = 3 ∨ k = 4 ∨ k = 5 ∨ k = 6 ∨ k = 7 ∨ k = 8 ∨ k = 9 ∨ k = 10 := by omega
  rcases hk with rfl | rfl | rfl | rfl | rfl | rfl | rfl | rfl | rfl | rfl | rfl
  · skip
    have b : c < (45 : Int) := h3 0 (by decide) (by decide)
    exact (show false = cd_prt c by rw [eq_comm]; simp only [cd_prt, decide_eq_false_iff_not]; omega)
  · have a : (45 : Int) ≤ c := h2 0 (by decide)
    have b : c < (47 : Int) := h3 1 (by decide) (by decide)
    exact (show true = cd_prt c by rw [eq_comm]; simp only [cd_prt, decide_eq_true_eq]; omega)
  · have a : (47 : Int) ≤ c := h2 1 (by decide)
    have b : c < (48 : Int) := h3 2 (by decide) (by decide)
    exact (show false = cd_prt c by rw [eq_comm]; simp only [cd_prt, decide_eq_false_iff_not]; omega)
  · have a : (48 : Int) ≤ c := h2 2 (by decide)
    have b : c < (58 : Int) := h3 3 (by decide) (by decide)
    exact (show true = cd_prt c by rw [eq_comm]; simp only [cd_prt, decide_eq_true_eq]; omega)
  · have a : (58 : Int) ≤ c := h2 3 (by decide)
    have b : c < (183 : Int) := h3 4 (by decide) (by decide)
    exact (show false = cd_prt c by rw [eq_comm]; simp only [cd_prt, decide_eq_false_iff_not]; omega)
  · have a : (183 : Int) ≤ c := h2 4 (by decide)
    have b : c < (184 : Int) := h3 5 (by decide) (by decide)
    exact (show true = cd_prt c by rw [eq_comm]; simp only [cd_prt, decide_eq_true_eq]; omega)
  · have a : (184 : Int) ≤ c := h2 5 (by decide)
    have b : c < (768 : Int) := h3 6 (by decide) (by decide)
    exact (show false = cd_prt c by rw [eq_comm]; simp only [cd_prt, decide_eq_false_iff_not]; omega)
  · have a : (768 : Int) ≤ c := h2 6 (by decide)
    have b : c < (880 : Int) := h3 7 (by decide) (by decide)
    exact (show true = cd_prt c by rw [eq_comm]; simp only [cd_prt, decide_eq_true_eq]; omega)
  · have a : (880 : Int) ≤ c := h2 7 (by decide)
    have b : c < (8255 : Int) := h3 8 (by decide) (by decide)
    exact (show false = cd_prt c by rw [eq_comm]; simp only [cd_prt, decide_eq_false_iff_not]; omega)
  · have a : (8255 : Int) ≤ c := h2 8 (by decide)
    have b : c < (8257 : Int) := h3 9 (by decide) (by decide)
    exact (show true = cd_prt c by rw [eq_comm]; simp only [cd_prt, decide_eq_true_eq]; omega)
  · have a : (8257 : Int) ≤ c := h2 9 (by decide)
    exact (show false = cd_prt c by rw [eq_comm]; simp only [cd_prt, decide_eq_false_iff_not]; omega)
theorem cd_cut_bgs {c : Int} {k : Nat} (h : cd_cut cd_bgs c k) : decide (k % 2 = 1) = cd_beg c := by
  obtain ⟨h1, h2, h3⟩ := h
  have h1 : k ≤ 32 := h1
  have hk : k = 0 ∨ k = 1 ∨ k = 2 ∨ k = 3 ∨ k = 4 ∨ k = 5 ∨ k = 6 ∨ k = 7 ∨ k = 8 ∨ k = 9 ∨ k = 10 ∨ k = 11 ∨ k = 12 ∨ k = 13 ∨ k = 14 ∨ k = 15 ∨ k = 16 ∨ k = 17 ∨ k = 18 ∨ k = 19 ∨ k = 20 ∨ k = 21 ∨ k = 22 ∨ k = 23 ∨ k = 24 ∨ k = 25 ∨ k = 26 ∨ k = 27 ∨ k = 28 ∨ k = 29 ∨ k = 30 ∨ k = 31 ∨ k = 32 := by omega
  rcases hk with rfl | rfl | rfl | rfl | rfl | rfl | rfl | rfl | rfl | rfl | rfl | rfl | rfl | rfl | rfl | rfl | rfl | rfl | rfl | rfl | rfl | rfl | rfl | rfl | rfl | rfl | rfl | rfl | rfl | rfl | rfl | rfl | rfl
  · skip
    have b : c < (58 : Int) := h3 0 (by decide) (by decide)
    exact (show false = cd_beg c by rw [eq_comm]; simp only [cd_beg, cd_bgl, cd_bgm, cd_bgh, Bool.or_eq_false_iff, decide_eq_false_iff_not]; omega)
  · have a : (58 : Int) ≤ c := h2 0 (by decide)
    have b : c < (59 : Int) := h3 1 (by decide) (by decide)
    exact (show true = cd_beg c by rw [eq_comm]; simp only [cd_beg, cd_bgl, cd_bgm, cd_bgh, Bool.or_eq_true, decide_eq_true_eq]; omega)
  · have a : (59 : Int) ≤ c := h2 1 (by decide)
    have b : c < (65 : Int) := h3 2 (by decide) (by decide)
    exact (show false = cd_beg c by rw [eq_comm]; simp only [cd_beg, cd_bgl, cd_bgm, cd_bgh, Bool.or_eq_false_iff, decide_eq_false_iff_not]; omega)
  · have a : (65 : Int) ≤ c := h2 2 (by decide)
    have b : c < (91 : Int) := h3 3 (by decide) (by decide)
    exact (show true = cd_beg c by rw [eq_comm]; simp only [cd_beg, cd_bgl, cd_bgm, cd_bgh, Bool.or_eq_true, decide_eq_true_eq]; omega)
  · have a : (91 : Int) ≤ c := h2 3 (by decide)
    have b : c < (95 : Int) := h3 4 (by decide) (by decide)
    exact (show false = cd_beg c by rw [eq_comm]; simp only [cd_beg, cd_bgl, cd_bgm, cd_bgh, Bool.or_eq_false_iff, decide_eq_false_iff_not]; omega)
  · have a : (95 : Int) ≤ c := h2 4 (by decide)
    have b : c < (96 : Int) := h3 5 (by decide) (by decide)
    exact (show true = cd_beg c by rw [eq_comm]; simp only [cd_beg, cd_bgl, cd_bgm, cd_bgh, Bool.or_eq_true, decide_eq_true_eq]; omega)
  · have a : (96 : Int) ≤ c := h2 5 (by decide)
    have b : c < (97 : Int) := h3 6 (by decide) (by decide)
    exact (show false = cd_beg c by rw [eq_comm]; simp only [cd_beg, cd_bgl, cd_bgm, cd_bgh, Bool.or_eq_false_iff, decide_eq_false_iff_not]; omega)
  · have a : (97 : Int) ≤ c := h2 6 (by decide)
    have b : c < (123 : Int) := h3 7 (by decide) (by decide)
    exact (show true = cd_beg c by rw [eq_comm]; simp only [cd_beg, cd_bgl, cd_bgm, cd_bgh, Bool.or_eq_true, decide_eq_true_eq]; omega)
  · have a : (123 : Int) ≤ c := h2 7 (by decide)
    have b : c < (192 : Int) := h3 8 (by decide) (by decide)
    exact (show false = cd_beg c by rw [eq_comm]; simp only [cd_beg, cd_bgl, cd_bgm, cd_bgh, Bool.or_eq_false_iff, decide_eq_false_iff_not]; omega)
  · have a : (192 : Int) ≤ c := h2 8 (by decide)
    have b : c < (215 : Int) := h3 9 (by decide) (by decide)
    exact (show true = cd_beg c by rw [eq_comm]; simp only [cd_beg, cd_bgl, cd_bgm, cd_bgh, Bool.or_eq_true, decide_eq_true_eq]; omega)
  · have a : (215 : Int) ≤ c := h2 9 (by decide)
    have b : c < (216 : Int) := h3 10 (by decide) (by decide)
    exact (show false = cd_beg c by rw [eq_comm]; simp only [cd_beg, cd_bgl, cd_bgm, cd_bgh, Bool.or_eq_false_iff, decide_eq_false_iff_not]; omega)
  · have a : (216 : Int) ≤ c := h2 10 (by decide)
    have b : c < (247 : Int) := h3 11 (by decide) (by decide)
    exact (show true = cd_beg c by rw [eq_comm]; simp only [cd_beg, cd_bgl, cd_bgm, cd_bgh, Bool.or_eq_true, decide_eq_true_eq]; omega)
  · have a : (247 : Int) ≤ c := h2 11 (by decide)
    have b : c < (248 : Int) := h3 12 (by decide) (by decide)
    exact (show false = cd_beg c by rw [eq_comm]; simp only [cd_beg, cd_bgl, cd_bgm, cd_bgh, Bool.or_eq_false_iff, decide_eq_false_iff_not]; omega)
  · have a : (248 : Int) ≤ c := h2 12 (by decide)
    have b : c < (768 : Int) := h3 13 (by decide) (by decide)
    exact (show true = cd_beg c by rw [eq_comm]; simp only [cd_beg, cd_bgl, cd_bgm, cd_bgh, Bool.or_eq_true, decide_eq_true_eq]; omega)
  · have a : (768 : Int) ≤ c := h2 13 (by decide)
    have b : c < (880 : Int) := h3 14 (by decide) (by decide)
    exact (show false = cd_beg c by rw [eq_comm]; simp only [cd_beg, cd_bgl, cd_bgm, cd_bgh, Bool.or_eq_false_iff, decide_eq_false_iff_not]; omega)
  · have a : (880 : Int) ≤ c := h2 14 (by decide)
    have b : c < (894 : Int) := h3 15 (by decide) (by decide)
    exact (show true = cd_beg c by rw [eq_comm]; simp only [cd_beg, cd_bgl, cd_bgm, cd_bgh, Bool.or_eq_true, decide_eq_true_eq]; omega)
  · have a : (894 : Int) ≤ c := h2 15 (by decide)
    have b : c < (895 : Int) := h3 16 (by decide) (by decide)
    exact (show false = cd_beg c by rw [eq_comm]; simp only [cd_beg, cd_bgl, cd_bgm, cd_bgh, Bool.or_eq_false_iff, decide_eq_false_iff_not]; omega)
  · have a : (895 : Int) ≤ c := h2 16 (by decide)
    have b : c < (8192 : Int) := h3 17 (by decide) (by decide)
    exact (show true = cd_beg c by rw [eq_comm]; simp only [cd_beg, cd_bgl, cd_bgm, cd_bgh, Bool.or_eq_true, decide_eq_true_eq]; omega)
  · have a : (8192 : Int) ≤ c := h2 17 (by decide)
    have b : c < (8204 : Int) := h3 18 (by decide) (by decide)
    exact (show false = cd_beg c by rw [eq_comm]; simp only [cd_beg, cd_bgl, cd_bgm, cd_bgh, Bool.or_eq_false_iff, decide_eq_false_iff_not]; omega)
  · have a : (8204 : Int) ≤ c := h2 18 (by decide)
    have b : c < (8206 : Int) := h3 19 (by decide) (by decide)
    exact (show true = cd_beg c by rw [eq_comm]; simp only [cd_beg, cd_bgl, cd_bgm, cd_bgh, Bool.or_eq_true, decide_eq_true_eq]; omega)
  · have a : (8206 : Int) ≤ c := h2 19 (by decide)
    have b : c < (8304 : Int) := h3 20 (by decide) (by decide)
    exact (show false = cd_beg c by rw [eq_comm]; simp only [cd_beg, cd_bgl, cd_bgm, cd_bgh, Bool.or_eq_false_iff, decide_eq_false_iff_not]; omega)
  · have a : (8304 : Int) ≤ c := h2 20 (by decide)
    have b : c < (8592 : Int) := h3 21 (by decide) (by decide)
    exact (show true = cd_beg c by rw [eq_comm]; simp only [cd_beg, cd_bgl, cd_bgm, cd_bgh, Bool.or_eq_true, decide_eq_true_eq]; omega)
  · have a : (8592 : Int) ≤ c := h2 21 (by decide)
    have b : c < (11264 : Int) := h3 22 (by decide) (by decide)
    exact (show false = cd_beg c by rw [eq_comm]; simp only [cd_beg, cd_bgl, cd_bgm, cd_bgh, Bool.or_eq_false_iff, decide_eq_false_iff_not]; omega)
  · have a : (11264 : Int) ≤ c := h2 22 (by decide)
    have b : c < (12272 : Int) := h3 23 (by decide) (by decide)
    exact (show true = cd_beg c by rw [eq_comm]; simp only [cd_beg, cd_bgl, cd_bgm, cd_bgh, Bool.or_eq_true, decide_eq_true_eq]; omega)
  · have a : (12272 : Int) ≤ c := h2 23 (by decide)
    have b : c < (12289 : Int) := h3 24 (by decide) (by decide)
    exact (show false = cd_beg c by rw [eq_comm]; simp only [cd_beg, cd_bgl, cd_bgm, cd_bgh, Bool.or_eq_false_iff, decide_eq_false_iff_not]; omega)
  · have a : (12289 : Int) ≤ c := h2 24 (by decide)
    have b : c < (55296 : Int) := h3 25 (by decide) (by decide)
    exact (show true = cd_beg c by rw [eq_comm]; simp only [cd_beg, cd_bgl, cd_bgm, cd_bgh, Bool.or_eq_true, decide_eq_true_eq]; omega)
  · have a : (55296 : Int) ≤ c := h2 25 (by decide)
    have b : c < (63744 : Int) := h3 26 (by decide) (by decide)
    exact (show false = cd_beg c by rw [eq_comm]; simp only [cd_beg, cd_bgl, cd_bgm, cd_bgh, Bool.or_eq_false_iff, decide_eq_false_iff_not]; omega)
  · have a : (63744 : Int) ≤ c := h2 26 (by decide)
    have b : c < (64976 : Int) := h3 27 (by decide) (by decide)
    exact (show true = cd_beg c by rw [eq_comm]; simp only [cd_beg, cd_bgl, cd_bgm, cd_bgh, Bool.or_eq_true, decide_eq_true_eq]; omega)
  · have a : (64976 : Int) ≤ c := h2 27 (by decide)
    have b : c < (65008 : Int) := h3 28 (by decide) (by decide)
    exact (show false = cd_beg c by rw [eq_comm]; simp only [cd_beg, cd_bgl, cd_bgm, cd_bgh, Bool.or_eq_false_iff, decide_eq_false_iff_not]; omega)
  · have a : (65008 : Int) ≤ c := h2 28 (by decide)
    have b : c < (65534 : Int) := h3 29 (by decide) (by decide)
    exact (show true = cd_beg c by rw [eq_comm]; simp only [cd_beg, cd_bgl, cd_bgm, cd_bgh, Bool.or_eq_true, decide_eq_true_eq]; omega)
  · have a : (65534 : Int) ≤ c := h2 29 (by decide)
    have b : c < (65536 : Int) := h3 30 (by decide) (by decide)
    exact (show false = cd_beg c by rw [eq_comm]; simp only [cd_beg, cd_bgl, cd_bgm, cd_bgh, Bool.or_eq_false_iff, decide_eq_false_iff_not]; omega)
  · have a : (65536 : Int) ≤ c := h2 30 (by decide)
    have b : c < (983040 : Int) := h3 31 (by decide) (by decide)
    exact (show true = cd_beg c by rw [eq_comm]; simp only [cd_beg, cd_bgl, cd_bgm, cd_bgh, Bool.or_eq_true, decide_eq_true_eq]; omega)
  · have a : (983040 : Int) ≤ c := h2 31 (by decide)
    exact (show false = cd_beg c by rw [eq_comm]; simp only [cd_beg, cd_bgl, cd_bgm, cd_bgh, Bool.or_eq_false_iff, decide_eq_false_iff_not]; omega)
end
section
/-! ===== the worlds of the desk and of its twin; contracts over them ===== -/
abbrev cd_tys (ks : Nat → ClassId) : List (ClassId × FieldType) := [(ks 0, .byte), (ks 1, .int), (ks 2, .int), (ks 3, .int), (ks 4, .int)]
/-- the links to a nest mate's members -/
def cd_Nw (U : State) : Prop := va_Nw (.fieldLinkNest R_Chars 44 R_Coder "size" "I" R_Desk) U ∧ va_Nw (.fieldLinkNest R_Desk 55 R_Chars "chars" "[I" R_Desk) U ∧ va_Nw (.fieldLinkNest R_Desk 58 R_Chars "places" "[I" R_Desk) U ∧ va_Nw (.fieldLinkNest R_Desk 52 R_Chars "size" "I" R_Desk) U ∧ va_Nw (.fieldLinkNest R_Desk 51 R_Chars "place" "I" R_Desk) U ∧ va_Nw (.methodLinkNest R_Chars 9 y_Coder_init R_Desk) U
theorem cd_Nw.warm {s U : State} (hW : s.WarmedH U.vm) (h : cd_Nw s) : cd_Nw U := ⟨h.1.warmF hW, h.2.1.warmF hW, h.2.2.1.warmF hW, h.2.2.2.1.warmF hW, h.2.2.2.2.1.warmF hW, h.2.2.2.2.2.warmM hW⟩
theorem cd_Nw.same {s U : State} (hv : s.vm = U.vm) (h : cd_Nw s) : cd_Nw U := ⟨h.1.same rfl hv, h.2.1.same rfl hv, h.2.2.1.same rfl hv, h.2.2.2.1.same rfl hv, h.2.2.2.2.1.same rfl hv, h.2.2.2.2.2.same rfl hv⟩
/-- a table of Letters: the static holds an array, it holds the numbers of L, nobody writes it -/
def cd_T1 (nm : String) (L : List Int32) (A : Nat → Prop) (U : State) (H : Heap) : Prop := ∃ t : Nat, va_Z R_Letters nm "[I" (.ref t) A U H ∧ va_T .int t L.length (fun j => .int (L.getD j 0)) A U H
theorem cd_T1.moved {nm : String} {L : List Int32} {A : Nat → Prop} {u U : State} {H : Heap} (hvm : u.vm.Alike U.vm) (h : cd_T1 nm L A u H) : cd_T1 nm L A U H := by
  obtain ⟨t, h1, h2⟩ := h
  exact ⟨t, h1.moved hvm, h2.moved hvm⟩
theorem cd_T1.kept {nm : String} {L : List Int32} {A : Nat → Prop} {U : State} {H H1 : Heap} (h : cd_T1 nm L A U H) (hq : ∀ a : Nat, a < H.size → ¬ A a → H1[a]? = H[a]?) : cd_T1 nm L A U H1 := by
  obtain ⟨t, h1, h2⟩ := h
  exact ⟨t, h1.kept hq, h2.kept hq⟩
theorem cd_T1.narrow {nm : String} {L : List Int32} {A B : Nat → Prop} {U : State} {H : Heap} (h : cd_T1 nm L A U H) (hAB : ∀ q, B q → A q) : cd_T1 nm L B U H := by
  obtain ⟨t, h1, h2⟩ := h
  exact ⟨t, h1.narrow hAB, h2.narrow hAB⟩
def cd_Tb (A : Nat → Prop) (U : State) (H : Heap) : Prop := cd_T1 "MAY" cd_may A U H ∧ cd_T1 "BEGINS" cd_bgs A U H ∧ cd_T1 "PARTS" cd_pts A U H
theorem cd_Tb.moved {A : Nat → Prop} {u U : State} {H : Heap} (hvm : u.vm.Alike U.vm) (h : cd_Tb A u H) : cd_Tb A U H := ⟨h.1.moved hvm, h.2.1.moved hvm, h.2.2.moved hvm⟩
theorem cd_Tb.kept {A : Nat → Prop} {U : State} {H H1 : Heap} (h : cd_Tb A U H) (hq : ∀ a : Nat, a < H.size → ¬ A a → H1[a]? = H[a]?) : cd_Tb A U H1 := ⟨h.1.kept hq, h.2.1.kept hq, h.2.2.kept hq⟩
theorem cd_Tb.narrow {A B : Nat → Prop} {U : State} {H : Heap} (h : cd_Tb A U H) (hAB : ∀ q, B q → A q) : cd_Tb B U H := ⟨h.1.narrow hAB, h.2.1.narrow hAB, h.2.2.narrow hAB⟩
theorem cd_Tb.calling {A : Nat → Prop} {U : State} {g : JFrame} {mk : MethodId} {a : Array Value} (h : cd_Tb A U U.heap) : cd_Tb A (U.calling g mk a) (U.calling g mk a).heap := cd_Tb.moved (u := U) (U := U.calling g mk a) (Vm.Alike.refl U.vm) h
theorem cd_Tb.at {A B : Nat → Prop} {s U : State} {H : Heap} {locs : List Loc} (h : cd_Tb A s s.heap) (hS : va_S A s.heap H locs) (hAB : ∀ q, B q → A q) (hU : U.heap = H) (hW : s.WarmedH U.vm) : cd_Tb B U U.heap := by
  rw [hU]
  exact ((h.kept hS.2.1).moved hW.alike).narrow hAB
/-- what a method of the desk or of its twin finds beside its cells -/
def cd_Env (G : va_G) (ks : Nat → ClassId) (A : Nat → Prop) (s : State) : Prop := va_K G classes (cd_tys ks) s ∧ cd_Nw s ∧ cd_Tb A s s.heap
theorem cd_Env.calling {G : va_G} {ks : Nat → ClassId} {A : Nat → Prop} {U : State} {g : JFrame} {mk : MethodId} {a : Array Value} (h : cd_Env G ks A U) : cd_Env G ks A (U.calling g mk a) := ⟨va_K.moved (u := U) (U := U.calling g mk a) (Vm.Alike.refl U.vm) h.1, h.2.1.same rfl, h.2.2.calling⟩
theorem cd_Env.at {G : va_G} {ks : Nat → ClassId} {A B : Nat → Prop} {s U : State} {H : Heap} {locs : List Loc} (h : cd_Env G ks A s) (hS : va_S A s.heap H locs) (hAB : ∀ q, B q → A q) (hU : U.heap = H) (hW : s.WarmedH U.vm) : cd_Env G ks B U := ⟨va_K.moved hW.alike h.1, h.2.1.warm hW, h.2.2.at hS hAB hU hW⟩
/-- a start of a method that only computes: cells, and what stands beside -/
def cd_In (G : va_G) (ks : Nat → ClassId) (ws : va_W) (U : State) : Prop := va_P G classes ws U.heap ∧ cd_Env G ks (fun _ => False) U
theorem cd_In.calling {G : va_G} {ks : Nat → ClassId} {ws : va_W} {U : State} {g : JFrame} {mk : MethodId} {a : Array Value} (h : cd_In G ks ws U) : cd_In G ks ws (U.calling g mk a) := ⟨h.1, h.2.calling⟩
theorem cd_In.of {G : va_G} {ks : Nat → ClassId} {A : Nat → Prop} {s U : State} {H : Heap} {locs : List Loc} {ws : va_W} (h : cd_Env G ks A s) (hP : va_P G classes ws H) (hS : va_S A s.heap H locs) (hU : U.heap = H) (hW : s.WarmedH U.vm) : cd_In G ks ws U := ⟨by rw [hU]; exact hP, h.at hS (fun _ h => h.elim) hU hW⟩
/-- a start of a method that writes its cells -/
def cd_Pre (G : va_G) (ks : Nat → ClassId) (ws : va_W) (sz : Nat) (U : State) : Prop := U.heap.size = sz ∧ va_D (fun _ => True) ws ∧ va_P G classes ws U.heap ∧ cd_Env G ks (va_A ws sz) U
theorem cd_Pre.calling {G : va_G} {ks : Nat → ClassId} {ws : va_W} {sz : Nat} {U : State} {g : JFrame} {mk : MethodId} {a : Array Value} (h : cd_Pre G ks ws sz U) : cd_Pre G ks ws sz (U.calling g mk a) := ⟨h.1, h.2.1, h.2.2.1, h.2.2.2.calling⟩
def cd_at {S : Type} (G : va_G) (A : Nat → Prop) (w : S → va_W) (u : S) (t : State) : Prop := va_P G classes (w u) t.heap ∧ va_D A (w u)
abbrev cd_MetP (l : Launch) (y : MethodName) (b : ByteArray) (n : Nat) (r : Option FieldType) (k : Nat) (av : List Value) (B : State → Prop) (post : Int32 → Prop) : Prop :=
  Met l y (.code y b n r :: cd_big) (cd_rm k 0 0) (va_Pc av B) (vp_Si post) 0 0 (fun _ => False)
abbrev cd_MetL (l : Launch) (y : MethodName) (b : ByteArray) (n : Nat) (r : Option FieldType) (k : Nat) (av : List Value) (B : State → Prop) (post : Int64 → Prop) : Prop :=
  Met l y (.code y b n r :: cd_big) (cd_rm k 0 0) (va_Pc av B) (vp_Sl post) 0 0 (fun _ => False)
abbrev cd_MetW {S : Type} (l : Launch) (G : va_G) (ks : Nat → ClassId) (y : MethodName) (b : ByteArray) (n : Nat) (r : Option FieldType) (k : Nat) (av : List Value) (ws : va_W) (sz : Nat) (post : Int32 → S → Prop) (w : S → va_W) : Prop :=
  Met l y (.code y b n r :: cd_big) (cd_rm k 0 0) (va_Pc av (cd_Pre G ks ws sz)) (va_Qi post (cd_at G (va_A ws sz) w) (va_A ws sz)) 0 0 (va_A ws sz)
abbrev cd_MetV {S : Type} (l : Launch) (G : va_G) (ks : Nat → ClassId) (y : MethodName) (b : ByteArray) (n : Nat) (r : Option FieldType) (k : Nat) (av : List Value) (ws : va_W) (sz : Nat) (post : S → Prop) (w : S → va_W) : Prop :=
  Met l y (.code y b n r :: cd_big) (cd_rm k 0 0) (va_Pc av (cd_Pre G ks ws sz)) (va_Qv post (cd_at G (va_A ws sz) w) (va_A ws sz)) 0 0 (va_A ws sz)
theorem cd_metW {S : Type} {l : Launch} {G : va_G} {ks : Nat → ClassId} {y : MethodName} {b : ByteArray} {n k sz : Nat} {r : Option FieldType} {av : List Value} {ws : va_W} {post : Int32 → S → Prop} {w : S → va_W} (hy : plainName y.cls = true) (hn : (lg_sl av).length ≤ n)
    (body : ∀ (p : Program) (e : Env) (s : State) (m : MethodId) (args : Array Value) (below : List Frame) (meth : Method) (c : Code) (R : Room) (Q : State → Prop) (ls : Array Slot) (A : Nat → Prop) (H : Heap) (locs : List Loc), Q = MQ below (va_Qi post (cd_at G A w) A) args s 0 0 A → meth.sig.returnType = r → meth.locks = false → cd_Fx p s m args c b n y.cls k R →
      cd_Env G ks A s → va_P G classes ws H → va_D A ws → (∀ q : Nat, s.heap.size ≤ q → A q) → va_S A s.heap H locs → lv_has ls n (lv_args 0 av) → W p l e R s m args below meth c H locs 0 0 Q (F0 m 0 ls [])) : cd_MetW l G ks y b n r k av ws sz post w := by
  refine cd_met hy hn ?_
  intro p e s m args below meth c R Q ls _ hQ hr hlk _ F hB hl
  obtain ⟨hsz, hD, hP, hE⟩ := hB
  subst hsz
  exact body p e s m args below meth c R Q ls _ _ _ hQ hr hlk F hE hP hD.self (fun q h => Or.inr h) va_S.rf hl
theorem cd_metV {S : Type} {l : Launch} {G : va_G} {ks : Nat → ClassId} {y : MethodName} {b : ByteArray} {n k sz : Nat} {r : Option FieldType} {av : List Value} {ws : va_W} {post : S → Prop} {w : S → va_W} (hy : plainName y.cls = true) (hn : (lg_sl av).length ≤ n)
    (body : ∀ (p : Program) (e : Env) (s : State) (m : MethodId) (args : Array Value) (below : List Frame) (meth : Method) (c : Code) (R : Room) (Q : State → Prop) (ls : Array Slot) (A : Nat → Prop) (H : Heap) (locs : List Loc), Q = MQ below (va_Qv post (cd_at G A w) A) args s 0 0 A → meth.sig.returnType = r → meth.locks = false → cd_Fx p s m args c b n y.cls k R →
      cd_Env G ks A s → va_P G classes ws H → va_D A ws → (∀ q : Nat, s.heap.size ≤ q → A q) → va_S A s.heap H locs → lv_has ls n (lv_args 0 av) → W p l e R s m args below meth c H locs 0 0 Q (F0 m 0 ls [])) : cd_MetV l G ks y b n r k av ws sz post w := by
  refine cd_met hy hn ?_
  intro p e s m args below meth c R Q ls _ hQ hr hlk _ F hB hl
  obtain ⟨hsz, hD, hP, hE⟩ := hB
  subst hsz
  exact body p e s m args below meth c R Q ls _ _ _ hQ hr hlk F hE hP hD.self (fun q h => Or.inr h) va_S.rf hl
section CORE2
variable {p : Program} {l : Launch} {e : Env} {R : Room} {s : State} {m : MethodId} {args : Array Value} {below : List Frame} {meth : Method} {c : Code} {H : Heap} {locs : List Loc} {cells slots : Nat} {Q : State → Prop}
variable {cc : ByteArray} {pc nL K : Nat} {ls : Array Slot} {rest st : List Value} {own : String} {D G : va_G} {cl : List vw_C} {A : Nat → Prop} {a : Nat} {tys : List (ClassId × FieldType)} {ws : va_W} {H0 : Heap} {ks : Nat → ClassId}
theorem cd_iald (hexec : p.tables.exec = Jvm.exec) (hb : c.code = cc) (hK : va_K D cl tys s) (hP : va_P D cl ws H) (q0 t0 : Nat) {cA : ClassId} {n : Nat} {f : Nat → Int32} (ha : ws[q0]? = some (a, .inl (cA, n, .inl f))) (ht : tys[t0]? = some (cA, .int)) {n0 : Nat} (h : n0 < n) (hn : n < 2 ^ 31) (hdg : decode cc pc = .ok (.iaload, 1))
    (kk : W p l e R s m args below meth c H locs cells slots Q (F0 m (pc + 1) ls (.int (f n0) :: rest))) : W p l e R s m args below meth c H locs cells slots Q (F0 m pc ls (.int (nI n0) :: .ref a :: rest)) := by
  refine va_iald hexec hb hK hP q0 t0 ha ht (vp_in_nI h hn) hdg ?_
  rw [nI_clamp (Nat.lt_trans h hn)]
  exact kk
theorem cd_bald (hexec : p.tables.exec = Jvm.exec) (hb : c.code = cc) (hK : va_K D cl tys s) (hP : va_P D cl ws H) (q0 t0 : Nat) {cA : ClassId} {n : Nat} {f : Nat → Int32} (ha : ws[q0]? = some (a, .inl (cA, n, .inl f))) (ht : tys[t0]? = some (cA, .byte)) {n0 : Nat} (h : n0 < n) (hn : n < 2 ^ 31) (hdg : decode cc pc = .ok (.baload, 1))
    (kk : W p l e R s m args below meth c H locs cells slots Q (F0 m (pc + 1) ls (.int (f n0) :: rest))) : W p l e R s m args below meth c H locs cells slots Q (F0 m pc ls (.int (nI n0) :: .ref a :: rest)) := by
  refine va_bald hexec hb hK hP q0 t0 ha ht (vp_in_nI h hn) hdg ?_
  rw [nI_clamp (Nat.lt_trans h hn)]
  exact kk
theorem cd_iast (hexec : p.tables.exec = Jvm.exec) (hb : c.code = cc) (hK : va_K D cl tys s) (hP : va_P D cl ws H) (hD : va_D A ws) (hS : va_S A H0 H locs) (q0 t0 : Nat) {cA : ClassId} {n : Nat} {f : Nat → Int32} (ha : ws[q0]? = some (a, .inl (cA, n, .inl f))) (ht : tys[t0]? = some (cA, .int)) {n0 : Nat} {x : Int32} (h : n0 < n) (hn : n < 2 ^ 31) (hdg : decode cc pc = .ok (.iastore, 1))
    (kk : ∀ (H1 : Heap) (locs1 : List Loc), va_P D cl (ws.set q0 (a, .inl (cA, n, .inl (upd f n0 x)))) H1 → va_D A (ws.set q0 (a, .inl (cA, n, .inl (upd f n0 x)))) → va_S A H0 H1 locs1 → W p l e R s m args below meth c H1 locs1 cells slots Q (F0 m (pc + 1) ls rest)) : W p l e R s m args below meth c H locs cells slots Q (F0 m pc ls (.int x :: .int (nI n0) :: .ref a :: rest)) := by
  refine va_iast hexec hb hK hP hD hS q0 t0 ha ht (vp_in_nI h hn) hdg ?_
  rw [nI_clamp (Nat.lt_trans h hn)]
  exact kk
theorem cd_bast (hexec : p.tables.exec = Jvm.exec) (hb : c.code = cc) (hK : va_K D cl tys s) (hP : va_P D cl ws H) (hD : va_D A ws) (hS : va_S A H0 H locs) (q0 t0 : Nat) {cA : ClassId} {n : Nat} {f : Nat → Int32} (ha : ws[q0]? = some (a, .inl (cA, n, .inl f))) (ht : tys[t0]? = some (cA, .byte)) {n0 : Nat} {x : Int32} (h : n0 < n) (hn : n < 2 ^ 31) (hv : vp_nar .byte x = x) (hdg : decode cc pc = .ok (.bastore, 1))
    (kk : ∀ (H1 : Heap) (locs1 : List Loc), va_P D cl (ws.set q0 (a, .inl (cA, n, .inl (upd f n0 x)))) H1 → va_D A (ws.set q0 (a, .inl (cA, n, .inl (upd f n0 x)))) → va_S A H0 H1 locs1 → W p l e R s m args below meth c H1 locs1 cells slots Q (F0 m (pc + 1) ls rest)) : W p l e R s m args below meth c H locs cells slots Q (F0 m pc ls (.int x :: .int (nI n0) :: .ref a :: rest)) := by
  refine va_bast hexec hb hK hP hD hS q0 t0 ha ht (vp_in_nI h hn) hdg ?_
  rw [nI_clamp (Nat.lt_trans h hn), hv]
  exact kk
/-- a table's place -/
theorem cd_tald {t : Nat} {L : List Int32} (hexec : p.tables.exec = Jvm.exec) (hb : c.code = cc) (hT : va_T .int t L.length (fun j => .int (L.getD j 0)) A s s.heap) (hS : va_S A s.heap H locs) {n0 : Nat} (h : n0 < L.length) (hn : L.length < 2 ^ 31) (hdg : decode cc pc = .ok (.iaload, 1))
    (kk : W p l e R s m args below meth c H locs cells slots Q (F0 m (pc + 1) ls (.int (L.getD n0 0) :: rest))) : W p l e R s m args below meth c H locs cells slots Q (F0 m pc ls (.int (nI n0) :: .ref t :: rest)) :=
  va_ti hexec hb hT hS (vp_in_nI h hn) (by rw [nI_clamp (Nat.lt_trans h hn)]) hdg kk
/-- the ends of a method that writes: an int, a boolean, nothing -/
theorem cd_retWi {S : Type} {post : Int32 → S → Prop} {w : S → va_W} {v : Int32} (hQ : Q = MQ below (va_Qi post (cd_at G A w) A) args s 0 0 A) (hx : p.tables.exec = Jvm.exec) (hb : c.code = cc) (hr : meth.sig.returnType = some .int) (hlk : meth.locks = false) (hdg : decode cc pc = .ok (.ireturn, 1)) (hS : va_S A s.heap H locs) (u : S) (hp : post v u) (hP : va_P G classes (w u) H) (hD : va_D A (w u)) : W p l e R s m args below meth c H locs 0 0 Q (F0 m pc ls [.int v]) := by
  subst hQ
  exact W.iret hx hb hr (fun t ht _ => ⟨⟨v, u, rfl, hp, by rw [ht]; exact hP, hD⟩, hS.F ht⟩) hS.2.2 hdg hlk
theorem cd_retWz {S : Type} {post : Int32 → S → Prop} {w : S → va_W} {v : Int32} (hQ : Q = MQ below (va_Qi post (cd_at G A w) A) args s 0 0 A) (hx : p.tables.exec = Jvm.exec) (hb : c.code = cc) (hr : meth.sig.returnType = some .boolean) (hlk : meth.locks = false) (hdg : decode cc pc = .ok (.ireturn, 1)) (hn : narrow .boolean (.int v) = .int v) (hS : va_S A s.heap H locs) (u : S) (hp : post v u) (hP : va_P G classes (w u) H) (hD : va_D A (w u)) : W p l e R s m args below meth c H locs 0 0 Q (F0 m pc ls [.int v]) := by
  subst hQ
  exact W.zret hx hb hr hn (fun t ht _ => ⟨⟨v, u, rfl, hp, by rw [ht]; exact hP, hD⟩, hS.F ht⟩) hS.2.2 hdg hlk
theorem cd_retV {S : Type} {post : S → Prop} {w : S → va_W} (hQ : Q = MQ below (va_Qv post (cd_at G A w) A) args s 0 0 A) (hx : p.tables.exec = Jvm.exec) (hb : c.code = cc) (hr : meth.sig.returnType = none) (hlk : meth.locks = false) (hdg : decode cc pc = .ok (.return_, 1)) (hS : va_S A s.heap H locs) (u : S) (hp : post u) (hP : va_P G classes (w u) H) (hD : va_D A (w u)) : W p l e R s m args below meth c H locs 0 0 Q (F0 m pc ls []) := by
  subst hQ
  exact W.vret hx hb hr (fun t ht _ => ⟨⟨u, rfl, hp, by rw [ht]; exact hP, hD⟩, hS.F ht⟩) hS.2.2 hdg hlk
/-- a call of a method that writes the cells wc, out of the world ws -/
theorem cd_callW {S : Type} {post : Int32 → S → Prop} {w : S → va_W} {y : MethodName} {b : ByteArray} {n k idx : Nat} {r : Option FieldType} {As : List Value} {wc wr : va_W} {o : Nat} {fs : List Value} {q : vw_C} (F : cd_Fx p s m args c cc nL own K R) (E : cd_Env G ks A s) (hP : va_P G classes ws H) (hD : va_D A ws) (hS : va_S A s.heap H locs) (hA : ∀ q : Nat, s.heap.size ≤ q → A q)
    (isC isR : List Nat) (hC : isC.map (fun i => ws[i]?) = wc.map some) (hC2 : isC.filterMap (fun i => ws[i]?) = wc) (hR : isR.map (fun i => ws[i]?) = wr.map some) (hnC : va_nd isC = true) (hnR : va_nd isR = true) (hdis : ∀ i ∈ isR, i ∉ isC)
    (hM : cd_MetW l G ks y b n r k (.ref o :: As) wc H.size post w) (hk : k + 1 ≤ K) (hn : n ≤ 8) (q0 ci : Nat) (he : wc[q0]? = some (o, .inr (ci, fs))) (hc : classes[ci]? = some q)
    (h1 : Cond.methodLink own idx y ∈ cd_big) (h2 : Cond.instanceMethod y ∈ cd_big) (h5 : Cond.selects q.1 y y ∈ cd_big) (h3 : Cond.initialized y.cls ∈ cd_big) (h4 : Cond.code y b n r ∈ cd_big) (hd : cd_desc y As.length)
    (hf : cells ≤ R.cells ∧ slots ≤ R.slots) (hst : st = As.reverse ++ .ref o :: rest) (hsz : ls.size = nL) (hW : (rest.map fun v => v.category).sum ≤ 8) (hdg : decode cc pc = .ok (.invokevirtual idx, 3))
    (kk : ∀ (r : Int32) (u : S) (H1 : Heap) (locs1 : List Loc), post r u → va_P G classes (wr ++ w u) H1 → va_D A (wr ++ w u) → va_S A s.heap H1 locs1 → W p l e R s m args below meth c H1 locs1 cells slots Q (F0 m (pc + 3) ls (.int r :: rest))) : W p l e R s m args below meth c H locs cells slots Q (F0 m pc ls st) := by
  subst hst
  have hcb := cd_cb (mc := 0) (ms := 0) F hk hn h1 h3 h4 hd
  obtain ⟨hx, hb, hml, ho, hts, -⟩ := F
  have hPc := hP.sub (ws' := wc) isC hC2
  have hDc := hD.sub (ws' := wc) isC hnC hC
  have hFc := va_free (wc := wc) hD hS hA isC hC
  refine va_calli (va_runV (C := q.1) (As := As) (rest := rest) ⟨hx, hb, hml, ho, hts⟩ hM ⟨hcb, hts _ h2, hts _ h5⟩ ⟨fun a U g mk q => ⟨q.1, q.2.calling⟩, va_recv E.1 hPc hc he, fun U hU hW => ⟨rfl, by rw [hU], hDc.weaken (fun _ _ _ _ => trivial), by rw [hU]; exact hPc, E.at hS hFc hU hW⟩⟩ rfl rfl hsz rfl (lv_room hW) hdg hf) hS (fun q _ h => hFc q h) hFc (fun r u t H1 locs1 ht hvm hw hB hz1 hk1 hS1 => ?_)
  obtain ⟨hP1, hD1⟩ := hB
  rw [ht] at hP1
  obtain ⟨hP2, hD2⟩ := va_join (wr := wr) (w1 := w u) hP hD isC isR hC hR hnR hdis hk1 hFc hP1 hD1
  exact kk r u H1 locs1 hw hP2 hD2 hS1
theorem cd_callV {S : Type} {post : S → Prop} {w : S → va_W} {y : MethodName} {b : ByteArray} {n k idx : Nat} {r : Option FieldType} {As : List Value} {wc wr : va_W} {o : Nat} {fs : List Value} {q : vw_C} (F : cd_Fx p s m args c cc nL own K R) (E : cd_Env G ks A s) (hP : va_P G classes ws H) (hD : va_D A ws) (hS : va_S A s.heap H locs) (hA : ∀ q : Nat, s.heap.size ≤ q → A q)
    (isC isR : List Nat) (hC : isC.map (fun i => ws[i]?) = wc.map some) (hC2 : isC.filterMap (fun i => ws[i]?) = wc) (hR : isR.map (fun i => ws[i]?) = wr.map some) (hnC : va_nd isC = true) (hnR : va_nd isR = true) (hdis : ∀ i ∈ isR, i ∉ isC)
    (hM : cd_MetV l G ks y b n r k (.ref o :: As) wc H.size post w) (hk : k + 1 ≤ K) (hn : n ≤ 8) (q0 ci : Nat) (he : wc[q0]? = some (o, .inr (ci, fs))) (hc : classes[ci]? = some q)
    (h1 : Cond.methodLink own idx y ∈ cd_big) (h2 : Cond.instanceMethod y ∈ cd_big) (h5 : Cond.selects q.1 y y ∈ cd_big) (h3 : Cond.initialized y.cls ∈ cd_big) (h4 : Cond.code y b n r ∈ cd_big) (hd : cd_desc y As.length)
    (hf : cells ≤ R.cells ∧ slots ≤ R.slots) (hst : st = As.reverse ++ .ref o :: rest) (hsz : ls.size = nL) (hW : (rest.map fun v => v.category).sum ≤ 8) (hdg : decode cc pc = .ok (.invokevirtual idx, 3))
    (kk : ∀ (u : S) (H1 : Heap) (locs1 : List Loc), post u → va_P G classes (wr ++ w u) H1 → va_D A (wr ++ w u) → va_S A s.heap H1 locs1 → W p l e R s m args below meth c H1 locs1 cells slots Q (F0 m (pc + 3) ls rest)) : W p l e R s m args below meth c H locs cells slots Q (F0 m pc ls st) := by
  subst hst
  have hcb := cd_cb (mc := 0) (ms := 0) F hk hn h1 h3 h4 hd
  obtain ⟨hx, hb, hml, ho, hts, -⟩ := F
  have hPc := hP.sub (ws' := wc) isC hC2
  have hDc := hD.sub (ws' := wc) isC hnC hC
  have hFc := va_free (wc := wc) hD hS hA isC hC
  refine va_callv (va_runV (C := q.1) (As := As) (rest := rest) ⟨hx, hb, hml, ho, hts⟩ hM ⟨hcb, hts _ h2, hts _ h5⟩ ⟨fun a U g mk q => ⟨q.1, q.2.calling⟩, va_recv E.1 hPc hc he, fun U hU hW => ⟨rfl, by rw [hU], hDc.weaken (fun _ _ _ _ => trivial), by rw [hU]; exact hPc, E.at hS hFc hU hW⟩⟩ rfl rfl hsz rfl (lv_room hW) hdg hf) hS (fun q _ h => hFc q h) hFc (fun u t H1 locs1 ht hvm hw hB hz1 hk1 hS1 => ?_)
  obtain ⟨hP1, hD1⟩ := hB
  rw [ht] at hP1
  obtain ⟨hP2, hD2⟩ := va_join (wr := wr) (w1 := w u) hP hD isC isR hC hR hnR hdis hk1 hFc hP1 hD1
  exact kk u H1 locs1 hw hP2 hD2 hS1
end CORE2
end
section
def cd_bs (b : Nat) : Nat := if b < 128 then 1 else if b < 194 then 0 else if b < 224 then 2 else if b < 240 then 3 else if b < 245 then 4 else 0
def cd_cmp (a b : Int) : Int32 := if a < b then -1 else if a = b then 0 else 1

set_option maxHeartbeats 4000000 in
set_option maxRecDepth 100000 in
theorem c_Coder_has (l : Launch) (x : Int32) : cd_MetP l y_Coder_has b_Coder_has 1 (some .boolean) 0 [.int x] (fun _ => True) (fun r => r = cd_b (cd_has x.toInt)) := by
  refine cd_met (by decide) (Nat.le_of_ble_eq_true rfl) ?_
  intro pg e s m args below meth c R Q ls hR hQ hr hlk hin F hB hl
  have hx := F.1
  have hb := F.2.1
  have hown := F.2.2.2.1
  have hts := F.2.2.2.2.1
  have hl : lv_has ls 1 [(0, .int x)] := hl
  refine lv_iload_n hx hb d_Coder_has_0 rfl (lv_at hl 0 rfl) ?_
  refine cd_if_lt (tgt := 26) hx hb d_Coder_has_1 (by decide) rfl (fun c1 => ?_) (fun c1 => ?_)
  · refine lv_iconst (v := 0) hx hb d_Coder_has_26 (by decide) ?_
    exact cd_retZ hQ hx hb hr hlk d_Coder_has_27 rfl (cd_d0 (by omega))
  · refine lv_iload_n hx hb d_Coder_has_4 rfl (lv_at hl 0 rfl) ?_
    refine lv_ldc (v := 1114111) hx hb hown (hts _ k_85) d_Coder_has_5 ?_
    refine cd_icmp_gt (tgt := 26) hx hb d_Coder_has_7 (by decide) rfl (show (1114111 : Int32).toInt = 1114111 by decide) (fun c7 => ?_) (fun c7 => ?_)
    · refine lv_iconst (v := 0) hx hb d_Coder_has_26 (by decide) ?_
      exact cd_retZ hQ hx hb hr hlk d_Coder_has_27 rfl (cd_d0 (by omega))
    · refine lv_iload_n hx hb d_Coder_has_10 rfl (lv_at hl 0 rfl) ?_
      refine lv_ldc (v := 55296) hx hb hown (hts _ k_86) d_Coder_has_11 ?_
      refine cd_icmp_lt (tgt := 22) hx hb d_Coder_has_13 (by decide) rfl (show (55296 : Int32).toInt = 55296 by decide) (fun c13 => ?_) (fun c13 => ?_)
      · refine lv_iconst (v := 1) hx hb d_Coder_has_22 (by decide) ?_
        refine lv_goto (tgt := 27) hx hb d_Coder_has_23 (by decide) ?_
        exact cd_retZ hQ hx hb hr hlk d_Coder_has_27 rfl (cd_d1 (by omega))
      · refine lv_iload_n hx hb d_Coder_has_16 rfl (lv_at hl 0 rfl) ?_
        refine lv_ldc (v := 57344) hx hb hown (hts _ k_87) d_Coder_has_17 ?_
        refine cd_icmp_lt (tgt := 26) hx hb d_Coder_has_19 (by decide) rfl (show (57344 : Int32).toInt = 57344 by decide) (fun c19 => ?_) (fun c19 => ?_)
        · refine lv_iconst (v := 0) hx hb d_Coder_has_26 (by decide) ?_
          exact cd_retZ hQ hx hb hr hlk d_Coder_has_27 rfl (cd_d0 (by omega))
        · refine lv_iconst (v := 1) hx hb d_Coder_has_22 (by decide) ?_
          refine lv_goto (tgt := 27) hx hb d_Coder_has_23 (by decide) ?_
          exact cd_retZ hQ hx hb hr hlk d_Coder_has_27 rfl (cd_d1 (by omega))

set_option maxHeartbeats 4000000 in
set_option maxRecDepth 100000 in
theorem c_Coder_sizeOf (l : Launch) (x : Int32) : cd_MetP l y_Coder_sizeOf b_Coder_sizeOf 1 (some .int) 0 [.int x] (fun _ => True) (fun r => r = nI (cd_sz x.toInt)) := by
  refine cd_met (by decide) (Nat.le_of_ble_eq_true rfl) ?_
  intro pg e s m args below meth c R Q ls hR hQ hr hlk hin F hB hl
  have hx := F.1
  have hb := F.2.1
  have hown := F.2.2.2.1
  have hts := F.2.2.2.2.1
  have hl : lv_has ls 1 [(0, .int x)] := hl
  refine lv_iload_n hx hb d_Coder_sizeOf_0 rfl (lv_at hl 0 rfl) ?_
  refine lv_sipush (v := 128) hx hb d_Coder_sizeOf_1 (by decide) ?_
  refine cd_icmp_ge (tgt := 11) hx hb d_Coder_sizeOf_4 (by decide) rfl (show (128 : Int32).toInt = 128 by decide) (fun c4 => ?_) (fun c4 => ?_)
  · refine lv_iload_n hx hb d_Coder_sizeOf_11 rfl (lv_at hl 0 rfl) ?_
    refine lv_sipush (v := 2048) hx hb d_Coder_sizeOf_12 (by decide) ?_
    refine cd_icmp_ge (tgt := 22) hx hb d_Coder_sizeOf_15 (by decide) rfl (show (2048 : Int32).toInt = 2048 by decide) (fun c15 => ?_) (fun c15 => ?_)
    · refine lv_iload_n hx hb d_Coder_sizeOf_22 rfl (lv_at hl 0 rfl) ?_
      refine lv_ldc (v := 65536) hx hb hown (hts _ k_81) d_Coder_sizeOf_23 ?_
      refine cd_icmp_ge (tgt := 32) hx hb d_Coder_sizeOf_25 (by decide) rfl (show (65536 : Int32).toInt = 65536 by decide) (fun c25 => ?_) (fun c25 => ?_)
      · refine lv_iconst (v := 4) hx hb d_Coder_sizeOf_32 (by decide) ?_
        exact cd_retI hQ hx hb hr hlk d_Coder_sizeOf_33 (by rw [cd_sz, if_neg (by omega), if_neg (by omega), if_neg (by omega)]; rfl)
      · refine lv_iconst (v := 3) hx hb d_Coder_sizeOf_28 (by decide) ?_
        refine lv_goto (tgt := 33) hx hb d_Coder_sizeOf_29 (by decide) ?_
        exact cd_retI hQ hx hb hr hlk d_Coder_sizeOf_33 (by rw [cd_sz, if_neg (by omega), if_neg (by omega), if_pos (by omega)]; rfl)
    · refine lv_iconst (v := 2) hx hb d_Coder_sizeOf_18 (by decide) ?_
      refine lv_goto (tgt := 33) hx hb d_Coder_sizeOf_19 (by decide) ?_
      exact cd_retI hQ hx hb hr hlk d_Coder_sizeOf_33 (by rw [cd_sz, if_neg (by omega), if_pos (by omega)]; rfl)
  · refine lv_iconst (v := 1) hx hb d_Coder_sizeOf_7 (by decide) ?_
    refine lv_goto (tgt := 33) hx hb d_Coder_sizeOf_8 (by decide) ?_
    exact cd_retI hQ hx hb hr hlk d_Coder_sizeOf_33 (by rw [cd_sz, if_pos (by omega)]; rfl)

set_option maxHeartbeats 4000000 in
set_option maxRecDepth 100000 in
theorem c_Coder_begins (l : Launch) (b : Nat) (hb0 : b < 256) : cd_MetP l y_Coder_begins b_Coder_begins 1 (some .int) 0 [.int (nI b)] (fun _ => True) (fun r => r = nI (cd_bs b)) := by
  refine cd_met (by decide) (Nat.le_of_ble_eq_true rfl) ?_
  intro pg e s m args below meth c R Q ls hR hQ hr hlk hin F hB hl
  have hx := F.1
  have hb := F.2.1
  have hown := F.2.2.2.1
  have hts := F.2.2.2.2.1
  have hl : lv_has ls 1 [(0, .int (nI b))] := hl
  refine lv_iload_n hx hb d_Coder_begins_0 rfl (lv_at hl 0 rfl) ?_
  refine lv_sipush (v := 128) hx hb d_Coder_begins_1 (by decide) ?_
  refine cd_icmp_ge (tgt := 11) hx hb d_Coder_begins_4 (by decide) (nI_toInt (n := b) (by omega)) (show (128 : Int32).toInt = 128 by decide) (fun c4 => ?_) (fun c4 => ?_)
  · refine lv_iload_n hx hb d_Coder_begins_11 rfl (lv_at hl 0 rfl) ?_
    refine lv_sipush (v := 194) hx hb d_Coder_begins_12 (by decide) ?_
    refine cd_icmp_ge (tgt := 22) hx hb d_Coder_begins_15 (by decide) (nI_toInt (n := b) (by omega)) (show (194 : Int32).toInt = 194 by decide) (fun c15 => ?_) (fun c15 => ?_)
    · refine lv_iload_n hx hb d_Coder_begins_22 rfl (lv_at hl 0 rfl) ?_
      refine lv_sipush (v := 224) hx hb d_Coder_begins_23 (by decide) ?_
      refine cd_icmp_ge (tgt := 33) hx hb d_Coder_begins_26 (by decide) (nI_toInt (n := b) (by omega)) (show (224 : Int32).toInt = 224 by decide) (fun c26 => ?_) (fun c26 => ?_)
      · refine lv_iload_n hx hb d_Coder_begins_33 rfl (lv_at hl 0 rfl) ?_
        refine lv_sipush (v := 240) hx hb d_Coder_begins_34 (by decide) ?_
        refine cd_icmp_ge (tgt := 44) hx hb d_Coder_begins_37 (by decide) (nI_toInt (n := b) (by omega)) (show (240 : Int32).toInt = 240 by decide) (fun c37 => ?_) (fun c37 => ?_)
        · refine lv_iload_n hx hb d_Coder_begins_44 rfl (lv_at hl 0 rfl) ?_
          refine lv_sipush (v := 245) hx hb d_Coder_begins_45 (by decide) ?_
          refine cd_icmp_ge (tgt := 55) hx hb d_Coder_begins_48 (by decide) (nI_toInt (n := b) (by omega)) (show (245 : Int32).toInt = 245 by decide) (fun c48 => ?_) (fun c48 => ?_)
          · refine lv_iconst (v := 0) hx hb d_Coder_begins_55 (by decide) ?_
            exact cd_retI hQ hx hb hr hlk d_Coder_begins_56 (by rw [cd_bs, if_neg (by omega), if_neg (by omega), if_neg (by omega), if_neg (by omega), if_neg (by omega)]; rfl)
          · refine lv_iconst (v := 4) hx hb d_Coder_begins_51 (by decide) ?_
            refine lv_goto (tgt := 56) hx hb d_Coder_begins_52 (by decide) ?_
            exact cd_retI hQ hx hb hr hlk d_Coder_begins_56 (by rw [cd_bs, if_neg (by omega), if_neg (by omega), if_neg (by omega), if_neg (by omega), if_pos (by omega)]; rfl)
        · refine lv_iconst (v := 3) hx hb d_Coder_begins_40 (by decide) ?_
          refine lv_goto (tgt := 56) hx hb d_Coder_begins_41 (by decide) ?_
          exact cd_retI hQ hx hb hr hlk d_Coder_begins_56 (by rw [cd_bs, if_neg (by omega), if_neg (by omega), if_neg (by omega), if_pos (by omega)]; rfl)
      · refine lv_iconst (v := 2) hx hb d_Coder_begins_29 (by decide) ?_
        refine lv_goto (tgt := 56) hx hb d_Coder_begins_30 (by decide) ?_
        exact cd_retI hQ hx hb hr hlk d_Coder_begins_56 (by rw [cd_bs, if_neg (by omega), if_neg (by omega), if_pos (by omega)]; rfl)
    · refine lv_iconst (v := 0) hx hb d_Coder_begins_18 (by decide) ?_
      refine lv_goto (tgt := 56) hx hb d_Coder_begins_19 (by decide) ?_
      exact cd_retI hQ hx hb hr hlk d_Coder_begins_56 (by rw [cd_bs, if_neg (by omega), if_pos (by omega)]; rfl)
  · refine lv_iconst (v := 1) hx hb d_Coder_begins_7 (by decide) ?_
    refine lv_goto (tgt := 56) hx hb d_Coder_begins_8 (by decide) ?_
    exact cd_retI hQ hx hb hr hlk d_Coder_begins_56 (by rw [cd_bs, if_pos (by omega)]; rfl)

set_option maxHeartbeats 4000000 in
set_option maxRecDepth 100000 in
theorem c_Letters_isBlank (l : Launch) (x : Int32) : cd_MetP l y_Letters_isBlank b_Letters_isBlank 1 (some .boolean) 0 [.int x] (fun _ => True) (fun r => r = cd_b (cd_blk x.toInt)) := by
  refine cd_met (by decide) (Nat.le_of_ble_eq_true rfl) ?_
  intro pg e s m args below meth c R Q ls hR hQ hr hlk hin F hB hl
  have hx := F.1
  have hb := F.2.1
  have hown := F.2.2.2.1
  have hts := F.2.2.2.2.1
  have hl : lv_has ls 1 [(0, .int x)] := hl
  refine lv_iload_n hx hb d_Letters_isBlank_0 rfl (lv_at hl 0 rfl) ?_
  refine lv_bipush (v := 32) hx hb d_Letters_isBlank_1 (by decide) ?_
  refine cd_icmp_eq (tgt := 24) hx hb d_Letters_isBlank_3 (by decide) rfl (show (32 : Int32).toInt = 32 by decide) (fun c3 => ?_) (fun c3 => ?_)
  · refine lv_iconst (v := 1) hx hb d_Letters_isBlank_24 (by decide) ?_
    refine lv_goto (tgt := 29) hx hb d_Letters_isBlank_25 (by decide) ?_
    exact cd_retZ hQ hx hb hr hlk d_Letters_isBlank_29 rfl (cd_d1 (by omega))
  · refine lv_iload_n hx hb d_Letters_isBlank_6 rfl (lv_at hl 0 rfl) ?_
    refine lv_bipush (v := 9) hx hb d_Letters_isBlank_7 (by decide) ?_
    refine cd_icmp_eq (tgt := 24) hx hb d_Letters_isBlank_9 (by decide) rfl (show (9 : Int32).toInt = 9 by decide) (fun c9 => ?_) (fun c9 => ?_)
    · refine lv_iconst (v := 1) hx hb d_Letters_isBlank_24 (by decide) ?_
      refine lv_goto (tgt := 29) hx hb d_Letters_isBlank_25 (by decide) ?_
      exact cd_retZ hQ hx hb hr hlk d_Letters_isBlank_29 rfl (cd_d1 (by omega))
    · refine lv_iload_n hx hb d_Letters_isBlank_12 rfl (lv_at hl 0 rfl) ?_
      refine lv_bipush (v := 10) hx hb d_Letters_isBlank_13 (by decide) ?_
      refine cd_icmp_eq (tgt := 24) hx hb d_Letters_isBlank_15 (by decide) rfl (show (10 : Int32).toInt = 10 by decide) (fun c15 => ?_) (fun c15 => ?_)
      · refine lv_iconst (v := 1) hx hb d_Letters_isBlank_24 (by decide) ?_
        refine lv_goto (tgt := 29) hx hb d_Letters_isBlank_25 (by decide) ?_
        exact cd_retZ hQ hx hb hr hlk d_Letters_isBlank_29 rfl (cd_d1 (by omega))
      · refine lv_iload_n hx hb d_Letters_isBlank_18 rfl (lv_at hl 0 rfl) ?_
        refine lv_bipush (v := 13) hx hb d_Letters_isBlank_19 (by decide) ?_
        refine cd_icmp_ne (tgt := 28) hx hb d_Letters_isBlank_21 (by decide) rfl (show (13 : Int32).toInt = 13 by decide) (fun c21 => ?_) (fun c21 => ?_)
        · refine lv_iconst (v := 0) hx hb d_Letters_isBlank_28 (by decide) ?_
          exact cd_retZ hQ hx hb hr hlk d_Letters_isBlank_29 rfl (cd_d0 (by omega))
        · refine lv_iconst (v := 1) hx hb d_Letters_isBlank_24 (by decide) ?_
          refine lv_goto (tgt := 29) hx hb d_Letters_isBlank_25 (by decide) ?_
          exact cd_retZ hQ hx hb hr hlk d_Letters_isBlank_29 rfl (cd_d1 (by omega))

set_option maxHeartbeats 4000000 in
set_option maxRecDepth 100000 in
theorem c_Integer_compare (l : Launch) (x y : Int32) : cd_MetP l y_Integer_compare b_Integer_compare 2 (some .int) 0 [.int x, .int y] (fun _ => True) (fun r => r = cd_cmp x.toInt y.toInt) := by
  refine cd_met (by decide) (Nat.le_of_ble_eq_true rfl) ?_
  intro pg e s m args below meth c R Q ls hR hQ hr hlk hin F hB hl
  have hx := F.1
  have hb := F.2.1
  have hown := F.2.2.2.1
  have hts := F.2.2.2.2.1
  have hl : lv_has ls 2 [(0, .int x), (1, .int y)] := hl
  refine lv_iload_n hx hb d_Integer_compare_0 rfl (lv_at hl 0 rfl) ?_
  refine lv_iload_n hx hb d_Integer_compare_1 rfl (lv_at hl 1 rfl) ?_
  refine cd_icmp_ge (tgt := 9) hx hb d_Integer_compare_2 (by decide) rfl rfl (fun c2 => ?_) (fun c2 => ?_)
  · refine lv_iload_n hx hb d_Integer_compare_9 rfl (lv_at hl 0 rfl) ?_
    refine lv_iload_n hx hb d_Integer_compare_10 rfl (lv_at hl 1 rfl) ?_
    refine cd_icmp_ne (tgt := 18) hx hb d_Integer_compare_11 (by decide) rfl rfl (fun c11 => ?_) (fun c11 => ?_)
    · refine lv_iconst (v := 1) hx hb d_Integer_compare_18 (by decide) ?_
      exact cd_retI hQ hx hb hr hlk d_Integer_compare_19 (by rw [cd_cmp, if_neg (by omega), if_neg (by omega)])
    · refine lv_iconst (v := 0) hx hb d_Integer_compare_14 (by decide) ?_
      refine lv_goto (tgt := 19) hx hb d_Integer_compare_15 (by decide) ?_
      exact cd_retI hQ hx hb hr hlk d_Integer_compare_19 (by rw [cd_cmp, if_neg (by omega), if_pos (by omega)])
  · refine lv_iconst (v := -1) hx hb d_Integer_compare_5 (by decide) ?_
    refine lv_goto (tgt := 19) hx hb d_Integer_compare_6 (by decide) ?_
    exact cd_retI hQ hx hb hr hlk d_Integer_compare_19 (by rw [cd_cmp, if_pos (by omega)])

set_option maxHeartbeats 4000000 in
set_option maxRecDepth 100000 in
theorem c_Model_has (l : Launch) (x : Int32) : cd_MetP l y_Model_has b_Model_has 1 (some .boolean) 0 [.int x] (fun _ => True) (fun r => r = cd_b (cd_has x.toInt)) := by
  refine cd_met (by decide) (Nat.le_of_ble_eq_true rfl) ?_
  intro pg e s m args below meth c R Q ls hR hQ hr hlk hin F hB hl
  have hx := F.1
  have hb := F.2.1
  have hown := F.2.2.2.1
  have hts := F.2.2.2.2.1
  have hl : lv_has ls 1 [(0, .int x)] := hl
  refine lv_iload_n hx hb d_Model_has_0 rfl (lv_at hl 0 rfl) ?_
  refine cd_if_lt (tgt := 10) hx hb d_Model_has_1 (by decide) rfl (fun c1 => ?_) (fun c1 => ?_)
  · refine lv_iload_n hx hb d_Model_has_10 rfl (lv_at hl 0 rfl) ?_
    refine lv_ldc (v := 57343) hx hb hown (hts _ k_231) d_Model_has_11 ?_
    refine cd_icmp_le (tgt := 26) hx hb d_Model_has_13 (by decide) rfl (show (57343 : Int32).toInt = 57343 by decide) (fun c13 => ?_) (fun c13 => ?_)
    · refine lv_iconst (v := 0) hx hb d_Model_has_26 (by decide) ?_
      exact cd_retZ hQ hx hb hr hlk d_Model_has_27 rfl (cd_d0 (by omega))
    · refine lv_iload_n hx hb d_Model_has_16 rfl (lv_at hl 0 rfl) ?_
      refine lv_ldc (v := 1114112) hx hb hown (hts _ k_232) d_Model_has_17 ?_
      refine cd_icmp_ge (tgt := 26) hx hb d_Model_has_19 (by decide) rfl (show (1114112 : Int32).toInt = 1114112 by decide) (fun c19 => ?_) (fun c19 => ?_)
      · refine lv_iconst (v := 0) hx hb d_Model_has_26 (by decide) ?_
        exact cd_retZ hQ hx hb hr hlk d_Model_has_27 rfl (cd_d0 (by omega))
      · refine lv_iconst (v := 1) hx hb d_Model_has_22 (by decide) ?_
        refine lv_goto (tgt := 27) hx hb d_Model_has_23 (by decide) ?_
        exact cd_retZ hQ hx hb hr hlk d_Model_has_27 rfl (cd_d1 (by omega))
  · refine lv_iload_n hx hb d_Model_has_4 rfl (lv_at hl 0 rfl) ?_
    refine lv_ldc (v := 55296) hx hb hown (hts _ k_230) d_Model_has_5 ?_
    refine cd_icmp_lt (tgt := 22) hx hb d_Model_has_7 (by decide) rfl (show (55296 : Int32).toInt = 55296 by decide) (fun c7 => ?_) (fun c7 => ?_)
    · refine lv_iconst (v := 1) hx hb d_Model_has_22 (by decide) ?_
      refine lv_goto (tgt := 27) hx hb d_Model_has_23 (by decide) ?_
      exact cd_retZ hQ hx hb hr hlk d_Model_has_27 rfl (cd_d1 (by omega))
    · refine lv_iload_n hx hb d_Model_has_10 rfl (lv_at hl 0 rfl) ?_
      refine lv_ldc (v := 57343) hx hb hown (hts _ k_231) d_Model_has_11 ?_
      refine cd_icmp_le (tgt := 26) hx hb d_Model_has_13 (by decide) rfl (show (57343 : Int32).toInt = 57343 by decide) (fun c13 => ?_) (fun c13 => ?_)
      · refine lv_iconst (v := 0) hx hb d_Model_has_26 (by decide) ?_
        exact cd_retZ hQ hx hb hr hlk d_Model_has_27 rfl (cd_d0 (by omega))
      · refine lv_iload_n hx hb d_Model_has_16 rfl (lv_at hl 0 rfl) ?_
        refine lv_ldc (v := 1114112) hx hb hown (hts _ k_232) d_Model_has_17 ?_
        refine cd_icmp_ge (tgt := 26) hx hb d_Model_has_19 (by decide) rfl (show (1114112 : Int32).toInt = 1114112 by decide) (fun c19 => ?_) (fun c19 => ?_)
        · refine lv_iconst (v := 0) hx hb d_Model_has_26 (by decide) ?_
          exact cd_retZ hQ hx hb hr hlk d_Model_has_27 rfl (cd_d0 (by omega))
        · refine lv_iconst (v := 1) hx hb d_Model_has_22 (by decide) ?_
          refine lv_goto (tgt := 27) hx hb d_Model_has_23 (by decide) ?_
          exact cd_retZ hQ hx hb hr hlk d_Model_has_27 rfl (cd_d1 (by omega))

set_option maxHeartbeats 4000000 in
set_option maxRecDepth 100000 in
theorem c_Model_isAllowed (l : Launch) (x : Int32) : cd_MetP l y_Model_isAllowed b_Model_isAllowed 1 (some .boolean) 0 [.int x] (fun _ => True) (fun r => r = cd_b (cd_alw x.toInt)) := by
  refine cd_met (by decide) (Nat.le_of_ble_eq_true rfl) ?_
  intro pg e s m args below meth c R Q ls hR hQ hr hlk hin F hB hl
  have hx := F.1
  have hb := F.2.1
  have hown := F.2.2.2.1
  have hts := F.2.2.2.2.1
  have hl : lv_has ls 1 [(0, .int x)] := hl
  refine lv_iload_n hx hb d_Model_isAllowed_0 rfl (lv_at hl 0 rfl) ?_
  refine lv_bipush (v := 9) hx hb d_Model_isAllowed_1 (by decide) ?_
  refine cd_icmp_eq (tgt := 54) hx hb d_Model_isAllowed_3 (by decide) rfl (show (9 : Int32).toInt = 9 by decide) (fun c3 => ?_) (fun c3 => ?_)
  · refine lv_iconst (v := 1) hx hb d_Model_isAllowed_54 (by decide) ?_
    refine lv_goto (tgt := 59) hx hb d_Model_isAllowed_55 (by decide) ?_
    exact cd_retZ hQ hx hb hr hlk d_Model_isAllowed_59 rfl (cd_d1 (by omega))
  · refine lv_iload_n hx hb d_Model_isAllowed_6 rfl (lv_at hl 0 rfl) ?_
    refine lv_bipush (v := 10) hx hb d_Model_isAllowed_7 (by decide) ?_
    refine cd_icmp_eq (tgt := 54) hx hb d_Model_isAllowed_9 (by decide) rfl (show (10 : Int32).toInt = 10 by decide) (fun c9 => ?_) (fun c9 => ?_)
    · refine lv_iconst (v := 1) hx hb d_Model_isAllowed_54 (by decide) ?_
      refine lv_goto (tgt := 59) hx hb d_Model_isAllowed_55 (by decide) ?_
      exact cd_retZ hQ hx hb hr hlk d_Model_isAllowed_59 rfl (cd_d1 (by omega))
    · refine lv_iload_n hx hb d_Model_isAllowed_12 rfl (lv_at hl 0 rfl) ?_
      refine lv_bipush (v := 13) hx hb d_Model_isAllowed_13 (by decide) ?_
      refine cd_icmp_eq (tgt := 54) hx hb d_Model_isAllowed_15 (by decide) rfl (show (13 : Int32).toInt = 13 by decide) (fun c15 => ?_) (fun c15 => ?_)
      · refine lv_iconst (v := 1) hx hb d_Model_isAllowed_54 (by decide) ?_
        refine lv_goto (tgt := 59) hx hb d_Model_isAllowed_55 (by decide) ?_
        exact cd_retZ hQ hx hb hr hlk d_Model_isAllowed_59 rfl (cd_d1 (by omega))
      · refine lv_iload_n hx hb d_Model_isAllowed_18 rfl (lv_at hl 0 rfl) ?_
        refine lv_bipush (v := 32) hx hb d_Model_isAllowed_19 (by decide) ?_
        refine cd_icmp_lt (tgt := 30) hx hb d_Model_isAllowed_21 (by decide) rfl (show (32 : Int32).toInt = 32 by decide) (fun c21 => ?_) (fun c21 => ?_)
        · refine lv_iload_n hx hb d_Model_isAllowed_30 rfl (lv_at hl 0 rfl) ?_
          refine lv_ldc (v := 57344) hx hb hown (hts _ k_251) d_Model_isAllowed_31 ?_
          refine cd_icmp_lt (tgt := 42) hx hb d_Model_isAllowed_33 (by decide) rfl (show (57344 : Int32).toInt = 57344 by decide) (fun c33 => ?_) (fun c33 => ?_)
          · refine lv_iload_n hx hb d_Model_isAllowed_42 rfl (lv_at hl 0 rfl) ?_
            refine lv_ldc (v := 65536) hx hb hown (hts _ k_253) d_Model_isAllowed_43 ?_
            refine cd_icmp_lt (tgt := 58) hx hb d_Model_isAllowed_45 (by decide) rfl (show (65536 : Int32).toInt = 65536 by decide) (fun c45 => ?_) (fun c45 => ?_)
            · refine lv_iconst (v := 0) hx hb d_Model_isAllowed_58 (by decide) ?_
              exact cd_retZ hQ hx hb hr hlk d_Model_isAllowed_59 rfl (cd_d0 (by omega))
            · refine lv_iload_n hx hb d_Model_isAllowed_48 rfl (lv_at hl 0 rfl) ?_
              refine lv_ldc (v := 1114112) hx hb hown (hts _ k_232) d_Model_isAllowed_49 ?_
              refine cd_icmp_ge (tgt := 58) hx hb d_Model_isAllowed_51 (by decide) rfl (show (1114112 : Int32).toInt = 1114112 by decide) (fun c51 => ?_) (fun c51 => ?_)
              · refine lv_iconst (v := 0) hx hb d_Model_isAllowed_58 (by decide) ?_
                exact cd_retZ hQ hx hb hr hlk d_Model_isAllowed_59 rfl (cd_d0 (by omega))
              · refine lv_iconst (v := 1) hx hb d_Model_isAllowed_54 (by decide) ?_
                refine lv_goto (tgt := 59) hx hb d_Model_isAllowed_55 (by decide) ?_
                exact cd_retZ hQ hx hb hr hlk d_Model_isAllowed_59 rfl (cd_d1 (by omega))
          · refine lv_iload_n hx hb d_Model_isAllowed_36 rfl (lv_at hl 0 rfl) ?_
            refine lv_ldc (v := 65534) hx hb hown (hts _ k_252) d_Model_isAllowed_37 ?_
            refine cd_icmp_lt (tgt := 54) hx hb d_Model_isAllowed_39 (by decide) rfl (show (65534 : Int32).toInt = 65534 by decide) (fun c39 => ?_) (fun c39 => ?_)
            · refine lv_iconst (v := 1) hx hb d_Model_isAllowed_54 (by decide) ?_
              refine lv_goto (tgt := 59) hx hb d_Model_isAllowed_55 (by decide) ?_
              exact cd_retZ hQ hx hb hr hlk d_Model_isAllowed_59 rfl (cd_d1 (by omega))
            · refine lv_iload_n hx hb d_Model_isAllowed_42 rfl (lv_at hl 0 rfl) ?_
              refine lv_ldc (v := 65536) hx hb hown (hts _ k_253) d_Model_isAllowed_43 ?_
              refine cd_icmp_lt (tgt := 58) hx hb d_Model_isAllowed_45 (by decide) rfl (show (65536 : Int32).toInt = 65536 by decide) (fun c45 => ?_) (fun c45 => ?_)
              · refine lv_iconst (v := 0) hx hb d_Model_isAllowed_58 (by decide) ?_
                exact cd_retZ hQ hx hb hr hlk d_Model_isAllowed_59 rfl (cd_d0 (by omega))
              · refine lv_iload_n hx hb d_Model_isAllowed_48 rfl (lv_at hl 0 rfl) ?_
                refine lv_ldc (v := 1114112) hx hb hown (hts _ k_232) d_Model_isAllowed_49 ?_
                refine cd_icmp_ge (tgt := 58) hx hb d_Model_isAllowed_51 (by decide) rfl (show (1114112 : Int32).toInt = 1114112 by decide) (fun c51 => ?_) (fun c51 => ?_)
                · refine lv_iconst (v := 0) hx hb d_Model_isAllowed_58 (by decide) ?_
                  exact cd_retZ hQ hx hb hr hlk d_Model_isAllowed_59 rfl (cd_d0 (by omega))
                · refine lv_iconst (v := 1) hx hb d_Model_isAllowed_54 (by decide) ?_
                  refine lv_goto (tgt := 59) hx hb d_Model_isAllowed_55 (by decide) ?_
                  exact cd_retZ hQ hx hb hr hlk d_Model_isAllowed_59 rfl (cd_d1 (by omega))
        · refine lv_iload_n hx hb d_Model_isAllowed_24 rfl (lv_at hl 0 rfl) ?_
          refine lv_ldc (v := 55296) hx hb hown (hts _ k_230) d_Model_isAllowed_25 ?_
          refine cd_icmp_lt (tgt := 54) hx hb d_Model_isAllowed_27 (by decide) rfl (show (55296 : Int32).toInt = 55296 by decide) (fun c27 => ?_) (fun c27 => ?_)
          · refine lv_iconst (v := 1) hx hb d_Model_isAllowed_54 (by decide) ?_
            refine lv_goto (tgt := 59) hx hb d_Model_isAllowed_55 (by decide) ?_
            exact cd_retZ hQ hx hb hr hlk d_Model_isAllowed_59 rfl (cd_d1 (by omega))
          · refine lv_iload_n hx hb d_Model_isAllowed_30 rfl (lv_at hl 0 rfl) ?_
            refine lv_ldc (v := 57344) hx hb hown (hts _ k_251) d_Model_isAllowed_31 ?_
            refine cd_icmp_lt (tgt := 42) hx hb d_Model_isAllowed_33 (by decide) rfl (show (57344 : Int32).toInt = 57344 by decide) (fun c33 => ?_) (fun c33 => ?_)
            · refine lv_iload_n hx hb d_Model_isAllowed_42 rfl (lv_at hl 0 rfl) ?_
              refine lv_ldc (v := 65536) hx hb hown (hts _ k_253) d_Model_isAllowed_43 ?_
              refine cd_icmp_lt (tgt := 58) hx hb d_Model_isAllowed_45 (by decide) rfl (show (65536 : Int32).toInt = 65536 by decide) (fun c45 => ?_) (fun c45 => ?_)
              · refine lv_iconst (v := 0) hx hb d_Model_isAllowed_58 (by decide) ?_
                exact cd_retZ hQ hx hb hr hlk d_Model_isAllowed_59 rfl (cd_d0 (by omega))
              · refine lv_iload_n hx hb d_Model_isAllowed_48 rfl (lv_at hl 0 rfl) ?_
                refine lv_ldc (v := 1114112) hx hb hown (hts _ k_232) d_Model_isAllowed_49 ?_
                refine cd_icmp_ge (tgt := 58) hx hb d_Model_isAllowed_51 (by decide) rfl (show (1114112 : Int32).toInt = 1114112 by decide) (fun c51 => ?_) (fun c51 => ?_)
                · refine lv_iconst (v := 0) hx hb d_Model_isAllowed_58 (by decide) ?_
                  exact cd_retZ hQ hx hb hr hlk d_Model_isAllowed_59 rfl (cd_d0 (by omega))
                · refine lv_iconst (v := 1) hx hb d_Model_isAllowed_54 (by decide) ?_
                  refine lv_goto (tgt := 59) hx hb d_Model_isAllowed_55 (by decide) ?_
                  exact cd_retZ hQ hx hb hr hlk d_Model_isAllowed_59 rfl (cd_d1 (by omega))
            · refine lv_iload_n hx hb d_Model_isAllowed_36 rfl (lv_at hl 0 rfl) ?_
              refine lv_ldc (v := 65534) hx hb hown (hts _ k_252) d_Model_isAllowed_37 ?_
              refine cd_icmp_lt (tgt := 54) hx hb d_Model_isAllowed_39 (by decide) rfl (show (65534 : Int32).toInt = 65534 by decide) (fun c39 => ?_) (fun c39 => ?_)
              · refine lv_iconst (v := 1) hx hb d_Model_isAllowed_54 (by decide) ?_
                refine lv_goto (tgt := 59) hx hb d_Model_isAllowed_55 (by decide) ?_
                exact cd_retZ hQ hx hb hr hlk d_Model_isAllowed_59 rfl (cd_d1 (by omega))
              · refine lv_iload_n hx hb d_Model_isAllowed_42 rfl (lv_at hl 0 rfl) ?_
                refine lv_ldc (v := 65536) hx hb hown (hts _ k_253) d_Model_isAllowed_43 ?_
                refine cd_icmp_lt (tgt := 58) hx hb d_Model_isAllowed_45 (by decide) rfl (show (65536 : Int32).toInt = 65536 by decide) (fun c45 => ?_) (fun c45 => ?_)
                · refine lv_iconst (v := 0) hx hb d_Model_isAllowed_58 (by decide) ?_
                  exact cd_retZ hQ hx hb hr hlk d_Model_isAllowed_59 rfl (cd_d0 (by omega))
                · refine lv_iload_n hx hb d_Model_isAllowed_48 rfl (lv_at hl 0 rfl) ?_
                  refine lv_ldc (v := 1114112) hx hb hown (hts _ k_232) d_Model_isAllowed_49 ?_
                  refine cd_icmp_ge (tgt := 58) hx hb d_Model_isAllowed_51 (by decide) rfl (show (1114112 : Int32).toInt = 1114112 by decide) (fun c51 => ?_) (fun c51 => ?_)
                  · refine lv_iconst (v := 0) hx hb d_Model_isAllowed_58 (by decide) ?_
                    exact cd_retZ hQ hx hb hr hlk d_Model_isAllowed_59 rfl (cd_d0 (by omega))
                  · refine lv_iconst (v := 1) hx hb d_Model_isAllowed_54 (by decide) ?_
                    refine lv_goto (tgt := 59) hx hb d_Model_isAllowed_55 (by decide) ?_
                    exact cd_retZ hQ hx hb hr hlk d_Model_isAllowed_59 rfl (cd_d1 (by omega))

set_option maxHeartbeats 4000000 in
set_option maxRecDepth 100000 in
theorem c_Model_isBlank (l : Launch) (x : Int32) : cd_MetP l y_Model_isBlank b_Model_isBlank 1 (some .boolean) 0 [.int x] (fun _ => True) (fun r => r = cd_b (cd_blk x.toInt)) := by
  refine cd_met (by decide) (Nat.le_of_ble_eq_true rfl) ?_
  intro pg e s m args below meth c R Q ls hR hQ hr hlk hin F hB hl
  have hx := F.1
  have hb := F.2.1
  have hown := F.2.2.2.1
  have hts := F.2.2.2.2.1
  have hl : lv_has ls 1 [(0, .int x)] := hl
  refine lv_iload_n hx hb d_Model_isBlank_0 rfl (lv_at hl 0 rfl) ?_
  refine lv_bipush (v := 32) hx hb d_Model_isBlank_1 (by decide) ?_
  refine cd_icmp_eq (tgt := 24) hx hb d_Model_isBlank_3 (by decide) rfl (show (32 : Int32).toInt = 32 by decide) (fun c3 => ?_) (fun c3 => ?_)
  · refine lv_iconst (v := 1) hx hb d_Model_isBlank_24 (by decide) ?_
    refine lv_goto (tgt := 29) hx hb d_Model_isBlank_25 (by decide) ?_
    exact cd_retZ hQ hx hb hr hlk d_Model_isBlank_29 rfl (cd_d1 (by omega))
  · refine lv_iload_n hx hb d_Model_isBlank_6 rfl (lv_at hl 0 rfl) ?_
    refine lv_bipush (v := 9) hx hb d_Model_isBlank_7 (by decide) ?_
    refine cd_icmp_eq (tgt := 24) hx hb d_Model_isBlank_9 (by decide) rfl (show (9 : Int32).toInt = 9 by decide) (fun c9 => ?_) (fun c9 => ?_)
    · refine lv_iconst (v := 1) hx hb d_Model_isBlank_24 (by decide) ?_
      refine lv_goto (tgt := 29) hx hb d_Model_isBlank_25 (by decide) ?_
      exact cd_retZ hQ hx hb hr hlk d_Model_isBlank_29 rfl (cd_d1 (by omega))
    · refine lv_iload_n hx hb d_Model_isBlank_12 rfl (lv_at hl 0 rfl) ?_
      refine lv_bipush (v := 13) hx hb d_Model_isBlank_13 (by decide) ?_
      refine cd_icmp_eq (tgt := 24) hx hb d_Model_isBlank_15 (by decide) rfl (show (13 : Int32).toInt = 13 by decide) (fun c15 => ?_) (fun c15 => ?_)
      · refine lv_iconst (v := 1) hx hb d_Model_isBlank_24 (by decide) ?_
        refine lv_goto (tgt := 29) hx hb d_Model_isBlank_25 (by decide) ?_
        exact cd_retZ hQ hx hb hr hlk d_Model_isBlank_29 rfl (cd_d1 (by omega))
      · refine lv_iload_n hx hb d_Model_isBlank_18 rfl (lv_at hl 0 rfl) ?_
        refine lv_bipush (v := 10) hx hb d_Model_isBlank_19 (by decide) ?_
        refine cd_icmp_ne (tgt := 28) hx hb d_Model_isBlank_21 (by decide) rfl (show (10 : Int32).toInt = 10 by decide) (fun c21 => ?_) (fun c21 => ?_)
        · refine lv_iconst (v := 0) hx hb d_Model_isBlank_28 (by decide) ?_
          exact cd_retZ hQ hx hb hr hlk d_Model_isBlank_29 rfl (cd_d0 (by omega))
        · refine lv_iconst (v := 1) hx hb d_Model_isBlank_24 (by decide) ?_
          refine lv_goto (tgt := 29) hx hb d_Model_isBlank_25 (by decide) ?_
          exact cd_retZ hQ hx hb hr hlk d_Model_isBlank_29 rfl (cd_d1 (by omega))

set_option maxHeartbeats 4000000 in
set_option maxRecDepth 100000 in
theorem c_Model_within (l : Launch) (x u v : Int32) {a b : Int} (hu : u.toInt = a) (hv : v.toInt = b) : cd_MetP l y_Model_within b_Model_within 3 (some .boolean) 0 [.int x, .int u, .int v] (fun _ => True) (fun r => r = cd_b (decide (a ≤ x.toInt ∧ x.toInt ≤ b))) := by
  refine cd_met (by decide) (Nat.le_of_ble_eq_true rfl) ?_
  intro pg e s m args below meth c R Q ls hR hQ hr hlk hin F hB hl
  have hx := F.1
  have hb := F.2.1
  have hown := F.2.2.2.1
  have hts := F.2.2.2.2.1
  have hl : lv_has ls 3 [(0, .int x), (1, .int u), (2, .int v)] := hl
  refine lv_iload_n hx hb d_Model_within_0 rfl (lv_at hl 0 rfl) ?_
  refine lv_iload_n hx hb d_Model_within_1 rfl (lv_at hl 1 rfl) ?_
  refine cd_icmp_lt (tgt := 14) hx hb d_Model_within_2 (by decide) rfl rfl (fun c2 => ?_) (fun c2 => ?_)
  · refine lv_iconst (v := 0) hx hb d_Model_within_14 (by decide) ?_
    exact cd_retZ hQ hx hb hr hlk d_Model_within_15 rfl (cd_d0 (by omega))
  · refine lv_iload_n hx hb d_Model_within_5 rfl (lv_at hl 0 rfl) ?_
    refine lv_iload_n hx hb d_Model_within_6 rfl (lv_at hl 2 rfl) ?_
    refine cd_icmp_gt (tgt := 14) hx hb d_Model_within_7 (by decide) rfl rfl (fun c7 => ?_) (fun c7 => ?_)
    · refine lv_iconst (v := 0) hx hb d_Model_within_14 (by decide) ?_
      exact cd_retZ hQ hx hb hr hlk d_Model_within_15 rfl (cd_d0 (by omega))
    · refine lv_iconst (v := 1) hx hb d_Model_within_10 (by decide) ?_
      refine lv_goto (tgt := 15) hx hb d_Model_within_11 (by decide) ?_
      exact cd_retZ hQ hx hb hr hlk d_Model_within_15 rfl (cd_d1 (by omega))

set_option maxHeartbeats 4000000 in
set_option maxRecDepth 100000 in
theorem c_Model_sizeOf (l : Launch) (x : Int32) : cd_MetP l y_Model_sizeOf b_Model_sizeOf 2 (some .int) 0 [.int x] (fun _ => True) (fun r => r = nI (cd_sz x.toInt)) := by
  refine cd_met (by decide) (Nat.le_of_ble_eq_true rfl) ?_
  intro pg e s m args below meth c R Q ls hR hQ hr hlk hin F hB hl
  have hx := F.1
  have hb := F.2.1
  have hown := F.2.2.2.1
  have hts := F.2.2.2.2.1
  have hl : lv_has ls 2 [(0, .int x)] := hl
  refine lv_iconst (v := 1) hx hb d_Model_sizeOf_0 (by decide) ?_
  refine lv_istore_n (lv' := [(1, .int 1), (0, .int x)]) hx hb d_Model_sizeOf_1 rfl hl (by decide) rfl (fun ls hl => ?_)
  refine lv_iload_n hx hb d_Model_sizeOf_2 rfl (lv_at hl 1 rfl) ?_
  refine lv_bipush (v := 127) hx hb d_Model_sizeOf_3 (by decide) ?_
  refine cd_icmp_le (tgt := 12) hx hb d_Model_sizeOf_5 (by decide) rfl (show (127 : Int32).toInt = 127 by decide) (fun c5 => ?_) (fun c5 => ?_)
  · refine lv_iload_n hx hb d_Model_sizeOf_12 rfl (lv_at hl 0 rfl) ?_
    refine lv_istore_n (lv' := [(1, .int 1), (0, .int x)]) hx hb d_Model_sizeOf_13 rfl hl (by decide) rfl (fun ls hl => ?_)
    refine lv_iload_n hx hb d_Model_sizeOf_14 rfl (lv_at hl 1 rfl) ?_
    refine lv_sipush (v := 2047) hx hb d_Model_sizeOf_15 (by decide) ?_
    refine cd_icmp_le (tgt := 25) hx hb d_Model_sizeOf_18 (by decide) rfl (show (2047 : Int32).toInt = 2047 by decide) (fun c18 => ?_) (fun c18 => ?_)
    · refine lv_iload_n hx hb d_Model_sizeOf_25 rfl (lv_at hl 0 rfl) ?_
      refine lv_istore_n (lv' := [(1, .int 1), (0, .int x)]) hx hb d_Model_sizeOf_26 rfl hl (by decide) rfl (fun ls hl => ?_)
      refine lv_iload_n hx hb d_Model_sizeOf_27 rfl (lv_at hl 1 rfl) ?_
      refine lv_ldc (v := 65535) hx hb hown (hts _ k_236) d_Model_sizeOf_28 ?_
      refine cd_icmp_le (tgt := 37) hx hb d_Model_sizeOf_30 (by decide) rfl (show (65535 : Int32).toInt = 65535 by decide) (fun c30 => ?_) (fun c30 => ?_)
      · refine lv_iload_n hx hb d_Model_sizeOf_37 rfl (lv_at hl 0 rfl) ?_
        exact cd_retI hQ hx hb hr hlk d_Model_sizeOf_38 (by rw [cd_sz, if_pos (by omega)]; rfl)
      · exact absurd c30 (by omega)
    · exact absurd c18 (by omega)
  · refine lv_iconst (v := 2) hx hb d_Model_sizeOf_8 (by decide) ?_
    refine lv_goto (tgt := 13) hx hb d_Model_sizeOf_9 (by decide) ?_
    refine lv_istore_n (lv' := [(1, .int 2), (0, .int x)]) hx hb d_Model_sizeOf_13 rfl hl (by decide) rfl (fun ls hl => ?_)
    refine lv_iload_n hx hb d_Model_sizeOf_14 rfl (lv_at hl 1 rfl) ?_
    refine lv_sipush (v := 2047) hx hb d_Model_sizeOf_15 (by decide) ?_
    refine cd_icmp_le (tgt := 25) hx hb d_Model_sizeOf_18 (by decide) rfl (show (2047 : Int32).toInt = 2047 by decide) (fun c18 => ?_) (fun c18 => ?_)
    · refine lv_iload_n hx hb d_Model_sizeOf_25 rfl (lv_at hl 0 rfl) ?_
      refine lv_istore_n (lv' := [(1, .int 2), (0, .int x)]) hx hb d_Model_sizeOf_26 rfl hl (by decide) rfl (fun ls hl => ?_)
      refine lv_iload_n hx hb d_Model_sizeOf_27 rfl (lv_at hl 1 rfl) ?_
      refine lv_ldc (v := 65535) hx hb hown (hts _ k_236) d_Model_sizeOf_28 ?_
      refine cd_icmp_le (tgt := 37) hx hb d_Model_sizeOf_30 (by decide) rfl (show (65535 : Int32).toInt = 65535 by decide) (fun c30 => ?_) (fun c30 => ?_)
      · refine lv_iload_n hx hb d_Model_sizeOf_37 rfl (lv_at hl 0 rfl) ?_
        exact cd_retI hQ hx hb hr hlk d_Model_sizeOf_38 (by rw [cd_sz, if_neg (by omega), if_pos (by omega)]; rfl)
      · exact absurd c30 (by omega)
    · refine lv_iconst (v := 3) hx hb d_Model_sizeOf_21 (by decide) ?_
      refine lv_goto (tgt := 26) hx hb d_Model_sizeOf_22 (by decide) ?_
      refine lv_istore_n (lv' := [(1, .int 3), (0, .int x)]) hx hb d_Model_sizeOf_26 rfl hl (by decide) rfl (fun ls hl => ?_)
      refine lv_iload_n hx hb d_Model_sizeOf_27 rfl (lv_at hl 1 rfl) ?_
      refine lv_ldc (v := 65535) hx hb hown (hts _ k_236) d_Model_sizeOf_28 ?_
      refine cd_icmp_le (tgt := 37) hx hb d_Model_sizeOf_30 (by decide) rfl (show (65535 : Int32).toInt = 65535 by decide) (fun c30 => ?_) (fun c30 => ?_)
      · refine lv_iload_n hx hb d_Model_sizeOf_37 rfl (lv_at hl 0 rfl) ?_
        exact cd_retI hQ hx hb hr hlk d_Model_sizeOf_38 (by rw [cd_sz, if_neg (by omega), if_neg (by omega), if_pos (by omega)]; rfl)
      · refine lv_iconst (v := 4) hx hb d_Model_sizeOf_33 (by decide) ?_
        refine lv_goto (tgt := 38) hx hb d_Model_sizeOf_34 (by decide) ?_
        exact cd_retI hQ hx hb hr hlk d_Model_sizeOf_38 (by rw [cd_sz, if_neg (by omega), if_neg (by omega), if_neg (by omega)]; rfl)
end
section
set_option maxHeartbeats 4000000 in
set_option maxRecDepth 100000 in
theorem c_Letters_isIn (l : Launch) (t : Nat) (L : List Int32) (hL : L.length < 1000) (hup : cd_up L) (x : Int32) : cd_MetP l y_Letters_isIn b_Letters_isIn 5 (some .boolean) 0 [.ref t, .int x] (fun U => va_T .int t L.length (fun j => .int (L.getD j 0)) (fun _ => False) U U.heap) (fun r => ∃ k, cd_cut L x.toInt k ∧ r = cd_b (decide (k % 2 = 1))) := by
  refine cd_met (by decide) (Nat.le_of_ble_eq_true rfl) ?_
  intro pg e s m args below meth c R Q ls hR hQ hr hlk hin F hB hl
  have hx := F.1
  have hb := F.2.1
  have hown := F.2.2.2.1
  have hts := F.2.2.2.2.1
  have hl : lv_has ls 5 [(0, .ref t), (1, .int x)] := hl
  have hS : va_S (fun _ => False) s.heap s.heap [] := va_S.rf
  have loop : ∀ (n lo hi : Nat) (ls : Array Slot), lo ≤ hi → hi ≤ L.length → hi - lo < n → (∀ j, j < lo → (L.getD j 0).toInt ≤ x.toInt) → (∀ j, hi ≤ j → j < L.length → x.toInt < (L.getD j 0).toInt) → lv_has ls 5 [(0, .ref t), (1, .int x), (2, .int (nI lo)), (3, .int (nI hi))] → W pg l e R s m args below meth c s.heap [] 0 0 Q (F0 m 5 ls []) := by
    intro n
    induction n with
    | zero => intro lo hi ls h1 h2 h3; omega
    | succ n ih =>
      intro lo hi ls h1 h2 h3 h4 h5 hl
      refine lv_iload_n hx hb d_Letters_isIn_5 rfl (lv_at hl 2 rfl) ?_
      refine lv_iload_n hx hb d_Letters_isIn_6 rfl (lv_at hl 3 rfl) ?_
      refine cd_icmp_ge (tgt := 39) hx hb d_Letters_isIn_7 (by decide) (nI_toInt (n := lo) (by omega)) (nI_toInt (n := hi) (by omega)) (fun c7 => ?_) (fun c7 => ?_)
      · refine lv_iload_n hx hb d_Letters_isIn_39 rfl (lv_at hl 2 rfl) ?_
        refine lv_iconst (v := 2) hx hb d_Letters_isIn_40 (by decide) ?_
        refine lv_irem hx hb d_Letters_isIn_41 (by decide) ?_
        refine cd_top (y := nI (lo % 2)) (pk_rem (a := lo) (d := 2) (by omega) (by omega) (by omega)) ?_
        refine lv_iconst (v := 1) hx hb d_Letters_isIn_42 (by decide) ?_
        refine cd_icmp_ne (tgt := 50) hx hb d_Letters_isIn_43 (by decide) (nI_toInt (n := lo % 2) (by omega)) (show (1 : Int32).toInt = 1 by decide) (fun c43 => ?_) (fun c43 => ?_)
        · refine lv_iconst (v := 0) hx hb d_Letters_isIn_50 (by decide) ?_
          exact cd_retZ hQ hx hb hr hlk d_Letters_isIn_51 rfl (⟨lo, ⟨by omega, h4, fun j g => h5 j (by omega)⟩, cd_d0 (by omega)⟩)
        · refine lv_iconst (v := 1) hx hb d_Letters_isIn_46 (by decide) ?_
          refine lv_goto (tgt := 51) hx hb d_Letters_isIn_47 (by decide) ?_
          exact cd_retZ hQ hx hb hr hlk d_Letters_isIn_51 rfl (⟨lo, ⟨by omega, h4, fun j g => h5 j (by omega)⟩, cd_d1 (by omega)⟩)
      · refine lv_iload_n hx hb d_Letters_isIn_10 rfl (lv_at hl 2 rfl) ?_
        refine lv_iload_n hx hb d_Letters_isIn_11 rfl (lv_at hl 3 rfl) ?_
        refine lv_iadd hx hb d_Letters_isIn_12 ?_
        refine cd_top (y := nI (lo + hi)) (nI_add lo hi) ?_
        refine lv_iconst (v := 2) hx hb d_Letters_isIn_13 (by decide) ?_
        refine lv_idiv hx hb d_Letters_isIn_14 (by decide) ?_
        refine cd_top (y := nI ((lo + hi) / 2)) (pk_div (a := lo + hi) (d := 2) (by omega) (by omega) (by omega)) ?_
        refine lv_istore (lv' := [(4, .int (nI ((lo + hi) / 2))), (0, .ref t), (1, .int x), (2, .int (nI lo)), (3, .int (nI hi))]) hx hb d_Letters_isIn_15 hl (by decide) rfl (fun ls hl => ?_)
        refine lv_aload_n hx hb d_Letters_isIn_17 rfl (lv_at hl 1 rfl) ?_
        refine lv_iload hx hb d_Letters_isIn_18 (lv_at hl 0 rfl) ?_
        refine cd_tald hx hb hB hS (n0 := (lo + hi) / 2) (by omega) (by omega) d_Letters_isIn_20 ?_
        refine lv_iload_n hx hb d_Letters_isIn_21 rfl (lv_at hl 2 rfl) ?_
        refine cd_icmp_gt (tgt := 33) hx hb d_Letters_isIn_22 (by decide) rfl rfl (fun c22 => ?_) (fun c22 => ?_)
        · refine lv_iload hx hb d_Letters_isIn_33 (lv_at hl 0 rfl) ?_
          refine lv_istore_n (lv' := [(3, .int (nI ((lo + hi) / 2))), (4, .int (nI ((lo + hi) / 2))), (0, .ref t), (1, .int x), (2, .int (nI lo))]) hx hb d_Letters_isIn_35 rfl hl (by decide) rfl (fun ls hl => ?_)
          refine lv_goto (tgt := 5) hx hb d_Letters_isIn_36 (by decide) ?_
          exact ih (lo) ((lo + hi) / 2) ls (by omega) (by omega) (by omega) h4 (fun j g1 g2 => Int.lt_of_lt_of_le c22 (hup ((lo + hi) / 2) j g1 g2)) (lv_sub hl [2, 3, 4, 0] rfl)
        · refine lv_iload hx hb d_Letters_isIn_25 (lv_at hl 0 rfl) ?_
          refine lv_iconst (v := 1) hx hb d_Letters_isIn_27 (by decide) ?_
          refine lv_iadd hx hb d_Letters_isIn_28 ?_
          refine cd_top (y := nI ((lo + hi) / 2 + 1)) (nI_add ((lo + hi) / 2) 1) ?_
          refine lv_istore_n (lv' := [(2, .int (nI ((lo + hi) / 2 + 1))), (4, .int (nI ((lo + hi) / 2))), (0, .ref t), (1, .int x), (3, .int (nI hi))]) hx hb d_Letters_isIn_29 rfl hl (by decide) rfl (fun ls hl => ?_)
          refine lv_goto (tgt := 36) hx hb d_Letters_isIn_30 (by decide) ?_
          refine lv_goto (tgt := 5) hx hb d_Letters_isIn_36 (by decide) ?_
          exact ih ((lo + hi) / 2 + 1) (hi) ls (by omega) (by omega) (by omega) (fun j hj => Int.le_trans (hup j ((lo + hi) / 2) (by omega) (by omega)) (by omega)) h5 (lv_sub hl [2, 3, 0, 4] rfl)
  refine lv_iconst (v := 0) hx hb d_Letters_isIn_0 (by decide) ?_
  refine lv_istore_n (lv' := [(2, .int 0), (0, .ref t), (1, .int x)]) hx hb d_Letters_isIn_1 rfl hl (by decide) rfl (fun ls hl => ?_)
  refine lv_aload_n hx hb d_Letters_isIn_2 rfl (lv_at hl 1 rfl) ?_
  refine va_tlen hx hb hB hS (v := nI L.length) rfl d_Letters_isIn_3 ?_
  refine lv_istore_n (lv' := [(3, .int (nI L.length)), (2, .int 0), (0, .ref t), (1, .int x)]) hx hb d_Letters_isIn_4 rfl hl (by decide) rfl (fun ls hl => ?_)
  exact loop (L.length + 1) 0 L.length ls (by omega) (by omega) (by omega) (fun j h => absurd h (by omega)) (fun j g1 g2 => absurd g1 (by omega)) (lv_sub hl [2, 3, 1, 0] rfl)

set_option maxHeartbeats 4000000 in
set_option maxRecDepth 100000 in
theorem c_Letters_isAllowed (l : Launch) (x : Int32) : cd_MetP l y_Letters_isAllowed b_Letters_isAllowed 1 (some .boolean) 1 [.int x] (fun U => cd_Tb (fun _ => False) U U.heap) (fun r => r = cd_b (cd_alw x.toInt)) := by
  refine cd_met (by decide) (Nat.le_of_ble_eq_true rfl) ?_
  intro pg e s m args below meth c R Q ls hR hQ hr hlk hin F hB hl
  have hx := F.1
  have hb := F.2.1
  have hown := F.2.2.2.1
  have hts := F.2.2.2.2.1
  have hl : lv_has ls 1 [(0, .int x)] := hl
  have hS : va_S (fun _ => False) s.heap s.heap [] := va_S.rf
  obtain ⟨t, hZ, hT⟩ := hB.1
  refine va_gets hx hb hZ hS hown (hts _ k_115) (fun _ h => h) d_Letters_isAllowed_0 ?_
  refine lv_iload_n hx hb d_Letters_isAllowed_3 rfl (lv_at hl 0 rfl) ?_
  refine cd_callP (rest := []) F (c_Letters_isIn l t cd_may (by decide) cd_up_may x) (by decide) (by decide) k_117 k_118 k_5 k_119 (show cd_desc y_Letters_isIn 2 by decide +kernel) (fun U g mk a h => va_T.moved (u := U) (U := U.calling g mk a) (Vm.Alike.refl U.vm) h) (fun U hU hW => by rw [hU]; exact hT.moved hW.alike) ⟨Nat.zero_le _, Nat.zero_le _⟩ rfl hl.1 (Nat.le_of_ble_eq_true rfl) d_Letters_isAllowed_4 (fun r hr => ?_)
  obtain ⟨k, hk, rfl⟩ := hr
  refine cd_top (congrArg cd_b (cd_cut_may hk)) ?_
  exact cd_retZ hQ hx hb hr hlk d_Letters_isAllowed_7 (cd_nz _) (rfl)

set_option maxHeartbeats 4000000 in
set_option maxRecDepth 100000 in
theorem c_Letters_isBegin (l : Launch) (x : Int32) : cd_MetP l y_Letters_isBegin b_Letters_isBegin 1 (some .boolean) 1 [.int x] (fun U => cd_Tb (fun _ => False) U U.heap) (fun r => r = cd_b (cd_beg x.toInt)) := by
  refine cd_met (by decide) (Nat.le_of_ble_eq_true rfl) ?_
  intro pg e s m args below meth c R Q ls hR hQ hr hlk hin F hB hl
  have hx := F.1
  have hb := F.2.1
  have hown := F.2.2.2.1
  have hts := F.2.2.2.2.1
  have hl : lv_has ls 1 [(0, .int x)] := hl
  have hS : va_S (fun _ => False) s.heap s.heap [] := va_S.rf
  obtain ⟨t, hZ, hT⟩ := hB.2.1
  refine va_gets hx hb hZ hS hown (hts _ k_151) (fun _ h => h) d_Letters_isBegin_0 ?_
  refine lv_iload_n hx hb d_Letters_isBegin_3 rfl (lv_at hl 0 rfl) ?_
  refine cd_callP (rest := []) F (c_Letters_isIn l t cd_bgs (by decide) cd_up_bgs x) (by decide) (by decide) k_117 k_118 k_5 k_119 (show cd_desc y_Letters_isIn 2 by decide +kernel) (fun U g mk a h => va_T.moved (u := U) (U := U.calling g mk a) (Vm.Alike.refl U.vm) h) (fun U hU hW => by rw [hU]; exact hT.moved hW.alike) ⟨Nat.zero_le _, Nat.zero_le _⟩ rfl hl.1 (Nat.le_of_ble_eq_true rfl) d_Letters_isBegin_4 (fun r hr => ?_)
  obtain ⟨k, hk, rfl⟩ := hr
  refine cd_top (congrArg cd_b (cd_cut_bgs hk)) ?_
  exact cd_retZ hQ hx hb hr hlk d_Letters_isBegin_7 (cd_nz _) (rfl)

set_option maxHeartbeats 4000000 in
set_option maxRecDepth 100000 in
theorem c_Letters_isPart (l : Launch) (x : Int32) : cd_MetP l y_Letters_isPart b_Letters_isPart 1 (some .boolean) 2 [.int x] (fun U => cd_Tb (fun _ => False) U U.heap) (fun r => r = cd_b (cd_part x.toInt)) := by
  refine cd_met (by decide) (Nat.le_of_ble_eq_true rfl) ?_
  intro pg e s m args below meth c R Q ls hR hQ hr hlk hin F hB hl
  have hx := F.1
  have hb := F.2.1
  have hown := F.2.2.2.1
  have hts := F.2.2.2.2.1
  have hl : lv_has ls 1 [(0, .int x)] := hl
  have hS : va_S (fun _ => False) s.heap s.heap [] := va_S.rf
  refine lv_iload_n hx hb d_Letters_isPart_0 rfl (lv_at hl 0 rfl) ?_
  refine cd_callP (rest := []) F (c_Letters_isBegin l x) (by decide) (by decide) k_148 k_149 k_5 k_150 (show cd_desc y_Letters_isBegin 1 by decide +kernel) (fun U g mk a h => h.calling) (fun U hU hW => hB.at hS (fun _ h => h) hU hW) ⟨Nat.zero_le _, Nat.zero_le _⟩ rfl hl.1 (Nat.le_of_ble_eq_true rfl) d_Letters_isPart_1 (fun r hr => ?_)
  subst hr
  refine cd_if_ne_b (tgt := 17) hx hb d_Letters_isPart_4 (by decide) (fun c4 => ?_) (fun c4 => ?_)
  · refine lv_iconst (v := 1) hx hb d_Letters_isPart_17 (by decide) ?_
    refine lv_goto (tgt := 22) hx hb d_Letters_isPart_18 (by decide) ?_
    exact cd_retZ hQ hx hb hr hlk d_Letters_isPart_22 rfl (cd_b1 (by rw [cd_part, c4]; rfl))
  · obtain ⟨t, hZ, hT⟩ := hB.2.2
    refine va_gets hx hb hZ hS hown (hts _ k_156) (fun _ h => h) d_Letters_isPart_7 ?_
    refine lv_iload_n hx hb d_Letters_isPart_10 rfl (lv_at hl 0 rfl) ?_
    refine cd_callP (rest := []) F (c_Letters_isIn l t cd_pts (by decide) cd_up_pts x) (by decide) (by decide) k_117 k_118 k_5 k_119 (show cd_desc y_Letters_isIn 2 by decide +kernel) (fun U g mk a h => va_T.moved (u := U) (U := U.calling g mk a) (Vm.Alike.refl U.vm) h) (fun U hU hW => by rw [hU]; exact hT.moved hW.alike) ⟨Nat.zero_le _, Nat.zero_le _⟩ rfl hl.1 (Nat.le_of_ble_eq_true rfl) d_Letters_isPart_11 (fun r hr => ?_)
    obtain ⟨k, hk, rfl⟩ := hr
    refine cd_top (congrArg cd_b (cd_cut_pts hk)) ?_
    refine cd_if_eq_b (tgt := 21) hx hb d_Letters_isPart_14 (by decide) (fun c14 => ?_) (fun c14 => ?_)
    · refine lv_iconst (v := 0) hx hb d_Letters_isPart_21 (by decide) ?_
      exact cd_retZ hQ hx hb hr hlk d_Letters_isPart_22 rfl (cd_b0 (by rw [cd_part, c4, c14]; rfl))
    · refine lv_iconst (v := 1) hx hb d_Letters_isPart_17 (by decide) ?_
      refine lv_goto (tgt := 22) hx hb d_Letters_isPart_18 (by decide) ?_
      exact cd_retZ hQ hx hb hr hlk d_Letters_isPart_22 rfl (cd_b1 (by rw [cd_part, c4, c14]; rfl))

set_option maxHeartbeats 4000000 in
set_option maxRecDepth 100000 in
theorem c_Letters_kind (l : Launch) (x : Int32) : cd_MetP l y_Letters_kind b_Letters_kind 1 (some .int) 3 [.int x] (fun U => cd_Tb (fun _ => False) U U.heap) (fun r => r = nI (cd_kd x.toInt)) := by
  refine cd_met (by decide) (Nat.le_of_ble_eq_true rfl) ?_
  intro pg e s m args below meth c R Q ls hR hQ hr hlk hin F hB hl
  have hx := F.1
  have hb := F.2.1
  have hown := F.2.2.2.1
  have hts := F.2.2.2.2.1
  have hl : lv_has ls 1 [(0, .int x)] := hl
  have hS : va_S (fun _ => False) s.heap s.heap [] := va_S.rf
  refine lv_iload_n hx hb d_Letters_kind_0 rfl (lv_at hl 0 rfl) ?_
  refine cd_callP (rest := []) F (c_Letters_isAllowed l x) (by decide) (by decide) k_144 k_113 k_5 k_114 (show cd_desc y_Letters_isAllowed 1 by decide +kernel) (fun U g mk a h => h.calling) (fun U hU hW => hB.at hS (fun _ h => h) hU hW) ⟨Nat.zero_le _, Nat.zero_le _⟩ rfl hl.1 (Nat.le_of_ble_eq_true rfl) d_Letters_kind_1 (fun r hr => ?_)
  subst hr
  have J12 : W pg l e R s m args below meth c s.heap [] 0 0 Q (F0 m 12 ls [.int (nI (cd_n (cd_alw x.toInt) 1))]) := by
    refine lv_iload_n hx hb d_Letters_kind_12 rfl (lv_at hl 0 rfl) ?_
    refine cd_callP (rest := [.int (nI (cd_n (cd_alw x.toInt) 1))]) F (c_Letters_isBlank l x) (by decide) (by decide) k_145 k_146 k_5 k_147 (show cd_desc y_Letters_isBlank 1 by decide +kernel) (fun _ _ _ _ _ => trivial) (fun _ _ _ => trivial) ⟨Nat.zero_le _, Nat.zero_le _⟩ rfl hl.1 (Nat.le_of_ble_eq_true rfl) d_Letters_kind_13 (fun r hr => ?_)
    subst hr
    have J24 : W pg l e R s m args below meth c s.heap [] 0 0 Q (F0 m 24 ls [.int (nI (cd_n (cd_blk x.toInt) 2)), .int (nI (cd_n (cd_alw x.toInt) 1))]) := by
      refine lv_iadd hx hb d_Letters_kind_24 ?_
      refine cd_top (y := nI (cd_n (cd_alw x.toInt) 1 + (cd_n (cd_blk x.toInt) 2))) (nI_add (cd_n (cd_alw x.toInt) 1) (cd_n (cd_blk x.toInt) 2)) ?_
      refine lv_iload_n hx hb d_Letters_kind_25 rfl (lv_at hl 0 rfl) ?_
      refine cd_callP (rest := [.int (nI (cd_n (cd_alw x.toInt) 1 + (cd_n (cd_blk x.toInt) 2)))]) F (c_Letters_isBegin l x) (by decide) (by decide) k_148 k_149 k_5 k_150 (show cd_desc y_Letters_isBegin 1 by decide +kernel) (fun U g mk a h => h.calling) (fun U hU hW => hB.at hS (fun _ h => h) hU hW) ⟨Nat.zero_le _, Nat.zero_le _⟩ rfl hl.1 (Nat.le_of_ble_eq_true rfl) d_Letters_kind_26 (fun r hr => ?_)
      subst hr
      have J37 : W pg l e R s m args below meth c s.heap [] 0 0 Q (F0 m 37 ls [.int (nI (cd_n (cd_beg x.toInt) 4)), .int (nI (cd_n (cd_alw x.toInt) 1 + (cd_n (cd_blk x.toInt) 2)))]) := by
        refine lv_iadd hx hb d_Letters_kind_37 ?_
        refine cd_top (y := nI (cd_n (cd_alw x.toInt) 1 + (cd_n (cd_blk x.toInt) 2) + (cd_n (cd_beg x.toInt) 4))) (nI_add (cd_n (cd_alw x.toInt) 1 + (cd_n (cd_blk x.toInt) 2)) (cd_n (cd_beg x.toInt) 4)) ?_
        refine lv_iload_n hx hb d_Letters_kind_38 rfl (lv_at hl 0 rfl) ?_
        refine cd_callP (rest := [.int (nI (cd_n (cd_alw x.toInt) 1 + (cd_n (cd_blk x.toInt) 2) + (cd_n (cd_beg x.toInt) 4)))]) F (c_Letters_isPart l x) (by decide) (by decide) k_153 k_154 k_5 k_155 (show cd_desc y_Letters_isPart 1 by decide +kernel) (fun U g mk a h => h.calling) (fun U hU hW => hB.at hS (fun _ h => h) hU hW) ⟨Nat.zero_le _, Nat.zero_le _⟩ rfl hl.1 (Nat.le_of_ble_eq_true rfl) d_Letters_kind_39 (fun r hr => ?_)
        subst hr
        have J51 : W pg l e R s m args below meth c s.heap [] 0 0 Q (F0 m 51 ls [.int (nI (cd_n (cd_part x.toInt) 8)), .int (nI (cd_n (cd_alw x.toInt) 1 + (cd_n (cd_blk x.toInt) 2) + (cd_n (cd_beg x.toInt) 4)))]) := by
          refine lv_iadd hx hb d_Letters_kind_51 ?_
          refine cd_top (y := nI (cd_n (cd_alw x.toInt) 1 + (cd_n (cd_blk x.toInt) 2) + (cd_n (cd_beg x.toInt) 4) + (cd_n (cd_part x.toInt) 8))) (nI_add (cd_n (cd_alw x.toInt) 1 + (cd_n (cd_blk x.toInt) 2) + (cd_n (cd_beg x.toInt) 4)) (cd_n (cd_part x.toInt) 8)) ?_
          exact cd_retI hQ hx hb hr hlk d_Letters_kind_52 (rfl)
        refine cd_if_eq_b (tgt := 50) hx hb d_Letters_kind_42 (by decide) (fun c42 => ?_) (fun c42 => ?_)
        · refine lv_iconst (v := 0) hx hb d_Letters_kind_50 (by decide) ?_
          exact cd_top (by rw [cd_nf c42]; rfl) J51
        · refine lv_bipush (v := 8) hx hb d_Letters_kind_45 (by decide) ?_
          refine lv_goto (tgt := 51) hx hb d_Letters_kind_47 (by decide) ?_
          exact cd_top (by rw [cd_nt c42]; rfl) J51
      refine cd_if_eq_b (tgt := 36) hx hb d_Letters_kind_29 (by decide) (fun c29 => ?_) (fun c29 => ?_)
      · refine lv_iconst (v := 0) hx hb d_Letters_kind_36 (by decide) ?_
        exact cd_top (by rw [cd_nf c29]; rfl) J37
      · refine lv_iconst (v := 4) hx hb d_Letters_kind_32 (by decide) ?_
        refine lv_goto (tgt := 37) hx hb d_Letters_kind_33 (by decide) ?_
        exact cd_top (by rw [cd_nt c29]; rfl) J37
    refine cd_if_eq_b (tgt := 23) hx hb d_Letters_kind_16 (by decide) (fun c16 => ?_) (fun c16 => ?_)
    · refine lv_iconst (v := 0) hx hb d_Letters_kind_23 (by decide) ?_
      exact cd_top (by rw [cd_nf c16]; rfl) J24
    · refine lv_iconst (v := 2) hx hb d_Letters_kind_19 (by decide) ?_
      refine lv_goto (tgt := 24) hx hb d_Letters_kind_20 (by decide) ?_
      exact cd_top (by rw [cd_nt c16]; rfl) J24
  refine cd_if_eq_b (tgt := 11) hx hb d_Letters_kind_4 (by decide) (fun c4 => ?_) (fun c4 => ?_)
  · refine lv_iconst (v := 0) hx hb d_Letters_kind_11 (by decide) ?_
    exact cd_top (by rw [cd_nf c4]; rfl) J12
  · refine lv_iconst (v := 1) hx hb d_Letters_kind_7 (by decide) ?_
    refine lv_goto (tgt := 12) hx hb d_Letters_kind_8 (by decide) ?_
    exact cd_top (by rw [cd_nt c4]; rfl) J12

set_option maxHeartbeats 4000000 in
set_option maxRecDepth 100000 in
theorem c_Model_isBegin (l : Launch) (x : Int32) : cd_MetP l y_Model_isBegin b_Model_isBegin 3 (some .boolean) 1 [.int x] (fun _ => True) (fun r => r = cd_b (cd_beg x.toInt)) := by
  refine cd_met (by decide) (Nat.le_of_ble_eq_true rfl) ?_
  intro pg e s m args below meth c R Q ls hR hQ hr hlk hin F hB hl
  have hx := F.1
  have hb := F.2.1
  have hown := F.2.2.2.1
  have hts := F.2.2.2.2.1
  have hl : lv_has ls 3 [(0, .int x)] := hl
  refine lv_iload_n hx hb d_Model_isBegin_0 rfl (lv_at hl 0 rfl) ?_
  refine lv_bipush (v := 58) hx hb d_Model_isBegin_1 (by decide) ?_
  have J78 : W pg l e R s m args below meth c s.heap [] 0 0 Q (F0 m 78 ls [.int (cd_b (cd_bgl x.toInt))]) := by
    refine lv_istore_n (lv' := [(1, .int (cd_b (cd_bgl x.toInt))), (0, .int x)]) hx hb d_Model_isBegin_78 rfl hl (by decide) rfl (fun ls hl => ?_)
    refine lv_iload_n hx hb d_Model_isBegin_79 rfl (lv_at hl 1 rfl) ?_
    refine lv_sipush (v := 880) hx hb d_Model_isBegin_80 (by decide) ?_
    refine lv_sipush (v := 893) hx hb d_Model_isBegin_83 (by decide) ?_
    refine cd_callP (rest := []) F (c_Model_within l x 880 893 (show (880 : Int32).toInt = 880 by decide) (show (893 : Int32).toInt = 893 by decide)) (by decide) (by decide) k_284 k_285 k_4 k_286 (show cd_desc y_Model_within 3 by decide +kernel) (fun _ _ _ _ _ => trivial) (fun _ _ _ => trivial) ⟨Nat.zero_le _, Nat.zero_le _⟩ rfl hl.1 (Nat.le_of_ble_eq_true rfl) d_Model_isBegin_86 (fun r hr => ?_)
    subst hr
    have J149 : W pg l e R s m args below meth c s.heap [] 0 0 Q (F0 m 149 ls [.int (cd_b (cd_bgm x.toInt))]) := by
      refine lv_istore_n (lv' := [(2, .int (cd_b (cd_bgm x.toInt))), (1, .int (cd_b (cd_bgl x.toInt))), (0, .int x)]) hx hb d_Model_isBegin_149 rfl hl (by decide) rfl (fun ls hl => ?_)
      refine lv_iload_n hx hb d_Model_isBegin_150 rfl (lv_at hl 1 rfl) ?_
      refine cd_if_ne_b (tgt := 203) hx hb d_Model_isBegin_151 (by decide) (fun c151 => ?_) (fun c151 => ?_)
      · refine lv_iconst (v := 1) hx hb d_Model_isBegin_203 (by decide) ?_
        refine lv_goto (tgt := 208) hx hb d_Model_isBegin_204 (by decide) ?_
        exact cd_retZ hQ hx hb hr hlk d_Model_isBegin_208 rfl (cd_b1 (by rw [cd_beg]; first | (rw [c151]; rfl) | (rw [c155, Bool.or_comm (cd_bgl _)]; rfl) | (rw [show cd_bgh x.toInt = true from decide_eq_true (by omega), Bool.or_true, Bool.or_true])))
      · refine lv_iload_n hx hb d_Model_isBegin_154 rfl (lv_at hl 0 rfl) ?_
        refine cd_if_ne_b (tgt := 203) hx hb d_Model_isBegin_155 (by decide) (fun c155 => ?_) (fun c155 => ?_)
        · refine lv_iconst (v := 1) hx hb d_Model_isBegin_203 (by decide) ?_
          refine lv_goto (tgt := 208) hx hb d_Model_isBegin_204 (by decide) ?_
          exact cd_retZ hQ hx hb hr hlk d_Model_isBegin_208 rfl (cd_b1 (by rw [cd_beg]; first | (rw [c151]; rfl) | (rw [c155, Bool.or_comm (cd_bgl _)]; rfl) | (rw [show cd_bgh x.toInt = true from decide_eq_true (by omega), Bool.or_true, Bool.or_true])))
        · refine lv_iload_n hx hb d_Model_isBegin_158 rfl (lv_at hl 2 rfl) ?_
          refine lv_sipush (v := 12289) hx hb d_Model_isBegin_159 (by decide) ?_
          refine lv_ldc (v := 55295) hx hb hown (hts _ k_287) d_Model_isBegin_162 ?_
          refine cd_callP (rest := []) F (c_Model_within l x 12289 55295 (show (12289 : Int32).toInt = 12289 by decide) (show (55295 : Int32).toInt = 55295 by decide)) (by decide) (by decide) k_284 k_285 k_4 k_286 (show cd_desc y_Model_within 3 by decide +kernel) (fun _ _ _ _ _ => trivial) (fun _ _ _ => trivial) ⟨Nat.zero_le _, Nat.zero_le _⟩ rfl hl.1 (Nat.le_of_ble_eq_true rfl) d_Model_isBegin_164 (fun r hr => ?_)
          subst hr
          refine cd_if_ne_d (tgt := 203) hx hb d_Model_isBegin_167 (by decide) (fun c167 => ?_) (fun c167 => ?_)
          · refine lv_iconst (v := 1) hx hb d_Model_isBegin_203 (by decide) ?_
            refine lv_goto (tgt := 208) hx hb d_Model_isBegin_204 (by decide) ?_
            exact cd_retZ hQ hx hb hr hlk d_Model_isBegin_208 rfl (cd_b1 (by rw [cd_beg]; first | (rw [c151]; rfl) | (rw [c155, Bool.or_comm (cd_bgl _)]; rfl) | (rw [show cd_bgh x.toInt = true from decide_eq_true (by omega), Bool.or_true, Bool.or_true])))
          · refine lv_iload_n hx hb d_Model_isBegin_170 rfl (lv_at hl 2 rfl) ?_
            refine lv_ldc (v := 63744) hx hb hown (hts _ k_288) d_Model_isBegin_171 ?_
            refine lv_ldc (v := 64975) hx hb hown (hts _ k_289) d_Model_isBegin_173 ?_
            refine cd_callP (rest := []) F (c_Model_within l x 63744 64975 (show (63744 : Int32).toInt = 63744 by decide) (show (64975 : Int32).toInt = 64975 by decide)) (by decide) (by decide) k_284 k_285 k_4 k_286 (show cd_desc y_Model_within 3 by decide +kernel) (fun _ _ _ _ _ => trivial) (fun _ _ _ => trivial) ⟨Nat.zero_le _, Nat.zero_le _⟩ rfl hl.1 (Nat.le_of_ble_eq_true rfl) d_Model_isBegin_175 (fun r hr => ?_)
            subst hr
            refine cd_if_ne_d (tgt := 203) hx hb d_Model_isBegin_178 (by decide) (fun c178 => ?_) (fun c178 => ?_)
            · refine lv_iconst (v := 1) hx hb d_Model_isBegin_203 (by decide) ?_
              refine lv_goto (tgt := 208) hx hb d_Model_isBegin_204 (by decide) ?_
              exact cd_retZ hQ hx hb hr hlk d_Model_isBegin_208 rfl (cd_b1 (by rw [cd_beg]; first | (rw [c151]; rfl) | (rw [c155, Bool.or_comm (cd_bgl _)]; rfl) | (rw [show cd_bgh x.toInt = true from decide_eq_true (by omega), Bool.or_true, Bool.or_true])))
            · refine lv_iload_n hx hb d_Model_isBegin_181 rfl (lv_at hl 2 rfl) ?_
              refine lv_ldc (v := 65008) hx hb hown (hts _ k_290) d_Model_isBegin_182 ?_
              refine lv_ldc (v := 65533) hx hb hown (hts _ k_291) d_Model_isBegin_184 ?_
              refine cd_callP (rest := []) F (c_Model_within l x 65008 65533 (show (65008 : Int32).toInt = 65008 by decide) (show (65533 : Int32).toInt = 65533 by decide)) (by decide) (by decide) k_284 k_285 k_4 k_286 (show cd_desc y_Model_within 3 by decide +kernel) (fun _ _ _ _ _ => trivial) (fun _ _ _ => trivial) ⟨Nat.zero_le _, Nat.zero_le _⟩ rfl hl.1 (Nat.le_of_ble_eq_true rfl) d_Model_isBegin_186 (fun r hr => ?_)
              subst hr
              refine cd_if_ne_d (tgt := 203) hx hb d_Model_isBegin_189 (by decide) (fun c189 => ?_) (fun c189 => ?_)
              · refine lv_iconst (v := 1) hx hb d_Model_isBegin_203 (by decide) ?_
                refine lv_goto (tgt := 208) hx hb d_Model_isBegin_204 (by decide) ?_
                exact cd_retZ hQ hx hb hr hlk d_Model_isBegin_208 rfl (cd_b1 (by rw [cd_beg]; first | (rw [c151]; rfl) | (rw [c155, Bool.or_comm (cd_bgl _)]; rfl) | (rw [show cd_bgh x.toInt = true from decide_eq_true (by omega), Bool.or_true, Bool.or_true])))
              · refine lv_iload_n hx hb d_Model_isBegin_192 rfl (lv_at hl 2 rfl) ?_
                refine lv_ldc (v := 65536) hx hb hown (hts _ k_253) d_Model_isBegin_193 ?_
                refine lv_ldc (v := 983039) hx hb hown (hts _ k_292) d_Model_isBegin_195 ?_
                refine cd_callP (rest := []) F (c_Model_within l x 65536 983039 (show (65536 : Int32).toInt = 65536 by decide) (show (983039 : Int32).toInt = 983039 by decide)) (by decide) (by decide) k_284 k_285 k_4 k_286 (show cd_desc y_Model_within 3 by decide +kernel) (fun _ _ _ _ _ => trivial) (fun _ _ _ => trivial) ⟨Nat.zero_le _, Nat.zero_le _⟩ rfl hl.1 (Nat.le_of_ble_eq_true rfl) d_Model_isBegin_197 (fun r hr => ?_)
                subst hr
                refine cd_if_eq_d (tgt := 207) hx hb d_Model_isBegin_200 (by decide) (fun c200 => ?_) (fun c200 => ?_)
                · refine lv_iconst (v := 0) hx hb d_Model_isBegin_207 (by decide) ?_
                  exact cd_retZ hQ hx hb hr hlk d_Model_isBegin_208 rfl (cd_b0 (by rw [cd_beg, c151, c155, show cd_bgh x.toInt = false from decide_eq_false (by omega)]; rfl))
                · refine lv_iconst (v := 1) hx hb d_Model_isBegin_203 (by decide) ?_
                  refine lv_goto (tgt := 208) hx hb d_Model_isBegin_204 (by decide) ?_
                  exact cd_retZ hQ hx hb hr hlk d_Model_isBegin_208 rfl (cd_b1 (by rw [cd_beg]; first | (rw [c151]; rfl) | (rw [c155, Bool.or_comm (cd_bgl _)]; rfl) | (rw [show cd_bgh x.toInt = true from decide_eq_true (by omega), Bool.or_true, Bool.or_true])))
    refine cd_if_ne_d (tgt := 144) hx hb d_Model_isBegin_89 (by decide) (fun c89 => ?_) (fun c89 => ?_)
    · refine lv_iconst (v := 1) hx hb d_Model_isBegin_144 (by decide) ?_
      refine lv_goto (tgt := 149) hx hb d_Model_isBegin_145 (by decide) ?_
      exact cd_top (cd_d1 (by omega)) J149
    · refine lv_iload_n hx hb d_Model_isBegin_92 rfl (lv_at hl 1 rfl) ?_
      refine lv_sipush (v := 895) hx hb d_Model_isBegin_93 (by decide) ?_
      refine lv_sipush (v := 8191) hx hb d_Model_isBegin_96 (by decide) ?_
      refine cd_callP (rest := []) F (c_Model_within l x 895 8191 (show (895 : Int32).toInt = 895 by decide) (show (8191 : Int32).toInt = 8191 by decide)) (by decide) (by decide) k_284 k_285 k_4 k_286 (show cd_desc y_Model_within 3 by decide +kernel) (fun _ _ _ _ _ => trivial) (fun _ _ _ => trivial) ⟨Nat.zero_le _, Nat.zero_le _⟩ rfl hl.1 (Nat.le_of_ble_eq_true rfl) d_Model_isBegin_99 (fun r hr => ?_)
      subst hr
      refine cd_if_ne_d (tgt := 144) hx hb d_Model_isBegin_102 (by decide) (fun c102 => ?_) (fun c102 => ?_)
      · refine lv_iconst (v := 1) hx hb d_Model_isBegin_144 (by decide) ?_
        refine lv_goto (tgt := 149) hx hb d_Model_isBegin_145 (by decide) ?_
        exact cd_top (cd_d1 (by omega)) J149
      · refine lv_iload_n hx hb d_Model_isBegin_105 rfl (lv_at hl 1 rfl) ?_
        refine lv_sipush (v := 8204) hx hb d_Model_isBegin_106 (by decide) ?_
        refine lv_sipush (v := 8205) hx hb d_Model_isBegin_109 (by decide) ?_
        refine cd_callP (rest := []) F (c_Model_within l x 8204 8205 (show (8204 : Int32).toInt = 8204 by decide) (show (8205 : Int32).toInt = 8205 by decide)) (by decide) (by decide) k_284 k_285 k_4 k_286 (show cd_desc y_Model_within 3 by decide +kernel) (fun _ _ _ _ _ => trivial) (fun _ _ _ => trivial) ⟨Nat.zero_le _, Nat.zero_le _⟩ rfl hl.1 (Nat.le_of_ble_eq_true rfl) d_Model_isBegin_112 (fun r hr => ?_)
        subst hr
        refine cd_if_ne_d (tgt := 144) hx hb d_Model_isBegin_115 (by decide) (fun c115 => ?_) (fun c115 => ?_)
        · refine lv_iconst (v := 1) hx hb d_Model_isBegin_144 (by decide) ?_
          refine lv_goto (tgt := 149) hx hb d_Model_isBegin_145 (by decide) ?_
          exact cd_top (cd_d1 (by omega)) J149
        · refine lv_iload_n hx hb d_Model_isBegin_118 rfl (lv_at hl 1 rfl) ?_
          refine lv_sipush (v := 8304) hx hb d_Model_isBegin_119 (by decide) ?_
          refine lv_sipush (v := 8591) hx hb d_Model_isBegin_122 (by decide) ?_
          refine cd_callP (rest := []) F (c_Model_within l x 8304 8591 (show (8304 : Int32).toInt = 8304 by decide) (show (8591 : Int32).toInt = 8591 by decide)) (by decide) (by decide) k_284 k_285 k_4 k_286 (show cd_desc y_Model_within 3 by decide +kernel) (fun _ _ _ _ _ => trivial) (fun _ _ _ => trivial) ⟨Nat.zero_le _, Nat.zero_le _⟩ rfl hl.1 (Nat.le_of_ble_eq_true rfl) d_Model_isBegin_125 (fun r hr => ?_)
          subst hr
          refine cd_if_ne_d (tgt := 144) hx hb d_Model_isBegin_128 (by decide) (fun c128 => ?_) (fun c128 => ?_)
          · refine lv_iconst (v := 1) hx hb d_Model_isBegin_144 (by decide) ?_
            refine lv_goto (tgt := 149) hx hb d_Model_isBegin_145 (by decide) ?_
            exact cd_top (cd_d1 (by omega)) J149
          · refine lv_iload_n hx hb d_Model_isBegin_131 rfl (lv_at hl 1 rfl) ?_
            refine lv_sipush (v := 11264) hx hb d_Model_isBegin_132 (by decide) ?_
            refine lv_sipush (v := 12271) hx hb d_Model_isBegin_135 (by decide) ?_
            refine cd_callP (rest := []) F (c_Model_within l x 11264 12271 (show (11264 : Int32).toInt = 11264 by decide) (show (12271 : Int32).toInt = 12271 by decide)) (by decide) (by decide) k_284 k_285 k_4 k_286 (show cd_desc y_Model_within 3 by decide +kernel) (fun _ _ _ _ _ => trivial) (fun _ _ _ => trivial) ⟨Nat.zero_le _, Nat.zero_le _⟩ rfl hl.1 (Nat.le_of_ble_eq_true rfl) d_Model_isBegin_138 (fun r hr => ?_)
            subst hr
            refine cd_if_eq_d (tgt := 148) hx hb d_Model_isBegin_141 (by decide) (fun c141 => ?_) (fun c141 => ?_)
            · refine lv_iconst (v := 0) hx hb d_Model_isBegin_148 (by decide) ?_
              exact cd_top (cd_d0 (by omega)) J149
            · refine lv_iconst (v := 1) hx hb d_Model_isBegin_144 (by decide) ?_
              refine lv_goto (tgt := 149) hx hb d_Model_isBegin_145 (by decide) ?_
              exact cd_top (cd_d1 (by omega)) J149
  refine cd_icmp_eq (tgt := 73) hx hb d_Model_isBegin_3 (by decide) rfl (show (58 : Int32).toInt = 58 by decide) (fun c3 => ?_) (fun c3 => ?_)
  · refine lv_iconst (v := 1) hx hb d_Model_isBegin_73 (by decide) ?_
    refine lv_goto (tgt := 78) hx hb d_Model_isBegin_74 (by decide) ?_
    exact cd_top (cd_d1 (by omega)) J78
  · refine lv_iload_n hx hb d_Model_isBegin_6 rfl (lv_at hl 0 rfl) ?_
    refine lv_bipush (v := 95) hx hb d_Model_isBegin_7 (by decide) ?_
    refine cd_icmp_eq (tgt := 73) hx hb d_Model_isBegin_9 (by decide) rfl (show (95 : Int32).toInt = 95 by decide) (fun c9 => ?_) (fun c9 => ?_)
    · refine lv_iconst (v := 1) hx hb d_Model_isBegin_73 (by decide) ?_
      refine lv_goto (tgt := 78) hx hb d_Model_isBegin_74 (by decide) ?_
      exact cd_top (cd_d1 (by omega)) J78
    · refine lv_iload_n hx hb d_Model_isBegin_12 rfl (lv_at hl 0 rfl) ?_
      refine lv_bipush (v := 65) hx hb d_Model_isBegin_13 (by decide) ?_
      refine lv_bipush (v := 90) hx hb d_Model_isBegin_15 (by decide) ?_
      refine cd_callP (rest := []) F (c_Model_within l x 65 90 (show (65 : Int32).toInt = 65 by decide) (show (90 : Int32).toInt = 90 by decide)) (by decide) (by decide) k_284 k_285 k_4 k_286 (show cd_desc y_Model_within 3 by decide +kernel) (fun _ _ _ _ _ => trivial) (fun _ _ _ => trivial) ⟨Nat.zero_le _, Nat.zero_le _⟩ rfl hl.1 (Nat.le_of_ble_eq_true rfl) d_Model_isBegin_17 (fun r hr => ?_)
      subst hr
      refine cd_if_ne_d (tgt := 73) hx hb d_Model_isBegin_20 (by decide) (fun c20 => ?_) (fun c20 => ?_)
      · refine lv_iconst (v := 1) hx hb d_Model_isBegin_73 (by decide) ?_
        refine lv_goto (tgt := 78) hx hb d_Model_isBegin_74 (by decide) ?_
        exact cd_top (cd_d1 (by omega)) J78
      · refine lv_iload_n hx hb d_Model_isBegin_23 rfl (lv_at hl 0 rfl) ?_
        refine lv_bipush (v := 97) hx hb d_Model_isBegin_24 (by decide) ?_
        refine lv_bipush (v := 122) hx hb d_Model_isBegin_26 (by decide) ?_
        refine cd_callP (rest := []) F (c_Model_within l x 97 122 (show (97 : Int32).toInt = 97 by decide) (show (122 : Int32).toInt = 122 by decide)) (by decide) (by decide) k_284 k_285 k_4 k_286 (show cd_desc y_Model_within 3 by decide +kernel) (fun _ _ _ _ _ => trivial) (fun _ _ _ => trivial) ⟨Nat.zero_le _, Nat.zero_le _⟩ rfl hl.1 (Nat.le_of_ble_eq_true rfl) d_Model_isBegin_28 (fun r hr => ?_)
        subst hr
        refine cd_if_ne_d (tgt := 73) hx hb d_Model_isBegin_31 (by decide) (fun c31 => ?_) (fun c31 => ?_)
        · refine lv_iconst (v := 1) hx hb d_Model_isBegin_73 (by decide) ?_
          refine lv_goto (tgt := 78) hx hb d_Model_isBegin_74 (by decide) ?_
          exact cd_top (cd_d1 (by omega)) J78
        · refine lv_iload_n hx hb d_Model_isBegin_34 rfl (lv_at hl 0 rfl) ?_
          refine lv_sipush (v := 192) hx hb d_Model_isBegin_35 (by decide) ?_
          refine lv_sipush (v := 214) hx hb d_Model_isBegin_38 (by decide) ?_
          refine cd_callP (rest := []) F (c_Model_within l x 192 214 (show (192 : Int32).toInt = 192 by decide) (show (214 : Int32).toInt = 214 by decide)) (by decide) (by decide) k_284 k_285 k_4 k_286 (show cd_desc y_Model_within 3 by decide +kernel) (fun _ _ _ _ _ => trivial) (fun _ _ _ => trivial) ⟨Nat.zero_le _, Nat.zero_le _⟩ rfl hl.1 (Nat.le_of_ble_eq_true rfl) d_Model_isBegin_41 (fun r hr => ?_)
          subst hr
          refine cd_if_ne_d (tgt := 73) hx hb d_Model_isBegin_44 (by decide) (fun c44 => ?_) (fun c44 => ?_)
          · refine lv_iconst (v := 1) hx hb d_Model_isBegin_73 (by decide) ?_
            refine lv_goto (tgt := 78) hx hb d_Model_isBegin_74 (by decide) ?_
            exact cd_top (cd_d1 (by omega)) J78
          · refine lv_iload_n hx hb d_Model_isBegin_47 rfl (lv_at hl 0 rfl) ?_
            refine lv_sipush (v := 216) hx hb d_Model_isBegin_48 (by decide) ?_
            refine lv_sipush (v := 246) hx hb d_Model_isBegin_51 (by decide) ?_
            refine cd_callP (rest := []) F (c_Model_within l x 216 246 (show (216 : Int32).toInt = 216 by decide) (show (246 : Int32).toInt = 246 by decide)) (by decide) (by decide) k_284 k_285 k_4 k_286 (show cd_desc y_Model_within 3 by decide +kernel) (fun _ _ _ _ _ => trivial) (fun _ _ _ => trivial) ⟨Nat.zero_le _, Nat.zero_le _⟩ rfl hl.1 (Nat.le_of_ble_eq_true rfl) d_Model_isBegin_54 (fun r hr => ?_)
            subst hr
            refine cd_if_ne_d (tgt := 73) hx hb d_Model_isBegin_57 (by decide) (fun c57 => ?_) (fun c57 => ?_)
            · refine lv_iconst (v := 1) hx hb d_Model_isBegin_73 (by decide) ?_
              refine lv_goto (tgt := 78) hx hb d_Model_isBegin_74 (by decide) ?_
              exact cd_top (cd_d1 (by omega)) J78
            · refine lv_iload_n hx hb d_Model_isBegin_60 rfl (lv_at hl 0 rfl) ?_
              refine lv_sipush (v := 248) hx hb d_Model_isBegin_61 (by decide) ?_
              refine lv_sipush (v := 767) hx hb d_Model_isBegin_64 (by decide) ?_
              refine cd_callP (rest := []) F (c_Model_within l x 248 767 (show (248 : Int32).toInt = 248 by decide) (show (767 : Int32).toInt = 767 by decide)) (by decide) (by decide) k_284 k_285 k_4 k_286 (show cd_desc y_Model_within 3 by decide +kernel) (fun _ _ _ _ _ => trivial) (fun _ _ _ => trivial) ⟨Nat.zero_le _, Nat.zero_le _⟩ rfl hl.1 (Nat.le_of_ble_eq_true rfl) d_Model_isBegin_67 (fun r hr => ?_)
              subst hr
              refine cd_if_eq_d (tgt := 77) hx hb d_Model_isBegin_70 (by decide) (fun c70 => ?_) (fun c70 => ?_)
              · refine lv_iconst (v := 0) hx hb d_Model_isBegin_77 (by decide) ?_
                exact cd_top (cd_d0 (by omega)) J78
              · refine lv_iconst (v := 1) hx hb d_Model_isBegin_73 (by decide) ?_
                refine lv_goto (tgt := 78) hx hb d_Model_isBegin_74 (by decide) ?_
                exact cd_top (cd_d1 (by omega)) J78

set_option maxHeartbeats 4000000 in
set_option maxRecDepth 100000 in
theorem c_Model_isPart (l : Launch) (x : Int32) : cd_MetP l y_Model_isPart b_Model_isPart 1 (some .boolean) 2 [.int x] (fun _ => True) (fun r => r = cd_b (cd_part x.toInt)) := by
  refine cd_met (by decide) (Nat.le_of_ble_eq_true rfl) ?_
  intro pg e s m args below meth c R Q ls hR hQ hr hlk hin F hB hl
  have hx := F.1
  have hb := F.2.1
  have hown := F.2.2.2.1
  have hts := F.2.2.2.2.1
  have hl : lv_has ls 1 [(0, .int x)] := hl
  refine lv_iload_n hx hb d_Model_isPart_0 rfl (lv_at hl 0 rfl) ?_
  refine cd_callP (rest := []) F (c_Model_isBegin l x) (by decide) (by decide) k_281 k_282 k_4 k_283 (show cd_desc y_Model_isBegin 1 by decide +kernel) (fun _ _ _ _ _ => trivial) (fun _ _ _ => trivial) ⟨Nat.zero_le _, Nat.zero_le _⟩ rfl hl.1 (Nat.le_of_ble_eq_true rfl) d_Model_isPart_1 (fun r hr => ?_)
  subst hr
  refine cd_if_ne_b (tgt := 63) hx hb d_Model_isPart_4 (by decide) (fun c4 => ?_) (fun c4 => ?_)
  · refine lv_iconst (v := 1) hx hb d_Model_isPart_63 (by decide) ?_
    refine lv_goto (tgt := 68) hx hb d_Model_isPart_64 (by decide) ?_
    exact cd_retZ hQ hx hb hr hlk d_Model_isPart_68 rfl (cd_b1 (by rw [cd_part]; first | (rw [c4]; rfl) | (rw [show cd_prt x.toInt = true from decide_eq_true (by omega), Bool.or_true])))
  · refine lv_iload_n hx hb d_Model_isPart_7 rfl (lv_at hl 0 rfl) ?_
    refine lv_bipush (v := 45) hx hb d_Model_isPart_8 (by decide) ?_
    refine cd_icmp_eq (tgt := 63) hx hb d_Model_isPart_10 (by decide) rfl (show (45 : Int32).toInt = 45 by decide) (fun c10 => ?_) (fun c10 => ?_)
    · refine lv_iconst (v := 1) hx hb d_Model_isPart_63 (by decide) ?_
      refine lv_goto (tgt := 68) hx hb d_Model_isPart_64 (by decide) ?_
      exact cd_retZ hQ hx hb hr hlk d_Model_isPart_68 rfl (cd_b1 (by rw [cd_part]; first | (rw [c4]; rfl) | (rw [show cd_prt x.toInt = true from decide_eq_true (by omega), Bool.or_true])))
    · refine lv_iload_n hx hb d_Model_isPart_13 rfl (lv_at hl 0 rfl) ?_
      refine lv_bipush (v := 46) hx hb d_Model_isPart_14 (by decide) ?_
      refine cd_icmp_eq (tgt := 63) hx hb d_Model_isPart_16 (by decide) rfl (show (46 : Int32).toInt = 46 by decide) (fun c16 => ?_) (fun c16 => ?_)
      · refine lv_iconst (v := 1) hx hb d_Model_isPart_63 (by decide) ?_
        refine lv_goto (tgt := 68) hx hb d_Model_isPart_64 (by decide) ?_
        exact cd_retZ hQ hx hb hr hlk d_Model_isPart_68 rfl (cd_b1 (by rw [cd_part]; first | (rw [c4]; rfl) | (rw [show cd_prt x.toInt = true from decide_eq_true (by omega), Bool.or_true])))
      · refine lv_iload_n hx hb d_Model_isPart_19 rfl (lv_at hl 0 rfl) ?_
        refine lv_bipush (v := 48) hx hb d_Model_isPart_20 (by decide) ?_
        refine lv_bipush (v := 57) hx hb d_Model_isPart_22 (by decide) ?_
        refine cd_callP (rest := []) F (c_Model_within l x 48 57 (show (48 : Int32).toInt = 48 by decide) (show (57 : Int32).toInt = 57 by decide)) (by decide) (by decide) k_284 k_285 k_4 k_286 (show cd_desc y_Model_within 3 by decide +kernel) (fun _ _ _ _ _ => trivial) (fun _ _ _ => trivial) ⟨Nat.zero_le _, Nat.zero_le _⟩ rfl hl.1 (Nat.le_of_ble_eq_true rfl) d_Model_isPart_24 (fun r hr => ?_)
        subst hr
        refine cd_if_ne_d (tgt := 63) hx hb d_Model_isPart_27 (by decide) (fun c27 => ?_) (fun c27 => ?_)
        · refine lv_iconst (v := 1) hx hb d_Model_isPart_63 (by decide) ?_
          refine lv_goto (tgt := 68) hx hb d_Model_isPart_64 (by decide) ?_
          exact cd_retZ hQ hx hb hr hlk d_Model_isPart_68 rfl (cd_b1 (by rw [cd_part]; first | (rw [c4]; rfl) | (rw [show cd_prt x.toInt = true from decide_eq_true (by omega), Bool.or_true])))
        · refine lv_iload_n hx hb d_Model_isPart_30 rfl (lv_at hl 0 rfl) ?_
          refine lv_sipush (v := 183) hx hb d_Model_isPart_31 (by decide) ?_
          refine cd_icmp_eq (tgt := 63) hx hb d_Model_isPart_34 (by decide) rfl (show (183 : Int32).toInt = 183 by decide) (fun c34 => ?_) (fun c34 => ?_)
          · refine lv_iconst (v := 1) hx hb d_Model_isPart_63 (by decide) ?_
            refine lv_goto (tgt := 68) hx hb d_Model_isPart_64 (by decide) ?_
            exact cd_retZ hQ hx hb hr hlk d_Model_isPart_68 rfl (cd_b1 (by rw [cd_part]; first | (rw [c4]; rfl) | (rw [show cd_prt x.toInt = true from decide_eq_true (by omega), Bool.or_true])))
          · refine lv_iload_n hx hb d_Model_isPart_37 rfl (lv_at hl 0 rfl) ?_
            refine lv_sipush (v := 768) hx hb d_Model_isPart_38 (by decide) ?_
            refine lv_sipush (v := 879) hx hb d_Model_isPart_41 (by decide) ?_
            refine cd_callP (rest := []) F (c_Model_within l x 768 879 (show (768 : Int32).toInt = 768 by decide) (show (879 : Int32).toInt = 879 by decide)) (by decide) (by decide) k_284 k_285 k_4 k_286 (show cd_desc y_Model_within 3 by decide +kernel) (fun _ _ _ _ _ => trivial) (fun _ _ _ => trivial) ⟨Nat.zero_le _, Nat.zero_le _⟩ rfl hl.1 (Nat.le_of_ble_eq_true rfl) d_Model_isPart_44 (fun r hr => ?_)
            subst hr
            refine cd_if_ne_d (tgt := 63) hx hb d_Model_isPart_47 (by decide) (fun c47 => ?_) (fun c47 => ?_)
            · refine lv_iconst (v := 1) hx hb d_Model_isPart_63 (by decide) ?_
              refine lv_goto (tgt := 68) hx hb d_Model_isPart_64 (by decide) ?_
              exact cd_retZ hQ hx hb hr hlk d_Model_isPart_68 rfl (cd_b1 (by rw [cd_part]; first | (rw [c4]; rfl) | (rw [show cd_prt x.toInt = true from decide_eq_true (by omega), Bool.or_true])))
            · refine lv_iload_n hx hb d_Model_isPart_50 rfl (lv_at hl 0 rfl) ?_
              refine lv_sipush (v := 8255) hx hb d_Model_isPart_51 (by decide) ?_
              refine lv_sipush (v := 8256) hx hb d_Model_isPart_54 (by decide) ?_
              refine cd_callP (rest := []) F (c_Model_within l x 8255 8256 (show (8255 : Int32).toInt = 8255 by decide) (show (8256 : Int32).toInt = 8256 by decide)) (by decide) (by decide) k_284 k_285 k_4 k_286 (show cd_desc y_Model_within 3 by decide +kernel) (fun _ _ _ _ _ => trivial) (fun _ _ _ => trivial) ⟨Nat.zero_le _, Nat.zero_le _⟩ rfl hl.1 (Nat.le_of_ble_eq_true rfl) d_Model_isPart_57 (fun r hr => ?_)
              subst hr
              refine cd_if_eq_d (tgt := 67) hx hb d_Model_isPart_60 (by decide) (fun c60 => ?_) (fun c60 => ?_)
              · refine lv_iconst (v := 0) hx hb d_Model_isPart_67 (by decide) ?_
                exact cd_retZ hQ hx hb hr hlk d_Model_isPart_68 rfl (cd_b0 (by rw [cd_part, c4, show cd_prt x.toInt = false from decide_eq_false (by omega)]; rfl))
              · refine lv_iconst (v := 1) hx hb d_Model_isPart_63 (by decide) ?_
                refine lv_goto (tgt := 68) hx hb d_Model_isPart_64 (by decide) ?_
                exact cd_retZ hQ hx hb hr hlk d_Model_isPart_68 rfl (cd_b1 (by rw [cd_part]; first | (rw [c4]; rfl) | (rw [show cd_prt x.toInt = true from decide_eq_true (by omega), Bool.or_true])))
end
section
/-! a character's bytes, as numbers -/
def cd_hd (n : Nat) : Nat := if n = 2 then 192 else if n = 3 then 224 else 240
def cd_by (q n k : Nat) : Nat := if n = 1 then q else if k = 0 then cd_hd n + q / 64 ^ (n - 1) else 128 + q / 64 ^ (n - 1 - k) % 64
theorem cd_sz_in (c : Int) : 1 ≤ cd_sz c ∧ cd_sz c ≤ 4 := by
  unfold cd_sz
  split
  · omega
  · split
    · omega
    · split <;> omega
theorem cd_sz_bd {q n : Nat} (hn : cd_sz (q : Int) = n) (hq : q < 1114112) : (n = 1 ∧ q < 128) ∨ (n = 2 ∧ 128 ≤ q ∧ q < 2048) ∨ (n = 3 ∧ 2048 ≤ q ∧ q < 65536) ∨ (n = 4 ∧ 65536 ≤ q) := by
  unfold cd_sz at hn
  split at hn
  · left; omega
  · split at hn
    · right; left; omega
    · split at hn
      · right; right; left; omega
      · right; right; right; omega
theorem cd_or (a b : Nat) : nI a ||| nI b = nI (a ||| b) := by
  apply Int32.toBitVec_inj.mp
  show BitVec.ofNat 32 a ||| BitVec.ofNat 32 b = BitVec.ofNat 32 (a ||| b)
  exact BitVec.ofNat_or.symm
theorem cd_orp {i a b : Nat} (h : b < 2 ^ i) : nI (2 ^ i * a) ||| nI b = nI (2 ^ i * a + b) := by
  rw [cd_or, Nat.two_pow_add_eq_or_of_lt h]
theorem cd_shr {q d : Nat} (hd : d < 4) (hq : q < 2 ^ 31) : nI q >>> (nI (6 * d) &&& 31) = nI (q / 64 ^ d) := by
  rcases (show d = 0 ∨ d = 1 ∨ d = 2 ∨ d = 3 by omega) with rfl | rfl | rfl | rfl
  · exact pk_shrN hq _ 0 (by decide)
  · exact pk_shrN hq _ 6 (by decide)
  · exact pk_shrN hq _ 12 (by decide)
  · exact pk_shrN hq _ 18 (by decide)
theorem cd_hdI {n : Nat} (h : n = 2 ∨ n = 3 ∨ n = 4) : (240 : Int32) <<< (nI (4 - n) &&& 31) &&& 255 = nI (cd_hd n) := by
  rcases h with rfl | rfl | rfl <;> decide
theorem cd_hdO {q n : Nat} (hn : cd_sz (q : Int) = n) (hq : q < 1114112) (h1 : n ≠ 1) : nI (cd_hd n) ||| nI (q / 64 ^ (n - 1)) = nI (cd_hd n + q / 64 ^ (n - 1)) := by
  rcases cd_sz_bd hn hq with ⟨rfl, h⟩ | ⟨rfl, h⟩ | ⟨rfl, h⟩ | ⟨rfl, h⟩
  · exact absurd rfl h1
  · exact cd_orp (i := 5) (a := 6) (show q / 64 < 32 by omega)
  · exact cd_orp (i := 4) (a := 14) (show q / 4096 < 16 by omega)
  · exact cd_orp (i := 3) (a := 30) (show q / 262144 < 8 by omega)
theorem cd_and63 {q : Nat} (h : q < 2 ^ 32) : nI q &&& 63 = nI (q % 64) := pk_andN h 6 (by decide)
theorem cd_or128 (q : Nat) : (128 : Int32) ||| nI (q % 64) = nI (128 + q % 64) := cd_orp (i := 6) (a := 2) (Nat.mod_lt _ (by decide))
theorem cd_div64 (q a : Nat) : q / 64 ^ a / 64 = q / 64 ^ (a + 1) := by rw [Nat.div_div_eq_div_mul, Nat.pow_succ]
theorem cd_divlt {q : Nat} (a : Nat) (hq : q < 1114112) : q / 64 ^ a < 1114112 := Nat.lt_of_le_of_lt (Nat.div_le_self _ _) hq
theorem cd_by_lt {q n k : Nat} (hn : cd_sz (q : Int) = n) (hq : q < 1114112) : cd_by q n k < 256 := by
  unfold cd_by
  rcases cd_sz_bd hn hq with ⟨rfl, h⟩ | ⟨rfl, h⟩ | ⟨rfl, h⟩ | ⟨rfl, h⟩
  · simp; omega
  · split
    · omega
    · split
      · show 192 + q / 64 < 256; omega
      · omega
  · split
    · omega
    · split
      · show 224 + q / 4096 < 256; omega
      · omega
  · split
    · omega
    · split
      · show 240 + q / 262144 < 256; omega
      · omega
end
section
set_option maxHeartbeats 4000000 in
set_option maxRecDepth 100000 in
theorem c_Coder_byteOf (l : Launch) (q n k : Nat) (hq : q < 1114112) (hn : cd_sz (q : Int) = n) (hk : k < n) : cd_MetP l y_Coder_byteOf b_Coder_byteOf 4 (some .int) 0 [.int (nI q), .int (nI n), .int (nI k)] (fun _ => True) (fun r => r = nI (cd_by q n k)) := by
  refine cd_met (by decide) (Nat.le_of_ble_eq_true rfl) ?_
  intro pg e s m args below meth c R Q ls hR hQ hr hlk hin F hB hl
  have hx := F.1
  have hb := F.2.1
  have hown := F.2.2.2.1
  have hts := F.2.2.2.2.1
  have hl : lv_has ls 4 [(0, .int (nI q)), (1, .int (nI n)), (2, .int (nI k))] := hl
  have hnb := cd_sz_bd hn hq
  have hdv := cd_divlt (n - 1 - k) hq
  refine lv_iload_n hx hb d_Coder_byteOf_0 rfl (lv_at hl 1 rfl) ?_
  refine lv_iconst (v := 1) hx hb d_Coder_byteOf_1 (by decide) ?_
  refine cd_icmp_ne (tgt := 7) hx hb d_Coder_byteOf_2 (by decide) (nI_toInt (n := n) (by omega)) (show (1 : Int32).toInt = 1 by decide) (fun c2 => ?_) (fun c2 => ?_)
  · refine lv_iload_n hx hb d_Coder_byteOf_7 rfl (lv_at hl 0 rfl) ?_
    refine lv_bipush (v := 6) hx hb d_Coder_byteOf_8 (by decide) ?_
    refine lv_iload_n hx hb d_Coder_byteOf_10 rfl (lv_at hl 1 rfl) ?_
    refine lv_iconst (v := 1) hx hb d_Coder_byteOf_11 (by decide) ?_
    refine lv_isub hx hb d_Coder_byteOf_12 ?_
    refine cd_top (y := nI (n - 1)) (pk_sub (a := n) (b := 1) (by omega)) ?_
    refine lv_iload_n hx hb d_Coder_byteOf_13 rfl (lv_at hl 2 rfl) ?_
    refine lv_isub hx hb d_Coder_byteOf_14 ?_
    refine cd_top (y := nI (n - 1 - k)) (pk_sub (a := n - 1) (b := k) (by omega)) ?_
    refine lv_imul hx hb d_Coder_byteOf_15 ?_
    refine cd_top (y := nI (6 * (n - 1 - k))) (pk_mul 6 (n - 1 - k)) ?_
    refine lv_ishr hx hb d_Coder_byteOf_16 ?_
    refine cd_top (y := nI (q / 64 ^ (n - 1 - k))) (cd_shr (by omega) (by omega)) ?_
    refine lv_istore_n (lv' := [(3, .int (nI (q / 64 ^ (n - 1 - k)))), (0, .int (nI q)), (1, .int (nI n)), (2, .int (nI k))]) hx hb d_Coder_byteOf_17 rfl hl (by decide) rfl (fun ls hl => ?_)
    refine lv_iload_n hx hb d_Coder_byteOf_18 rfl (lv_at hl 3 rfl) ?_
    refine cd_if_ne (tgt := 38) hx hb d_Coder_byteOf_19 (by decide) (nI_toInt (n := k) (by omega)) (fun c19 => ?_) (fun c19 => ?_)
    · refine lv_sipush (v := 128) hx hb d_Coder_byteOf_38 (by decide) ?_
      refine lv_iload_n hx hb d_Coder_byteOf_41 rfl (lv_at hl 0 rfl) ?_
      refine lv_bipush (v := 63) hx hb d_Coder_byteOf_42 (by decide) ?_
      refine lv_iand hx hb d_Coder_byteOf_44 ?_
      refine cd_top (y := nI (q / 64 ^ (n - 1 - k) % 64)) (cd_and63 (by omega)) ?_
      refine lv_ior hx hb d_Coder_byteOf_45 ?_
      refine cd_top (y := nI (128 + q / 64 ^ (n - 1 - k) % 64)) (cd_or128 _) ?_
      exact cd_retI hQ hx hb hr hlk d_Coder_byteOf_46 (by rw [cd_by, if_neg (by omega), if_neg (by omega)])
    · refine lv_sipush (v := 240) hx hb d_Coder_byteOf_22 (by decide) ?_
      refine lv_iconst (v := 4) hx hb d_Coder_byteOf_25 (by decide) ?_
      refine lv_iload_n hx hb d_Coder_byteOf_26 rfl (lv_at hl 2 rfl) ?_
      refine lv_isub hx hb d_Coder_byteOf_27 ?_
      refine cd_top (y := nI (4 - n)) (pk_sub (a := 4) (b := n) (by omega)) ?_
      refine lv_ishl hx hb d_Coder_byteOf_28 ?_
      refine lv_sipush (v := 255) hx hb d_Coder_byteOf_29 (by decide) ?_
      refine lv_iand hx hb d_Coder_byteOf_32 ?_
      refine cd_top (y := nI (cd_hd n)) (cd_hdI (by omega)) ?_
      refine lv_iload_n hx hb d_Coder_byteOf_33 rfl (lv_at hl 0 rfl) ?_
      refine lv_ior hx hb d_Coder_byteOf_34 ?_
      have hk0 : k = 0 := by omega
      subst hk0
      refine cd_top (y := nI (cd_hd n + q / 64 ^ (n - 1))) (cd_hdO hn hq (by omega)) ?_
      refine lv_goto (tgt := 46) hx hb d_Coder_byteOf_35 (by decide) ?_
      exact cd_retI hQ hx hb hr hlk d_Coder_byteOf_46 (by rw [cd_by, if_neg (by omega), if_pos rfl])
  · refine lv_iload_n hx hb d_Coder_byteOf_5 rfl (lv_at hl 0 rfl) ?_
    exact cd_retI hQ hx hb hr hlk d_Coder_byteOf_6 (by rw [cd_by, if_pos (by omega)])

set_option maxHeartbeats 4000000 in
set_option maxRecDepth 100000 in
theorem c_Model_byteOf (l : Launch) (q n k : Nat) (hq : q < 1114112) (hn : cd_sz (q : Int) = n) (hk : k < n) : cd_MetP l y_Model_byteOf b_Model_byteOf 5 (some .int) 1 [.int (nI q), .int (nI k)] (fun _ => True) (fun r => r = nI (cd_by q n k)) := by
  refine cd_met (by decide) (Nat.le_of_ble_eq_true rfl) ?_
  intro pg e s m args below meth c R Q ls hR hQ hr hlk hin F hB hl
  have hx := F.1
  have hb := F.2.1
  have hown := F.2.2.2.1
  have hts := F.2.2.2.2.1
  have hl : lv_has ls 5 [(0, .int (nI q)), (1, .int (nI k))] := hl
  have hnb := cd_sz_bd hn hq
  have loop : ∀ (d i : Nat) (ls : Array Slot), i = k + d → i < n → lv_has ls 5 [(0, .int (nI q)), (1, .int (nI k)), (2, .int (nI n)), (3, .int (nI (q / 64 ^ (n - 1 - i)))), (4, .int (nI i))] → W pg l e R s m args below meth c s.heap [] 0 0 Q (F0 m 12 ls []) := by
    intro d
    induction d with
    | zero =>
      intro i ls hi hin hl
      have hdv := cd_divlt (n - 1 - i) hq
      refine lv_iload hx hb d_Model_byteOf_12 (lv_at hl 4 rfl) ?_
      refine lv_iload_n hx hb d_Model_byteOf_14 rfl (lv_at hl 1 rfl) ?_
      refine cd_icmp_le (tgt := 29) hx hb d_Model_byteOf_15 (by decide) (nI_toInt (n := i) (by omega)) (nI_toInt (n := k) (by omega)) (fun c15 => ?_) (fun c15 => ?_)
      · refine lv_iload_n hx hb d_Model_byteOf_29 rfl (lv_at hl 1 rfl) ?_
        refine cd_if_le (tgt := 42) hx hb d_Model_byteOf_30 (by decide) (nI_toInt (n := k) (by omega)) (fun c30 => ?_) (fun c30 => ?_)
        · refine lv_iload_n hx hb d_Model_byteOf_42 rfl (lv_at hl 2 rfl) ?_
          refine lv_iconst (v := 1) hx hb d_Model_byteOf_43 (by decide) ?_
          refine cd_icmp_ne (tgt := 51) hx hb d_Model_byteOf_44 (by decide) (nI_toInt (n := n) (by omega)) (show (1 : Int32).toInt = 1 by decide) (fun c44 => ?_) (fun c44 => ?_)
          · refine lv_iload_n hx hb d_Model_byteOf_51 rfl (lv_at hl 2 rfl) ?_
            refine lv_iconst (v := 2) hx hb d_Model_byteOf_52 (by decide) ?_
            refine cd_icmp_ne (tgt := 64) hx hb d_Model_byteOf_53 (by decide) (nI_toInt (n := n) (by omega)) (show (2 : Int32).toInt = 2 by decide) (fun c53 => ?_) (fun c53 => ?_)
            · refine lv_iload_n hx hb d_Model_byteOf_64 rfl (lv_at hl 2 rfl) ?_
              refine lv_iconst (v := 3) hx hb d_Model_byteOf_65 (by decide) ?_
              refine cd_icmp_ne (tgt := 77) hx hb d_Model_byteOf_66 (by decide) (nI_toInt (n := n) (by omega)) (show (3 : Int32).toInt = 3 by decide) (fun c66 => ?_) (fun c66 => ?_)
              · refine lv_sipush (v := 240) hx hb d_Model_byteOf_77 (by decide) ?_
                refine lv_iload_n hx hb d_Model_byteOf_80 rfl (lv_at hl 3 rfl) ?_
                refine lv_iadd hx hb d_Model_byteOf_81 ?_
                refine cd_top (y := nI (240 + (q / 64 ^ (n - 1 - i)))) (nI_add 240 (q / 64 ^ (n - 1 - i))) ?_
                exact cd_retI hQ hx hb hr hlk d_Model_byteOf_82 (by have hik : i = k := (by omega); subst hik; rw [cd_by, if_neg (by omega), if_pos (by omega), cd_hd, if_neg (by omega), if_neg (by omega), show n - 1 - i = n - 1 by omega])
              · refine lv_sipush (v := 224) hx hb d_Model_byteOf_69 (by decide) ?_
                refine lv_iload_n hx hb d_Model_byteOf_72 rfl (lv_at hl 3 rfl) ?_
                refine lv_iadd hx hb d_Model_byteOf_73 ?_
                refine cd_top (y := nI (224 + (q / 64 ^ (n - 1 - i)))) (nI_add 224 (q / 64 ^ (n - 1 - i))) ?_
                refine lv_goto (tgt := 82) hx hb d_Model_byteOf_74 (by decide) ?_
                exact cd_retI hQ hx hb hr hlk d_Model_byteOf_82 (by have hik : i = k := (by omega); subst hik; rw [cd_by, if_neg (by omega), if_pos (by omega), cd_hd, if_neg (by omega), if_pos (by omega), show n - 1 - i = n - 1 by omega])
            · refine lv_sipush (v := 192) hx hb d_Model_byteOf_56 (by decide) ?_
              refine lv_iload_n hx hb d_Model_byteOf_59 rfl (lv_at hl 3 rfl) ?_
              refine lv_iadd hx hb d_Model_byteOf_60 ?_
              refine cd_top (y := nI (192 + (q / 64 ^ (n - 1 - i)))) (nI_add 192 (q / 64 ^ (n - 1 - i))) ?_
              refine lv_goto (tgt := 82) hx hb d_Model_byteOf_61 (by decide) ?_
              exact cd_retI hQ hx hb hr hlk d_Model_byteOf_82 (by have hik : i = k := (by omega); subst hik; rw [cd_by, if_neg (by omega), if_pos (by omega), cd_hd, if_pos (by omega), show n - 1 - i = n - 1 by omega])
          · refine lv_iload_n hx hb d_Model_byteOf_47 rfl (lv_at hl 0 rfl) ?_
            refine lv_goto (tgt := 82) hx hb d_Model_byteOf_48 (by decide) ?_
            exact cd_retI hQ hx hb hr hlk d_Model_byteOf_82 (by rw [cd_by, if_pos (by omega)])
        · refine lv_sipush (v := 128) hx hb d_Model_byteOf_33 (by decide) ?_
          refine lv_iload_n hx hb d_Model_byteOf_36 rfl (lv_at hl 3 rfl) ?_
          refine lv_bipush (v := 64) hx hb d_Model_byteOf_37 (by decide) ?_
          refine lv_irem hx hb d_Model_byteOf_39 (by decide) ?_
          refine cd_top (y := nI ((q / 64 ^ (n - 1 - i)) % 64)) (pk_rem (a := q / 64 ^ (n - 1 - i)) (d := 64) (by omega) (by omega) (by omega)) ?_
          refine lv_iadd hx hb d_Model_byteOf_40 ?_
          refine cd_top (y := nI (128 + ((q / 64 ^ (n - 1 - i)) % 64))) (nI_add 128 ((q / 64 ^ (n - 1 - i)) % 64)) ?_
          exact cd_retI hQ hx hb hr hlk d_Model_byteOf_41 (by have hik : i = k := (by omega); subst hik; rw [cd_by, if_neg (by omega), if_neg (by omega)])
      · exact absurd c15 (by omega)
    | succ d ih =>
      intro i ls hi hin hl
      have hdv := cd_divlt (n - 1 - i) hq
      refine lv_iload hx hb d_Model_byteOf_12 (lv_at hl 4 rfl) ?_
      refine lv_iload_n hx hb d_Model_byteOf_14 rfl (lv_at hl 1 rfl) ?_
      refine cd_icmp_le (tgt := 29) hx hb d_Model_byteOf_15 (by decide) (nI_toInt (n := i) (by omega)) (nI_toInt (n := k) (by omega)) (fun c15 => ?_) (fun c15 => ?_)
      · exact absurd c15 (by omega)
      · refine lv_iload_n hx hb d_Model_byteOf_18 rfl (lv_at hl 3 rfl) ?_
        refine lv_bipush (v := 64) hx hb d_Model_byteOf_19 (by decide) ?_
        refine lv_idiv hx hb d_Model_byteOf_21 (by decide) ?_
        refine cd_top (y := nI ((q / 64 ^ (n - 1 - i)) / 64)) (pk_div (a := q / 64 ^ (n - 1 - i)) (d := 64) (by omega) (by omega) (by omega)) ?_
        refine lv_istore_n (lv' := [(3, .int (nI ((q / 64 ^ (n - 1 - i)) / 64))), (0, .int (nI q)), (1, .int (nI k)), (2, .int (nI n)), (4, .int (nI i))]) hx hb d_Model_byteOf_22 rfl hl (by decide) rfl (fun ls hl => ?_)
        refine lv_iinc (v := nI (i - 1)) (lv' := [(4, .int (nI (i - 1))), (3, .int (nI ((q / 64 ^ (n - 1 - i)) / 64))), (0, .int (nI q)), (1, .int (nI k)), (2, .int (nI n))]) hx hb d_Model_byteOf_23 hl (k := 4) rfl (sb_m1 (p := i) (by omega)) (by decide) rfl (fun ls hl => ?_)
        refine lv_goto (tgt := 12) hx hb d_Model_byteOf_26 (by decide) ?_
        exact ih (i - 1) ls (by omega) (by omega) (by rw [show n - 1 - (i - 1) = (n - 1 - i) + 1 by omega, ← cd_div64]; exact (lv_sub hl [2, 3, 4, 1, 0] rfl))
  refine lv_iload_n hx hb d_Model_byteOf_0 rfl (lv_at hl 0 rfl) ?_
  refine cd_callP (rest := []) F (c_Model_sizeOf l (nI q)) (by decide) (by decide) k_233 k_234 k_4 k_235 (show cd_desc y_Model_sizeOf 1 by decide +kernel) (fun _ _ _ _ _ => trivial) (fun _ _ _ => trivial) ⟨Nat.zero_le _, Nat.zero_le _⟩ rfl hl.1 (Nat.le_of_ble_eq_true rfl) d_Model_byteOf_1 (fun r hr => ?_)
  subst hr
  refine cd_top (y := nI n) (by rw [nI_toInt (by omega), hn]) ?_
  refine lv_istore_n (lv' := [(2, .int (nI n)), (0, .int (nI q)), (1, .int (nI k))]) hx hb d_Model_byteOf_4 rfl hl (by decide) rfl (fun ls hl => ?_)
  refine lv_iload_n hx hb d_Model_byteOf_5 rfl (lv_at hl 1 rfl) ?_
  refine lv_istore_n (lv' := [(3, .int (nI q)), (2, .int (nI n)), (0, .int (nI q)), (1, .int (nI k))]) hx hb d_Model_byteOf_6 rfl hl (by decide) rfl (fun ls hl => ?_)
  refine lv_iload_n hx hb d_Model_byteOf_7 rfl (lv_at hl 1 rfl) ?_
  refine lv_iconst (v := 1) hx hb d_Model_byteOf_8 (by decide) ?_
  refine lv_isub hx hb d_Model_byteOf_9 ?_
  refine cd_top (y := nI (n - 1)) (pk_sub (a := n) (b := 1) (by omega)) ?_
  refine lv_istore (lv' := [(4, .int (nI (n - 1))), (3, .int (nI q)), (2, .int (nI n)), (0, .int (nI q)), (1, .int (nI k))]) hx hb d_Model_byteOf_10 hl (by decide) rfl (fun ls hl => ?_)
  exact loop (n - 1 - k) (n - 1) ls (by omega) (by omega) (by rw [show q / 64 ^ (n - 1 - (n - 1)) = q by rw [Nat.sub_self, Nat.pow_zero, Nat.div_one]]; exact (lv_sub hl [3, 4, 2, 1, 0] rfl))

set_option maxHeartbeats 4000000 in
set_option maxRecDepth 100000 in
theorem c_Model_kind (l : Launch) (o : Nat) (x : Int32) : cd_MetP l y_Model_kind b_Model_kind 3 (some .int) 3 [.ref o, .int x] (fun _ => True) (fun r => r = nI (cd_kd x.toInt)) := by
  refine cd_met (by decide) (Nat.le_of_ble_eq_true rfl) ?_
  intro pg e s m args below meth c R Q ls hR hQ hr hlk hin F hB hl
  have hx := F.1
  have hb := F.2.1
  have hown := F.2.2.2.1
  have hts := F.2.2.2.2.1
  have hl : lv_has ls 3 [(0, .ref o), (1, .int x)] := hl
  refine lv_iload_n hx hb d_Model_kind_0 rfl (lv_at hl 1 rfl) ?_
  refine cd_callP (rest := []) F (c_Model_isAllowed l x) (by decide) (by decide) k_248 k_249 k_4 k_250 (show cd_desc y_Model_isAllowed 1 by decide +kernel) (fun _ _ _ _ _ => trivial) (fun _ _ _ => trivial) ⟨Nat.zero_le _, Nat.zero_le _⟩ rfl hl.1 (Nat.le_of_ble_eq_true rfl) d_Model_kind_1 (fun r hr => ?_)
  subst hr
  have J12 : W pg l e R s m args below meth c s.heap [] 0 0 Q (F0 m 12 ls [.int (nI (cd_n (cd_alw x.toInt) 1))]) := by
    refine lv_istore_n (lv' := [(2, .int (nI (cd_n (cd_alw x.toInt) 1))), (0, .ref o), (1, .int x)]) hx hb d_Model_kind_12 rfl hl (by decide) rfl (fun ls hl => ?_)
    refine lv_iload_n hx hb d_Model_kind_13 rfl (lv_at hl 2 rfl) ?_
    refine cd_callP (rest := []) F (c_Model_isBlank l x) (by decide) (by decide) k_278 k_279 k_4 k_280 (show cd_desc y_Model_isBlank 1 by decide +kernel) (fun _ _ _ _ _ => trivial) (fun _ _ _ => trivial) ⟨Nat.zero_le _, Nat.zero_le _⟩ rfl hl.1 (Nat.le_of_ble_eq_true rfl) d_Model_kind_14 (fun r hr => ?_)
    subst hr
    have J27 : W pg l e R s m args below meth c s.heap [] 0 0 Q (F0 m 27 ls [.int (nI (cd_n (cd_alw x.toInt) 1 + cd_n (cd_blk x.toInt) 2))]) := by
      refine lv_istore_n (lv' := [(2, .int (nI (cd_n (cd_alw x.toInt) 1 + cd_n (cd_blk x.toInt) 2))), (0, .ref o), (1, .int x)]) hx hb d_Model_kind_27 rfl hl (by decide) rfl (fun ls hl => ?_)
      refine lv_iload_n hx hb d_Model_kind_28 rfl (lv_at hl 2 rfl) ?_
      refine cd_callP (rest := []) F (c_Model_isBegin l x) (by decide) (by decide) k_281 k_282 k_4 k_283 (show cd_desc y_Model_isBegin 1 by decide +kernel) (fun _ _ _ _ _ => trivial) (fun _ _ _ => trivial) ⟨Nat.zero_le _, Nat.zero_le _⟩ rfl hl.1 (Nat.le_of_ble_eq_true rfl) d_Model_kind_29 (fun r hr => ?_)
      subst hr
      have J42 : W pg l e R s m args below meth c s.heap [] 0 0 Q (F0 m 42 ls [.int (nI (cd_n (cd_alw x.toInt) 1 + cd_n (cd_blk x.toInt) 2 + cd_n (cd_beg x.toInt) 4))]) := by
        refine lv_istore_n (lv' := [(2, .int (nI (cd_n (cd_alw x.toInt) 1 + cd_n (cd_blk x.toInt) 2 + cd_n (cd_beg x.toInt) 4))), (0, .ref o), (1, .int x)]) hx hb d_Model_kind_42 rfl hl (by decide) rfl (fun ls hl => ?_)
        refine lv_iload_n hx hb d_Model_kind_43 rfl (lv_at hl 2 rfl) ?_
        refine cd_callP (rest := []) F (c_Model_isPart l x) (by decide) (by decide) k_293 k_294 k_4 k_295 (show cd_desc y_Model_isPart 1 by decide +kernel) (fun _ _ _ _ _ => trivial) (fun _ _ _ => trivial) ⟨Nat.zero_le _, Nat.zero_le _⟩ rfl hl.1 (Nat.le_of_ble_eq_true rfl) d_Model_kind_44 (fun r hr => ?_)
        subst hr
        have J58 : W pg l e R s m args below meth c s.heap [] 0 0 Q (F0 m 58 ls [.int (nI (cd_n (cd_alw x.toInt) 1 + cd_n (cd_blk x.toInt) 2 + cd_n (cd_beg x.toInt) 4 + cd_n (cd_part x.toInt) 8))]) := by
          exact cd_retI hQ hx hb hr hlk d_Model_kind_58 (rfl)
        refine cd_if_eq_b (tgt := 57) hx hb d_Model_kind_47 (by decide) (fun c47 => ?_) (fun c47 => ?_)
        · refine lv_iload_n hx hb d_Model_kind_57 rfl (lv_at hl 0 rfl) ?_
          exact cd_top (by rw [cd_nf c47]; rfl) J58
        · refine lv_iload_n hx hb d_Model_kind_50 rfl (lv_at hl 0 rfl) ?_
          refine lv_bipush (v := 8) hx hb d_Model_kind_51 (by decide) ?_
          refine lv_iadd hx hb d_Model_kind_53 ?_
          refine cd_top (y := nI (cd_n (cd_alw x.toInt) 1 + cd_n (cd_blk x.toInt) 2 + cd_n (cd_beg x.toInt) 4 + 8)) (nI_add (cd_n (cd_alw x.toInt) 1 + cd_n (cd_blk x.toInt) 2 + cd_n (cd_beg x.toInt) 4) 8) ?_
          refine lv_goto (tgt := 58) hx hb d_Model_kind_54 (by decide) ?_
          exact cd_top (by rw [cd_nt c47]) J58
      refine cd_if_eq_b (tgt := 41) hx hb d_Model_kind_32 (by decide) (fun c32 => ?_) (fun c32 => ?_)
      · refine lv_iload_n hx hb d_Model_kind_41 rfl (lv_at hl 0 rfl) ?_
        exact cd_top (by rw [cd_nf c32]; rfl) J42
      · refine lv_iload_n hx hb d_Model_kind_35 rfl (lv_at hl 0 rfl) ?_
        refine lv_iconst (v := 4) hx hb d_Model_kind_36 (by decide) ?_
        refine lv_iadd hx hb d_Model_kind_37 ?_
        refine cd_top (y := nI (cd_n (cd_alw x.toInt) 1 + cd_n (cd_blk x.toInt) 2 + 4)) (nI_add (cd_n (cd_alw x.toInt) 1 + cd_n (cd_blk x.toInt) 2) 4) ?_
        refine lv_goto (tgt := 42) hx hb d_Model_kind_38 (by decide) ?_
        exact cd_top (by rw [cd_nt c32]) J42
    refine cd_if_eq_b (tgt := 26) hx hb d_Model_kind_17 (by decide) (fun c17 => ?_) (fun c17 => ?_)
    · refine lv_iload_n hx hb d_Model_kind_26 rfl (lv_at hl 0 rfl) ?_
      exact cd_top (by rw [cd_nf c17]; rfl) J27
    · refine lv_iload_n hx hb d_Model_kind_20 rfl (lv_at hl 0 rfl) ?_
      refine lv_iconst (v := 2) hx hb d_Model_kind_21 (by decide) ?_
      refine lv_iadd hx hb d_Model_kind_22 ?_
      refine cd_top (y := nI (cd_n (cd_alw x.toInt) 1 + 2)) (nI_add (cd_n (cd_alw x.toInt) 1) 2) ?_
      refine lv_goto (tgt := 27) hx hb d_Model_kind_23 (by decide) ?_
      exact cd_top (by rw [cd_nt c17]) J27
  refine cd_if_eq_b (tgt := 11) hx hb d_Model_kind_4 (by decide) (fun c4 => ?_) (fun c4 => ?_)
  · refine lv_iconst (v := 0) hx hb d_Model_kind_11 (by decide) ?_
    exact cd_top (by rw [cd_nf c4]; rfl) J12
  · refine lv_iconst (v := 1) hx hb d_Model_kind_7 (by decide) ?_
    refine lv_goto (tgt := 12) hx hb d_Model_kind_8 (by decide) ?_
    exact cd_top (by rw [cd_nt c4]; rfl) J12

set_option maxHeartbeats 4000000 in
set_option maxRecDepth 100000 in
theorem c_Desk_kind (l : Launch) (o : Nat) (x : Int32) : cd_MetP l y_Desk_kind b_Desk_kind 2 (some .int) 4 [.ref o, .int x] (fun U => cd_Tb (fun _ => False) U U.heap) (fun r => r = nI (cd_kd x.toInt)) := by
  refine cd_met (by decide) (Nat.le_of_ble_eq_true rfl) ?_
  intro pg e s m args below meth c R Q ls hR hQ hr hlk hin F hB hl
  have hx := F.1
  have hb := F.2.1
  have hown := F.2.2.2.1
  have hts := F.2.2.2.2.1
  have hl : lv_has ls 2 [(0, .ref o), (1, .int x)] := hl
  have hS : va_S (fun _ => False) s.heap s.heap [] := va_S.rf
  refine lv_iload_n hx hb d_Desk_kind_0 rfl (lv_at hl 1 rfl) ?_
  refine cd_callP (rest := []) F (c_Letters_kind l x) (by decide) (by decide) k_141 k_142 k_5 k_143 (show cd_desc y_Letters_kind 1 by decide +kernel) (fun U g mk a h => h.calling) (fun U hU hW => hB.at hS (fun _ h => h) hU hW) ⟨Nat.zero_le _, Nat.zero_le _⟩ rfl hl.1 (Nat.le_of_ble_eq_true rfl) d_Desk_kind_1 (fun r hr => ?_)
  subst hr
  exact cd_retI hQ hx hb hr hlk d_Desk_kind_4 (rfl)
end
section
/-! sequences of bytes, as numbers: B the bytes, N how many -/
def cd_fold (B : Nat → Nat) (p : Nat) : Nat → Nat → Nat → Option Nat
  | 0, _, c => some c
  | r + 1, k, c => if 128 ≤ B (p + k) ∧ B (p + k) ≤ 191 then cd_fold B p r (k + 1) (64 * c + B (p + k) - 128) else none
def cd_bm (b : Nat) : Nat := if b < 128 then 1 else if b < 192 then 0 else if b < 224 then 2 else if b < 240 then 3 else if b < 248 then 4 else 0
def cd_c0 (b n : Nat) : Nat := if n = 1 then b else if n = 2 then b - 192 else if n = 3 then b - 224 else b - 240
def cd_fin (n : Nat) (o : Option Nat) : Option (Nat × Nat) := match o with
  | none => none
  | some c => if cd_has (c : Int) = true ∧ cd_sz (c : Int) = n then some (c, n) else none
def cd_sq (beg : Nat → Nat) (B : Nat → Nat) (N p : Nat) : Option (Nat × Nat) := if beg (B p) = 0 ∨ N < p + beg (B p) then none else cd_fin (beg (B p)) (cd_fold B p (beg (B p) - 1) 1 (cd_c0 (B p) (beg (B p))))
def cd_seq (B : Nat → Nat) (N p : Nat) : Option (Nat × Nat) := cd_sq cd_bm B N p
theorem cd_bm_bd {b n : Nat} (h : n = cd_bm b) : (n = 1 ∧ b < 128) ∨ (n = 0 ∧ ((128 ≤ b ∧ b < 192) ∨ 248 ≤ b)) ∨ (n = 2 ∧ 192 ≤ b ∧ b < 224) ∨ (n = 3 ∧ 224 ≤ b ∧ b < 240) ∨ (n = 4 ∧ 240 ≤ b ∧ b < 248) := by
  unfold cd_bm at h
  split at h
  · omega
  · split at h
    · omega
    · split at h
      · omega
      · split at h
        · omega
        · split at h <;> omega
theorem cd_bs_bd {b n : Nat} (h : n = cd_bs b) : (n = 1 ∧ b < 128) ∨ (n = 0 ∧ ((128 ≤ b ∧ b < 194) ∨ 245 ≤ b)) ∨ (n = 2 ∧ 194 ≤ b ∧ b < 224) ∨ (n = 3 ∧ 224 ≤ b ∧ b < 240) ∨ (n = 4 ∧ 240 ≤ b ∧ b < 245) := by
  unfold cd_bs at h
  split at h
  · omega
  · split at h
    · omega
    · split at h
      · omega
      · split at h
        · omega
        · split at h <;> omega
theorem cd_sq_none {beg B : Nat → Nat} {N p n : Nat} (hn : n = beg (B p)) (h : n = 0 ∨ N < p + n) : cd_sq beg B N p = none := by
  subst hn
  exact if_pos h
theorem cd_sq_some {beg B : Nat → Nat} {N p n : Nat} (hn : n = beg (B p)) (h : ¬ (n = 0 ∨ N < p + n)) : cd_sq beg B N p = cd_fin n (cd_fold B p (n - 1) 1 (cd_c0 (B p) n)) := by
  subst hn
  exact if_neg h
theorem cd_fold_bd {B : Nat → Nat} {p : Nat} : ∀ (r k c : Nat) {x : Nat}, cd_fold B p r k c = some x → c * 64 ^ r ≤ x ∧ x < (c + 1) * 64 ^ r := by
  intro r
  induction r with
  | zero => intro k c x h; simp only [cd_fold, Option.some.injEq] at h; subst h; simp
  | succ r ih =>
    intro k c x h
    unfold cd_fold at h
    split at h
    · rename_i hc
      have := ih _ _ h
      have e1 : c * 64 ^ (r + 1) = (c * 64) * 64 ^ r := by rw [Nat.pow_succ]; rw [Nat.mul_assoc, Nat.mul_comm (64 ^ r) 64]
      have e2 : (c + 1) * 64 ^ (r + 1) = ((c + 1) * 64) * 64 ^ r := by rw [Nat.pow_succ]; rw [Nat.mul_assoc, Nat.mul_comm (64 ^ r) 64]
      rw [e1, e2]
      exact ⟨Nat.le_trans (Nat.mul_le_mul_right _ (by omega)) this.1, Nat.lt_of_lt_of_le this.2 (Nat.mul_le_mul_right _ (by omega))⟩
    · cases h
theorem cd_fin_none {n : Nat} {o : Option Nat} (h : ∀ x, o = some x → ¬ (cd_has (x : Int) = true ∧ cd_sz (x : Int) = n)) : cd_fin n o = none := by
  cases o with
  | none => rfl
  | some x => simp only [cd_fin]; rw [if_neg (h x rfl)]
theorem cd_has_iff {c : Int} : cd_has c = true ↔ ((0 ≤ c ∧ c < 55296) ∨ (57344 ≤ c ∧ c < 1114112)) := by simp [cd_has]
theorem cd_sq_eq {B : Nat → Nat} {N p : Nat} (hB : B p < 256) : cd_sq cd_bs B N p = cd_seq B N p := by
  unfold cd_seq
  obtain ⟨n, hn⟩ : ∃ n, n = cd_bs (B p) := ⟨_, rfl⟩
  obtain ⟨k, hk⟩ : ∃ k, k = cd_bm (B p) := ⟨_, rfl⟩
  have h1 := cd_bs_bd hn
  have h2 := cd_bm_bd hk
  by_cases e : n = k
  · subst e
    by_cases h : n = 0 ∨ N < p + n
    · rw [cd_sq_none hn h, cd_sq_none hk h]
    · rw [cd_sq_some hn h, cd_sq_some hk h]
  · rw [cd_sq_none hn (by omega)]
    by_cases h : k = 0 ∨ N < p + k
    · rw [cd_sq_none hk h]
    · rw [cd_sq_some hk h, cd_fin_none]
      intro x hx hc
      have hb := cd_fold_bd _ _ _ hx
      have hc1 := cd_has_iff.mp hc.1
      rcases h2 with q | q | q | q | q
      · omega
      · omega
      · obtain ⟨rfl, q⟩ := q
        rw [show cd_c0 (B p) 2 = B p - 192 from rfl] at hb
        have : (x : Int) < 128 := by
          have := hb.2
          rw [show (64 : Nat) ^ (2 - 1) = 64 from rfl] at this
          omega
        have := hc.2
        rw [cd_sz, if_pos (by omega)] at this
        omega
      · omega
      · obtain ⟨rfl, q⟩ := q
        rw [show cd_c0 (B p) 4 = B p - 240 from rfl] at hb
        have := hb.1
        rw [show (64 : Nat) ^ (4 - 1) = 262144 from rfl] at this
        omega
/-- a sequence: what it says of its character and its size -/
theorem cd_seq_ok {B : Nat → Nat} {N p c n : Nat} (h : cd_seq B N p = some (c, n)) : 1 ≤ n ∧ n ≤ 4 ∧ p + n ≤ N ∧ cd_has (c : Int) = true ∧ cd_sz (c : Int) = n ∧ c < 1114112 := by
  unfold cd_seq at h
  obtain ⟨k, hk⟩ : ∃ k, k = cd_bm (B p) := ⟨_, rfl⟩
  have h2 := cd_bm_bd hk
  by_cases g : k = 0 ∨ N < p + k
  · rw [cd_sq_none hk g] at h; cases h
  · rw [cd_sq_some hk g] at h
    unfold cd_fin at h
    split at h
    · cases h
    · split at h
      · rename_i hc
        cases h
        have hc1 := cd_has_iff.mp hc.1
        exact ⟨by omega, by omega, by omega, hc.1, hc.2, by omega⟩
      · cases h
/-- the twin's kept bytes -/
def cd_kp (B : Nat → Nat) (N : Nat) (f : Nat → Int32) : Prop := N ≤ 1000 ∧ ∀ j, j < N → B j < 256 ∧ f j = nI (B j)
/-- the answer of a sequence, and where one stands behind it -/
def cd_sqP (o : Option (Nat × Nat)) (p : Nat) (r t : Int32) : Prop := match o with
  | none => r = -1 ∧ t = nI p
  | some (c, n) => r = nI c ∧ t = nI (p + n)
theorem cd_64 {c r : Nat} (h : (c + 1) * 64 ^ r ≤ 2097152) : c < 2097152 := by
  have h1 : 1 ≤ 64 ^ r := Nat.pos_of_ne_zero (by simp)
  have := Nat.le_mul_of_pos_right (c + 1) (show 0 < 64 ^ r by omega)
  omega
theorem cd_64s {c c' r : Nat} (h : (c + 1) * 64 ^ (r + 1) ≤ 2097152) (hc : c' + 1 ≤ 64 * (c + 1)) : (c' + 1) * 64 ^ r ≤ 2097152 := by
  have e2 : (c + 1) * 64 ^ (r + 1) = (64 * (c + 1)) * 64 ^ r := by rw [Nat.pow_succ, Nat.mul_comm 64 (c + 1), Nat.mul_assoc, Nat.mul_comm (64 ^ r) 64]
  rw [e2] at h
  exact Nat.le_trans (Nat.mul_le_mul_right _ hc) h
theorem cd_64z {b n : Nat} (h : n = cd_bm b) (h0 : n ≠ 0) : (cd_c0 b n + 1) * 64 ^ (n - 1) ≤ 2097152 := by
  have h2 := cd_bm_bd h
  rcases h2 with q | q | q | q | q
  · obtain ⟨rfl, q⟩ := q; rw [show cd_c0 b 1 = b from rfl]; show (b + 1) * 1 ≤ _; omega
  · omega
  · obtain ⟨rfl, q⟩ := q; rw [show cd_c0 b 2 = b - 192 from rfl]; show (b - 192 + 1) * 64 ≤ _; omega
  · obtain ⟨rfl, q⟩ := q; rw [show cd_c0 b 3 = b - 224 from rfl]; show (b - 224 + 1) * 4096 ≤ _; omega
  · obtain ⟨rfl, q⟩ := q; rw [show cd_c0 b 4 = b - 240 from rfl]; show (b - 240 + 1) * 262144 ≤ _; omega
theorem cd_64y {b n : Nat} (h : n = cd_bs b) (h0 : n ≠ 0) : (cd_c0 b n + 1) * 64 ^ (n - 1) ≤ 2097152 := by
  have h2 := cd_bs_bd h
  rcases h2 with q | q | q | q | q
  · obtain ⟨rfl, q⟩ := q; rw [show cd_c0 b 1 = b from rfl]; show (b + 1) * 1 ≤ _; omega
  · omega
  · obtain ⟨rfl, q⟩ := q; rw [show cd_c0 b 2 = b - 192 from rfl]; show (b - 192 + 1) * 64 ≤ _; omega
  · obtain ⟨rfl, q⟩ := q; rw [show cd_c0 b 3 = b - 224 from rfl]; show (b - 224 + 1) * 4096 ≤ _; omega
  · obtain ⟨rfl, q⟩ := q; rw [show cd_c0 b 4 = b - 240 from rfl]; show (b - 240 + 1) * 262144 ≤ _; omega
abbrev cd_M (ks : Nat → ClassId) (mo mt mk : Nat) (ft fk : Nat → Int32) (z len : Int32) (rd : Bool) (pl st me be : Int32) : va_W := [(mo, .inr (3, [.ref mt, .int z, .ref mk, .int len, .int (cd_b rd), .int pl, .int st, .int me, .int be])), (mt, .inl (ks 3, 1000, .inl ft)), (mk, .inl (ks 4, 1000, .inl fk))]
end
section
set_option maxHeartbeats 4000000 in
set_option maxRecDepth 100000 in
theorem c_Model_sequence (l : Launch) (G : va_G) (ks : Nat → ClassId) (mo mt mk sz : Nat) (ft fk : Nat → Int32) (z : Int32) (rd : Bool) (pl me be : Int32) (B : Nat → Nat) (N p : Nat) (hk : cd_kp B N fk) (hp : p < N) : cd_MetW (S := Int32) l G ks y_Model_sequence b_Model_sequence 6 (some .int) 1 [.ref mo] (cd_M ks mo mt mk ft fk z (nI N) rd pl (nI p) me be) sz (fun r u => cd_sqP (cd_seq B N p) p r u) (fun u => cd_M ks mo mt mk ft fk z (nI N) rd pl u me be) := by
  refine cd_metW (by decide) (Nat.le_of_ble_eq_true rfl) ?_
  intro pg e s m args below meth c R Q ls A H locs hQ hr hlk F E hP hD hA hS hl
  have hx := F.1
  have hb := F.2.1
  have hown := F.2.2.2.1
  have hts := F.2.2.2.2.1
  have hK := E.1
  have hl : lv_has ls 6 [(0, .ref mo)] := hl
  have hP : va_P G classes [(mo, .inr (3, [.ref mt, .int z, .ref mk, .int (nI N), .int (cd_b rd), .int pl, .int (nI p), .int me, .int be])), (mt, .inl (ks 3, 1000, .inl ft)), (mk, .inl (ks 4, 1000, .inl fk))] H := hP
  have hD : va_D A [(mo, .inr (3, [.ref mt, .int z, .ref mk, .int (nI N), .int (cd_b rd), .int pl, .int (nI p), .int me, .int be])), (mt, .inl (ks 3, 1000, .inl ft)), (mk, .inl (ks 4, 1000, .inl fk))] := hD
  obtain ⟨hN, hkb⟩ := hk
  obtain ⟨n, hn⟩ : ∃ n, n = cd_bm (B p) := ⟨_, rfl⟩
  have hnb := cd_bm_bd hn
  have hB0 := (hkb p hp).1
  refine lv_aload_n hx hb d_Model_sequence_0 rfl (lv_at hl 0 rfl) ?_
  refine va_get (D := G) (ci := 3) (v := .ref mk) (C := R_Model) (T := F_Model) (N := 9) hx hb hts i_Model hown hK hP 0 rfl rfl 2 (by decide) (hts _ k_192) (fun _ h9 => h9) rfl d_Model_sequence_1 ?_
  refine lv_aload_n hx hb d_Model_sequence_4 rfl (lv_at hl 0 rfl) ?_
  refine va_get (D := G) (ci := 3) (v := .int (nI p)) (C := R_Model) (T := F_Model) (N := 9) hx hb hts i_Model hown hK hP 0 rfl rfl 6 (by decide) (hts _ k_196) (fun _ h9 => h9) rfl d_Model_sequence_5 ?_
  refine cd_iald (D := G) hx hb hK hP 2 4 rfl rfl (n0 := p) (by omega) (by omega) d_Model_sequence_8 ?_
  refine cd_top (y := nI (B p)) ((hkb p hp).2) ?_
  refine lv_istore_n (lv' := [(1, .int (nI (B p))), (0, .ref mo)]) hx hb d_Model_sequence_9 rfl hl (by decide) rfl (fun ls hl => ?_)
  refine lv_iload_n hx hb d_Model_sequence_10 rfl (lv_at hl 0 rfl) ?_
  refine lv_sipush (v := 128) hx hb d_Model_sequence_11 (by decide) ?_
  have J66 : W pg l e R s m args below meth c H locs 0 0 Q (F0 m 66 ls [.int (nI n)]) := by
    refine lv_istore_n (lv' := [(2, .int (nI n)), (1, .int (nI (B p))), (0, .ref mo)]) hx hb d_Model_sequence_66 rfl hl (by decide) rfl (fun ls hl => ?_)
    refine lv_iload_n hx hb d_Model_sequence_67 rfl (lv_at hl 0 rfl) ?_
    refine cd_if_eq (tgt := 84) hx hb d_Model_sequence_68 (by decide) (nI_toInt (n := n) (by omega)) (fun c68 => ?_) (fun c68 => ?_)
    · refine lv_iconst (v := -1) hx hb d_Model_sequence_84 (by decide) ?_
      exact cd_retWi hQ hx hb hr hlk d_Model_sequence_85 hS (nI p) (by rw [cd_seq, cd_sq_none hn (by omega)]; exact ⟨rfl, rfl⟩) hP hD
    · refine lv_aload_n hx hb d_Model_sequence_71 rfl (lv_at hl 2 rfl) ?_
      refine va_get (D := G) (ci := 3) (v := .int (nI p)) (C := R_Model) (T := F_Model) (N := 9) hx hb hts i_Model hown hK hP 0 rfl rfl 6 (by decide) (hts _ k_196) (fun _ h9 => h9) rfl d_Model_sequence_72 ?_
      refine lv_iload_n hx hb d_Model_sequence_75 rfl (lv_at hl 0 rfl) ?_
      refine lv_iadd hx hb d_Model_sequence_76 ?_
      refine cd_top (y := nI (p + n)) (nI_add p n) ?_
      refine lv_aload_n hx hb d_Model_sequence_77 rfl (lv_at hl 2 rfl) ?_
      refine va_get (D := G) (ci := 3) (v := .int (nI N)) (C := R_Model) (T := F_Model) (N := 9) hx hb hts i_Model hown hK hP 0 rfl rfl 3 (by decide) (hts _ k_193) (fun _ h9 => h9) rfl d_Model_sequence_78 ?_
      refine cd_icmp_le (tgt := 86) hx hb d_Model_sequence_81 (by decide) (nI_toInt (n := p + n) (by omega)) (nI_toInt (n := N) (by omega)) (fun c81 => ?_) (fun c81 => ?_)
      · refine lv_iload_n hx hb d_Model_sequence_86 rfl (lv_at hl 0 rfl) ?_
        refine lv_iconst (v := 1) hx hb d_Model_sequence_87 (by decide) ?_
        have J126 : W pg l e R s m args below meth c H locs 0 0 Q (F0 m 126 ls [.int (nI (cd_c0 (B p) n))]) := by
          refine lv_istore_n (lv' := [(3, .int (nI (cd_c0 (B p) n))), (2, .int (nI n)), (1, .int (nI (B p))), (0, .ref mo)]) hx hb d_Model_sequence_126 rfl hl (by decide) rfl (fun ls hl => ?_)
          refine lv_iconst (v := 1) hx hb d_Model_sequence_127 (by decide) ?_
          refine lv_istore (lv' := [(4, .int 1), (3, .int (nI (cd_c0 (B p) n))), (2, .int (nI n)), (1, .int (nI (B p))), (0, .ref mo)]) hx hb d_Model_sequence_128 hl (by decide) rfl (fun ls hl => ?_)
          have hge : ¬ (n = 0 ∨ N < p + n) := by omega
          have hsq : cd_seq B N p = _ := cd_sq_some hn hge
          generalize hF : cd_fold B p (n - 1) 1 (cd_c0 (B p) n) = o at hsq
          have loop : ∀ (r k x : Nat) (ls : Array Slot), n = k + r → 1 ≤ k → cd_fold B p r k x = o → (x + 1) * 64 ^ r ≤ 2097152 → lv_has ls 6 [(0, .ref mo), (1, .int (nI (B p))), (2, .int (nI n)), (3, .int (nI x)), (4, .int (nI k))] → W pg l e R s m args below meth c H locs 0 0 Q (F0 m 130 ls []) := by
            intro r
            induction r with
            | zero =>
              intro k x ls hk1 hk2 hf hbd hl
              have hx0 := cd_64 hbd
              have ho : o = some x := hf.symm
              refine lv_iload hx hb d_Model_sequence_130 (lv_at hl 4 rfl) ?_
              refine lv_iload_n hx hb d_Model_sequence_132 rfl (lv_at hl 2 rfl) ?_
              refine cd_icmp_ge (tgt := 186) hx hb d_Model_sequence_133 (by decide) (nI_toInt (n := k) (by omega)) (nI_toInt (n := n) (by omega)) (fun c133 => ?_) (fun c133 => ?_)
              · refine lv_iload_n hx hb d_Model_sequence_186 rfl (lv_at hl 3 rfl) ?_
                refine cd_callP (rest := []) F (c_Model_has l (nI x)) (by decide) (by decide) k_227 k_228 k_4 k_229 (show cd_desc y_Model_has 1 by decide +kernel) (fun _ _ _ _ _ => trivial) (fun _ _ _ => trivial) ⟨Nat.zero_le _, Nat.zero_le _⟩ rfl hl.1 (Nat.le_of_ble_eq_true rfl) d_Model_sequence_187 (fun r hr => ?_)
                subst hr
                refine cd_top (y := cd_b (cd_has (x : Int))) (by rw [nI_toInt (by omega)]) ?_
                refine cd_if_eq_b (tgt := 201) hx hb d_Model_sequence_190 (by decide) (fun c190 => ?_) (fun c190 => ?_)
                · refine lv_iconst (v := -1) hx hb d_Model_sequence_201 (by decide) ?_
                  exact cd_retWi hQ hx hb hr hlk d_Model_sequence_202 hS (nI p) (by rw [hsq, ho]; simp only [cd_fin]; rw [if_neg (fun h => by first | omega | (rw [h.1] at c190; cases c190))]; exact ⟨rfl, rfl⟩) hP hD
                · refine lv_iload_n hx hb d_Model_sequence_193 rfl (lv_at hl 3 rfl) ?_
                  refine cd_callP (rest := []) F (c_Model_sizeOf l (nI x)) (by decide) (by decide) k_233 k_234 k_4 k_235 (show cd_desc y_Model_sizeOf 1 by decide +kernel) (fun _ _ _ _ _ => trivial) (fun _ _ _ => trivial) ⟨Nat.zero_le _, Nat.zero_le _⟩ rfl hl.1 (Nat.le_of_ble_eq_true rfl) d_Model_sequence_194 (fun r hr => ?_)
                  subst hr
                  refine cd_top (y := nI (cd_sz (x : Int))) (by rw [nI_toInt (by omega)]) ?_
                  have hszb := cd_sz_in (x : Int)
                  refine lv_iload_n hx hb d_Model_sequence_197 rfl (lv_at hl 2 rfl) ?_
                  refine cd_icmp_eq (tgt := 203) hx hb d_Model_sequence_198 (by decide) (nI_toInt (n := cd_sz (x : Int)) (by omega)) (nI_toInt (n := n) (by omega)) (fun c198 => ?_) (fun c198 => ?_)
                  · refine lv_aload_n hx hb d_Model_sequence_203 rfl (lv_at hl 0 rfl) ?_
                    refine lv_aload_n hx hb d_Model_sequence_204 rfl (lv_at hl 0 rfl) ?_
                    refine va_get (D := G) (ci := 3) (v := .int (nI p)) (C := R_Model) (T := F_Model) (N := 9) hx hb hts i_Model hown hK hP 0 rfl rfl 6 (by decide) (hts _ k_196) (fun _ h9 => h9) rfl d_Model_sequence_205 ?_
                    refine lv_iload_n hx hb d_Model_sequence_208 rfl (lv_at hl 2 rfl) ?_
                    refine lv_iadd hx hb d_Model_sequence_209 ?_
                    refine cd_top (y := nI (p + n)) (nI_add p n) ?_
                    refine va_put (D := G) (ci := 3) (v := .int (nI (p + n))) (ty := .int) (C := R_Model) (T := F_Model) (N := 9) hx hb hts i_Model t_Model t_Model_ok n_Model hown hK hP hD hS 0 rfl rfl 6 (by decide) (hts _ k_196) (fun _ h9 => h9) rfl (by decide +kernel) rfl rfl (Nat.le_of_ble_eq_true rfl) d_Model_sequence_210 (fun H locs hP hD hS => ?_)
                    have hP : va_P G classes [(mo, .inr (3, [.ref mt, .int z, .ref mk, .int (nI N), .int (cd_b rd), .int pl, .int (nI (p + n)), .int me, .int be])), (mt, .inl (ks 3, 1000, .inl ft)), (mk, .inl (ks 4, 1000, .inl fk))] H := hP
                    have hD : va_D A [(mo, .inr (3, [.ref mt, .int z, .ref mk, .int (nI N), .int (cd_b rd), .int pl, .int (nI (p + n)), .int me, .int be])), (mt, .inl (ks 3, 1000, .inl ft)), (mk, .inl (ks 4, 1000, .inl fk))] := hD
                    refine lv_iload_n hx hb d_Model_sequence_213 rfl (lv_at hl 3 rfl) ?_
                    exact cd_retWi hQ hx hb hr hlk d_Model_sequence_214 hS (nI (p + n)) (by rw [hsq, ho]; simp only [cd_fin]; rw [if_pos ⟨c190, by omega⟩]; exact ⟨rfl, rfl⟩) hP hD
                  · refine lv_iconst (v := -1) hx hb d_Model_sequence_201 (by decide) ?_
                    exact cd_retWi hQ hx hb hr hlk d_Model_sequence_202 hS (nI p) (by rw [hsq, ho]; simp only [cd_fin]; rw [if_neg (fun h => by first | omega | (rw [h.1] at c190; cases c190))]; exact ⟨rfl, rfl⟩) hP hD
              · exact absurd c133 (by omega)
            | succ r ih =>
              intro k x ls hk1 hk2 hf hbd hl
              have hx0 := cd_64 hbd
              have hB1 := (hkb (p + k) (by omega)).1
              refine lv_iload hx hb d_Model_sequence_130 (lv_at hl 4 rfl) ?_
              refine lv_iload_n hx hb d_Model_sequence_132 rfl (lv_at hl 2 rfl) ?_
              refine cd_icmp_ge (tgt := 186) hx hb d_Model_sequence_133 (by decide) (nI_toInt (n := k) (by omega)) (nI_toInt (n := n) (by omega)) (fun c133 => ?_) (fun c133 => ?_)
              · exact absurd c133 (by omega)
              · refine lv_aload_n hx hb d_Model_sequence_136 rfl (lv_at hl 0 rfl) ?_
                refine va_get (D := G) (ci := 3) (v := .ref mk) (C := R_Model) (T := F_Model) (N := 9) hx hb hts i_Model hown hK hP 0 rfl rfl 2 (by decide) (hts _ k_192) (fun _ h9 => h9) rfl d_Model_sequence_137 ?_
                refine lv_aload_n hx hb d_Model_sequence_140 rfl (lv_at hl 0 rfl) ?_
                refine va_get (D := G) (ci := 3) (v := .int (nI p)) (C := R_Model) (T := F_Model) (N := 9) hx hb hts i_Model hown hK hP 0 rfl rfl 6 (by decide) (hts _ k_196) (fun _ h9 => h9) rfl d_Model_sequence_141 ?_
                refine lv_iload hx hb d_Model_sequence_144 (lv_at hl 4 rfl) ?_
                refine lv_iadd hx hb d_Model_sequence_146 ?_
                refine cd_top (y := nI (p + k)) (nI_add p k) ?_
                refine cd_iald (D := G) hx hb hK hP 2 4 rfl rfl (n0 := p + k) (by omega) (by omega) d_Model_sequence_147 ?_
                refine cd_top (y := nI (B (p + k))) ((hkb (p + k) (by omega)).2) ?_
                refine lv_istore (lv' := [(5, .int (nI (B (p + k)))), (0, .ref mo), (1, .int (nI (B p))), (2, .int (nI n)), (3, .int (nI x)), (4, .int (nI k))]) hx hb d_Model_sequence_148 hl (by decide) rfl (fun ls hl => ?_)
                refine lv_iload hx hb d_Model_sequence_150 (lv_at hl 0 rfl) ?_
                refine lv_sipush (v := 128) hx hb d_Model_sequence_152 (by decide) ?_
                refine cd_icmp_lt (tgt := 166) hx hb d_Model_sequence_155 (by decide) (nI_toInt (n := B (p + k)) (by omega)) (show (128 : Int32).toInt = 128 by decide) (fun c155 => ?_) (fun c155 => ?_)
                · refine lv_iconst (v := -1) hx hb d_Model_sequence_166 (by decide) ?_
                  exact cd_retWi hQ hx hb hr hlk d_Model_sequence_167 hS (nI p) (by rw [hsq, ← hf, cd_fold, if_neg (by omega)]; exact ⟨rfl, rfl⟩) hP hD
                · refine lv_iload hx hb d_Model_sequence_158 (lv_at hl 0 rfl) ?_
                  refine lv_sipush (v := 191) hx hb d_Model_sequence_160 (by decide) ?_
                  refine cd_icmp_le (tgt := 168) hx hb d_Model_sequence_163 (by decide) (nI_toInt (n := B (p + k)) (by omega)) (show (191 : Int32).toInt = 191 by decide) (fun c163 => ?_) (fun c163 => ?_)
                  · refine lv_bipush (v := 64) hx hb d_Model_sequence_168 (by decide) ?_
                    refine lv_iload_n hx hb d_Model_sequence_170 rfl (lv_at hl 4 rfl) ?_
                    refine lv_imul hx hb d_Model_sequence_171 ?_
                    refine cd_top (y := nI (64 * x)) (pk_mul 64 x) ?_
                    refine lv_iload hx hb d_Model_sequence_172 (lv_at hl 0 rfl) ?_
                    refine lv_iadd hx hb d_Model_sequence_174 ?_
                    refine cd_top (y := nI (64 * x + (B (p + k)))) (nI_add (64 * x) (B (p + k))) ?_
                    refine lv_sipush (v := 128) hx hb d_Model_sequence_175 (by decide) ?_
                    refine lv_isub hx hb d_Model_sequence_178 ?_
                    refine cd_top (y := nI (64 * x + (B (p + k)) - 128)) (pk_sub (a := 64 * x + (B (p + k))) (b := 128) (by omega)) ?_
                    refine lv_istore_n (lv' := [(3, .int (nI (64 * x + (B (p + k)) - 128))), (5, .int (nI (B (p + k)))), (0, .ref mo), (1, .int (nI (B p))), (2, .int (nI n)), (4, .int (nI k))]) hx hb d_Model_sequence_179 rfl hl (by decide) rfl (fun ls hl => ?_)
                    refine lv_iinc (v := nI (k + 1)) (lv' := [(4, .int (nI (k + 1))), (3, .int (nI (64 * x + (B (p + k)) - 128))), (5, .int (nI (B (p + k)))), (0, .ref mo), (1, .int (nI (B p))), (2, .int (nI n))]) hx hb d_Model_sequence_180 hl (k := 5) rfl (nI_add k 1) (by decide) rfl (fun ls hl => ?_)
                    refine lv_goto (tgt := 130) hx hb d_Model_sequence_183 (by decide) ?_
                    exact ih (k + 1) (64 * x + B (p + k) - 128) ls (by omega) (by omega) (by rw [← hf, cd_fold, if_pos (by omega)]) (cd_64s hbd (by omega)) (lv_sub hl [3, 4, 5, 1, 0] rfl)
                  · refine lv_iconst (v := -1) hx hb d_Model_sequence_166 (by decide) ?_
                    exact cd_retWi hQ hx hb hr hlk d_Model_sequence_167 hS (nI p) (by rw [hsq, ← hf, cd_fold, if_neg (by omega)]; exact ⟨rfl, rfl⟩) hP hD
          exact loop (n - 1) 1 (cd_c0 (B p) n) ls (by omega) (by omega) hF (cd_64z hn (by omega)) (lv_sub hl [4, 3, 2, 1, 0] rfl)
        refine cd_icmp_ne (tgt := 95) hx hb d_Model_sequence_88 (by decide) (nI_toInt (n := n) (by omega)) (show (1 : Int32).toInt = 1 by decide) (fun c88 => ?_) (fun c88 => ?_)
        · refine lv_iload_n hx hb d_Model_sequence_95 rfl (lv_at hl 0 rfl) ?_
          refine lv_iconst (v := 2) hx hb d_Model_sequence_96 (by decide) ?_
          refine cd_icmp_ne (tgt := 108) hx hb d_Model_sequence_97 (by decide) (nI_toInt (n := n) (by omega)) (show (2 : Int32).toInt = 2 by decide) (fun c97 => ?_) (fun c97 => ?_)
          · refine lv_iload_n hx hb d_Model_sequence_108 rfl (lv_at hl 0 rfl) ?_
            refine lv_iconst (v := 3) hx hb d_Model_sequence_109 (by decide) ?_
            refine cd_icmp_ne (tgt := 121) hx hb d_Model_sequence_110 (by decide) (nI_toInt (n := n) (by omega)) (show (3 : Int32).toInt = 3 by decide) (fun c110 => ?_) (fun c110 => ?_)
            · refine lv_iload_n hx hb d_Model_sequence_121 rfl (lv_at hl 1 rfl) ?_
              refine lv_sipush (v := 240) hx hb d_Model_sequence_122 (by decide) ?_
              refine lv_isub hx hb d_Model_sequence_125 ?_
              refine cd_top (y := nI (B p - 240)) (pk_sub (a := B p) (b := 240) (by omega)) ?_
              exact cd_top (by rw [cd_c0, if_neg (by omega), if_neg (by omega), if_neg (by omega)]) J126
            · refine lv_iload_n hx hb d_Model_sequence_113 rfl (lv_at hl 1 rfl) ?_
              refine lv_sipush (v := 224) hx hb d_Model_sequence_114 (by decide) ?_
              refine lv_isub hx hb d_Model_sequence_117 ?_
              refine cd_top (y := nI (B p - 224)) (pk_sub (a := B p) (b := 224) (by omega)) ?_
              refine lv_goto (tgt := 126) hx hb d_Model_sequence_118 (by decide) ?_
              exact cd_top (by rw [cd_c0, if_neg (by omega), if_neg (by omega), if_pos (by omega)]) J126
          · refine lv_iload_n hx hb d_Model_sequence_100 rfl (lv_at hl 1 rfl) ?_
            refine lv_sipush (v := 192) hx hb d_Model_sequence_101 (by decide) ?_
            refine lv_isub hx hb d_Model_sequence_104 ?_
            refine cd_top (y := nI (B p - 192)) (pk_sub (a := B p) (b := 192) (by omega)) ?_
            refine lv_goto (tgt := 126) hx hb d_Model_sequence_105 (by decide) ?_
            exact cd_top (by rw [cd_c0, if_neg (by omega), if_pos (by omega)]) J126
        · refine lv_iload_n hx hb d_Model_sequence_91 rfl (lv_at hl 1 rfl) ?_
          refine lv_goto (tgt := 126) hx hb d_Model_sequence_92 (by decide) ?_
          exact cd_top (by rw [cd_c0, if_pos (by omega)]) J126
      · refine lv_iconst (v := -1) hx hb d_Model_sequence_84 (by decide) ?_
        exact cd_retWi hQ hx hb hr hlk d_Model_sequence_85 hS (nI p) (by rw [cd_seq, cd_sq_none hn (by omega)]; exact ⟨rfl, rfl⟩) hP hD
  refine cd_icmp_ge (tgt := 21) hx hb d_Model_sequence_14 (by decide) (nI_toInt (n := B p) (by omega)) (show (128 : Int32).toInt = 128 by decide) (fun c14 => ?_) (fun c14 => ?_)
  · refine lv_iload_n hx hb d_Model_sequence_21 rfl (lv_at hl 0 rfl) ?_
    refine lv_sipush (v := 192) hx hb d_Model_sequence_22 (by decide) ?_
    refine cd_icmp_ge (tgt := 32) hx hb d_Model_sequence_25 (by decide) (nI_toInt (n := B p) (by omega)) (show (192 : Int32).toInt = 192 by decide) (fun c25 => ?_) (fun c25 => ?_)
    · refine lv_iload_n hx hb d_Model_sequence_32 rfl (lv_at hl 0 rfl) ?_
      refine lv_sipush (v := 224) hx hb d_Model_sequence_33 (by decide) ?_
      refine cd_icmp_ge (tgt := 43) hx hb d_Model_sequence_36 (by decide) (nI_toInt (n := B p) (by omega)) (show (224 : Int32).toInt = 224 by decide) (fun c36 => ?_) (fun c36 => ?_)
      · refine lv_iload_n hx hb d_Model_sequence_43 rfl (lv_at hl 0 rfl) ?_
        refine lv_sipush (v := 240) hx hb d_Model_sequence_44 (by decide) ?_
        refine cd_icmp_ge (tgt := 54) hx hb d_Model_sequence_47 (by decide) (nI_toInt (n := B p) (by omega)) (show (240 : Int32).toInt = 240 by decide) (fun c47 => ?_) (fun c47 => ?_)
        · refine lv_iload_n hx hb d_Model_sequence_54 rfl (lv_at hl 0 rfl) ?_
          refine lv_sipush (v := 248) hx hb d_Model_sequence_55 (by decide) ?_
          refine cd_icmp_ge (tgt := 65) hx hb d_Model_sequence_58 (by decide) (nI_toInt (n := B p) (by omega)) (show (248 : Int32).toInt = 248 by decide) (fun c58 => ?_) (fun c58 => ?_)
          · refine lv_iconst (v := 0) hx hb d_Model_sequence_65 (by decide) ?_
            exact cd_top (by rw [hn, cd_bm, if_neg (by omega), if_neg (by omega), if_neg (by omega), if_neg (by omega), if_neg (by omega)]; rfl) J66
          · refine lv_iconst (v := 4) hx hb d_Model_sequence_61 (by decide) ?_
            refine lv_goto (tgt := 66) hx hb d_Model_sequence_62 (by decide) ?_
            exact cd_top (by rw [hn, cd_bm, if_neg (by omega), if_neg (by omega), if_neg (by omega), if_neg (by omega), if_pos (by omega)]; rfl) J66
        · refine lv_iconst (v := 3) hx hb d_Model_sequence_50 (by decide) ?_
          refine lv_goto (tgt := 66) hx hb d_Model_sequence_51 (by decide) ?_
          exact cd_top (by rw [hn, cd_bm, if_neg (by omega), if_neg (by omega), if_neg (by omega), if_pos (by omega)]; rfl) J66
      · refine lv_iconst (v := 2) hx hb d_Model_sequence_39 (by decide) ?_
        refine lv_goto (tgt := 66) hx hb d_Model_sequence_40 (by decide) ?_
        exact cd_top (by rw [hn, cd_bm, if_neg (by omega), if_neg (by omega), if_pos (by omega)]; rfl) J66
    · refine lv_iconst (v := 0) hx hb d_Model_sequence_28 (by decide) ?_
      refine lv_goto (tgt := 66) hx hb d_Model_sequence_29 (by decide) ?_
      exact cd_top (by rw [hn, cd_bm, if_neg (by omega), if_pos (by omega)]; rfl) J66
  · refine lv_iconst (v := 1) hx hb d_Model_sequence_17 (by decide) ?_
    refine lv_goto (tgt := 66) hx hb d_Model_sequence_18 (by decide) ?_
    exact cd_top (by rw [hn, cd_bm, if_pos (by omega)]; rfl) J66
end
section
/-! tokens: where they begin, which character each is; validation -/
def cd_s0 (B : Nat → Nat) (N : Nat) : Nat := if 2 < N ∧ B 0 = 239 ∧ B 1 = 187 ∧ B 2 = 191 then 3 else 0
def cd_q (B : Nat → Nat) (N p : Nat) : Nat := if p = 0 then cd_s0 B N else p
def cd_chr (B : Nat → Nat) (N p : Nat) : Nat := match cd_seq B N p with
  | some (c, _) => if c = 13 then 10 else c
  | none => 0
def cd_nx (B : Nat → Nat) (N p : Nat) : Nat := match cd_seq B N p with
  | some (c, n) => if c = 13 ∧ p + n < N ∧ B (p + n) = 10 then p + n + 1 else p + n
  | none => p + 1
def cd_P (B : Nat → Nat) (N : Nat) : Nat → Nat
  | 0 => cd_s0 B N
  | k + 1 => cd_nx B N (cd_P B N k)
theorem cd_chr_of {B : Nat → Nat} {N p c n : Nat} (h : cd_seq B N p = some (c, n)) : cd_chr B N p = if c = 13 then 10 else c := by
  unfold cd_chr; rw [h]
theorem cd_nx_of {B : Nat → Nat} {N p c n : Nat} (h : cd_seq B N p = some (c, n)) : cd_nx B N p = if c = 13 ∧ p + n < N ∧ B (p + n) = 10 then p + n + 1 else p + n := by
  unfold cd_nx; rw [h]
theorem cd_q_no {B : Nat → Nat} {N p : Nat} (h : ¬ (p = 0 ∧ 2 < N ∧ B 0 = 239 ∧ B 1 = 187 ∧ B 2 = 191)) : cd_q B N p = p := by
  unfold cd_q cd_s0
  by_cases h0 : p = 0
  · rw [if_pos h0, if_neg (fun q => h ⟨h0, q⟩), h0]
  · rw [if_neg h0]
theorem cd_q_yes {B : Nat → Nat} {N p : Nat} (h : p = 0 ∧ 2 < N ∧ B 0 = 239 ∧ B 1 = 187 ∧ B 2 = 191) : cd_q B N p = 3 := by
  unfold cd_q cd_s0
  rw [if_pos h.1, if_pos h.2]
theorem cd_q_0 (B : Nat → Nat) (N : Nat) : cd_q B N 0 = cd_P B N 0 := rfl
theorem cd_nx_gt (B : Nat → Nat) (N p : Nat) : p < cd_nx B N p := by
  unfold cd_nx
  cases h : cd_seq B N p with
  | none => simp
  | some q =>
    obtain ⟨c, n⟩ := q
    have := cd_seq_ok h
    simp only
    split <;> omega
theorem cd_nx_le {B : Nat → Nat} {N p c n : Nat} (h : cd_seq B N p = some (c, n)) : cd_nx B N p ≤ N := by
  have := cd_seq_ok h
  rw [cd_nx_of h]
  split <;> omega
theorem cd_P_lt (B : Nat → Nat) (N k : Nat) : cd_P B N k < cd_P B N (k + 1) := cd_nx_gt B N _
theorem cd_P_ge (B : Nat → Nat) (N : Nat) : ∀ k, k ≤ cd_P B N k := by
  intro k
  induction k with
  | zero => exact Nat.zero_le _
  | succ k ih => have := cd_P_lt B N k; omega
theorem cd_P_mono (B : Nat → Nat) (N : Nat) {i j : Nat} (h : i ≤ j) : cd_P B N i ≤ cd_P B N j := by
  induction h with
  | refl => exact Nat.le_refl _
  | step _ ih => exact Nat.le_trans ih (Nat.le_of_lt (cd_P_lt B N _))
theorem cd_q_P (B : Nat → Nat) (N k : Nat) : cd_q B N (cd_P B N (k + 1)) = cd_P B N (k + 1) := by
  have := cd_P_ge B N (k + 1)
  exact if_neg (by omega)
def cd_v (B : Nat → Nat) (N : Nat) : Nat → Nat → Nat × Nat
  | 0, _ => (0, 0)
  | f + 1, p => if p < N then (match cd_seq B N p with
    | none => (1, p)
    | some (c, n) => if cd_alw (c : Int) = true then cd_v B N f (p + n) else (2, p)) else (0, 0)
def cd_V (B : Nat → Nat) (N p : Nat) : Nat × Nat := cd_v B N N p
theorem cd_v_irr {B : Nat → Nat} {N : Nat} : ∀ (f g p : Nat), N ≤ p + f → N ≤ p + g → cd_v B N f p = cd_v B N g p := by
  intro f
  induction f with
  | zero =>
    intro g p h1 h2
    cases g with
    | zero => rfl
    | succ g => unfold cd_v; rw [if_neg (by omega)]
  | succ f ih =>
    intro g p h1 h2
    cases g with
    | zero => unfold cd_v; rw [if_neg (by omega)]
    | succ g =>
      unfold cd_v
      by_cases h : p < N
      · rw [if_pos h, if_pos h]
        cases hs : cd_seq B N p with
        | none => rfl
        | some q =>
          obtain ⟨c, n⟩ := q
          have := cd_seq_ok hs
          simp only
          rw [ih g (p + n) (by omega) (by omega)]
      · rw [if_neg h, if_neg h]
theorem cd_V_ge {B : Nat → Nat} {N p : Nat} (h : N ≤ p) : cd_V B N p = (0, 0) := by
  unfold cd_V
  rw [cd_v_irr N 0 p (by omega) (by omega)]
  rfl
theorem cd_V_st {B : Nat → Nat} {N p : Nat} (h : p < N) : cd_V B N p = (match cd_seq B N p with
    | none => (1, p)
    | some (c, n) => if cd_alw (c : Int) = true then cd_V B N (p + n) else (2, p)) := by
  have e : cd_V B N p = cd_v B N (N + 1) p := cd_v_irr N (N + 1) p (by omega) (by omega)
  rw [e]
  conv => lhs; unfold cd_v
  rw [if_pos h]
  rfl
theorem cd_V_none {B : Nat → Nat} {N p : Nat} (h : p < N) (hs : cd_seq B N p = none) : cd_V B N p = (1, p) := by rw [cd_V_st h, hs]
theorem cd_V_bad {B : Nat → Nat} {N p c n : Nat} (h : p < N) (hs : cd_seq B N p = some (c, n)) (ha : cd_alw (c : Int) = false) : cd_V B N p = (2, p) := by rw [cd_V_st h, hs]; simp only; rw [if_neg (by rw [ha]; decide)]
theorem cd_V_go {B : Nat → Nat} {N p c n : Nat} (h : p < N) (hs : cd_seq B N p = some (c, n)) (ha : cd_alw (c : Int) = true) : cd_V B N p = cd_V B N (p + n) := by rw [cd_V_st h, hs]; simp only; rw [if_pos ha]
/-- from p on all is well -/
def cd_ok (B : Nat → Nat) (N p : Nat) : Prop := cd_V B N p = (0, 0)
theorem cd_ok_st {B : Nat → Nat} {N p : Nat} (h : cd_ok B N p) (hp : p < N) : ∃ c n, cd_seq B N p = some (c, n) ∧ cd_alw (c : Int) = true ∧ cd_ok B N (p + n) := by
  cases hs : cd_seq B N p with
  | none => unfold cd_ok at h; rw [cd_V_none hp hs] at h; cases h
  | some q =>
    obtain ⟨c, n⟩ := q
    cases ha : cd_alw (c : Int) with
    | false => unfold cd_ok at h; rw [cd_V_bad hp hs ha] at h; cases h
    | true => unfold cd_ok at h; rw [cd_V_go hp hs ha] at h; exact ⟨c, n, rfl, ha, h⟩
theorem cd_seq1 {B : Nat → Nat} {N p b : Nat} (hb : B p = b) (h : b < 128) (hp : p < N) : cd_seq B N p = some (b, 1) := by
  have hn : 1 = cd_bm (B p) := by rw [hb, cd_bm, if_pos h]
  unfold cd_seq
  rw [cd_sq_some hn (by omega)]
  show cd_fin 1 (some (cd_c0 (B p) 1)) = _
  rw [show cd_c0 (B p) 1 = b from hb]
  simp only [cd_fin]
  rw [if_pos ⟨cd_has_iff.mpr (by omega), by rw [cd_sz, if_pos (by omega)]⟩]
theorem cd_seq_bom {B : Nat → Nat} {N : Nat} (h : 2 < N ∧ B 0 = 239 ∧ B 1 = 187 ∧ B 2 = 191) : cd_seq B N 0 = some (65279, 3) := by
  obtain ⟨h1, h2, h3, h4⟩ := h
  have hn : 3 = cd_bm (B 0) := by rw [h2]; rfl
  unfold cd_seq
  rw [cd_sq_some hn (by omega), h2]
  simp only [show (3 : Nat) - 1 = 2 from rfl, cd_fold, Nat.zero_add, h3, h4]
  decide
theorem cd_ok_nx {B : Nat → Nat} {N p : Nat} (h : cd_ok B N p) : cd_ok B N (cd_nx B N p) := by
  by_cases hp : p < N
  · obtain ⟨c, n, hs, ha, ho⟩ := cd_ok_st h hp
    rw [cd_nx_of hs]
    by_cases hc : c = 13 ∧ p + n < N ∧ B (p + n) = 10
    · rw [if_pos hc]
      have := cd_V_go hc.2.1 (cd_seq1 hc.2.2 (by decide) hc.2.1) (by decide)
      unfold cd_ok at ho ⊢
      rw [← this]
      exact ho
    · rw [if_neg hc]; exact ho
  · have := cd_nx_gt B N p
    exact cd_V_ge (by omega)
theorem cd_ok_s0 {B : Nat → Nat} {N : Nat} (h : cd_ok B N 0) : cd_ok B N (cd_s0 B N) := by
  unfold cd_s0
  by_cases hb : 2 < N ∧ B 0 = 239 ∧ B 1 = 187 ∧ B 2 = 191
  · rw [if_pos hb]
    have := cd_V_go (p := 0) (by omega) (cd_seq_bom hb) (by decide)
    unfold cd_ok at h ⊢
    rw [this] at h
    exact h
  · rw [if_neg hb]; exact h
theorem cd_ok_P {B : Nat → Nat} {N : Nat} (h : cd_ok B N 0) : ∀ k, cd_ok B N (cd_P B N k) := by
  intro k
  induction k with
  | zero => exact cd_ok_s0 h
  | succ k ih => exact cd_ok_nx ih
/-- there are M tokens -/
def cd_isM (B : Nat → Nat) (N M : Nat) : Prop := N ≤ cd_P B N M ∧ ∀ k, k < M → cd_P B N k < N
theorem cd_isM_eq {B : Nat → Nat} {N M M' : Nat} (h : cd_isM B N M) (h' : cd_isM B N M') : M = M' := by
  rcases Nat.lt_trichotomy M M' with q | q | q
  · have := h'.2 M q; have := h.1; omega
  · exact q
  · have := h.2 M' q; have := h'.1; omega
theorem cd_isM_le {B : Nat → Nat} {N M : Nat} (h : cd_isM B N M) : M ≤ N := by
  cases M with
  | zero => exact Nat.zero_le _
  | succ M => have := h.2 M (by omega); have := cd_P_ge B N M; omega
theorem cd_isM_lt {B : Nat → Nat} {N M k : Nat} (h : cd_isM B N M) : k < M ↔ cd_P B N k < N := by
  constructor
  · exact h.2 k
  · intro q
    rcases Nat.lt_or_ge k M with g | g
    · exact g
    · have := cd_P_mono B N g; have := h.1; omega
/-- P stays within N, as far as M -/
theorem cd_P_le {B : Nat → Nat} {N M k : Nat} (h0 : cd_ok B N 0) (h : cd_isM B N M) (hk : k ≤ M) : cd_P B N k ≤ N := by
  cases k with
  | zero =>
    show cd_s0 B N ≤ N
    unfold cd_s0
    split <;> omega
  | succ k =>
    have hl := h.2 k (by omega)
    obtain ⟨c, n, hs, -, -⟩ := cd_ok_st (cd_ok_P h0 k) hl
    exact cd_nx_le hs
/-- what was read is in order: the twin's bytes are B, N of them, they make M tokens -/
def cd_rdy (B : Nat → Nat) (N M : Nat) (fk : Nat → Int32) : Prop := cd_kp B N fk ∧ cd_ok B N 0 ∧ cd_isM B N M
end
section
set_option maxHeartbeats 4000000 in
set_option maxRecDepth 100000 in
theorem c_Model_next (l : Launch) (G : va_G) (ks : Nat → ClassId) (mo mt mk sz : Nat) (ft fk : Nat → Int32) (z : Int32) (rd : Bool) (pl me be : Int32) (B : Nat → Nat) (N p : Nat) (hk : cd_kp B N fk) (hp : p ≤ 1000) (hok : cd_q B N p < N → ∃ c n, cd_seq B N (cd_q B N p) = some (c, n)) : cd_MetW (S := Int32 × Int32 × Int32) l G ks y_Model_next b_Model_next 1 (some .boolean) 2 [.ref mo] (cd_M ks mo mt mk ft fk z (nI N) rd pl (nI p) me be) sz (fun r u => (cd_q B N p < N ∧ r = 1 ∧ u = (nI (cd_nx B N (cd_q B N p)), nI (cd_chr B N (cd_q B N p)), nI (cd_q B N p))) ∨ (N ≤ cd_q B N p ∧ r = 0 ∧ u = (nI (cd_q B N p), me, be))) (fun u => cd_M ks mo mt mk ft fk z (nI N) rd pl u.1 u.2.1 u.2.2) := by
  refine cd_metW (by decide) (Nat.le_of_ble_eq_true rfl) ?_
  intro pg e s m args below meth c R Q ls A H locs hQ hr hlk F E hP hD hA hS hl
  have hx := F.1
  have hb := F.2.1
  have hown := F.2.2.2.1
  have hts := F.2.2.2.2.1
  have hK := E.1
  have hl : lv_has ls 1 [(0, .ref mo)] := hl
  have hP : va_P G classes [(mo, .inr (3, [.ref mt, .int z, .ref mk, .int (nI N), .int (cd_b rd), .int pl, .int (nI p), .int me, .int be])), (mt, .inl (ks 3, 1000, .inl ft)), (mk, .inl (ks 4, 1000, .inl fk))] H := hP
  have hD : va_D A [(mo, .inr (3, [.ref mt, .int z, .ref mk, .int (nI N), .int (cd_b rd), .int pl, .int (nI p), .int me, .int be])), (mt, .inl (ks 3, 1000, .inl ft)), (mk, .inl (ks 4, 1000, .inl fk))] := hD
  obtain ⟨hN, hkb⟩ := id hk
  obtain ⟨q, hq⟩ : ∃ q, cd_q B N p = q := ⟨_, rfl⟩
  rw [hq] at hok
  have hq3 : q = p ∨ q = 3 := by rw [← hq]; unfold cd_q cd_s0; (repeat' split) <;> omega
  rw [hq] at hQ
  refine lv_aload_n hx hb d_Model_next_0 rfl (lv_at hl 0 rfl) ?_
  refine va_get (D := G) (ci := 3) (v := .int (nI p)) (C := R_Model) (T := F_Model) (N := 9) hx hb hts i_Model hown hK hP 0 rfl rfl 6 (by decide) (hts _ k_196) (fun _ h9 => h9) rfl d_Model_next_1 ?_
  have J56 : ∀ (H : Heap) (locs : List Loc), va_P G classes [(mo, .inr (3, [.ref mt, .int z, .ref mk, .int (nI N), .int (cd_b rd), .int pl, .int (nI q), .int me, .int be])), (mt, .inl (ks 3, 1000, .inl ft)), (mk, .inl (ks 4, 1000, .inl fk))] H → va_D A [(mo, .inr (3, [.ref mt, .int z, .ref mk, .int (nI N), .int (cd_b rd), .int pl, .int (nI q), .int me, .int be])), (mt, .inl (ks 3, 1000, .inl ft)), (mk, .inl (ks 4, 1000, .inl fk))] → va_S A s.heap H locs → W pg l e R s m args below meth c H locs 0 0 Q (F0 m 56 ls []) := by
    intro H locs hP hD hS
    refine lv_aload_n hx hb d_Model_next_56 rfl (lv_at hl 0 rfl) ?_
    refine va_get (D := G) (ci := 3) (v := .int (nI q)) (C := R_Model) (T := F_Model) (N := 9) hx hb hts i_Model hown hK hP 0 rfl rfl 6 (by decide) (hts _ k_196) (fun _ h9 => h9) rfl d_Model_next_57 ?_
    refine lv_aload_n hx hb d_Model_next_60 rfl (lv_at hl 0 rfl) ?_
    refine va_get (D := G) (ci := 3) (v := .int (nI N)) (C := R_Model) (T := F_Model) (N := 9) hx hb hts i_Model hown hK hP 0 rfl rfl 3 (by decide) (hts _ k_193) (fun _ h9 => h9) rfl d_Model_next_61 ?_
    refine cd_icmp_lt (tgt := 69) hx hb d_Model_next_64 (by decide) (nI_toInt (n := q) (by omega)) (nI_toInt (n := N) (by omega)) (fun c64 => ?_) (fun c64 => ?_)
    · refine lv_aload_n hx hb d_Model_next_69 rfl (lv_at hl 0 rfl) ?_
      refine lv_aload_n hx hb d_Model_next_70 rfl (lv_at hl 0 rfl) ?_
      refine va_get (D := G) (ci := 3) (v := .int (nI q)) (C := R_Model) (T := F_Model) (N := 9) hx hb hts i_Model hown hK hP 0 rfl rfl 6 (by decide) (hts _ k_196) (fun _ h9 => h9) rfl d_Model_next_71 ?_
      refine va_put (D := G) (ci := 3) (v := .int (nI q)) (ty := .int) (C := R_Model) (T := F_Model) (N := 9) hx hb hts i_Model t_Model t_Model_ok n_Model hown hK hP hD hS 0 rfl rfl 8 (by decide) (hts _ k_198) (fun _ h9 => h9) rfl (by decide +kernel) rfl rfl (Nat.le_of_ble_eq_true rfl) d_Model_next_74 (fun H locs hP hD hS => ?_)
      have hP : va_P G classes [(mo, .inr (3, [.ref mt, .int z, .ref mk, .int (nI N), .int (cd_b rd), .int pl, .int (nI q), .int me, .int (nI q)])), (mt, .inl (ks 3, 1000, .inl ft)), (mk, .inl (ks 4, 1000, .inl fk))] H := hP
      have hD : va_D A [(mo, .inr (3, [.ref mt, .int z, .ref mk, .int (nI N), .int (cd_b rd), .int pl, .int (nI q), .int me, .int (nI q)])), (mt, .inl (ks 3, 1000, .inl ft)), (mk, .inl (ks 4, 1000, .inl fk))] := hD
      refine lv_aload_n hx hb d_Model_next_77 rfl (lv_at hl 0 rfl) ?_
      refine lv_aload_n hx hb d_Model_next_78 rfl (lv_at hl 0 rfl) ?_
      obtain ⟨x, n, hseq⟩ := hok (by omega)
      have hso := cd_seq_ok hseq
      refine cd_callW (rest := [.ref mo]) (wc := [(mo, .inr (3, [.ref mt, .int z, .ref mk, .int (nI N), .int (cd_b rd), .int pl, .int (nI q), .int me, .int (nI q)])), (mt, .inl (ks 3, 1000, .inl ft)), (mk, .inl (ks 4, 1000, .inl fk))]) (wr := []) F E hP hD hS hA [0, 1, 2] [] rfl rfl rfl (by decide) (by decide) (by decide) (c_Model_sequence l G ks mo mt mk H.size ft fk z rd pl me (nI q) B N q hk (by omega)) (by decide) (by decide) 0 3 rfl rfl k_244 k_246 k_s3 k_4 k_247 (show cd_desc y_Model_sequence 0 by decide +kernel) ⟨Nat.zero_le _, Nat.zero_le _⟩ rfl hl.1 (Nat.le_of_ble_eq_true rfl) d_Model_next_79 (fun r u H locs hw hP hD hS => ?_)
      rw [hseq] at hw
      obtain ⟨rfl, rfl⟩ := hw
      have hP : va_P G classes [(mo, .inr (3, [.ref mt, .int z, .ref mk, .int (nI N), .int (cd_b rd), .int pl, .int (nI (q + n)), .int me, .int (nI q)])), (mt, .inl (ks 3, 1000, .inl ft)), (mk, .inl (ks 4, 1000, .inl fk))] H := hP
      have hD : va_D A [(mo, .inr (3, [.ref mt, .int z, .ref mk, .int (nI N), .int (cd_b rd), .int pl, .int (nI (q + n)), .int me, .int (nI q)])), (mt, .inl (ks 3, 1000, .inl ft)), (mk, .inl (ks 4, 1000, .inl fk))] := hD
      refine va_put (D := G) (ci := 3) (v := .int (nI x)) (ty := .int) (C := R_Model) (T := F_Model) (N := 9) hx hb hts i_Model t_Model t_Model_ok n_Model hown hK hP hD hS 0 rfl rfl 7 (by decide) (hts _ k_197) (fun _ h9 => h9) rfl (by decide +kernel) rfl rfl (Nat.le_of_ble_eq_true rfl) d_Model_next_82 (fun H locs hP hD hS => ?_)
      have hP : va_P G classes [(mo, .inr (3, [.ref mt, .int z, .ref mk, .int (nI N), .int (cd_b rd), .int pl, .int (nI (q + n)), .int (nI x), .int (nI q)])), (mt, .inl (ks 3, 1000, .inl ft)), (mk, .inl (ks 4, 1000, .inl fk))] H := hP
      have hD : va_D A [(mo, .inr (3, [.ref mt, .int z, .ref mk, .int (nI N), .int (cd_b rd), .int pl, .int (nI (q + n)), .int (nI x), .int (nI q)])), (mt, .inl (ks 3, 1000, .inl ft)), (mk, .inl (ks 4, 1000, .inl fk))] := hD
      refine lv_aload_n hx hb d_Model_next_85 rfl (lv_at hl 0 rfl) ?_
      refine va_get (D := G) (ci := 3) (v := .int (nI x)) (C := R_Model) (T := F_Model) (N := 9) hx hb hts i_Model hown hK hP 0 rfl rfl 7 (by decide) (hts _ k_197) (fun _ h9 => h9) rfl d_Model_next_86 ?_
      refine lv_bipush (v := 13) hx hb d_Model_next_89 (by decide) ?_
      refine cd_icmp_ne (tgt := 142) hx hb d_Model_next_91 (by decide) (nI_toInt (n := x) (by omega)) (show (13 : Int32).toInt = 13 by decide) (fun c91 => ?_) (fun c91 => ?_)
      · refine lv_iconst (v := 1) hx hb d_Model_next_142 (by decide) ?_
        exact cd_retWz hQ hx hb hr hlk d_Model_next_143 rfl hS ((nI (q + n), nI x, nI q)) (Or.inl ⟨by omega, rfl, by rw [cd_chr_of hseq, cd_nx_of hseq, if_neg (by omega), if_neg (by omega)]⟩) hP hD
      · have hx13 : x = 13 := by omega
        subst hx13
        refine lv_aload_n hx hb d_Model_next_94 rfl (lv_at hl 0 rfl) ?_
        refine lv_bipush (v := 10) hx hb d_Model_next_95 (by decide) ?_
        refine va_put (D := G) (ci := 3) (v := .int 10) (ty := .int) (C := R_Model) (T := F_Model) (N := 9) hx hb hts i_Model t_Model t_Model_ok n_Model hown hK hP hD hS 0 rfl rfl 7 (by decide) (hts _ k_197) (fun _ h9 => h9) rfl (by decide +kernel) rfl rfl (Nat.le_of_ble_eq_true rfl) d_Model_next_97 (fun H locs hP hD hS => ?_)
        have hP : va_P G classes [(mo, .inr (3, [.ref mt, .int z, .ref mk, .int (nI N), .int (cd_b rd), .int pl, .int (nI (q + n)), .int 10, .int (nI q)])), (mt, .inl (ks 3, 1000, .inl ft)), (mk, .inl (ks 4, 1000, .inl fk))] H := hP
        have hD : va_D A [(mo, .inr (3, [.ref mt, .int z, .ref mk, .int (nI N), .int (cd_b rd), .int pl, .int (nI (q + n)), .int 10, .int (nI q)])), (mt, .inl (ks 3, 1000, .inl ft)), (mk, .inl (ks 4, 1000, .inl fk))] := hD
        refine lv_aload_n hx hb d_Model_next_100 rfl (lv_at hl 0 rfl) ?_
        refine lv_aload_n hx hb d_Model_next_101 rfl (lv_at hl 0 rfl) ?_
        refine va_get (D := G) (ci := 3) (v := .int (nI (q + n))) (C := R_Model) (T := F_Model) (N := 9) hx hb hts i_Model hown hK hP 0 rfl rfl 6 (by decide) (hts _ k_196) (fun _ h9 => h9) rfl d_Model_next_102 ?_
        refine lv_aload_n hx hb d_Model_next_105 rfl (lv_at hl 0 rfl) ?_
        refine va_get (D := G) (ci := 3) (v := .int (nI N)) (C := R_Model) (T := F_Model) (N := 9) hx hb hts i_Model hown hK hP 0 rfl rfl 3 (by decide) (hts _ k_193) (fun _ h9 => h9) rfl d_Model_next_106 ?_
        have J139 : W pg l e R s m args below meth c H locs 0 0 Q (F0 m 139 ls [.int (nI (cd_nx B N q)), .ref mo]) := by
          refine va_put (D := G) (ci := 3) (v := .int (nI (cd_nx B N q))) (ty := .int) (C := R_Model) (T := F_Model) (N := 9) hx hb hts i_Model t_Model t_Model_ok n_Model hown hK hP hD hS 0 rfl rfl 6 (by decide) (hts _ k_196) (fun _ h9 => h9) rfl (by decide +kernel) rfl rfl (Nat.le_of_ble_eq_true rfl) d_Model_next_139 (fun H locs hP hD hS => ?_)
          have hP : va_P G classes [(mo, .inr (3, [.ref mt, .int z, .ref mk, .int (nI N), .int (cd_b rd), .int pl, .int (nI (cd_nx B N q)), .int 10, .int (nI q)])), (mt, .inl (ks 3, 1000, .inl ft)), (mk, .inl (ks 4, 1000, .inl fk))] H := hP
          have hD : va_D A [(mo, .inr (3, [.ref mt, .int z, .ref mk, .int (nI N), .int (cd_b rd), .int pl, .int (nI (cd_nx B N q)), .int 10, .int (nI q)])), (mt, .inl (ks 3, 1000, .inl ft)), (mk, .inl (ks 4, 1000, .inl fk))] := hD
          refine lv_iconst (v := 1) hx hb d_Model_next_142 (by decide) ?_
          exact cd_retWz hQ hx hb hr hlk d_Model_next_143 rfl hS ((nI (cd_nx B N q), 10, nI q)) (Or.inl ⟨by omega, rfl, by rw [cd_chr_of hseq, if_pos rfl]; rfl⟩) hP hD
        refine cd_icmp_ge (tgt := 135) hx hb d_Model_next_109 (by decide) (nI_toInt (n := q + n) (by omega)) (nI_toInt (n := N) (by omega)) (fun c109 => ?_) (fun c109 => ?_)
        · refine lv_aload_n hx hb d_Model_next_135 rfl (lv_at hl 0 rfl) ?_
          refine va_get (D := G) (ci := 3) (v := .int (nI (q + n))) (C := R_Model) (T := F_Model) (N := 9) hx hb hts i_Model hown hK hP 0 rfl rfl 6 (by decide) (hts _ k_196) (fun _ h9 => h9) rfl d_Model_next_136 ?_
          exact cd_top (by rw [cd_nx_of hseq, if_neg (by omega)]) J139
        · refine lv_aload_n hx hb d_Model_next_112 rfl (lv_at hl 0 rfl) ?_
          refine va_get (D := G) (ci := 3) (v := .ref mk) (C := R_Model) (T := F_Model) (N := 9) hx hb hts i_Model hown hK hP 0 rfl rfl 2 (by decide) (hts _ k_192) (fun _ h9 => h9) rfl d_Model_next_113 ?_
          refine lv_aload_n hx hb d_Model_next_116 rfl (lv_at hl 0 rfl) ?_
          refine va_get (D := G) (ci := 3) (v := .int (nI (q + n))) (C := R_Model) (T := F_Model) (N := 9) hx hb hts i_Model hown hK hP 0 rfl rfl 6 (by decide) (hts _ k_196) (fun _ h9 => h9) rfl d_Model_next_117 ?_
          refine cd_iald (D := G) hx hb hK hP 2 4 rfl rfl (n0 := q + n) (by omega) (by omega) d_Model_next_120 ?_
          refine cd_top (y := nI (B (q + n))) ((hkb (q + n) (by omega)).2) ?_
          have hB3 := (hkb (q + n) (by omega)).1
          refine lv_bipush (v := 10) hx hb d_Model_next_121 (by decide) ?_
          refine cd_icmp_ne (tgt := 135) hx hb d_Model_next_123 (by decide) (nI_toInt (n := B (q + n)) (by omega)) (show (10 : Int32).toInt = 10 by decide) (fun c123 => ?_) (fun c123 => ?_)
          · refine lv_aload_n hx hb d_Model_next_135 rfl (lv_at hl 0 rfl) ?_
            refine va_get (D := G) (ci := 3) (v := .int (nI (q + n))) (C := R_Model) (T := F_Model) (N := 9) hx hb hts i_Model hown hK hP 0 rfl rfl 6 (by decide) (hts _ k_196) (fun _ h9 => h9) rfl d_Model_next_136 ?_
            exact cd_top (by rw [cd_nx_of hseq, if_neg (by omega)]) J139
          · refine lv_aload_n hx hb d_Model_next_126 rfl (lv_at hl 0 rfl) ?_
            refine va_get (D := G) (ci := 3) (v := .int (nI (q + n))) (C := R_Model) (T := F_Model) (N := 9) hx hb hts i_Model hown hK hP 0 rfl rfl 6 (by decide) (hts _ k_196) (fun _ h9 => h9) rfl d_Model_next_127 ?_
            refine lv_iconst (v := 1) hx hb d_Model_next_130 (by decide) ?_
            refine lv_iadd hx hb d_Model_next_131 ?_
            refine cd_top (y := nI (q + n + 1)) (nI_add (q + n) 1) ?_
            refine lv_goto (tgt := 139) hx hb d_Model_next_132 (by decide) ?_
            exact cd_top (by rw [cd_nx_of hseq, if_pos ⟨rfl, by omega, by omega⟩]) J139
    · refine lv_iconst (v := 0) hx hb d_Model_next_67 (by decide) ?_
      exact cd_retWz hQ hx hb hr hlk d_Model_next_68 rfl hS ((nI q, me, be)) (Or.inr ⟨by omega, rfl, rfl⟩) hP hD
  refine cd_if_ne (tgt := 56) hx hb d_Model_next_4 (by decide) (nI_toInt (n := p) (by omega)) (fun c4 => ?_) (fun c4 => ?_)
  · have e : q = p := by rw [← hq]; exact cd_q_no (by omega)
    rw [e] at J56
    exact J56 H locs hP hD hS
  · refine lv_aload_n hx hb d_Model_next_7 rfl (lv_at hl 0 rfl) ?_
    refine va_get (D := G) (ci := 3) (v := .int (nI N)) (C := R_Model) (T := F_Model) (N := 9) hx hb hts i_Model hown hK hP 0 rfl rfl 3 (by decide) (hts _ k_193) (fun _ h9 => h9) rfl d_Model_next_8 ?_
    refine lv_iconst (v := 2) hx hb d_Model_next_11 (by decide) ?_
    refine cd_icmp_le (tgt := 56) hx hb d_Model_next_12 (by decide) (nI_toInt (n := N) (by omega)) (show (2 : Int32).toInt = 2 by decide) (fun c12 => ?_) (fun c12 => ?_)
    · have e : q = p := by rw [← hq]; exact cd_q_no (by omega)
      rw [e] at J56
      exact J56 H locs hP hD hS
    · refine lv_aload_n hx hb d_Model_next_15 rfl (lv_at hl 0 rfl) ?_
      refine va_get (D := G) (ci := 3) (v := .ref mk) (C := R_Model) (T := F_Model) (N := 9) hx hb hts i_Model hown hK hP 0 rfl rfl 2 (by decide) (hts _ k_192) (fun _ h9 => h9) rfl d_Model_next_16 ?_
      refine lv_iconst (v := 0) hx hb d_Model_next_19 (by decide) ?_
      refine cd_iald (D := G) hx hb hK hP 2 4 rfl rfl (n0 := 0) (by omega) (by omega) d_Model_next_20 ?_
      refine cd_top (y := nI (B 0)) ((hkb 0 (by omega)).2) ?_
      have hB0 := (hkb 0 (by omega)).1
      refine lv_sipush (v := 239) hx hb d_Model_next_21 (by decide) ?_
      refine cd_icmp_ne (tgt := 56) hx hb d_Model_next_24 (by decide) (nI_toInt (n := B 0) (by omega)) (show (239 : Int32).toInt = 239 by decide) (fun c24 => ?_) (fun c24 => ?_)
      · have e : q = p := by rw [← hq]; exact cd_q_no (by omega)
        rw [e] at J56
        exact J56 H locs hP hD hS
      · refine lv_aload_n hx hb d_Model_next_27 rfl (lv_at hl 0 rfl) ?_
        refine va_get (D := G) (ci := 3) (v := .ref mk) (C := R_Model) (T := F_Model) (N := 9) hx hb hts i_Model hown hK hP 0 rfl rfl 2 (by decide) (hts _ k_192) (fun _ h9 => h9) rfl d_Model_next_28 ?_
        refine lv_iconst (v := 1) hx hb d_Model_next_31 (by decide) ?_
        refine cd_iald (D := G) hx hb hK hP 2 4 rfl rfl (n0 := 1) (by omega) (by omega) d_Model_next_32 ?_
        refine cd_top (y := nI (B 1)) ((hkb 1 (by omega)).2) ?_
        have hB1 := (hkb 1 (by omega)).1
        refine lv_sipush (v := 187) hx hb d_Model_next_33 (by decide) ?_
        refine cd_icmp_ne (tgt := 56) hx hb d_Model_next_36 (by decide) (nI_toInt (n := B 1) (by omega)) (show (187 : Int32).toInt = 187 by decide) (fun c36 => ?_) (fun c36 => ?_)
        · have e : q = p := by rw [← hq]; exact cd_q_no (by omega)
          rw [e] at J56
          exact J56 H locs hP hD hS
        · refine lv_aload_n hx hb d_Model_next_39 rfl (lv_at hl 0 rfl) ?_
          refine va_get (D := G) (ci := 3) (v := .ref mk) (C := R_Model) (T := F_Model) (N := 9) hx hb hts i_Model hown hK hP 0 rfl rfl 2 (by decide) (hts _ k_192) (fun _ h9 => h9) rfl d_Model_next_40 ?_
          refine lv_iconst (v := 2) hx hb d_Model_next_43 (by decide) ?_
          refine cd_iald (D := G) hx hb hK hP 2 4 rfl rfl (n0 := 2) (by omega) (by omega) d_Model_next_44 ?_
          refine cd_top (y := nI (B 2)) ((hkb 2 (by omega)).2) ?_
          have hB2 := (hkb 2 (by omega)).1
          refine lv_sipush (v := 191) hx hb d_Model_next_45 (by decide) ?_
          refine cd_icmp_ne (tgt := 56) hx hb d_Model_next_48 (by decide) (nI_toInt (n := B 2) (by omega)) (show (191 : Int32).toInt = 191 by decide) (fun c48 => ?_) (fun c48 => ?_)
          · have e : q = p := by rw [← hq]; exact cd_q_no (by omega)
            rw [e] at J56
            exact J56 H locs hP hD hS
          · refine lv_aload_n hx hb d_Model_next_51 rfl (lv_at hl 0 rfl) ?_
            refine lv_iconst (v := 3) hx hb d_Model_next_52 (by decide) ?_
            refine va_put (D := G) (ci := 3) (v := .int 3) (ty := .int) (C := R_Model) (T := F_Model) (N := 9) hx hb hts i_Model t_Model t_Model_ok n_Model hown hK hP hD hS 0 rfl rfl 6 (by decide) (hts _ k_196) (fun _ h9 => h9) rfl (by decide +kernel) rfl rfl (Nat.le_of_ble_eq_true rfl) d_Model_next_53 (fun H locs hP hD hS => ?_)
            have hP : va_P G classes [(mo, .inr (3, [.ref mt, .int z, .ref mk, .int (nI N), .int (cd_b rd), .int pl, .int 3, .int me, .int be])), (mt, .inl (ks 3, 1000, .inl ft)), (mk, .inl (ks 4, 1000, .inl fk))] H := hP
            have hD : va_D A [(mo, .inr (3, [.ref mt, .int z, .ref mk, .int (nI N), .int (cd_b rd), .int pl, .int 3, .int me, .int be])), (mt, .inl (ks 3, 1000, .inl ft)), (mk, .inl (ks 4, 1000, .inl fk))] := hD
            have e : q = 3 := by rw [← hq]; exact cd_q_yes (by omega)
            subst e
            exact J56 H locs hP hD hS
end
section
theorem cd_ix (x : Int32) : x.toInt < 0 ∨ ∃ X : Nat, X < 2 ^ 31 ∧ x = nI X := by
  by_cases h : x < 0
  · left
    rw [Int32.lt_iff_toInt_lt, Int32.toInt_zero] at h
    exact h
  · right
    exact nI_of h
/-- what go(x) answers, and where it leaves the twin -/
def cd_goP (B : Nat → Nat) (N M : Nat) (rd : Bool) (x r : Int32) (u : Int32 × Int32 × Int32) : Prop :=
  (∃ k, k < M ∧ rd = true ∧ x = nI k ∧ r = 1 ∧ u = (nI (cd_P B N (k + 1)), nI (cd_chr B N (cd_P B N k)), nI (cd_P B N k))) ∨ (r = 0 ∧ (rd = false ∨ x.toInt < 0 ∨ (M : Int) ≤ x.toInt))
def cd_sel (rd : Bool) (M : Nat) (x : Int32) (f : Nat → Int32) (d : Int32) : Int32 := if rd = true ∧ 0 ≤ x.toInt ∧ x.toInt < (M : Int) then f x.toInt.toNat else d
theorem cd_sel_in {M k : Nat} (f : Nat → Int32) (d : Int32) (hk : k < M) (hM : M ≤ 2000) : cd_sel true M (nI k) f d = f k := by
  unfold cd_sel
  rw [nI_toInt (by omega), if_pos ⟨rfl, by omega, by omega⟩]
  rfl
theorem cd_sel_out {rd : Bool} {M : Nat} {x : Int32} (f : Nat → Int32) (d : Int32) (h : rd = false ∨ x.toInt < 0 ∨ (M : Int) ≤ x.toInt) : cd_sel rd M x f d = d := by
  unfold cd_sel
  rw [if_neg]
  rintro ⟨h1, h2, h3⟩
  rcases h with h | h | h
  · rw [h1] at h; cases h
  · omega
  · omega
theorem cd_rdy_M {B : Nat → Nat} {N M : Nat} {fk : Nat → Int32} (h : cd_rdy B N M fk) : M ≤ 1000 := Nat.le_trans (cd_isM_le h.2.2) h.1.1
theorem cd_rdy_P {B : Nat → Nat} {N M k : Nat} {fk : Nat → Int32} (h : cd_rdy B N M fk) (hk : k ≤ M) : cd_P B N k ≤ 1000 := Nat.le_trans (cd_P_le h.2.1 h.2.2 hk) h.1.1
theorem cd_rdy_sq {B : Nat → Nat} {N M k p : Nat} {fk : Nat → Int32} (h : cd_rdy B N M fk) (hp : cd_q B N p = cd_P B N k) : cd_q B N p < N → ∃ c n, cd_seq B N (cd_q B N p) = some (c, n) := by
  intro hl
  rw [hp] at hl ⊢
  obtain ⟨c, n, hs, -, -⟩ := cd_ok_st (cd_ok_P h.2.1 k) hl
  exact ⟨c, n, hs⟩
end
section
set_option maxHeartbeats 4000000 in
set_option maxRecDepth 100000 in
theorem c_Model_go (l : Launch) (G : va_G) (ks : Nat → ClassId) (mo mt mk sz : Nat) (ft fk : Nat → Int32) (z ln : Int32) (rd : Bool) (pl st me be x : Int32) (B : Nat → Nat) (N M : Nat) (h : rd = true → ln = nI N ∧ cd_rdy B N M fk) : cd_MetW (S := Int32 × Int32 × Int32) l G ks y_Model_go b_Model_go 4 (some .boolean) 3 [.ref mo, .int x] (cd_M ks mo mt mk ft fk z ln rd pl st me be) sz (fun r u => cd_goP B N M rd x r u) (fun u => cd_M ks mo mt mk ft fk z ln rd pl u.1 u.2.1 u.2.2) := by
  refine cd_metW (by decide) (Nat.le_of_ble_eq_true rfl) ?_
  intro pg e s m args below meth c R Q ls A H locs hQ hr hlk F E hP hD hA hS hl
  have hx := F.1
  have hb := F.2.1
  have hown := F.2.2.2.1
  have hts := F.2.2.2.2.1
  have hK := E.1
  have hl : lv_has ls 4 [(0, .ref mo), (1, .int x)] := hl
  have hP : va_P G classes [(mo, .inr (3, [.ref mt, .int z, .ref mk, .int ln, .int (cd_b rd), .int pl, .int st, .int me, .int be])), (mt, .inl (ks 3, 1000, .inl ft)), (mk, .inl (ks 4, 1000, .inl fk))] H := hP
  have hD : va_D A [(mo, .inr (3, [.ref mt, .int z, .ref mk, .int ln, .int (cd_b rd), .int pl, .int st, .int me, .int be])), (mt, .inl (ks 3, 1000, .inl ft)), (mk, .inl (ks 4, 1000, .inl fk))] := hD
  cases rd with
  | false =>
    have hP : va_P G classes [(mo, .inr (3, [.ref mt, .int z, .ref mk, .int ln, .int (cd_b false), .int pl, .int st, .int me, .int be])), (mt, .inl (ks 3, 1000, .inl ft)), (mk, .inl (ks 4, 1000, .inl fk))] H := hP
    have hD : va_D A [(mo, .inr (3, [.ref mt, .int z, .ref mk, .int ln, .int (cd_b false), .int pl, .int st, .int me, .int be])), (mt, .inl (ks 3, 1000, .inl ft)), (mk, .inl (ks 4, 1000, .inl fk))] := hD
    have hl : lv_has ls 4 [(0, .ref mo), (1, .int x)] := hl
    refine lv_aload_n hx hb d_Model_go_0 rfl (lv_at hl 0 rfl) ?_
    refine lv_iconst (v := 0) hx hb d_Model_go_1 (by decide) ?_
    refine va_put (D := G) (ci := 3) (v := .int 0) (ty := .int) (C := R_Model) (T := F_Model) (N := 9) hx hb hts i_Model t_Model t_Model_ok n_Model hown hK hP hD hS 0 rfl rfl 6 (by decide) (hts _ k_196) (fun _ h9 => h9) rfl (by decide +kernel) rfl rfl (Nat.le_of_ble_eq_true rfl) d_Model_go_2 (fun H locs hP hD hS => ?_)
    have hP : va_P G classes [(mo, .inr (3, [.ref mt, .int z, .ref mk, .int ln, .int (cd_b false), .int pl, .int 0, .int me, .int be])), (mt, .inl (ks 3, 1000, .inl ft)), (mk, .inl (ks 4, 1000, .inl fk))] H := hP
    have hD : va_D A [(mo, .inr (3, [.ref mt, .int z, .ref mk, .int ln, .int (cd_b false), .int pl, .int 0, .int me, .int be])), (mt, .inl (ks 3, 1000, .inl ft)), (mk, .inl (ks 4, 1000, .inl fk))] := hD
    refine lv_aload_n hx hb d_Model_go_5 rfl (lv_at hl 0 rfl) ?_
    refine va_get (D := G) (ci := 3) (v := .int (cd_b false)) (C := R_Model) (T := F_Model) (N := 9) hx hb hts i_Model hown hK hP 0 rfl rfl 4 (by decide) (hts _ k_194) (fun _ h9 => h9) rfl d_Model_go_6 ?_
    refine cd_if_eq_b (tgt := 20) hx hb d_Model_go_9 (by decide) (fun c9 => ?_) (fun c9 => ?_)
    · refine lv_iconst (v := 0) hx hb d_Model_go_20 (by decide) ?_
      refine lv_istore_n (lv' := [(2, .int 0), (0, .ref mo), (1, .int x)]) hx hb d_Model_go_21 rfl hl (by decide) rfl (fun ls hl => ?_)
      refine lv_iconst (v := 0) hx hb d_Model_go_22 (by decide) ?_
      refine lv_istore_n (lv' := [(3, .int 0), (2, .int 0), (0, .ref mo), (1, .int x)]) hx hb d_Model_go_23 rfl hl (by decide) rfl (fun ls hl => ?_)
      refine lv_iload_n hx hb d_Model_go_24 rfl (lv_at hl 0 rfl) ?_
      refine lv_iload_n hx hb d_Model_go_25 rfl (lv_at hl 3 rfl) ?_
      refine cd_icmp_gt (tgt := 44) hx hb d_Model_go_26 (by decide) (show (0 : Int32).toInt = 0 by decide) rfl (fun c26 => ?_) (fun c26 => ?_)
      · refine lv_iload_n hx hb d_Model_go_44 rfl (lv_at hl 1 rfl) ?_
        exact cd_retWz hQ hx hb hr hlk d_Model_go_45 rfl hS ((0, me, be)) (Or.inr ⟨rfl, Or.inl rfl⟩) hP hD
      · refine lv_iload_n hx hb d_Model_go_29 rfl (lv_at hl 1 rfl) ?_
        refine cd_if_eq (tgt := 44) hx hb d_Model_go_30 (by decide) (show (0 : Int32).toInt = 0 by decide) (fun c30 => ?_) (fun c30 => ?_)
        · refine lv_iload_n hx hb d_Model_go_44 rfl (lv_at hl 1 rfl) ?_
          exact cd_retWz hQ hx hb hr hlk d_Model_go_45 rfl hS ((0, me, be)) (Or.inr ⟨rfl, Or.inl rfl⟩) hP hD
        · exact absurd c30 (by decide)
    · cases c9
  | true =>
    obtain ⟨rfl, hrd⟩ := h rfl
    have hM1 := cd_rdy_M hrd
    rcases cd_ix x with hx0 | ⟨X, hX, rfl⟩
    · skip
      have hP : va_P G classes [(mo, .inr (3, [.ref mt, .int z, .ref mk, .int (nI N), .int (cd_b true), .int pl, .int st, .int me, .int be])), (mt, .inl (ks 3, 1000, .inl ft)), (mk, .inl (ks 4, 1000, .inl fk))] H := hP
      have hD : va_D A [(mo, .inr (3, [.ref mt, .int z, .ref mk, .int (nI N), .int (cd_b true), .int pl, .int st, .int me, .int be])), (mt, .inl (ks 3, 1000, .inl ft)), (mk, .inl (ks 4, 1000, .inl fk))] := hD
      have hl : lv_has ls 4 [(0, .ref mo), (1, .int x)] := hl
      refine lv_aload_n hx hb d_Model_go_0 rfl (lv_at hl 0 rfl) ?_
      refine lv_iconst (v := 0) hx hb d_Model_go_1 (by decide) ?_
      refine va_put (D := G) (ci := 3) (v := .int 0) (ty := .int) (C := R_Model) (T := F_Model) (N := 9) hx hb hts i_Model t_Model t_Model_ok n_Model hown hK hP hD hS 0 rfl rfl 6 (by decide) (hts _ k_196) (fun _ h9 => h9) rfl (by decide +kernel) rfl rfl (Nat.le_of_ble_eq_true rfl) d_Model_go_2 (fun H locs hP hD hS => ?_)
      have hP : va_P G classes [(mo, .inr (3, [.ref mt, .int z, .ref mk, .int (nI N), .int (cd_b true), .int pl, .int 0, .int me, .int be])), (mt, .inl (ks 3, 1000, .inl ft)), (mk, .inl (ks 4, 1000, .inl fk))] H := hP
      have hD : va_D A [(mo, .inr (3, [.ref mt, .int z, .ref mk, .int (nI N), .int (cd_b true), .int pl, .int 0, .int me, .int be])), (mt, .inl (ks 3, 1000, .inl ft)), (mk, .inl (ks 4, 1000, .inl fk))] := hD
      refine lv_aload_n hx hb d_Model_go_5 rfl (lv_at hl 0 rfl) ?_
      refine va_get (D := G) (ci := 3) (v := .int (cd_b true)) (C := R_Model) (T := F_Model) (N := 9) hx hb hts i_Model hown hK hP 0 rfl rfl 4 (by decide) (hts _ k_194) (fun _ h9 => h9) rfl d_Model_go_6 ?_
      refine cd_if_eq_b (tgt := 20) hx hb d_Model_go_9 (by decide) (fun c9 => ?_) (fun c9 => ?_)
      · cases c9
      · refine lv_iload_n hx hb d_Model_go_12 rfl (lv_at hl 1 rfl) ?_
        refine cd_if_lt (tgt := 20) hx hb d_Model_go_13 (by decide) rfl (fun c13 => ?_) (fun c13 => ?_)
        · refine lv_iconst (v := 0) hx hb d_Model_go_20 (by decide) ?_
          refine lv_istore_n (lv' := [(2, .int 0), (0, .ref mo), (1, .int x)]) hx hb d_Model_go_21 rfl hl (by decide) rfl (fun ls hl => ?_)
          refine lv_iconst (v := 0) hx hb d_Model_go_22 (by decide) ?_
          refine lv_istore_n (lv' := [(3, .int 0), (2, .int 0), (0, .ref mo), (1, .int x)]) hx hb d_Model_go_23 rfl hl (by decide) rfl (fun ls hl => ?_)
          refine lv_iload_n hx hb d_Model_go_24 rfl (lv_at hl 0 rfl) ?_
          refine lv_iload_n hx hb d_Model_go_25 rfl (lv_at hl 3 rfl) ?_
          refine cd_icmp_gt (tgt := 44) hx hb d_Model_go_26 (by decide) (show (0 : Int32).toInt = 0 by decide) rfl (fun c26 => ?_) (fun c26 => ?_)
          · refine lv_iload_n hx hb d_Model_go_44 rfl (lv_at hl 1 rfl) ?_
            exact cd_retWz hQ hx hb hr hlk d_Model_go_45 rfl hS ((0, me, be)) (Or.inr ⟨rfl, Or.inr (Or.inl hx0)⟩) hP hD
          · exact absurd c26 (by omega)
        · exact absurd hx0 (by omega)
    · skip
      have hP : va_P G classes [(mo, .inr (3, [.ref mt, .int z, .ref mk, .int (nI N), .int (cd_b true), .int pl, .int st, .int me, .int be])), (mt, .inl (ks 3, 1000, .inl ft)), (mk, .inl (ks 4, 1000, .inl fk))] H := hP
      have hD : va_D A [(mo, .inr (3, [.ref mt, .int z, .ref mk, .int (nI N), .int (cd_b true), .int pl, .int st, .int me, .int be])), (mt, .inl (ks 3, 1000, .inl ft)), (mk, .inl (ks 4, 1000, .inl fk))] := hD
      have hl : lv_has ls 4 [(0, .ref mo), (1, .int (nI X))] := hl
      have loop : ∀ (d k sv : Nat) (m0 b0 : Int32) (H : Heap) (locs : List Loc) (ls : Array Slot), X + 1 = k + d → k ≤ M → cd_q B N sv = cd_P B N k → sv ≤ 1000 → (∀ j, k = j + 1 → sv = cd_P B N k ∧ m0 = nI (cd_chr B N (cd_P B N j)) ∧ b0 = nI (cd_P B N j)) → va_P G classes [(mo, .inr (3, [.ref mt, .int z, .ref mk, .int (nI N), .int (cd_b true), .int pl, .int (nI sv), .int m0, .int b0])), (mt, .inl (ks 3, 1000, .inl ft)), (mk, .inl (ks 4, 1000, .inl fk))] H → va_D A [(mo, .inr (3, [.ref mt, .int z, .ref mk, .int (nI N), .int (cd_b true), .int pl, .int (nI sv), .int m0, .int b0])), (mt, .inl (ks 3, 1000, .inl ft)), (mk, .inl (ks 4, 1000, .inl fk))] → va_S A s.heap H locs → lv_has ls 4 [(0, .ref mo), (1, .int (nI X)), (2, .int 1), (3, .int (nI k))] → W pg l e R s m args below meth c H locs 0 0 Q (F0 m 24 ls []) := by
        intro d
        induction d with
        | zero =>
          intro k sv m0 b0 H locs ls hd hkM hq hsv hj hP hD hS hl
          refine lv_iload_n hx hb d_Model_go_24 rfl (lv_at hl 3 rfl) ?_
          refine lv_iload_n hx hb d_Model_go_25 rfl (lv_at hl 1 rfl) ?_
          refine cd_icmp_gt (tgt := 44) hx hb d_Model_go_26 (by decide) (nI_toInt (n := k) (by omega)) (nI_toInt (n := X) (by omega)) (fun c26 => ?_) (fun c26 => ?_)
          · refine lv_iload_n hx hb d_Model_go_44 rfl (lv_at hl 2 rfl) ?_
            exact cd_retWz hQ hx hb hr hlk d_Model_go_45 rfl hS ((nI sv, m0, b0)) (by obtain rfl : k = X + 1 := (by omega); obtain ⟨e1, e2, e3⟩ := hj X rfl; exact Or.inl ⟨X, by omega, rfl, rfl, rfl, by rw [e1, e2, e3]⟩) hP hD
          · exact absurd c26 (by omega)
        | succ d ih =>
          intro k sv m0 b0 H locs ls hd hkM hq hsv hj hP hD hS hl
          refine lv_iload_n hx hb d_Model_go_24 rfl (lv_at hl 3 rfl) ?_
          refine lv_iload_n hx hb d_Model_go_25 rfl (lv_at hl 1 rfl) ?_
          refine cd_icmp_gt (tgt := 44) hx hb d_Model_go_26 (by decide) (nI_toInt (n := k) (by omega)) (nI_toInt (n := X) (by omega)) (fun c26 => ?_) (fun c26 => ?_)
          · exact absurd c26 (by omega)
          · refine lv_iload_n hx hb d_Model_go_29 rfl (lv_at hl 2 rfl) ?_
            refine cd_if_eq (tgt := 44) hx hb d_Model_go_30 (by decide) (show (1 : Int32).toInt = 1 by decide) (fun c30 => ?_) (fun c30 => ?_)
            · exact absurd c30 (by decide)
            · refine lv_aload_n hx hb d_Model_go_33 rfl (lv_at hl 0 rfl) ?_
              refine cd_callW (rest := []) (wc := [(mo, .inr (3, [.ref mt, .int z, .ref mk, .int (nI N), .int (cd_b true), .int pl, .int (nI sv), .int m0, .int b0])), (mt, .inl (ks 3, 1000, .inl ft)), (mk, .inl (ks 4, 1000, .inl fk))]) (wr := []) F E hP hD hS hA [0, 1, 2] [] rfl rfl rfl (by decide) (by decide) (by decide) (c_Model_next l G ks mo mt mk H.size ft fk z true pl m0 b0 B N sv hrd.1 hsv (cd_rdy_sq hrd hq)) (by decide) (by decide) 0 3 rfl rfl k_254 k_256 k_s4 k_4 k_257 (show cd_desc y_Model_next 0 by decide +kernel) ⟨Nat.zero_le _, Nat.zero_le _⟩ rfl hl.1 (Nat.le_of_ble_eq_true rfl) d_Model_go_34 (fun r u H locs hw hP hD hS => ?_)
              rw [hq] at hw
              have hP : va_P G classes [(mo, .inr (3, [.ref mt, .int z, .ref mk, .int (nI N), .int (cd_b true), .int pl, .int u.1, .int u.2.1, .int u.2.2])), (mt, .inl (ks 3, 1000, .inl ft)), (mk, .inl (ks 4, 1000, .inl fk))] H := hP
              have hD : va_D A [(mo, .inr (3, [.ref mt, .int z, .ref mk, .int (nI N), .int (cd_b true), .int pl, .int u.1, .int u.2.1, .int u.2.2])), (mt, .inl (ks 3, 1000, .inl ft)), (mk, .inl (ks 4, 1000, .inl fk))] := hD
              rcases hw with ⟨hlt, rfl, rfl⟩ | ⟨hge, rfl, rfl⟩
              · have hP : va_P G classes [(mo, .inr (3, [.ref mt, .int z, .ref mk, .int (nI N), .int (cd_b true), .int pl, .int (nI (cd_P B N (k + 1))), .int (nI (cd_chr B N (cd_P B N k))), .int (nI (cd_P B N k))])), (mt, .inl (ks 3, 1000, .inl ft)), (mk, .inl (ks 4, 1000, .inl fk))] H := hP
                have hD : va_D A [(mo, .inr (3, [.ref mt, .int z, .ref mk, .int (nI N), .int (cd_b true), .int pl, .int (nI (cd_P B N (k + 1))), .int (nI (cd_chr B N (cd_P B N k))), .int (nI (cd_P B N k))])), (mt, .inl (ks 3, 1000, .inl ft)), (mk, .inl (ks 4, 1000, .inl fk))] := hD
                refine lv_istore_n (lv' := [(2, .int 1), (0, .ref mo), (1, .int (nI X)), (3, .int (nI k))]) hx hb d_Model_go_37 rfl hl (by decide) rfl (fun ls hl => ?_)
                refine lv_iinc (v := nI (k + 1)) (lv' := [(3, .int (nI (k + 1))), (2, .int 1), (0, .ref mo), (1, .int (nI X))]) hx hb d_Model_go_38 hl (k := 3) rfl (nI_add k 1) (by decide) rfl (fun ls hl => ?_)
                refine lv_goto (tgt := 24) hx hb d_Model_go_41 (by decide) ?_
                exact ih (k + 1) (cd_P B N (k + 1)) _ _ H locs ls (by omega) ((cd_isM_lt hrd.2.2).mpr hlt) (cd_q_P B N k) (cd_rdy_P hrd ((cd_isM_lt hrd.2.2).mpr hlt)) (fun j hj => by obtain rfl : j = k := (by omega); exact ⟨rfl, rfl, rfl⟩) hP hD hS (lv_sub hl [2, 3, 1, 0] rfl)
              · have hP : va_P G classes [(mo, .inr (3, [.ref mt, .int z, .ref mk, .int (nI N), .int (cd_b true), .int pl, .int (nI (cd_P B N k)), .int m0, .int b0])), (mt, .inl (ks 3, 1000, .inl ft)), (mk, .inl (ks 4, 1000, .inl fk))] H := hP
                have hD : va_D A [(mo, .inr (3, [.ref mt, .int z, .ref mk, .int (nI N), .int (cd_b true), .int pl, .int (nI (cd_P B N k)), .int m0, .int b0])), (mt, .inl (ks 3, 1000, .inl ft)), (mk, .inl (ks 4, 1000, .inl fk))] := hD
                have hMk : ¬ k < M := fun q => by have := (cd_isM_lt hrd.2.2).mp q; omega
                refine lv_istore_n (lv' := [(2, .int 0), (0, .ref mo), (1, .int (nI X)), (3, .int (nI k))]) hx hb d_Model_go_37 rfl hl (by decide) rfl (fun ls hl => ?_)
                refine lv_iinc (v := nI (k + 1)) (lv' := [(3, .int (nI (k + 1))), (2, .int 0), (0, .ref mo), (1, .int (nI X))]) hx hb d_Model_go_38 hl (k := 3) rfl (nI_add k 1) (by decide) rfl (fun ls hl => ?_)
                refine lv_goto (tgt := 24) hx hb d_Model_go_41 (by decide) ?_
                refine lv_iload_n hx hb d_Model_go_24 rfl (lv_at hl 0 rfl) ?_
                refine lv_iload_n hx hb d_Model_go_25 rfl (lv_at hl 3 rfl) ?_
                refine cd_icmp_gt (tgt := 44) hx hb d_Model_go_26 (by decide) (nI_toInt (n := k + 1) (by omega)) (nI_toInt (n := X) (by omega)) (fun c26 => ?_) (fun c26 => ?_)
                · refine lv_iload_n hx hb d_Model_go_44 rfl (lv_at hl 1 rfl) ?_
                  exact cd_retWz hQ hx hb hr hlk d_Model_go_45 rfl hS ((nI (cd_P B N k), m0, b0)) (Or.inr ⟨rfl, Or.inr (Or.inr (by rw [nI_toInt (by omega)]; omega))⟩) hP hD
                · refine lv_iload_n hx hb d_Model_go_29 rfl (lv_at hl 1 rfl) ?_
                  refine cd_if_eq (tgt := 44) hx hb d_Model_go_30 (by decide) (show (0 : Int32).toInt = 0 by decide) (fun c30 => ?_) (fun c30 => ?_)
                  · refine lv_iload_n hx hb d_Model_go_44 rfl (lv_at hl 1 rfl) ?_
                    exact cd_retWz hQ hx hb hr hlk d_Model_go_45 rfl hS ((nI (cd_P B N k), m0, b0)) (Or.inr ⟨rfl, Or.inr (Or.inr (by rw [nI_toInt (by omega)]; omega))⟩) hP hD
                  · exact absurd c30 (by decide)
      refine lv_aload_n hx hb d_Model_go_0 rfl (lv_at hl 0 rfl) ?_
      refine lv_iconst (v := 0) hx hb d_Model_go_1 (by decide) ?_
      refine va_put (D := G) (ci := 3) (v := .int 0) (ty := .int) (C := R_Model) (T := F_Model) (N := 9) hx hb hts i_Model t_Model t_Model_ok n_Model hown hK hP hD hS 0 rfl rfl 6 (by decide) (hts _ k_196) (fun _ h9 => h9) rfl (by decide +kernel) rfl rfl (Nat.le_of_ble_eq_true rfl) d_Model_go_2 (fun H locs hP hD hS => ?_)
      have hP : va_P G classes [(mo, .inr (3, [.ref mt, .int z, .ref mk, .int (nI N), .int (cd_b true), .int pl, .int 0, .int me, .int be])), (mt, .inl (ks 3, 1000, .inl ft)), (mk, .inl (ks 4, 1000, .inl fk))] H := hP
      have hD : va_D A [(mo, .inr (3, [.ref mt, .int z, .ref mk, .int (nI N), .int (cd_b true), .int pl, .int 0, .int me, .int be])), (mt, .inl (ks 3, 1000, .inl ft)), (mk, .inl (ks 4, 1000, .inl fk))] := hD
      refine lv_aload_n hx hb d_Model_go_5 rfl (lv_at hl 0 rfl) ?_
      refine va_get (D := G) (ci := 3) (v := .int (cd_b true)) (C := R_Model) (T := F_Model) (N := 9) hx hb hts i_Model hown hK hP 0 rfl rfl 4 (by decide) (hts _ k_194) (fun _ h9 => h9) rfl d_Model_go_6 ?_
      refine cd_if_eq_b (tgt := 20) hx hb d_Model_go_9 (by decide) (fun c9 => ?_) (fun c9 => ?_)
      · cases c9
      · refine lv_iload_n hx hb d_Model_go_12 rfl (lv_at hl 1 rfl) ?_
        refine cd_if_lt (tgt := 20) hx hb d_Model_go_13 (by decide) (nI_toInt (n := X) (by omega)) (fun c13 => ?_) (fun c13 => ?_)
        · exact absurd c13 (by omega)
        · refine lv_iconst (v := 1) hx hb d_Model_go_16 (by decide) ?_
          refine lv_goto (tgt := 21) hx hb d_Model_go_17 (by decide) ?_
          refine lv_istore_n (lv' := [(2, .int 1), (0, .ref mo), (1, .int (nI X))]) hx hb d_Model_go_21 rfl hl (by decide) rfl (fun ls hl => ?_)
          refine lv_iconst (v := 0) hx hb d_Model_go_22 (by decide) ?_
          refine lv_istore_n (lv' := [(3, .int 0), (2, .int 1), (0, .ref mo), (1, .int (nI X))]) hx hb d_Model_go_23 rfl hl (by decide) rfl (fun ls hl => ?_)
          exact loop (X + 1) 0 0 me be H locs ls (by omega) (Nat.zero_le _) (cd_q_0 B N) (by omega) (fun j hj => by omega) hP hD hS (lv_sub hl [2, 3, 1, 0] rfl)

set_option maxHeartbeats 4000000 in
set_option maxRecDepth 100000 in
theorem c_Model_at (l : Launch) (G : va_G) (ks : Nat → ClassId) (mo mt mk sz : Nat) (ft fk : Nat → Int32) (z ln : Int32) (rd : Bool) (pl st me be x : Int32) (B : Nat → Nat) (N M : Nat) (h : rd = true → ln = nI N ∧ cd_rdy B N M fk) : cd_MetW (S := Int32 × Int32 × Int32) l G ks y_Model_at b_Model_at 2 (some .int) 4 [.ref mo, .int x] (cd_M ks mo mt mk ft fk z ln rd pl st me be) sz (fun r _ => r = cd_sel rd M x (fun k => nI (cd_chr B N (cd_P B N k))) (-1)) (fun u => cd_M ks mo mt mk ft fk z ln rd pl u.1 u.2.1 u.2.2) := by
  refine cd_metW (by decide) (Nat.le_of_ble_eq_true rfl) ?_
  intro pg e s m args below meth c R Q ls A H locs hQ hr hlk F E hP hD hA hS hl
  have hx := F.1
  have hb := F.2.1
  have hown := F.2.2.2.1
  have hts := F.2.2.2.2.1
  have hK := E.1
  have hl : lv_has ls 2 [(0, .ref mo), (1, .int x)] := hl
  have hP : va_P G classes [(mo, .inr (3, [.ref mt, .int z, .ref mk, .int ln, .int (cd_b rd), .int pl, .int st, .int me, .int be])), (mt, .inl (ks 3, 1000, .inl ft)), (mk, .inl (ks 4, 1000, .inl fk))] H := hP
  have hD : va_D A [(mo, .inr (3, [.ref mt, .int z, .ref mk, .int ln, .int (cd_b rd), .int pl, .int st, .int me, .int be])), (mt, .inl (ks 3, 1000, .inl ft)), (mk, .inl (ks 4, 1000, .inl fk))] := hD
  refine lv_aload_n hx hb d_Model_at_0 rfl (lv_at hl 0 rfl) ?_
  refine lv_iload_n hx hb d_Model_at_1 rfl (lv_at hl 1 rfl) ?_
  refine cd_callW (rest := []) (wc := [(mo, .inr (3, [.ref mt, .int z, .ref mk, .int ln, .int (cd_b rd), .int pl, .int st, .int me, .int be])), (mt, .inl (ks 3, 1000, .inl ft)), (mk, .inl (ks 4, 1000, .inl fk))]) (wr := []) F E hP hD hS hA [0, 1, 2] [] rfl rfl rfl (by decide) (by decide) (by decide) (c_Model_go l G ks mo mt mk H.size ft fk z ln rd pl st me be x B N M h) (by decide) (by decide) 0 3 rfl rfl k_266 k_268 k_s5 k_4 k_269 (show cd_desc y_Model_go 1 by decide +kernel) ⟨Nat.zero_le _, Nat.zero_le _⟩ rfl hl.1 (Nat.le_of_ble_eq_true rfl) d_Model_at_2 (fun r u H locs hw hP hD hS => ?_)
  have hP : va_P G classes [(mo, .inr (3, [.ref mt, .int z, .ref mk, .int ln, .int (cd_b rd), .int pl, .int u.1, .int u.2.1, .int u.2.2])), (mt, .inl (ks 3, 1000, .inl ft)), (mk, .inl (ks 4, 1000, .inl fk))] H := hP
  have hD : va_D A [(mo, .inr (3, [.ref mt, .int z, .ref mk, .int ln, .int (cd_b rd), .int pl, .int u.1, .int u.2.1, .int u.2.2])), (mt, .inl (ks 3, 1000, .inl ft)), (mk, .inl (ks 4, 1000, .inl fk))] := hD
  rcases hw with ⟨k, hk, rfl, rfl, rfl, rfl⟩ | ⟨rfl, hout⟩
  · have hM1 := cd_rdy_M (h rfl).2
    have hP : va_P G classes [(mo, .inr (3, [.ref mt, .int z, .ref mk, .int ln, .int (cd_b true), .int pl, .int (nI (cd_P B N (k + 1))), .int (nI (cd_chr B N (cd_P B N k))), .int (nI (cd_P B N k))])), (mt, .inl (ks 3, 1000, .inl ft)), (mk, .inl (ks 4, 1000, .inl fk))] H := hP
    have hD : va_D A [(mo, .inr (3, [.ref mt, .int z, .ref mk, .int ln, .int (cd_b true), .int pl, .int (nI (cd_P B N (k + 1))), .int (nI (cd_chr B N (cd_P B N k))), .int (nI (cd_P B N k))])), (mt, .inl (ks 3, 1000, .inl ft)), (mk, .inl (ks 4, 1000, .inl fk))] := hD
    refine cd_if_eq (tgt := 15) hx hb d_Model_at_5 (by decide) (show (1 : Int32).toInt = 1 by decide) (fun c5 => ?_) (fun c5 => ?_)
    · exact absurd c5 (by decide)
    · refine lv_aload_n hx hb d_Model_at_8 rfl (lv_at hl 0 rfl) ?_
      refine va_get (D := G) (ci := 3) (v := .int (nI (cd_chr B N (cd_P B N k)))) (C := R_Model) (T := F_Model) (N := 9) hx hb hts i_Model hown hK hP 0 rfl rfl 7 (by decide) (hts _ k_197) (fun _ h9 => h9) rfl d_Model_at_9 ?_
      refine lv_goto (tgt := 16) hx hb d_Model_at_12 (by decide) ?_
      exact cd_retWi hQ hx hb hr hlk d_Model_at_16 hS ((nI (cd_P B N (k + 1)), nI (cd_chr B N (cd_P B N k)), nI (cd_P B N k))) ((cd_sel_in (fun k => nI (cd_chr B N (cd_P B N k))) (-1) hk (by omega)).symm) hP hD
  · have hP : va_P G classes [(mo, .inr (3, [.ref mt, .int z, .ref mk, .int ln, .int (cd_b rd), .int pl, .int u.1, .int u.2.1, .int u.2.2])), (mt, .inl (ks 3, 1000, .inl ft)), (mk, .inl (ks 4, 1000, .inl fk))] H := hP
    have hD : va_D A [(mo, .inr (3, [.ref mt, .int z, .ref mk, .int ln, .int (cd_b rd), .int pl, .int u.1, .int u.2.1, .int u.2.2])), (mt, .inl (ks 3, 1000, .inl ft)), (mk, .inl (ks 4, 1000, .inl fk))] := hD
    refine cd_if_eq (tgt := 15) hx hb d_Model_at_5 (by decide) (show (0 : Int32).toInt = 0 by decide) (fun c5 => ?_) (fun c5 => ?_)
    · refine lv_iconst (v := -1) hx hb d_Model_at_15 (by decide) ?_
      exact cd_retWi hQ hx hb hr hlk d_Model_at_16 hS ((u.1, u.2.1, u.2.2)) ((cd_sel_out _ _ hout).symm) hP hD
    · exact absurd c5 (by decide)
end
section
theorem cd_m1 {x : Int32} (h : 0 < x.toInt) : (x - 1).toInt = x.toInt - 1 := by
  rcases cd_ix x with g | ⟨X, hX, rfl⟩
  · omega
  · rw [nI_toInt hX] at h ⊢
    have e : nI X - 1 = nI (X - 1) := pk_sub (a := X) (b := 1) (by omega)
    rw [e, nI_toInt (by omega)]
    omega
theorem cd_subI {M I : Nat} (hM : M < 2 ^ 30) (hI : I < 2 ^ 31) : (nI M - nI I).toInt = (M : Int) - I := by
  rw [Int32.toInt_sub, nI_toInt (by omega), nI_toInt hI]
  apply Int.bmod_eq_of_le <;> omega
theorem cd_chr_lt (B : Nat → Nat) (N p : Nat) : cd_chr B N p < 1114112 := by
  unfold cd_chr
  cases h : cd_seq B N p with
  | none => simp
  | some q =>
    obtain ⟨c, n⟩ := q
    have := cd_seq_ok h
    simp only
    split <;> omega
/-- whether a character fits a kind of name -/
def cd_fit (kd c : Int) (first : Bool) : Bool := if kd = 0 then (if first = true then cd_beg c else cd_part c) else if kd = 1 then cd_part c else cd_blk c
def cd_g (f : Nat → Nat) (M : Nat) (kd : Int) (X j : Nat) : Bool := decide (X + j < M) && cd_fit kd (f (X + j) : Nat) (decide (j = 0))
def cd_isR (g : Nat → Bool) (n : Nat) : Prop := (∀ j, j < n → g j = true) ∧ g n = false
theorem cd_isR_eq {g : Nat → Bool} {n k : Nat} (h : cd_isR g n) (h' : cd_isR g k) : n = k := by
  rcases Nat.lt_trichotomy n k with q | q | q
  · have := h'.1 n q; rw [h.2] at this; cases this
  · exact q
  · have := h.1 k q; rw [h'.2] at this; cases this
def cd_runP (f : Nat → Nat) (M : Nat) (rd : Bool) (kd x r : Int32) : Prop :=
  (∃ X n, rd = true ∧ 0 ≤ kd.toInt ∧ kd.toInt < 3 ∧ x = nI X ∧ X < M ∧ r = nI n ∧ cd_isR (cd_g f M kd.toInt X) n) ∨ (¬ (rd = true ∧ 0 ≤ kd.toInt ∧ kd.toInt < 3 ∧ 0 ≤ x.toInt ∧ x.toInt < (M : Int)) ∧ r = 0)
theorem cd_runP_eq {f f' : Nat → Nat} {M : Nat} {rd : Bool} {kd x r r' : Int32} (hM : rd = true → M ≤ 1000) (hf : ∀ j, j < M → f j = f' j) (h : cd_runP f M rd kd x r) (h' : cd_runP f' M rd kd x r') : r = r' := by
  rcases h with ⟨X, n, h1, h2, h3, h4, h5, h6, h7⟩ | ⟨g, rfl⟩
  · have hM := hM h1
    rcases h' with ⟨X', n', h1', h2', h3', h4', h5', h6', h7'⟩ | ⟨g', rfl⟩
    · have hX : X = X' := (nI_eq (by omega) (by omega)).mp (h4.symm.trans h4')
      subst hX
      have hg : cd_g f M kd.toInt X = cd_g f' M kd.toInt X := by
        funext j
        unfold cd_g
        by_cases hj : X + j < M
        · rw [hf _ hj]
        · rw [decide_eq_false hj, Bool.false_and, Bool.false_and]
      rw [hg] at h7
      rw [h6, h6', cd_isR_eq h7 h7']
    · exact absurd ⟨h1, h2, h3, by rw [h4, nI_toInt (by omega)]; omega, by rw [h4, nI_toInt (by omega)]; omega⟩ g'
  · rcases h' with ⟨X', n', h1', h2', h3', h4', h5', h6', h7'⟩ | ⟨g', rfl⟩
    · have hM := hM h1'
      exact absurd ⟨h1', h2', h3', by rw [h4', nI_toInt (by omega)]; omega, by rw [h4', nI_toInt (by omega)]; omega⟩ g
    · rfl
/-- the answer of compare -/
def cd_cmpQ (f : Nat → Nat) (I J L : Nat) (r : Int32) : Prop :=
  (∃ k, k < L ∧ (∀ t, t < k → f (I + t) = f (J + t)) ∧ f (I + k) ≠ f (J + k) ∧ r = cd_cmp (f (I + k) : Nat) (f (J + k) : Nat)) ∨ ((∀ t, t < L → f (I + t) = f (J + t)) ∧ r = 0)
theorem cd_cmpQ_eq {f f' : Nat → Nat} {M I J L : Nat} {r r' : Int32} (hf : ∀ j, j < M → f j = f' j) (hI : I + L ≤ M) (hJ : J + L ≤ M) (h : cd_cmpQ f I J L r) (h' : cd_cmpQ f' I J L r') : r = r' := by
  have e1 : ∀ t, t < L → f (I + t) = f' (I + t) := fun t ht => hf _ (by omega)
  have e2 : ∀ t, t < L → f (J + t) = f' (J + t) := fun t ht => hf _ (by omega)
  rcases h with ⟨k, a1, a2, a3, rfl⟩ | ⟨a1, rfl⟩
  · rcases h' with ⟨k', b1, b2, b3, rfl⟩ | ⟨b1, rfl⟩
    · rcases Nat.lt_trichotomy k k' with q | q | q
      · have := b2 k q; rw [← e1 k a1, ← e2 k a1] at this; exact absurd this a3
      · subst q; rw [e1 k a1, e2 k a1]
      · have := a2 k' q; rw [e1 k' b1, e2 k' b1] at this; exact absurd this b3
    · have := b1 k a1; rw [← e1 k a1, ← e2 k a1] at this; exact absurd this a3
  · rcases h' with ⟨k', b1, b2, b3, rfl⟩ | ⟨b1, rfl⟩
    · have := a1 k' b1; rw [e1 k' b1, e2 k' b1] at this; exact absurd this b3
    · rfl
def cd_cmpP (f : Nat → Nat) (M : Nat) (rd : Bool) (i j n r : Int32) : Prop :=
  (∃ I J L, rd = true ∧ i = nI I ∧ j = nI J ∧ n = nI L ∧ I + L ≤ M ∧ J + L ≤ M ∧ cd_cmpQ f I J L r) ∨ (¬ (rd = true ∧ 0 ≤ n.toInt ∧ 0 ≤ i.toInt ∧ 0 ≤ j.toInt ∧ n.toInt ≤ (M : Int) - i.toInt ∧ n.toInt ≤ (M : Int) - j.toInt) ∧ r = -2)
theorem cd_cmpP_eq {f f' : Nat → Nat} {M : Nat} {rd : Bool} {i j n r r' : Int32} (hM : rd = true → M ≤ 1000) (hf : ∀ j, j < M → f j = f' j) (h : cd_cmpP f M rd i j n r) (h' : cd_cmpP f' M rd i j n r') : r = r' := by
  rcases h with ⟨I, J, L, h1, rfl, rfl, rfl, h5, h6, h7⟩ | ⟨g, rfl⟩
  · have hM := hM h1
    rcases h' with ⟨I', J', L', h1', h2', h3', h4', h5', h6', h7'⟩ | ⟨g', rfl⟩
    · have a1 := (nI_eq (by omega) (by omega)).mp h2'
      have a2 := (nI_eq (by omega) (by omega)).mp h3'
      have a3 := (nI_eq (by omega) (by omega)).mp h4'
      subst a1; subst a2; subst a3
      exact cd_cmpQ_eq hf h5 h6 h7 h7'
    · exact absurd ⟨h1, by rw [nI_toInt (by omega)]; omega, by rw [nI_toInt (by omega)]; omega, by rw [nI_toInt (by omega)]; omega, by rw [nI_toInt (by omega), nI_toInt (by omega)]; omega, by rw [nI_toInt (by omega), nI_toInt (by omega)]; omega⟩ g'
  · rcases h' with ⟨I', J', L', h1', rfl, rfl, rfl, h5', h6', h7'⟩ | ⟨g', rfl⟩
    · have hM := hM h1'
      exact absurd ⟨h1', by rw [nI_toInt (by omega)]; omega, by rw [nI_toInt (by omega)]; omega, by rw [nI_toInt (by omega)]; omega, by rw [nI_toInt (by omega), nI_toInt (by omega)]; omega, by rw [nI_toInt (by omega), nI_toInt (by omega)]; omega⟩ g
    · rfl
end
section
set_option maxHeartbeats 4000000 in
set_option maxRecDepth 100000 in
theorem c_Model_placeOf (l : Launch) (G : va_G) (ks : Nat → ClassId) (mo mt mk sz : Nat) (ft fk : Nat → Int32) (z ln : Int32) (rd : Bool) (pl st me be x : Int32) (B : Nat → Nat) (N M : Nat) (h : rd = true → ln = nI N ∧ cd_rdy B N M fk) : cd_MetW (S := Int32 × Int32 × Int32) l G ks y_Model_placeOf b_Model_placeOf 2 (some .int) 4 [.ref mo, .int x] (cd_M ks mo mt mk ft fk z ln rd pl st me be) sz (fun r _ => r = cd_sel rd (M + 1) x (fun k => if k < M then nI (cd_P B N k) else nI N) (-1)) (fun u => cd_M ks mo mt mk ft fk z ln rd pl u.1 u.2.1 u.2.2) := by
  refine cd_metW (by decide) (Nat.le_of_ble_eq_true rfl) ?_
  intro pg e s m args below meth c R Q ls A H locs hQ hr hlk F E hP hD hA hS hl
  have hx := F.1
  have hb := F.2.1
  have hown := F.2.2.2.1
  have hts := F.2.2.2.2.1
  have hK := E.1
  have hl : lv_has ls 2 [(0, .ref mo), (1, .int x)] := hl
  have hP : va_P G classes [(mo, .inr (3, [.ref mt, .int z, .ref mk, .int ln, .int (cd_b rd), .int pl, .int st, .int me, .int be])), (mt, .inl (ks 3, 1000, .inl ft)), (mk, .inl (ks 4, 1000, .inl fk))] H := hP
  have hD : va_D A [(mo, .inr (3, [.ref mt, .int z, .ref mk, .int ln, .int (cd_b rd), .int pl, .int st, .int me, .int be])), (mt, .inl (ks 3, 1000, .inl ft)), (mk, .inl (ks 4, 1000, .inl fk))] := hD
  refine lv_aload_n hx hb d_Model_placeOf_0 rfl (lv_at hl 0 rfl) ?_
  refine lv_iload_n hx hb d_Model_placeOf_1 rfl (lv_at hl 1 rfl) ?_
  refine cd_callW (rest := []) (wc := [(mo, .inr (3, [.ref mt, .int z, .ref mk, .int ln, .int (cd_b rd), .int pl, .int st, .int me, .int be])), (mt, .inl (ks 3, 1000, .inl ft)), (mk, .inl (ks 4, 1000, .inl fk))]) (wr := []) F E hP hD hS hA [0, 1, 2] [] rfl rfl rfl (by decide) (by decide) (by decide) (c_Model_go l G ks mo mt mk H.size ft fk z ln rd pl st me be x B N M h) (by decide) (by decide) 0 3 rfl rfl k_266 k_268 k_s5 k_4 k_269 (show cd_desc y_Model_go 1 by decide +kernel) ⟨Nat.zero_le _, Nat.zero_le _⟩ rfl hl.1 (Nat.le_of_ble_eq_true rfl) d_Model_placeOf_2 (fun r u H locs hw hP hD hS => ?_)
  have hP : va_P G classes [(mo, .inr (3, [.ref mt, .int z, .ref mk, .int ln, .int (cd_b rd), .int pl, .int u.1, .int u.2.1, .int u.2.2])), (mt, .inl (ks 3, 1000, .inl ft)), (mk, .inl (ks 4, 1000, .inl fk))] H := hP
  have hD : va_D A [(mo, .inr (3, [.ref mt, .int z, .ref mk, .int ln, .int (cd_b rd), .int pl, .int u.1, .int u.2.1, .int u.2.2])), (mt, .inl (ks 3, 1000, .inl ft)), (mk, .inl (ks 4, 1000, .inl fk))] := hD
  rcases hw with ⟨k, hk, rfl, rfl, rfl, rfl⟩ | ⟨rfl, hout⟩
  · have hM1 := cd_rdy_M (h rfl).2
    have hP : va_P G classes [(mo, .inr (3, [.ref mt, .int z, .ref mk, .int ln, .int (cd_b true), .int pl, .int (nI (cd_P B N (k + 1))), .int (nI (cd_chr B N (cd_P B N k))), .int (nI (cd_P B N k))])), (mt, .inl (ks 3, 1000, .inl ft)), (mk, .inl (ks 4, 1000, .inl fk))] H := hP
    have hD : va_D A [(mo, .inr (3, [.ref mt, .int z, .ref mk, .int ln, .int (cd_b true), .int pl, .int (nI (cd_P B N (k + 1))), .int (nI (cd_chr B N (cd_P B N k))), .int (nI (cd_P B N k))])), (mt, .inl (ks 3, 1000, .inl ft)), (mk, .inl (ks 4, 1000, .inl fk))] := hD
    refine cd_if_eq (tgt := 13) hx hb d_Model_placeOf_5 (by decide) (show (1 : Int32).toInt = 1 by decide) (fun c5 => ?_) (fun c5 => ?_)
    · exact absurd c5 (by decide)
    · refine lv_aload_n hx hb d_Model_placeOf_8 rfl (lv_at hl 0 rfl) ?_
      refine va_get (D := G) (ci := 3) (v := .int (nI (cd_P B N k))) (C := R_Model) (T := F_Model) (N := 9) hx hb hts i_Model hown hK hP 0 rfl rfl 8 (by decide) (hts _ k_198) (fun _ h9 => h9) rfl d_Model_placeOf_9 ?_
      exact cd_retWi hQ hx hb hr hlk d_Model_placeOf_12 hS ((nI (cd_P B N (k + 1)), nI (cd_chr B N (cd_P B N k)), nI (cd_P B N k))) (by rw [cd_sel_in (M := M + 1) (fun k => if k < M then nI (cd_P B N k) else nI N) (-1) (by omega) (by omega), if_pos hk]) hP hD
  · have hP : va_P G classes [(mo, .inr (3, [.ref mt, .int z, .ref mk, .int ln, .int (cd_b rd), .int pl, .int u.1, .int u.2.1, .int u.2.2])), (mt, .inl (ks 3, 1000, .inl ft)), (mk, .inl (ks 4, 1000, .inl fk))] H := hP
    have hD : va_D A [(mo, .inr (3, [.ref mt, .int z, .ref mk, .int ln, .int (cd_b rd), .int pl, .int u.1, .int u.2.1, .int u.2.2])), (mt, .inl (ks 3, 1000, .inl ft)), (mk, .inl (ks 4, 1000, .inl fk))] := hD
    refine cd_if_eq (tgt := 13) hx hb d_Model_placeOf_5 (by decide) (show (0 : Int32).toInt = 0 by decide) (fun c5 => ?_) (fun c5 => ?_)
    · refine lv_aload_n hx hb d_Model_placeOf_13 rfl (lv_at hl 0 rfl) ?_
      refine va_get (D := G) (ci := 3) (v := .int (cd_b rd)) (C := R_Model) (T := F_Model) (N := 9) hx hb hts i_Model hown hK hP 0 rfl rfl 4 (by decide) (hts _ k_194) (fun _ h9 => h9) rfl d_Model_placeOf_14 ?_
      refine cd_if_eq_b (tgt := 53) hx hb d_Model_placeOf_17 (by decide) (fun c17 => ?_) (fun c17 => ?_)
      · refine lv_iconst (v := -1) hx hb d_Model_placeOf_53 (by decide) ?_
        exact cd_retWi hQ hx hb hr hlk d_Model_placeOf_54 hS ((u.1, u.2.1, u.2.2)) ((cd_sel_out _ _ (by first | exact Or.inl c17 | exact Or.inr (Or.inl c35))).symm) hP hD
      · subst c17
        obtain ⟨rfl, hrd⟩ := id (h rfl)
        have hM1 := cd_rdy_M hrd
        have hout : x.toInt < 0 ∨ (M : Int) ≤ x.toInt := hout.resolve_left (fun q => by cases q)
        have hP : va_P G classes [(mo, .inr (3, [.ref mt, .int z, .ref mk, .int (nI N), .int (cd_b true), .int pl, .int u.1, .int u.2.1, .int u.2.2])), (mt, .inl (ks 3, 1000, .inl ft)), (mk, .inl (ks 4, 1000, .inl fk))] H := hP
        have hD : va_D A [(mo, .inr (3, [.ref mt, .int z, .ref mk, .int (nI N), .int (cd_b true), .int pl, .int u.1, .int u.2.1, .int u.2.2])), (mt, .inl (ks 3, 1000, .inl ft)), (mk, .inl (ks 4, 1000, .inl fk))] := hD
        refine lv_iload_n hx hb d_Model_placeOf_20 rfl (lv_at hl 1 rfl) ?_
        refine cd_if_eq (tgt := 34) hx hb d_Model_placeOf_21 (by decide) rfl (fun c21 => ?_) (fun c21 => ?_)
        · refine lv_iload_n hx hb d_Model_placeOf_34 rfl (lv_at hl 1 rfl) ?_
          refine cd_if_lt (tgt := 53) hx hb d_Model_placeOf_35 (by decide) rfl (fun c35 => ?_) (fun c35 => ?_)
          · refine lv_iconst (v := -1) hx hb d_Model_placeOf_53 (by decide) ?_
            exact cd_retWi hQ hx hb hr hlk d_Model_placeOf_54 hS ((u.1, u.2.1, u.2.2)) ((cd_sel_out _ _ (by first | exact Or.inl c17 | exact Or.inr (Or.inl c35))).symm) hP hD
          · refine lv_aload_n hx hb d_Model_placeOf_38 rfl (lv_at hl 0 rfl) ?_
            refine lv_iload_n hx hb d_Model_placeOf_39 rfl (lv_at hl 1 rfl) ?_
            refine cd_callW (rest := []) (wc := [(mo, .inr (3, [.ref mt, .int z, .ref mk, .int (nI N), .int (cd_b true), .int pl, .int u.1, .int u.2.1, .int u.2.2])), (mt, .inl (ks 3, 1000, .inl ft)), (mk, .inl (ks 4, 1000, .inl fk))]) (wr := []) F E hP hD hS hA [0, 1, 2] [] rfl rfl rfl (by decide) (by decide) (by decide) (c_Model_go l G ks mo mt mk H.size ft fk z (nI N) true pl u.1 u.2.1 u.2.2 x B N M h) (by decide) (by decide) 0 3 rfl rfl k_266 k_268 k_s5 k_4 k_269 (show cd_desc y_Model_go 1 by decide +kernel) ⟨Nat.zero_le _, Nat.zero_le _⟩ rfl hl.1 (Nat.le_of_ble_eq_true rfl) d_Model_placeOf_40 (fun r u H locs hw hP hD hS => ?_)
            have hP : va_P G classes [(mo, .inr (3, [.ref mt, .int z, .ref mk, .int (nI N), .int (cd_b true), .int pl, .int u.1, .int u.2.1, .int u.2.2])), (mt, .inl (ks 3, 1000, .inl ft)), (mk, .inl (ks 4, 1000, .inl fk))] H := hP
            have hD : va_D A [(mo, .inr (3, [.ref mt, .int z, .ref mk, .int (nI N), .int (cd_b true), .int pl, .int u.1, .int u.2.1, .int u.2.2])), (mt, .inl (ks 3, 1000, .inl ft)), (mk, .inl (ks 4, 1000, .inl fk))] := hD
            rcases hw with ⟨k3, hk3, -, hx3, rfl, rfl⟩ | ⟨rfl, hout3⟩
            · exact absurd hout (by rw [hx3, nI_toInt (by omega)]; omega)
            · have hP : va_P G classes [(mo, .inr (3, [.ref mt, .int z, .ref mk, .int (nI N), .int (cd_b true), .int pl, .int u.1, .int u.2.1, .int u.2.2])), (mt, .inl (ks 3, 1000, .inl ft)), (mk, .inl (ks 4, 1000, .inl fk))] H := hP
              have hD : va_D A [(mo, .inr (3, [.ref mt, .int z, .ref mk, .int (nI N), .int (cd_b true), .int pl, .int u.1, .int u.2.1, .int u.2.2])), (mt, .inl (ks 3, 1000, .inl ft)), (mk, .inl (ks 4, 1000, .inl fk))] := hD
              refine cd_if_ne (tgt := 53) hx hb d_Model_placeOf_43 (by decide) (show (0 : Int32).toInt = 0 by decide) (fun c43 => ?_) (fun c43 => ?_)
              · exact absurd c43 (by decide)
              · refine lv_aload_n hx hb d_Model_placeOf_46 rfl (lv_at hl 0 rfl) ?_
                refine va_get (D := G) (ci := 3) (v := .int (nI N)) (C := R_Model) (T := F_Model) (N := 9) hx hb hts i_Model hown hK hP 0 rfl rfl 3 (by decide) (hts _ k_193) (fun _ h9 => h9) rfl d_Model_placeOf_47 ?_
                refine lv_goto (tgt := 54) hx hb d_Model_placeOf_50 (by decide) ?_
                exact cd_retWi hQ hx hb hr hlk d_Model_placeOf_54 hS ((u.1, u.2.1, u.2.2)) (by obtain rfl : x = nI M := Int32.toInt_inj.mp (by rw [nI_toInt (by omega)]; omega); rw [cd_sel_in (M := M + 1) (fun k => if k < M then nI (cd_P B N k) else nI N) (-1) (by omega) (by omega), if_neg (by omega)]) hP hD
        · refine lv_aload_n hx hb d_Model_placeOf_24 rfl (lv_at hl 0 rfl) ?_
          refine lv_iload_n hx hb d_Model_placeOf_25 rfl (lv_at hl 1 rfl) ?_
          refine lv_iconst (v := 1) hx hb d_Model_placeOf_26 (by decide) ?_
          refine lv_isub hx hb d_Model_placeOf_27 ?_
          refine cd_callW (rest := []) (wc := [(mo, .inr (3, [.ref mt, .int z, .ref mk, .int (nI N), .int (cd_b true), .int pl, .int u.1, .int u.2.1, .int u.2.2])), (mt, .inl (ks 3, 1000, .inl ft)), (mk, .inl (ks 4, 1000, .inl fk))]) (wr := []) F E hP hD hS hA [0, 1, 2] [] rfl rfl rfl (by decide) (by decide) (by decide) (c_Model_go l G ks mo mt mk H.size ft fk z (nI N) true pl u.1 u.2.1 u.2.2 (x - 1) B N M h) (by decide) (by decide) 0 3 rfl rfl k_266 k_268 k_s5 k_4 k_269 (show cd_desc y_Model_go 1 by decide +kernel) ⟨Nat.zero_le _, Nat.zero_le _⟩ rfl hl.1 (Nat.le_of_ble_eq_true rfl) d_Model_placeOf_28 (fun r u H locs hw hP hD hS => ?_)
          have hP : va_P G classes [(mo, .inr (3, [.ref mt, .int z, .ref mk, .int (nI N), .int (cd_b true), .int pl, .int u.1, .int u.2.1, .int u.2.2])), (mt, .inl (ks 3, 1000, .inl ft)), (mk, .inl (ks 4, 1000, .inl fk))] H := hP
          have hD : va_D A [(mo, .inr (3, [.ref mt, .int z, .ref mk, .int (nI N), .int (cd_b true), .int pl, .int u.1, .int u.2.1, .int u.2.2])), (mt, .inl (ks 3, 1000, .inl ft)), (mk, .inl (ks 4, 1000, .inl fk))] := hD
          rcases hw with ⟨k, hk, -, hxk, rfl, rfl⟩ | ⟨rfl, hout2⟩
          · have hP : va_P G classes [(mo, .inr (3, [.ref mt, .int z, .ref mk, .int (nI N), .int (cd_b true), .int pl, .int (nI (cd_P B N (k + 1))), .int (nI (cd_chr B N (cd_P B N k))), .int (nI (cd_P B N k))])), (mt, .inl (ks 3, 1000, .inl ft)), (mk, .inl (ks 4, 1000, .inl fk))] H := hP
            have hD : va_D A [(mo, .inr (3, [.ref mt, .int z, .ref mk, .int (nI N), .int (cd_b true), .int pl, .int (nI (cd_P B N (k + 1))), .int (nI (cd_chr B N (cd_P B N k))), .int (nI (cd_P B N k))])), (mt, .inl (ks 3, 1000, .inl ft)), (mk, .inl (ks 4, 1000, .inl fk))] := hD
            refine cd_if_eq (tgt := 53) hx hb d_Model_placeOf_31 (by decide) (show (1 : Int32).toInt = 1 by decide) (fun c31 => ?_) (fun c31 => ?_)
            · exact absurd c31 (by decide)
            · refine lv_iload_n hx hb d_Model_placeOf_34 rfl (lv_at hl 1 rfl) ?_
              refine cd_if_lt (tgt := 53) hx hb d_Model_placeOf_35 (by decide) rfl (fun c35 => ?_) (fun c35 => ?_)
              · refine lv_iconst (v := -1) hx hb d_Model_placeOf_53 (by decide) ?_
                exact cd_retWi hQ hx hb hr hlk d_Model_placeOf_54 hS ((nI (cd_P B N (k + 1)), nI (cd_chr B N (cd_P B N k)), nI (cd_P B N k))) ((cd_sel_out _ _ (Or.inr (Or.inl c35))).symm) hP hD
              · refine lv_aload_n hx hb d_Model_placeOf_38 rfl (lv_at hl 0 rfl) ?_
                refine lv_iload_n hx hb d_Model_placeOf_39 rfl (lv_at hl 1 rfl) ?_
                refine cd_callW (rest := []) (wc := [(mo, .inr (3, [.ref mt, .int z, .ref mk, .int (nI N), .int (cd_b true), .int pl, .int (nI (cd_P B N (k + 1))), .int (nI (cd_chr B N (cd_P B N k))), .int (nI (cd_P B N k))])), (mt, .inl (ks 3, 1000, .inl ft)), (mk, .inl (ks 4, 1000, .inl fk))]) (wr := []) F E hP hD hS hA [0, 1, 2] [] rfl rfl rfl (by decide) (by decide) (by decide) (c_Model_go l G ks mo mt mk H.size ft fk z (nI N) true pl (nI (cd_P B N (k + 1))) (nI (cd_chr B N (cd_P B N k))) (nI (cd_P B N k)) x B N M h) (by decide) (by decide) 0 3 rfl rfl k_266 k_268 k_s5 k_4 k_269 (show cd_desc y_Model_go 1 by decide +kernel) ⟨Nat.zero_le _, Nat.zero_le _⟩ rfl hl.1 (Nat.le_of_ble_eq_true rfl) d_Model_placeOf_40 (fun r u H locs hw hP hD hS => ?_)
                have hP : va_P G classes [(mo, .inr (3, [.ref mt, .int z, .ref mk, .int (nI N), .int (cd_b true), .int pl, .int u.1, .int u.2.1, .int u.2.2])), (mt, .inl (ks 3, 1000, .inl ft)), (mk, .inl (ks 4, 1000, .inl fk))] H := hP
                have hD : va_D A [(mo, .inr (3, [.ref mt, .int z, .ref mk, .int (nI N), .int (cd_b true), .int pl, .int u.1, .int u.2.1, .int u.2.2])), (mt, .inl (ks 3, 1000, .inl ft)), (mk, .inl (ks 4, 1000, .inl fk))] := hD
                rcases hw with ⟨k3, hk3, -, hx3, rfl, rfl⟩ | ⟨rfl, hout3⟩
                · exact absurd hout (by rw [hx3, nI_toInt (by omega)]; omega)
                · have hP : va_P G classes [(mo, .inr (3, [.ref mt, .int z, .ref mk, .int (nI N), .int (cd_b true), .int pl, .int u.1, .int u.2.1, .int u.2.2])), (mt, .inl (ks 3, 1000, .inl ft)), (mk, .inl (ks 4, 1000, .inl fk))] H := hP
                  have hD : va_D A [(mo, .inr (3, [.ref mt, .int z, .ref mk, .int (nI N), .int (cd_b true), .int pl, .int u.1, .int u.2.1, .int u.2.2])), (mt, .inl (ks 3, 1000, .inl ft)), (mk, .inl (ks 4, 1000, .inl fk))] := hD
                  refine cd_if_ne (tgt := 53) hx hb d_Model_placeOf_43 (by decide) (show (0 : Int32).toInt = 0 by decide) (fun c43 => ?_) (fun c43 => ?_)
                  · exact absurd c43 (by decide)
                  · refine lv_aload_n hx hb d_Model_placeOf_46 rfl (lv_at hl 0 rfl) ?_
                    refine va_get (D := G) (ci := 3) (v := .int (nI N)) (C := R_Model) (T := F_Model) (N := 9) hx hb hts i_Model hown hK hP 0 rfl rfl 3 (by decide) (hts _ k_193) (fun _ h9 => h9) rfl d_Model_placeOf_47 ?_
                    refine lv_goto (tgt := 54) hx hb d_Model_placeOf_50 (by decide) ?_
                    exact cd_retWi hQ hx hb hr hlk d_Model_placeOf_54 hS ((u.1, u.2.1, u.2.2)) (by obtain rfl : x = nI M := Int32.toInt_inj.mp (by have e := cd_m1 (x := x) (by omega); rw [hxk, nI_toInt (by omega)] at e; rw [nI_toInt (by omega)]; omega); rw [cd_sel_in (M := M + 1) (fun k => if k < M then nI (cd_P B N k) else nI N) (-1) (by omega) (by omega), if_neg (by omega)]) hP hD
          · have hP : va_P G classes [(mo, .inr (3, [.ref mt, .int z, .ref mk, .int (nI N), .int (cd_b true), .int pl, .int u.1, .int u.2.1, .int u.2.2])), (mt, .inl (ks 3, 1000, .inl ft)), (mk, .inl (ks 4, 1000, .inl fk))] H := hP
            have hD : va_D A [(mo, .inr (3, [.ref mt, .int z, .ref mk, .int (nI N), .int (cd_b true), .int pl, .int u.1, .int u.2.1, .int u.2.2])), (mt, .inl (ks 3, 1000, .inl ft)), (mk, .inl (ks 4, 1000, .inl fk))] := hD
            refine cd_if_eq (tgt := 53) hx hb d_Model_placeOf_31 (by decide) (show (0 : Int32).toInt = 0 by decide) (fun c31 => ?_) (fun c31 => ?_)
            · refine lv_iconst (v := -1) hx hb d_Model_placeOf_53 (by decide) ?_
              exact cd_retWi hQ hx hb hr hlk d_Model_placeOf_54 hS ((u.1, u.2.1, u.2.2)) ((cd_sel_out _ _ (Or.inr (by by_cases q : 0 < x.toInt; (· have e := cd_m1 q; rw [e] at hout2; rcases hout2 with g | g; (· cases g); (· omega)); (· omega)))).symm) hP hD
            · exact absurd c31 (by decide)
    · exact absurd c5 (by decide)
end
section
set_option maxHeartbeats 4000000 in
set_option maxRecDepth 100000 in
theorem c_Model_run (l : Launch) (G : va_G) (ks : Nat → ClassId) (mo mt mk sz : Nat) (ft fk : Nat → Int32) (z ln : Int32) (rd : Bool) (pl st me be kd x : Int32) (B : Nat → Nat) (N M : Nat) (h : rd = true → ln = nI N ∧ cd_rdy B N M fk) : cd_MetW (S := Int32 × Int32 × Int32) l G ks y_Model_run b_Model_run 6 (some .int) 4 [.ref mo, .int kd, .int x] (cd_M ks mo mt mk ft fk z ln rd pl st me be) sz (fun r _ => cd_runP (fun k => cd_chr B N (cd_P B N k)) M rd kd x r) (fun u => cd_M ks mo mt mk ft fk z ln rd pl u.1 u.2.1 u.2.2) := by
  refine cd_metW (by decide) (Nat.le_of_ble_eq_true rfl) ?_
  intro pg e s m args below meth c R Q ls A H locs hQ hr hlk F E hP hD hA hS hl
  have hx := F.1
  have hb := F.2.1
  have hown := F.2.2.2.1
  have hts := F.2.2.2.2.1
  have hK := E.1
  have hl : lv_has ls 6 [(0, .ref mo), (1, .int kd), (2, .int x)] := hl
  have hP : va_P G classes [(mo, .inr (3, [.ref mt, .int z, .ref mk, .int ln, .int (cd_b rd), .int pl, .int st, .int me, .int be])), (mt, .inl (ks 3, 1000, .inl ft)), (mk, .inl (ks 4, 1000, .inl fk))] H := hP
  have hD : va_D A [(mo, .inr (3, [.ref mt, .int z, .ref mk, .int ln, .int (cd_b rd), .int pl, .int st, .int me, .int be])), (mt, .inl (ks 3, 1000, .inl ft)), (mk, .inl (ks 4, 1000, .inl fk))] := hD
  refine lv_iload_n hx hb d_Model_run_0 rfl (lv_at hl 1 rfl) ?_
  refine cd_if_lt (tgt := 17) hx hb d_Model_run_1 (by decide) rfl (fun c1 => ?_) (fun c1 => ?_)
  · refine lv_iconst (v := 0) hx hb d_Model_run_17 (by decide) ?_
    exact cd_retWi hQ hx hb hr hlk d_Model_run_18 hS ((st, me, be)) (Or.inr ⟨by omega, rfl⟩) hP hD
  · refine lv_iload_n hx hb d_Model_run_4 rfl (lv_at hl 1 rfl) ?_
    refine lv_iconst (v := 2) hx hb d_Model_run_5 (by decide) ?_
    refine cd_icmp_gt (tgt := 17) hx hb d_Model_run_6 (by decide) rfl (show (2 : Int32).toInt = 2 by decide) (fun c6 => ?_) (fun c6 => ?_)
    · refine lv_iconst (v := 0) hx hb d_Model_run_17 (by decide) ?_
      exact cd_retWi hQ hx hb hr hlk d_Model_run_18 hS ((st, me, be)) (Or.inr ⟨by omega, rfl⟩) hP hD
    · refine lv_aload_n hx hb d_Model_run_9 rfl (lv_at hl 0 rfl) ?_
      refine lv_iload_n hx hb d_Model_run_10 rfl (lv_at hl 2 rfl) ?_
      refine cd_callW (rest := []) (wc := [(mo, .inr (3, [.ref mt, .int z, .ref mk, .int ln, .int (cd_b rd), .int pl, .int st, .int me, .int be])), (mt, .inl (ks 3, 1000, .inl ft)), (mk, .inl (ks 4, 1000, .inl fk))]) (wr := []) F E hP hD hS hA [0, 1, 2] [] rfl rfl rfl (by decide) (by decide) (by decide) (c_Model_go l G ks mo mt mk H.size ft fk z ln rd pl st me be x B N M h) (by decide) (by decide) 0 3 rfl rfl k_266 k_268 k_s5 k_4 k_269 (show cd_desc y_Model_go 1 by decide +kernel) ⟨Nat.zero_le _, Nat.zero_le _⟩ rfl hl.1 (Nat.le_of_ble_eq_true rfl) d_Model_run_11 (fun r u H locs hw hP hD hS => ?_)
      have hP : va_P G classes [(mo, .inr (3, [.ref mt, .int z, .ref mk, .int ln, .int (cd_b rd), .int pl, .int u.1, .int u.2.1, .int u.2.2])), (mt, .inl (ks 3, 1000, .inl ft)), (mk, .inl (ks 4, 1000, .inl fk))] H := hP
      have hD : va_D A [(mo, .inr (3, [.ref mt, .int z, .ref mk, .int ln, .int (cd_b rd), .int pl, .int u.1, .int u.2.1, .int u.2.2])), (mt, .inl (ks 3, 1000, .inl ft)), (mk, .inl (ks 4, 1000, .inl fk))] := hD
      rcases hw with ⟨X, hX, rfl, rfl, rfl, rfl⟩ | ⟨rfl, hout⟩
      · obtain ⟨rfl, hrd⟩ := id (h rfl)
        have hM1 := cd_rdy_M hrd
        have hl : lv_has ls 6 [(0, .ref mo), (1, .int kd), (2, .int (nI X))] := hl
        have hP : va_P G classes [(mo, .inr (3, [.ref mt, .int z, .ref mk, .int (nI N), .int (cd_b true), .int pl, .int (nI (cd_P B N (X + 1))), .int (nI (cd_chr B N (cd_P B N X))), .int (nI (cd_P B N X))])), (mt, .inl (ks 3, 1000, .inl ft)), (mk, .inl (ks 4, 1000, .inl fk))] H := hP
        have hD : va_D A [(mo, .inr (3, [.ref mt, .int z, .ref mk, .int (nI N), .int (cd_b true), .int pl, .int (nI (cd_P B N (X + 1))), .int (nI (cd_chr B N (cd_P B N X))), .int (nI (cd_P B N X))])), (mt, .inl (ks 3, 1000, .inl ft)), (mk, .inl (ks 4, 1000, .inl fk))] := hD
        refine cd_if_ne (tgt := 19) hx hb d_Model_run_14 (by decide) (show (1 : Int32).toInt = 1 by decide) (fun c14 => ?_) (fun c14 => ?_)
        · refine lv_iconst (v := 0) hx hb d_Model_run_19 (by decide) ?_
          refine lv_istore_n (lv' := [(3, .int 0), (0, .ref mo), (1, .int kd), (2, .int (nI X))]) hx hb d_Model_run_20 rfl hl (by decide) rfl (fun ls hl => ?_)
          refine lv_iconst (v := 1) hx hb d_Model_run_21 (by decide) ?_
          refine lv_istore (lv' := [(4, .int 1), (3, .int 0), (0, .ref mo), (1, .int kd), (2, .int (nI X))]) hx hb d_Model_run_22 hl (by decide) rfl (fun ls hl => ?_)
          have loop : ∀ (d n : Nat) (b0 : Int32) (H : Heap) (locs : List Loc) (ls : Array Slot), M ≤ X + n + d → X + n < M → (∀ j, j < n → cd_g (fun k => cd_chr B N (cd_P B N k)) M kd.toInt X j = true) → va_P G classes [(mo, .inr (3, [.ref mt, .int z, .ref mk, .int (nI N), .int (cd_b true), .int pl, .int (nI (cd_P B N (X + n + 1))), .int (nI (cd_chr B N (cd_P B N (X + n)))), .int b0])), (mt, .inl (ks 3, 1000, .inl ft)), (mk, .inl (ks 4, 1000, .inl fk))] H → va_D A [(mo, .inr (3, [.ref mt, .int z, .ref mk, .int (nI N), .int (cd_b true), .int pl, .int (nI (cd_P B N (X + n + 1))), .int (nI (cd_chr B N (cd_P B N (X + n)))), .int b0])), (mt, .inl (ks 3, 1000, .inl ft)), (mk, .inl (ks 4, 1000, .inl fk))] → va_S A s.heap H locs → lv_has ls 6 [(0, .ref mo), (1, .int kd), (2, .int (nI X)), (3, .int (nI n)), (4, .int 1)] → W pg l e R s m args below meth c H locs 0 0 Q (F0 m 24 ls []) := by
            intro d
            induction d with
            | zero => intro n b0 H locs ls h1 h2; omega
            | succ d ih =>
              intro n b0 H locs ls hd hn hg hP hD hS hl
              have hcl := cd_chr_lt B N (cd_P B N (X + n))
              refine lv_iload hx hb d_Model_run_24 (lv_at hl 4 rfl) ?_
              refine cd_if_eq (tgt := 116) hx hb d_Model_run_26 (by decide) (show (1 : Int32).toInt = 1 by decide) (fun c26 => ?_) (fun c26 => ?_)
              · exact absurd c26 (by decide)
              · refine lv_iload_n hx hb d_Model_run_29 rfl (lv_at hl 1 rfl) ?_
                have J79 : W pg l e R s m args below meth c H locs 0 0 Q (F0 m 79 ls [.int (cd_b (cd_fit kd.toInt ((cd_chr B N (cd_P B N (X + n)) : Nat) : Int) (decide (n = 0))))]) := by
                  refine lv_istore (lv' := [(5, .int (cd_b (cd_fit kd.toInt ((cd_chr B N (cd_P B N (X + n)) : Nat) : Int) (decide (n = 0))))), (0, .ref mo), (1, .int kd), (2, .int (nI X)), (3, .int (nI n)), (4, .int 1)]) hx hb d_Model_run_79 hl (by decide) rfl (fun ls hl => ?_)
                  refine lv_iload hx hb d_Model_run_81 (lv_at hl 0 rfl) ?_
                  refine cd_if_eq_b (tgt := 92) hx hb d_Model_run_83 (by decide) (fun c83 => ?_) (fun c83 => ?_)
                  · refine lv_iload_n hx hb d_Model_run_92 rfl (lv_at hl 4 rfl) ?_
                    refine lv_istore_n (lv' := [(3, .int (nI n)), (5, .int (cd_b (cd_fit kd.toInt ((cd_chr B N (cd_P B N (X + n)) : Nat) : Int) (decide (n = 0))))), (0, .ref mo), (1, .int kd), (2, .int (nI X)), (4, .int 1)]) hx hb d_Model_run_93 rfl hl (by decide) rfl (fun ls hl => ?_)
                    refine lv_iload hx hb d_Model_run_94 (lv_at hl 1 rfl) ?_
                    refine cd_if_eq_b (tgt := 110) hx hb d_Model_run_96 (by decide) (fun c96 => ?_) (fun c96 => ?_)
                    · refine lv_iconst (v := 0) hx hb d_Model_run_110 (by decide) ?_
                      refine lv_istore (lv' := [(4, .int 0), (3, .int (nI n)), (5, .int (cd_b (cd_fit kd.toInt ((cd_chr B N (cd_P B N (X + n)) : Nat) : Int) (decide (n = 0))))), (0, .ref mo), (1, .int kd), (2, .int (nI X))]) hx hb d_Model_run_111 hl (by decide) rfl (fun ls hl => ?_)
                      refine lv_goto (tgt := 24) hx hb d_Model_run_113 (by decide) ?_
                      refine lv_iload hx hb d_Model_run_24 (lv_at hl 0 rfl) ?_
                      refine cd_if_eq (tgt := 116) hx hb d_Model_run_26 (by decide) (show (0 : Int32).toInt = 0 by decide) (fun c26 => ?_) (fun c26 => ?_)
                      · refine lv_iload_n hx hb d_Model_run_116 rfl (lv_at hl 1 rfl) ?_
                        exact cd_retWi hQ hx hb hr hlk d_Model_run_117 hS ((nI (cd_P B N (X + n + 1)), nI (cd_chr B N (cd_P B N (X + n))), b0)) (Or.inl ⟨X, n, rfl, by omega, by omega, rfl, hX, rfl, hg, by rw [cd_g, decide_eq_true hn, Bool.true_and]; exact c83⟩) hP hD
                      · exact absurd c26 (by decide)
                    · rw [c83] at c96; cases c96
                  · have hgn : cd_g (fun k => cd_chr B N (cd_P B N k)) M kd.toInt X n = true := by rw [cd_g, decide_eq_true hn, Bool.true_and]; exact c83
                    refine lv_iload_n hx hb d_Model_run_86 rfl (lv_at hl 4 rfl) ?_
                    refine lv_iconst (v := 1) hx hb d_Model_run_87 (by decide) ?_
                    refine lv_iadd hx hb d_Model_run_88 ?_
                    refine cd_top (y := nI (n + 1)) (nI_add n 1) ?_
                    refine lv_goto (tgt := 93) hx hb d_Model_run_89 (by decide) ?_
                    refine lv_istore_n (lv' := [(3, .int (nI (n + 1))), (5, .int (cd_b (cd_fit kd.toInt ((cd_chr B N (cd_P B N (X + n)) : Nat) : Int) (decide (n = 0))))), (0, .ref mo), (1, .int kd), (2, .int (nI X)), (4, .int 1)]) hx hb d_Model_run_93 rfl hl (by decide) rfl (fun ls hl => ?_)
                    refine lv_iload hx hb d_Model_run_94 (lv_at hl 1 rfl) ?_
                    refine cd_if_eq_b (tgt := 110) hx hb d_Model_run_96 (by decide) (fun c96 => ?_) (fun c96 => ?_)
                    · rw [c83] at c96; cases c96
                    · refine lv_aload_n hx hb d_Model_run_99 rfl (lv_at hl 2 rfl) ?_
                      refine cd_callW (rest := []) (wc := [(mo, .inr (3, [.ref mt, .int z, .ref mk, .int (nI N), .int (cd_b true), .int pl, .int (nI (cd_P B N (X + n + 1))), .int (nI (cd_chr B N (cd_P B N (X + n)))), .int b0])), (mt, .inl (ks 3, 1000, .inl ft)), (mk, .inl (ks 4, 1000, .inl fk))]) (wr := []) F E hP hD hS hA [0, 1, 2] [] rfl rfl rfl (by decide) (by decide) (by decide) (c_Model_next l G ks mo mt mk H.size ft fk z true pl (nI (cd_chr B N (cd_P B N (X + n)))) b0 B N (cd_P B N (X + n + 1)) hrd.1 (cd_rdy_P hrd (by omega)) (cd_rdy_sq hrd (cd_q_P B N (X + n)))) (by decide) (by decide) 0 3 rfl rfl k_254 k_256 k_s4 k_4 k_257 (show cd_desc y_Model_next 0 by decide +kernel) ⟨Nat.zero_le _, Nat.zero_le _⟩ rfl hl.1 (Nat.le_of_ble_eq_true rfl) d_Model_run_100 (fun r u H locs hw hP hD hS => ?_)
                      rw [cd_q_P] at hw
                      have hP : va_P G classes [(mo, .inr (3, [.ref mt, .int z, .ref mk, .int (nI N), .int (cd_b true), .int pl, .int u.1, .int u.2.1, .int u.2.2])), (mt, .inl (ks 3, 1000, .inl ft)), (mk, .inl (ks 4, 1000, .inl fk))] H := hP
                      have hD : va_D A [(mo, .inr (3, [.ref mt, .int z, .ref mk, .int (nI N), .int (cd_b true), .int pl, .int u.1, .int u.2.1, .int u.2.2])), (mt, .inl (ks 3, 1000, .inl ft)), (mk, .inl (ks 4, 1000, .inl fk))] := hD
                      rcases hw with ⟨hlt, rfl, rfl⟩ | ⟨hge, rfl, rfl⟩
                      · have hP : va_P G classes [(mo, .inr (3, [.ref mt, .int z, .ref mk, .int (nI N), .int (cd_b true), .int pl, .int (nI (cd_P B N (X + (n + 1) + 1))), .int (nI (cd_chr B N (cd_P B N (X + (n + 1))))), .int (nI (cd_P B N (X + n + 1)))])), (mt, .inl (ks 3, 1000, .inl ft)), (mk, .inl (ks 4, 1000, .inl fk))] H := hP
                        have hD : va_D A [(mo, .inr (3, [.ref mt, .int z, .ref mk, .int (nI N), .int (cd_b true), .int pl, .int (nI (cd_P B N (X + (n + 1) + 1))), .int (nI (cd_chr B N (cd_P B N (X + (n + 1))))), .int (nI (cd_P B N (X + n + 1)))])), (mt, .inl (ks 3, 1000, .inl ft)), (mk, .inl (ks 4, 1000, .inl fk))] := hD
                        refine cd_if_eq (tgt := 110) hx hb d_Model_run_103 (by decide) (show (1 : Int32).toInt = 1 by decide) (fun c103 => ?_) (fun c103 => ?_)
                        · exact absurd c103 (by decide)
                        · refine lv_iconst (v := 1) hx hb d_Model_run_106 (by decide) ?_
                          refine lv_goto (tgt := 111) hx hb d_Model_run_107 (by decide) ?_
                          refine lv_istore (lv' := [(4, .int 1), (3, .int (nI (n + 1))), (5, .int (cd_b (cd_fit kd.toInt ((cd_chr B N (cd_P B N (X + n)) : Nat) : Int) (decide (n = 0))))), (0, .ref mo), (1, .int kd), (2, .int (nI X))]) hx hb d_Model_run_111 hl (by decide) rfl (fun ls hl => ?_)
                          refine lv_goto (tgt := 24) hx hb d_Model_run_113 (by decide) ?_
                          exact ih (n + 1) _ H locs ls (by omega) ((cd_isM_lt hrd.2.2).mpr hlt) (fun j hj => by rcases Nat.lt_or_ge j n with q | q; (· exact hg j q); (· obtain rfl : j = n := (by omega); exact hgn)) hP hD hS (lv_sub hl [3, 4, 5, 1, 0] rfl)
                      · have hP : va_P G classes [(mo, .inr (3, [.ref mt, .int z, .ref mk, .int (nI N), .int (cd_b true), .int pl, .int (nI (cd_P B N (X + n + 1))), .int (nI (cd_chr B N (cd_P B N (X + n)))), .int b0])), (mt, .inl (ks 3, 1000, .inl ft)), (mk, .inl (ks 4, 1000, .inl fk))] H := hP
                        have hD : va_D A [(mo, .inr (3, [.ref mt, .int z, .ref mk, .int (nI N), .int (cd_b true), .int pl, .int (nI (cd_P B N (X + n + 1))), .int (nI (cd_chr B N (cd_P B N (X + n)))), .int b0])), (mt, .inl (ks 3, 1000, .inl ft)), (mk, .inl (ks 4, 1000, .inl fk))] := hD
                        refine cd_if_eq (tgt := 110) hx hb d_Model_run_103 (by decide) (show (0 : Int32).toInt = 0 by decide) (fun c103 => ?_) (fun c103 => ?_)
                        · refine lv_iconst (v := 0) hx hb d_Model_run_110 (by decide) ?_
                          refine lv_istore (lv' := [(4, .int 0), (3, .int (nI (n + 1))), (5, .int (cd_b (cd_fit kd.toInt ((cd_chr B N (cd_P B N (X + n)) : Nat) : Int) (decide (n = 0))))), (0, .ref mo), (1, .int kd), (2, .int (nI X))]) hx hb d_Model_run_111 hl (by decide) rfl (fun ls hl => ?_)
                          refine lv_goto (tgt := 24) hx hb d_Model_run_113 (by decide) ?_
                          refine lv_iload hx hb d_Model_run_24 (lv_at hl 0 rfl) ?_
                          refine cd_if_eq (tgt := 116) hx hb d_Model_run_26 (by decide) (show (0 : Int32).toInt = 0 by decide) (fun c26 => ?_) (fun c26 => ?_)
                          · refine lv_iload_n hx hb d_Model_run_116 rfl (lv_at hl 1 rfl) ?_
                            exact cd_retWi hQ hx hb hr hlk d_Model_run_117 hS ((nI (cd_P B N (X + n + 1)), nI (cd_chr B N (cd_P B N (X + n))), b0)) (Or.inl ⟨X, n + 1, rfl, by omega, by omega, rfl, hX, rfl, fun j hj => by rcases Nat.lt_or_ge j n with q | q; (· exact hg j q); (· obtain rfl : j = n := (by omega); exact hgn), by rw [cd_g, decide_eq_false (fun q => by have := (cd_isM_lt hrd.2.2).mp q; rw [← Nat.add_assoc] at this; omega), Bool.false_and]⟩) hP hD
                          · exact absurd c26 (by decide)
                        · exact absurd c103 (by decide)
                refine cd_if_ne (tgt := 57) hx hb d_Model_run_30 (by decide) rfl (fun c30 => ?_) (fun c30 => ?_)
                · refine lv_iload_n hx hb d_Model_run_57 rfl (lv_at hl 1 rfl) ?_
                  refine lv_iconst (v := 1) hx hb d_Model_run_58 (by decide) ?_
                  refine cd_icmp_ne (tgt := 72) hx hb d_Model_run_59 (by decide) rfl (show (1 : Int32).toInt = 1 by decide) (fun c59 => ?_) (fun c59 => ?_)
                  · refine lv_aload_n hx hb d_Model_run_72 rfl (lv_at hl 0 rfl) ?_
                    refine va_get (D := G) (ci := 3) (v := .int (nI (cd_chr B N (cd_P B N (X + n))))) (C := R_Model) (T := F_Model) (N := 9) hx hb hts i_Model hown hK hP 0 rfl rfl 7 (by decide) (hts _ k_197) (fun _ h9 => h9) rfl d_Model_run_73 ?_
                    refine cd_callP (rest := []) F (c_Model_isBlank l (nI (cd_chr B N (cd_P B N (X + n))))) (by decide) (by decide) k_278 k_279 k_4 k_280 (show cd_desc y_Model_isBlank 1 by decide +kernel) (fun _ _ _ _ _ => trivial) (fun _ _ _ => trivial) ⟨Nat.zero_le _, Nat.zero_le _⟩ rfl hl.1 (Nat.le_of_ble_eq_true rfl) d_Model_run_76 (fun r hr => ?_)
                    subst hr
                    exact cd_top (by rw [nI_toInt (by omega), cd_fit, if_neg (by omega), if_neg (by omega)]) J79
                  · refine lv_aload_n hx hb d_Model_run_62 rfl (lv_at hl 0 rfl) ?_
                    refine va_get (D := G) (ci := 3) (v := .int (nI (cd_chr B N (cd_P B N (X + n))))) (C := R_Model) (T := F_Model) (N := 9) hx hb hts i_Model hown hK hP 0 rfl rfl 7 (by decide) (hts _ k_197) (fun _ h9 => h9) rfl d_Model_run_63 ?_
                    refine cd_callP (rest := []) F (c_Model_isPart l (nI (cd_chr B N (cd_P B N (X + n))))) (by decide) (by decide) k_293 k_294 k_4 k_295 (show cd_desc y_Model_isPart 1 by decide +kernel) (fun _ _ _ _ _ => trivial) (fun _ _ _ => trivial) ⟨Nat.zero_le _, Nat.zero_le _⟩ rfl hl.1 (Nat.le_of_ble_eq_true rfl) d_Model_run_66 (fun r hr => ?_)
                    subst hr
                    refine lv_goto (tgt := 79) hx hb d_Model_run_69 (by decide) ?_
                    exact cd_top (by rw [nI_toInt (by omega), cd_fit, if_neg (by omega), if_pos (by omega)]) J79
                · refine lv_iload_n hx hb d_Model_run_33 rfl (lv_at hl 3 rfl) ?_
                  refine cd_if_ne (tgt := 47) hx hb d_Model_run_34 (by decide) (nI_toInt (n := n) (by omega)) (fun c34 => ?_) (fun c34 => ?_)
                  · refine lv_aload_n hx hb d_Model_run_47 rfl (lv_at hl 0 rfl) ?_
                    refine va_get (D := G) (ci := 3) (v := .int (nI (cd_chr B N (cd_P B N (X + n))))) (C := R_Model) (T := F_Model) (N := 9) hx hb hts i_Model hown hK hP 0 rfl rfl 7 (by decide) (hts _ k_197) (fun _ h9 => h9) rfl d_Model_run_48 ?_
                    refine cd_callP (rest := []) F (c_Model_isPart l (nI (cd_chr B N (cd_P B N (X + n))))) (by decide) (by decide) k_293 k_294 k_4 k_295 (show cd_desc y_Model_isPart 1 by decide +kernel) (fun _ _ _ _ _ => trivial) (fun _ _ _ => trivial) ⟨Nat.zero_le _, Nat.zero_le _⟩ rfl hl.1 (Nat.le_of_ble_eq_true rfl) d_Model_run_51 (fun r hr => ?_)
                    subst hr
                    refine lv_goto (tgt := 79) hx hb d_Model_run_54 (by decide) ?_
                    exact cd_top (by rw [nI_toInt (by omega), cd_fit, if_pos (by omega), if_neg (by rw [decide_eq_false (by omega)]; decide)]) J79
                  · refine lv_aload_n hx hb d_Model_run_37 rfl (lv_at hl 0 rfl) ?_
                    refine va_get (D := G) (ci := 3) (v := .int (nI (cd_chr B N (cd_P B N (X + n))))) (C := R_Model) (T := F_Model) (N := 9) hx hb hts i_Model hown hK hP 0 rfl rfl 7 (by decide) (hts _ k_197) (fun _ h9 => h9) rfl d_Model_run_38 ?_
                    refine cd_callP (rest := []) F (c_Model_isBegin l (nI (cd_chr B N (cd_P B N (X + n))))) (by decide) (by decide) k_281 k_282 k_4 k_283 (show cd_desc y_Model_isBegin 1 by decide +kernel) (fun _ _ _ _ _ => trivial) (fun _ _ _ => trivial) ⟨Nat.zero_le _, Nat.zero_le _⟩ rfl hl.1 (Nat.le_of_ble_eq_true rfl) d_Model_run_41 (fun r hr => ?_)
                    subst hr
                    refine lv_goto (tgt := 79) hx hb d_Model_run_44 (by decide) ?_
                    exact cd_top (by rw [nI_toInt (by omega), cd_fit, if_pos (by omega), if_pos (decide_eq_true (by omega))]) J79
          exact loop M 0 _ H locs ls (by omega) hX (fun j hj => by omega) hP hD hS (lv_sub hl [2, 3, 4, 1, 0] rfl)
        · exact absurd c14 (by decide)
      · have hP : va_P G classes [(mo, .inr (3, [.ref mt, .int z, .ref mk, .int ln, .int (cd_b rd), .int pl, .int u.1, .int u.2.1, .int u.2.2])), (mt, .inl (ks 3, 1000, .inl ft)), (mk, .inl (ks 4, 1000, .inl fk))] H := hP
        have hD : va_D A [(mo, .inr (3, [.ref mt, .int z, .ref mk, .int ln, .int (cd_b rd), .int pl, .int u.1, .int u.2.1, .int u.2.2])), (mt, .inl (ks 3, 1000, .inl ft)), (mk, .inl (ks 4, 1000, .inl fk))] := hD
        refine cd_if_ne (tgt := 19) hx hb d_Model_run_14 (by decide) (show (0 : Int32).toInt = 0 by decide) (fun c14 => ?_) (fun c14 => ?_)
        · exact absurd rfl c14
        · refine lv_iconst (v := 0) hx hb d_Model_run_17 (by decide) ?_
          exact cd_retWi hQ hx hb hr hlk d_Model_run_18 hS ((u.1, u.2.1, u.2.2)) (Or.inr ⟨fun q => by rcases hout with g | g; (· rw [q.1] at g; cases g); (· omega), rfl⟩) hP hD
end
section
set_option maxHeartbeats 4000000 in
set_option maxRecDepth 100000 in
theorem c_Model_compare (l : Launch) (G : va_G) (ks : Nat → ClassId) (mo mt mk sz : Nat) (ft fk : Nat → Int32) (z ln : Int32) (rd : Bool) (pl st me be xi xj xn : Int32) (B : Nat → Nat) (N M : Nat) (h : rd = true → ln = nI N ∧ cd_rdy B N M fk) : cd_MetW (S := Int32 × Int32 × Int32) l G ks y_Model_compare b_Model_compare 7 (some .int) 4 [.ref mo, .int xi, .int xj, .int xn] (cd_M ks mo mt mk ft fk z ln rd pl st me be) sz (fun r _ => cd_cmpP (fun k => cd_chr B N (cd_P B N k)) M rd xi xj xn r) (fun u => cd_M ks mo mt mk ft fk z ln rd pl u.1 u.2.1 u.2.2) := by
  refine cd_metW (by decide) (Nat.le_of_ble_eq_true rfl) ?_
  intro pg e s m args below meth c R Q ls A H locs hQ hr hlk F E hP hD hA hS hl
  have hx := F.1
  have hb := F.2.1
  have hown := F.2.2.2.1
  have hts := F.2.2.2.2.1
  have hK := E.1
  have hl : lv_has ls 7 [(0, .ref mo), (1, .int xi), (2, .int xj), (3, .int xn)] := hl
  have hP : va_P G classes [(mo, .inr (3, [.ref mt, .int z, .ref mk, .int ln, .int (cd_b rd), .int pl, .int st, .int me, .int be])), (mt, .inl (ks 3, 1000, .inl ft)), (mk, .inl (ks 4, 1000, .inl fk))] H := hP
  have hD : va_D A [(mo, .inr (3, [.ref mt, .int z, .ref mk, .int ln, .int (cd_b rd), .int pl, .int st, .int me, .int be])), (mt, .inl (ks 3, 1000, .inl ft)), (mk, .inl (ks 4, 1000, .inl fk))] := hD
  refine lv_aload_n hx hb d_Model_compare_0 rfl (lv_at hl 0 rfl) ?_
  refine va_get (D := G) (ci := 3) (v := .int (cd_b rd)) (C := R_Model) (T := F_Model) (N := 9) hx hb hts i_Model hown hK hP 0 rfl rfl 4 (by decide) (hts _ k_194) (fun _ h9 => h9) rfl d_Model_compare_1 ?_
  refine cd_if_eq_b (tgt := 19) hx hb d_Model_compare_4 (by decide) (fun c4 => ?_) (fun c4 => ?_)
  · refine lv_bipush (v := -2) hx hb d_Model_compare_19 (by decide) ?_
    exact cd_retWi hQ hx hb hr hlk d_Model_compare_21 hS ((st, me, be)) (Or.inr ⟨fun q => by (rw [c4] at q; exact absurd q.1 (by decide)), rfl⟩) hP hD
  · subst c4
    obtain ⟨rfl, hrd⟩ := id (h rfl)
    have hM1 := cd_rdy_M hrd
    have hP : va_P G classes [(mo, .inr (3, [.ref mt, .int z, .ref mk, .int (nI N), .int (cd_b true), .int pl, .int st, .int me, .int be])), (mt, .inl (ks 3, 1000, .inl ft)), (mk, .inl (ks 4, 1000, .inl fk))] H := hP
    have hD : va_D A [(mo, .inr (3, [.ref mt, .int z, .ref mk, .int (nI N), .int (cd_b true), .int pl, .int st, .int me, .int be])), (mt, .inl (ks 3, 1000, .inl ft)), (mk, .inl (ks 4, 1000, .inl fk))] := hD
    refine lv_iload_n hx hb d_Model_compare_7 rfl (lv_at hl 3 rfl) ?_
    refine cd_if_lt (tgt := 19) hx hb d_Model_compare_8 (by decide) rfl (fun c8 => ?_) (fun c8 => ?_)
    · refine lv_bipush (v := -2) hx hb d_Model_compare_19 (by decide) ?_
      exact cd_retWi hQ hx hb hr hlk d_Model_compare_21 hS ((st, me, be)) (Or.inr ⟨by omega, rfl⟩) hP hD
    · refine lv_iload_n hx hb d_Model_compare_11 rfl (lv_at hl 1 rfl) ?_
      refine cd_if_lt (tgt := 19) hx hb d_Model_compare_12 (by decide) rfl (fun c12 => ?_) (fun c12 => ?_)
      · refine lv_bipush (v := -2) hx hb d_Model_compare_19 (by decide) ?_
        exact cd_retWi hQ hx hb hr hlk d_Model_compare_21 hS ((st, me, be)) (Or.inr ⟨by omega, rfl⟩) hP hD
      · refine lv_iload_n hx hb d_Model_compare_15 rfl (lv_at hl 2 rfl) ?_
        refine cd_if_ge (tgt := 22) hx hb d_Model_compare_16 (by decide) rfl (fun c16 => ?_) (fun c16 => ?_)
        · obtain ⟨I, hI, rfl⟩ := (cd_ix xi).resolve_left (by omega)
          obtain ⟨J, hJ, rfl⟩ := (cd_ix xj).resolve_left (by omega)
          obtain ⟨L, hL, rfl⟩ := (cd_ix xn).resolve_left (by omega)
          have hl : lv_has ls 7 [(0, .ref mo), (1, .int (nI I)), (2, .int (nI J)), (3, .int (nI L))] := hl
          have fin : ∀ (t0 m0 b0 : Int32) (H : Heap) (locs : List Loc) (ls : Array Slot), va_P G classes [(mo, .inr (3, [.ref mt, .int z, .ref mk, .int (nI N), .int (cd_b true), .int pl, .int t0, .int m0, .int b0])), (mt, .inl (ks 3, 1000, .inl ft)), (mk, .inl (ks 4, 1000, .inl fk))] H → va_D A [(mo, .inr (3, [.ref mt, .int z, .ref mk, .int (nI N), .int (cd_b true), .int pl, .int t0, .int m0, .int b0])), (mt, .inl (ks 3, 1000, .inl ft)), (mk, .inl (ks 4, 1000, .inl fk))] → va_S A s.heap H locs → lv_has ls 7 [(0, .ref mo), (1, .int (nI I)), (2, .int (nI J)), (3, .int (nI L)), (4, .int (nI M))] → W pg l e R s m args below meth c H locs 0 0 Q (F0 m 43 ls []) := by
            intro t0 m0 b0 H locs ls hP hD hS hl
            refine lv_iload_n hx hb d_Model_compare_43 rfl (lv_at hl 3 rfl) ?_
            refine lv_iload hx hb d_Model_compare_44 (lv_at hl 4 rfl) ?_
            refine lv_iload_n hx hb d_Model_compare_46 rfl (lv_at hl 1 rfl) ?_
            refine lv_isub hx hb d_Model_compare_47 ?_
            refine cd_icmp_gt (tgt := 59) hx hb d_Model_compare_48 (by decide) (nI_toInt (n := L) (by omega)) (cd_subI (M := M) (I := I) (by omega) hI) (fun c48 => ?_) (fun c48 => ?_)
            · refine lv_bipush (v := -2) hx hb d_Model_compare_59 (by decide) ?_
              exact cd_retWi hQ hx hb hr hlk d_Model_compare_61 hS ((t0, m0, b0)) (Or.inr ⟨fun q => by obtain ⟨-, -, -, -, q1, q2⟩ := q; rw [nI_toInt hL, nI_toInt hI] at q1; rw [nI_toInt hL, nI_toInt hJ] at q2; omega, rfl⟩) hP hD
            · refine lv_iload_n hx hb d_Model_compare_51 rfl (lv_at hl 3 rfl) ?_
              refine lv_iload hx hb d_Model_compare_52 (lv_at hl 4 rfl) ?_
              refine lv_iload_n hx hb d_Model_compare_54 rfl (lv_at hl 2 rfl) ?_
              refine lv_isub hx hb d_Model_compare_55 ?_
              refine cd_icmp_le (tgt := 62) hx hb d_Model_compare_56 (by decide) (nI_toInt (n := L) (by omega)) (cd_subI (M := M) (I := J) (by omega) hJ) (fun c56 => ?_) (fun c56 => ?_)
              · refine lv_iconst (v := 0) hx hb d_Model_compare_62 (by decide) ?_
                refine lv_istore (lv' := [(5, .int 0), (0, .ref mo), (1, .int (nI I)), (2, .int (nI J)), (3, .int (nI L)), (4, .int (nI M))]) hx hb d_Model_compare_63 hl (by decide) rfl (fun ls hl => ?_)
                have hIL : I + L ≤ M := by omega
                have hJL : J + L ≤ M := by omega
                have loop : ∀ (d k : Nat) (t0 m0 b0 : Int32) (H : Heap) (locs : List Loc) (ls : Array Slot), L = k + d → (∀ t, t < k → (fun k => cd_chr B N (cd_P B N k)) (I + t) = (fun k => cd_chr B N (cd_P B N k)) (J + t)) → va_P G classes [(mo, .inr (3, [.ref mt, .int z, .ref mk, .int (nI N), .int (cd_b true), .int pl, .int t0, .int m0, .int b0])), (mt, .inl (ks 3, 1000, .inl ft)), (mk, .inl (ks 4, 1000, .inl fk))] H → va_D A [(mo, .inr (3, [.ref mt, .int z, .ref mk, .int (nI N), .int (cd_b true), .int pl, .int t0, .int m0, .int b0])), (mt, .inl (ks 3, 1000, .inl ft)), (mk, .inl (ks 4, 1000, .inl fk))] → va_S A s.heap H locs → lv_has ls 7 [(0, .ref mo), (1, .int (nI I)), (2, .int (nI J)), (3, .int (nI L)), (5, .int (nI k))] → W pg l e R s m args below meth c H locs 0 0 Q (F0 m 65 ls []) := by
                  intro d
                  induction d with
                  | zero =>
                    intro k t0 m0 b0 H locs ls hd hall hP hD hS hl
                    refine lv_iload hx hb d_Model_compare_65 (lv_at hl 4 rfl) ?_
                    refine lv_iload_n hx hb d_Model_compare_67 rfl (lv_at hl 3 rfl) ?_
                    refine cd_icmp_ge (tgt := 125) hx hb d_Model_compare_68 (by decide) (nI_toInt (n := k) (by omega)) (nI_toInt (n := L) (by omega)) (fun c68 => ?_) (fun c68 => ?_)
                    · refine lv_iconst (v := 0) hx hb d_Model_compare_125 (by decide) ?_
                      exact cd_retWi hQ hx hb hr hlk d_Model_compare_126 hS ((t0, m0, b0)) (Or.inl ⟨I, J, L, rfl, rfl, rfl, rfl, hIL, hJL, Or.inr ⟨fun t ht => hall t (by omega), rfl⟩⟩) hP hD
                    · exact absurd c68 (by omega)
                  | succ d ih =>
                    intro k t0 m0 b0 H locs ls hd hall hP hD hS hl
                    have hc1 := cd_chr_lt B N (cd_P B N (I + k))
                    have hc2 := cd_chr_lt B N (cd_P B N (J + k))
                    refine lv_iload hx hb d_Model_compare_65 (lv_at hl 4 rfl) ?_
                    refine lv_iload_n hx hb d_Model_compare_67 rfl (lv_at hl 3 rfl) ?_
                    refine cd_icmp_ge (tgt := 125) hx hb d_Model_compare_68 (by decide) (nI_toInt (n := k) (by omega)) (nI_toInt (n := L) (by omega)) (fun c68 => ?_) (fun c68 => ?_)
                    · exact absurd c68 (by omega)
                    · refine lv_aload_n hx hb d_Model_compare_71 rfl (lv_at hl 0 rfl) ?_
                      refine lv_iload_n hx hb d_Model_compare_72 rfl (lv_at hl 1 rfl) ?_
                      refine lv_iload hx hb d_Model_compare_73 (lv_at hl 4 rfl) ?_
                      refine lv_iadd hx hb d_Model_compare_75 ?_
                      refine cd_top (y := nI (I + k)) (nI_add I k) ?_
                      refine cd_callW (rest := []) (wc := [(mo, .inr (3, [.ref mt, .int z, .ref mk, .int (nI N), .int (cd_b true), .int pl, .int t0, .int m0, .int b0])), (mt, .inl (ks 3, 1000, .inl ft)), (mk, .inl (ks 4, 1000, .inl fk))]) (wr := []) F E hP hD hS hA [0, 1, 2] [] rfl rfl rfl (by decide) (by decide) (by decide) (c_Model_go l G ks mo mt mk H.size ft fk z (nI N) true pl t0 m0 b0 (nI (I + k)) B N M h) (by decide) (by decide) 0 3 rfl rfl k_266 k_268 k_s5 k_4 k_269 (show cd_desc y_Model_go 1 by decide +kernel) ⟨Nat.zero_le _, Nat.zero_le _⟩ rfl hl.1 (Nat.le_of_ble_eq_true rfl) d_Model_compare_76 (fun r u H locs hw hP hD hS => ?_)
                      have hP : va_P G classes [(mo, .inr (3, [.ref mt, .int z, .ref mk, .int (nI N), .int (cd_b true), .int pl, .int u.1, .int u.2.1, .int u.2.2])), (mt, .inl (ks 3, 1000, .inl ft)), (mk, .inl (ks 4, 1000, .inl fk))] H := hP
                      have hD : va_D A [(mo, .inr (3, [.ref mt, .int z, .ref mk, .int (nI N), .int (cd_b true), .int pl, .int u.1, .int u.2.1, .int u.2.2])), (mt, .inl (ks 3, 1000, .inl ft)), (mk, .inl (ks 4, 1000, .inl fk))] := hD
                      rcases hw with ⟨t9, ht9, -, hxt, rfl, rfl⟩ | ⟨rfl, hout⟩
                      · obtain rfl : t9 = I + k := ((nI_eq (by omega) (by omega)).mp hxt).symm
                        have hP : va_P G classes [(mo, .inr (3, [.ref mt, .int z, .ref mk, .int (nI N), .int (cd_b true), .int pl, .int (nI (cd_P B N (I + k + 1))), .int (nI (cd_chr B N (cd_P B N (I + k)))), .int (nI (cd_P B N (I + k)))])), (mt, .inl (ks 3, 1000, .inl ft)), (mk, .inl (ks 4, 1000, .inl fk))] H := hP
                        have hD : va_D A [(mo, .inr (3, [.ref mt, .int z, .ref mk, .int (nI N), .int (cd_b true), .int pl, .int (nI (cd_P B N (I + k + 1))), .int (nI (cd_chr B N (cd_P B N (I + k)))), .int (nI (cd_P B N (I + k)))])), (mt, .inl (ks 3, 1000, .inl ft)), (mk, .inl (ks 4, 1000, .inl fk))] := hD
                        refine lv_pop hx hb d_Model_compare_79 rfl ?_
                        refine lv_aload_n hx hb d_Model_compare_80 rfl (lv_at hl 0 rfl) ?_
                        refine va_get (D := G) (ci := 3) (v := .int (nI (cd_chr B N (cd_P B N (I + k))))) (C := R_Model) (T := F_Model) (N := 9) hx hb hts i_Model hown hK hP 0 rfl rfl 7 (by decide) (hts _ k_197) (fun _ h9 => h9) rfl d_Model_compare_81 ?_
                        refine lv_istore (lv' := [(6, .int (nI (cd_chr B N (cd_P B N (I + k))))), (0, .ref mo), (1, .int (nI I)), (2, .int (nI J)), (3, .int (nI L)), (5, .int (nI k))]) hx hb d_Model_compare_84 hl (by decide) rfl (fun ls hl => ?_)
                        refine lv_aload_n hx hb d_Model_compare_86 rfl (lv_at hl 1 rfl) ?_
                        refine lv_iload_n hx hb d_Model_compare_87 rfl (lv_at hl 3 rfl) ?_
                        refine lv_iload hx hb d_Model_compare_88 (lv_at hl 5 rfl) ?_
                        refine lv_iadd hx hb d_Model_compare_90 ?_
                        refine cd_top (y := nI (J + k)) (nI_add J k) ?_
                        refine cd_callW (rest := []) (wc := [(mo, .inr (3, [.ref mt, .int z, .ref mk, .int (nI N), .int (cd_b true), .int pl, .int (nI (cd_P B N (I + k + 1))), .int (nI (cd_chr B N (cd_P B N (I + k)))), .int (nI (cd_P B N (I + k)))])), (mt, .inl (ks 3, 1000, .inl ft)), (mk, .inl (ks 4, 1000, .inl fk))]) (wr := []) F E hP hD hS hA [0, 1, 2] [] rfl rfl rfl (by decide) (by decide) (by decide) (c_Model_go l G ks mo mt mk H.size ft fk z (nI N) true pl (nI (cd_P B N (I + k + 1))) (nI (cd_chr B N (cd_P B N (I + k)))) (nI (cd_P B N (I + k))) (nI (J + k)) B N M h) (by decide) (by decide) 0 3 rfl rfl k_266 k_268 k_s5 k_4 k_269 (show cd_desc y_Model_go 1 by decide +kernel) ⟨Nat.zero_le _, Nat.zero_le _⟩ rfl hl.1 (Nat.le_of_ble_eq_true rfl) d_Model_compare_91 (fun r u H locs hw hP hD hS => ?_)
                        have hP : va_P G classes [(mo, .inr (3, [.ref mt, .int z, .ref mk, .int (nI N), .int (cd_b true), .int pl, .int u.1, .int u.2.1, .int u.2.2])), (mt, .inl (ks 3, 1000, .inl ft)), (mk, .inl (ks 4, 1000, .inl fk))] H := hP
                        have hD : va_D A [(mo, .inr (3, [.ref mt, .int z, .ref mk, .int (nI N), .int (cd_b true), .int pl, .int u.1, .int u.2.1, .int u.2.2])), (mt, .inl (ks 3, 1000, .inl ft)), (mk, .inl (ks 4, 1000, .inl fk))] := hD
                        rcases hw with ⟨t9, ht9, -, hxt, rfl, rfl⟩ | ⟨rfl, hout⟩
                        · obtain rfl : t9 = J + k := ((nI_eq (by omega) (by omega)).mp hxt).symm
                          have hP : va_P G classes [(mo, .inr (3, [.ref mt, .int z, .ref mk, .int (nI N), .int (cd_b true), .int pl, .int (nI (cd_P B N (J + k + 1))), .int (nI (cd_chr B N (cd_P B N (J + k)))), .int (nI (cd_P B N (J + k)))])), (mt, .inl (ks 3, 1000, .inl ft)), (mk, .inl (ks 4, 1000, .inl fk))] H := hP
                          have hD : va_D A [(mo, .inr (3, [.ref mt, .int z, .ref mk, .int (nI N), .int (cd_b true), .int pl, .int (nI (cd_P B N (J + k + 1))), .int (nI (cd_chr B N (cd_P B N (J + k)))), .int (nI (cd_P B N (J + k)))])), (mt, .inl (ks 3, 1000, .inl ft)), (mk, .inl (ks 4, 1000, .inl fk))] := hD
                          refine lv_pop hx hb d_Model_compare_94 rfl ?_
                          refine lv_iload hx hb d_Model_compare_95 (lv_at hl 0 rfl) ?_
                          refine lv_aload_n hx hb d_Model_compare_97 rfl (lv_at hl 1 rfl) ?_
                          refine va_get (D := G) (ci := 3) (v := .int (nI (cd_chr B N (cd_P B N (J + k))))) (C := R_Model) (T := F_Model) (N := 9) hx hb hts i_Model hown hK hP 0 rfl rfl 7 (by decide) (hts _ k_197) (fun _ h9 => h9) rfl d_Model_compare_98 ?_
                          refine cd_icmp_eq (tgt := 119) hx hb d_Model_compare_101 (by decide) (nI_toInt (n := cd_chr B N (cd_P B N (I + k))) (by omega)) (nI_toInt (n := cd_chr B N (cd_P B N (J + k))) (by omega)) (fun c101 => ?_) (fun c101 => ?_)
                          · refine lv_iinc (v := nI (k + 1)) (lv' := [(5, .int (nI (k + 1))), (6, .int (nI (cd_chr B N (cd_P B N (I + k))))), (0, .ref mo), (1, .int (nI I)), (2, .int (nI J)), (3, .int (nI L))]) hx hb d_Model_compare_119 hl (k := 5) rfl (nI_add k 1) (by decide) rfl (fun ls hl => ?_)
                            refine lv_goto (tgt := 65) hx hb d_Model_compare_122 (by decide) ?_
                            exact ih (k + 1) _ _ _ H locs ls (by omega) (fun t ht => by rcases Nat.lt_or_ge t k with q | q; (· exact hall t q); (· obtain rfl : t = k := (by omega); exact Int.ofNat_inj.mp c101)) hP hD hS (lv_sub hl [2, 3, 4, 5, 0] rfl)
                          · refine lv_iload hx hb d_Model_compare_104 (lv_at hl 0 rfl) ?_
                            refine lv_aload_n hx hb d_Model_compare_106 rfl (lv_at hl 1 rfl) ?_
                            refine va_get (D := G) (ci := 3) (v := .int (nI (cd_chr B N (cd_P B N (J + k))))) (C := R_Model) (T := F_Model) (N := 9) hx hb hts i_Model hown hK hP 0 rfl rfl 7 (by decide) (hts _ k_197) (fun _ h9 => h9) rfl d_Model_compare_107 ?_
                            refine cd_icmp_ge (tgt := 117) hx hb d_Model_compare_110 (by decide) (nI_toInt (n := cd_chr B N (cd_P B N (I + k))) (by omega)) (nI_toInt (n := cd_chr B N (cd_P B N (J + k))) (by omega)) (fun c110 => ?_) (fun c110 => ?_)
                            · refine lv_iconst (v := 1) hx hb d_Model_compare_117 (by decide) ?_
                              exact cd_retWi hQ hx hb hr hlk d_Model_compare_118 hS ((nI (cd_P B N (J + k + 1)), nI (cd_chr B N (cd_P B N (J + k))), nI (cd_P B N (J + k)))) (Or.inl ⟨I, J, L, rfl, rfl, rfl, rfl, hIL, hJL, Or.inl ⟨k, by omega, hall, fun q => c101 (congrArg Int.ofNat q), by dsimp only; rw [cd_cmp, if_neg (by omega), if_neg (by omega)]⟩⟩) hP hD
                            · refine lv_iconst (v := -1) hx hb d_Model_compare_113 (by decide) ?_
                              refine lv_goto (tgt := 118) hx hb d_Model_compare_114 (by decide) ?_
                              exact cd_retWi hQ hx hb hr hlk d_Model_compare_118 hS ((nI (cd_P B N (J + k + 1)), nI (cd_chr B N (cd_P B N (J + k))), nI (cd_P B N (J + k)))) (Or.inl ⟨I, J, L, rfl, rfl, rfl, rfl, hIL, hJL, Or.inl ⟨k, by omega, hall, fun q => c101 (congrArg Int.ofNat q), by dsimp only; rw [cd_cmp, if_pos (by omega)]⟩⟩) hP hD
                        · rcases hout with g | g
                          · cases g
                          · rw [nI_toInt (by omega)] at g; omega
                      · rcases hout with g | g
                        · cases g
                        · rw [nI_toInt (by omega)] at g; omega
                exact loop L 0 _ _ _ H locs ls (by omega) (fun t ht => by omega) hP hD hS (lv_sub hl [1, 2, 3, 4, 0] rfl)
              · refine lv_bipush (v := -2) hx hb d_Model_compare_59 (by decide) ?_
                exact cd_retWi hQ hx hb hr hlk d_Model_compare_61 hS ((t0, m0, b0)) (Or.inr ⟨fun q => by obtain ⟨-, -, -, -, q1, q2⟩ := q; rw [nI_toInt hL, nI_toInt hI] at q1; rw [nI_toInt hL, nI_toInt hJ] at q2; omega, rfl⟩) hP hD
          have cnt : ∀ (d k sv : Nat) (m0 b0 : Int32) (H : Heap) (locs : List Loc) (ls : Array Slot), M ≤ k + d → k ≤ M → cd_q B N sv = cd_P B N k → sv ≤ 1000 → va_P G classes [(mo, .inr (3, [.ref mt, .int z, .ref mk, .int (nI N), .int (cd_b true), .int pl, .int (nI sv), .int m0, .int b0])), (mt, .inl (ks 3, 1000, .inl ft)), (mk, .inl (ks 4, 1000, .inl fk))] H → va_D A [(mo, .inr (3, [.ref mt, .int z, .ref mk, .int (nI N), .int (cd_b true), .int pl, .int (nI sv), .int m0, .int b0])), (mt, .inl (ks 3, 1000, .inl ft)), (mk, .inl (ks 4, 1000, .inl fk))] → va_S A s.heap H locs → lv_has ls 7 [(0, .ref mo), (1, .int (nI I)), (2, .int (nI J)), (3, .int (nI L)), (4, .int (nI k))] → W pg l e R s m args below meth c H locs 0 0 Q (F0 m 30 ls []) := by
            intro d
            induction d with
            | zero =>
              intro k sv m0 b0 H locs ls hd hkM hq hsv hP hD hS hl
              refine lv_aload_n hx hb d_Model_compare_30 rfl (lv_at hl 0 rfl) ?_
              refine cd_callW (rest := []) (wc := [(mo, .inr (3, [.ref mt, .int z, .ref mk, .int (nI N), .int (cd_b true), .int pl, .int (nI sv), .int m0, .int b0])), (mt, .inl (ks 3, 1000, .inl ft)), (mk, .inl (ks 4, 1000, .inl fk))]) (wr := []) F E hP hD hS hA [0, 1, 2] [] rfl rfl rfl (by decide) (by decide) (by decide) (c_Model_next l G ks mo mt mk H.size ft fk z true pl m0 b0 B N sv hrd.1 hsv (cd_rdy_sq hrd hq)) (by decide) (by decide) 0 3 rfl rfl k_254 k_256 k_s4 k_4 k_257 (show cd_desc y_Model_next 0 by decide +kernel) ⟨Nat.zero_le _, Nat.zero_le _⟩ rfl hl.1 (Nat.le_of_ble_eq_true rfl) d_Model_compare_31 (fun r u H locs hw hP hD hS => ?_)
              rw [hq] at hw
              have hP : va_P G classes [(mo, .inr (3, [.ref mt, .int z, .ref mk, .int (nI N), .int (cd_b true), .int pl, .int u.1, .int u.2.1, .int u.2.2])), (mt, .inl (ks 3, 1000, .inl ft)), (mk, .inl (ks 4, 1000, .inl fk))] H := hP
              have hD : va_D A [(mo, .inr (3, [.ref mt, .int z, .ref mk, .int (nI N), .int (cd_b true), .int pl, .int u.1, .int u.2.1, .int u.2.2])), (mt, .inl (ks 3, 1000, .inl ft)), (mk, .inl (ks 4, 1000, .inl fk))] := hD
              rcases hw with ⟨hlt, rfl, rfl⟩ | ⟨hge, rfl, rfl⟩
              · have hkl := (cd_isM_lt hrd.2.2).mpr hlt
                exact absurd hkl (by omega)
              · have hP : va_P G classes [(mo, .inr (3, [.ref mt, .int z, .ref mk, .int (nI N), .int (cd_b true), .int pl, .int (nI (cd_P B N k)), .int m0, .int b0])), (mt, .inl (ks 3, 1000, .inl ft)), (mk, .inl (ks 4, 1000, .inl fk))] H := hP
                have hD : va_D A [(mo, .inr (3, [.ref mt, .int z, .ref mk, .int (nI N), .int (cd_b true), .int pl, .int (nI (cd_P B N k)), .int m0, .int b0])), (mt, .inl (ks 3, 1000, .inl ft)), (mk, .inl (ks 4, 1000, .inl fk))] := hD
                obtain rfl : k = M := by have h9 : ¬ k < M := (fun q => by have := (cd_isM_lt hrd.2.2).mp q; omega); omega
                refine cd_if_eq (tgt := 43) hx hb d_Model_compare_34 (by decide) (show (0 : Int32).toInt = 0 by decide) (fun c34 => ?_) (fun c34 => ?_)
                · exact fin _ _ _ H locs ls hP hD hS (lv_sub hl [0, 1, 2, 3, 4] rfl)
                · exact absurd c34 (by decide)
            | succ d ih =>
              intro k sv m0 b0 H locs ls hd hkM hq hsv hP hD hS hl
              refine lv_aload_n hx hb d_Model_compare_30 rfl (lv_at hl 0 rfl) ?_
              refine cd_callW (rest := []) (wc := [(mo, .inr (3, [.ref mt, .int z, .ref mk, .int (nI N), .int (cd_b true), .int pl, .int (nI sv), .int m0, .int b0])), (mt, .inl (ks 3, 1000, .inl ft)), (mk, .inl (ks 4, 1000, .inl fk))]) (wr := []) F E hP hD hS hA [0, 1, 2] [] rfl rfl rfl (by decide) (by decide) (by decide) (c_Model_next l G ks mo mt mk H.size ft fk z true pl m0 b0 B N sv hrd.1 hsv (cd_rdy_sq hrd hq)) (by decide) (by decide) 0 3 rfl rfl k_254 k_256 k_s4 k_4 k_257 (show cd_desc y_Model_next 0 by decide +kernel) ⟨Nat.zero_le _, Nat.zero_le _⟩ rfl hl.1 (Nat.le_of_ble_eq_true rfl) d_Model_compare_31 (fun r u H locs hw hP hD hS => ?_)
              rw [hq] at hw
              have hP : va_P G classes [(mo, .inr (3, [.ref mt, .int z, .ref mk, .int (nI N), .int (cd_b true), .int pl, .int u.1, .int u.2.1, .int u.2.2])), (mt, .inl (ks 3, 1000, .inl ft)), (mk, .inl (ks 4, 1000, .inl fk))] H := hP
              have hD : va_D A [(mo, .inr (3, [.ref mt, .int z, .ref mk, .int (nI N), .int (cd_b true), .int pl, .int u.1, .int u.2.1, .int u.2.2])), (mt, .inl (ks 3, 1000, .inl ft)), (mk, .inl (ks 4, 1000, .inl fk))] := hD
              rcases hw with ⟨hlt, rfl, rfl⟩ | ⟨hge, rfl, rfl⟩
              · have hkl := (cd_isM_lt hrd.2.2).mpr hlt
                have hP : va_P G classes [(mo, .inr (3, [.ref mt, .int z, .ref mk, .int (nI N), .int (cd_b true), .int pl, .int (nI (cd_P B N (k + 1))), .int (nI (cd_chr B N (cd_P B N k))), .int (nI (cd_P B N k))])), (mt, .inl (ks 3, 1000, .inl ft)), (mk, .inl (ks 4, 1000, .inl fk))] H := hP
                have hD : va_D A [(mo, .inr (3, [.ref mt, .int z, .ref mk, .int (nI N), .int (cd_b true), .int pl, .int (nI (cd_P B N (k + 1))), .int (nI (cd_chr B N (cd_P B N k))), .int (nI (cd_P B N k))])), (mt, .inl (ks 3, 1000, .inl ft)), (mk, .inl (ks 4, 1000, .inl fk))] := hD
                refine cd_if_eq (tgt := 43) hx hb d_Model_compare_34 (by decide) (show (1 : Int32).toInt = 1 by decide) (fun c34 => ?_) (fun c34 => ?_)
                · exact absurd c34 (by decide)
                · refine lv_iinc (v := nI (k + 1)) (lv' := [(4, .int (nI (k + 1))), (0, .ref mo), (1, .int (nI I)), (2, .int (nI J)), (3, .int (nI L))]) hx hb d_Model_compare_37 hl (k := 4) rfl (nI_add k 1) (by decide) rfl (fun ls hl => ?_)
                  refine lv_goto (tgt := 30) hx hb d_Model_compare_40 (by decide) ?_
                  exact ih (k + 1) (cd_P B N (k + 1)) _ _ H locs ls (by omega) (by omega) (cd_q_P B N k) (cd_rdy_P hrd (by omega)) hP hD hS (lv_sub hl [1, 2, 3, 4, 0] rfl)
              · have hP : va_P G classes [(mo, .inr (3, [.ref mt, .int z, .ref mk, .int (nI N), .int (cd_b true), .int pl, .int (nI (cd_P B N k)), .int m0, .int b0])), (mt, .inl (ks 3, 1000, .inl ft)), (mk, .inl (ks 4, 1000, .inl fk))] H := hP
                have hD : va_D A [(mo, .inr (3, [.ref mt, .int z, .ref mk, .int (nI N), .int (cd_b true), .int pl, .int (nI (cd_P B N k)), .int m0, .int b0])), (mt, .inl (ks 3, 1000, .inl ft)), (mk, .inl (ks 4, 1000, .inl fk))] := hD
                obtain rfl : k = M := by have h9 : ¬ k < M := (fun q => by have := (cd_isM_lt hrd.2.2).mp q; omega); omega
                refine cd_if_eq (tgt := 43) hx hb d_Model_compare_34 (by decide) (show (0 : Int32).toInt = 0 by decide) (fun c34 => ?_) (fun c34 => ?_)
                · exact fin _ _ _ H locs ls hP hD hS (lv_sub hl [0, 1, 2, 3, 4] rfl)
                · exact absurd c34 (by decide)
          refine lv_iconst (v := 0) hx hb d_Model_compare_22 (by decide) ?_
          refine lv_istore (lv' := [(4, .int 0), (0, .ref mo), (1, .int (nI I)), (2, .int (nI J)), (3, .int (nI L))]) hx hb d_Model_compare_23 hl (by decide) rfl (fun ls hl => ?_)
          refine lv_aload_n hx hb d_Model_compare_25 rfl (lv_at hl 1 rfl) ?_
          refine lv_iconst (v := 0) hx hb d_Model_compare_26 (by decide) ?_
          refine va_put (D := G) (ci := 3) (v := .int 0) (ty := .int) (C := R_Model) (T := F_Model) (N := 9) hx hb hts i_Model t_Model t_Model_ok n_Model hown hK hP hD hS 0 rfl rfl 6 (by decide) (hts _ k_196) (fun _ h9 => h9) rfl (by decide +kernel) rfl rfl (Nat.le_of_ble_eq_true rfl) d_Model_compare_27 (fun H locs hP hD hS => ?_)
          have hP : va_P G classes [(mo, .inr (3, [.ref mt, .int z, .ref mk, .int (nI N), .int (cd_b true), .int pl, .int 0, .int me, .int be])), (mt, .inl (ks 3, 1000, .inl ft)), (mk, .inl (ks 4, 1000, .inl fk))] H := hP
          have hD : va_D A [(mo, .inr (3, [.ref mt, .int z, .ref mk, .int (nI N), .int (cd_b true), .int pl, .int 0, .int me, .int be])), (mt, .inl (ks 3, 1000, .inl ft)), (mk, .inl (ks 4, 1000, .inl fk))] := hD
          exact cnt M 0 0 _ _ H locs ls (by omega) (by omega) (cd_q_0 B N) (by omega) hP hD hS (lv_sub hl [1, 2, 3, 4, 0] rfl)
        · refine lv_bipush (v := -2) hx hb d_Model_compare_19 (by decide) ?_
          exact cd_retWi hQ hx hb hr hlk d_Model_compare_21 hS ((st, me, be)) (Or.inr ⟨by omega, rfl⟩) hP hD
end
section
/-- what read answers -/
def cd_rdP (B : Nat → Nat) (n : Nat) (r : Int32) (rd : Bool) (pl : Int32) : Prop :=
  (cd_ok B n 0 ∧ rd = true ∧ pl = -1 ∧ ∃ M, cd_isM B n M ∧ r = nI M) ∨ (∃ f q, cd_V B n 0 = (f, q) ∧ f ≠ 0 ∧ rd = false ∧ pl = nI q ∧ r = -1 - nI f)
theorem cd_rdP_eq {B : Nat → Nat} {n : Nat} {r r' : Int32} {rd rd' : Bool} {pl pl' : Int32} (h : cd_rdP B n r rd pl) (h' : cd_rdP B n r' rd' pl') : r = r' ∧ rd = rd' ∧ pl = pl' := by
  rcases h with ⟨h0, rfl, rfl, M, hM, rfl⟩ | ⟨f, q, hv, hf, rfl, rfl, rfl⟩
  · rcases h' with ⟨-, rfl, rfl, M', hM', rfl⟩ | ⟨f', q', hv', hf', rfl, rfl, rfl⟩
    · rw [cd_isM_eq hM hM']; exact ⟨rfl, rfl, rfl⟩
    · unfold cd_ok at h0; rw [h0] at hv'; cases hv'; exact absurd rfl hf'
  · rcases h' with ⟨h0, rfl, rfl, M', hM', rfl⟩ | ⟨f', q', hv', hf', rfl, rfl, rfl⟩
    · unfold cd_ok at h0; rw [h0] at hv; cases hv; exact absurd rfl hf
    · rw [hv] at hv'; cases hv'; exact ⟨rfl, rfl, rfl⟩
theorem cd_rdP_M {B : Nat → Nat} {n : Nat} {r pl : Int32} (h : cd_rdP B n r true pl) : cd_ok B n 0 ∧ ∃ M, cd_isM B n M ∧ r = nI M := by
  rcases h with ⟨h0, -, -, M, hM, hr⟩ | ⟨f, q, -, -, h, -⟩
  · exact ⟨h0, M, hM, hr⟩
  · cases h
end
section
set_option maxHeartbeats 4000000 in
set_option maxRecDepth 100000 in
theorem c_Model_read (l : Launch) (G : va_G) (ks : Nat → ClassId) (mo mt mk sz : Nat) (ft fk : Nat → Int32) (ln : Int32) (rd : Bool) (pl st me be : Int32) (B : Nat → Nat) (n : Nat) (hk : cd_kp B n ft) : cd_MetW (S := (Nat → Int32) × Bool × Int32 × Int32 × Int32 × Int32) l G ks y_Model_read b_Model_read 2 (some .int) 3 [.ref mo] (cd_M ks mo mt mk ft fk (nI n) ln rd pl st me be) sz (fun r u => cd_rdP B n r u.2.1 u.2.2.1 ∧ (u.2.1 = true → cd_kp B n u.1)) (fun u => cd_M ks mo mt mk ft u.1 0 (nI n) u.2.1 u.2.2.1 u.2.2.2.1 u.2.2.2.2.1 u.2.2.2.2.2) := by
  refine cd_metW (by decide) (Nat.le_of_ble_eq_true rfl) ?_
  intro pg e s m args below meth c R Q ls A H locs hQ hr hlk F E hP hD hA hS hl
  have hx := F.1
  have hb := F.2.1
  have hown := F.2.2.2.1
  have hts := F.2.2.2.2.1
  have hK := E.1
  have hl : lv_has ls 2 [(0, .ref mo)] := hl
  have hP : va_P G classes [(mo, .inr (3, [.ref mt, .int (nI n), .ref mk, .int ln, .int (cd_b rd), .int pl, .int st, .int me, .int be])), (mt, .inl (ks 3, 1000, .inl ft)), (mk, .inl (ks 4, 1000, .inl fk))] H := hP
  have hD : va_D A [(mo, .inr (3, [.ref mt, .int (nI n), .ref mk, .int ln, .int (cd_b rd), .int pl, .int st, .int me, .int be])), (mt, .inl (ks 3, 1000, .inl ft)), (mk, .inl (ks 4, 1000, .inl fk))] := hD
  obtain ⟨hN, hkb⟩ := id hk
  have fin2 : ∀ (f1 : Nat → Int32) (pl t0 m0 b0 : Int32) (H : Heap) (locs : List Loc) (ls : Array Slot), cd_kp B n f1 → cd_ok B n 0 → va_P G classes [(mo, .inr (3, [.ref mt, .int 0, .ref mk, .int (nI n), .int (cd_b false), .int pl, .int t0, .int m0, .int b0])), (mt, .inl (ks 3, 1000, .inl ft)), (mk, .inl (ks 4, 1000, .inl f1))] H → va_D A [(mo, .inr (3, [.ref mt, .int 0, .ref mk, .int (nI n), .int (cd_b false), .int pl, .int t0, .int m0, .int b0])), (mt, .inl (ks 3, 1000, .inl ft)), (mk, .inl (ks 4, 1000, .inl f1))] → va_S A s.heap H locs → lv_has ls 2 [(0, .ref mo)] → W pg l e R s m args below meth c H locs 0 0 Q (F0 m 95 ls []) := by
    intro f1 pl t0 m0 b0 H locs ls hk1 hok0 hP hD hS hl
    refine lv_aload_n hx hb d_Model_read_95 rfl (lv_at hl 0 rfl) ?_
    refine lv_iconst (v := -1) hx hb d_Model_read_96 (by decide) ?_
    refine va_put (D := G) (ci := 3) (v := .int (-1)) (ty := .int) (C := R_Model) (T := F_Model) (N := 9) hx hb hts i_Model t_Model t_Model_ok n_Model hown hK hP hD hS 0 rfl rfl 5 (by decide) (hts _ k_195) (fun _ h9 => h9) rfl (by decide +kernel) rfl rfl (Nat.le_of_ble_eq_true rfl) d_Model_read_97 (fun H locs hP hD hS => ?_)
    have hP : va_P G classes [(mo, .inr (3, [.ref mt, .int 0, .ref mk, .int (nI n), .int (cd_b false), .int (-1), .int t0, .int m0, .int b0])), (mt, .inl (ks 3, 1000, .inl ft)), (mk, .inl (ks 4, 1000, .inl f1))] H := hP
    have hD : va_D A [(mo, .inr (3, [.ref mt, .int 0, .ref mk, .int (nI n), .int (cd_b false), .int (-1), .int t0, .int m0, .int b0])), (mt, .inl (ks 3, 1000, .inl ft)), (mk, .inl (ks 4, 1000, .inl f1))] := hD
    refine lv_aload_n hx hb d_Model_read_100 rfl (lv_at hl 0 rfl) ?_
    refine lv_iconst (v := 1) hx hb d_Model_read_101 (by decide) ?_
    refine cd_top (y := cd_b true) (rfl) ?_
    refine va_put (D := G) (ci := 3) (v := .int (cd_b true)) (ty := .boolean) (C := R_Model) (T := F_Model) (N := 9) hx hb hts i_Model t_Model t_Model_ok n_Model hown hK hP hD hS 0 rfl rfl 4 (by decide) (hts _ k_194) (fun _ h9 => h9) rfl (by decide +kernel) (cd_nz true) (cd_fz true) (Nat.le_of_ble_eq_true rfl) d_Model_read_102 (fun H locs hP hD hS => ?_)
    have hP : va_P G classes [(mo, .inr (3, [.ref mt, .int 0, .ref mk, .int (nI n), .int (cd_b true), .int (-1), .int t0, .int m0, .int b0])), (mt, .inl (ks 3, 1000, .inl ft)), (mk, .inl (ks 4, 1000, .inl f1))] H := hP
    have hD : va_D A [(mo, .inr (3, [.ref mt, .int 0, .ref mk, .int (nI n), .int (cd_b true), .int (-1), .int t0, .int m0, .int b0])), (mt, .inl (ks 3, 1000, .inl ft)), (mk, .inl (ks 4, 1000, .inl f1))] := hD
    refine lv_iconst (v := 0) hx hb d_Model_read_105 (by decide) ?_
    refine lv_istore_n (lv' := [(1, .int 0), (0, .ref mo)]) hx hb d_Model_read_106 rfl hl (by decide) rfl (fun ls hl => ?_)
    refine lv_aload_n hx hb d_Model_read_107 rfl (lv_at hl 1 rfl) ?_
    refine lv_iconst (v := 0) hx hb d_Model_read_108 (by decide) ?_
    refine va_put (D := G) (ci := 3) (v := .int 0) (ty := .int) (C := R_Model) (T := F_Model) (N := 9) hx hb hts i_Model t_Model t_Model_ok n_Model hown hK hP hD hS 0 rfl rfl 6 (by decide) (hts _ k_196) (fun _ h9 => h9) rfl (by decide +kernel) rfl rfl (Nat.le_of_ble_eq_true rfl) d_Model_read_109 (fun H locs hP hD hS => ?_)
    have hP : va_P G classes [(mo, .inr (3, [.ref mt, .int 0, .ref mk, .int (nI n), .int (cd_b true), .int (-1), .int 0, .int m0, .int b0])), (mt, .inl (ks 3, 1000, .inl ft)), (mk, .inl (ks 4, 1000, .inl f1))] H := hP
    have hD : va_D A [(mo, .inr (3, [.ref mt, .int 0, .ref mk, .int (nI n), .int (cd_b true), .int (-1), .int 0, .int m0, .int b0])), (mt, .inl (ks 3, 1000, .inl ft)), (mk, .inl (ks 4, 1000, .inl f1))] := hD
    have cnt : ∀ (d k sv : Nat) (m0 b0 : Int32) (H : Heap) (locs : List Loc) (ls : Array Slot), n ≤ k + d → (∀ j, j < k → cd_P B n j < n) → cd_q B n sv = cd_P B n k → sv ≤ 1000 → va_P G classes [(mo, .inr (3, [.ref mt, .int 0, .ref mk, .int (nI n), .int (cd_b true), .int (-1), .int (nI sv), .int m0, .int b0])), (mt, .inl (ks 3, 1000, .inl ft)), (mk, .inl (ks 4, 1000, .inl f1))] H → va_D A [(mo, .inr (3, [.ref mt, .int 0, .ref mk, .int (nI n), .int (cd_b true), .int (-1), .int (nI sv), .int m0, .int b0])), (mt, .inl (ks 3, 1000, .inl ft)), (mk, .inl (ks 4, 1000, .inl f1))] → va_S A s.heap H locs → lv_has ls 2 [(0, .ref mo), (1, .int (nI k))] → W pg l e R s m args below meth c H locs 0 0 Q (F0 m 112 ls []) := by
      intro d
      induction d with
      | zero =>
        intro k sv m0 b0 H locs ls hd hlt0 hq hsv hP hD hS hl
        have hkP := cd_P_ge B n k
        refine lv_aload_n hx hb d_Model_read_112 rfl (lv_at hl 0 rfl) ?_
        have hsq : cd_q B n sv < n → ∃ c n1, cd_seq B n (cd_q B n sv) = some (c, n1) := fun hl9 => by rw [hq] at hl9 ⊢; obtain ⟨c, n1, hs, -, -⟩ := cd_ok_st (cd_ok_P hok0 k) hl9; exact ⟨c, n1, hs⟩
        refine cd_callW (rest := []) (wc := [(mo, .inr (3, [.ref mt, .int 0, .ref mk, .int (nI n), .int (cd_b true), .int (-1), .int (nI sv), .int m0, .int b0])), (mt, .inl (ks 3, 1000, .inl ft)), (mk, .inl (ks 4, 1000, .inl f1))]) (wr := []) F E hP hD hS hA [0, 1, 2] [] rfl rfl rfl (by decide) (by decide) (by decide) (c_Model_next l G ks mo mt mk H.size ft f1 0 true (-1) m0 b0 B n sv hk1 hsv hsq) (by decide) (by decide) 0 3 rfl rfl k_254 k_256 k_s4 k_4 k_257 (show cd_desc y_Model_next 0 by decide +kernel) ⟨Nat.zero_le _, Nat.zero_le _⟩ rfl hl.1 (Nat.le_of_ble_eq_true rfl) d_Model_read_113 (fun r u H locs hw hP hD hS => ?_)
        rw [hq] at hw
        have hP : va_P G classes [(mo, .inr (3, [.ref mt, .int 0, .ref mk, .int (nI n), .int (cd_b true), .int (-1), .int u.1, .int u.2.1, .int u.2.2])), (mt, .inl (ks 3, 1000, .inl ft)), (mk, .inl (ks 4, 1000, .inl f1))] H := hP
        have hD : va_D A [(mo, .inr (3, [.ref mt, .int 0, .ref mk, .int (nI n), .int (cd_b true), .int (-1), .int u.1, .int u.2.1, .int u.2.2])), (mt, .inl (ks 3, 1000, .inl ft)), (mk, .inl (ks 4, 1000, .inl f1))] := hD
        rcases hw with ⟨hlt, rfl, rfl⟩ | ⟨hge, rfl, rfl⟩
        · omega
        · have hP : va_P G classes [(mo, .inr (3, [.ref mt, .int 0, .ref mk, .int (nI n), .int (cd_b true), .int (-1), .int (nI (cd_P B n k)), .int m0, .int b0])), (mt, .inl (ks 3, 1000, .inl ft)), (mk, .inl (ks 4, 1000, .inl f1))] H := hP
          have hD : va_D A [(mo, .inr (3, [.ref mt, .int 0, .ref mk, .int (nI n), .int (cd_b true), .int (-1), .int (nI (cd_P B n k)), .int m0, .int b0])), (mt, .inl (ks 3, 1000, .inl ft)), (mk, .inl (ks 4, 1000, .inl f1))] := hD
          refine cd_if_eq (tgt := 125) hx hb d_Model_read_116 (by decide) (show (0 : Int32).toInt = 0 by decide) (fun c116 => ?_) (fun c116 => ?_)
          · refine lv_iload_n hx hb d_Model_read_125 rfl (lv_at hl 1 rfl) ?_
            exact cd_retWi hQ hx hb hr hlk d_Model_read_126 hS ((f1, true, (-1), nI (cd_P B n k), m0, b0)) (⟨Or.inl ⟨hok0, rfl, rfl, k, ⟨hge, hlt0⟩, rfl⟩, fun _ => hk1⟩) hP hD
          · exact absurd c116 (by decide)
      | succ d ih =>
        intro k sv m0 b0 H locs ls hd hlt0 hq hsv hP hD hS hl
        have hkP := cd_P_ge B n k
        refine lv_aload_n hx hb d_Model_read_112 rfl (lv_at hl 0 rfl) ?_
        have hsq : cd_q B n sv < n → ∃ c n1, cd_seq B n (cd_q B n sv) = some (c, n1) := fun hl9 => by rw [hq] at hl9 ⊢; obtain ⟨c, n1, hs, -, -⟩ := cd_ok_st (cd_ok_P hok0 k) hl9; exact ⟨c, n1, hs⟩
        refine cd_callW (rest := []) (wc := [(mo, .inr (3, [.ref mt, .int 0, .ref mk, .int (nI n), .int (cd_b true), .int (-1), .int (nI sv), .int m0, .int b0])), (mt, .inl (ks 3, 1000, .inl ft)), (mk, .inl (ks 4, 1000, .inl f1))]) (wr := []) F E hP hD hS hA [0, 1, 2] [] rfl rfl rfl (by decide) (by decide) (by decide) (c_Model_next l G ks mo mt mk H.size ft f1 0 true (-1) m0 b0 B n sv hk1 hsv hsq) (by decide) (by decide) 0 3 rfl rfl k_254 k_256 k_s4 k_4 k_257 (show cd_desc y_Model_next 0 by decide +kernel) ⟨Nat.zero_le _, Nat.zero_le _⟩ rfl hl.1 (Nat.le_of_ble_eq_true rfl) d_Model_read_113 (fun r u H locs hw hP hD hS => ?_)
        rw [hq] at hw
        have hP : va_P G classes [(mo, .inr (3, [.ref mt, .int 0, .ref mk, .int (nI n), .int (cd_b true), .int (-1), .int u.1, .int u.2.1, .int u.2.2])), (mt, .inl (ks 3, 1000, .inl ft)), (mk, .inl (ks 4, 1000, .inl f1))] H := hP
        have hD : va_D A [(mo, .inr (3, [.ref mt, .int 0, .ref mk, .int (nI n), .int (cd_b true), .int (-1), .int u.1, .int u.2.1, .int u.2.2])), (mt, .inl (ks 3, 1000, .inl ft)), (mk, .inl (ks 4, 1000, .inl f1))] := hD
        rcases hw with ⟨hlt, rfl, rfl⟩ | ⟨hge, rfl, rfl⟩
        · obtain ⟨c9, n9, hsq1, -, -⟩ := cd_ok_st (cd_ok_P hok0 k) hlt
          have hP : va_P G classes [(mo, .inr (3, [.ref mt, .int 0, .ref mk, .int (nI n), .int (cd_b true), .int (-1), .int (nI (cd_P B n (k + 1))), .int (nI (cd_chr B n (cd_P B n k))), .int (nI (cd_P B n k))])), (mt, .inl (ks 3, 1000, .inl ft)), (mk, .inl (ks 4, 1000, .inl f1))] H := hP
          have hD : va_D A [(mo, .inr (3, [.ref mt, .int 0, .ref mk, .int (nI n), .int (cd_b true), .int (-1), .int (nI (cd_P B n (k + 1))), .int (nI (cd_chr B n (cd_P B n k))), .int (nI (cd_P B n k))])), (mt, .inl (ks 3, 1000, .inl ft)), (mk, .inl (ks 4, 1000, .inl f1))] := hD
          refine cd_if_eq (tgt := 125) hx hb d_Model_read_116 (by decide) (show (1 : Int32).toInt = 1 by decide) (fun c116 => ?_) (fun c116 => ?_)
          · exact absurd c116 (by decide)
          · refine lv_iinc (v := nI (k + 1)) (lv' := [(1, .int (nI (k + 1))), (0, .ref mo)]) hx hb d_Model_read_119 hl (k := 1) rfl (nI_add k 1) (by decide) rfl (fun ls hl => ?_)
            refine lv_goto (tgt := 112) hx hb d_Model_read_122 (by decide) ?_
            exact ih (k + 1) (cd_P B n (k + 1)) _ _ H locs ls (by omega) (fun j hj => by rcases Nat.lt_or_ge j k with q | q; (· exact hlt0 j q); (· obtain rfl : j = k := (by omega); exact hlt)) (cd_q_P B n k) (by have := cd_nx_le hsq1; exact Nat.le_trans this hN) hP hD hS (lv_sub hl [1, 0] rfl)
        · have hP : va_P G classes [(mo, .inr (3, [.ref mt, .int 0, .ref mk, .int (nI n), .int (cd_b true), .int (-1), .int (nI (cd_P B n k)), .int m0, .int b0])), (mt, .inl (ks 3, 1000, .inl ft)), (mk, .inl (ks 4, 1000, .inl f1))] H := hP
          have hD : va_D A [(mo, .inr (3, [.ref mt, .int 0, .ref mk, .int (nI n), .int (cd_b true), .int (-1), .int (nI (cd_P B n k)), .int m0, .int b0])), (mt, .inl (ks 3, 1000, .inl ft)), (mk, .inl (ks 4, 1000, .inl f1))] := hD
          refine cd_if_eq (tgt := 125) hx hb d_Model_read_116 (by decide) (show (0 : Int32).toInt = 0 by decide) (fun c116 => ?_) (fun c116 => ?_)
          · refine lv_iload_n hx hb d_Model_read_125 rfl (lv_at hl 1 rfl) ?_
            exact cd_retWi hQ hx hb hr hlk d_Model_read_126 hS ((f1, true, (-1), nI (cd_P B n k), m0, b0)) (⟨Or.inl ⟨hok0, rfl, rfl, k, ⟨hge, hlt0⟩, rfl⟩, fun _ => hk1⟩) hP hD
          · exact absurd c116 (by decide)
    exact cnt n 0 0 _ _ H locs ls (by omega) (fun j hj => by omega) (cd_q_0 B n) (by omega) hP hD hS (lv_sub hl [1, 0] rfl)
  have fin1 : ∀ (f1 : Nat → Int32) (t0 m0 b0 : Int32) (H : Heap) (locs : List Loc) (ls : Array Slot), cd_kp B n f1 → va_P G classes [(mo, .inr (3, [.ref mt, .int 0, .ref mk, .int (nI n), .int (cd_b false), .int pl, .int t0, .int m0, .int b0])), (mt, .inl (ks 3, 1000, .inl ft)), (mk, .inl (ks 4, 1000, .inl f1))] H → va_D A [(mo, .inr (3, [.ref mt, .int 0, .ref mk, .int (nI n), .int (cd_b false), .int pl, .int t0, .int m0, .int b0])), (mt, .inl (ks 3, 1000, .inl ft)), (mk, .inl (ks 4, 1000, .inl f1))] → va_S A s.heap H locs → lv_has ls 2 [(0, .ref mo)] → W pg l e R s m args below meth c H locs 0 0 Q (F0 m 46 ls []) := by
    intro f1 t0 m0 b0 H locs ls hk1 hP hD hS hl
    refine lv_aload_n hx hb d_Model_read_46 rfl (lv_at hl 0 rfl) ?_
    refine lv_iconst (v := 0) hx hb d_Model_read_47 (by decide) ?_
    refine va_put (D := G) (ci := 3) (v := .int 0) (ty := .int) (C := R_Model) (T := F_Model) (N := 9) hx hb hts i_Model t_Model t_Model_ok n_Model hown hK hP hD hS 0 rfl rfl 6 (by decide) (hts _ k_196) (fun _ h9 => h9) rfl (by decide +kernel) rfl rfl (Nat.le_of_ble_eq_true rfl) d_Model_read_48 (fun H locs hP hD hS => ?_)
    have hP : va_P G classes [(mo, .inr (3, [.ref mt, .int 0, .ref mk, .int (nI n), .int (cd_b false), .int pl, .int 0, .int m0, .int b0])), (mt, .inl (ks 3, 1000, .inl ft)), (mk, .inl (ks 4, 1000, .inl f1))] H := hP
    have hD : va_D A [(mo, .inr (3, [.ref mt, .int 0, .ref mk, .int (nI n), .int (cd_b false), .int pl, .int 0, .int m0, .int b0])), (mt, .inl (ks 3, 1000, .inl ft)), (mk, .inl (ks 4, 1000, .inl f1))] := hD
    have val : ∀ (d p : Nat) (pl : Int32) (H : Heap) (locs : List Loc) (ls : Array Slot), n ≤ p + d → p ≤ n → cd_V B n p = cd_V B n 0 → va_P G classes [(mo, .inr (3, [.ref mt, .int 0, .ref mk, .int (nI n), .int (cd_b false), .int pl, .int (nI p), .int m0, .int b0])), (mt, .inl (ks 3, 1000, .inl ft)), (mk, .inl (ks 4, 1000, .inl f1))] H → va_D A [(mo, .inr (3, [.ref mt, .int 0, .ref mk, .int (nI n), .int (cd_b false), .int pl, .int (nI p), .int m0, .int b0])), (mt, .inl (ks 3, 1000, .inl ft)), (mk, .inl (ks 4, 1000, .inl f1))] → va_S A s.heap H locs → lv_has ls 2 [(0, .ref mo)] → W pg l e R s m args below meth c H locs 0 0 Q (F0 m 51 ls []) := by
      intro d
      induction d with
      | zero =>
        intro p pl H locs ls hd hpn hV hP hD hS hl
        refine lv_aload_n hx hb d_Model_read_51 rfl (lv_at hl 0 rfl) ?_
        refine va_get (D := G) (ci := 3) (v := .int (nI p)) (C := R_Model) (T := F_Model) (N := 9) hx hb hts i_Model hown hK hP 0 rfl rfl 6 (by decide) (hts _ k_196) (fun _ h9 => h9) rfl d_Model_read_52 ?_
        refine lv_aload_n hx hb d_Model_read_55 rfl (lv_at hl 0 rfl) ?_
        refine va_get (D := G) (ci := 3) (v := .int (nI n)) (C := R_Model) (T := F_Model) (N := 9) hx hb hts i_Model hown hK hP 0 rfl rfl 3 (by decide) (hts _ k_193) (fun _ h9 => h9) rfl d_Model_read_56 ?_
        refine cd_icmp_ge (tgt := 95) hx hb d_Model_read_59 (by decide) (nI_toInt (n := p) (by omega)) (nI_toInt (n := n) (by omega)) (fun c59 => ?_) (fun c59 => ?_)
        · exact fin2 f1 _ _ _ _ H locs ls hk1 (by unfold cd_ok; rw [← hV]; exact cd_V_ge (by omega)) hP hD hS (lv_sub hl [0] rfl)
        · exact absurd c59 (by omega)
      | succ d ih =>
        intro p pl H locs ls hd hpn hV hP hD hS hl
        refine lv_aload_n hx hb d_Model_read_51 rfl (lv_at hl 0 rfl) ?_
        refine va_get (D := G) (ci := 3) (v := .int (nI p)) (C := R_Model) (T := F_Model) (N := 9) hx hb hts i_Model hown hK hP 0 rfl rfl 6 (by decide) (hts _ k_196) (fun _ h9 => h9) rfl d_Model_read_52 ?_
        refine lv_aload_n hx hb d_Model_read_55 rfl (lv_at hl 0 rfl) ?_
        refine va_get (D := G) (ci := 3) (v := .int (nI n)) (C := R_Model) (T := F_Model) (N := 9) hx hb hts i_Model hown hK hP 0 rfl rfl 3 (by decide) (hts _ k_193) (fun _ h9 => h9) rfl d_Model_read_56 ?_
        refine cd_icmp_ge (tgt := 95) hx hb d_Model_read_59 (by decide) (nI_toInt (n := p) (by omega)) (nI_toInt (n := n) (by omega)) (fun c59 => ?_) (fun c59 => ?_)
        · exact fin2 f1 _ _ _ _ H locs ls hk1 (by unfold cd_ok; rw [← hV]; exact cd_V_ge (by omega)) hP hD hS (lv_sub hl [0] rfl)
        · refine lv_aload_n hx hb d_Model_read_62 rfl (lv_at hl 0 rfl) ?_
          refine lv_aload_n hx hb d_Model_read_63 rfl (lv_at hl 0 rfl) ?_
          refine va_get (D := G) (ci := 3) (v := .int (nI p)) (C := R_Model) (T := F_Model) (N := 9) hx hb hts i_Model hown hK hP 0 rfl rfl 6 (by decide) (hts _ k_196) (fun _ h9 => h9) rfl d_Model_read_64 ?_
          refine va_put (D := G) (ci := 3) (v := .int (nI p)) (ty := .int) (C := R_Model) (T := F_Model) (N := 9) hx hb hts i_Model t_Model t_Model_ok n_Model hown hK hP hD hS 0 rfl rfl 5 (by decide) (hts _ k_195) (fun _ h9 => h9) rfl (by decide +kernel) rfl rfl (Nat.le_of_ble_eq_true rfl) d_Model_read_67 (fun H locs hP hD hS => ?_)
          have hP : va_P G classes [(mo, .inr (3, [.ref mt, .int 0, .ref mk, .int (nI n), .int (cd_b false), .int (nI p), .int (nI p), .int m0, .int b0])), (mt, .inl (ks 3, 1000, .inl ft)), (mk, .inl (ks 4, 1000, .inl f1))] H := hP
          have hD : va_D A [(mo, .inr (3, [.ref mt, .int 0, .ref mk, .int (nI n), .int (cd_b false), .int (nI p), .int (nI p), .int m0, .int b0])), (mt, .inl (ks 3, 1000, .inl ft)), (mk, .inl (ks 4, 1000, .inl f1))] := hD
          refine lv_aload_n hx hb d_Model_read_70 rfl (lv_at hl 0 rfl) ?_
          refine cd_callW (rest := []) (wc := [(mo, .inr (3, [.ref mt, .int 0, .ref mk, .int (nI n), .int (cd_b false), .int (nI p), .int (nI p), .int m0, .int b0])), (mt, .inl (ks 3, 1000, .inl ft)), (mk, .inl (ks 4, 1000, .inl f1))]) (wr := []) F E hP hD hS hA [0, 1, 2] [] rfl rfl rfl (by decide) (by decide) (by decide) (c_Model_sequence l G ks mo mt mk H.size ft f1 0 false (nI p) m0 b0 B n p hk1 (by omega)) (by decide) (by decide) 0 3 rfl rfl k_244 k_246 k_s3 k_4 k_247 (show cd_desc y_Model_sequence 0 by decide +kernel) ⟨Nat.zero_le _, Nat.zero_le _⟩ rfl hl.1 (Nat.le_of_ble_eq_true rfl) d_Model_read_71 (fun r u H locs hw hP hD hS => ?_)
          have hP : va_P G classes [(mo, .inr (3, [.ref mt, .int 0, .ref mk, .int (nI n), .int (cd_b false), .int (nI p), .int u, .int m0, .int b0])), (mt, .inl (ks 3, 1000, .inl ft)), (mk, .inl (ks 4, 1000, .inl f1))] H := hP
          have hD : va_D A [(mo, .inr (3, [.ref mt, .int 0, .ref mk, .int (nI n), .int (cd_b false), .int (nI p), .int u, .int m0, .int b0])), (mt, .inl (ks 3, 1000, .inl ft)), (mk, .inl (ks 4, 1000, .inl f1))] := hD
          rcases hs : cd_seq B n p with _ | q9
          · rw [hs] at hw
            obtain ⟨rfl, rfl⟩ := hw
            have hP : va_P G classes [(mo, .inr (3, [.ref mt, .int 0, .ref mk, .int (nI n), .int (cd_b false), .int (nI p), .int (nI p), .int m0, .int b0])), (mt, .inl (ks 3, 1000, .inl ft)), (mk, .inl (ks 4, 1000, .inl f1))] H := hP
            have hD : va_D A [(mo, .inr (3, [.ref mt, .int 0, .ref mk, .int (nI n), .int (cd_b false), .int (nI p), .int (nI p), .int m0, .int b0])), (mt, .inl (ks 3, 1000, .inl ft)), (mk, .inl (ks 4, 1000, .inl f1))] := hD
            refine lv_istore_n (lv' := [(1, .int (-1)), (0, .ref mo)]) hx hb d_Model_read_74 rfl hl (by decide) rfl (fun ls hl => ?_)
            refine lv_iload_n hx hb d_Model_read_75 rfl (lv_at hl 0 rfl) ?_
            refine cd_if_ge (tgt := 82) hx hb d_Model_read_76 (by decide) (show (-1 : Int32).toInt = -1 by decide) (fun c76 => ?_) (fun c76 => ?_)
            · exact absurd c76 (by decide)
            · refine lv_bipush (v := -2) hx hb d_Model_read_79 (by decide) ?_
              exact cd_retWi hQ hx hb hr hlk d_Model_read_81 hS ((f1, false, nI p, nI p, m0, b0)) (⟨Or.inr ⟨1, p, by rw [← hV]; exact cd_V_none (by omega) hs, by decide, rfl, rfl, by decide⟩, fun h9 => by cases h9⟩) hP hD
          · obtain ⟨x, n1⟩ := q9
            have hso := cd_seq_ok hs
            rw [hs] at hw
            obtain ⟨rfl, rfl⟩ := hw
            have hP : va_P G classes [(mo, .inr (3, [.ref mt, .int 0, .ref mk, .int (nI n), .int (cd_b false), .int (nI p), .int (nI (p + n1)), .int m0, .int b0])), (mt, .inl (ks 3, 1000, .inl ft)), (mk, .inl (ks 4, 1000, .inl f1))] H := hP
            have hD : va_D A [(mo, .inr (3, [.ref mt, .int 0, .ref mk, .int (nI n), .int (cd_b false), .int (nI p), .int (nI (p + n1)), .int m0, .int b0])), (mt, .inl (ks 3, 1000, .inl ft)), (mk, .inl (ks 4, 1000, .inl f1))] := hD
            refine lv_istore_n (lv' := [(1, .int (nI x)), (0, .ref mo)]) hx hb d_Model_read_74 rfl hl (by decide) rfl (fun ls hl => ?_)
            refine lv_iload_n hx hb d_Model_read_75 rfl (lv_at hl 0 rfl) ?_
            refine cd_if_ge (tgt := 82) hx hb d_Model_read_76 (by decide) (nI_toInt (n := x) (by omega)) (fun c76 => ?_) (fun c76 => ?_)
            · refine lv_iload_n hx hb d_Model_read_82 rfl (lv_at hl 0 rfl) ?_
              refine cd_callP (rest := []) F (c_Model_isAllowed l (nI x)) (by decide) (by decide) k_248 k_249 k_4 k_250 (show cd_desc y_Model_isAllowed 1 by decide +kernel) (fun _ _ _ _ _ => trivial) (fun _ _ _ => trivial) ⟨Nat.zero_le _, Nat.zero_le _⟩ rfl hl.1 (Nat.le_of_ble_eq_true rfl) d_Model_read_83 (fun r hr => ?_)
              subst hr
              refine cd_top (y := cd_b (cd_alw (x : Int))) (by rw [nI_toInt (by omega)]) ?_
              refine cd_if_ne_b (tgt := 92) hx hb d_Model_read_86 (by decide) (fun c86 => ?_) (fun c86 => ?_)
              · refine lv_goto (tgt := 51) hx hb d_Model_read_92 (by decide) ?_
                exact ih (p + n1) _ H locs ls (by omega) (by omega) (by rw [← hV]; exact (cd_V_go (by omega) hs c86).symm) hP hD hS (lv_sub hl [1] rfl)
              · refine lv_bipush (v := -3) hx hb d_Model_read_89 (by decide) ?_
                exact cd_retWi hQ hx hb hr hlk d_Model_read_91 hS ((f1, false, nI p, nI (p + n1), m0, b0)) (⟨Or.inr ⟨2, p, by rw [← hV]; exact cd_V_bad (by omega) hs c86, by decide, rfl, rfl, by decide⟩, fun h9 => by cases h9⟩) hP hD
            · exact absurd c76 (by omega)
    exact val n 0 _ H locs ls (by omega) (by omega) rfl hP hD hS (lv_sub hl [0] rfl)
  refine lv_aload_n hx hb d_Model_read_0 rfl (lv_at hl 0 rfl) ?_
  refine lv_aload_n hx hb d_Model_read_1 rfl (lv_at hl 0 rfl) ?_
  refine va_get (D := G) (ci := 3) (v := .int (nI n)) (C := R_Model) (T := F_Model) (N := 9) hx hb hts i_Model hown hK hP 0 rfl rfl 1 (by decide) (hts _ k_191) (fun _ h9 => h9) rfl d_Model_read_2 ?_
  refine va_put (D := G) (ci := 3) (v := .int (nI n)) (ty := .int) (C := R_Model) (T := F_Model) (N := 9) hx hb hts i_Model t_Model t_Model_ok n_Model hown hK hP hD hS 0 rfl rfl 3 (by decide) (hts _ k_193) (fun _ h9 => h9) rfl (by decide +kernel) rfl rfl (Nat.le_of_ble_eq_true rfl) d_Model_read_5 (fun H locs hP hD hS => ?_)
  have hP : va_P G classes [(mo, .inr (3, [.ref mt, .int (nI n), .ref mk, .int (nI n), .int (cd_b rd), .int pl, .int st, .int me, .int be])), (mt, .inl (ks 3, 1000, .inl ft)), (mk, .inl (ks 4, 1000, .inl fk))] H := hP
  have hD : va_D A [(mo, .inr (3, [.ref mt, .int (nI n), .ref mk, .int (nI n), .int (cd_b rd), .int pl, .int st, .int me, .int be])), (mt, .inl (ks 3, 1000, .inl ft)), (mk, .inl (ks 4, 1000, .inl fk))] := hD
  refine lv_aload_n hx hb d_Model_read_8 rfl (lv_at hl 0 rfl) ?_
  refine lv_iconst (v := 0) hx hb d_Model_read_9 (by decide) ?_
  refine va_put (D := G) (ci := 3) (v := .int 0) (ty := .int) (C := R_Model) (T := F_Model) (N := 9) hx hb hts i_Model t_Model t_Model_ok n_Model hown hK hP hD hS 0 rfl rfl 1 (by decide) (hts _ k_191) (fun _ h9 => h9) rfl (by decide +kernel) rfl rfl (Nat.le_of_ble_eq_true rfl) d_Model_read_10 (fun H locs hP hD hS => ?_)
  have hP : va_P G classes [(mo, .inr (3, [.ref mt, .int 0, .ref mk, .int (nI n), .int (cd_b rd), .int pl, .int st, .int me, .int be])), (mt, .inl (ks 3, 1000, .inl ft)), (mk, .inl (ks 4, 1000, .inl fk))] H := hP
  have hD : va_D A [(mo, .inr (3, [.ref mt, .int 0, .ref mk, .int (nI n), .int (cd_b rd), .int pl, .int st, .int me, .int be])), (mt, .inl (ks 3, 1000, .inl ft)), (mk, .inl (ks 4, 1000, .inl fk))] := hD
  refine lv_aload_n hx hb d_Model_read_13 rfl (lv_at hl 0 rfl) ?_
  refine lv_iconst (v := 0) hx hb d_Model_read_14 (by decide) ?_
  refine cd_top (y := cd_b false) (rfl) ?_
  refine va_put (D := G) (ci := 3) (v := .int (cd_b false)) (ty := .boolean) (C := R_Model) (T := F_Model) (N := 9) hx hb hts i_Model t_Model t_Model_ok n_Model hown hK hP hD hS 0 rfl rfl 4 (by decide) (hts _ k_194) (fun _ h9 => h9) rfl (by decide +kernel) (cd_nz false) (cd_fz false) (Nat.le_of_ble_eq_true rfl) d_Model_read_15 (fun H locs hP hD hS => ?_)
  have hP : va_P G classes [(mo, .inr (3, [.ref mt, .int 0, .ref mk, .int (nI n), .int (cd_b false), .int pl, .int st, .int me, .int be])), (mt, .inl (ks 3, 1000, .inl ft)), (mk, .inl (ks 4, 1000, .inl fk))] H := hP
  have hD : va_D A [(mo, .inr (3, [.ref mt, .int 0, .ref mk, .int (nI n), .int (cd_b false), .int pl, .int st, .int me, .int be])), (mt, .inl (ks 3, 1000, .inl ft)), (mk, .inl (ks 4, 1000, .inl fk))] := hD
  refine lv_iconst (v := 0) hx hb d_Model_read_18 (by decide) ?_
  refine lv_istore_n (lv' := [(1, .int 0), (0, .ref mo)]) hx hb d_Model_read_19 rfl hl (by decide) rfl (fun ls hl => ?_)
  have cpy : ∀ (d k : Nat) (f1 : Nat → Int32) (H : Heap) (locs : List Loc) (ls : Array Slot), n = k + d → (∀ j, j < k → f1 j = nI (B j)) → va_P G classes [(mo, .inr (3, [.ref mt, .int 0, .ref mk, .int (nI n), .int (cd_b false), .int pl, .int st, .int me, .int be])), (mt, .inl (ks 3, 1000, .inl ft)), (mk, .inl (ks 4, 1000, .inl f1))] H → va_D A [(mo, .inr (3, [.ref mt, .int 0, .ref mk, .int (nI n), .int (cd_b false), .int pl, .int st, .int me, .int be])), (mt, .inl (ks 3, 1000, .inl ft)), (mk, .inl (ks 4, 1000, .inl f1))] → va_S A s.heap H locs → lv_has ls 2 [(0, .ref mo), (1, .int (nI k))] → W pg l e R s m args below meth c H locs 0 0 Q (F0 m 20 ls []) := by
    intro d
    induction d with
    | zero =>
      intro k f1 H locs ls hd hcp hP hD hS hl
      refine lv_iload_n hx hb d_Model_read_20 rfl (lv_at hl 1 rfl) ?_
      refine lv_aload_n hx hb d_Model_read_21 rfl (lv_at hl 0 rfl) ?_
      refine va_get (D := G) (ci := 3) (v := .int (nI n)) (C := R_Model) (T := F_Model) (N := 9) hx hb hts i_Model hown hK hP 0 rfl rfl 3 (by decide) (hts _ k_193) (fun _ h9 => h9) rfl d_Model_read_22 ?_
      refine cd_icmp_ge (tgt := 46) hx hb d_Model_read_25 (by decide) (nI_toInt (n := k) (by omega)) (nI_toInt (n := n) (by omega)) (fun c25 => ?_) (fun c25 => ?_)
      · exact fin1 _ _ _ _ H locs ls ⟨hN, fun j hj => ⟨(hkb j hj).1, hcp j (by omega)⟩⟩ hP hD hS (lv_sub hl [0] rfl)
      · exact absurd c25 (by omega)
    | succ d ih =>
      intro k f1 H locs ls hd hcp hP hD hS hl
      refine lv_iload_n hx hb d_Model_read_20 rfl (lv_at hl 1 rfl) ?_
      refine lv_aload_n hx hb d_Model_read_21 rfl (lv_at hl 0 rfl) ?_
      refine va_get (D := G) (ci := 3) (v := .int (nI n)) (C := R_Model) (T := F_Model) (N := 9) hx hb hts i_Model hown hK hP 0 rfl rfl 3 (by decide) (hts _ k_193) (fun _ h9 => h9) rfl d_Model_read_22 ?_
      refine cd_icmp_ge (tgt := 46) hx hb d_Model_read_25 (by decide) (nI_toInt (n := k) (by omega)) (nI_toInt (n := n) (by omega)) (fun c25 => ?_) (fun c25 => ?_)
      · exact absurd c25 (by omega)
      · refine lv_aload_n hx hb d_Model_read_28 rfl (lv_at hl 0 rfl) ?_
        refine va_get (D := G) (ci := 3) (v := .ref mk) (C := R_Model) (T := F_Model) (N := 9) hx hb hts i_Model hown hK hP 0 rfl rfl 2 (by decide) (hts _ k_192) (fun _ h9 => h9) rfl d_Model_read_29 ?_
        refine lv_iload_n hx hb d_Model_read_32 rfl (lv_at hl 1 rfl) ?_
        refine lv_aload_n hx hb d_Model_read_33 rfl (lv_at hl 0 rfl) ?_
        refine va_get (D := G) (ci := 3) (v := .ref mt) (C := R_Model) (T := F_Model) (N := 9) hx hb hts i_Model hown hK hP 0 rfl rfl 0 (by decide) (hts _ k_190) (fun _ h9 => h9) rfl d_Model_read_34 ?_
        refine lv_iload_n hx hb d_Model_read_37 rfl (lv_at hl 1 rfl) ?_
        refine cd_iald (D := G) hx hb hK hP 1 3 rfl rfl (n0 := k) (by omega) (by omega) d_Model_read_38 ?_
        refine cd_top (y := nI (B k)) ((hkb k (by omega)).2) ?_
        refine cd_iast (D := G) hx hb hK hP hD hS 2 4 rfl rfl (n0 := k) (by omega) (by omega) d_Model_read_39 (fun H locs hP hD hS => ?_)
        have hP : va_P G classes [(mo, .inr (3, [.ref mt, .int 0, .ref mk, .int (nI n), .int (cd_b false), .int pl, .int st, .int me, .int be])), (mt, .inl (ks 3, 1000, .inl ft)), (mk, .inl (ks 4, 1000, .inl (upd f1 k (nI (B k)))))] H := hP
        have hD : va_D A [(mo, .inr (3, [.ref mt, .int 0, .ref mk, .int (nI n), .int (cd_b false), .int pl, .int st, .int me, .int be])), (mt, .inl (ks 3, 1000, .inl ft)), (mk, .inl (ks 4, 1000, .inl (upd f1 k (nI (B k)))))] := hD
        refine lv_iinc (v := nI (k + 1)) (lv' := [(1, .int (nI (k + 1))), (0, .ref mo)]) hx hb d_Model_read_40 hl (k := 1) rfl (nI_add k 1) (by decide) rfl (fun ls hl => ?_)
        refine lv_goto (tgt := 20) hx hb d_Model_read_43 (by decide) ?_
        exact ih (k + 1) _ H locs ls (by omega) (fun j hj => by rcases Nat.lt_or_ge j k with q | q; (· rw [pk_un (by omega)]; exact hcp j q); (· obtain rfl : j = k := (by omega); exact pk_us)) hP hD hS (lv_sub hl [1, 0] rfl)
  exact cpy n 0 _ H locs ls (by omega) (fun j hj => by omega) hP hD hS (lv_sub hl [1, 0] rfl)
end
section
/-! bits of longs and bytes (the first rows, wb_ and g_, out of kit/laws/BITS.to-paste) -/
theorem wb_tb (n : Nat) : (lN n).toBitVec = BitVec.ofNat 64 n := rfl
theorem wb_inj {a b : Int64} (h : a.toBitVec = b.toBitVec) : a = b := Int64.toBitVec_inj.mp h
theorem wb_tn {n : Nat} (h : n < 2 ^ 64) : (lN n).toBitVec.toNat = n := by rw [wb_tb, BitVec.toNat_ofNat, Nat.mod_eq_of_lt h]
theorem wb_of (x : Int64) : ∃ n, n < 2 ^ 64 ∧ x = lN n := ⟨x.toBitVec.toNat, x.toBitVec.isLt, wb_inj (by rw [wb_tb]; simp)⟩
theorem wb_c : ∀ k, k < 64 → ((nI k).toInt64 &&& 63) = lN k := by decide +kernel
theorem wb_sm : ∀ k, k < 64 → (BitVec.ofNat 64 k).smod 64 = BitVec.ofNat 64 k := by decide +kernel
theorem wb_shl (n : Nat) {k : Nat} (hk : k < 64) : lN n <<< ((nI k).toInt64 &&& 63) = lN (n * 2 ^ k) := by
  rw [wb_c k hk]
  apply wb_inj
  rw [Int64.toBitVec_shiftLeft, wb_tb, wb_tb, wb_tb, wb_sm k hk]
  apply BitVec.eq_of_toNat_eq
  rw [BitVec.shiftLeft_eq', BitVec.toNat_shiftLeft, BitVec.toNat_ofNat, BitVec.toNat_ofNat, BitVec.toNat_ofNat, Nat.mod_eq_of_lt (show k < 2 ^ 64 by omega), Nat.shiftLeft_eq, Nat.mul_mod, Nat.mod_mod, ← Nat.mul_mod]
theorem u_tn {n : Nat} (h : n < 2 ^ 64) : (UInt64.ofNat n).toNat = n := Nat.mod_eq_of_lt h
theorem g_and {a b c : Nat} (ha : a < 2 ^ 64) (hb : b < 2 ^ 64) (hc : a &&& b = c) : lN a &&& lN b = lN c := by
  subst hc
  have h : UInt64.ofNat a &&& UInt64.ofNat b = UInt64.ofNat (a &&& b) := UInt64.toNat_inj.mp (by rw [UInt64.toNat_and, u_tn ha, u_tn hb, u_tn (Nat.and_lt_two_pow a hb)])
  have h2 := congrArg UInt64.toInt64 h
  exact h2
theorem g_mask {a s p : Nat} (hp : 2 ^ s = p) (hs : s < 64) (ha : a < 2 ^ 64) : lN a &&& lN (p - 1) = lN (a % p) := by
  subst hp
  have := Nat.pow_lt_pow_right (show 1 < 2 by decide) hs
  exact g_and ha (by omega) (Nat.and_two_pow_sub_one_eq_mod a s)
theorem g_or {k p a b : Nat} (hp : 2 ^ k = p) (ha : a < p) (h : b * p + a < 2 ^ 64) : lN (b * p) ||| lN a = lN (b * p + a) := by
  subst hp
  have h1 : b * 2 ^ k ||| a = b * 2 ^ k + a := by rw [← Nat.shiftLeft_eq, Nat.shiftLeft_add_eq_or_of_lt ha]
  have h3 : UInt64.ofNat (b * 2 ^ k) ||| UInt64.ofNat a = UInt64.ofNat (b * 2 ^ k + a) := UInt64.toNat_inj.mp (by rw [UInt64.toNat_or, u_tn (by omega), u_tn (by omega), u_tn h, h1])
  have h2 := congrArg UInt64.toInt64 h3
  exact h2
def cd_y (v : Int64) (i : Nat) : Int64 := v >>> ((nI (8 * i)).toInt64 &&& 63)
/-- byte i of a long, from the lowest on -/
def cd_pb (v : Int64) (i : Nat) : Nat := (cd_y v i).toBitVec.toNat % 256
/-- a byte as the desk's array keeps it -/
def cd_e8 (b : Nat) : Int32 := (nI b).toInt8.toInt32
theorem cd_i8 (m : Nat) : (nI m).toInt8 = (nI (m % 256)).toInt8 := by
  apply Int8.toInt_inj.mp
  rw [Int32.toInt_toInt8, Int32.toInt_toInt8]
  show (Int32.ofNat m).toInt.bmod _ = (Int32.ofNat (m % 256)).toInt.bmod _
  rw [Int32.toInt_ofNat', Int32.toInt_ofNat']
  rw [Int.bmod_bmod_of_dvd (by decide), Int.bmod_bmod_of_dvd (by decide)]
  show Int.bmod (m : Int) 256 = Int.bmod ((m % 256 : Nat) : Int) 256
  rw [show ((m % 256 : Nat) : Int) = (m : Int) % (256 : Nat) by omega]
  exact (Int.emod_bmod _ _).symm
theorem cd_pb_lt (v : Int64) (i : Nat) : cd_pb v i < 256 := Nat.mod_lt _ (by decide)
theorem cd_pbM (v : Int64) (i : Nat) : (cd_y v i &&& 255).toInt32 = nI (cd_pb v i) := by
  unfold cd_pb
  obtain ⟨m, hm, e⟩ := wb_of (cd_y v i)
  rw [e, wb_tn hm, ← lN_i]
  exact congrArg Int64.toInt32 (g_mask (s := 8) (p := 256) (by decide) (by decide) hm)
theorem cd_pbC (v : Int64) (i : Nat) : (cd_y v i).toInt32.toInt8.toInt32 = cd_e8 (cd_pb v i) := by
  unfold cd_pb cd_e8
  obtain ⟨m, hm, e⟩ := wb_of (cd_y v i)
  rw [e, wb_tn hm, lN_i, cd_i8]
theorem cd_e8_and : ∀ b, b < 256 → cd_e8 b &&& 255 = nI b := by decide +kernel
theorem cd_e8_10 : ∀ b, b < 256 → ((cd_e8 b).toInt = 10 ↔ b = 10) := by decide +kernel
theorem cd_e8_nar (b : Nat) : vp_nar .byte (cd_e8 b) = cd_e8 b := pk_vb _
/-- f' is f with k bytes more, from place n on -/
def cd_app (f f' : Nat → Int32) (n k : Nat) (g : Nat → Int32) : Prop := (∀ j, j < n → f' j = f j) ∧ ∀ j, j < k → f' (n + j) = g j
theorem cd_app_0 (f : Nat → Int32) (n : Nat) (g : Nat → Int32) : cd_app f f n 0 g := ⟨fun _ _ => rfl, fun j h => absurd h (Nat.not_lt_zero j)⟩
theorem cd_app_s {f f' : Nat → Int32} {n k : Nat} {g : Nat → Int32} {x : Int32} (h : cd_app f f' n k g) (hx : x = g k) : cd_app f (upd f' (n + k) x) n (k + 1) g := by
  refine ⟨fun j hj => ?_, fun j hj => ?_⟩
  · rw [pk_un (by omega)]; exact h.1 j hj
  · rcases Nat.lt_or_ge j k with q | q
    · rw [pk_un (by omega)]; exact h.2 j q
    · obtain rfl : j = k := by omega
      rw [pk_us]; exact hx
/-- a count that goes down to -1 -/
def cd_dn : Nat → Int32
  | 0 => -1
  | t + 1 => nI t
theorem cd_dn_m1 (t : Nat) : nI t + (-1) = cd_dn t := by
  cases t with
  | zero => decide
  | succ t => exact pk_m1 t
theorem cd_dn_of {k : Nat} (h : 1 ≤ k) : nI (k - 1) = cd_dn k := by
  cases k with
  | zero => omega
  | succ k => rfl
def cd_putP (em : Nat → Int32) (f : Nat → Int32) (n : Nat) (v : Int64) (x r : Int32) (u : (Nat → Int32) × Nat) : Prop :=
  (¬ (1 ≤ x.toInt ∧ x.toInt ≤ 8 ∧ (n : Int) + x.toInt ≤ 1000) ∧ r = 0 ∧ u = (f, n)) ∨ (∃ k, x = nI k ∧ 1 ≤ k ∧ k ≤ 8 ∧ n + k ≤ 1000 ∧ r = 1 ∧ u.2 = n + k ∧ cd_app f u.1 n k (fun j => em (cd_pb v (k - 1 - j))))
def cd_chrP (em : Nat → Int32) (f : Nat → Int32) (n : Nat) (x r : Int32) (u : (Nat → Int32) × Nat) : Prop :=
  (¬ (cd_has x.toInt = true ∧ n + cd_sz x.toInt ≤ 1000) ∧ r = 0 ∧ u = (f, n)) ∨ (∃ q w, x = nI q ∧ q < 1114112 ∧ cd_has (q : Int) = true ∧ cd_sz (q : Int) = w ∧ n + w ≤ 1000 ∧ r = 1 ∧ u.2 = n + w ∧ cd_app f u.1 n w (fun j => em (cd_by q w j)))
theorem cd_has_nat {x : Int32} (h : cd_has x.toInt = true) : ∃ q : Nat, q < 1114112 ∧ x = nI q ∧ cd_has (q : Int) = true := by
  have h1 := cd_has_iff.mp h
  obtain ⟨q, hq, rfl⟩ := (cd_ix x).resolve_left (by omega)
  rw [nI_toInt hq] at h h1
  exact ⟨q, by omega, rfl, h⟩
/-- a character's bytes in one long: its size in the highest byte -/
def cd_U (q n : Nat) : Nat → Nat
  | 0 => n
  | k + 1 => cd_U q n k * 256 + (if k < n then cd_by q n k else 0)
def cd_bytP (x : Int32) (r : Int64) : Prop := (cd_has x.toInt = false ∧ r = 0) ∨ (∃ q w, q < 1114112 ∧ x = nI q ∧ cd_has (q : Int) = true ∧ cd_sz (q : Int) = w ∧ r = lN (cd_U q w 7))
theorem cd_bytP_eq {x : Int32} {r r' : Int64} (h : cd_bytP x r) (h' : cd_bytP x r') : r = r' := by
  rcases h with ⟨a, rfl⟩ | ⟨q, w, h1, rfl, h3, h4, rfl⟩
  · rcases h' with ⟨b, rfl⟩ | ⟨q', w', b1, rfl, b3, b4, rfl⟩
    · rfl
    · rw [nI_toInt (by omega), b3] at a; cases a
  · rcases h' with ⟨b, rfl⟩ | ⟨q', w', b1, b2, b3, b4, rfl⟩
    · rw [nI_toInt (by omega), h3] at b; cases b
    · have := (nI_eq (by omega) (by omega)).mp b2
      subst this
      rw [h4] at b4
      rw [b4]
theorem cd_U_lt {q n : Nat} (hn : cd_sz (q : Int) = n) (hq : q < 1114112) : ∀ k, cd_U q n k < 5 * 256 ^ k := by
  intro k
  induction k with
  | zero => have := cd_sz_bd hn hq; show n < 5 * 1; omega
  | succ k ih =>
    have hb := cd_by_lt (k := k) hn hq
    show cd_U q n k * 256 + (if k < n then cd_by q n k else 0) < 5 * 256 ^ (k + 1)
    rw [Nat.pow_succ]
    split <;> omega
theorem cd_U_or {q n k : Nat} (hn : cd_sz (q : Int) = n) (hq : q < 1114112) (hk : k < n) : lN (cd_U q n k * 2 ^ (56 - 8 * k)) ||| (lN (cd_by q n k) <<< ((nI (48 - 8 * k)).toInt64 &&& 63)) = lN (cd_U q n (k + 1) * 2 ^ (56 - 8 * (k + 1))) := by
  have hb := cd_by_lt (k := k) hn hq
  have hU := cd_U_lt hn hq k
  have hz := cd_sz_bd hn hq
  rw [wb_shl _ (by omega)]
  have e : cd_U q n (k + 1) = cd_U q n k * 256 + cd_by q n k := by show _ + (if k < n then _ else _) = _; rw [if_pos hk]
  rw [e]
  rcases (show k = 0 ∨ k = 1 ∨ k = 2 ∨ k = 3 by omega) with rfl | rfl | rfl | rfl
  · rw [show 56 - 8 * 0 = 56 from rfl, show 48 - 8 * 0 = 48 from rfl, g_or (k := 56) rfl (by omega) (by omega)]
    exact congrArg lN (by omega)
  · rw [show 56 - 8 * 1 = 48 from rfl, show 48 - 8 * 1 = 40 from rfl, g_or (k := 48) rfl (by omega) (by omega)]
    exact congrArg lN (by omega)
  · rw [show 56 - 8 * 2 = 40 from rfl, show 48 - 8 * 2 = 32 from rfl, g_or (k := 40) rfl (by omega) (by omega)]
    exact congrArg lN (by omega)
  · rw [show 56 - 8 * 3 = 32 from rfl, show 48 - 8 * 3 = 24 from rfl, g_or (k := 32) rfl (by omega) (by omega)]
    exact congrArg lN (by omega)
theorem cd_U_end {q n : Nat} (h : 1 ≤ n ∧ n ≤ 4) : cd_U q n n * 2 ^ (56 - 8 * n) = cd_U q n 7 := by
  rcases (show n = 1 ∨ n = 2 ∨ n = 3 ∨ n = 4 by omega) with rfl | rfl | rfl | rfl <;> simp [cd_U] <;> omega
end
section
abbrev cd_D2 (ks : Nat → ClassId) (xo tx ch : Nat) (ft : Nat → Int32) (z : Int32) (rd : Bool) (pl : Int32) : va_W := [(xo, .inr (2, [.ref tx, .int z, .ref ch, .int (cd_b rd), .int pl])), (tx, .inl (ks 0, 1000, .inl ft))]

set_option maxHeartbeats 4000000 in
set_option maxRecDepth 100000 in
theorem c_Model_put (l : Launch) (G : va_G) (ks : Nat → ClassId) (mo mt mk sz : Nat) (ft fk : Nat → Int32) (ln : Int32) (rd : Bool) (pl st me be : Int32) (n : Nat) (hn : n ≤ 1000) (v : Int64) (x : Int32) : cd_MetW (S := (Nat → Int32) × Nat) l G ks y_Model_put b_Model_put 5 (some .boolean) 0 [.ref mo, .long v, .int x] (cd_M ks mo mt mk ft fk (nI n) ln rd pl st me be) sz (fun r u => cd_putP nI ft n v x r u) (fun u => cd_M ks mo mt mk u.1 fk (nI u.2) ln rd pl st me be) := by
  refine cd_metW (by decide) (Nat.le_of_ble_eq_true rfl) ?_
  intro pg e s m args below meth c R Q ls A H locs hQ hr hlk F E hP hD hA hS hl
  have hx := F.1
  have hb := F.2.1
  have hown := F.2.2.2.1
  have hts := F.2.2.2.2.1
  have hK := E.1
  have hl : lv_has ls 5 [(0, .ref mo), (1, .long v), (3, .int x)] := hl
  have hP : va_P G classes [(mo, .inr (3, [.ref mt, .int (nI n), .ref mk, .int ln, .int (cd_b rd), .int pl, .int st, .int me, .int be])), (mt, .inl (ks 3, 1000, .inl ft)), (mk, .inl (ks 4, 1000, .inl fk))] H := hP
  have hD : va_D A [(mo, .inr (3, [.ref mt, .int (nI n), .ref mk, .int ln, .int (cd_b rd), .int pl, .int st, .int me, .int be])), (mt, .inl (ks 3, 1000, .inl ft)), (mk, .inl (ks 4, 1000, .inl fk))] := hD
  refine lv_iload_n hx hb d_Model_put_0 rfl (lv_at hl 2 rfl) ?_
  refine lv_iconst (v := 1) hx hb d_Model_put_1 (by decide) ?_
  refine cd_icmp_lt (tgt := 23) hx hb d_Model_put_2 (by decide) rfl (show (1 : Int32).toInt = 1 by decide) (fun c2 => ?_) (fun c2 => ?_)
  · refine lv_iconst (v := 0) hx hb d_Model_put_23 (by decide) ?_
    exact cd_retWz hQ hx hb hr hlk d_Model_put_24 rfl hS ((ft, n)) (Or.inl ⟨by omega, rfl, rfl⟩) hP hD
  · refine lv_iload_n hx hb d_Model_put_5 rfl (lv_at hl 2 rfl) ?_
    refine lv_bipush (v := 8) hx hb d_Model_put_6 (by decide) ?_
    refine cd_icmp_gt (tgt := 23) hx hb d_Model_put_8 (by decide) rfl (show (8 : Int32).toInt = 8 by decide) (fun c8 => ?_) (fun c8 => ?_)
    · refine lv_iconst (v := 0) hx hb d_Model_put_23 (by decide) ?_
      exact cd_retWz hQ hx hb hr hlk d_Model_put_24 rfl hS ((ft, n)) (Or.inl ⟨by omega, rfl, rfl⟩) hP hD
    · refine lv_aload_n hx hb d_Model_put_11 rfl (lv_at hl 0 rfl) ?_
      refine va_get (D := G) (ci := 3) (v := .int (nI n)) (C := R_Model) (T := F_Model) (N := 9) hx hb hts i_Model hown hK hP 0 rfl rfl 1 (by decide) (hts _ k_191) (fun _ h9 => h9) rfl d_Model_put_12 ?_
      refine lv_iload_n hx hb d_Model_put_15 rfl (lv_at hl 2 rfl) ?_
      refine lv_iadd hx hb d_Model_put_16 ?_
      have hxs : (nI n + x).toInt = (n : Int) + x.toInt := by rw [Int32.toInt_add, nI_toInt (by omega)]; apply Int.bmod_eq_of_le <;> omega
      refine lv_sipush (v := 1000) hx hb d_Model_put_17 (by decide) ?_
      refine cd_icmp_le (tgt := 25) hx hb d_Model_put_20 (by decide) hxs (show (1000 : Int32).toInt = 1000 by decide) (fun c20 => ?_) (fun c20 => ?_)
      · obtain ⟨k, hk, rfl⟩ := (cd_ix x).resolve_left (by omega)
        rw [nI_toInt hk] at c2 c8
        have hl : lv_has ls 5 [(0, .ref mo), (1, .long v), (3, .int (nI k))] := hl
        have c20 : n + k ≤ 1000 := by have h9 : (((nI n) + (nI k)).toInt) = ((n + k : Nat) : Int) := (by rw [nI_add, nI_toInt (by omega)]); omega
        refine lv_iload_n hx hb d_Model_put_25 rfl (lv_at hl 2 rfl) ?_
        refine lv_iconst (v := 1) hx hb d_Model_put_26 (by decide) ?_
        refine lv_isub hx hb d_Model_put_27 ?_
        refine cd_top (y := nI (k - 1)) (pk_sub (a := k) (b := 1) (by omega)) ?_
        refine lv_istore (lv' := [(4, .int (nI (k - 1))), (0, .ref mo), (1, .long v), (3, .int (nI k))]) hx hb d_Model_put_28 hl (by decide) rfl (fun ls hl => ?_)
        have loop : ∀ (t i : Nat) (f1 : Nat → Int32) (H : Heap) (locs : List Loc) (ls : Array Slot), i + t = k → cd_app ft f1 n i (fun j => nI (cd_pb v (k - 1 - j))) → va_P G classes [(mo, .inr (3, [.ref mt, .int (nI (n + i)), .ref mk, .int ln, .int (cd_b rd), .int pl, .int st, .int me, .int be])), (mt, .inl (ks 3, 1000, .inl f1)), (mk, .inl (ks 4, 1000, .inl fk))] H → va_D A [(mo, .inr (3, [.ref mt, .int (nI (n + i)), .ref mk, .int ln, .int (cd_b rd), .int pl, .int st, .int me, .int be])), (mt, .inl (ks 3, 1000, .inl f1)), (mk, .inl (ks 4, 1000, .inl fk))] → va_S A s.heap H locs → lv_has ls 5 [(0, .ref mo), (1, .long v), (3, .int (nI k)), (4, .int (cd_dn t))] → W pg l e R s m args below meth c H locs 0 0 Q (F0 m 30 ls []) := by
          intro t
          induction t with
          | zero =>
            intro i f1 H locs ls hit hap hP hD hS hl
            have hl : lv_has ls 5 [(0, .ref mo), (1, .long v), (3, .int (nI k)), (4, .int (-1))] := hl
            refine lv_iload hx hb d_Model_put_30 (lv_at hl 3 rfl) ?_
            refine cd_if_lt (tgt := 72) hx hb d_Model_put_32 (by decide) (show (-1 : Int32).toInt = -1 by decide) (fun c32 => ?_) (fun c32 => ?_)
            · refine lv_iconst (v := 1) hx hb d_Model_put_72 (by decide) ?_
              exact cd_retWz hQ hx hb hr hlk d_Model_put_73 rfl hS ((f1, n + i)) (Or.inr ⟨k, rfl, by omega, by omega, by omega, rfl, by show n + i = n + k; omega, by obtain rfl : i = k := (by omega); exact hap⟩) hP hD
            · exact absurd c32 (by decide)
          | succ t ih =>
            intro i f1 H locs ls hit hap hP hD hS hl
            have hl : lv_has ls 5 [(0, .ref mo), (1, .long v), (3, .int (nI k)), (4, .int (nI t))] := hl
            refine lv_iload hx hb d_Model_put_30 (lv_at hl 3 rfl) ?_
            refine cd_if_lt (tgt := 72) hx hb d_Model_put_32 (by decide) (nI_toInt (n := t) (by omega)) (fun c32 => ?_) (fun c32 => ?_)
            · exact absurd c32 (by omega)
            · refine lv_aload_n hx hb d_Model_put_35 rfl (lv_at hl 0 rfl) ?_
              refine va_get (D := G) (ci := 3) (v := .ref mt) (C := R_Model) (T := F_Model) (N := 9) hx hb hts i_Model hown hK hP 0 rfl rfl 0 (by decide) (hts _ k_190) (fun _ h9 => h9) rfl d_Model_put_36 ?_
              refine lv_aload_n hx hb d_Model_put_39 rfl (lv_at hl 0 rfl) ?_
              refine va_get (D := G) (ci := 3) (v := .int (nI (n + i))) (C := R_Model) (T := F_Model) (N := 9) hx hb hts i_Model hown hK hP 0 rfl rfl 1 (by decide) (hts _ k_191) (fun _ h9 => h9) rfl d_Model_put_40 ?_
              refine lv_lload_n hx hb d_Model_put_43 rfl (lv_at hl 1 rfl) ?_
              refine lv_bipush (v := 8) hx hb d_Model_put_44 (by decide) ?_
              refine lv_iload hx hb d_Model_put_46 (lv_at hl 3 rfl) ?_
              refine lv_imul hx hb d_Model_put_48 ?_
              refine cd_top (y := nI (8 * t)) (pk_mul 8 t) ?_
              refine lv_lshr (v := v >>> ((nI (8 * t)).toInt64 &&& 63)) hx hb d_Model_put_49 rfl ?_
              refine lv_ldc2 (v := 255) hx hb hown (hts _ k_222) d_Model_put_50 ?_
              refine lv_land hx hb d_Model_put_53 ?_
              refine lv_l2i (v := ((v >>> ((nI (8 * t)).toInt64 &&& 63)) &&& 255).toInt32) hx hb d_Model_put_54 rfl ?_
              refine cd_top (y := nI (cd_pb v t)) (cd_pbM v t) ?_
              refine cd_iast (D := G) hx hb hK hP hD hS 1 3 rfl rfl (n0 := n + i) (by omega) (by omega) d_Model_put_55 (fun H locs hP hD hS => ?_)
              have hP : va_P G classes [(mo, .inr (3, [.ref mt, .int (nI (n + i)), .ref mk, .int ln, .int (cd_b rd), .int pl, .int st, .int me, .int be])), (mt, .inl (ks 3, 1000, .inl (upd f1 (n + i) (nI (cd_pb v t))))), (mk, .inl (ks 4, 1000, .inl fk))] H := hP
              have hD : va_D A [(mo, .inr (3, [.ref mt, .int (nI (n + i)), .ref mk, .int ln, .int (cd_b rd), .int pl, .int st, .int me, .int be])), (mt, .inl (ks 3, 1000, .inl (upd f1 (n + i) (nI (cd_pb v t))))), (mk, .inl (ks 4, 1000, .inl fk))] := hD
              refine lv_aload_n hx hb d_Model_put_56 rfl (lv_at hl 0 rfl) ?_
              refine lv_dup hx hb d_Model_put_57 rfl ?_
              refine va_get (D := G) (ci := 3) (v := .int (nI (n + i))) (C := R_Model) (T := F_Model) (N := 9) hx hb hts i_Model hown hK hP 0 rfl rfl 1 (by decide) (hts _ k_191) (fun _ h9 => h9) rfl d_Model_put_58 ?_
              refine lv_iconst (v := 1) hx hb d_Model_put_61 (by decide) ?_
              refine lv_iadd hx hb d_Model_put_62 ?_
              refine cd_top (y := nI (n + i + 1)) (nI_add (n + i) 1) ?_
              refine va_put (D := G) (ci := 3) (v := .int (nI (n + i + 1))) (ty := .int) (C := R_Model) (T := F_Model) (N := 9) hx hb hts i_Model t_Model t_Model_ok n_Model hown hK hP hD hS 0 rfl rfl 1 (by decide) (hts _ k_191) (fun _ h9 => h9) rfl (by decide +kernel) rfl rfl (Nat.le_of_ble_eq_true rfl) d_Model_put_63 (fun H locs hP hD hS => ?_)
              have hP : va_P G classes [(mo, .inr (3, [.ref mt, .int (nI (n + i + 1)), .ref mk, .int ln, .int (cd_b rd), .int pl, .int st, .int me, .int be])), (mt, .inl (ks 3, 1000, .inl (upd f1 (n + i) (nI (cd_pb v t))))), (mk, .inl (ks 4, 1000, .inl fk))] H := hP
              have hD : va_D A [(mo, .inr (3, [.ref mt, .int (nI (n + i + 1)), .ref mk, .int ln, .int (cd_b rd), .int pl, .int st, .int me, .int be])), (mt, .inl (ks 3, 1000, .inl (upd f1 (n + i) (nI (cd_pb v t))))), (mk, .inl (ks 4, 1000, .inl fk))] := hD
              refine lv_iinc (v := cd_dn t) (lv' := [(4, .int (cd_dn t)), (0, .ref mo), (1, .long v), (3, .int (nI k))]) hx hb d_Model_put_66 hl (k := 3) rfl (cd_dn_m1 t) (by decide) rfl (fun ls hl => ?_)
              refine lv_goto (tgt := 30) hx hb d_Model_put_69 (by decide) ?_
              exact ih (i + 1) _ H locs ls (by omega) (cd_app_s hap (by show _ = nI (cd_pb v (k - 1 - i)); rw [show k - 1 - i = t by omega])) hP hD hS (lv_sub hl [1, 2, 3, 0] rfl)
        exact loop k 0 ft H locs ls (by omega) (cd_app_0 _ _ _) hP hD hS (by rw [← cd_dn_of (by omega)]; exact (lv_sub hl [1, 2, 3, 0] rfl))
      · refine lv_iconst (v := 0) hx hb d_Model_put_23 (by decide) ?_
        exact cd_retWz hQ hx hb hr hlk d_Model_put_24 rfl hS ((ft, n)) (Or.inl ⟨by omega, rfl, rfl⟩) hP hD

set_option maxHeartbeats 4000000 in
set_option maxRecDepth 100000 in
theorem c_Desk_put (l : Launch) (G : va_G) (ks : Nat → ClassId) (xo tx ch sz : Nat) (ft : Nat → Int32) (rd : Bool) (pl : Int32) (n : Nat) (hn : n ≤ 1000) (v : Int64) (x : Int32) : cd_MetW (S := (Nat → Int32) × Nat) l G ks y_Desk_put b_Desk_put 5 (some .boolean) 0 [.ref xo, .long v, .int x] (cd_D2 ks xo tx ch ft (nI n) rd pl) sz (fun r u => cd_putP cd_e8 ft n v x r u) (fun u => cd_D2 ks xo tx ch u.1 (nI u.2) rd pl) := by
  refine cd_metW (by decide) (Nat.le_of_ble_eq_true rfl) ?_
  intro pg e s m args below meth c R Q ls A H locs hQ hr hlk F E hP hD hA hS hl
  have hx := F.1
  have hb := F.2.1
  have hown := F.2.2.2.1
  have hts := F.2.2.2.2.1
  have hK := E.1
  have hl : lv_has ls 5 [(0, .ref xo), (1, .long v), (3, .int x)] := hl
  have hP : va_P G classes [(xo, .inr (2, [.ref tx, .int (nI n), .ref ch, .int (cd_b rd), .int pl])), (tx, .inl (ks 0, 1000, .inl ft))] H := hP
  have hD : va_D A [(xo, .inr (2, [.ref tx, .int (nI n), .ref ch, .int (cd_b rd), .int pl])), (tx, .inl (ks 0, 1000, .inl ft))] := hD
  refine lv_iload_n hx hb d_Desk_put_0 rfl (lv_at hl 2 rfl) ?_
  refine lv_iconst (v := 1) hx hb d_Desk_put_1 (by decide) ?_
  refine cd_icmp_lt (tgt := 23) hx hb d_Desk_put_2 (by decide) rfl (show (1 : Int32).toInt = 1 by decide) (fun c2 => ?_) (fun c2 => ?_)
  · refine lv_iconst (v := 0) hx hb d_Desk_put_23 (by decide) ?_
    exact cd_retWz hQ hx hb hr hlk d_Desk_put_24 rfl hS ((ft, n)) (Or.inl ⟨by omega, rfl, rfl⟩) hP hD
  · refine lv_iload_n hx hb d_Desk_put_5 rfl (lv_at hl 2 rfl) ?_
    refine lv_bipush (v := 8) hx hb d_Desk_put_6 (by decide) ?_
    refine cd_icmp_gt (tgt := 23) hx hb d_Desk_put_8 (by decide) rfl (show (8 : Int32).toInt = 8 by decide) (fun c8 => ?_) (fun c8 => ?_)
    · refine lv_iconst (v := 0) hx hb d_Desk_put_23 (by decide) ?_
      exact cd_retWz hQ hx hb hr hlk d_Desk_put_24 rfl hS ((ft, n)) (Or.inl ⟨by omega, rfl, rfl⟩) hP hD
    · refine lv_aload_n hx hb d_Desk_put_11 rfl (lv_at hl 0 rfl) ?_
      refine va_get (D := G) (ci := 2) (v := .int (nI n)) (C := R_Desk) (T := F_Desk) (N := 5) hx hb hts i_Desk hown hK hP 0 rfl rfl 1 (by decide) (hts _ k_55) (fun _ h9 => h9) rfl d_Desk_put_12 ?_
      refine lv_iload_n hx hb d_Desk_put_15 rfl (lv_at hl 2 rfl) ?_
      refine lv_iadd hx hb d_Desk_put_16 ?_
      have hxs : (nI n + x).toInt = (n : Int) + x.toInt := by rw [Int32.toInt_add, nI_toInt (by omega)]; apply Int.bmod_eq_of_le <;> omega
      refine lv_sipush (v := 1000) hx hb d_Desk_put_17 (by decide) ?_
      refine cd_icmp_le (tgt := 25) hx hb d_Desk_put_20 (by decide) hxs (show (1000 : Int32).toInt = 1000 by decide) (fun c20 => ?_) (fun c20 => ?_)
      · obtain ⟨k, hk, rfl⟩ := (cd_ix x).resolve_left (by omega)
        rw [nI_toInt hk] at c2 c8
        have hl : lv_has ls 5 [(0, .ref xo), (1, .long v), (3, .int (nI k))] := hl
        have c20 : n + k ≤ 1000 := by have h9 : (((nI n) + (nI k)).toInt) = ((n + k : Nat) : Int) := (by rw [nI_add, nI_toInt (by omega)]); omega
        refine lv_iload_n hx hb d_Desk_put_25 rfl (lv_at hl 2 rfl) ?_
        refine lv_iconst (v := 1) hx hb d_Desk_put_26 (by decide) ?_
        refine lv_isub hx hb d_Desk_put_27 ?_
        refine cd_top (y := nI (k - 1)) (pk_sub (a := k) (b := 1) (by omega)) ?_
        refine lv_istore (lv' := [(4, .int (nI (k - 1))), (0, .ref xo), (1, .long v), (3, .int (nI k))]) hx hb d_Desk_put_28 hl (by decide) rfl (fun ls hl => ?_)
        have loop : ∀ (t i : Nat) (f1 : Nat → Int32) (H : Heap) (locs : List Loc) (ls : Array Slot), i + t = k → cd_app ft f1 n i (fun j => cd_e8 (cd_pb v (k - 1 - j))) → va_P G classes [(xo, .inr (2, [.ref tx, .int (nI (n + i)), .ref ch, .int (cd_b rd), .int pl])), (tx, .inl (ks 0, 1000, .inl f1))] H → va_D A [(xo, .inr (2, [.ref tx, .int (nI (n + i)), .ref ch, .int (cd_b rd), .int pl])), (tx, .inl (ks 0, 1000, .inl f1))] → va_S A s.heap H locs → lv_has ls 5 [(0, .ref xo), (1, .long v), (3, .int (nI k)), (4, .int (cd_dn t))] → W pg l e R s m args below meth c H locs 0 0 Q (F0 m 30 ls []) := by
          intro t
          induction t with
          | zero =>
            intro i f1 H locs ls hit hap hP hD hS hl
            have hl : lv_has ls 5 [(0, .ref xo), (1, .long v), (3, .int (nI k)), (4, .int (-1))] := hl
            refine lv_iload hx hb d_Desk_put_30 (lv_at hl 3 rfl) ?_
            refine cd_if_lt (tgt := 69) hx hb d_Desk_put_32 (by decide) (show (-1 : Int32).toInt = -1 by decide) (fun c32 => ?_) (fun c32 => ?_)
            · refine lv_iconst (v := 1) hx hb d_Desk_put_69 (by decide) ?_
              exact cd_retWz hQ hx hb hr hlk d_Desk_put_70 rfl hS ((f1, n + i)) (Or.inr ⟨k, rfl, by omega, by omega, by omega, rfl, by show n + i = n + k; omega, by obtain rfl : i = k := (by omega); exact hap⟩) hP hD
            · exact absurd c32 (by decide)
          | succ t ih =>
            intro i f1 H locs ls hit hap hP hD hS hl
            have hl : lv_has ls 5 [(0, .ref xo), (1, .long v), (3, .int (nI k)), (4, .int (nI t))] := hl
            refine lv_iload hx hb d_Desk_put_30 (lv_at hl 3 rfl) ?_
            refine cd_if_lt (tgt := 69) hx hb d_Desk_put_32 (by decide) (nI_toInt (n := t) (by omega)) (fun c32 => ?_) (fun c32 => ?_)
            · exact absurd c32 (by omega)
            · refine lv_aload_n hx hb d_Desk_put_35 rfl (lv_at hl 0 rfl) ?_
              refine va_get (D := G) (ci := 2) (v := .ref tx) (C := R_Desk) (T := F_Desk) (N := 5) hx hb hts i_Desk hown hK hP 0 rfl rfl 0 (by decide) (hts _ k_54) (fun _ h9 => h9) rfl d_Desk_put_36 ?_
              refine lv_aload_n hx hb d_Desk_put_39 rfl (lv_at hl 0 rfl) ?_
              refine va_get (D := G) (ci := 2) (v := .int (nI (n + i))) (C := R_Desk) (T := F_Desk) (N := 5) hx hb hts i_Desk hown hK hP 0 rfl rfl 1 (by decide) (hts _ k_55) (fun _ h9 => h9) rfl d_Desk_put_40 ?_
              refine lv_lload_n hx hb d_Desk_put_43 rfl (lv_at hl 1 rfl) ?_
              refine lv_bipush (v := 8) hx hb d_Desk_put_44 (by decide) ?_
              refine lv_iload hx hb d_Desk_put_46 (lv_at hl 3 rfl) ?_
              refine lv_imul hx hb d_Desk_put_48 ?_
              refine cd_top (y := nI (8 * t)) (pk_mul 8 t) ?_
              refine lv_lshr (v := v >>> ((nI (8 * t)).toInt64 &&& 63)) hx hb d_Desk_put_49 rfl ?_
              refine lv_l2i (v := (v >>> ((nI (8 * t)).toInt64 &&& 63)).toInt32) hx hb d_Desk_put_50 rfl ?_
              refine lv_i2b (v := ((v >>> ((nI (8 * t)).toInt64 &&& 63)).toInt32).toInt8.toInt32) hx hb d_Desk_put_51 rfl ?_
              refine cd_top (y := cd_e8 (cd_pb v t)) (cd_pbC v t) ?_
              refine cd_bast (D := G) hx hb hK hP hD hS 1 0 rfl rfl (n0 := n + i) (by omega) (by omega) (cd_e8_nar _) d_Desk_put_52 (fun H locs hP hD hS => ?_)
              have hP : va_P G classes [(xo, .inr (2, [.ref tx, .int (nI (n + i)), .ref ch, .int (cd_b rd), .int pl])), (tx, .inl (ks 0, 1000, .inl (upd f1 (n + i) (cd_e8 (cd_pb v t)))))] H := hP
              have hD : va_D A [(xo, .inr (2, [.ref tx, .int (nI (n + i)), .ref ch, .int (cd_b rd), .int pl])), (tx, .inl (ks 0, 1000, .inl (upd f1 (n + i) (cd_e8 (cd_pb v t)))))] := hD
              refine lv_aload_n hx hb d_Desk_put_53 rfl (lv_at hl 0 rfl) ?_
              refine lv_dup hx hb d_Desk_put_54 rfl ?_
              refine va_get (D := G) (ci := 2) (v := .int (nI (n + i))) (C := R_Desk) (T := F_Desk) (N := 5) hx hb hts i_Desk hown hK hP 0 rfl rfl 1 (by decide) (hts _ k_55) (fun _ h9 => h9) rfl d_Desk_put_55 ?_
              refine lv_iconst (v := 1) hx hb d_Desk_put_58 (by decide) ?_
              refine lv_iadd hx hb d_Desk_put_59 ?_
              refine cd_top (y := nI (n + i + 1)) (nI_add (n + i) 1) ?_
              refine va_put (D := G) (ci := 2) (v := .int (nI (n + i + 1))) (ty := .int) (C := R_Desk) (T := F_Desk) (N := 5) hx hb hts i_Desk t_Desk t_Desk_ok n_Desk hown hK hP hD hS 0 rfl rfl 1 (by decide) (hts _ k_55) (fun _ h9 => h9) rfl (by decide +kernel) rfl rfl (Nat.le_of_ble_eq_true rfl) d_Desk_put_60 (fun H locs hP hD hS => ?_)
              have hP : va_P G classes [(xo, .inr (2, [.ref tx, .int (nI (n + i + 1)), .ref ch, .int (cd_b rd), .int pl])), (tx, .inl (ks 0, 1000, .inl (upd f1 (n + i) (cd_e8 (cd_pb v t)))))] H := hP
              have hD : va_D A [(xo, .inr (2, [.ref tx, .int (nI (n + i + 1)), .ref ch, .int (cd_b rd), .int pl])), (tx, .inl (ks 0, 1000, .inl (upd f1 (n + i) (cd_e8 (cd_pb v t)))))] := hD
              refine lv_iinc (v := cd_dn t) (lv' := [(4, .int (cd_dn t)), (0, .ref xo), (1, .long v), (3, .int (nI k))]) hx hb d_Desk_put_63 hl (k := 3) rfl (cd_dn_m1 t) (by decide) rfl (fun ls hl => ?_)
              refine lv_goto (tgt := 30) hx hb d_Desk_put_66 (by decide) ?_
              exact ih (i + 1) _ H locs ls (by omega) (cd_app_s hap (by show _ = cd_e8 (cd_pb v (k - 1 - i)); rw [show k - 1 - i = t by omega])) hP hD hS (lv_sub hl [1, 2, 3, 0] rfl)
        exact loop k 0 ft H locs ls (by omega) (cd_app_0 _ _ _) hP hD hS (by rw [← cd_dn_of (by omega)]; exact (lv_sub hl [1, 2, 3, 0] rfl))
      · refine lv_iconst (v := 0) hx hb d_Desk_put_23 (by decide) ?_
        exact cd_retWz hQ hx hb hr hlk d_Desk_put_24 rfl hS ((ft, n)) (Or.inl ⟨by omega, rfl, rfl⟩) hP hD
end
section
set_option maxHeartbeats 4000000 in
set_option maxRecDepth 100000 in
theorem c_Desk_character (l : Launch) (G : va_G) (ks : Nat → ClassId) (xo tx ch sz : Nat) (ft : Nat → Int32) (rd : Bool) (pl : Int32) (n : Nat) (hn : n ≤ 1000) (x : Int32) : cd_MetW (S := (Nat → Int32) × Nat) l G ks y_Desk_character b_Desk_character 4 (some .boolean) 1 [.ref xo, .int x] (cd_D2 ks xo tx ch ft (nI n) rd pl) sz (fun r u => cd_chrP cd_e8 ft n x r u) (fun u => cd_D2 ks xo tx ch u.1 (nI u.2) rd pl) := by
  refine cd_metW (by decide) (Nat.le_of_ble_eq_true rfl) ?_
  intro pg e s m args below meth c R Q ls A H locs hQ hr hlk F E hP hD hA hS hl
  have hx := F.1
  have hb := F.2.1
  have hown := F.2.2.2.1
  have hts := F.2.2.2.2.1
  have hK := E.1
  have hl : lv_has ls 4 [(0, .ref xo), (1, .int x)] := hl
  have hP : va_P G classes [(xo, .inr (2, [.ref tx, .int (nI n), .ref ch, .int (cd_b rd), .int pl])), (tx, .inl (ks 0, 1000, .inl ft))] H := hP
  have hD : va_D A [(xo, .inr (2, [.ref tx, .int (nI n), .ref ch, .int (cd_b rd), .int pl])), (tx, .inl (ks 0, 1000, .inl ft))] := hD
  refine lv_iload_n hx hb d_Desk_character_0 rfl (lv_at hl 1 rfl) ?_
  refine cd_callP (rest := []) F (c_Coder_sizeOf l x) (by decide) (by decide) k_78 k_79 k_3 k_80 (show cd_desc y_Coder_sizeOf 1 by decide +kernel) (fun _ _ _ _ _ => trivial) (fun _ _ _ => trivial) ⟨Nat.zero_le _, Nat.zero_le _⟩ rfl hl.1 (Nat.le_of_ble_eq_true rfl) d_Desk_character_1 (fun r hr => ?_)
  subst hr
  have hszb := cd_sz_in x.toInt
  refine lv_istore_n (lv' := [(2, .int (nI (cd_sz x.toInt))), (0, .ref xo), (1, .int x)]) hx hb d_Desk_character_4 rfl hl (by decide) rfl (fun ls hl => ?_)
  refine lv_iload_n hx hb d_Desk_character_5 rfl (lv_at hl 2 rfl) ?_
  refine cd_callP (rest := []) F (c_Coder_has l x) (by decide) (by decide) k_82 k_83 k_3 k_84 (show cd_desc y_Coder_has 1 by decide +kernel) (fun _ _ _ _ _ => trivial) (fun _ _ _ => trivial) ⟨Nat.zero_le _, Nat.zero_le _⟩ rfl hl.1 (Nat.le_of_ble_eq_true rfl) d_Desk_character_6 (fun r hr => ?_)
  subst hr
  refine cd_if_eq_b (tgt := 24) hx hb d_Desk_character_9 (by decide) (fun c9 => ?_) (fun c9 => ?_)
  · refine lv_iconst (v := 0) hx hb d_Desk_character_24 (by decide) ?_
    exact cd_retWz hQ hx hb hr hlk d_Desk_character_25 rfl hS ((ft, n)) (Or.inl ⟨fun h => by first | omega | (rw [h.1] at c9; cases c9), rfl, rfl⟩) hP hD
  · refine lv_aload_n hx hb d_Desk_character_12 rfl (lv_at hl 1 rfl) ?_
    refine va_get (D := G) (ci := 2) (v := .int (nI n)) (C := R_Desk) (T := F_Desk) (N := 5) hx hb hts i_Desk hown hK hP 0 rfl rfl 1 (by decide) (hts _ k_55) (fun _ h9 => h9) rfl d_Desk_character_13 ?_
    refine lv_iload_n hx hb d_Desk_character_16 rfl (lv_at hl 0 rfl) ?_
    refine lv_iadd hx hb d_Desk_character_17 ?_
    refine cd_top (y := nI (n + (cd_sz x.toInt))) (nI_add n (cd_sz x.toInt)) ?_
    refine lv_sipush (v := 1000) hx hb d_Desk_character_18 (by decide) ?_
    refine cd_icmp_le (tgt := 26) hx hb d_Desk_character_21 (by decide) (nI_toInt (n := n + (cd_sz x.toInt)) (by omega)) (show (1000 : Int32).toInt = 1000 by decide) (fun c21 => ?_) (fun c21 => ?_)
    · obtain ⟨q, hq, rfl, hhas⟩ := cd_has_nat c9
      obtain ⟨w0, hw0⟩ : ∃ w0, cd_sz (q : Int) = w0 := ⟨_, rfl⟩
      rw [nI_toInt (n := q) (by omega), hw0] at hszb c21 hl
      have hl : lv_has ls 4 [(2, .int (nI w0)), (0, .ref xo), (1, .int (nI q))] := hl
      refine lv_iconst (v := 0) hx hb d_Desk_character_26 (by decide) ?_
      refine lv_istore_n (lv' := [(3, .int 0), (2, .int (nI w0)), (0, .ref xo), (1, .int (nI q))]) hx hb d_Desk_character_27 rfl hl (by decide) rfl (fun ls hl => ?_)
      have loop : ∀ (t i : Nat) (f1 : Nat → Int32) (H : Heap) (locs : List Loc) (ls : Array Slot), i + t = w0 → cd_app ft f1 n i (fun j => cd_e8 (cd_by q w0 j)) → va_P G classes [(xo, .inr (2, [.ref tx, .int (nI n), .ref ch, .int (cd_b rd), .int pl])), (tx, .inl (ks 0, 1000, .inl f1))] H → va_D A [(xo, .inr (2, [.ref tx, .int (nI n), .ref ch, .int (cd_b rd), .int pl])), (tx, .inl (ks 0, 1000, .inl f1))] → va_S A s.heap H locs → lv_has ls 4 [(0, .ref xo), (1, .int (nI q)), (2, .int (nI w0)), (3, .int (nI i))] → W pg l e R s m args below meth c H locs 0 0 Q (F0 m 28 ls []) := by
        intro t
        induction t with
        | zero =>
          intro i f1 H locs ls hit hap hP hD hS hl
          refine lv_iload_n hx hb d_Desk_character_28 rfl (lv_at hl 3 rfl) ?_
          refine lv_iload_n hx hb d_Desk_character_29 rfl (lv_at hl 2 rfl) ?_
          refine cd_icmp_ge (tgt := 57) hx hb d_Desk_character_30 (by decide) (nI_toInt (n := i) (by omega)) (nI_toInt (n := w0) (by omega)) (fun c30 => ?_) (fun c30 => ?_)
          · refine lv_aload_n hx hb d_Desk_character_57 rfl (lv_at hl 0 rfl) ?_
            refine lv_dup hx hb d_Desk_character_58 rfl ?_
            refine va_get (D := G) (ci := 2) (v := .int (nI n)) (C := R_Desk) (T := F_Desk) (N := 5) hx hb hts i_Desk hown hK hP 0 rfl rfl 1 (by decide) (hts _ k_55) (fun _ h9 => h9) rfl d_Desk_character_59 ?_
            refine lv_iload_n hx hb d_Desk_character_62 rfl (lv_at hl 2 rfl) ?_
            refine lv_iadd hx hb d_Desk_character_63 ?_
            refine cd_top (y := nI (n + w0)) (nI_add n w0) ?_
            refine va_put (D := G) (ci := 2) (v := .int (nI (n + w0))) (ty := .int) (C := R_Desk) (T := F_Desk) (N := 5) hx hb hts i_Desk t_Desk t_Desk_ok n_Desk hown hK hP hD hS 0 rfl rfl 1 (by decide) (hts _ k_55) (fun _ h9 => h9) rfl (by decide +kernel) rfl rfl (Nat.le_of_ble_eq_true rfl) d_Desk_character_64 (fun H locs hP hD hS => ?_)
            have hP : va_P G classes [(xo, .inr (2, [.ref tx, .int (nI (n + w0)), .ref ch, .int (cd_b rd), .int pl])), (tx, .inl (ks 0, 1000, .inl f1))] H := hP
            have hD : va_D A [(xo, .inr (2, [.ref tx, .int (nI (n + w0)), .ref ch, .int (cd_b rd), .int pl])), (tx, .inl (ks 0, 1000, .inl f1))] := hD
            refine lv_iconst (v := 1) hx hb d_Desk_character_67 (by decide) ?_
            exact cd_retWz hQ hx hb hr hlk d_Desk_character_68 rfl hS ((f1, n + w0)) (Or.inr ⟨q, w0, rfl, hq, hhas, hw0, by omega, rfl, rfl, by obtain rfl : i = w0 := (by omega); exact hap⟩) hP hD
          · exact absurd c30 (by omega)
        | succ t ih =>
          intro i f1 H locs ls hit hap hP hD hS hl
          refine lv_iload_n hx hb d_Desk_character_28 rfl (lv_at hl 3 rfl) ?_
          refine lv_iload_n hx hb d_Desk_character_29 rfl (lv_at hl 2 rfl) ?_
          refine cd_icmp_ge (tgt := 57) hx hb d_Desk_character_30 (by decide) (nI_toInt (n := i) (by omega)) (nI_toInt (n := w0) (by omega)) (fun c30 => ?_) (fun c30 => ?_)
          · exact absurd c30 (by omega)
          · refine lv_aload_n hx hb d_Desk_character_33 rfl (lv_at hl 0 rfl) ?_
            refine va_get (D := G) (ci := 2) (v := .ref tx) (C := R_Desk) (T := F_Desk) (N := 5) hx hb hts i_Desk hown hK hP 0 rfl rfl 0 (by decide) (hts _ k_54) (fun _ h9 => h9) rfl d_Desk_character_34 ?_
            refine lv_aload_n hx hb d_Desk_character_37 rfl (lv_at hl 0 rfl) ?_
            refine va_get (D := G) (ci := 2) (v := .int (nI n)) (C := R_Desk) (T := F_Desk) (N := 5) hx hb hts i_Desk hown hK hP 0 rfl rfl 1 (by decide) (hts _ k_55) (fun _ h9 => h9) rfl d_Desk_character_38 ?_
            refine lv_iload_n hx hb d_Desk_character_41 rfl (lv_at hl 3 rfl) ?_
            refine lv_iadd hx hb d_Desk_character_42 ?_
            refine cd_top (y := nI (n + i)) (nI_add n i) ?_
            refine lv_iload_n hx hb d_Desk_character_43 rfl (lv_at hl 1 rfl) ?_
            refine lv_iload_n hx hb d_Desk_character_44 rfl (lv_at hl 2 rfl) ?_
            refine lv_iload_n hx hb d_Desk_character_45 rfl (lv_at hl 3 rfl) ?_
            refine cd_callP (rest := [.int (nI (n + i)), .ref tx]) F (c_Coder_byteOf l q w0 i hq hw0 (by omega)) (by decide) (by decide) k_88 k_89 k_3 k_90 (show cd_desc y_Coder_byteOf 3 by decide +kernel) (fun _ _ _ _ _ => trivial) (fun _ _ _ => trivial) ⟨Nat.zero_le _, Nat.zero_le _⟩ rfl hl.1 (Nat.le_of_ble_eq_true rfl) d_Desk_character_46 (fun r hr => ?_)
            subst hr
            refine lv_i2b (v := (nI (cd_by q w0 i)).toInt8.toInt32) hx hb d_Desk_character_49 rfl ?_
            refine cd_top (y := cd_e8 (cd_by q w0 i)) (rfl) ?_
            refine cd_bast (D := G) hx hb hK hP hD hS 1 0 rfl rfl (n0 := n + i) (by omega) (by omega) (cd_e8_nar _) d_Desk_character_50 (fun H locs hP hD hS => ?_)
            have hP : va_P G classes [(xo, .inr (2, [.ref tx, .int (nI n), .ref ch, .int (cd_b rd), .int pl])), (tx, .inl (ks 0, 1000, .inl (upd f1 (n + i) (cd_e8 (cd_by q w0 i)))))] H := hP
            have hD : va_D A [(xo, .inr (2, [.ref tx, .int (nI n), .ref ch, .int (cd_b rd), .int pl])), (tx, .inl (ks 0, 1000, .inl (upd f1 (n + i) (cd_e8 (cd_by q w0 i)))))] := hD
            refine lv_iinc (v := nI (i + 1)) (lv' := [(3, .int (nI (i + 1))), (0, .ref xo), (1, .int (nI q)), (2, .int (nI w0))]) hx hb d_Desk_character_51 hl (k := 3) rfl (nI_add i 1) (by decide) rfl (fun ls hl => ?_)
            refine lv_goto (tgt := 28) hx hb d_Desk_character_54 (by decide) ?_
            exact ih (i + 1) _ H locs ls (by omega) (cd_app_s hap rfl) hP hD hS (lv_sub hl [1, 2, 3, 0] rfl)
      exact loop w0 0 ft H locs ls (by omega) (cd_app_0 _ _ _) hP hD hS (lv_sub hl [2, 3, 1, 0] rfl)
    · refine lv_iconst (v := 0) hx hb d_Desk_character_24 (by decide) ?_
      exact cd_retWz hQ hx hb hr hlk d_Desk_character_25 rfl hS ((ft, n)) (Or.inl ⟨fun h => by first | omega | (rw [h.1] at c9; cases c9), rfl, rfl⟩) hP hD

set_option maxHeartbeats 4000000 in
set_option maxRecDepth 100000 in
theorem c_Model_character (l : Launch) (G : va_G) (ks : Nat → ClassId) (mo mt mk sz : Nat) (ft fk : Nat → Int32) (ln : Int32) (rd : Bool) (pl st me be : Int32) (n : Nat) (hn : n ≤ 1000) (x : Int32) : cd_MetW (S := (Nat → Int32) × Nat) l G ks y_Model_character b_Model_character 4 (some .boolean) 2 [.ref mo, .int x] (cd_M ks mo mt mk ft fk (nI n) ln rd pl st me be) sz (fun r u => cd_chrP nI ft n x r u) (fun u => cd_M ks mo mt mk u.1 fk (nI u.2) ln rd pl st me be) := by
  refine cd_metW (by decide) (Nat.le_of_ble_eq_true rfl) ?_
  intro pg e s m args below meth c R Q ls A H locs hQ hr hlk F E hP hD hA hS hl
  have hx := F.1
  have hb := F.2.1
  have hown := F.2.2.2.1
  have hts := F.2.2.2.2.1
  have hK := E.1
  have hl : lv_has ls 4 [(0, .ref mo), (1, .int x)] := hl
  have hP : va_P G classes [(mo, .inr (3, [.ref mt, .int (nI n), .ref mk, .int ln, .int (cd_b rd), .int pl, .int st, .int me, .int be])), (mt, .inl (ks 3, 1000, .inl ft)), (mk, .inl (ks 4, 1000, .inl fk))] H := hP
  have hD : va_D A [(mo, .inr (3, [.ref mt, .int (nI n), .ref mk, .int ln, .int (cd_b rd), .int pl, .int st, .int me, .int be])), (mt, .inl (ks 3, 1000, .inl ft)), (mk, .inl (ks 4, 1000, .inl fk))] := hD
  refine lv_iload_n hx hb d_Model_character_0 rfl (lv_at hl 1 rfl) ?_
  refine cd_callP (rest := []) F (c_Model_has l x) (by decide) (by decide) k_227 k_228 k_4 k_229 (show cd_desc y_Model_has 1 by decide +kernel) (fun _ _ _ _ _ => trivial) (fun _ _ _ => trivial) ⟨Nat.zero_le _, Nat.zero_le _⟩ rfl hl.1 (Nat.le_of_ble_eq_true rfl) d_Model_character_1 (fun r hr => ?_)
  subst hr
  refine cd_if_eq_b (tgt := 22) hx hb d_Model_character_4 (by decide) (fun c4 => ?_) (fun c4 => ?_)
  · refine lv_iconst (v := 0) hx hb d_Model_character_22 (by decide) ?_
    exact cd_retWz hQ hx hb hr hlk d_Model_character_23 rfl hS ((ft, n)) (Or.inl ⟨fun h => by first | omega | (rw [h.1] at c4; cases c4), rfl, rfl⟩) hP hD
  · refine lv_aload_n hx hb d_Model_character_7 rfl (lv_at hl 0 rfl) ?_
    refine va_get (D := G) (ci := 3) (v := .int (nI n)) (C := R_Model) (T := F_Model) (N := 9) hx hb hts i_Model hown hK hP 0 rfl rfl 1 (by decide) (hts _ k_191) (fun _ h9 => h9) rfl d_Model_character_8 ?_
    refine lv_iload_n hx hb d_Model_character_11 rfl (lv_at hl 1 rfl) ?_
    refine cd_callP (rest := [.int (nI n)]) F (c_Model_sizeOf l x) (by decide) (by decide) k_233 k_234 k_4 k_235 (show cd_desc y_Model_sizeOf 1 by decide +kernel) (fun _ _ _ _ _ => trivial) (fun _ _ _ => trivial) ⟨Nat.zero_le _, Nat.zero_le _⟩ rfl hl.1 (Nat.le_of_ble_eq_true rfl) d_Model_character_12 (fun r hr => ?_)
    subst hr
    have hszb := cd_sz_in x.toInt
    refine lv_iadd hx hb d_Model_character_15 ?_
    refine cd_top (y := nI (n + (cd_sz x.toInt))) (nI_add n (cd_sz x.toInt)) ?_
    refine lv_sipush (v := 1000) hx hb d_Model_character_16 (by decide) ?_
    refine cd_icmp_le (tgt := 24) hx hb d_Model_character_19 (by decide) (nI_toInt (n := n + (cd_sz x.toInt)) (by omega)) (show (1000 : Int32).toInt = 1000 by decide) (fun c19 => ?_) (fun c19 => ?_)
    · obtain ⟨q, hq, rfl, hhas⟩ := cd_has_nat c4
      obtain ⟨w0, hw0⟩ : ∃ w0, cd_sz (q : Int) = w0 := ⟨_, rfl⟩
      rw [nI_toInt (n := q) (by omega), hw0] at hszb c19
      have hl : lv_has ls 4 [(0, .ref mo), (1, .int (nI q))] := hl
      refine lv_iload_n hx hb d_Model_character_24 rfl (lv_at hl 1 rfl) ?_
      refine cd_callP (rest := []) F (c_Model_sizeOf l (nI q)) (by decide) (by decide) k_233 k_234 k_4 k_235 (show cd_desc y_Model_sizeOf 1 by decide +kernel) (fun _ _ _ _ _ => trivial) (fun _ _ _ => trivial) ⟨Nat.zero_le _, Nat.zero_le _⟩ rfl hl.1 (Nat.le_of_ble_eq_true rfl) d_Model_character_25 (fun r hr => ?_)
      subst hr
      refine cd_top (y := nI w0) (by rw [nI_toInt (by omega), hw0]) ?_
      refine lv_istore_n (lv' := [(2, .int (nI w0)), (0, .ref mo), (1, .int (nI q))]) hx hb d_Model_character_28 rfl hl (by decide) rfl (fun ls hl => ?_)
      refine lv_iconst (v := 0) hx hb d_Model_character_29 (by decide) ?_
      refine lv_istore_n (lv' := [(3, .int 0), (2, .int (nI w0)), (0, .ref mo), (1, .int (nI q))]) hx hb d_Model_character_30 rfl hl (by decide) rfl (fun ls hl => ?_)
      have loop : ∀ (t i : Nat) (f1 : Nat → Int32) (H : Heap) (locs : List Loc) (ls : Array Slot), i + t = w0 → cd_app ft f1 n i (fun j => nI (cd_by q w0 j)) → va_P G classes [(mo, .inr (3, [.ref mt, .int (nI (n + i)), .ref mk, .int ln, .int (cd_b rd), .int pl, .int st, .int me, .int be])), (mt, .inl (ks 3, 1000, .inl f1)), (mk, .inl (ks 4, 1000, .inl fk))] H → va_D A [(mo, .inr (3, [.ref mt, .int (nI (n + i)), .ref mk, .int ln, .int (cd_b rd), .int pl, .int st, .int me, .int be])), (mt, .inl (ks 3, 1000, .inl f1)), (mk, .inl (ks 4, 1000, .inl fk))] → va_S A s.heap H locs → lv_has ls 4 [(0, .ref mo), (1, .int (nI q)), (2, .int (nI w0)), (3, .int (nI i))] → W pg l e R s m args below meth c H locs 0 0 Q (F0 m 31 ls []) := by
        intro t
        induction t with
        | zero =>
          intro i f1 H locs ls hit hap hP hD hS hl
          refine lv_iload_n hx hb d_Model_character_31 rfl (lv_at hl 3 rfl) ?_
          refine lv_iload_n hx hb d_Model_character_32 rfl (lv_at hl 2 rfl) ?_
          refine cd_icmp_ge (tgt := 66) hx hb d_Model_character_33 (by decide) (nI_toInt (n := i) (by omega)) (nI_toInt (n := w0) (by omega)) (fun c33 => ?_) (fun c33 => ?_)
          · refine lv_iconst (v := 1) hx hb d_Model_character_66 (by decide) ?_
            exact cd_retWz hQ hx hb hr hlk d_Model_character_67 rfl hS ((f1, n + i)) (Or.inr ⟨q, w0, rfl, hq, hhas, hw0, by omega, rfl, by show n + i = n + w0; omega, by obtain rfl : i = w0 := (by omega); exact hap⟩) hP hD
          · exact absurd c33 (by omega)
        | succ t ih =>
          intro i f1 H locs ls hit hap hP hD hS hl
          refine lv_iload_n hx hb d_Model_character_31 rfl (lv_at hl 3 rfl) ?_
          refine lv_iload_n hx hb d_Model_character_32 rfl (lv_at hl 2 rfl) ?_
          refine cd_icmp_ge (tgt := 66) hx hb d_Model_character_33 (by decide) (nI_toInt (n := i) (by omega)) (nI_toInt (n := w0) (by omega)) (fun c33 => ?_) (fun c33 => ?_)
          · exact absurd c33 (by omega)
          · refine lv_aload_n hx hb d_Model_character_36 rfl (lv_at hl 0 rfl) ?_
            refine va_get (D := G) (ci := 3) (v := .ref mt) (C := R_Model) (T := F_Model) (N := 9) hx hb hts i_Model hown hK hP 0 rfl rfl 0 (by decide) (hts _ k_190) (fun _ h9 => h9) rfl d_Model_character_37 ?_
            refine lv_aload_n hx hb d_Model_character_40 rfl (lv_at hl 0 rfl) ?_
            refine va_get (D := G) (ci := 3) (v := .int (nI (n + i))) (C := R_Model) (T := F_Model) (N := 9) hx hb hts i_Model hown hK hP 0 rfl rfl 1 (by decide) (hts _ k_191) (fun _ h9 => h9) rfl d_Model_character_41 ?_
            refine lv_iload_n hx hb d_Model_character_44 rfl (lv_at hl 1 rfl) ?_
            refine lv_iload_n hx hb d_Model_character_45 rfl (lv_at hl 3 rfl) ?_
            refine cd_callP (rest := [.int (nI (n + i)), .ref mt]) F (c_Model_byteOf l q w0 i hq hw0 (by omega)) (by decide) (by decide) k_237 k_238 k_4 k_239 (show cd_desc y_Model_byteOf 2 by decide +kernel) (fun _ _ _ _ _ => trivial) (fun _ _ _ => trivial) ⟨Nat.zero_le _, Nat.zero_le _⟩ rfl hl.1 (Nat.le_of_ble_eq_true rfl) d_Model_character_46 (fun r hr => ?_)
            subst hr
            refine cd_iast (D := G) hx hb hK hP hD hS 1 3 rfl rfl (n0 := n + i) (by omega) (by omega) d_Model_character_49 (fun H locs hP hD hS => ?_)
            have hP : va_P G classes [(mo, .inr (3, [.ref mt, .int (nI (n + i)), .ref mk, .int ln, .int (cd_b rd), .int pl, .int st, .int me, .int be])), (mt, .inl (ks 3, 1000, .inl (upd f1 (n + i) (nI (cd_by q w0 i))))), (mk, .inl (ks 4, 1000, .inl fk))] H := hP
            have hD : va_D A [(mo, .inr (3, [.ref mt, .int (nI (n + i)), .ref mk, .int ln, .int (cd_b rd), .int pl, .int st, .int me, .int be])), (mt, .inl (ks 3, 1000, .inl (upd f1 (n + i) (nI (cd_by q w0 i))))), (mk, .inl (ks 4, 1000, .inl fk))] := hD
            refine lv_aload_n hx hb d_Model_character_50 rfl (lv_at hl 0 rfl) ?_
            refine lv_dup hx hb d_Model_character_51 rfl ?_
            refine va_get (D := G) (ci := 3) (v := .int (nI (n + i))) (C := R_Model) (T := F_Model) (N := 9) hx hb hts i_Model hown hK hP 0 rfl rfl 1 (by decide) (hts _ k_191) (fun _ h9 => h9) rfl d_Model_character_52 ?_
            refine lv_iconst (v := 1) hx hb d_Model_character_55 (by decide) ?_
            refine lv_iadd hx hb d_Model_character_56 ?_
            refine cd_top (y := nI (n + i + 1)) (nI_add (n + i) 1) ?_
            refine va_put (D := G) (ci := 3) (v := .int (nI (n + i + 1))) (ty := .int) (C := R_Model) (T := F_Model) (N := 9) hx hb hts i_Model t_Model t_Model_ok n_Model hown hK hP hD hS 0 rfl rfl 1 (by decide) (hts _ k_191) (fun _ h9 => h9) rfl (by decide +kernel) rfl rfl (Nat.le_of_ble_eq_true rfl) d_Model_character_57 (fun H locs hP hD hS => ?_)
            have hP : va_P G classes [(mo, .inr (3, [.ref mt, .int (nI (n + i + 1)), .ref mk, .int ln, .int (cd_b rd), .int pl, .int st, .int me, .int be])), (mt, .inl (ks 3, 1000, .inl (upd f1 (n + i) (nI (cd_by q w0 i))))), (mk, .inl (ks 4, 1000, .inl fk))] H := hP
            have hD : va_D A [(mo, .inr (3, [.ref mt, .int (nI (n + i + 1)), .ref mk, .int ln, .int (cd_b rd), .int pl, .int st, .int me, .int be])), (mt, .inl (ks 3, 1000, .inl (upd f1 (n + i) (nI (cd_by q w0 i))))), (mk, .inl (ks 4, 1000, .inl fk))] := hD
            refine lv_iinc (v := nI (i + 1)) (lv' := [(3, .int (nI (i + 1))), (0, .ref mo), (1, .int (nI q)), (2, .int (nI w0))]) hx hb d_Model_character_60 hl (k := 3) rfl (nI_add i 1) (by decide) rfl (fun ls hl => ?_)
            refine lv_goto (tgt := 31) hx hb d_Model_character_63 (by decide) ?_
            exact ih (i + 1) _ H locs ls (by omega) (cd_app_s hap rfl) hP hD hS (lv_sub hl [1, 2, 3, 0] rfl)
      exact loop w0 0 ft H locs ls (by omega) (cd_app_0 _ _ _) hP hD hS (lv_sub hl [2, 3, 1, 0] rfl)
    · refine lv_iconst (v := 0) hx hb d_Model_character_22 (by decide) ?_
      exact cd_retWz hQ hx hb hr hlk d_Model_character_23 rfl hS ((ft, n)) (Or.inl ⟨fun h => by first | omega | (rw [h.1] at c4; cases c4), rfl, rfl⟩) hP hD

set_option maxHeartbeats 4000000 in
set_option maxRecDepth 100000 in
theorem c_Desk_bytes (l : Launch) (o : Nat) (x : Int32) : cd_MetL l y_Desk_bytes b_Desk_bytes 6 (some .long) 1 [.ref o, .int x] (fun _ => True) (fun r => cd_bytP x r) := by
  refine cd_met (by decide) (Nat.le_of_ble_eq_true rfl) ?_
  intro pg e s m args below meth c R Q ls hR hQ hr hlk hin F hB hl
  have hx := F.1
  have hb := F.2.1
  have hown := F.2.2.2.1
  have hts := F.2.2.2.2.1
  have hl : lv_has ls 6 [(0, .ref o), (1, .int x)] := hl
  refine lv_iload_n hx hb d_Desk_bytes_0 rfl (lv_at hl 1 rfl) ?_
  refine cd_callP (rest := []) F (c_Coder_has l x) (by decide) (by decide) k_82 k_83 k_3 k_84 (show cd_desc y_Coder_has 1 by decide +kernel) (fun _ _ _ _ _ => trivial) (fun _ _ _ => trivial) ⟨Nat.zero_le _, Nat.zero_le _⟩ rfl hl.1 (Nat.le_of_ble_eq_true rfl) d_Desk_bytes_1 (fun r hr => ?_)
  subst hr
  refine cd_if_ne_b (tgt := 9) hx hb d_Desk_bytes_4 (by decide) (fun c4 => ?_) (fun c4 => ?_)
  · obtain ⟨q, hq, rfl, hhas⟩ := cd_has_nat c4
    obtain ⟨w0, hw0⟩ : ∃ w0, cd_sz (q : Int) = w0 := ⟨_, rfl⟩
    have hszb := cd_sz_in (q : Int)
    rw [hw0] at hszb
    have hl : lv_has ls 6 [(0, .ref o), (1, .int (nI q))] := hl
    refine lv_iload_n hx hb d_Desk_bytes_9 rfl (lv_at hl 1 rfl) ?_
    refine cd_callP (rest := []) F (c_Coder_sizeOf l (nI q)) (by decide) (by decide) k_78 k_79 k_3 k_80 (show cd_desc y_Coder_sizeOf 1 by decide +kernel) (fun _ _ _ _ _ => trivial) (fun _ _ _ => trivial) ⟨Nat.zero_le _, Nat.zero_le _⟩ rfl hl.1 (Nat.le_of_ble_eq_true rfl) d_Desk_bytes_10 (fun r hr => ?_)
    subst hr
    refine cd_top (y := nI w0) (by rw [nI_toInt (by omega), hw0]) ?_
    refine lv_istore_n (lv' := [(2, .int (nI w0)), (0, .ref o), (1, .int (nI q))]) hx hb d_Desk_bytes_13 rfl hl (by decide) rfl (fun ls hl => ?_)
    refine lv_iload_n hx hb d_Desk_bytes_14 rfl (lv_at hl 0 rfl) ?_
    refine lv_i2l (v := (nI w0).toInt64) hx hb d_Desk_bytes_15 rfl ?_
    refine lv_bipush (v := 56) hx hb d_Desk_bytes_16 (by decide) ?_
    refine lv_lshl (v := ((nI w0).toInt64) <<< ((56 : Int32).toInt64 &&& 63)) hx hb d_Desk_bytes_18 rfl ?_
    refine cd_topl (y := lN (cd_U q w0 0 * 2 ^ (56 - 8 * 0))) (by rw [nI_l (by omega)]; exact wb_shl w0 (k := 56) (by omega)) ?_
    refine lv_lstore_n (lv' := [(3, .long (lN (cd_U q w0 0 * 2 ^ (56 - 8 * 0)))), (2, .int (nI w0)), (0, .ref o), (1, .int (nI q))]) hx hb d_Desk_bytes_19 rfl hl (by decide) rfl (fun ls hl => ?_)
    refine lv_iconst (v := 0) hx hb d_Desk_bytes_20 (by decide) ?_
    refine lv_istore (lv' := [(5, .int 0), (3, .long (lN (cd_U q w0 0 * 2 ^ (56 - 8 * 0)))), (2, .int (nI w0)), (0, .ref o), (1, .int (nI q))]) hx hb d_Desk_bytes_21 hl (by decide) rfl (fun ls hl => ?_)
    have loop : ∀ (t k : Nat) (ls : Array Slot), k + t = w0 → lv_has ls 6 [(0, .ref o), (1, .int (nI q)), (2, .int (nI w0)), (3, .long (lN (cd_U q w0 k * 2 ^ (56 - 8 * k)))), (5, .int (nI k))] → W pg l e R s m args below meth c s.heap [] 0 0 Q (F0 m 23 ls []) := by
      intro t
      induction t with
      | zero =>
        intro k ls hkt hl
        refine lv_iload hx hb d_Desk_bytes_23 (lv_at hl 4 rfl) ?_
        refine lv_iload_n hx hb d_Desk_bytes_25 rfl (lv_at hl 2 rfl) ?_
        refine cd_icmp_ge (tgt := 55) hx hb d_Desk_bytes_26 (by decide) (nI_toInt (n := k) (by omega)) (nI_toInt (n := w0) (by omega)) (fun c26 => ?_) (fun c26 => ?_)
        · refine lv_lload_n hx hb d_Desk_bytes_55 rfl (lv_at hl 3 rfl) ?_
          exact cd_retL hQ hx hb hr hlk d_Desk_bytes_56 (Or.inr ⟨q, w0, hq, rfl, hhas, hw0, by obtain rfl : k = w0 := (by omega); rw [cd_U_end hszb]⟩)
        · exact absurd c26 (by omega)
      | succ t ih =>
        intro k ls hkt hl
        refine lv_iload hx hb d_Desk_bytes_23 (lv_at hl 4 rfl) ?_
        refine lv_iload_n hx hb d_Desk_bytes_25 rfl (lv_at hl 2 rfl) ?_
        refine cd_icmp_ge (tgt := 55) hx hb d_Desk_bytes_26 (by decide) (nI_toInt (n := k) (by omega)) (nI_toInt (n := w0) (by omega)) (fun c26 => ?_) (fun c26 => ?_)
        · exact absurd c26 (by omega)
        · refine lv_lload_n hx hb d_Desk_bytes_29 rfl (lv_at hl 3 rfl) ?_
          refine lv_iload_n hx hb d_Desk_bytes_30 rfl (lv_at hl 1 rfl) ?_
          refine lv_iload_n hx hb d_Desk_bytes_31 rfl (lv_at hl 2 rfl) ?_
          refine lv_iload hx hb d_Desk_bytes_32 (lv_at hl 4 rfl) ?_
          have hbl := cd_by_lt (k := k) hw0 hq
          refine cd_callP (rest := [.long (lN (cd_U q w0 k * 2 ^ (56 - 8 * k)))]) F (c_Coder_byteOf l q w0 k hq hw0 (by omega)) (by decide) (by decide) k_88 k_89 k_3 k_90 (show cd_desc y_Coder_byteOf 3 by decide +kernel) (fun _ _ _ _ _ => trivial) (fun _ _ _ => trivial) ⟨Nat.zero_le _, Nat.zero_le _⟩ rfl hl.1 (Nat.le_of_ble_eq_true rfl) d_Desk_bytes_34 (fun r hr => ?_)
          subst hr
          refine lv_i2l (v := (nI (cd_by q w0 k)).toInt64) hx hb d_Desk_bytes_37 rfl ?_
          refine cd_topl (y := lN (cd_by q w0 k)) (nI_l (by omega)) ?_
          refine lv_bipush (v := 48) hx hb d_Desk_bytes_38 (by decide) ?_
          refine lv_bipush (v := 8) hx hb d_Desk_bytes_40 (by decide) ?_
          refine lv_iload hx hb d_Desk_bytes_42 (lv_at hl 4 rfl) ?_
          refine lv_imul hx hb d_Desk_bytes_44 ?_
          refine cd_top (y := nI (8 * k)) (pk_mul 8 k) ?_
          refine lv_isub hx hb d_Desk_bytes_45 ?_
          refine cd_top (y := nI (48 - (8 * k))) (pk_sub (a := 48) (b := 8 * k) (by omega)) ?_
          refine lv_lshl (v := (lN (cd_by q w0 k)) <<< ((nI (48 - (8 * k))).toInt64 &&& 63)) hx hb d_Desk_bytes_46 rfl ?_
          refine lv_lor hx hb d_Desk_bytes_47 ?_
          refine cd_topl (y := lN (cd_U q w0 (k + 1) * 2 ^ (56 - 8 * (k + 1)))) (cd_U_or hw0 hq (by omega)) ?_
          refine lv_lstore_n (lv' := [(3, .long (lN (cd_U q w0 (k + 1) * 2 ^ (56 - 8 * (k + 1))))), (0, .ref o), (1, .int (nI q)), (2, .int (nI w0)), (5, .int (nI k))]) hx hb d_Desk_bytes_48 rfl hl (by decide) rfl (fun ls hl => ?_)
          refine lv_iinc (v := nI (k + 1)) (lv' := [(5, .int (nI (k + 1))), (3, .long (lN (cd_U q w0 (k + 1) * 2 ^ (56 - 8 * (k + 1))))), (0, .ref o), (1, .int (nI q)), (2, .int (nI w0))]) hx hb d_Desk_bytes_49 hl (k := 4) rfl (nI_add k 1) (by decide) rfl (fun ls hl => ?_)
          refine lv_goto (tgt := 23) hx hb d_Desk_bytes_52 (by decide) ?_
          exact ih (k + 1) ls (by omega) (lv_sub hl [2, 3, 4, 1, 0] rfl)
    exact loop w0 0 ls (by omega) (lv_sub hl [3, 4, 2, 1, 0] rfl)
  · refine lv_lconst (v := 0) hx hb d_Desk_bytes_7 (by decide) ?_
    exact cd_retL hQ hx hb hr hlk d_Desk_bytes_8 (Or.inl ⟨c4, rfl⟩)

set_option maxHeartbeats 4000000 in
set_option maxRecDepth 100000 in
theorem c_Model_bytes (l : Launch) (o : Nat) (x : Int32) : cd_MetL l y_Model_bytes b_Model_bytes 5 (some .long) 2 [.ref o, .int x] (fun _ => True) (fun r => cd_bytP x r) := by
  refine cd_met (by decide) (Nat.le_of_ble_eq_true rfl) ?_
  intro pg e s m args below meth c R Q ls hR hQ hr hlk hin F hB hl
  have hx := F.1
  have hb := F.2.1
  have hown := F.2.2.2.1
  have hts := F.2.2.2.2.1
  have hl : lv_has ls 5 [(0, .ref o), (1, .int x)] := hl
  refine lv_iload_n hx hb d_Model_bytes_0 rfl (lv_at hl 1 rfl) ?_
  refine cd_callP (rest := []) F (c_Model_has l x) (by decide) (by decide) k_227 k_228 k_4 k_229 (show cd_desc y_Model_has 1 by decide +kernel) (fun _ _ _ _ _ => trivial) (fun _ _ _ => trivial) ⟨Nat.zero_le _, Nat.zero_le _⟩ rfl hl.1 (Nat.le_of_ble_eq_true rfl) d_Model_bytes_1 (fun r hr => ?_)
  subst hr
  refine cd_if_ne_b (tgt := 9) hx hb d_Model_bytes_4 (by decide) (fun c4 => ?_) (fun c4 => ?_)
  · obtain ⟨q, hq, rfl, hhas⟩ := cd_has_nat c4
    obtain ⟨w0, hw0⟩ : ∃ w0, cd_sz (q : Int) = w0 := ⟨_, rfl⟩
    have hszb := cd_sz_in (q : Int)
    rw [hw0] at hszb
    have hl : lv_has ls 5 [(0, .ref o), (1, .int (nI q))] := hl
    refine lv_iload_n hx hb d_Model_bytes_9 rfl (lv_at hl 1 rfl) ?_
    refine cd_callP (rest := []) F (c_Model_sizeOf l (nI q)) (by decide) (by decide) k_233 k_234 k_4 k_235 (show cd_desc y_Model_sizeOf 1 by decide +kernel) (fun _ _ _ _ _ => trivial) (fun _ _ _ => trivial) ⟨Nat.zero_le _, Nat.zero_le _⟩ rfl hl.1 (Nat.le_of_ble_eq_true rfl) d_Model_bytes_10 (fun r hr => ?_)
    subst hr
    refine cd_top (y := nI w0) (by rw [nI_toInt (by omega), hw0]) ?_
    refine lv_i2l (v := (nI w0).toInt64) hx hb d_Model_bytes_13 rfl ?_
    refine cd_topl (y := lN (cd_U q w0 0)) (nI_l (by omega)) ?_
    refine lv_lstore_n (lv' := [(2, .long (lN (cd_U q w0 0))), (0, .ref o), (1, .int (nI q))]) hx hb d_Model_bytes_14 rfl hl (by decide) rfl (fun ls hl => ?_)
    refine lv_iconst (v := 0) hx hb d_Model_bytes_15 (by decide) ?_
    refine lv_istore (lv' := [(4, .int 0), (2, .long (lN (cd_U q w0 0))), (0, .ref o), (1, .int (nI q))]) hx hb d_Model_bytes_16 hl (by decide) rfl (fun ls hl => ?_)
    have loop : ∀ (t k : Nat) (ls : Array Slot), k + t = 7 → lv_has ls 5 [(0, .ref o), (1, .int (nI q)), (2, .long (lN (cd_U q w0 k))), (4, .int (nI k))] → W pg l e R s m args below meth c s.heap [] 0 0 Q (F0 m 18 ls []) := by
      intro t
      induction t with
      | zero =>
        intro k ls hkt hl
        refine lv_iload hx hb d_Model_bytes_18 (lv_at hl 3 rfl) ?_
        refine lv_bipush (v := 7) hx hb d_Model_bytes_20 (by decide) ?_
        refine cd_icmp_ge (tgt := 58) hx hb d_Model_bytes_22 (by decide) (nI_toInt (n := k) (by omega)) (show (7 : Int32).toInt = 7 by decide) (fun c22 => ?_) (fun c22 => ?_)
        · refine lv_lload_n hx hb d_Model_bytes_58 rfl (lv_at hl 2 rfl) ?_
          exact cd_retL hQ hx hb hr hlk d_Model_bytes_59 (Or.inr ⟨q, w0, hq, rfl, hhas, hw0, by obtain rfl : k = 7 := (by omega); rfl⟩)
        · exact absurd c22 (by omega)
      | succ t ih =>
        intro k ls hkt hl
        refine lv_iload hx hb d_Model_bytes_18 (lv_at hl 3 rfl) ?_
        refine lv_bipush (v := 7) hx hb d_Model_bytes_20 (by decide) ?_
        refine cd_icmp_ge (tgt := 58) hx hb d_Model_bytes_22 (by decide) (nI_toInt (n := k) (by omega)) (show (7 : Int32).toInt = 7 by decide) (fun c22 => ?_) (fun c22 => ?_)
        · exact absurd c22 (by omega)
        · refine lv_lload_n hx hb d_Model_bytes_25 rfl (lv_at hl 2 rfl) ?_
          refine lv_ldc2 (v := 256) hx hb hown (hts _ k_308) d_Model_bytes_26 ?_
          refine lv_lmul hx hb d_Model_bytes_29 ?_
          refine cd_topl (y := lN (cd_U q w0 k * 256)) (lN_mul _ 256) ?_
          refine lv_iload hx hb d_Model_bytes_30 (lv_at hl 3 rfl) ?_
          refine lv_iload_n hx hb d_Model_bytes_32 rfl (lv_at hl 1 rfl) ?_
          refine cd_callP (rest := [.int (nI k), .long (lN (cd_U q w0 k * 256))]) F (c_Model_sizeOf l (nI q)) (by decide) (by decide) k_233 k_234 k_4 k_235 (show cd_desc y_Model_sizeOf 1 by decide +kernel) (fun _ _ _ _ _ => trivial) (fun _ _ _ => trivial) ⟨Nat.zero_le _, Nat.zero_le _⟩ rfl hl.1 (Nat.le_of_ble_eq_true rfl) d_Model_bytes_33 (fun r hr => ?_)
          subst hr
          refine cd_top (y := nI w0) (by rw [nI_toInt (by omega), hw0]) ?_
          have J49 : W pg l e R s m args below meth c s.heap [] 0 0 Q (F0 m 49 ls [.int (nI (if k < w0 then cd_by q w0 k else 0)), .long (lN (cd_U q w0 k * 256))]) := by
            refine lv_i2l (v := (nI (if k < w0 then cd_by q w0 k else 0)).toInt64) hx hb d_Model_bytes_49 rfl ?_
            refine cd_topl (y := lN (if k < w0 then cd_by q w0 k else 0)) (nI_l (by have hbl := cd_by_lt (k := k) hw0 hq; split <;> omega)) ?_
            refine lv_ladd hx hb d_Model_bytes_50 ?_
            refine cd_topl (y := lN (cd_U q w0 (k + 1))) (lN_add _ _) ?_
            refine lv_lstore_n (lv' := [(2, .long (lN (cd_U q w0 (k + 1)))), (0, .ref o), (1, .int (nI q)), (4, .int (nI k))]) hx hb d_Model_bytes_51 rfl hl (by decide) rfl (fun ls hl => ?_)
            refine lv_iinc (v := nI (k + 1)) (lv' := [(4, .int (nI (k + 1))), (2, .long (lN (cd_U q w0 (k + 1)))), (0, .ref o), (1, .int (nI q))]) hx hb d_Model_bytes_52 hl (k := 3) rfl (nI_add k 1) (by decide) rfl (fun ls hl => ?_)
            refine lv_goto (tgt := 18) hx hb d_Model_bytes_55 (by decide) ?_
            exact ih (k + 1) ls (by omega) (lv_sub hl [2, 3, 1, 0] rfl)
          refine cd_icmp_ge (tgt := 48) hx hb d_Model_bytes_36 (by decide) (nI_toInt (n := k) (by omega)) (nI_toInt (n := w0) (by omega)) (fun c36 => ?_) (fun c36 => ?_)
          · refine lv_iconst (v := 0) hx hb d_Model_bytes_48 (by decide) ?_
            exact cd_top (by rw [if_neg (by omega)]; rfl) J49
          · refine lv_iload_n hx hb d_Model_bytes_39 rfl (lv_at hl 1 rfl) ?_
            refine lv_iload hx hb d_Model_bytes_40 (lv_at hl 3 rfl) ?_
            have hbl := cd_by_lt (k := k) hw0 hq
            refine cd_callP (rest := [.long (lN (cd_U q w0 k * 256))]) F (c_Model_byteOf l q w0 k hq hw0 (by omega)) (by decide) (by decide) k_237 k_238 k_4 k_239 (show cd_desc y_Model_byteOf 2 by decide +kernel) (fun _ _ _ _ _ => trivial) (fun _ _ _ => trivial) ⟨Nat.zero_le _, Nat.zero_le _⟩ rfl hl.1 (Nat.le_of_ble_eq_true rfl) d_Model_bytes_42 (fun r hr => ?_)
            subst hr
            refine lv_goto (tgt := 49) hx hb d_Model_bytes_45 (by decide) ?_
            exact cd_top (by rw [if_pos (by omega)]) J49
    exact loop 7 0 ls (by omega) (lv_sub hl [2, 3, 1, 0] rfl)
  · refine lv_lconst (v := 0) hx hb d_Model_bytes_7 (by decide) ?_
    exact cd_retL hQ hx hb hr hlk d_Model_bytes_8 (Or.inl ⟨c4, rfl⟩)
end
section
/-- the desk's text holds the bytes B, N of them -/
def cd_tk (B : Nat → Nat) (N : Nat) (f : Nat → Int32) : Prop := N ≤ 1000 ∧ ∀ j, j < N → B j < 256 ∧ f j = cd_e8 (B j)
def cd_crP (o : Option (Nat × Nat)) (r u : Int32) : Prop := match o with
  | none => r = -1
  | some (c, n) => r = nI c ∧ u = nI n
theorem cd_maskC : ∀ b, b < 256 → 2 ≤ cd_bs b → nI b &&& ((127 : Int32) >>> (nI (cd_bs b) &&& 31)) = nI (cd_c0 b (cd_bs b)) := by decide +kernel
theorem cd_V_nx {B : Nat → Nat} {N p c n : Nat} (hp : p < N) (hs : cd_seq B N p = some (c, n)) (ha : cd_alw (c : Int) = true) : cd_V B N (cd_nx B N p) = cd_V B N p := by
  rw [cd_V_go hp hs ha, cd_nx_of hs]
  by_cases hc : c = 13 ∧ p + n < N ∧ B (p + n) = 10
  · rw [if_pos hc]
    exact (cd_V_go hc.2.1 (cd_seq1 hc.2.2 (by decide) hc.2.1) (by decide)).symm
  · rw [if_neg hc]
theorem cd_seq_mark {B : Nat → Nat} {N n : Nat} (h : cd_seq B N 0 = some (65279, n)) : n = 3 ∧ 2 < N ∧ B 0 = 239 ∧ B 1 = 187 ∧ B 2 = 191 := by
  have ho := cd_seq_ok h
  have hn3 : n = 3 := by
    have := ho.2.2.2.2.1
    rw [show cd_sz ((65279 : Nat) : Int) = 3 from by decide] at this
    exact this.symm
  subst hn3
  unfold cd_seq at h
  obtain ⟨k, hk⟩ : ∃ k, k = cd_bm (B 0) := ⟨_, rfl⟩
  have h2 := cd_bm_bd hk
  by_cases g : k = 0 ∨ N < 0 + k
  · rw [cd_sq_none hk g] at h; cases h
  · rw [cd_sq_some hk g] at h
    have hk3 : k = 3 := by
      unfold cd_fin at h
      split at h
      · cases h
      · split at h
        · cases h; rfl
        · cases h
    subst hk3
    simp only [show (3 : Nat) - 1 = 2 from rfl, cd_fold, Nat.zero_add, show cd_c0 (B 0) 3 = B 0 - 224 from rfl] at h
    by_cases g1 : 128 ≤ B 1 ∧ B 1 ≤ 191
    · rw [if_pos g1] at h
      by_cases g2 : 128 ≤ B (1 + 1) ∧ B (1 + 1) ≤ 191
      · rw [if_pos g2] at h
        simp only [cd_fin] at h
        split at h
        · have h9 := congrArg Prod.fst (Option.some.inj h)
          simp only [show (1 : Nat) + 1 = 2 from rfl] at h9 g2
          omega
        · cases h
      · rw [if_neg g2] at h; cases h
    · rw [if_neg g1] at h; cases h
theorem cd_s0_no {B : Nat → Nat} {N c n : Nat} (h : cd_seq B N 0 = some (c, n)) (hc : c ≠ 65279) : cd_s0 B N = 0 := by
  unfold cd_s0
  rw [if_neg]
  intro hb
  rw [cd_seq_bom hb] at h
  cases h
  exact hc rfl
/-- the tokens as the desk keeps them -/
def cd_tok (B : Nat → Nat) (N M : Nat) (fc fp : Nat → Int32) : Prop := (∀ j, j < M → fc j = nI (cd_chr B N (cd_P B N j)) ∧ fp j = nI (cd_P B N j)) ∧ fp M = nI N
def cd_csP (B : Nat → Nat) (N : Nat) (r : Int32) (fc fp : Nat → Int32) (cz cp : Int32) : Prop :=
  (cd_ok B N 0 ∧ r = 0 ∧ ∃ M, cd_isM B N M ∧ cz = nI M ∧ cd_tok B N M fc fp) ∨ (∃ f q, cd_V B N 0 = (f, q) ∧ (f = 1 ∨ f = 2) ∧ r = nI f ∧ cz = 0 ∧ cp = nI q)
abbrev cd_C (ks : Nat → ClassId) (ch cs ps co tx : Nat) (fc fp ft : Nat → Int32) (cz cp cq : Int32) : va_W := [(ch, .inr (1, [.ref cs, .ref ps, .ref co, .int cz, .int cp])), (cs, .inl (ks 1, 1000, .inl fc)), (ps, .inl (ks 2, 1001, .inl fp)), (co, .inr (0, [.int cq])), (tx, .inl (ks 0, 1000, .inl ft))]
end
section
set_option maxHeartbeats 4000000 in
set_option maxRecDepth 100000 in
theorem c_Coder_read (l : Launch) (G : va_G) (ks : Nat → ClassId) (co tx sz : Nat) (ft : Nat → Int32) (cq : Int32) (B : Nat → Nat) (N p : Nat) (hk : cd_tk B N ft) (hp : p < N) : cd_MetW (S := Int32) l G ks y_Coder_read b_Coder_read 8 (some .int) 1 [.ref co, .ref tx, .int (nI p), .int (nI N)] ([(co, .inr (0, [.int cq])), (tx, .inl (ks 0, 1000, .inl ft))]) sz (fun r u => cd_crP (cd_seq B N p) r u) (fun u => [(co, .inr (0, [.int u])), (tx, .inl (ks 0, 1000, .inl ft))]) := by
  refine cd_metW (by decide) (Nat.le_of_ble_eq_true rfl) ?_
  intro pg e s m args below meth c R Q ls A H locs hQ hr hlk F E hP hD hA hS hl
  have hx := F.1
  have hb := F.2.1
  have hown := F.2.2.2.1
  have hts := F.2.2.2.2.1
  have hK := E.1
  have hl : lv_has ls 8 [(0, .ref co), (1, .ref tx), (2, .int (nI p)), (3, .int (nI N))] := hl
  have hP : va_P G classes [(co, .inr (0, [.int cq])), (tx, .inl (ks 0, 1000, .inl ft))] H := hP
  have hD : va_D A [(co, .inr (0, [.int cq])), (tx, .inl (ks 0, 1000, .inl ft))] := hD
  obtain ⟨hN, hkb⟩ := hk
  obtain ⟨n, hn⟩ : ∃ n, n = cd_bs (B p) := ⟨_, rfl⟩
  have hnb := cd_bs_bd hn
  have hB0 := (hkb p hp).1
  refine lv_aload_n hx hb d_Coder_read_0 rfl (lv_at hl 1 rfl) ?_
  refine lv_iload_n hx hb d_Coder_read_1 rfl (lv_at hl 2 rfl) ?_
  refine cd_bald (D := G) hx hb hK hP 1 0 rfl rfl (n0 := p) (by omega) (by omega) d_Coder_read_2 ?_
  refine cd_top (y := cd_e8 (B p)) ((hkb p hp).2) ?_
  refine lv_sipush (v := 255) hx hb d_Coder_read_3 (by decide) ?_
  refine lv_iand hx hb d_Coder_read_6 ?_
  refine cd_top (y := nI (B p)) (cd_e8_and _ hB0) ?_
  refine lv_istore (lv' := [(4, .int (nI (B p))), (0, .ref co), (1, .ref tx), (2, .int (nI p)), (3, .int (nI N))]) hx hb d_Coder_read_7 hl (by decide) rfl (fun ls hl => ?_)
  refine lv_aload_n hx hb d_Coder_read_9 rfl (lv_at hl 1 rfl) ?_
  refine lv_iload hx hb d_Coder_read_10 (lv_at hl 0 rfl) ?_
  refine cd_callP (rest := [.ref co]) F (c_Coder_begins l (B p) hB0) (by decide) (by decide) k_103 k_104 k_3 k_105 (show cd_desc y_Coder_begins 1 by decide +kernel) (fun _ _ _ _ _ => trivial) (fun _ _ _ => trivial) ⟨Nat.zero_le _, Nat.zero_le _⟩ rfl hl.1 (Nat.le_of_ble_eq_true rfl) d_Coder_read_12 (fun r hr => ?_)
  subst hr
  refine cd_top (y := nI n) (by rw [hn]) ?_
  refine va_put (D := G) (ci := 0) (v := .int (nI n)) (ty := .int) (C := R_Coder) (T := F_Coder) (N := 1) hx hb hts i_Coder t_Coder t_Coder_ok n_Coder hown hK hP hD hS 0 rfl rfl 0 (by decide) (hts _ k_28) (fun _ h9 => h9) rfl (by decide +kernel) rfl rfl (Nat.le_of_ble_eq_true rfl) d_Coder_read_15 (fun H locs hP hD hS => ?_)
  have hP : va_P G classes [(co, .inr (0, [.int (nI n)])), (tx, .inl (ks 0, 1000, .inl ft))] H := hP
  have hD : va_D A [(co, .inr (0, [.int (nI n)])), (tx, .inl (ks 0, 1000, .inl ft))] := hD
  refine lv_aload_n hx hb d_Coder_read_18 rfl (lv_at hl 1 rfl) ?_
  refine va_get (D := G) (ci := 0) (v := .int (nI n)) (C := R_Coder) (T := F_Coder) (N := 1) hx hb hts i_Coder hown hK hP 0 rfl rfl 0 (by decide) (hts _ k_28) (fun _ h9 => h9) rfl d_Coder_read_19 ?_
  refine cd_if_eq (tgt := 35) hx hb d_Coder_read_22 (by decide) (nI_toInt (n := n) (by omega)) (fun c22 => ?_) (fun c22 => ?_)
  · refine lv_iconst (v := -1) hx hb d_Coder_read_35 (by decide) ?_
    exact cd_retWi hQ hx hb hr hlk d_Coder_read_36 hS (nI n) (by rw [← cd_sq_eq hB0, cd_sq_none hn (by omega)]; rfl) hP hD
  · refine lv_iload_n hx hb d_Coder_read_25 rfl (lv_at hl 3 rfl) ?_
    refine lv_aload_n hx hb d_Coder_read_26 rfl (lv_at hl 1 rfl) ?_
    refine va_get (D := G) (ci := 0) (v := .int (nI n)) (C := R_Coder) (T := F_Coder) (N := 1) hx hb hts i_Coder hown hK hP 0 rfl rfl 0 (by decide) (hts _ k_28) (fun _ h9 => h9) rfl d_Coder_read_27 ?_
    refine lv_iadd hx hb d_Coder_read_30 ?_
    refine cd_top (y := nI (p + n)) (nI_add p n) ?_
    refine lv_iload_n hx hb d_Coder_read_31 rfl (lv_at hl 4 rfl) ?_
    refine cd_icmp_le (tgt := 37) hx hb d_Coder_read_32 (by decide) (nI_toInt (n := p + n) (by omega)) (nI_toInt (n := N) (by omega)) (fun c32 => ?_) (fun c32 => ?_)
    · refine lv_aload_n hx hb d_Coder_read_37 rfl (lv_at hl 1 rfl) ?_
      refine va_get (D := G) (ci := 0) (v := .int (nI n)) (C := R_Coder) (T := F_Coder) (N := 1) hx hb hts i_Coder hown hK hP 0 rfl rfl 0 (by decide) (hts _ k_28) (fun _ h9 => h9) rfl d_Coder_read_38 ?_
      refine lv_iconst (v := 1) hx hb d_Coder_read_41 (by decide) ?_
      have J60 : W pg l e R s m args below meth c H locs 0 0 Q (F0 m 60 ls [.int (nI (cd_c0 (B p) n))]) := by
        refine lv_istore (lv' := [(5, .int (nI (cd_c0 (B p) n))), (4, .int (nI (B p))), (0, .ref co), (1, .ref tx), (2, .int (nI p)), (3, .int (nI N))]) hx hb d_Coder_read_60 hl (by decide) rfl (fun ls hl => ?_)
        refine lv_iconst (v := 1) hx hb d_Coder_read_62 (by decide) ?_
        refine lv_istore (lv' := [(6, .int 1), (5, .int (nI (cd_c0 (B p) n))), (4, .int (nI (B p))), (0, .ref co), (1, .ref tx), (2, .int (nI p)), (3, .int (nI N))]) hx hb d_Coder_read_63 hl (by decide) rfl (fun ls hl => ?_)
        have hge : ¬ (n = 0 ∨ N < p + n) := by omega
        have hsq : cd_seq B N p = _ := (cd_sq_eq hB0).symm.trans (cd_sq_some hn hge)
        generalize hF : cd_fold B p (n - 1) 1 (cd_c0 (B p) n) = o at hsq
        have loop : ∀ (r k x : Nat) (ls : Array Slot), n = k + r → 1 ≤ k → cd_fold B p r k x = o → (x + 1) * 64 ^ r ≤ 2097152 → lv_has ls 8 [(0, .ref co), (1, .ref tx), (2, .int (nI p)), (3, .int (nI N)), (4, .int (nI (B p))), (5, .int (nI x)), (6, .int (nI k))] → W pg l e R s m args below meth c H locs 0 0 Q (F0 m 65 ls []) := by
          intro r
          induction r with
          | zero =>
            intro k x ls hk1 hk2 hf hbd hl
            have hx0 := cd_64 hbd
            have ho : o = some x := hf.symm
            refine lv_iload hx hb d_Coder_read_65 (lv_at hl 6 rfl) ?_
            refine lv_aload_n hx hb d_Coder_read_67 rfl (lv_at hl 0 rfl) ?_
            refine va_get (D := G) (ci := 0) (v := .int (nI n)) (C := R_Coder) (T := F_Coder) (N := 1) hx hb hts i_Coder hown hK hP 0 rfl rfl 0 (by decide) (hts _ k_28) (fun _ h9 => h9) rfl d_Coder_read_68 ?_
            refine cd_icmp_ge (tgt := 116) hx hb d_Coder_read_71 (by decide) (nI_toInt (n := k) (by omega)) (nI_toInt (n := n) (by omega)) (fun c71 => ?_) (fun c71 => ?_)
            · refine lv_iload hx hb d_Coder_read_116 (lv_at hl 5 rfl) ?_
              refine cd_callP (rest := []) F (c_Coder_has l (nI x)) (by decide) (by decide) k_106 k_83 k_3 k_84 (show cd_desc y_Coder_has 1 by decide +kernel) (fun _ _ _ _ _ => trivial) (fun _ _ _ => trivial) ⟨Nat.zero_le _, Nat.zero_le _⟩ rfl hl.1 (Nat.le_of_ble_eq_true rfl) d_Coder_read_118 (fun r hr => ?_)
              subst hr
              refine cd_top (y := cd_b (cd_has (x : Int))) (by rw [nI_toInt (by omega)]) ?_
              refine cd_if_eq_b (tgt := 141) hx hb d_Coder_read_121 (by decide) (fun c121 => ?_) (fun c121 => ?_)
              · refine lv_iconst (v := -1) hx hb d_Coder_read_141 (by decide) ?_
                exact cd_retWi hQ hx hb hr hlk d_Coder_read_142 hS (nI n) (by rw [hsq, ho]; simp only [cd_fin]; rw [if_neg (fun h => by first | omega | (rw [h.1] at c121; cases c121))]; rfl) hP hD
              · refine lv_iload hx hb d_Coder_read_124 (lv_at hl 5 rfl) ?_
                refine cd_callP (rest := []) F (c_Coder_sizeOf l (nI x)) (by decide) (by decide) k_107 k_79 k_3 k_80 (show cd_desc y_Coder_sizeOf 1 by decide +kernel) (fun _ _ _ _ _ => trivial) (fun _ _ _ => trivial) ⟨Nat.zero_le _, Nat.zero_le _⟩ rfl hl.1 (Nat.le_of_ble_eq_true rfl) d_Coder_read_126 (fun r hr => ?_)
                subst hr
                refine cd_top (y := nI (cd_sz (x : Int))) (by rw [nI_toInt (by omega)]) ?_
                have hszb := cd_sz_in (x : Int)
                refine lv_aload_n hx hb d_Coder_read_129 rfl (lv_at hl 0 rfl) ?_
                refine va_get (D := G) (ci := 0) (v := .int (nI n)) (C := R_Coder) (T := F_Coder) (N := 1) hx hb hts i_Coder hown hK hP 0 rfl rfl 0 (by decide) (hts _ k_28) (fun _ h9 => h9) rfl d_Coder_read_130 ?_
                refine cd_icmp_ne (tgt := 141) hx hb d_Coder_read_133 (by decide) (nI_toInt (n := cd_sz (x : Int)) (by omega)) (nI_toInt (n := n) (by omega)) (fun c133 => ?_) (fun c133 => ?_)
                · refine lv_iconst (v := -1) hx hb d_Coder_read_141 (by decide) ?_
                  exact cd_retWi hQ hx hb hr hlk d_Coder_read_142 hS (nI n) (by rw [hsq, ho]; simp only [cd_fin]; rw [if_neg (fun h => by first | omega | (rw [h.1] at c121; cases c121))]; rfl) hP hD
                · refine lv_iload hx hb d_Coder_read_136 (lv_at hl 5 rfl) ?_
                  refine lv_goto (tgt := 142) hx hb d_Coder_read_138 (by decide) ?_
                  exact cd_retWi hQ hx hb hr hlk d_Coder_read_142 hS (nI n) (by rw [hsq, ho]; simp only [cd_fin]; rw [if_pos ⟨c121, by omega⟩]; exact ⟨rfl, rfl⟩) hP hD
            · exact absurd c71 (by omega)
          | succ r ih =>
            intro k x ls hk1 hk2 hf hbd hl
            have hx0 := cd_64 hbd
            have hB1 := (hkb (p + k) (by omega)).1
            refine lv_iload hx hb d_Coder_read_65 (lv_at hl 6 rfl) ?_
            refine lv_aload_n hx hb d_Coder_read_67 rfl (lv_at hl 0 rfl) ?_
            refine va_get (D := G) (ci := 0) (v := .int (nI n)) (C := R_Coder) (T := F_Coder) (N := 1) hx hb hts i_Coder hown hK hP 0 rfl rfl 0 (by decide) (hts _ k_28) (fun _ h9 => h9) rfl d_Coder_read_68 ?_
            refine cd_icmp_ge (tgt := 116) hx hb d_Coder_read_71 (by decide) (nI_toInt (n := k) (by omega)) (nI_toInt (n := n) (by omega)) (fun c71 => ?_) (fun c71 => ?_)
            · exact absurd c71 (by omega)
            · refine lv_aload_n hx hb d_Coder_read_74 rfl (lv_at hl 1 rfl) ?_
              refine lv_iload_n hx hb d_Coder_read_75 rfl (lv_at hl 2 rfl) ?_
              refine lv_iload hx hb d_Coder_read_76 (lv_at hl 6 rfl) ?_
              refine lv_iadd hx hb d_Coder_read_78 ?_
              refine cd_top (y := nI (p + k)) (nI_add p k) ?_
              refine cd_bald (D := G) hx hb hK hP 1 0 rfl rfl (n0 := p + k) (by omega) (by omega) d_Coder_read_79 ?_
              refine cd_top (y := cd_e8 (B (p + k))) ((hkb (p + k) (by omega)).2) ?_
              refine lv_sipush (v := 255) hx hb d_Coder_read_80 (by decide) ?_
              refine lv_iand hx hb d_Coder_read_83 ?_
              refine cd_top (y := nI (B (p + k))) (cd_e8_and _ hB1) ?_
              refine lv_istore (lv' := [(7, .int (nI (B (p + k)))), (0, .ref co), (1, .ref tx), (2, .int (nI p)), (3, .int (nI N)), (4, .int (nI (B p))), (5, .int (nI x)), (6, .int (nI k))]) hx hb d_Coder_read_84 hl (by decide) rfl (fun ls hl => ?_)
              refine lv_iload hx hb d_Coder_read_86 (lv_at hl 0 rfl) ?_
              refine lv_bipush (v := 6) hx hb d_Coder_read_88 (by decide) ?_
              refine lv_ishr hx hb d_Coder_read_90 ?_
              refine cd_top (y := nI (B (p + k) / 64)) (pk_shrN (n := B (p + k)) (by omega) _ 6 (by decide)) ?_
              refine lv_iconst (v := 2) hx hb d_Coder_read_91 (by decide) ?_
              refine cd_icmp_eq (tgt := 97) hx hb d_Coder_read_92 (by decide) (nI_toInt (n := B (p + k) / 64) (by omega)) (show (2 : Int32).toInt = 2 by decide) (fun c92 => ?_) (fun c92 => ?_)
              · refine lv_iload hx hb d_Coder_read_97 (lv_at hl 6 rfl) ?_
                refine lv_bipush (v := 6) hx hb d_Coder_read_99 (by decide) ?_
                refine lv_ishl hx hb d_Coder_read_101 ?_
                refine cd_top (y := nI (64 * x)) ((pk_shlN (n := x) _ 6 (by decide) (by omega)).trans (congrArg nI (Nat.mul_comm _ _))) ?_
                refine lv_iload hx hb d_Coder_read_102 (lv_at hl 0 rfl) ?_
                refine lv_bipush (v := 63) hx hb d_Coder_read_104 (by decide) ?_
                refine lv_iand hx hb d_Coder_read_106 ?_
                refine cd_top (y := nI (B (p + k) % 64)) (cd_and63 (by omega)) ?_
                refine lv_ior hx hb d_Coder_read_107 ?_
                refine cd_top (y := nI (64 * x + B (p + k) - 128)) ((cd_orp (i := 6) (a := x) (b := B (p + k) % 64) (by omega)).trans (congrArg nI (by omega))) ?_
                refine lv_istore (lv' := [(5, .int (nI (64 * x + B (p + k) - 128))), (7, .int (nI (B (p + k)))), (0, .ref co), (1, .ref tx), (2, .int (nI p)), (3, .int (nI N)), (4, .int (nI (B p))), (6, .int (nI k))]) hx hb d_Coder_read_108 hl (by decide) rfl (fun ls hl => ?_)
                refine lv_iinc (v := nI (k + 1)) (lv' := [(6, .int (nI (k + 1))), (5, .int (nI (64 * x + B (p + k) - 128))), (7, .int (nI (B (p + k)))), (0, .ref co), (1, .ref tx), (2, .int (nI p)), (3, .int (nI N)), (4, .int (nI (B p)))]) hx hb d_Coder_read_110 hl (k := 7) rfl (nI_add k 1) (by decide) rfl (fun ls hl => ?_)
                refine lv_goto (tgt := 65) hx hb d_Coder_read_113 (by decide) ?_
                exact ih (k + 1) (64 * x + B (p + k) - 128) ls (by omega) (by omega) (by rw [← hf, cd_fold, if_pos (by omega)]) (cd_64s hbd (by omega)) (lv_sub hl [3, 4, 5, 6, 7, 1, 0] rfl)
              · refine lv_iconst (v := -1) hx hb d_Coder_read_95 (by decide) ?_
                exact cd_retWi hQ hx hb hr hlk d_Coder_read_96 hS (nI n) (by rw [hsq, ← hf, cd_fold, if_neg (by omega)]; rfl) hP hD
        exact loop (n - 1) 1 (cd_c0 (B p) n) ls (by omega) (by omega) hF (cd_64y hn (by omega)) (lv_sub hl [3, 4, 5, 6, 2, 1, 0] rfl)
      refine cd_icmp_ne (tgt := 50) hx hb d_Coder_read_42 (by decide) (nI_toInt (n := n) (by omega)) (show (1 : Int32).toInt = 1 by decide) (fun c42 => ?_) (fun c42 => ?_)
      · refine lv_iload hx hb d_Coder_read_50 (lv_at hl 0 rfl) ?_
        refine lv_bipush (v := 127) hx hb d_Coder_read_52 (by decide) ?_
        refine lv_aload_n hx hb d_Coder_read_54 rfl (lv_at hl 1 rfl) ?_
        refine va_get (D := G) (ci := 0) (v := .int (nI n)) (C := R_Coder) (T := F_Coder) (N := 1) hx hb hts i_Coder hown hK hP 0 rfl rfl 0 (by decide) (hts _ k_28) (fun _ h9 => h9) rfl d_Coder_read_55 ?_
        refine lv_ishr hx hb d_Coder_read_58 ?_
        refine lv_iand hx hb d_Coder_read_59 ?_
        refine cd_top (y := nI (cd_c0 (B p) n)) (by rw [hn]; exact cd_maskC _ hB0 (by omega)) ?_
        exact cd_top (rfl) J60
      · refine lv_iload hx hb d_Coder_read_45 (lv_at hl 0 rfl) ?_
        refine lv_goto (tgt := 60) hx hb d_Coder_read_47 (by decide) ?_
        exact cd_top (by rw [cd_c0, if_pos (by omega)]) J60
    · refine lv_iconst (v := -1) hx hb d_Coder_read_35 (by decide) ?_
      exact cd_retWi hQ hx hb hr hlk d_Coder_read_36 hS (nI n) (by rw [← cd_sq_eq hB0, cd_sq_none hn (by omega)]; rfl) hP hD

set_option maxHeartbeats 4000000 in
set_option maxRecDepth 100000 in
theorem c_Chars_fail (l : Launch) (G : va_G) (ks : Nat → ClassId) (ch cs ps co sz : Nat) (cz cp x : Int32) : cd_MetW (S := Unit) l G ks y_Chars_fail b_Chars_fail 2 (some .int) 0 [.ref ch, .int x] ([(ch, .inr (1, [.ref cs, .ref ps, .ref co, .int cz, .int cp]))]) sz (fun r _ => r = x) (fun _ => [(ch, .inr (1, [.ref cs, .ref ps, .ref co, .int 0, .int cp]))]) := by
  refine cd_metW (by decide) (Nat.le_of_ble_eq_true rfl) ?_
  intro pg e s m args below meth c R Q ls A H locs hQ hr hlk F E hP hD hA hS hl
  have hx := F.1
  have hb := F.2.1
  have hown := F.2.2.2.1
  have hts := F.2.2.2.2.1
  have hK := E.1
  have hl : lv_has ls 2 [(0, .ref ch), (1, .int x)] := hl
  have hP : va_P G classes [(ch, .inr (1, [.ref cs, .ref ps, .ref co, .int cz, .int cp]))] H := hP
  have hD : va_D A [(ch, .inr (1, [.ref cs, .ref ps, .ref co, .int cz, .int cp]))] := hD
  refine lv_aload_n hx hb d_Chars_fail_0 rfl (lv_at hl 0 rfl) ?_
  refine lv_iconst (v := 0) hx hb d_Chars_fail_1 (by decide) ?_
  refine va_put (D := G) (ci := 1) (v := .int 0) (ty := .int) (C := R_Chars) (T := F_Chars) (N := 5) hx hb hts i_Chars t_Chars t_Chars_ok n_Chars hown hK hP hD hS 0 rfl rfl 3 (by decide) (hts _ k_38) (fun _ h9 => h9) rfl (by decide +kernel) rfl rfl (Nat.le_of_ble_eq_true rfl) d_Chars_fail_2 (fun H locs hP hD hS => ?_)
  have hP : va_P G classes [(ch, .inr (1, [.ref cs, .ref ps, .ref co, .int 0, .int cp]))] H := hP
  have hD : va_D A [(ch, .inr (1, [.ref cs, .ref ps, .ref co, .int 0, .int cp]))] := hD
  refine lv_iload_n hx hb d_Chars_fail_5 rfl (lv_at hl 1 rfl) ?_
  exact cd_retWi hQ hx hb hr hlk d_Chars_fail_6 hS (()) (rfl) hP hD

set_option maxHeartbeats 4000000 in
set_option maxRecDepth 100000 in
theorem c_Chars_add (l : Launch) (G : va_G) (ks : Nat → ClassId) (ch cs ps co sz : Nat) (fc fp : Nat → Int32) (k : Nat) (hk : k < 1000) (cp x : Int32) : cd_MetV (S := Unit) l G ks y_Chars_add b_Chars_add 2 none 0 [.ref ch, .int x] ([(ch, .inr (1, [.ref cs, .ref ps, .ref co, .int (nI k), .int cp])), (cs, .inl (ks 1, 1000, .inl fc)), (ps, .inl (ks 2, 1001, .inl fp))]) sz (fun _ => True) (fun _ => [(ch, .inr (1, [.ref cs, .ref ps, .ref co, .int (nI (k + 1)), .int cp])), (cs, .inl (ks 1, 1000, .inl (upd fc k x))), (ps, .inl (ks 2, 1001, .inl (upd fp k cp)))]) := by
  refine cd_metV (by decide) (Nat.le_of_ble_eq_true rfl) ?_
  intro pg e s m args below meth c R Q ls A H locs hQ hr hlk F E hP hD hA hS hl
  have hx := F.1
  have hb := F.2.1
  have hown := F.2.2.2.1
  have hts := F.2.2.2.2.1
  have hK := E.1
  have hl : lv_has ls 2 [(0, .ref ch), (1, .int x)] := hl
  have hP : va_P G classes [(ch, .inr (1, [.ref cs, .ref ps, .ref co, .int (nI k), .int cp])), (cs, .inl (ks 1, 1000, .inl fc)), (ps, .inl (ks 2, 1001, .inl fp))] H := hP
  have hD : va_D A [(ch, .inr (1, [.ref cs, .ref ps, .ref co, .int (nI k), .int cp])), (cs, .inl (ks 1, 1000, .inl fc)), (ps, .inl (ks 2, 1001, .inl fp))] := hD
  refine lv_aload_n hx hb d_Chars_add_0 rfl (lv_at hl 0 rfl) ?_
  refine va_get (D := G) (ci := 1) (v := .ref cs) (C := R_Chars) (T := F_Chars) (N := 5) hx hb hts i_Chars hown hK hP 0 rfl rfl 0 (by decide) (hts _ k_33) (fun _ h9 => h9) rfl d_Chars_add_1 ?_
  refine lv_aload_n hx hb d_Chars_add_4 rfl (lv_at hl 0 rfl) ?_
  refine va_get (D := G) (ci := 1) (v := .int (nI k)) (C := R_Chars) (T := F_Chars) (N := 5) hx hb hts i_Chars hown hK hP 0 rfl rfl 3 (by decide) (hts _ k_38) (fun _ h9 => h9) rfl d_Chars_add_5 ?_
  refine lv_iload_n hx hb d_Chars_add_8 rfl (lv_at hl 1 rfl) ?_
  refine cd_iast (D := G) hx hb hK hP hD hS 1 1 rfl rfl (n0 := k) (by omega) (by omega) d_Chars_add_9 (fun H locs hP hD hS => ?_)
  have hP : va_P G classes [(ch, .inr (1, [.ref cs, .ref ps, .ref co, .int (nI k), .int cp])), (cs, .inl (ks 1, 1000, .inl (upd fc k (x)))), (ps, .inl (ks 2, 1001, .inl fp))] H := hP
  have hD : va_D A [(ch, .inr (1, [.ref cs, .ref ps, .ref co, .int (nI k), .int cp])), (cs, .inl (ks 1, 1000, .inl (upd fc k (x)))), (ps, .inl (ks 2, 1001, .inl fp))] := hD
  refine lv_aload_n hx hb d_Chars_add_10 rfl (lv_at hl 0 rfl) ?_
  refine va_get (D := G) (ci := 1) (v := .ref ps) (C := R_Chars) (T := F_Chars) (N := 5) hx hb hts i_Chars hown hK hP 0 rfl rfl 1 (by decide) (hts _ k_35) (fun _ h9 => h9) rfl d_Chars_add_11 ?_
  refine lv_aload_n hx hb d_Chars_add_14 rfl (lv_at hl 0 rfl) ?_
  refine va_get (D := G) (ci := 1) (v := .int (nI k)) (C := R_Chars) (T := F_Chars) (N := 5) hx hb hts i_Chars hown hK hP 0 rfl rfl 3 (by decide) (hts _ k_38) (fun _ h9 => h9) rfl d_Chars_add_15 ?_
  refine lv_aload_n hx hb d_Chars_add_18 rfl (lv_at hl 0 rfl) ?_
  refine va_get (D := G) (ci := 1) (v := .int cp) (C := R_Chars) (T := F_Chars) (N := 5) hx hb hts i_Chars hown hK hP 0 rfl rfl 4 (by decide) (hts _ k_40) (fun _ h9 => h9) rfl d_Chars_add_19 ?_
  refine cd_iast (D := G) hx hb hK hP hD hS 2 2 rfl rfl (n0 := k) (by omega) (by omega) d_Chars_add_22 (fun H locs hP hD hS => ?_)
  have hP : va_P G classes [(ch, .inr (1, [.ref cs, .ref ps, .ref co, .int (nI k), .int cp])), (cs, .inl (ks 1, 1000, .inl (upd fc k (x)))), (ps, .inl (ks 2, 1001, .inl (upd fp k (cp))))] H := hP
  have hD : va_D A [(ch, .inr (1, [.ref cs, .ref ps, .ref co, .int (nI k), .int cp])), (cs, .inl (ks 1, 1000, .inl (upd fc k (x)))), (ps, .inl (ks 2, 1001, .inl (upd fp k (cp))))] := hD
  refine lv_aload_n hx hb d_Chars_add_23 rfl (lv_at hl 0 rfl) ?_
  refine lv_dup hx hb d_Chars_add_24 rfl ?_
  refine va_get (D := G) (ci := 1) (v := .int (nI k)) (C := R_Chars) (T := F_Chars) (N := 5) hx hb hts i_Chars hown hK hP 0 rfl rfl 3 (by decide) (hts _ k_38) (fun _ h9 => h9) rfl d_Chars_add_25 ?_
  refine lv_iconst (v := 1) hx hb d_Chars_add_28 (by decide) ?_
  refine lv_iadd hx hb d_Chars_add_29 ?_
  refine cd_top (y := nI (k + 1)) (nI_add k 1) ?_
  refine va_put (D := G) (ci := 1) (v := .int (nI (k + 1))) (ty := .int) (C := R_Chars) (T := F_Chars) (N := 5) hx hb hts i_Chars t_Chars t_Chars_ok n_Chars hown hK hP hD hS 0 rfl rfl 3 (by decide) (hts _ k_38) (fun _ h9 => h9) rfl (by decide +kernel) rfl rfl (Nat.le_of_ble_eq_true rfl) d_Chars_add_30 (fun H locs hP hD hS => ?_)
  have hP : va_P G classes [(ch, .inr (1, [.ref cs, .ref ps, .ref co, .int (nI (k + 1)), .int cp])), (cs, .inl (ks 1, 1000, .inl (upd fc k (x)))), (ps, .inl (ks 2, 1001, .inl (upd fp k (cp))))] H := hP
  have hD : va_D A [(ch, .inr (1, [.ref cs, .ref ps, .ref co, .int (nI (k + 1)), .int cp])), (cs, .inl (ks 1, 1000, .inl (upd fc k (x)))), (ps, .inl (ks 2, 1001, .inl (upd fp k (cp))))] := hD
  exact cd_retV hQ hx hb hr hlk d_Chars_add_33 hS (()) (trivial) hP hD
end
section
set_option maxHeartbeats 4000000 in
set_option maxRecDepth 100000 in
theorem c_Chars_read (l : Launch) (G : va_G) (ks : Nat → ClassId) (ch cs ps co tx sz : Nat) (fc fp ft : Nat → Int32) (cz cp cq : Int32) (B : Nat → Nat) (N : Nat) (hk : cd_tk B N ft) : cd_MetW (S := (Nat → Int32) × (Nat → Int32) × Int32 × Int32 × Int32) l G ks y_Chars_read b_Chars_read 5 (some .int) 2 [.ref ch, .ref tx, .int (nI N)] (cd_C ks ch cs ps co tx fc fp ft cz cp cq) sz (fun r u => cd_csP B N r u.1 u.2.1 u.2.2.1 u.2.2.2.1) (fun u => cd_C ks ch cs ps co tx u.1 u.2.1 ft u.2.2.1 u.2.2.2.1 u.2.2.2.2) := by
  refine cd_metW (by decide) (Nat.le_of_ble_eq_true rfl) ?_
  intro pg e s m args below meth c R Q ls A H locs hQ hr hlk F E hP hD hA hS hl
  have hx := F.1
  have hb := F.2.1
  have hown := F.2.2.2.1
  have hts := F.2.2.2.2.1
  have hK := E.1
  have hl : lv_has ls 5 [(0, .ref ch), (1, .ref tx), (2, .int (nI N))] := hl
  have hP : va_P G classes [(ch, .inr (1, [.ref cs, .ref ps, .ref co, .int cz, .int cp])), (cs, .inl (ks 1, 1000, .inl fc)), (ps, .inl (ks 2, 1001, .inl fp)), (co, .inr (0, [.int cq])), (tx, .inl (ks 0, 1000, .inl ft))] H := hP
  have hD : va_D A [(ch, .inr (1, [.ref cs, .ref ps, .ref co, .int cz, .int cp])), (cs, .inl (ks 1, 1000, .inl fc)), (ps, .inl (ks 2, 1001, .inl fp)), (co, .inr (0, [.int cq])), (tx, .inl (ks 0, 1000, .inl ft))] := hD
  obtain ⟨hN, hkb⟩ := id hk
  refine lv_aload_n hx hb d_Chars_read_0 rfl (lv_at hl 0 rfl) ?_
  refine lv_iconst (v := 0) hx hb d_Chars_read_1 (by decide) ?_
  refine va_put (D := G) (ci := 1) (v := .int 0) (ty := .int) (C := R_Chars) (T := F_Chars) (N := 5) hx hb hts i_Chars t_Chars t_Chars_ok n_Chars hown hK hP hD hS 0 rfl rfl 3 (by decide) (hts _ k_38) (fun _ h9 => h9) rfl (by decide +kernel) rfl rfl (Nat.le_of_ble_eq_true rfl) d_Chars_read_2 (fun H locs hP hD hS => ?_)
  have hP : va_P G classes [(ch, .inr (1, [.ref cs, .ref ps, .ref co, .int 0, .int cp])), (cs, .inl (ks 1, 1000, .inl fc)), (ps, .inl (ks 2, 1001, .inl fp)), (co, .inr (0, [.int cq])), (tx, .inl (ks 0, 1000, .inl ft))] H := hP
  have hD : va_D A [(ch, .inr (1, [.ref cs, .ref ps, .ref co, .int 0, .int cp])), (cs, .inl (ks 1, 1000, .inl fc)), (ps, .inl (ks 2, 1001, .inl fp)), (co, .inr (0, [.int cq])), (tx, .inl (ks 0, 1000, .inl ft))] := hD
  refine lv_aload_n hx hb d_Chars_read_5 rfl (lv_at hl 0 rfl) ?_
  refine lv_iconst (v := 0) hx hb d_Chars_read_6 (by decide) ?_
  refine va_put (D := G) (ci := 1) (v := .int 0) (ty := .int) (C := R_Chars) (T := F_Chars) (N := 5) hx hb hts i_Chars t_Chars t_Chars_ok n_Chars hown hK hP hD hS 0 rfl rfl 4 (by decide) (hts _ k_40) (fun _ h9 => h9) rfl (by decide +kernel) rfl rfl (Nat.le_of_ble_eq_true rfl) d_Chars_read_7 (fun H locs hP hD hS => ?_)
  have hP : va_P G classes [(ch, .inr (1, [.ref cs, .ref ps, .ref co, .int 0, .int 0])), (cs, .inl (ks 1, 1000, .inl fc)), (ps, .inl (ks 2, 1001, .inl fp)), (co, .inr (0, [.int cq])), (tx, .inl (ks 0, 1000, .inl ft))] H := hP
  have hD : va_D A [(ch, .inr (1, [.ref cs, .ref ps, .ref co, .int 0, .int 0])), (cs, .inl (ks 1, 1000, .inl fc)), (ps, .inl (ks 2, 1001, .inl fp)), (co, .inr (0, [.int cq])), (tx, .inl (ks 0, 1000, .inl ft))] := hD
  have loop : ∀ (d k p : Nat) (fc fp : Nat → Int32) (cq : Int32) (H : Heap) (locs : List Loc) (ls : Array Slot), N ≤ p + d → p ≤ N → k ≤ p → cd_q B N p = cd_P B N k → cd_V B N p = cd_V B N 0 → (∀ j, j < k → cd_P B N j < N) → (∀ j, j < k → fc j = nI (cd_chr B N (cd_P B N j)) ∧ fp j = nI (cd_P B N j)) → va_P G classes [(ch, .inr (1, [.ref cs, .ref ps, .ref co, .int (nI k), .int (nI p)])), (cs, .inl (ks 1, 1000, .inl fc)), (ps, .inl (ks 2, 1001, .inl fp)), (co, .inr (0, [.int cq])), (tx, .inl (ks 0, 1000, .inl ft))] H → va_D A [(ch, .inr (1, [.ref cs, .ref ps, .ref co, .int (nI k), .int (nI p)])), (cs, .inl (ks 1, 1000, .inl fc)), (ps, .inl (ks 2, 1001, .inl fp)), (co, .inr (0, [.int cq])), (tx, .inl (ks 0, 1000, .inl ft))] → va_S A s.heap H locs → lv_has ls 5 [(0, .ref ch), (1, .ref tx), (2, .int (nI N))] → W pg l e R s m args below meth c H locs 0 0 Q (F0 m 10 ls []) := by
    intro d
    induction d with
    | zero =>
      intro k p fc fp cq H locs ls hd hpN hkp hq hV hlt htk hP hD hS hl
      refine lv_aload_n hx hb d_Chars_read_10 rfl (lv_at hl 0 rfl) ?_
      refine va_get (D := G) (ci := 1) (v := .int (nI p)) (C := R_Chars) (T := F_Chars) (N := 5) hx hb hts i_Chars hown hK hP 0 rfl rfl 4 (by decide) (hts _ k_40) (fun _ h9 => h9) rfl d_Chars_read_11 ?_
      refine lv_iload_n hx hb d_Chars_read_14 rfl (lv_at hl 2 rfl) ?_
      refine cd_icmp_ge (tgt := 124) hx hb d_Chars_read_15 (by decide) (nI_toInt (n := p) (by omega)) (nI_toInt (n := N) (by omega)) (fun c15 => ?_) (fun c15 => ?_)
      · refine lv_aload_n hx hb d_Chars_read_124 rfl (lv_at hl 0 rfl) ?_
        refine va_get (D := G) (ci := 1) (v := .ref ps) (C := R_Chars) (T := F_Chars) (N := 5) hx hb hts i_Chars hown hK hP 0 rfl rfl 1 (by decide) (hts _ k_35) (fun _ h9 => h9) rfl d_Chars_read_125 ?_
        refine lv_aload_n hx hb d_Chars_read_128 rfl (lv_at hl 0 rfl) ?_
        refine va_get (D := G) (ci := 1) (v := .int (nI k)) (C := R_Chars) (T := F_Chars) (N := 5) hx hb hts i_Chars hown hK hP 0 rfl rfl 3 (by decide) (hts _ k_38) (fun _ h9 => h9) rfl d_Chars_read_129 ?_
        refine lv_iload_n hx hb d_Chars_read_132 rfl (lv_at hl 2 rfl) ?_
        refine cd_iast (D := G) hx hb hK hP hD hS 2 2 rfl rfl (n0 := k) (by omega) (by omega) d_Chars_read_133 (fun H locs hP hD hS => ?_)
        have hP : va_P G classes [(ch, .inr (1, [.ref cs, .ref ps, .ref co, .int (nI k), .int (nI p)])), (cs, .inl (ks 1, 1000, .inl fc)), (ps, .inl (ks 2, 1001, .inl (upd fp k (nI N)))), (co, .inr (0, [.int cq])), (tx, .inl (ks 0, 1000, .inl ft))] H := hP
        have hD : va_D A [(ch, .inr (1, [.ref cs, .ref ps, .ref co, .int (nI k), .int (nI p)])), (cs, .inl (ks 1, 1000, .inl fc)), (ps, .inl (ks 2, 1001, .inl (upd fp k (nI N)))), (co, .inr (0, [.int cq])), (tx, .inl (ks 0, 1000, .inl ft))] := hD
        refine lv_iconst (v := 0) hx hb d_Chars_read_134 (by decide) ?_
        exact cd_retWi hQ hx hb hr hlk d_Chars_read_135 hS ((fc, upd fp k (nI N), nI k, nI p, cq)) (Or.inl ⟨by unfold cd_ok; rw [← hV]; exact cd_V_ge (by omega), rfl, k, ⟨by rw [← hq]; unfold cd_q; split <;> omega, hlt⟩, rfl, fun j hj => ⟨(htk j hj).1, (pk_un (by omega)).trans (htk j hj).2⟩, pk_us⟩) hP hD
      · exact absurd c15 (by omega)
    | succ d ih =>
      intro k p fc fp cq H locs ls hd hpN hkp hq hV hlt htk hP hD hS hl
      refine lv_aload_n hx hb d_Chars_read_10 rfl (lv_at hl 0 rfl) ?_
      refine va_get (D := G) (ci := 1) (v := .int (nI p)) (C := R_Chars) (T := F_Chars) (N := 5) hx hb hts i_Chars hown hK hP 0 rfl rfl 4 (by decide) (hts _ k_40) (fun _ h9 => h9) rfl d_Chars_read_11 ?_
      refine lv_iload_n hx hb d_Chars_read_14 rfl (lv_at hl 2 rfl) ?_
      refine cd_icmp_ge (tgt := 124) hx hb d_Chars_read_15 (by decide) (nI_toInt (n := p) (by omega)) (nI_toInt (n := N) (by omega)) (fun c15 => ?_) (fun c15 => ?_)
      · refine lv_aload_n hx hb d_Chars_read_124 rfl (lv_at hl 0 rfl) ?_
        refine va_get (D := G) (ci := 1) (v := .ref ps) (C := R_Chars) (T := F_Chars) (N := 5) hx hb hts i_Chars hown hK hP 0 rfl rfl 1 (by decide) (hts _ k_35) (fun _ h9 => h9) rfl d_Chars_read_125 ?_
        refine lv_aload_n hx hb d_Chars_read_128 rfl (lv_at hl 0 rfl) ?_
        refine va_get (D := G) (ci := 1) (v := .int (nI k)) (C := R_Chars) (T := F_Chars) (N := 5) hx hb hts i_Chars hown hK hP 0 rfl rfl 3 (by decide) (hts _ k_38) (fun _ h9 => h9) rfl d_Chars_read_129 ?_
        refine lv_iload_n hx hb d_Chars_read_132 rfl (lv_at hl 2 rfl) ?_
        refine cd_iast (D := G) hx hb hK hP hD hS 2 2 rfl rfl (n0 := k) (by omega) (by omega) d_Chars_read_133 (fun H locs hP hD hS => ?_)
        have hP : va_P G classes [(ch, .inr (1, [.ref cs, .ref ps, .ref co, .int (nI k), .int (nI p)])), (cs, .inl (ks 1, 1000, .inl fc)), (ps, .inl (ks 2, 1001, .inl (upd fp k (nI N)))), (co, .inr (0, [.int cq])), (tx, .inl (ks 0, 1000, .inl ft))] H := hP
        have hD : va_D A [(ch, .inr (1, [.ref cs, .ref ps, .ref co, .int (nI k), .int (nI p)])), (cs, .inl (ks 1, 1000, .inl fc)), (ps, .inl (ks 2, 1001, .inl (upd fp k (nI N)))), (co, .inr (0, [.int cq])), (tx, .inl (ks 0, 1000, .inl ft))] := hD
        refine lv_iconst (v := 0) hx hb d_Chars_read_134 (by decide) ?_
        exact cd_retWi hQ hx hb hr hlk d_Chars_read_135 hS ((fc, upd fp k (nI N), nI k, nI p, cq)) (Or.inl ⟨by unfold cd_ok; rw [← hV]; exact cd_V_ge (by omega), rfl, k, ⟨by rw [← hq]; unfold cd_q; split <;> omega, hlt⟩, rfl, fun j hj => ⟨(htk j hj).1, (pk_un (by omega)).trans (htk j hj).2⟩, pk_us⟩) hP hD
      · refine lv_aload_n hx hb d_Chars_read_18 rfl (lv_at hl 0 rfl) ?_
        refine va_get (D := G) (ci := 1) (v := .ref co) (C := R_Chars) (T := F_Chars) (N := 5) hx hb hts i_Chars hown hK hP 0 rfl rfl 2 (by decide) (hts _ k_37) (fun _ h9 => h9) rfl d_Chars_read_19 ?_
        refine lv_aload_n hx hb d_Chars_read_22 rfl (lv_at hl 1 rfl) ?_
        refine lv_aload_n hx hb d_Chars_read_23 rfl (lv_at hl 0 rfl) ?_
        refine va_get (D := G) (ci := 1) (v := .int (nI p)) (C := R_Chars) (T := F_Chars) (N := 5) hx hb hts i_Chars hown hK hP 0 rfl rfl 4 (by decide) (hts _ k_40) (fun _ h9 => h9) rfl d_Chars_read_24 ?_
        refine lv_iload_n hx hb d_Chars_read_27 rfl (lv_at hl 2 rfl) ?_
        refine cd_callW (rest := []) (wc := [(co, .inr (0, [.int cq])), (tx, .inl (ks 0, 1000, .inl ft))]) (wr := [(ch, .inr (1, [.ref cs, .ref ps, .ref co, .int (nI k), .int (nI p)])), (cs, .inl (ks 1, 1000, .inl fc)), (ps, .inl (ks 2, 1001, .inl fp))]) F E hP hD hS hA [3, 4] [0, 1, 2] rfl rfl rfl (by decide) (by decide) (by decide) (c_Coder_read l G ks co tx H.size ft cq B N p hk (by omega)) (by decide) (by decide) 0 0 rfl rfl k_99 k_100 k_101 k_3 k_102 (show cd_desc y_Coder_read 3 by decide +kernel) ⟨Nat.zero_le _, Nat.zero_le _⟩ rfl hl.1 (Nat.le_of_ble_eq_true rfl) d_Chars_read_28 (fun r u1 H locs hw hP hD hS => ?_)
        have hP : va_P G classes [(ch, .inr (1, [.ref cs, .ref ps, .ref co, .int (nI k), .int (nI p)])), (cs, .inl (ks 1, 1000, .inl fc)), (ps, .inl (ks 2, 1001, .inl fp)), (co, .inr (0, [.int u1])), (tx, .inl (ks 0, 1000, .inl ft))] H := hP
        have hD : va_D A [(ch, .inr (1, [.ref cs, .ref ps, .ref co, .int (nI k), .int (nI p)])), (cs, .inl (ks 1, 1000, .inl fc)), (ps, .inl (ks 2, 1001, .inl fp)), (co, .inr (0, [.int u1])), (tx, .inl (ks 0, 1000, .inl ft))] := hD
        rcases hs : cd_seq B N p with _ | q9
        · rw [hs] at hw
          obtain rfl : r = -1 := hw
          refine lv_istore_n (lv' := [(3, .int (-1)), (0, .ref ch), (1, .ref tx), (2, .int (nI N))]) hx hb d_Chars_read_31 rfl hl (by decide) rfl (fun ls hl => ?_)
          refine lv_iload_n hx hb d_Chars_read_32 rfl (lv_at hl 0 rfl) ?_
          refine lv_iconst (v := -1) hx hb d_Chars_read_33 (by decide) ?_
          refine cd_icmp_ne (tgt := 43) hx hb d_Chars_read_34 (by decide) (show (-1 : Int32).toInt = -1 by decide) (show (-1 : Int32).toInt = -1 by decide) (fun c34 => ?_) (fun c34 => ?_)
          · exact absurd rfl c34
          · refine lv_aload_n hx hb d_Chars_read_37 rfl (lv_at hl 1 rfl) ?_
            refine lv_iconst (v := 1) hx hb d_Chars_read_38 (by decide) ?_
            refine cd_callW (rest := []) (wc := [(ch, .inr (1, [.ref cs, .ref ps, .ref co, .int (nI k), .int (nI p)]))]) (wr := [(cs, .inl (ks 1, 1000, .inl fc)), (ps, .inl (ks 2, 1001, .inl fp)), (co, .inr (0, [.int u1])), (tx, .inl (ks 0, 1000, .inl ft))]) F E hP hD hS hA [0] [1, 2, 3, 4] rfl rfl rfl (by decide) (by decide) (by decide) (c_Chars_fail l G ks ch cs ps co H.size (nI k) (nI p) 1) (by decide) (by decide) 0 1 rfl rfl k_108 k_110 k_s0 k_2 k_111 (show cd_desc y_Chars_fail 1 by decide +kernel) ⟨Nat.zero_le _, Nat.zero_le _⟩ rfl hl.1 (Nat.le_of_ble_eq_true rfl) d_Chars_read_39 (fun r u H locs hw hP hD hS => ?_)
            obtain rfl : r = 1 := hw
            have hP : va_P G classes [(cs, .inl (ks 1, 1000, .inl fc)), (ps, .inl (ks 2, 1001, .inl fp)), (co, .inr (0, [.int u1])), (tx, .inl (ks 0, 1000, .inl ft)), (ch, .inr (1, [.ref cs, .ref ps, .ref co, .int 0, .int (nI p)]))] H := hP
            have hD : va_D A [(cs, .inl (ks 1, 1000, .inl fc)), (ps, .inl (ks 2, 1001, .inl fp)), (co, .inr (0, [.int u1])), (tx, .inl (ks 0, 1000, .inl ft)), (ch, .inr (1, [.ref cs, .ref ps, .ref co, .int 0, .int (nI p)]))] := hD
            have hP : va_P G classes [(ch, .inr (1, [.ref cs, .ref ps, .ref co, .int 0, .int (nI p)])), (cs, .inl (ks 1, 1000, .inl fc)), (ps, .inl (ks 2, 1001, .inl fp)), (co, .inr (0, [.int u1])), (tx, .inl (ks 0, 1000, .inl ft))] H := hP.sub [4, 0, 1, 2, 3] rfl
            have hD : va_D A [(ch, .inr (1, [.ref cs, .ref ps, .ref co, .int 0, .int (nI p)])), (cs, .inl (ks 1, 1000, .inl fc)), (ps, .inl (ks 2, 1001, .inl fp)), (co, .inr (0, [.int u1])), (tx, .inl (ks 0, 1000, .inl ft))] := hD.sub [4, 0, 1, 2, 3] (by decide) rfl
            exact cd_retWi hQ hx hb hr hlk d_Chars_read_42 hS ((fc, fp, 0, nI p, u1)) (Or.inr ⟨1, p, by rw [← hV]; exact cd_V_none (by omega) hs, Or.inl rfl, rfl, rfl, rfl⟩) hP hD
        · obtain ⟨x, n1⟩ := q9
          have hso := cd_seq_ok hs
          rw [hs] at hw
          obtain ⟨rfl, rfl⟩ := hw
          have hP : va_P G classes [(ch, .inr (1, [.ref cs, .ref ps, .ref co, .int (nI k), .int (nI p)])), (cs, .inl (ks 1, 1000, .inl fc)), (ps, .inl (ks 2, 1001, .inl fp)), (co, .inr (0, [.int (nI n1)])), (tx, .inl (ks 0, 1000, .inl ft))] H := hP
          have hD : va_D A [(ch, .inr (1, [.ref cs, .ref ps, .ref co, .int (nI k), .int (nI p)])), (cs, .inl (ks 1, 1000, .inl fc)), (ps, .inl (ks 2, 1001, .inl fp)), (co, .inr (0, [.int (nI n1)])), (tx, .inl (ks 0, 1000, .inl ft))] := hD
          refine lv_istore_n (lv' := [(3, .int (nI x)), (0, .ref ch), (1, .ref tx), (2, .int (nI N))]) hx hb d_Chars_read_31 rfl hl (by decide) rfl (fun ls hl => ?_)
          refine lv_iload_n hx hb d_Chars_read_32 rfl (lv_at hl 0 rfl) ?_
          refine lv_iconst (v := -1) hx hb d_Chars_read_33 (by decide) ?_
          refine cd_icmp_ne (tgt := 43) hx hb d_Chars_read_34 (by decide) (nI_toInt (n := x) (by omega)) (show (-1 : Int32).toInt = -1 by decide) (fun c34 => ?_) (fun c34 => ?_)
          · refine lv_iload_n hx hb d_Chars_read_43 rfl (lv_at hl 0 rfl) ?_
            refine cd_callP (rest := []) F (c_Letters_isAllowed l (nI x)) (by decide) (by decide) k_112 k_113 k_5 k_114 (show cd_desc y_Letters_isAllowed 1 by decide +kernel) (fun U g mk a h => h.calling) (fun U hU hW => E.2.2.at hS (fun _ h => h.elim) hU hW) ⟨Nat.zero_le _, Nat.zero_le _⟩ rfl hl.1 (Nat.le_of_ble_eq_true rfl) d_Chars_read_44 (fun r hr => ?_)
            subst hr
            refine cd_top (y := cd_b (cd_alw (x : Int))) (by rw [nI_toInt (by omega)]) ?_
            refine cd_if_ne_b (tgt := 56) hx hb d_Chars_read_47 (by decide) (fun c47 => ?_) (fun c47 => ?_)
            · refine lv_aload_n hx hb d_Chars_read_56 rfl (lv_at hl 1 rfl) ?_
              refine va_get (D := G) (ci := 1) (v := .int (nI p)) (C := R_Chars) (T := F_Chars) (N := 5) hx hb hts i_Chars hown hK hP 0 rfl rfl 4 (by decide) (hts _ k_40) (fun _ h9 => h9) rfl d_Chars_read_57 ?_
              refine lv_aload_n hx hb d_Chars_read_60 rfl (lv_at hl 1 rfl) ?_
              refine va_get (D := G) (ci := 1) (v := .ref co) (C := R_Chars) (T := F_Chars) (N := 5) hx hb hts i_Chars hown hK hP 0 rfl rfl 2 (by decide) (hts _ k_37) (fun _ h9 => h9) rfl d_Chars_read_61 ?_
              refine va_getN (D := G) (ci := 0) (v := .int (nI n1)) (C := R_Coder) (T := F_Coder) (N := 1) hx hb hts i_Coder hown hK hP 3 rfl rfl 0 (by decide) (va_Nw.use rfl E.2.1.1) (fun _ h9 => h9) rfl d_Chars_read_64 ?_
              refine lv_iadd hx hb d_Chars_read_67 ?_
              refine cd_top (y := nI (p + n1)) (nI_add p n1) ?_
              refine lv_istore (lv' := [(4, .int (nI (p + n1))), (3, .int (nI x)), (0, .ref ch), (1, .ref tx), (2, .int (nI N))]) hx hb d_Chars_read_68 hl (by decide) rfl (fun ls hl => ?_)
              refine lv_iload_n hx hb d_Chars_read_70 rfl (lv_at hl 1 rfl) ?_
              refine lv_bipush (v := 13) hx hb d_Chars_read_71 (by decide) ?_
              have hcl := cd_chr_lt B N p
              have hnl := cd_nx_le hs
              have J97 : ∀ (ls : Array Slot), lv_has ls 5 [(3, .int (nI (cd_chr B N p))), (4, .int (nI (cd_nx B N p))), (0, .ref ch), (1, .ref tx), (2, .int (nI N))] → W pg l e R s m args below meth c H locs 0 0 Q (F0 m 97 ls []) := by
                intro ls hl
                refine lv_aload_n hx hb d_Chars_read_97 rfl (lv_at hl 2 rfl) ?_
                refine va_get (D := G) (ci := 1) (v := .int (nI p)) (C := R_Chars) (T := F_Chars) (N := 5) hx hb hts i_Chars hown hK hP 0 rfl rfl 4 (by decide) (hts _ k_40) (fun _ h9 => h9) rfl d_Chars_read_98 ?_
                refine cd_if_gt (tgt := 110) hx hb d_Chars_read_101 (by decide) (nI_toInt (n := p) (by omega)) (fun c101 => ?_) (fun c101 => ?_)
                · have hPk : cd_P B N k = p := by rw [← hq]; exact if_neg (by omega)
                  refine lv_aload_n hx hb d_Chars_read_110 rfl (lv_at hl 2 rfl) ?_
                  refine lv_iload_n hx hb d_Chars_read_111 rfl (lv_at hl 0 rfl) ?_
                  refine cd_callV (rest := []) (wc := [(ch, .inr (1, [.ref cs, .ref ps, .ref co, .int (nI k), .int (nI p)])), (cs, .inl (ks 1, 1000, .inl fc)), (ps, .inl (ks 2, 1001, .inl fp))]) (wr := [(co, .inr (0, [.int (nI n1)])), (tx, .inl (ks 0, 1000, .inl ft))]) F E hP hD hS hA [0, 1, 2] [3, 4] rfl rfl rfl (by decide) (by decide) (by decide) (c_Chars_add l G ks ch cs ps co H.size fc fp k (by omega) (nI p) (nI (cd_chr B N p))) (by decide) (by decide) 0 1 rfl rfl k_121 k_123 k_s1 k_2 k_124 (show cd_desc y_Chars_add 1 by decide +kernel) ⟨Nat.zero_le _, Nat.zero_le _⟩ rfl hl.1 (Nat.le_of_ble_eq_true rfl) d_Chars_read_112 (fun u H locs hw hP hD hS => ?_)
                  have hP : va_P G classes [(co, .inr (0, [.int (nI n1)])), (tx, .inl (ks 0, 1000, .inl ft)), (ch, .inr (1, [.ref cs, .ref ps, .ref co, .int (nI (k + 1)), .int (nI p)])), (cs, .inl (ks 1, 1000, .inl (upd fc k (nI (cd_chr B N p))))), (ps, .inl (ks 2, 1001, .inl (upd fp k (nI p))))] H := hP
                  have hD : va_D A [(co, .inr (0, [.int (nI n1)])), (tx, .inl (ks 0, 1000, .inl ft)), (ch, .inr (1, [.ref cs, .ref ps, .ref co, .int (nI (k + 1)), .int (nI p)])), (cs, .inl (ks 1, 1000, .inl (upd fc k (nI (cd_chr B N p))))), (ps, .inl (ks 2, 1001, .inl (upd fp k (nI p))))] := hD
                  refine lv_aload_n hx hb d_Chars_read_115 rfl (lv_at hl 2 rfl) ?_
                  refine lv_iload hx hb d_Chars_read_116 (lv_at hl 1 rfl) ?_
                  refine va_put (D := G) (ci := 1) (v := .int (nI (cd_nx B N p))) (ty := .int) (C := R_Chars) (T := F_Chars) (N := 5) hx hb hts i_Chars t_Chars t_Chars_ok n_Chars hown hK hP hD hS 2 rfl rfl 4 (by decide) (hts _ k_40) (fun _ h9 => h9) rfl (by decide +kernel) rfl rfl (Nat.le_of_ble_eq_true rfl) d_Chars_read_118 (fun H locs hP hD hS => ?_)
                  have hP : va_P G classes [(co, .inr (0, [.int (nI n1)])), (tx, .inl (ks 0, 1000, .inl ft)), (ch, .inr (1, [.ref cs, .ref ps, .ref co, .int (nI (k + 1)), .int (nI (cd_nx B N p))])), (cs, .inl (ks 1, 1000, .inl (upd fc k (nI (cd_chr B N p))))), (ps, .inl (ks 2, 1001, .inl (upd fp k (nI p))))] H := hP
                  have hD : va_D A [(co, .inr (0, [.int (nI n1)])), (tx, .inl (ks 0, 1000, .inl ft)), (ch, .inr (1, [.ref cs, .ref ps, .ref co, .int (nI (k + 1)), .int (nI (cd_nx B N p))])), (cs, .inl (ks 1, 1000, .inl (upd fc k (nI (cd_chr B N p))))), (ps, .inl (ks 2, 1001, .inl (upd fp k (nI p))))] := hD
                  refine lv_goto (tgt := 10) hx hb d_Chars_read_121 (by decide) ?_
                  have hP : va_P G classes [(ch, .inr (1, [.ref cs, .ref ps, .ref co, .int (nI (k + 1)), .int (nI (cd_nx B N p))])), (cs, .inl (ks 1, 1000, .inl (upd fc k (nI (cd_chr B N p))))), (ps, .inl (ks 2, 1001, .inl (upd fp k (nI p)))), (co, .inr (0, [.int (nI n1)])), (tx, .inl (ks 0, 1000, .inl ft))] H := hP.sub [2, 3, 4, 0, 1] rfl
                  have hD : va_D A [(ch, .inr (1, [.ref cs, .ref ps, .ref co, .int (nI (k + 1)), .int (nI (cd_nx B N p))])), (cs, .inl (ks 1, 1000, .inl (upd fc k (nI (cd_chr B N p))))), (ps, .inl (ks 2, 1001, .inl (upd fp k (nI p)))), (co, .inr (0, [.int (nI n1)])), (tx, .inl (ks 0, 1000, .inl ft))] := hD.sub [2, 3, 4, 0, 1] (by decide) rfl
                  exact ih (k + 1) (cd_nx B N p) _ _ _ H locs ls (by have := cd_nx_gt B N p; omega) (cd_nx_le hs) (by have := cd_nx_gt B N p; omega) (by have h9 := cd_q_P B N k; rw [show cd_P B N (k + 1) = cd_nx B N (cd_P B N k) from rfl, hPk] at h9; exact h9.trans (show cd_nx B N p = cd_nx B N (cd_P B N k) by rw [hPk])) (by rw [← hV]; exact cd_V_nx (by omega) hs c47) (fun j hj => by rcases Nat.lt_or_ge j k with q | q; (· exact hlt j q); (· obtain rfl : j = k := (by omega); rw [hPk]; omega)) (fun j hj => by rcases Nat.lt_or_ge j k with q | q; (· rw [pk_un (by omega), pk_un (by omega)]; exact htk j q); (· obtain rfl : j = k := (by omega); rw [pk_us, pk_us, hPk]; exact ⟨rfl, rfl⟩)) hP hD hS (lv_sub hl [2, 3, 4] rfl)
                · obtain rfl : p = 0 := by omega
                  obtain rfl : k = 0 := by omega
                  have hP : va_P G classes [(ch, .inr (1, [.ref cs, .ref ps, .ref co, .int (nI 0), .int (nI 0)])), (cs, .inl (ks 1, 1000, .inl fc)), (ps, .inl (ks 2, 1001, .inl fp)), (co, .inr (0, [.int (nI n1)])), (tx, .inl (ks 0, 1000, .inl ft))] H := hP
                  have hD : va_D A [(ch, .inr (1, [.ref cs, .ref ps, .ref co, .int (nI 0), .int (nI 0)])), (cs, .inl (ks 1, 1000, .inl fc)), (ps, .inl (ks 2, 1001, .inl fp)), (co, .inr (0, [.int (nI n1)])), (tx, .inl (ks 0, 1000, .inl ft))] := hD
                  refine lv_iload_n hx hb d_Chars_read_104 rfl (lv_at hl 0 rfl) ?_
                  refine lv_ldc (v := 65279) hx hb hown (hts _ k_120) d_Chars_read_105 ?_
                  refine cd_icmp_eq (tgt := 115) hx hb d_Chars_read_107 (by decide) (nI_toInt (n := cd_chr B N 0) (by omega)) (show (65279 : Int32).toInt = 65279 by decide) (fun c107 => ?_) (fun c107 => ?_)
                  · have hxm : x = 65279 := by have c107b : cd_chr B N 0 = 65279 := (by omega); rw [cd_chr_of hs] at c107b; split at c107b <;> omega
                    have hs2 := hs
                    rw [hxm] at hs2
                    obtain ⟨hn3, hbm⟩ := cd_seq_mark hs2
                    have hmq : cd_q B N (cd_nx B N 0) = cd_P B N 0 := by rw [cd_nx_of hs, if_neg (by omega), hn3]; show _ = cd_s0 B N; rw [cd_s0, if_pos hbm]; rfl
                    refine lv_aload_n hx hb d_Chars_read_115 rfl (lv_at hl 2 rfl) ?_
                    refine lv_iload hx hb d_Chars_read_116 (lv_at hl 1 rfl) ?_
                    refine va_put (D := G) (ci := 1) (v := .int (nI (cd_nx B N 0))) (ty := .int) (C := R_Chars) (T := F_Chars) (N := 5) hx hb hts i_Chars t_Chars t_Chars_ok n_Chars hown hK hP hD hS 0 rfl rfl 4 (by decide) (hts _ k_40) (fun _ h9 => h9) rfl (by decide +kernel) rfl rfl (Nat.le_of_ble_eq_true rfl) d_Chars_read_118 (fun H locs hP hD hS => ?_)
                    have hP : va_P G classes [(ch, .inr (1, [.ref cs, .ref ps, .ref co, .int (nI 0), .int (nI (cd_nx B N 0))])), (cs, .inl (ks 1, 1000, .inl fc)), (ps, .inl (ks 2, 1001, .inl fp)), (co, .inr (0, [.int (nI n1)])), (tx, .inl (ks 0, 1000, .inl ft))] H := hP
                    have hD : va_D A [(ch, .inr (1, [.ref cs, .ref ps, .ref co, .int (nI 0), .int (nI (cd_nx B N 0))])), (cs, .inl (ks 1, 1000, .inl fc)), (ps, .inl (ks 2, 1001, .inl fp)), (co, .inr (0, [.int (nI n1)])), (tx, .inl (ks 0, 1000, .inl ft))] := hD
                    refine lv_goto (tgt := 10) hx hb d_Chars_read_121 (by decide) ?_
                    have hP : va_P G classes [(ch, .inr (1, [.ref cs, .ref ps, .ref co, .int (nI 0), .int (nI (cd_nx B N 0))])), (cs, .inl (ks 1, 1000, .inl fc)), (ps, .inl (ks 2, 1001, .inl fp)), (co, .inr (0, [.int (nI n1)])), (tx, .inl (ks 0, 1000, .inl ft))] H := hP.sub [0, 1, 2, 3, 4] rfl
                    have hD : va_D A [(ch, .inr (1, [.ref cs, .ref ps, .ref co, .int (nI 0), .int (nI (cd_nx B N 0))])), (cs, .inl (ks 1, 1000, .inl fc)), (ps, .inl (ks 2, 1001, .inl fp)), (co, .inr (0, [.int (nI n1)])), (tx, .inl (ks 0, 1000, .inl ft))] := hD.sub [0, 1, 2, 3, 4] (by decide) rfl
                    exact ih 0 (cd_nx B N 0) fc fp _ H locs ls (by have := cd_nx_gt B N 0; omega) (cd_nx_le hs) (by omega) hmq (by rw [← hV]; exact cd_V_nx (by omega) hs c47) (fun j hj => by omega) (fun j hj => by omega) hP hD hS (lv_sub hl [2, 3, 4] rfl)
                  · have hxm : x ≠ 65279 := fun q9 => c107 (by rw [cd_chr_of hs, q9]; decide)
                    have hPk : cd_P B N 0 = 0 := cd_s0_no hs hxm
                    refine lv_aload_n hx hb d_Chars_read_110 rfl (lv_at hl 2 rfl) ?_
                    refine lv_iload_n hx hb d_Chars_read_111 rfl (lv_at hl 0 rfl) ?_
                    refine cd_callV (rest := []) (wc := [(ch, .inr (1, [.ref cs, .ref ps, .ref co, .int (nI 0), .int (nI 0)])), (cs, .inl (ks 1, 1000, .inl fc)), (ps, .inl (ks 2, 1001, .inl fp))]) (wr := [(co, .inr (0, [.int (nI n1)])), (tx, .inl (ks 0, 1000, .inl ft))]) F E hP hD hS hA [0, 1, 2] [3, 4] rfl rfl rfl (by decide) (by decide) (by decide) (c_Chars_add l G ks ch cs ps co H.size fc fp 0 (by omega) (nI 0) (nI (cd_chr B N 0))) (by decide) (by decide) 0 1 rfl rfl k_121 k_123 k_s1 k_2 k_124 (show cd_desc y_Chars_add 1 by decide +kernel) ⟨Nat.zero_le _, Nat.zero_le _⟩ rfl hl.1 (Nat.le_of_ble_eq_true rfl) d_Chars_read_112 (fun u H locs hw hP hD hS => ?_)
                    have hP : va_P G classes [(co, .inr (0, [.int (nI n1)])), (tx, .inl (ks 0, 1000, .inl ft)), (ch, .inr (1, [.ref cs, .ref ps, .ref co, .int (nI (0 + 1)), .int (nI 0)])), (cs, .inl (ks 1, 1000, .inl (upd fc 0 (nI (cd_chr B N 0))))), (ps, .inl (ks 2, 1001, .inl (upd fp 0 (nI 0))))] H := hP
                    have hD : va_D A [(co, .inr (0, [.int (nI n1)])), (tx, .inl (ks 0, 1000, .inl ft)), (ch, .inr (1, [.ref cs, .ref ps, .ref co, .int (nI (0 + 1)), .int (nI 0)])), (cs, .inl (ks 1, 1000, .inl (upd fc 0 (nI (cd_chr B N 0))))), (ps, .inl (ks 2, 1001, .inl (upd fp 0 (nI 0))))] := hD
                    refine lv_aload_n hx hb d_Chars_read_115 rfl (lv_at hl 2 rfl) ?_
                    refine lv_iload hx hb d_Chars_read_116 (lv_at hl 1 rfl) ?_
                    refine va_put (D := G) (ci := 1) (v := .int (nI (cd_nx B N 0))) (ty := .int) (C := R_Chars) (T := F_Chars) (N := 5) hx hb hts i_Chars t_Chars t_Chars_ok n_Chars hown hK hP hD hS 2 rfl rfl 4 (by decide) (hts _ k_40) (fun _ h9 => h9) rfl (by decide +kernel) rfl rfl (Nat.le_of_ble_eq_true rfl) d_Chars_read_118 (fun H locs hP hD hS => ?_)
                    have hP : va_P G classes [(co, .inr (0, [.int (nI n1)])), (tx, .inl (ks 0, 1000, .inl ft)), (ch, .inr (1, [.ref cs, .ref ps, .ref co, .int (nI (0 + 1)), .int (nI (cd_nx B N 0))])), (cs, .inl (ks 1, 1000, .inl (upd fc 0 (nI (cd_chr B N 0))))), (ps, .inl (ks 2, 1001, .inl (upd fp 0 (nI 0))))] H := hP
                    have hD : va_D A [(co, .inr (0, [.int (nI n1)])), (tx, .inl (ks 0, 1000, .inl ft)), (ch, .inr (1, [.ref cs, .ref ps, .ref co, .int (nI (0 + 1)), .int (nI (cd_nx B N 0))])), (cs, .inl (ks 1, 1000, .inl (upd fc 0 (nI (cd_chr B N 0))))), (ps, .inl (ks 2, 1001, .inl (upd fp 0 (nI 0))))] := hD
                    refine lv_goto (tgt := 10) hx hb d_Chars_read_121 (by decide) ?_
                    have hP : va_P G classes [(ch, .inr (1, [.ref cs, .ref ps, .ref co, .int (nI (0 + 1)), .int (nI (cd_nx B N 0))])), (cs, .inl (ks 1, 1000, .inl (upd fc 0 (nI (cd_chr B N 0))))), (ps, .inl (ks 2, 1001, .inl (upd fp 0 (nI 0)))), (co, .inr (0, [.int (nI n1)])), (tx, .inl (ks 0, 1000, .inl ft))] H := hP.sub [2, 3, 4, 0, 1] rfl
                    have hD : va_D A [(ch, .inr (1, [.ref cs, .ref ps, .ref co, .int (nI (0 + 1)), .int (nI (cd_nx B N 0))])), (cs, .inl (ks 1, 1000, .inl (upd fc 0 (nI (cd_chr B N 0))))), (ps, .inl (ks 2, 1001, .inl (upd fp 0 (nI 0)))), (co, .inr (0, [.int (nI n1)])), (tx, .inl (ks 0, 1000, .inl ft))] := hD.sub [2, 3, 4, 0, 1] (by decide) rfl
                    exact ih (0 + 1) (cd_nx B N 0) _ _ _ H locs ls (by have := cd_nx_gt B N 0; omega) (cd_nx_le hs) (by have := cd_nx_gt B N 0; omega) (by have h9 := cd_q_P B N 0; rw [show cd_P B N (0 + 1) = cd_nx B N (cd_P B N 0) from rfl, hPk] at h9; exact h9.trans (show cd_nx B N 0 = cd_nx B N (cd_P B N 0) by rw [hPk])) (by rw [← hV]; exact cd_V_nx (by omega) hs c47) (fun j hj => by rcases Nat.lt_or_ge j 0 with q | q; (· exact hlt j q); (· obtain rfl : j = 0 := (by omega); rw [hPk]; omega)) (fun j hj => by rcases Nat.lt_or_ge j 0 with q | q; (· rw [pk_un (by omega), pk_un (by omega)]; exact htk j q); (· obtain rfl : j = 0 := (by omega); rw [pk_us, pk_us, hPk]; exact ⟨rfl, rfl⟩)) hP hD hS (lv_sub hl [2, 3, 4] rfl)
              refine cd_icmp_ne (tgt := 97) hx hb d_Chars_read_73 (by decide) (nI_toInt (n := x) (by omega)) (show (13 : Int32).toInt = 13 by decide) (fun c73 => ?_) (fun c73 => ?_)
              · have e1 : cd_chr B N p = x := by rw [cd_chr_of hs, if_neg (by omega)]
                have e2 : cd_nx B N p = p + n1 := by rw [cd_nx_of hs, if_neg (by omega)]
                exact J97 ls (by rw [e1, e2]; exact (lv_sub hl [1, 0, 2, 3, 4] rfl))
              · refine lv_bipush (v := 10) hx hb d_Chars_read_76 (by decide) ?_
                refine lv_istore_n (lv' := [(3, .int 10), (4, .int (nI (p + n1))), (0, .ref ch), (1, .ref tx), (2, .int (nI N))]) hx hb d_Chars_read_78 rfl hl (by decide) rfl (fun ls hl => ?_)
                refine lv_iload hx hb d_Chars_read_79 (lv_at hl 1 rfl) ?_
                refine lv_iload_n hx hb d_Chars_read_81 rfl (lv_at hl 4 rfl) ?_
                refine cd_icmp_ge (tgt := 97) hx hb d_Chars_read_82 (by decide) (nI_toInt (n := p + n1) (by omega)) (nI_toInt (n := N) (by omega)) (fun c82 => ?_) (fun c82 => ?_)
                · have e1 : cd_chr B N p = 10 := by rw [cd_chr_of hs, if_pos (by omega)]
                  have e2 : cd_nx B N p = p + n1 := by rw [cd_nx_of hs, if_neg (by omega)]
                  exact J97 ls (by rw [e1, e2]; exact (lv_sub hl [0, 1, 2, 3, 4] rfl))
                · refine lv_aload_n hx hb d_Chars_read_85 rfl (lv_at hl 3 rfl) ?_
                  refine lv_iload hx hb d_Chars_read_86 (lv_at hl 1 rfl) ?_
                  refine cd_bald (D := G) hx hb hK hP 4 0 rfl rfl (n0 := p + n1) (by omega) (by omega) d_Chars_read_88 ?_
                  refine cd_top (y := cd_e8 (B (p + n1))) ((hkb (p + n1) (by omega)).2) ?_
                  refine lv_bipush (v := 10) hx hb d_Chars_read_89 (by decide) ?_
                  refine cd_icmp_ne (tgt := 97) hx hb d_Chars_read_91 (by decide) rfl (show (10 : Int32).toInt = 10 by decide) (fun c91 => ?_) (fun c91 => ?_)
                  · have e1 : cd_chr B N p = 10 := by rw [cd_chr_of hs, if_pos (by omega)]
                    have e2 : cd_nx B N p = p + n1 := by rw [cd_nx_of hs, if_neg (fun q9 => c91 ((cd_e8_10 _ (hkb (p + n1) (by omega)).1).mpr q9.2.2))]
                    exact J97 ls (by rw [e1, e2]; exact (lv_sub hl [0, 1, 2, 3, 4] rfl))
                  · refine lv_iinc (v := nI (p + n1 + 1)) (lv' := [(4, .int (nI (p + n1 + 1))), (3, .int 10), (0, .ref ch), (1, .ref tx), (2, .int (nI N))]) hx hb d_Chars_read_94 hl (k := 1) rfl (nI_add (p + n1) 1) (by decide) rfl (fun ls hl => ?_)
                    have e1 : cd_chr B N p = 10 := by rw [cd_chr_of hs, if_pos (by omega)]
                    have e2 : cd_nx B N p = p + n1 + 1 := by rw [cd_nx_of hs, if_pos ⟨by omega, by omega, (cd_e8_10 _ (hkb (p + n1) (by omega)).1).mp c91⟩]
                    exact J97 ls (by rw [e1, e2]; exact (lv_sub hl [1, 0, 2, 3, 4] rfl))
            · refine lv_aload_n hx hb d_Chars_read_50 rfl (lv_at hl 1 rfl) ?_
              refine lv_iconst (v := 2) hx hb d_Chars_read_51 (by decide) ?_
              refine cd_callW (rest := []) (wc := [(ch, .inr (1, [.ref cs, .ref ps, .ref co, .int (nI k), .int (nI p)]))]) (wr := [(cs, .inl (ks 1, 1000, .inl fc)), (ps, .inl (ks 2, 1001, .inl fp)), (co, .inr (0, [.int (nI n1)])), (tx, .inl (ks 0, 1000, .inl ft))]) F E hP hD hS hA [0] [1, 2, 3, 4] rfl rfl rfl (by decide) (by decide) (by decide) (c_Chars_fail l G ks ch cs ps co H.size (nI k) (nI p) 2) (by decide) (by decide) 0 1 rfl rfl k_108 k_110 k_s0 k_2 k_111 (show cd_desc y_Chars_fail 1 by decide +kernel) ⟨Nat.zero_le _, Nat.zero_le _⟩ rfl hl.1 (Nat.le_of_ble_eq_true rfl) d_Chars_read_52 (fun r u H locs hw hP hD hS => ?_)
              obtain rfl : r = 2 := hw
              have hP : va_P G classes [(cs, .inl (ks 1, 1000, .inl fc)), (ps, .inl (ks 2, 1001, .inl fp)), (co, .inr (0, [.int (nI n1)])), (tx, .inl (ks 0, 1000, .inl ft)), (ch, .inr (1, [.ref cs, .ref ps, .ref co, .int 0, .int (nI p)]))] H := hP
              have hD : va_D A [(cs, .inl (ks 1, 1000, .inl fc)), (ps, .inl (ks 2, 1001, .inl fp)), (co, .inr (0, [.int (nI n1)])), (tx, .inl (ks 0, 1000, .inl ft)), (ch, .inr (1, [.ref cs, .ref ps, .ref co, .int 0, .int (nI p)]))] := hD
              have hP : va_P G classes [(ch, .inr (1, [.ref cs, .ref ps, .ref co, .int 0, .int (nI p)])), (cs, .inl (ks 1, 1000, .inl fc)), (ps, .inl (ks 2, 1001, .inl fp)), (co, .inr (0, [.int (nI n1)])), (tx, .inl (ks 0, 1000, .inl ft))] H := hP.sub [4, 0, 1, 2, 3] rfl
              have hD : va_D A [(ch, .inr (1, [.ref cs, .ref ps, .ref co, .int 0, .int (nI p)])), (cs, .inl (ks 1, 1000, .inl fc)), (ps, .inl (ks 2, 1001, .inl fp)), (co, .inr (0, [.int (nI n1)])), (tx, .inl (ks 0, 1000, .inl ft))] := hD.sub [4, 0, 1, 2, 3] (by decide) rfl
              exact cd_retWi hQ hx hb hr hlk d_Chars_read_55 hS ((fc, fp, 0, nI p, nI n1)) (Or.inr ⟨2, p, by rw [← hV]; exact cd_V_bad (by omega) hs c47, Or.inr rfl, rfl, rfl, rfl⟩) hP hD
          · exact absurd c34 (by omega)
  exact loop N 0 0 _ _ _ H locs ls (by omega) (by omega) (by omega) (cd_q_0 B N) rfl (fun j hj => by omega) (fun j hj => by omega) hP hD hS (lv_sub hl [0, 1, 2] rfl)
end
section
abbrev cd_D (ks : Nat → ClassId) (xo tx ch cs ps co : Nat) (ft : Nat → Int32) (z : Int32) (rd : Bool) (pl : Int32) (fc fp : Nat → Int32) (cz cp cq : Int32) : va_W := [(xo, .inr (2, [.ref tx, .int z, .ref ch, .int (cd_b rd), .int pl])), (tx, .inl (ks 0, 1000, .inl ft)), (ch, .inr (1, [.ref cs, .ref ps, .ref co, .int cz, .int cp])), (cs, .inl (ks 1, 1000, .inl fc)), (ps, .inl (ks 2, 1001, .inl fp)), (co, .inr (0, [.int cq]))]
/-- what was read by the desk is in order -/
def cd_drd (B : Nat → Nat) (N M : Nat) (fc fp : Nat → Int32) (cz : Int32) : Prop := cz = nI M ∧ M ≤ 1000 ∧ cd_tok B N M fc fp
theorem cd_cmp_0 {a b : Nat} : (cd_cmp (a : Int) (b : Int)).toInt = 0 ↔ a = b := by
  unfold cd_cmp
  split
  · constructor
    · intro h; exact absurd h (by decide)
    · intro h; omega
  · split
    · constructor
      · intro _; omega
      · intro _; decide
    · constructor
      · intro h; exact absurd h (by decide)
      · intro h; omega
end
section
set_option maxHeartbeats 4000000 in
set_option maxRecDepth 100000 in
theorem c_Chars_is (l : Launch) (G : va_G) (ks : Nat → ClassId) (ch cs ps co : Nat) (fc : Nat → Int32) (cz cp kd : Int32) (i v : Nat) (fst : Bool) (hi : i < 1000) (hv : fc i = nI v) (hvl : v < 1114112) : cd_MetP l y_Chars_is b_Chars_is 5 (some .boolean) 3 [.ref ch, .int kd, .int (nI i), .int (cd_b fst)] (cd_In G ks [(ch, .inr (1, [.ref cs, .ref ps, .ref co, .int cz, .int cp])), (cs, .inl (ks 1, 1000, .inl fc))]) (fun r => r = cd_b (cd_fit kd.toInt (v : Int) fst)) := by
  refine cd_met (by decide) (Nat.le_of_ble_eq_true rfl) ?_
  intro pg e s m args below meth c R Q ls hR hQ hr hlk hin F hB hl
  have hx := F.1
  have hb := F.2.1
  have hown := F.2.2.2.1
  have hts := F.2.2.2.2.1
  obtain ⟨hP, E⟩ := hB
  have hK := E.1
  have hS : va_S (fun _ => False) s.heap s.heap [] := va_S.rf
  have hP : va_P G classes [(ch, .inr (1, [.ref cs, .ref ps, .ref co, .int cz, .int cp])), (cs, .inl (ks 1, 1000, .inl fc))] s.heap := hP
  have hl : lv_has ls 5 [(0, .ref ch), (1, .int kd), (2, .int (nI i)), (3, .int (cd_b fst))] := hl
  refine lv_aload_n hx hb d_Chars_is_0 rfl (lv_at hl 0 rfl) ?_
  refine va_get (D := G) (ci := 1) (v := .ref cs) (C := R_Chars) (T := F_Chars) (N := 5) hx hb hts i_Chars hown hK hP 0 rfl rfl 0 (by decide) (hts _ k_33) (fun _ h9 => h9) rfl d_Chars_is_1 ?_
  refine lv_iload_n hx hb d_Chars_is_4 rfl (lv_at hl 2 rfl) ?_
  refine cd_iald (D := G) hx hb hK hP 1 1 rfl rfl (n0 := i) (by omega) (by omega) d_Chars_is_5 ?_
  refine cd_top (y := nI v) (hv) ?_
  refine lv_istore (lv' := [(4, .int (nI v)), (0, .ref ch), (1, .int kd), (2, .int (nI i)), (3, .int (cd_b fst))]) hx hb d_Chars_is_6 hl (by decide) rfl (fun ls hl => ?_)
  refine lv_iload_n hx hb d_Chars_is_8 rfl (lv_at hl 2 rfl) ?_
  refine cd_if_ne (tgt := 32) hx hb d_Chars_is_9 (by decide) rfl (fun c9 => ?_) (fun c9 => ?_)
  · refine lv_iload_n hx hb d_Chars_is_32 rfl (lv_at hl 2 rfl) ?_
    refine lv_iconst (v := 1) hx hb d_Chars_is_33 (by decide) ?_
    refine cd_icmp_ne (tgt := 45) hx hb d_Chars_is_34 (by decide) rfl (show (1 : Int32).toInt = 1 by decide) (fun c34 => ?_) (fun c34 => ?_)
    · refine lv_iload hx hb d_Chars_is_45 (lv_at hl 0 rfl) ?_
      refine cd_callP (rest := []) F (c_Letters_isBlank l (nI v)) (by decide) (by decide) k_172 k_146 k_5 k_147 (show cd_desc y_Letters_isBlank 1 by decide +kernel) (fun _ _ _ _ _ => trivial) (fun _ _ _ => trivial) ⟨Nat.zero_le _, Nat.zero_le _⟩ rfl hl.1 (Nat.le_of_ble_eq_true rfl) d_Chars_is_47 (fun r hr => ?_)
      subst hr
      exact cd_retZ hQ hx hb hr hlk d_Chars_is_50 (cd_nz _) (by rw [nI_toInt (by omega), cd_fit, if_neg c9, if_neg c34])
    · refine lv_iload hx hb d_Chars_is_37 (lv_at hl 0 rfl) ?_
      refine cd_callP (rest := []) F (c_Letters_isPart l (nI v)) (by decide) (by decide) k_171 k_154 k_5 k_155 (show cd_desc y_Letters_isPart 1 by decide +kernel) (fun U g mk a h => h.calling) (fun U hU hW => E.2.2.at hS (fun _ h => h) hU hW) ⟨Nat.zero_le _, Nat.zero_le _⟩ rfl hl.1 (Nat.le_of_ble_eq_true rfl) d_Chars_is_39 (fun r hr => ?_)
      subst hr
      refine lv_goto (tgt := 50) hx hb d_Chars_is_42 (by decide) ?_
      exact cd_retZ hQ hx hb hr hlk d_Chars_is_50 (cd_nz _) (by rw [nI_toInt (by omega), cd_fit, if_neg c9, if_pos c34])
  · refine lv_iload_n hx hb d_Chars_is_12 rfl (lv_at hl 4 rfl) ?_
    refine cd_if_eq_b (tgt := 24) hx hb d_Chars_is_13 (by decide) (fun c13 => ?_) (fun c13 => ?_)
    · refine lv_iload hx hb d_Chars_is_24 (lv_at hl 0 rfl) ?_
      refine cd_callP (rest := []) F (c_Letters_isPart l (nI v)) (by decide) (by decide) k_171 k_154 k_5 k_155 (show cd_desc y_Letters_isPart 1 by decide +kernel) (fun U g mk a h => h.calling) (fun U hU hW => E.2.2.at hS (fun _ h => h) hU hW) ⟨Nat.zero_le _, Nat.zero_le _⟩ rfl hl.1 (Nat.le_of_ble_eq_true rfl) d_Chars_is_26 (fun r hr => ?_)
      subst hr
      refine lv_goto (tgt := 50) hx hb d_Chars_is_29 (by decide) ?_
      exact cd_retZ hQ hx hb hr hlk d_Chars_is_50 (cd_nz _) (by rw [nI_toInt (by omega), cd_fit, if_pos c9, if_neg (by rw [c13]; decide)])
    · refine lv_iload hx hb d_Chars_is_16 (lv_at hl 0 rfl) ?_
      refine cd_callP (rest := []) F (c_Letters_isBegin l (nI v)) (by decide) (by decide) k_170 k_149 k_5 k_150 (show cd_desc y_Letters_isBegin 1 by decide +kernel) (fun U g mk a h => h.calling) (fun U hU hW => E.2.2.at hS (fun _ h => h) hU hW) ⟨Nat.zero_le _, Nat.zero_le _⟩ rfl hl.1 (Nat.le_of_ble_eq_true rfl) d_Chars_is_18 (fun r hr => ?_)
      subst hr
      refine lv_goto (tgt := 50) hx hb d_Chars_is_21 (by decide) ?_
      exact cd_retZ hQ hx hb hr hlk d_Chars_is_50 (cd_nz _) (by rw [nI_toInt (by omega), cd_fit, if_pos c9, if_pos c13])

set_option maxHeartbeats 4000000 in
set_option maxRecDepth 100000 in
theorem c_Chars_run (l : Launch) (G : va_G) (ks : Nat → ClassId) (ch cs ps co : Nat) (fc : Nat → Int32) (cp kd : Int32) (f : Nat → Nat) (M X : Nat) (hM : M ≤ 1000) (hX : X < M) (hf : ∀ j, j < M → fc j = nI (f j) ∧ f j < 1114112) : cd_MetP l y_Chars_run b_Chars_run 4 (some .int) 4 [.ref ch, .int kd, .int (nI X)] (cd_In G ks [(ch, .inr (1, [.ref cs, .ref ps, .ref co, .int (nI M), .int cp])), (cs, .inl (ks 1, 1000, .inl fc))]) (fun r => ∃ n, r = nI n ∧ cd_isR (cd_g f M kd.toInt X) n) := by
  refine cd_met (by decide) (Nat.le_of_ble_eq_true rfl) ?_
  intro pg e s m args below meth c R Q ls hR hQ hr hlk hin F hB hl
  have hx := F.1
  have hb := F.2.1
  have hown := F.2.2.2.1
  have hts := F.2.2.2.2.1
  obtain ⟨hP, E⟩ := hB
  have hK := E.1
  have hS : va_S (fun _ => False) s.heap s.heap [] := va_S.rf
  have hP : va_P G classes [(ch, .inr (1, [.ref cs, .ref ps, .ref co, .int (nI M), .int cp])), (cs, .inl (ks 1, 1000, .inl fc))] s.heap := hP
  have hl : lv_has ls 4 [(0, .ref ch), (1, .int kd), (2, .int (nI X))] := hl
  refine lv_iconst (v := 0) hx hb d_Chars_run_0 (by decide) ?_
  refine lv_istore_n (lv' := [(3, .int 0), (0, .ref ch), (1, .int kd), (2, .int (nI X))]) hx hb d_Chars_run_1 rfl hl (by decide) rfl (fun ls hl => ?_)
  have loop : ∀ (d n : Nat) (ls : Array Slot), M ≤ X + n + d → (∀ j, j < n → cd_g f M kd.toInt X j = true) → lv_has ls 4 [(0, .ref ch), (1, .int kd), (2, .int (nI X)), (3, .int (nI n))] → W pg l e R s m args below meth c s.heap [] 0 0 Q (F0 m 2 ls []) := by
    intro d
    induction d with
    | zero =>
      intro n ls hd hg hl
      have hnb : X + n < 2147483647 := by by_cases h9 : X + n ≤ M; (· omega); (· have h8 := hg (M - X) (by omega); rw [cd_g, decide_eq_false (by omega), Bool.false_and] at h8; cases h8)
      refine lv_iload_n hx hb d_Chars_run_2 rfl (lv_at hl 2 rfl) ?_
      refine lv_iload_n hx hb d_Chars_run_3 rfl (lv_at hl 3 rfl) ?_
      refine lv_iadd hx hb d_Chars_run_4 ?_
      refine cd_top (y := nI (X + n)) (nI_add X n) ?_
      refine lv_aload_n hx hb d_Chars_run_5 rfl (lv_at hl 0 rfl) ?_
      refine va_get (D := G) (ci := 1) (v := .int (nI M)) (C := R_Chars) (T := F_Chars) (N := 5) hx hb hts i_Chars hown hK hP 0 rfl rfl 3 (by decide) (hts _ k_38) (fun _ h9 => h9) rfl d_Chars_run_6 ?_
      refine cd_icmp_ge (tgt := 38) hx hb d_Chars_run_9 (by decide) (nI_toInt (n := X + n) (by omega)) (nI_toInt (n := M) (by omega)) (fun c9 => ?_) (fun c9 => ?_)
      · refine lv_iload_n hx hb d_Chars_run_38 rfl (lv_at hl 3 rfl) ?_
        exact cd_retI hQ hx hb hr hlk d_Chars_run_39 (⟨n, rfl, hg, by rw [cd_g, decide_eq_false (by omega), Bool.false_and]⟩)
      · exact absurd c9 (by omega)
    | succ d ih =>
      intro n ls hd hg hl
      have hnb : X + n < 2147483647 := by by_cases h9 : X + n ≤ M; (· omega); (· have h8 := hg (M - X) (by omega); rw [cd_g, decide_eq_false (by omega), Bool.false_and] at h8; cases h8)
      refine lv_iload_n hx hb d_Chars_run_2 rfl (lv_at hl 2 rfl) ?_
      refine lv_iload_n hx hb d_Chars_run_3 rfl (lv_at hl 3 rfl) ?_
      refine lv_iadd hx hb d_Chars_run_4 ?_
      refine cd_top (y := nI (X + n)) (nI_add X n) ?_
      refine lv_aload_n hx hb d_Chars_run_5 rfl (lv_at hl 0 rfl) ?_
      refine va_get (D := G) (ci := 1) (v := .int (nI M)) (C := R_Chars) (T := F_Chars) (N := 5) hx hb hts i_Chars hown hK hP 0 rfl rfl 3 (by decide) (hts _ k_38) (fun _ h9 => h9) rfl d_Chars_run_6 ?_
      refine cd_icmp_ge (tgt := 38) hx hb d_Chars_run_9 (by decide) (nI_toInt (n := X + n) (by omega)) (nI_toInt (n := M) (by omega)) (fun c9 => ?_) (fun c9 => ?_)
      · refine lv_iload_n hx hb d_Chars_run_38 rfl (lv_at hl 3 rfl) ?_
        exact cd_retI hQ hx hb hr hlk d_Chars_run_39 (⟨n, rfl, hg, by rw [cd_g, decide_eq_false (by omega), Bool.false_and]⟩)
      · refine lv_aload_n hx hb d_Chars_run_12 rfl (lv_at hl 0 rfl) ?_
        refine lv_iload_n hx hb d_Chars_run_13 rfl (lv_at hl 1 rfl) ?_
        refine lv_iload_n hx hb d_Chars_run_14 rfl (lv_at hl 2 rfl) ?_
        refine lv_iload_n hx hb d_Chars_run_15 rfl (lv_at hl 3 rfl) ?_
        refine lv_iadd hx hb d_Chars_run_16 ?_
        refine cd_top (y := nI (X + n)) (nI_add X n) ?_
        refine lv_iload_n hx hb d_Chars_run_17 rfl (lv_at hl 3 rfl) ?_
        have J26 : W pg l e R s m args below meth c s.heap [] 0 0 Q (F0 m 26 ls [.int (cd_b (decide (n = 0))), .int (nI (X + n)), .int kd, .ref ch]) := by
          refine cd_callPV (rest := []) F (c_Chars_is l G ks ch cs ps co fc (nI M) cp kd (X + n) (f (X + n)) (decide (n = 0)) (by omega) (hf (X + n) (by omega)).1 (hf (X + n) (by omega)).2) (by decide) (by decide) hK hP 0 1 rfl rfl k_166 k_168 k_s2 k_2 k_169 (show cd_desc y_Chars_is 3 by decide +kernel) (fun U g mk a h => h.calling) (fun U hU hW => cd_In.of E (hP.sub (ws' := [(ch, .inr (1, [.ref cs, .ref ps, .ref co, .int (nI M), .int cp])), (cs, .inl (ks 1, 1000, .inl fc))]) [0, 1] rfl) hS hU hW) ⟨Nat.zero_le _, Nat.zero_le _⟩ rfl hl.1 (Nat.le_of_ble_eq_true rfl) d_Chars_run_26 (fun r hr => ?_)
          subst hr
          refine cd_if_eq_b (tgt := 38) hx hb d_Chars_run_29 (by decide) (fun c29 => ?_) (fun c29 => ?_)
          · refine lv_iload_n hx hb d_Chars_run_38 rfl (lv_at hl 3 rfl) ?_
            exact cd_retI hQ hx hb hr hlk d_Chars_run_39 (⟨n, rfl, hg, by rw [cd_g, decide_eq_true (by omega), Bool.true_and]; exact c29⟩)
          · refine lv_iinc (v := nI (n + 1)) (lv' := [(3, .int (nI (n + 1))), (0, .ref ch), (1, .int kd), (2, .int (nI X))]) hx hb d_Chars_run_32 hl (k := 3) rfl (nI_add n 1) (by decide) rfl (fun ls hl => ?_)
            refine lv_goto (tgt := 2) hx hb d_Chars_run_35 (by decide) ?_
            exact ih (n + 1) ls (by omega) (fun j hj => by rcases Nat.lt_or_ge j n with q | q; (· exact hg j q); (· obtain rfl : j = n := (by omega); rw [cd_g, decide_eq_true (by omega), Bool.true_and]; exact c29)) (lv_sub hl [1, 2, 3, 0] rfl)
        refine cd_if_ne (tgt := 25) hx hb d_Chars_run_18 (by decide) (nI_toInt (n := n) (by omega)) (fun c18 => ?_) (fun c18 => ?_)
        · refine lv_iconst (v := 0) hx hb d_Chars_run_25 (by decide) ?_
          exact cd_top (cd_d0 (by omega)) J26
        · refine lv_iconst (v := 1) hx hb d_Chars_run_21 (by decide) ?_
          refine lv_goto (tgt := 26) hx hb d_Chars_run_22 (by decide) ?_
          exact cd_top (cd_d1 (by omega)) J26
  exact loop M 0 ls (by omega) (fun j hj => by omega) (lv_sub hl [1, 2, 3, 0] rfl)

set_option maxHeartbeats 4000000 in
set_option maxRecDepth 100000 in
theorem c_Desk_place (l : Launch) (G : va_G) (ks : Nat → ClassId) (xo tx ch cs ps co : Nat) (ft : Nat → Int32) (z : Int32) (rd : Bool) (pl : Int32) (fc fp : Nat → Int32) (cz cp cq : Int32) : cd_MetP l y_Desk_place b_Desk_place 1 (some .int) 0 [.ref xo] (cd_In G ks (cd_D ks xo tx ch cs ps co ft z rd pl fc fp cz cp cq)) (fun r => r = pl) := by
  refine cd_met (by decide) (Nat.le_of_ble_eq_true rfl) ?_
  intro pg e s m args below meth c R Q ls hR hQ hr hlk hin F hB hl
  have hx := F.1
  have hb := F.2.1
  have hown := F.2.2.2.1
  have hts := F.2.2.2.2.1
  obtain ⟨hP, E⟩ := hB
  have hK := E.1
  have hS : va_S (fun _ => False) s.heap s.heap [] := va_S.rf
  have hP : va_P G classes [(xo, .inr (2, [.ref tx, .int z, .ref ch, .int (cd_b rd), .int pl])), (tx, .inl (ks 0, 1000, .inl ft)), (ch, .inr (1, [.ref cs, .ref ps, .ref co, .int cz, .int cp])), (cs, .inl (ks 1, 1000, .inl fc)), (ps, .inl (ks 2, 1001, .inl fp)), (co, .inr (0, [.int cq]))] s.heap := hP
  have hl : lv_has ls 1 [(0, .ref xo)] := hl
  refine lv_aload_n hx hb d_Desk_place_0 rfl (lv_at hl 0 rfl) ?_
  refine va_get (D := G) (ci := 2) (v := .int pl) (C := R_Desk) (T := F_Desk) (N := 5) hx hb hts i_Desk hown hK hP 0 rfl rfl 4 (by decide) (hts _ k_58) (fun _ h9 => h9) rfl d_Desk_place_1 ?_
  exact cd_retI hQ hx hb hr hlk d_Desk_place_4 (rfl)

set_option maxHeartbeats 4000000 in
set_option maxRecDepth 100000 in
theorem c_Desk_at (l : Launch) (G : va_G) (ks : Nat → ClassId) (xo tx ch cs ps co : Nat) (ft : Nat → Int32) (z : Int32) (rd : Bool) (pl : Int32) (fc fp : Nat → Int32) (cz cp cq : Int32) (x : Int32) (B : Nat → Nat) (N M : Nat) (h : rd = true → cd_drd B N M fc fp cz) : cd_MetP l y_Desk_at b_Desk_at 2 (some .int) 0 [.ref xo, .int x] (cd_In G ks (cd_D ks xo tx ch cs ps co ft z rd pl fc fp cz cp cq)) (fun r => r = cd_sel rd M x (fun k => nI (cd_chr B N (cd_P B N k))) (-1)) := by
  refine cd_met (by decide) (Nat.le_of_ble_eq_true rfl) ?_
  intro pg e s m args below meth c R Q ls hR hQ hr hlk hin F hB hl
  have hx := F.1
  have hb := F.2.1
  have hown := F.2.2.2.1
  have hts := F.2.2.2.2.1
  obtain ⟨hP, E⟩ := hB
  have hK := E.1
  have hS : va_S (fun _ => False) s.heap s.heap [] := va_S.rf
  have hP : va_P G classes [(xo, .inr (2, [.ref tx, .int z, .ref ch, .int (cd_b rd), .int pl])), (tx, .inl (ks 0, 1000, .inl ft)), (ch, .inr (1, [.ref cs, .ref ps, .ref co, .int cz, .int cp])), (cs, .inl (ks 1, 1000, .inl fc)), (ps, .inl (ks 2, 1001, .inl fp)), (co, .inr (0, [.int cq]))] s.heap := hP
  have hl : lv_has ls 2 [(0, .ref xo), (1, .int x)] := hl
  refine lv_aload_n hx hb d_Desk_at_0 rfl (lv_at hl 0 rfl) ?_
  refine va_get (D := G) (ci := 2) (v := .int (cd_b rd)) (C := R_Desk) (T := F_Desk) (N := 5) hx hb hts i_Desk hown hK hP 0 rfl rfl 3 (by decide) (hts _ k_57) (fun _ h9 => h9) rfl d_Desk_at_1 ?_
  refine cd_if_eq_b (tgt := 34) hx hb d_Desk_at_4 (by decide) (fun c4 => ?_) (fun c4 => ?_)
  · refine lv_iconst (v := -1) hx hb d_Desk_at_34 (by decide) ?_
    exact cd_retI hQ hx hb hr hlk d_Desk_at_35 ((cd_sel_out _ _ (by first | exact Or.inl c4 | exact Or.inr (Or.inl c8) | exact Or.inr (Or.inr c19))).symm)
  · subst c4
    obtain ⟨rfl, hM, htk⟩ := id (h rfl)
    have hP : va_P G classes [(xo, .inr (2, [.ref tx, .int z, .ref ch, .int (cd_b true), .int pl])), (tx, .inl (ks 0, 1000, .inl ft)), (ch, .inr (1, [.ref cs, .ref ps, .ref co, .int (nI M), .int cp])), (cs, .inl (ks 1, 1000, .inl fc)), (ps, .inl (ks 2, 1001, .inl fp)), (co, .inr (0, [.int cq]))] s.heap := hP
    refine lv_iload_n hx hb d_Desk_at_7 rfl (lv_at hl 1 rfl) ?_
    refine cd_if_lt (tgt := 34) hx hb d_Desk_at_8 (by decide) rfl (fun c8 => ?_) (fun c8 => ?_)
    · refine lv_iconst (v := -1) hx hb d_Desk_at_34 (by decide) ?_
      exact cd_retI hQ hx hb hr hlk d_Desk_at_35 ((cd_sel_out _ _ (by first | exact Or.inl c4 | exact Or.inr (Or.inl c8) | exact Or.inr (Or.inr c19))).symm)
    · refine lv_iload_n hx hb d_Desk_at_11 rfl (lv_at hl 1 rfl) ?_
      refine lv_aload_n hx hb d_Desk_at_12 rfl (lv_at hl 0 rfl) ?_
      refine va_get (D := G) (ci := 2) (v := .ref ch) (C := R_Desk) (T := F_Desk) (N := 5) hx hb hts i_Desk hown hK hP 0 rfl rfl 2 (by decide) (hts _ k_56) (fun _ h9 => h9) rfl d_Desk_at_13 ?_
      refine va_getN (D := G) (ci := 1) (v := .int (nI M)) (C := R_Chars) (T := F_Chars) (N := 5) hx hb hts i_Chars hown hK hP 2 rfl rfl 3 (by decide) (va_Nw.use rfl E.2.1.2.2.2.1) (fun _ h9 => h9) rfl d_Desk_at_16 ?_
      refine cd_icmp_ge (tgt := 34) hx hb d_Desk_at_19 (by decide) rfl (nI_toInt (n := M) (by omega)) (fun c19 => ?_) (fun c19 => ?_)
      · refine lv_iconst (v := -1) hx hb d_Desk_at_34 (by decide) ?_
        exact cd_retI hQ hx hb hr hlk d_Desk_at_35 ((cd_sel_out _ _ (by first | exact Or.inl c4 | exact Or.inr (Or.inl c8) | exact Or.inr (Or.inr c19))).symm)
      · obtain ⟨X, hX, rfl⟩ := (cd_ix x).resolve_left (by omega)
        rw [nI_toInt hX] at c19
        have hl : lv_has ls 2 [(0, .ref xo), (1, .int (nI X))] := hl
        refine lv_aload_n hx hb d_Desk_at_22 rfl (lv_at hl 0 rfl) ?_
        refine va_get (D := G) (ci := 2) (v := .ref ch) (C := R_Desk) (T := F_Desk) (N := 5) hx hb hts i_Desk hown hK hP 0 rfl rfl 2 (by decide) (hts _ k_56) (fun _ h9 => h9) rfl d_Desk_at_23 ?_
        refine va_getN (D := G) (ci := 1) (v := .ref cs) (C := R_Chars) (T := F_Chars) (N := 5) hx hb hts i_Chars hown hK hP 2 rfl rfl 0 (by decide) (va_Nw.use rfl E.2.1.2.1) (fun _ h9 => h9) rfl d_Desk_at_26 ?_
        refine lv_iload_n hx hb d_Desk_at_29 rfl (lv_at hl 1 rfl) ?_
        refine cd_iald (D := G) hx hb hK hP 3 1 rfl rfl (n0 := X) (by omega) (by omega) d_Desk_at_30 ?_
        refine cd_top (y := nI (cd_chr B N (cd_P B N X))) ((htk.1 X (by omega)).1) ?_
        refine lv_goto (tgt := 35) hx hb d_Desk_at_31 (by decide) ?_
        exact cd_retI hQ hx hb hr hlk d_Desk_at_35 ((cd_sel_in (fun k => nI (cd_chr B N (cd_P B N k))) (-1) (by omega) (by omega)).symm)

set_option maxHeartbeats 4000000 in
set_option maxRecDepth 100000 in
theorem c_Desk_placeOf (l : Launch) (G : va_G) (ks : Nat → ClassId) (xo tx ch cs ps co : Nat) (ft : Nat → Int32) (z : Int32) (rd : Bool) (pl : Int32) (fc fp : Nat → Int32) (cz cp cq : Int32) (x : Int32) (B : Nat → Nat) (N M : Nat) (h : rd = true → cd_drd B N M fc fp cz) : cd_MetP l y_Desk_placeOf b_Desk_placeOf 2 (some .int) 0 [.ref xo, .int x] (cd_In G ks (cd_D ks xo tx ch cs ps co ft z rd pl fc fp cz cp cq)) (fun r => r = cd_sel rd (M + 1) x (fun k => if k < M then nI (cd_P B N k) else nI N) (-1)) := by
  refine cd_met (by decide) (Nat.le_of_ble_eq_true rfl) ?_
  intro pg e s m args below meth c R Q ls hR hQ hr hlk hin F hB hl
  have hx := F.1
  have hb := F.2.1
  have hown := F.2.2.2.1
  have hts := F.2.2.2.2.1
  obtain ⟨hP, E⟩ := hB
  have hK := E.1
  have hS : va_S (fun _ => False) s.heap s.heap [] := va_S.rf
  have hP : va_P G classes [(xo, .inr (2, [.ref tx, .int z, .ref ch, .int (cd_b rd), .int pl])), (tx, .inl (ks 0, 1000, .inl ft)), (ch, .inr (1, [.ref cs, .ref ps, .ref co, .int cz, .int cp])), (cs, .inl (ks 1, 1000, .inl fc)), (ps, .inl (ks 2, 1001, .inl fp)), (co, .inr (0, [.int cq]))] s.heap := hP
  have hl : lv_has ls 2 [(0, .ref xo), (1, .int x)] := hl
  refine lv_aload_n hx hb d_Desk_placeOf_0 rfl (lv_at hl 0 rfl) ?_
  refine va_get (D := G) (ci := 2) (v := .int (cd_b rd)) (C := R_Desk) (T := F_Desk) (N := 5) hx hb hts i_Desk hown hK hP 0 rfl rfl 3 (by decide) (hts _ k_57) (fun _ h9 => h9) rfl d_Desk_placeOf_1 ?_
  refine cd_if_eq_b (tgt := 34) hx hb d_Desk_placeOf_4 (by decide) (fun c4 => ?_) (fun c4 => ?_)
  · refine lv_iconst (v := -1) hx hb d_Desk_placeOf_34 (by decide) ?_
    exact cd_retI hQ hx hb hr hlk d_Desk_placeOf_35 ((cd_sel_out _ _ (by first | exact Or.inl c4 | exact Or.inr (Or.inl c8) | exact Or.inr (Or.inr (by omega)))).symm)
  · subst c4
    obtain ⟨rfl, hM, htk⟩ := id (h rfl)
    have hP : va_P G classes [(xo, .inr (2, [.ref tx, .int z, .ref ch, .int (cd_b true), .int pl])), (tx, .inl (ks 0, 1000, .inl ft)), (ch, .inr (1, [.ref cs, .ref ps, .ref co, .int (nI M), .int cp])), (cs, .inl (ks 1, 1000, .inl fc)), (ps, .inl (ks 2, 1001, .inl fp)), (co, .inr (0, [.int cq]))] s.heap := hP
    refine lv_iload_n hx hb d_Desk_placeOf_7 rfl (lv_at hl 1 rfl) ?_
    refine cd_if_lt (tgt := 34) hx hb d_Desk_placeOf_8 (by decide) rfl (fun c8 => ?_) (fun c8 => ?_)
    · refine lv_iconst (v := -1) hx hb d_Desk_placeOf_34 (by decide) ?_
      exact cd_retI hQ hx hb hr hlk d_Desk_placeOf_35 ((cd_sel_out _ _ (by first | exact Or.inl c4 | exact Or.inr (Or.inl c8) | exact Or.inr (Or.inr (by omega)))).symm)
    · refine lv_iload_n hx hb d_Desk_placeOf_11 rfl (lv_at hl 1 rfl) ?_
      refine lv_aload_n hx hb d_Desk_placeOf_12 rfl (lv_at hl 0 rfl) ?_
      refine va_get (D := G) (ci := 2) (v := .ref ch) (C := R_Desk) (T := F_Desk) (N := 5) hx hb hts i_Desk hown hK hP 0 rfl rfl 2 (by decide) (hts _ k_56) (fun _ h9 => h9) rfl d_Desk_placeOf_13 ?_
      refine va_getN (D := G) (ci := 1) (v := .int (nI M)) (C := R_Chars) (T := F_Chars) (N := 5) hx hb hts i_Chars hown hK hP 2 rfl rfl 3 (by decide) (va_Nw.use rfl E.2.1.2.2.2.1) (fun _ h9 => h9) rfl d_Desk_placeOf_16 ?_
      refine cd_icmp_gt (tgt := 34) hx hb d_Desk_placeOf_19 (by decide) rfl (nI_toInt (n := M) (by omega)) (fun c19 => ?_) (fun c19 => ?_)
      · refine lv_iconst (v := -1) hx hb d_Desk_placeOf_34 (by decide) ?_
        exact cd_retI hQ hx hb hr hlk d_Desk_placeOf_35 ((cd_sel_out _ _ (by first | exact Or.inl c4 | exact Or.inr (Or.inl c8) | exact Or.inr (Or.inr (by omega)))).symm)
      · obtain ⟨X, hX, rfl⟩ := (cd_ix x).resolve_left (by omega)
        rw [nI_toInt hX] at c19
        have hl : lv_has ls 2 [(0, .ref xo), (1, .int (nI X))] := hl
        refine lv_aload_n hx hb d_Desk_placeOf_22 rfl (lv_at hl 0 rfl) ?_
        refine va_get (D := G) (ci := 2) (v := .ref ch) (C := R_Desk) (T := F_Desk) (N := 5) hx hb hts i_Desk hown hK hP 0 rfl rfl 2 (by decide) (hts _ k_56) (fun _ h9 => h9) rfl d_Desk_placeOf_23 ?_
        refine va_getN (D := G) (ci := 1) (v := .ref ps) (C := R_Chars) (T := F_Chars) (N := 5) hx hb hts i_Chars hown hK hP 2 rfl rfl 1 (by decide) (va_Nw.use rfl E.2.1.2.2.1) (fun _ h9 => h9) rfl d_Desk_placeOf_26 ?_
        refine lv_iload_n hx hb d_Desk_placeOf_29 rfl (lv_at hl 1 rfl) ?_
        refine cd_iald (D := G) hx hb hK hP 4 2 rfl rfl (n0 := X) (by omega) (by omega) d_Desk_placeOf_30 ?_
        refine cd_top (y := if X < M then nI (cd_P B N X) else nI N) (by by_cases q : X < M; (· rw [if_pos q]; exact (htk.1 X q).2); (· rw [if_neg q]; obtain rfl : X = M := (by omega); exact htk.2)) ?_
        refine lv_goto (tgt := 35) hx hb d_Desk_placeOf_31 (by decide) ?_
        exact cd_retI hQ hx hb hr hlk d_Desk_placeOf_35 ((cd_sel_in (M := M + 1) (fun k => if k < M then nI (cd_P B N k) else nI N) (-1) (by omega) (by omega)).symm)

set_option maxHeartbeats 4000000 in
set_option maxRecDepth 100000 in
theorem c_Desk_run (l : Launch) (G : va_G) (ks : Nat → ClassId) (xo tx ch cs ps co : Nat) (ft : Nat → Int32) (z : Int32) (rd : Bool) (pl : Int32) (fc fp : Nat → Int32) (cz cp cq : Int32) (kd x : Int32) (B : Nat → Nat) (N M : Nat) (h : rd = true → cd_drd B N M fc fp cz) : cd_MetP l y_Desk_run b_Desk_run 3 (some .int) 5 [.ref xo, .int kd, .int x] (cd_In G ks (cd_D ks xo tx ch cs ps co ft z rd pl fc fp cz cp cq)) (fun r => cd_runP (fun k => cd_chr B N (cd_P B N k)) M rd kd x r) := by
  refine cd_met (by decide) (Nat.le_of_ble_eq_true rfl) ?_
  intro pg e s m args below meth c R Q ls hR hQ hr hlk hin F hB hl
  have hx := F.1
  have hb := F.2.1
  have hown := F.2.2.2.1
  have hts := F.2.2.2.2.1
  obtain ⟨hP, E⟩ := hB
  have hK := E.1
  have hS : va_S (fun _ => False) s.heap s.heap [] := va_S.rf
  have hP : va_P G classes [(xo, .inr (2, [.ref tx, .int z, .ref ch, .int (cd_b rd), .int pl])), (tx, .inl (ks 0, 1000, .inl ft)), (ch, .inr (1, [.ref cs, .ref ps, .ref co, .int cz, .int cp])), (cs, .inl (ks 1, 1000, .inl fc)), (ps, .inl (ks 2, 1001, .inl fp)), (co, .inr (0, [.int cq]))] s.heap := hP
  have hl : lv_has ls 3 [(0, .ref xo), (1, .int kd), (2, .int x)] := hl
  refine lv_aload_n hx hb d_Desk_run_0 rfl (lv_at hl 0 rfl) ?_
  refine va_get (D := G) (ci := 2) (v := .int (cd_b rd)) (C := R_Desk) (T := F_Desk) (N := 5) hx hb hts i_Desk hown hK hP 0 rfl rfl 3 (by decide) (hts _ k_57) (fun _ h9 => h9) rfl d_Desk_run_1 ?_
  refine cd_if_eq_b (tgt := 43) hx hb d_Desk_run_4 (by decide) (fun c4 => ?_) (fun c4 => ?_)
  · refine lv_iconst (v := 0) hx hb d_Desk_run_43 (by decide) ?_
    exact cd_retI hQ hx hb hr hlk d_Desk_run_44 (Or.inr ⟨fun q => by (rw [c4] at q; exact absurd q.1 (by decide)), rfl⟩)
  · subst c4
    obtain ⟨rfl, hM, htk⟩ := id (h rfl)
    have hP : va_P G classes [(xo, .inr (2, [.ref tx, .int z, .ref ch, .int (cd_b true), .int pl])), (tx, .inl (ks 0, 1000, .inl ft)), (ch, .inr (1, [.ref cs, .ref ps, .ref co, .int (nI M), .int cp])), (cs, .inl (ks 1, 1000, .inl fc)), (ps, .inl (ks 2, 1001, .inl fp)), (co, .inr (0, [.int cq]))] s.heap := hP
    refine lv_iload_n hx hb d_Desk_run_7 rfl (lv_at hl 1 rfl) ?_
    refine cd_if_lt (tgt := 43) hx hb d_Desk_run_8 (by decide) rfl (fun c8 => ?_) (fun c8 => ?_)
    · refine lv_iconst (v := 0) hx hb d_Desk_run_43 (by decide) ?_
      exact cd_retI hQ hx hb hr hlk d_Desk_run_44 (Or.inr ⟨by omega, rfl⟩)
    · refine lv_iload_n hx hb d_Desk_run_11 rfl (lv_at hl 1 rfl) ?_
      refine lv_iconst (v := 3) hx hb d_Desk_run_12 (by decide) ?_
      refine cd_icmp_ge (tgt := 43) hx hb d_Desk_run_13 (by decide) rfl (show (3 : Int32).toInt = 3 by decide) (fun c13 => ?_) (fun c13 => ?_)
      · refine lv_iconst (v := 0) hx hb d_Desk_run_43 (by decide) ?_
        exact cd_retI hQ hx hb hr hlk d_Desk_run_44 (Or.inr ⟨by omega, rfl⟩)
      · refine lv_iload_n hx hb d_Desk_run_16 rfl (lv_at hl 2 rfl) ?_
        refine cd_if_lt (tgt := 43) hx hb d_Desk_run_17 (by decide) rfl (fun c17 => ?_) (fun c17 => ?_)
        · refine lv_iconst (v := 0) hx hb d_Desk_run_43 (by decide) ?_
          exact cd_retI hQ hx hb hr hlk d_Desk_run_44 (Or.inr ⟨by omega, rfl⟩)
        · refine lv_iload_n hx hb d_Desk_run_20 rfl (lv_at hl 2 rfl) ?_
          refine lv_aload_n hx hb d_Desk_run_21 rfl (lv_at hl 0 rfl) ?_
          refine va_get (D := G) (ci := 2) (v := .ref ch) (C := R_Desk) (T := F_Desk) (N := 5) hx hb hts i_Desk hown hK hP 0 rfl rfl 2 (by decide) (hts _ k_56) (fun _ h9 => h9) rfl d_Desk_run_22 ?_
          refine va_getN (D := G) (ci := 1) (v := .int (nI M)) (C := R_Chars) (T := F_Chars) (N := 5) hx hb hts i_Chars hown hK hP 2 rfl rfl 3 (by decide) (va_Nw.use rfl E.2.1.2.2.2.1) (fun _ h9 => h9) rfl d_Desk_run_25 ?_
          refine cd_icmp_ge (tgt := 43) hx hb d_Desk_run_28 (by decide) rfl (nI_toInt (n := M) (by omega)) (fun c28 => ?_) (fun c28 => ?_)
          · refine lv_iconst (v := 0) hx hb d_Desk_run_43 (by decide) ?_
            exact cd_retI hQ hx hb hr hlk d_Desk_run_44 (Or.inr ⟨by omega, rfl⟩)
          · obtain ⟨X, hX, rfl⟩ := (cd_ix x).resolve_left (by omega)
            rw [nI_toInt hX] at c28
            have hl : lv_has ls 3 [(0, .ref xo), (1, .int kd), (2, .int (nI X))] := hl
            refine lv_aload_n hx hb d_Desk_run_31 rfl (lv_at hl 0 rfl) ?_
            refine va_get (D := G) (ci := 2) (v := .ref ch) (C := R_Desk) (T := F_Desk) (N := 5) hx hb hts i_Desk hown hK hP 0 rfl rfl 2 (by decide) (hts _ k_56) (fun _ h9 => h9) rfl d_Desk_run_32 ?_
            refine lv_iload_n hx hb d_Desk_run_35 rfl (lv_at hl 1 rfl) ?_
            refine lv_iload_n hx hb d_Desk_run_36 rfl (lv_at hl 2 rfl) ?_
            refine cd_callPV (rest := []) F (c_Chars_run l G ks ch cs ps co fc cp kd (fun k => cd_chr B N (cd_P B N k)) M X hM (by omega) (fun j hj => ⟨(htk.1 j hj).1, cd_chr_lt _ _ _⟩)) (by decide) (by decide) hK hP 2 1 rfl rfl k_162 k_163 k_164 k_2 k_165 (show cd_desc y_Chars_run 2 by decide +kernel) (fun U g mk a h => h.calling) (fun U hU hW => cd_In.of E (hP.sub (ws' := [(ch, .inr (1, [.ref cs, .ref ps, .ref co, .int (nI M), .int cp])), (cs, .inl (ks 1, 1000, .inl fc))]) [2, 3] rfl) hS hU hW) ⟨Nat.zero_le _, Nat.zero_le _⟩ rfl hl.1 (Nat.le_of_ble_eq_true rfl) d_Desk_run_37 (fun r hr => ?_)
            obtain ⟨n9, rfl, hn9⟩ := hr
            refine lv_goto (tgt := 44) hx hb d_Desk_run_40 (by decide) ?_
            exact cd_retI hQ hx hb hr hlk d_Desk_run_44 (Or.inl ⟨X, n9, rfl, by omega, by omega, rfl, by omega, rfl, hn9⟩)

set_option maxHeartbeats 4000000 in
set_option maxRecDepth 100000 in
theorem c_Desk_compare (l : Launch) (G : va_G) (ks : Nat → ClassId) (xo tx ch cs ps co : Nat) (ft : Nat → Int32) (z : Int32) (rd : Bool) (pl : Int32) (fc fp : Nat → Int32) (cz cp cq : Int32) (xi xj xn : Int32) (B : Nat → Nat) (N M : Nat) (h : rd = true → cd_drd B N M fc fp cz) : cd_MetP l y_Desk_compare b_Desk_compare 6 (some .int) 1 [.ref xo, .int xi, .int xj, .int xn] (cd_In G ks (cd_D ks xo tx ch cs ps co ft z rd pl fc fp cz cp cq)) (fun r => cd_cmpP (fun k => cd_chr B N (cd_P B N k)) M rd xi xj xn r) := by
  refine cd_met (by decide) (Nat.le_of_ble_eq_true rfl) ?_
  intro pg e s m args below meth c R Q ls hR hQ hr hlk hin F hB hl
  have hx := F.1
  have hb := F.2.1
  have hown := F.2.2.2.1
  have hts := F.2.2.2.2.1
  obtain ⟨hP, E⟩ := hB
  have hK := E.1
  have hS : va_S (fun _ => False) s.heap s.heap [] := va_S.rf
  have hP : va_P G classes [(xo, .inr (2, [.ref tx, .int z, .ref ch, .int (cd_b rd), .int pl])), (tx, .inl (ks 0, 1000, .inl ft)), (ch, .inr (1, [.ref cs, .ref ps, .ref co, .int cz, .int cp])), (cs, .inl (ks 1, 1000, .inl fc)), (ps, .inl (ks 2, 1001, .inl fp)), (co, .inr (0, [.int cq]))] s.heap := hP
  have hl : lv_has ls 6 [(0, .ref xo), (1, .int xi), (2, .int xj), (3, .int xn)] := hl
  refine lv_aload_n hx hb d_Desk_compare_0 rfl (lv_at hl 0 rfl) ?_
  refine va_get (D := G) (ci := 2) (v := .int (cd_b rd)) (C := R_Desk) (T := F_Desk) (N := 5) hx hb hts i_Desk hown hK hP 0 rfl rfl 3 (by decide) (hts _ k_57) (fun _ h9 => h9) rfl d_Desk_compare_1 ?_
  refine cd_if_eq_b (tgt := 45) hx hb d_Desk_compare_4 (by decide) (fun c4 => ?_) (fun c4 => ?_)
  · refine lv_bipush (v := -2) hx hb d_Desk_compare_45 (by decide) ?_
    exact cd_retI hQ hx hb hr hlk d_Desk_compare_47 (Or.inr ⟨fun q => by (rw [c4] at q; exact absurd q.1 (by decide)), rfl⟩)
  · subst c4
    obtain ⟨rfl, hM, htk⟩ := id (h rfl)
    have hP : va_P G classes [(xo, .inr (2, [.ref tx, .int z, .ref ch, .int (cd_b true), .int pl])), (tx, .inl (ks 0, 1000, .inl ft)), (ch, .inr (1, [.ref cs, .ref ps, .ref co, .int (nI M), .int cp])), (cs, .inl (ks 1, 1000, .inl fc)), (ps, .inl (ks 2, 1001, .inl fp)), (co, .inr (0, [.int cq]))] s.heap := hP
    refine lv_iload_n hx hb d_Desk_compare_7 rfl (lv_at hl 3 rfl) ?_
    refine cd_if_lt (tgt := 45) hx hb d_Desk_compare_8 (by decide) rfl (fun c8 => ?_) (fun c8 => ?_)
    · refine lv_bipush (v := -2) hx hb d_Desk_compare_45 (by decide) ?_
      exact cd_retI hQ hx hb hr hlk d_Desk_compare_47 (Or.inr ⟨by omega, rfl⟩)
    · refine lv_iload_n hx hb d_Desk_compare_11 rfl (lv_at hl 1 rfl) ?_
      refine cd_if_lt (tgt := 45) hx hb d_Desk_compare_12 (by decide) rfl (fun c12 => ?_) (fun c12 => ?_)
      · refine lv_bipush (v := -2) hx hb d_Desk_compare_45 (by decide) ?_
        exact cd_retI hQ hx hb hr hlk d_Desk_compare_47 (Or.inr ⟨by omega, rfl⟩)
      · refine lv_iload_n hx hb d_Desk_compare_15 rfl (lv_at hl 2 rfl) ?_
        refine cd_if_lt (tgt := 45) hx hb d_Desk_compare_16 (by decide) rfl (fun c16 => ?_) (fun c16 => ?_)
        · refine lv_bipush (v := -2) hx hb d_Desk_compare_45 (by decide) ?_
          exact cd_retI hQ hx hb hr hlk d_Desk_compare_47 (Or.inr ⟨by omega, rfl⟩)
        · obtain ⟨I, hI, rfl⟩ := (cd_ix xi).resolve_left (by omega)
          obtain ⟨J, hJ, rfl⟩ := (cd_ix xj).resolve_left (by omega)
          obtain ⟨L, hL, rfl⟩ := (cd_ix xn).resolve_left (by omega)
          have hl : lv_has ls 6 [(0, .ref xo), (1, .int (nI I)), (2, .int (nI J)), (3, .int (nI L))] := hl
          refine lv_iload_n hx hb d_Desk_compare_19 rfl (lv_at hl 3 rfl) ?_
          refine lv_aload_n hx hb d_Desk_compare_20 rfl (lv_at hl 0 rfl) ?_
          refine va_get (D := G) (ci := 2) (v := .ref ch) (C := R_Desk) (T := F_Desk) (N := 5) hx hb hts i_Desk hown hK hP 0 rfl rfl 2 (by decide) (hts _ k_56) (fun _ h9 => h9) rfl d_Desk_compare_21 ?_
          refine va_getN (D := G) (ci := 1) (v := .int (nI M)) (C := R_Chars) (T := F_Chars) (N := 5) hx hb hts i_Chars hown hK hP 2 rfl rfl 3 (by decide) (va_Nw.use rfl E.2.1.2.2.2.1) (fun _ h9 => h9) rfl d_Desk_compare_24 ?_
          refine lv_iload_n hx hb d_Desk_compare_27 rfl (lv_at hl 1 rfl) ?_
          refine lv_isub hx hb d_Desk_compare_28 ?_
          refine cd_icmp_gt (tgt := 45) hx hb d_Desk_compare_29 (by decide) (nI_toInt (n := L) (by omega)) (cd_subI (M := M) (I := I) (by omega) hI) (fun c29 => ?_) (fun c29 => ?_)
          · refine lv_bipush (v := -2) hx hb d_Desk_compare_45 (by decide) ?_
            exact cd_retI hQ hx hb hr hlk d_Desk_compare_47 (Or.inr ⟨fun q => by obtain ⟨-, -, -, -, q1, q2⟩ := q; rw [nI_toInt hL, nI_toInt hI] at q1; rw [nI_toInt hL, nI_toInt hJ] at q2; omega, rfl⟩)
          · refine lv_iload_n hx hb d_Desk_compare_32 rfl (lv_at hl 3 rfl) ?_
            refine lv_aload_n hx hb d_Desk_compare_33 rfl (lv_at hl 0 rfl) ?_
            refine va_get (D := G) (ci := 2) (v := .ref ch) (C := R_Desk) (T := F_Desk) (N := 5) hx hb hts i_Desk hown hK hP 0 rfl rfl 2 (by decide) (hts _ k_56) (fun _ h9 => h9) rfl d_Desk_compare_34 ?_
            refine va_getN (D := G) (ci := 1) (v := .int (nI M)) (C := R_Chars) (T := F_Chars) (N := 5) hx hb hts i_Chars hown hK hP 2 rfl rfl 3 (by decide) (va_Nw.use rfl E.2.1.2.2.2.1) (fun _ h9 => h9) rfl d_Desk_compare_37 ?_
            refine lv_iload_n hx hb d_Desk_compare_40 rfl (lv_at hl 2 rfl) ?_
            refine lv_isub hx hb d_Desk_compare_41 ?_
            refine cd_icmp_le (tgt := 48) hx hb d_Desk_compare_42 (by decide) (nI_toInt (n := L) (by omega)) (cd_subI (M := M) (I := J) (by omega) hJ) (fun c42 => ?_) (fun c42 => ?_)
            · refine lv_iconst (v := 0) hx hb d_Desk_compare_48 (by decide) ?_
              refine lv_istore (lv' := [(4, .int 0), (0, .ref xo), (1, .int (nI I)), (2, .int (nI J)), (3, .int (nI L))]) hx hb d_Desk_compare_49 hl (by decide) rfl (fun ls hl => ?_)
              have hIL : I + L ≤ M := by omega
              have hJL : J + L ≤ M := by omega
              have loop : ∀ (d k : Nat) (ls : Array Slot), L = k + d → (∀ t, t < k → (fun k => cd_chr B N (cd_P B N k)) (I + t) = (fun k => cd_chr B N (cd_P B N k)) (J + t)) → lv_has ls 6 [(0, .ref xo), (1, .int (nI I)), (2, .int (nI J)), (3, .int (nI L)), (4, .int (nI k))] → W pg l e R s m args below meth c s.heap [] 0 0 Q (F0 m 51 ls []) := by
                intro d
                induction d with
                | zero =>
                  intro k ls hd hall hl
                  have hc1 := cd_chr_lt B N (cd_P B N (I + k))
                  have hc2 := cd_chr_lt B N (cd_P B N (J + k))
                  refine lv_iload hx hb d_Desk_compare_51 (lv_at hl 4 rfl) ?_
                  refine lv_iload_n hx hb d_Desk_compare_53 rfl (lv_at hl 3 rfl) ?_
                  refine cd_icmp_ge (tgt := 100) hx hb d_Desk_compare_54 (by decide) (nI_toInt (n := k) (by omega)) (nI_toInt (n := L) (by omega)) (fun c54 => ?_) (fun c54 => ?_)
                  · refine lv_iconst (v := 0) hx hb d_Desk_compare_100 (by decide) ?_
                    exact cd_retI hQ hx hb hr hlk d_Desk_compare_101 (Or.inl ⟨I, J, L, rfl, rfl, rfl, rfl, hIL, hJL, Or.inr ⟨fun t ht => hall t (by omega), rfl⟩⟩)
                  · exact absurd c54 (by omega)
                | succ d ih =>
                  intro k ls hd hall hl
                  have hc1 := cd_chr_lt B N (cd_P B N (I + k))
                  have hc2 := cd_chr_lt B N (cd_P B N (J + k))
                  refine lv_iload hx hb d_Desk_compare_51 (lv_at hl 4 rfl) ?_
                  refine lv_iload_n hx hb d_Desk_compare_53 rfl (lv_at hl 3 rfl) ?_
                  refine cd_icmp_ge (tgt := 100) hx hb d_Desk_compare_54 (by decide) (nI_toInt (n := k) (by omega)) (nI_toInt (n := L) (by omega)) (fun c54 => ?_) (fun c54 => ?_)
                  · exact absurd c54 (by omega)
                  · refine lv_aload_n hx hb d_Desk_compare_57 rfl (lv_at hl 0 rfl) ?_
                    refine va_get (D := G) (ci := 2) (v := .ref ch) (C := R_Desk) (T := F_Desk) (N := 5) hx hb hts i_Desk hown hK hP 0 rfl rfl 2 (by decide) (hts _ k_56) (fun _ h9 => h9) rfl d_Desk_compare_58 ?_
                    refine va_getN (D := G) (ci := 1) (v := .ref cs) (C := R_Chars) (T := F_Chars) (N := 5) hx hb hts i_Chars hown hK hP 2 rfl rfl 0 (by decide) (va_Nw.use rfl E.2.1.2.1) (fun _ h9 => h9) rfl d_Desk_compare_61 ?_
                    refine lv_iload_n hx hb d_Desk_compare_64 rfl (lv_at hl 1 rfl) ?_
                    refine lv_iload hx hb d_Desk_compare_65 (lv_at hl 4 rfl) ?_
                    refine lv_iadd hx hb d_Desk_compare_67 ?_
                    refine cd_top (y := nI (I + k)) (nI_add I k) ?_
                    refine cd_iald (D := G) hx hb hK hP 3 1 rfl rfl (n0 := I + k) (by omega) (by omega) d_Desk_compare_68 ?_
                    refine cd_top (y := nI (cd_chr B N (cd_P B N (I + k)))) ((htk.1 (I + k) (by omega)).1) ?_
                    refine lv_aload_n hx hb d_Desk_compare_69 rfl (lv_at hl 0 rfl) ?_
                    refine va_get (D := G) (ci := 2) (v := .ref ch) (C := R_Desk) (T := F_Desk) (N := 5) hx hb hts i_Desk hown hK hP 0 rfl rfl 2 (by decide) (hts _ k_56) (fun _ h9 => h9) rfl d_Desk_compare_70 ?_
                    refine va_getN (D := G) (ci := 1) (v := .ref cs) (C := R_Chars) (T := F_Chars) (N := 5) hx hb hts i_Chars hown hK hP 2 rfl rfl 0 (by decide) (va_Nw.use rfl E.2.1.2.1) (fun _ h9 => h9) rfl d_Desk_compare_73 ?_
                    refine lv_iload_n hx hb d_Desk_compare_76 rfl (lv_at hl 2 rfl) ?_
                    refine lv_iload hx hb d_Desk_compare_77 (lv_at hl 4 rfl) ?_
                    refine lv_iadd hx hb d_Desk_compare_79 ?_
                    refine cd_top (y := nI (J + k)) (nI_add J k) ?_
                    refine cd_iald (D := G) hx hb hK hP 3 1 rfl rfl (n0 := J + k) (by omega) (by omega) d_Desk_compare_80 ?_
                    refine cd_top (y := nI (cd_chr B N (cd_P B N (J + k)))) ((htk.1 (J + k) (by omega)).1) ?_
                    refine cd_callP (rest := []) F (c_Integer_compare l (nI (cd_chr B N (cd_P B N (I + k)))) (nI (cd_chr B N (cd_P B N (J + k))))) (by decide) (by decide) k_177 k_178 k_6 k_179 (show cd_desc y_Integer_compare 2 by decide +kernel) (fun _ _ _ _ _ => trivial) (fun _ _ _ => trivial) ⟨Nat.zero_le _, Nat.zero_le _⟩ rfl hl.1 (Nat.le_of_ble_eq_true rfl) d_Desk_compare_81 (fun r hr => ?_)
                    subst hr
                    refine cd_top (y := cd_cmp ((cd_chr B N (cd_P B N (I + k)) : Nat) : Int) ((cd_chr B N (cd_P B N (J + k)) : Nat) : Int)) (by rw [nI_toInt (by omega), nI_toInt (by omega)]) ?_
                    refine lv_istore (lv' := [(5, .int (cd_cmp ((cd_chr B N (cd_P B N (I + k)) : Nat) : Int) ((cd_chr B N (cd_P B N (J + k)) : Nat) : Int))), (0, .ref xo), (1, .int (nI I)), (2, .int (nI J)), (3, .int (nI L)), (4, .int (nI k))]) hx hb d_Desk_compare_84 hl (by decide) rfl (fun ls hl => ?_)
                    refine lv_iload hx hb d_Desk_compare_86 (lv_at hl 0 rfl) ?_
                    refine cd_if_eq (tgt := 94) hx hb d_Desk_compare_88 (by decide) rfl (fun c88 => ?_) (fun c88 => ?_)
                    · refine lv_iinc (v := nI (k + 1)) (lv' := [(4, .int (nI (k + 1))), (5, .int (cd_cmp ((cd_chr B N (cd_P B N (I + k)) : Nat) : Int) ((cd_chr B N (cd_P B N (J + k)) : Nat) : Int))), (0, .ref xo), (1, .int (nI I)), (2, .int (nI J)), (3, .int (nI L))]) hx hb d_Desk_compare_94 hl (k := 5) rfl (nI_add k 1) (by decide) rfl (fun ls hl => ?_)
                      refine lv_goto (tgt := 51) hx hb d_Desk_compare_97 (by decide) ?_
                      exact ih (k + 1) ls (by omega) (fun t ht => by rcases Nat.lt_or_ge t k with q | q; (· exact hall t q); (· obtain rfl : t = k := (by omega); exact cd_cmp_0.mp c88)) (lv_sub hl [2, 3, 4, 5, 0] rfl)
                    · refine lv_iload hx hb d_Desk_compare_91 (lv_at hl 0 rfl) ?_
                      exact cd_retI hQ hx hb hr hlk d_Desk_compare_93 (Or.inl ⟨I, J, L, rfl, rfl, rfl, rfl, hIL, hJL, Or.inl ⟨k, by omega, hall, fun q => c88 (cd_cmp_0.mpr q), rfl⟩⟩)
              exact loop L 0 ls (by omega) (fun t ht => by omega) (lv_sub hl [1, 2, 3, 4, 0] rfl)
            · refine lv_bipush (v := -2) hx hb d_Desk_compare_45 (by decide) ?_
              exact cd_retI hQ hx hb hr hlk d_Desk_compare_47 (Or.inr ⟨fun q => by obtain ⟨-, -, -, -, q1, q2⟩ := q; rw [nI_toInt hL, nI_toInt hI] at q1; rw [nI_toInt hL, nI_toInt hJ] at q2; omega, rfl⟩)
end
section
set_option maxHeartbeats 4000000 in
set_option maxRecDepth 100000 in
theorem c_Desk_read (l : Launch) (G : va_G) (ks : Nat → ClassId) (xo tx ch cs ps co sz : Nat) (ft : Nat → Int32) (n : Nat) (rd : Bool) (pl : Int32) (fc fp : Nat → Int32) (cz cp cq : Int32) (B : Nat → Nat) (hk : cd_tk B n ft) : cd_MetW (S := (Nat → Int32) × (Nat → Int32) × Int32 × Int32 × Int32 × Bool × Int32) l G ks y_Desk_read b_Desk_read 2 (some .int) 3 [.ref xo] (cd_D ks xo tx ch cs ps co ft (nI n) rd pl fc fp cz cp cq) sz (fun r u => cd_rdP B n r u.2.2.2.2.2.1 u.2.2.2.2.2.2 ∧ (u.2.2.2.2.2.1 = true → ∃ M, cd_isM B n M ∧ cd_drd B n M u.1 u.2.1 u.2.2.1)) (fun u => cd_D ks xo tx ch cs ps co ft 0 u.2.2.2.2.2.1 u.2.2.2.2.2.2 u.1 u.2.1 u.2.2.1 u.2.2.2.1 u.2.2.2.2.1) := by
  refine cd_metW (by decide) (Nat.le_of_ble_eq_true rfl) ?_
  intro pg e s m args below meth c R Q ls A H locs hQ hr hlk F E hP hD hA hS hl
  have hx := F.1
  have hb := F.2.1
  have hown := F.2.2.2.1
  have hts := F.2.2.2.2.1
  have hK := E.1
  have hl : lv_has ls 2 [(0, .ref xo)] := hl
  have hP : va_P G classes [(xo, .inr (2, [.ref tx, .int (nI n), .ref ch, .int (cd_b rd), .int pl])), (tx, .inl (ks 0, 1000, .inl ft)), (ch, .inr (1, [.ref cs, .ref ps, .ref co, .int cz, .int cp])), (cs, .inl (ks 1, 1000, .inl fc)), (ps, .inl (ks 2, 1001, .inl fp)), (co, .inr (0, [.int cq]))] H := hP
  have hD : va_D A [(xo, .inr (2, [.ref tx, .int (nI n), .ref ch, .int (cd_b rd), .int pl])), (tx, .inl (ks 0, 1000, .inl ft)), (ch, .inr (1, [.ref cs, .ref ps, .ref co, .int cz, .int cp])), (cs, .inl (ks 1, 1000, .inl fc)), (ps, .inl (ks 2, 1001, .inl fp)), (co, .inr (0, [.int cq]))] := hD
  have hN := hk.1
  refine lv_aload_n hx hb d_Desk_read_0 rfl (lv_at hl 0 rfl) ?_
  refine va_get (D := G) (ci := 2) (v := .ref ch) (C := R_Desk) (T := F_Desk) (N := 5) hx hb hts i_Desk hown hK hP 0 rfl rfl 2 (by decide) (hts _ k_56) (fun _ h9 => h9) rfl d_Desk_read_1 ?_
  refine lv_aload_n hx hb d_Desk_read_4 rfl (lv_at hl 0 rfl) ?_
  refine va_get (D := G) (ci := 2) (v := .ref tx) (C := R_Desk) (T := F_Desk) (N := 5) hx hb hts i_Desk hown hK hP 0 rfl rfl 0 (by decide) (hts _ k_54) (fun _ h9 => h9) rfl d_Desk_read_5 ?_
  refine lv_aload_n hx hb d_Desk_read_8 rfl (lv_at hl 0 rfl) ?_
  refine va_get (D := G) (ci := 2) (v := .int (nI n)) (C := R_Desk) (T := F_Desk) (N := 5) hx hb hts i_Desk hown hK hP 0 rfl rfl 1 (by decide) (hts _ k_55) (fun _ h9 => h9) rfl d_Desk_read_9 ?_
  refine cd_callW (rest := []) (wc := [(ch, .inr (1, [.ref cs, .ref ps, .ref co, .int cz, .int cp])), (cs, .inl (ks 1, 1000, .inl fc)), (ps, .inl (ks 2, 1001, .inl fp)), (co, .inr (0, [.int cq])), (tx, .inl (ks 0, 1000, .inl ft))]) (wr := [(xo, .inr (2, [.ref tx, .int (nI n), .ref ch, .int (cd_b rd), .int pl]))]) F E hP hD hS hA [2, 3, 4, 5, 1] [0] rfl rfl rfl (by decide) (by decide) (by decide) (c_Chars_read l G ks ch cs ps co tx H.size fc fp ft cz cp cq B n hk) (by decide) (by decide) 0 1 rfl rfl k_95 k_96 k_97 k_2 k_98 (show cd_desc y_Chars_read 2 by decide +kernel) ⟨Nat.zero_le _, Nat.zero_le _⟩ rfl hl.1 (Nat.le_of_ble_eq_true rfl) d_Desk_read_12 (fun r u H locs hw hP hD hS => ?_)
  have hP : va_P G classes [(xo, .inr (2, [.ref tx, .int (nI n), .ref ch, .int (cd_b rd), .int pl])), (ch, .inr (1, [.ref cs, .ref ps, .ref co, .int u.2.2.1, .int u.2.2.2.1])), (cs, .inl (ks 1, 1000, .inl u.1)), (ps, .inl (ks 2, 1001, .inl u.2.1)), (co, .inr (0, [.int u.2.2.2.2])), (tx, .inl (ks 0, 1000, .inl ft))] H := hP
  have hD : va_D A [(xo, .inr (2, [.ref tx, .int (nI n), .ref ch, .int (cd_b rd), .int pl])), (ch, .inr (1, [.ref cs, .ref ps, .ref co, .int u.2.2.1, .int u.2.2.2.1])), (cs, .inl (ks 1, 1000, .inl u.1)), (ps, .inl (ks 2, 1001, .inl u.2.1)), (co, .inr (0, [.int u.2.2.2.2])), (tx, .inl (ks 0, 1000, .inl ft))] := hD
  obtain ⟨fc1, fp1, cz1, cp1, cq1⟩ := u
  dsimp only at hw
  rcases hw with ⟨hok, rfl, M, hM, rfl, htk⟩ | ⟨f, q, hV, hf, rfl, rfl, rfl⟩
  · have hM1 : M ≤ 1000 := Nat.le_trans (cd_isM_le hM) hk.1
    have hP : va_P G classes [(xo, .inr (2, [.ref tx, .int (nI n), .ref ch, .int (cd_b rd), .int pl])), (ch, .inr (1, [.ref cs, .ref ps, .ref co, .int (nI M), .int cp1])), (cs, .inl (ks 1, 1000, .inl fc1)), (ps, .inl (ks 2, 1001, .inl fp1)), (co, .inr (0, [.int cq1])), (tx, .inl (ks 0, 1000, .inl ft))] H := hP
    have hD : va_D A [(xo, .inr (2, [.ref tx, .int (nI n), .ref ch, .int (cd_b rd), .int pl])), (ch, .inr (1, [.ref cs, .ref ps, .ref co, .int (nI M), .int cp1])), (cs, .inl (ks 1, 1000, .inl fc1)), (ps, .inl (ks 2, 1001, .inl fp1)), (co, .inr (0, [.int cq1])), (tx, .inl (ks 0, 1000, .inl ft))] := hD
    refine lv_istore_n (lv' := [(1, .int 0), (0, .ref xo)]) hx hb d_Desk_read_15 rfl hl (by decide) rfl (fun ls hl => ?_)
    refine lv_aload_n hx hb d_Desk_read_16 rfl (lv_at hl 1 rfl) ?_
    refine lv_iconst (v := 0) hx hb d_Desk_read_17 (by decide) ?_
    refine va_put (D := G) (ci := 2) (v := .int 0) (ty := .int) (C := R_Desk) (T := F_Desk) (N := 5) hx hb hts i_Desk t_Desk t_Desk_ok n_Desk hown hK hP hD hS 0 rfl rfl 1 (by decide) (hts _ k_55) (fun _ h9 => h9) rfl (by decide +kernel) rfl rfl (Nat.le_of_ble_eq_true rfl) d_Desk_read_18 (fun H locs hP hD hS => ?_)
    have hP : va_P G classes [(xo, .inr (2, [.ref tx, .int 0, .ref ch, .int (cd_b rd), .int pl])), (ch, .inr (1, [.ref cs, .ref ps, .ref co, .int (nI M), .int cp1])), (cs, .inl (ks 1, 1000, .inl fc1)), (ps, .inl (ks 2, 1001, .inl fp1)), (co, .inr (0, [.int cq1])), (tx, .inl (ks 0, 1000, .inl ft))] H := hP
    have hD : va_D A [(xo, .inr (2, [.ref tx, .int 0, .ref ch, .int (cd_b rd), .int pl])), (ch, .inr (1, [.ref cs, .ref ps, .ref co, .int (nI M), .int cp1])), (cs, .inl (ks 1, 1000, .inl fc1)), (ps, .inl (ks 2, 1001, .inl fp1)), (co, .inr (0, [.int cq1])), (tx, .inl (ks 0, 1000, .inl ft))] := hD
    refine lv_aload_n hx hb d_Desk_read_21 rfl (lv_at hl 1 rfl) ?_
    refine lv_iload_n hx hb d_Desk_read_22 rfl (lv_at hl 0 rfl) ?_
    refine cd_if_ne (tgt := 30) hx hb d_Desk_read_23 (by decide) (show (0 : Int32).toInt = 0 by decide) (fun c23 => ?_) (fun c23 => ?_)
    · exact absurd rfl c23
    · refine lv_iconst (v := 1) hx hb d_Desk_read_26 (by decide) ?_
      refine lv_goto (tgt := 31) hx hb d_Desk_read_27 (by decide) ?_
      refine cd_top (y := cd_b true) (rfl) ?_
      refine va_put (D := G) (ci := 2) (v := .int (cd_b true)) (ty := .boolean) (C := R_Desk) (T := F_Desk) (N := 5) hx hb hts i_Desk t_Desk t_Desk_ok n_Desk hown hK hP hD hS 0 rfl rfl 3 (by decide) (hts _ k_57) (fun _ h9 => h9) rfl (by decide +kernel) (cd_nz true) (cd_fz true) (Nat.le_of_ble_eq_true rfl) d_Desk_read_31 (fun H locs hP hD hS => ?_)
      have hP : va_P G classes [(xo, .inr (2, [.ref tx, .int 0, .ref ch, .int (cd_b true), .int pl])), (ch, .inr (1, [.ref cs, .ref ps, .ref co, .int (nI M), .int cp1])), (cs, .inl (ks 1, 1000, .inl fc1)), (ps, .inl (ks 2, 1001, .inl fp1)), (co, .inr (0, [.int cq1])), (tx, .inl (ks 0, 1000, .inl ft))] H := hP
      have hD : va_D A [(xo, .inr (2, [.ref tx, .int 0, .ref ch, .int (cd_b true), .int pl])), (ch, .inr (1, [.ref cs, .ref ps, .ref co, .int (nI M), .int cp1])), (cs, .inl (ks 1, 1000, .inl fc1)), (ps, .inl (ks 2, 1001, .inl fp1)), (co, .inr (0, [.int cq1])), (tx, .inl (ks 0, 1000, .inl ft))] := hD
      refine lv_aload_n hx hb d_Desk_read_34 rfl (lv_at hl 1 rfl) ?_
      refine lv_aload_n hx hb d_Desk_read_35 rfl (lv_at hl 1 rfl) ?_
      refine va_get (D := G) (ci := 2) (v := .int (cd_b true)) (C := R_Desk) (T := F_Desk) (N := 5) hx hb hts i_Desk hown hK hP 0 rfl rfl 3 (by decide) (hts _ k_57) (fun _ h9 => h9) rfl d_Desk_read_36 ?_
      refine cd_if_eq_b (tgt := 46) hx hb d_Desk_read_39 (by decide) (fun c39 => ?_) (fun c39 => ?_)
      · cases c39
      · refine lv_iconst (v := -1) hx hb d_Desk_read_42 (by decide) ?_
        refine lv_goto (tgt := 53) hx hb d_Desk_read_43 (by decide) ?_
        refine va_put (D := G) (ci := 2) (v := .int (-1)) (ty := .int) (C := R_Desk) (T := F_Desk) (N := 5) hx hb hts i_Desk t_Desk t_Desk_ok n_Desk hown hK hP hD hS 0 rfl rfl 4 (by decide) (hts _ k_58) (fun _ h9 => h9) rfl (by decide +kernel) rfl rfl (Nat.le_of_ble_eq_true rfl) d_Desk_read_53 (fun H locs hP hD hS => ?_)
        have hP : va_P G classes [(xo, .inr (2, [.ref tx, .int 0, .ref ch, .int (cd_b true), .int (-1)])), (ch, .inr (1, [.ref cs, .ref ps, .ref co, .int (nI M), .int cp1])), (cs, .inl (ks 1, 1000, .inl fc1)), (ps, .inl (ks 2, 1001, .inl fp1)), (co, .inr (0, [.int cq1])), (tx, .inl (ks 0, 1000, .inl ft))] H := hP
        have hD : va_D A [(xo, .inr (2, [.ref tx, .int 0, .ref ch, .int (cd_b true), .int (-1)])), (ch, .inr (1, [.ref cs, .ref ps, .ref co, .int (nI M), .int cp1])), (cs, .inl (ks 1, 1000, .inl fc1)), (ps, .inl (ks 2, 1001, .inl fp1)), (co, .inr (0, [.int cq1])), (tx, .inl (ks 0, 1000, .inl ft))] := hD
        refine lv_aload_n hx hb d_Desk_read_56 rfl (lv_at hl 1 rfl) ?_
        refine va_get (D := G) (ci := 2) (v := .int (cd_b true)) (C := R_Desk) (T := F_Desk) (N := 5) hx hb hts i_Desk hown hK hP 0 rfl rfl 3 (by decide) (hts _ k_57) (fun _ h9 => h9) rfl d_Desk_read_57 ?_
        refine cd_if_eq_b (tgt := 73) hx hb d_Desk_read_60 (by decide) (fun c60 => ?_) (fun c60 => ?_)
        · cases c60
        · refine lv_aload_n hx hb d_Desk_read_63 rfl (lv_at hl 1 rfl) ?_
          refine va_get (D := G) (ci := 2) (v := .ref ch) (C := R_Desk) (T := F_Desk) (N := 5) hx hb hts i_Desk hown hK hP 0 rfl rfl 2 (by decide) (hts _ k_56) (fun _ h9 => h9) rfl d_Desk_read_64 ?_
          refine va_getN (D := G) (ci := 1) (v := .int (nI M)) (C := R_Chars) (T := F_Chars) (N := 5) hx hb hts i_Chars hown hK hP 1 rfl rfl 3 (by decide) (va_Nw.use rfl E.2.1.2.2.2.1) (fun _ h9 => h9) rfl d_Desk_read_67 ?_
          refine lv_goto (tgt := 76) hx hb d_Desk_read_70 (by decide) ?_
          have hP : va_P G classes [(xo, .inr (2, [.ref tx, .int 0, .ref ch, .int (cd_b true), .int (-1)])), (tx, .inl (ks 0, 1000, .inl ft)), (ch, .inr (1, [.ref cs, .ref ps, .ref co, .int (nI M), .int cp1])), (cs, .inl (ks 1, 1000, .inl fc1)), (ps, .inl (ks 2, 1001, .inl fp1)), (co, .inr (0, [.int cq1]))] H := hP.sub [0, 5, 1, 2, 3, 4] rfl
          have hD : va_D A [(xo, .inr (2, [.ref tx, .int 0, .ref ch, .int (cd_b true), .int (-1)])), (tx, .inl (ks 0, 1000, .inl ft)), (ch, .inr (1, [.ref cs, .ref ps, .ref co, .int (nI M), .int cp1])), (cs, .inl (ks 1, 1000, .inl fc1)), (ps, .inl (ks 2, 1001, .inl fp1)), (co, .inr (0, [.int cq1]))] := hD.sub [0, 5, 1, 2, 3, 4] (by decide) rfl
          exact cd_retWi hQ hx hb hr hlk d_Desk_read_76 hS ((fc1, fp1, nI M, cp1, cq1, true, (-1))) (⟨Or.inl ⟨hok, rfl, rfl, M, hM, rfl⟩, fun _ => ⟨M, hM, rfl, hM1, htk⟩⟩) hP hD
  · have hP : va_P G classes [(xo, .inr (2, [.ref tx, .int (nI n), .ref ch, .int (cd_b rd), .int pl])), (ch, .inr (1, [.ref cs, .ref ps, .ref co, .int 0, .int (nI q)])), (cs, .inl (ks 1, 1000, .inl fc1)), (ps, .inl (ks 2, 1001, .inl fp1)), (co, .inr (0, [.int cq1])), (tx, .inl (ks 0, 1000, .inl ft))] H := hP
    have hD : va_D A [(xo, .inr (2, [.ref tx, .int (nI n), .ref ch, .int (cd_b rd), .int pl])), (ch, .inr (1, [.ref cs, .ref ps, .ref co, .int 0, .int (nI q)])), (cs, .inl (ks 1, 1000, .inl fc1)), (ps, .inl (ks 2, 1001, .inl fp1)), (co, .inr (0, [.int cq1])), (tx, .inl (ks 0, 1000, .inl ft))] := hD
    refine lv_istore_n (lv' := [(1, .int (nI f)), (0, .ref xo)]) hx hb d_Desk_read_15 rfl hl (by decide) rfl (fun ls hl => ?_)
    refine lv_aload_n hx hb d_Desk_read_16 rfl (lv_at hl 1 rfl) ?_
    refine lv_iconst (v := 0) hx hb d_Desk_read_17 (by decide) ?_
    refine va_put (D := G) (ci := 2) (v := .int 0) (ty := .int) (C := R_Desk) (T := F_Desk) (N := 5) hx hb hts i_Desk t_Desk t_Desk_ok n_Desk hown hK hP hD hS 0 rfl rfl 1 (by decide) (hts _ k_55) (fun _ h9 => h9) rfl (by decide +kernel) rfl rfl (Nat.le_of_ble_eq_true rfl) d_Desk_read_18 (fun H locs hP hD hS => ?_)
    have hP : va_P G classes [(xo, .inr (2, [.ref tx, .int 0, .ref ch, .int (cd_b rd), .int pl])), (ch, .inr (1, [.ref cs, .ref ps, .ref co, .int 0, .int (nI q)])), (cs, .inl (ks 1, 1000, .inl fc1)), (ps, .inl (ks 2, 1001, .inl fp1)), (co, .inr (0, [.int cq1])), (tx, .inl (ks 0, 1000, .inl ft))] H := hP
    have hD : va_D A [(xo, .inr (2, [.ref tx, .int 0, .ref ch, .int (cd_b rd), .int pl])), (ch, .inr (1, [.ref cs, .ref ps, .ref co, .int 0, .int (nI q)])), (cs, .inl (ks 1, 1000, .inl fc1)), (ps, .inl (ks 2, 1001, .inl fp1)), (co, .inr (0, [.int cq1])), (tx, .inl (ks 0, 1000, .inl ft))] := hD
    refine lv_aload_n hx hb d_Desk_read_21 rfl (lv_at hl 1 rfl) ?_
    refine lv_iload_n hx hb d_Desk_read_22 rfl (lv_at hl 0 rfl) ?_
    refine cd_if_ne (tgt := 30) hx hb d_Desk_read_23 (by decide) (nI_toInt (n := f) (by omega)) (fun c23 => ?_) (fun c23 => ?_)
    · refine lv_iconst (v := 0) hx hb d_Desk_read_30 (by decide) ?_
      refine cd_top (y := cd_b false) (rfl) ?_
      refine va_put (D := G) (ci := 2) (v := .int (cd_b false)) (ty := .boolean) (C := R_Desk) (T := F_Desk) (N := 5) hx hb hts i_Desk t_Desk t_Desk_ok n_Desk hown hK hP hD hS 0 rfl rfl 3 (by decide) (hts _ k_57) (fun _ h9 => h9) rfl (by decide +kernel) (cd_nz false) (cd_fz false) (Nat.le_of_ble_eq_true rfl) d_Desk_read_31 (fun H locs hP hD hS => ?_)
      have hP : va_P G classes [(xo, .inr (2, [.ref tx, .int 0, .ref ch, .int (cd_b false), .int pl])), (ch, .inr (1, [.ref cs, .ref ps, .ref co, .int 0, .int (nI q)])), (cs, .inl (ks 1, 1000, .inl fc1)), (ps, .inl (ks 2, 1001, .inl fp1)), (co, .inr (0, [.int cq1])), (tx, .inl (ks 0, 1000, .inl ft))] H := hP
      have hD : va_D A [(xo, .inr (2, [.ref tx, .int 0, .ref ch, .int (cd_b false), .int pl])), (ch, .inr (1, [.ref cs, .ref ps, .ref co, .int 0, .int (nI q)])), (cs, .inl (ks 1, 1000, .inl fc1)), (ps, .inl (ks 2, 1001, .inl fp1)), (co, .inr (0, [.int cq1])), (tx, .inl (ks 0, 1000, .inl ft))] := hD
      refine lv_aload_n hx hb d_Desk_read_34 rfl (lv_at hl 1 rfl) ?_
      refine lv_aload_n hx hb d_Desk_read_35 rfl (lv_at hl 1 rfl) ?_
      refine va_get (D := G) (ci := 2) (v := .int (cd_b false)) (C := R_Desk) (T := F_Desk) (N := 5) hx hb hts i_Desk hown hK hP 0 rfl rfl 3 (by decide) (hts _ k_57) (fun _ h9 => h9) rfl d_Desk_read_36 ?_
      refine cd_if_eq_b (tgt := 46) hx hb d_Desk_read_39 (by decide) (fun c39 => ?_) (fun c39 => ?_)
      · refine lv_aload_n hx hb d_Desk_read_46 rfl (lv_at hl 1 rfl) ?_
        refine va_get (D := G) (ci := 2) (v := .ref ch) (C := R_Desk) (T := F_Desk) (N := 5) hx hb hts i_Desk hown hK hP 0 rfl rfl 2 (by decide) (hts _ k_56) (fun _ h9 => h9) rfl d_Desk_read_47 ?_
        refine va_getN (D := G) (ci := 1) (v := .int (nI q)) (C := R_Chars) (T := F_Chars) (N := 5) hx hb hts i_Chars hown hK hP 1 rfl rfl 4 (by decide) (va_Nw.use rfl E.2.1.2.2.2.2.1) (fun _ h9 => h9) rfl d_Desk_read_50 ?_
        refine va_put (D := G) (ci := 2) (v := .int (nI q)) (ty := .int) (C := R_Desk) (T := F_Desk) (N := 5) hx hb hts i_Desk t_Desk t_Desk_ok n_Desk hown hK hP hD hS 0 rfl rfl 4 (by decide) (hts _ k_58) (fun _ h9 => h9) rfl (by decide +kernel) rfl rfl (Nat.le_of_ble_eq_true rfl) d_Desk_read_53 (fun H locs hP hD hS => ?_)
        have hP : va_P G classes [(xo, .inr (2, [.ref tx, .int 0, .ref ch, .int (cd_b false), .int (nI q)])), (ch, .inr (1, [.ref cs, .ref ps, .ref co, .int 0, .int (nI q)])), (cs, .inl (ks 1, 1000, .inl fc1)), (ps, .inl (ks 2, 1001, .inl fp1)), (co, .inr (0, [.int cq1])), (tx, .inl (ks 0, 1000, .inl ft))] H := hP
        have hD : va_D A [(xo, .inr (2, [.ref tx, .int 0, .ref ch, .int (cd_b false), .int (nI q)])), (ch, .inr (1, [.ref cs, .ref ps, .ref co, .int 0, .int (nI q)])), (cs, .inl (ks 1, 1000, .inl fc1)), (ps, .inl (ks 2, 1001, .inl fp1)), (co, .inr (0, [.int cq1])), (tx, .inl (ks 0, 1000, .inl ft))] := hD
        refine lv_aload_n hx hb d_Desk_read_56 rfl (lv_at hl 1 rfl) ?_
        refine va_get (D := G) (ci := 2) (v := .int (cd_b false)) (C := R_Desk) (T := F_Desk) (N := 5) hx hb hts i_Desk hown hK hP 0 rfl rfl 3 (by decide) (hts _ k_57) (fun _ h9 => h9) rfl d_Desk_read_57 ?_
        refine cd_if_eq_b (tgt := 73) hx hb d_Desk_read_60 (by decide) (fun c60 => ?_) (fun c60 => ?_)
        · refine lv_iconst (v := -1) hx hb d_Desk_read_73 (by decide) ?_
          refine lv_iload_n hx hb d_Desk_read_74 rfl (lv_at hl 0 rfl) ?_
          refine lv_isub hx hb d_Desk_read_75 ?_
          have hP : va_P G classes [(xo, .inr (2, [.ref tx, .int 0, .ref ch, .int (cd_b false), .int (nI q)])), (tx, .inl (ks 0, 1000, .inl ft)), (ch, .inr (1, [.ref cs, .ref ps, .ref co, .int 0, .int (nI q)])), (cs, .inl (ks 1, 1000, .inl fc1)), (ps, .inl (ks 2, 1001, .inl fp1)), (co, .inr (0, [.int cq1]))] H := hP.sub [0, 5, 1, 2, 3, 4] rfl
          have hD : va_D A [(xo, .inr (2, [.ref tx, .int 0, .ref ch, .int (cd_b false), .int (nI q)])), (tx, .inl (ks 0, 1000, .inl ft)), (ch, .inr (1, [.ref cs, .ref ps, .ref co, .int 0, .int (nI q)])), (cs, .inl (ks 1, 1000, .inl fc1)), (ps, .inl (ks 2, 1001, .inl fp1)), (co, .inr (0, [.int cq1]))] := hD.sub [0, 5, 1, 2, 3, 4] (by decide) rfl
          exact cd_retWi hQ hx hb hr hlk d_Desk_read_76 hS ((fc1, fp1, 0, nI q, cq1, false, nI q)) (⟨Or.inr ⟨f, q, hV, by omega, rfl, rfl, rfl⟩, fun h9 => by cases h9⟩) hP hD
        · cases c60
      · cases c39
    · exact absurd c23 (by omega)

set_option maxHeartbeats 4000000 in
set_option maxRecDepth 100000 in
theorem c_Model_place (l : Launch) (G : va_G) (ks : Nat → ClassId) (mo mt mk : Nat) (ft fk : Nat → Int32) (z ln : Int32) (rd : Bool) (pl st me be : Int32) : cd_MetP l y_Model_place b_Model_place 1 (some .int) 0 [.ref mo] (cd_In G ks (cd_M ks mo mt mk ft fk z ln rd pl st me be)) (fun r => r = pl) := by
  refine cd_met (by decide) (Nat.le_of_ble_eq_true rfl) ?_
  intro pg e s m args below meth c R Q ls hR hQ hr hlk hin F hB hl
  have hx := F.1
  have hb := F.2.1
  have hown := F.2.2.2.1
  have hts := F.2.2.2.2.1
  obtain ⟨hP, E⟩ := hB
  have hK := E.1
  have hS : va_S (fun _ => False) s.heap s.heap [] := va_S.rf
  have hP : va_P G classes [(mo, .inr (3, [.ref mt, .int z, .ref mk, .int ln, .int (cd_b rd), .int pl, .int st, .int me, .int be])), (mt, .inl (ks 3, 1000, .inl ft)), (mk, .inl (ks 4, 1000, .inl fk))] s.heap := hP
  have hl : lv_has ls 1 [(0, .ref mo)] := hl
  refine lv_aload_n hx hb d_Model_place_0 rfl (lv_at hl 0 rfl) ?_
  refine va_get (D := G) (ci := 3) (v := .int pl) (C := R_Model) (T := F_Model) (N := 9) hx hb hts i_Model hown hK hP 0 rfl rfl 5 (by decide) (hts _ k_195) (fun _ h9 => h9) rfl d_Model_place_1 ?_
  exact cd_retI hQ hx hb hr hlk d_Model_place_4 (rfl)
end
section
/-- a constructor's start -/
def cd_IP (G : va_G) (ws : va_W) (sz : Nat) (U : State) : Prop := U.heap.size = sz ∧ va_D (fun _ => True) ws ∧ va_P G classes ws U.heap ∧ va_K G classes [] U ∧ cd_Nw U
theorem cd_IP.calling {G : va_G} {ws : va_W} {sz : Nat} {U : State} {g : JFrame} {mk : MethodId} {a : Array Value} (h : cd_IP G ws sz U) : cd_IP G ws sz (U.calling g mk a) := ⟨h.1, h.2.1, h.2.2.1, va_K.moved (u := U) (U := U.calling g mk a) (Vm.Alike.refl U.vm) h.2.2.2.1, h.2.2.2.2.same rfl⟩
def cd_Cn (G : va_G) (ch : Nat) (A : Nat → Prop) (t : State) : Prop := ∃ (cs ps co : Nat) (k1 k2 : ClassId), va_P G classes [(ch, .inr (1, [.ref cs, .ref ps, .ref co, .int 0, .int 0])), (co, .inr (0, [.int 0])), (cs, .inl (k1, 1000, .inl (fun _ => 0))), (ps, .inl (k2, 1001, .inl (fun _ => 0)))] t.heap ∧ va_K G classes [(k1, .int), (k2, .int)] t ∧ va_D A [(ch, .inr (1, [.ref cs, .ref ps, .ref co, .int 0, .int 0])), (co, .inr (0, [.int 0])), (cs, .inl (k1, 1000, .inl (fun _ => 0))), (ps, .inl (k2, 1001, .inl (fun _ => 0)))]
def cd_Dn (G : va_G) (xo : Nat) (A : Nat → Prop) (t : State) : Prop := ∃ (tx ch cs ps co : Nat) (k0 k1 k2 : ClassId), va_P G classes [(xo, .inr (2, [.ref tx, .int 0, .ref ch, .int 0, .int (-1)])), (tx, .inl (k0, 1000, .inl (fun _ => 0))), (ch, .inr (1, [.ref cs, .ref ps, .ref co, .int 0, .int 0])), (co, .inr (0, [.int 0])), (cs, .inl (k1, 1000, .inl (fun _ => 0))), (ps, .inl (k2, 1001, .inl (fun _ => 0)))] t.heap ∧ va_K G classes [(k0, .byte), (k1, .int), (k2, .int)] t ∧ va_D A [(xo, .inr (2, [.ref tx, .int 0, .ref ch, .int 0, .int (-1)])), (tx, .inl (k0, 1000, .inl (fun _ => 0))), (ch, .inr (1, [.ref cs, .ref ps, .ref co, .int 0, .int 0])), (co, .inr (0, [.int 0])), (cs, .inl (k1, 1000, .inl (fun _ => 0))), (ps, .inl (k2, 1001, .inl (fun _ => 0)))]
def cd_Mn (G : va_G) (mo : Nat) (A : Nat → Prop) (t : State) : Prop := ∃ (mt mk : Nat) (k3 k4 : ClassId), va_P G classes [(mo, .inr (3, [.ref mt, .int 0, .ref mk, .int 0, .int 0, .int (-1), .int 0, .int 0, .int 0])), (mt, .inl (k3, 1000, .inl (fun _ => 0))), (mk, .inl (k4, 1000, .inl (fun _ => 0)))] t.heap ∧ va_K G classes [(k3, .int), (k4, .int)] t ∧ va_D A [(mo, .inr (3, [.ref mt, .int 0, .ref mk, .int 0, .int 0, .int (-1), .int 0, .int 0, .int 0])), (mt, .inl (k3, 1000, .inl (fun _ => 0))), (mk, .inl (k4, 1000, .inl (fun _ => 0)))]
/-- a contract of a constructor -/
abbrev cd_MetI (l : Launch) (G : va_G) (y : MethodName) (b : ByteArray) (n k mc ms : Nat) (av : List Value) (ws : va_W) (sz : Nat) (Bp : (Nat → Prop) → State → Prop) : Prop :=
  Met l y (.code y b n none :: cd_big) (cd_rm k mc ms) (va_Pc av (cd_IP G ws sz)) (va_Qv (fun _ : Unit => True) (fun _ t => Bp (va_A ws sz) t) (va_A ws sz)) mc ms (va_A ws sz)
section CORE3
variable {p : Program} {l : Launch} {e : Env} {R : Room} {s : State} {m : MethodId} {args : Array Value} {below : List Frame} {meth : Method} {c : Code} {H : Heap} {locs : List Loc} {cells slots : Nat} {Q : State → Prop}
variable {cc : ByteArray} {pc nL K : Nat} {ls : Array Slot} {rest st : List Value} {own : String} {G : va_G} {A : Nat → Prop} {ws : va_W}
theorem cd_callI {Bp : (Nat → Prop) → State → Prop} {y : MethodName} {b : ByteArray} {n k mc ms idx : Nat} {As : List Value} {wc wr : va_W} {o : Nat} (F : cd_Fx p s m args c cc nL own K R) (hK : va_K G classes [] s) (hNw : cd_Nw s) (hP : va_P G classes ws H) (hD : va_D A ws) (hS : va_S A s.heap H locs) (hA : ∀ q : Nat, s.heap.size ≤ q → A q)
    (isC isR : List Nat) (hC : isC.map (fun i => ws[i]?) = wc.map some) (hC2 : isC.filterMap (fun i => ws[i]?) = wc) (hR : isR.map (fun i => ws[i]?) = wr.map some) (hnC : va_nd isC = true) (hnR : va_nd isR = true) (hdis : ∀ i ∈ isR, i ∉ isC)
    (hM : cd_MetI l G y b n k mc ms (.ref o :: As) wc H.size Bp) (hk : k + 1 ≤ K) (hn : n ≤ 8)
    (h1 : Cond.methodLink own idx y ∈ cd_big) (h2 : Cond.instanceMethod y ∈ cd_big) (h3 : Cond.initialized y.cls ∈ cd_big) (h4 : Cond.code y b n none ∈ cd_big) (hd : cd_desc y As.length) (hyn : y.name = "<init>")
    (hf : cells + mc ≤ R.cells ∧ slots + ms ≤ R.slots) (hst : st = As.reverse ++ .ref o :: rest) (hsz : ls.size = nL) (hW : (rest.map fun v => v.category).sum ≤ 8) (hdg : decode cc pc = .ok (.invokespecial idx, 3))
    (kk : ∀ (t : State) (H1 : Heap) (locs1 : List Loc), t.heap = H1 → s.vm.Alike t.vm → Bp (va_A wc H.size) t → (∀ w1 : va_W, va_P G classes w1 t.heap → va_D (va_A wc H.size) w1 → va_P G classes (wr ++ w1) H1 ∧ va_D A (wr ++ w1)) → va_S A s.heap H1 locs1 → W p l e R s m args below meth c H1 locs1 (cells + mc) (slots + ms) Q (F0 m (pc + 3) ls rest)) : W p l e R s m args below meth c H locs cells slots Q (F0 m pc ls st) := by
  subst hst
  have hcb := cd_cb (mc := mc) (ms := ms) F hk hn h1 h3 h4 hd
  obtain ⟨hx, hb, hml, ho, hts, -⟩ := F
  have hPc := hP.sub (ws' := wc) isC hC2
  have hDc := hD.sub (ws' := wc) isC hnC hC
  have hFc := va_free (wc := wc) hD hS hA isC hC
  refine va_callv (va_runI (As := As) (rest := rest) ⟨hx, hb, hml, ho, hts⟩ hM ⟨hcb, hyn, hts _ h2⟩ ⟨fun a U g mk q => ⟨q.1, q.2.calling⟩, fun U hU hW => ⟨rfl, by rw [hU], hDc.weaken (fun _ _ _ _ => trivial), by rw [hU]; exact hPc, va_K.moved hW.alike hK, hNw.warm hW⟩⟩ rfl rfl hsz rfl (lv_room hW) hdg hf) hS (fun q _ h => hFc q h) hFc (fun u t H1 locs1 ht hvm hw hB hz1 hk1 hS1 => ?_)
  refine kk t H1 locs1 ht hvm hB (fun w1 hP1 hD1 => ?_) hS1
  rw [ht] at hP1
  exact va_join (wr := wr) (w1 := w1) hP hD isC isR hC hR hnR hdis hk1 hFc hP1 hD1
end CORE3

set_option maxHeartbeats 4000000 in
set_option maxRecDepth 100000 in
theorem c_Coder_init (l : Launch) (co : Nat) : Met l y_Coder_init (.code y_Coder_init b_Coder_init 1 none :: cd_big) (cd_rm 1 0 0) (va_Pc [.ref co] (fun _ => True)) (va_Sv (fun _ => True)) 0 0 (fun _ => False) := by
  refine cd_met (by decide) (Nat.le_of_ble_eq_true rfl) ?_
  intro pg e s m args below meth c R Q ls hR hQ hr hlk hin F hB hl
  have hx := F.1
  have hb := F.2.1
  have hown := F.2.2.2.1
  have hts := F.2.2.2.2.1
  have hl : lv_has ls 1 [(0, .ref co)] := hl
  refine lv_aload_n hx hb d_Coder_init_0 rfl (lv_at hl 0 rfl) ?_
  refine W.objInit hx hb hown (hts _ k_26) (hts _ k_13) (hts _ k_14) rfl (by rw [F.2.2.1]; exact hl.1) rfl d_Coder_init_1 (by rw [hR]; exact Nat.le_of_ble_eq_true rfl) (by rw [hR]; exact Nat.le_of_ble_eq_true rfl) ?_
  refine W.eq (g2 := F0 m 4 ls []) rfl ?_
  subst hQ
  exact W.vret hx hb hr (fun t ht hW => ⟨rfl, trivial, ht⟩) (fun q h => by cases h) d_Coder_init_4 hlk

set_option maxHeartbeats 4000000 in
set_option maxRecDepth 100000 in
theorem c_Chars_init (l : Launch) (G : va_G) (ch sz : Nat) : cd_MetI l G y_Chars_init b_Chars_init 2 2 3 2002 [.ref ch, .int 1000] [(ch, .inr (1, [.null, .null, .null, .int 0, .int 0]))] sz (cd_Cn G ch) := by
  refine cd_met (by decide) (Nat.le_of_ble_eq_true rfl) ?_
  intro pg e s m args below meth c R Q ls hR hQ hr hlk hin F hB hl
  have hx := F.1
  have hb := F.2.1
  have hown := F.2.2.2.1
  have hts := F.2.2.2.2.1
  have hin := hin rfl
  obtain ⟨hsz, hD0, hP, hK, hNw⟩ := hB
  subst hsz
  have hD := hD0.self (sz := s.heap.size)
  generalize hAe : va_A [(ch, .inr (1, [.null, .null, .null, .int 0, .int 0]))] s.heap.size = A at hD hQ
  have hA : ∀ q : Nat, s.heap.size ≤ q → A q := fun q h => by rw [← hAe]; exact Or.inr h
  have hS : va_S A s.heap s.heap [] := va_S.rf
  have hK0 := hK
  have hl : lv_has ls 2 [(0, .ref ch), (1, .int 1000)] := hl
  refine lv_aload_n hx hb d_Chars_init_0 rfl (lv_at hl 0 rfl) ?_
  refine W.objInit hx hb hown (hts _ k_20) (hts _ k_13) (hts _ k_14) rfl (by rw [F.2.2.1]; exact hl.1) rfl d_Chars_init_1 (by rw [hR]; exact Nat.le_of_ble_eq_true rfl) (by rw [hR]; exact Nat.le_of_ble_eq_true rfl) ?_
  refine W.eq (g2 := F0 m 4 ls []) rfl ?_
  refine lv_aload_n hx hb d_Chars_init_4 rfl (lv_at hl 0 rfl) ?_
  refine va_new (ci := 0) (fs := [.int 0]) (C := R_Coder) (T := F_Coder) (N := 1) hx hb hts i_Coder t_Coder t_Coder_ok hown (hts _ k_21) (hts _ k_22) (hts _ k_3) hK hP hD hS hA rfl (fun j hj => by rcases (show j = 0 by omega) with rfl <;> rfl) (by rw [hR]; exact Nat.le_of_ble_eq_true rfl) (by rw [hR]; exact Nat.le_of_ble_eq_true rfl) d_Chars_init_5 (fun q5 H hP hD hS => ?_)
  have hP : va_P G classes [(ch, .inr (1, [.null, .null, .null, .int 0, .int 0])), (q5, .inr (0, [.int 0]))] H := hP
  have hD : va_D A [(ch, .inr (1, [.null, .null, .null, .int 0, .int 0])), (q5, .inr (0, [.int 0]))] := hD
  refine W.widen (k := 1) (n := 1) (by omega) (by omega) ?_
  refine lv_dup hx hb d_Chars_init_8 rfl ?_
  refine va_csv (va_runIN (As := []) (rest := [.ref q5, .ref ch]) ⟨hx, hb, F.2.2.1, hown, hts⟩ (c_Coder_init l q5) ⟨va_cnB 0 hts (cd_goodIn k_25) rfl rfl rfl hNw.2.2.2.2.2 (hts _ k_3) (show cd_desc y_Coder_init 0 by decide +kernel) (by rw [hR]; exact ⟨Nat.le_of_ble_eq_true rfl, Nat.le_of_ble_eq_true rfl⟩), rfl, hts _ k_24⟩ ⟨fun a U g mk q => ⟨q.1, trivial⟩, fun U hU hW => ⟨rfl, trivial⟩⟩ rfl rfl hl.1 rfl (lv_room (Nat.le_of_ble_eq_true rfl)) d_Chars_init_9 (by rw [hR]; exact ⟨Nat.le_of_ble_eq_true rfl, Nat.le_of_ble_eq_true rfl⟩)).run (fun _ => ?_)
  refine va_putF (D := G) (ci := 1) (v := .ref q5) (ty := .object "CharDesk$Coder") (C := R_Chars) (T := F_Chars) (N := 5) hx hb hts i_Chars t_Chars t_Chars_ok n_Chars hown hK hP hD hS 0 rfl rfl 2 (by decide) (hts _ k_37) (fun _ h9 => h9) rfl hin rfl (by decide +kernel) rfl rfl (Nat.le_of_ble_eq_true rfl) d_Chars_init_12 (fun H locs hP hD hS => ?_)
  have hP : va_P G classes [(ch, .inr (1, [.null, .null, .ref q5, .int 0, .int 0])), (q5, .inr (0, [.int 0]))] H := hP
  have hD : va_D A [(ch, .inr (1, [.null, .null, .ref q5, .int 0, .int 0])), (q5, .inr (0, [.int 0]))] := hD
  refine lv_aload_n hx hb d_Chars_init_15 rfl (lv_at hl 0 rfl) ?_
  refine lv_iload_n hx hb d_Chars_init_16 rfl (lv_at hl 1 rfl) ?_
  refine va_newa (atype := .int) (a0 := (1000, .inl (fun _ => 0))) (ty := .int) (N' := 1000) hx hb (hts _ k_53) rfl hK hP hD hS hA (fun _ => rfl) (by decide) (by decide) (by decide) (by rw [hR]; exact Nat.le_of_ble_eq_true rfl) (by rw [hR]; exact Nat.le_of_ble_eq_true rfl) d_Chars_init_17 (fun q17 k17 H hK hP hD hS => ?_)
  have hP : va_P G classes [(ch, .inr (1, [.null, .null, .ref q5, .int 0, .int 0])), (q5, .inr (0, [.int 0])), (q17, .inl (k17, 1000, .inl (fun _ => 0)))] H := hP
  have hD : va_D A [(ch, .inr (1, [.null, .null, .ref q5, .int 0, .int 0])), (q5, .inr (0, [.int 0])), (q17, .inl (k17, 1000, .inl (fun _ => 0)))] := hD
  have hK : va_K G classes [(k17, .int)] s := hK
  refine W.widen (k := 2) (n := 1001) (by omega) (by omega) ?_
  refine va_putF (D := G) (ci := 1) (v := .ref q17) (ty := .array .int) (C := R_Chars) (T := F_Chars) (N := 5) hx hb hts i_Chars t_Chars t_Chars_ok n_Chars hown hK hP hD hS 0 rfl rfl 0 (by decide) (hts _ k_33) (fun _ h9 => h9) rfl hin rfl (by decide +kernel) rfl rfl (Nat.le_of_ble_eq_true rfl) d_Chars_init_19 (fun H locs hP hD hS => ?_)
  have hP : va_P G classes [(ch, .inr (1, [.ref q17, .null, .ref q5, .int 0, .int 0])), (q5, .inr (0, [.int 0])), (q17, .inl (k17, 1000, .inl (fun _ => 0)))] H := hP
  have hD : va_D A [(ch, .inr (1, [.ref q17, .null, .ref q5, .int 0, .int 0])), (q5, .inr (0, [.int 0])), (q17, .inl (k17, 1000, .inl (fun _ => 0)))] := hD
  refine lv_aload_n hx hb d_Chars_init_22 rfl (lv_at hl 0 rfl) ?_
  refine lv_iload_n hx hb d_Chars_init_23 rfl (lv_at hl 1 rfl) ?_
  refine lv_iconst (v := 1) hx hb d_Chars_init_24 (by decide) ?_
  refine lv_iadd hx hb d_Chars_init_25 ?_
  refine cd_top (y := 1001) (by decide) ?_
  refine va_newa (atype := .int) (a0 := (1001, .inl (fun _ => 0))) (ty := .int) (N' := 1001) hx hb (hts _ k_53) rfl hK hP hD hS hA (fun _ => rfl) (by decide) (by decide) (by decide) (by rw [hR]; exact Nat.le_of_ble_eq_true rfl) (by rw [hR]; exact Nat.le_of_ble_eq_true rfl) d_Chars_init_26 (fun q26 k26 H hK hP hD hS => ?_)
  have hP : va_P G classes [(ch, .inr (1, [.ref q17, .null, .ref q5, .int 0, .int 0])), (q5, .inr (0, [.int 0])), (q17, .inl (k17, 1000, .inl (fun _ => 0))), (q26, .inl (k26, 1001, .inl (fun _ => 0)))] H := hP
  have hD : va_D A [(ch, .inr (1, [.ref q17, .null, .ref q5, .int 0, .int 0])), (q5, .inr (0, [.int 0])), (q17, .inl (k17, 1000, .inl (fun _ => 0))), (q26, .inl (k26, 1001, .inl (fun _ => 0)))] := hD
  have hK : va_K G classes [(k17, .int), (k26, .int)] s := hK
  refine W.widen (k := 3) (n := 2002) (by omega) (by omega) ?_
  refine va_putF (D := G) (ci := 1) (v := .ref q26) (ty := .array .int) (C := R_Chars) (T := F_Chars) (N := 5) hx hb hts i_Chars t_Chars t_Chars_ok n_Chars hown hK hP hD hS 0 rfl rfl 1 (by decide) (hts _ k_35) (fun _ h9 => h9) rfl hin rfl (by decide +kernel) rfl rfl (Nat.le_of_ble_eq_true rfl) d_Chars_init_28 (fun H locs hP hD hS => ?_)
  have hP : va_P G classes [(ch, .inr (1, [.ref q17, .ref q26, .ref q5, .int 0, .int 0])), (q5, .inr (0, [.int 0])), (q17, .inl (k17, 1000, .inl (fun _ => 0))), (q26, .inl (k26, 1001, .inl (fun _ => 0)))] H := hP
  have hD : va_D A [(ch, .inr (1, [.ref q17, .ref q26, .ref q5, .int 0, .int 0])), (q5, .inr (0, [.int 0])), (q17, .inl (k17, 1000, .inl (fun _ => 0))), (q26, .inl (k26, 1001, .inl (fun _ => 0)))] := hD
  subst hQ
  exact W.vret hx hb hr (fun t ht hW => ⟨⟨(), rfl, trivial, q17, q26, q5, k17, k26, by rw [ht]; exact hP, va_K.moved hW.alike hK, hD⟩, hS.F ht⟩) hS.2.2 d_Chars_init_31 hlk

set_option maxHeartbeats 4000000 in
set_option maxRecDepth 100000 in
theorem c_Desk_init (l : Launch) (G : va_G) (xo sz : Nat) : cd_MetI l G y_Desk_init b_Desk_init 1 3 5 3007 [.ref xo] [(xo, .inr (2, [.null, .int 0, .null, .int 0, .int 0]))] sz (cd_Dn G xo) := by
  refine cd_met (by decide) (Nat.le_of_ble_eq_true rfl) ?_
  intro pg e s m args below meth c R Q ls hR hQ hr hlk hin F hB hl
  have hx := F.1
  have hb := F.2.1
  have hown := F.2.2.2.1
  have hts := F.2.2.2.2.1
  have hin := hin rfl
  obtain ⟨hsz, hD0, hP, hK, hNw⟩ := hB
  subst hsz
  have hD := hD0.self (sz := s.heap.size)
  generalize hAe : va_A [(xo, .inr (2, [.null, .int 0, .null, .int 0, .int 0]))] s.heap.size = A at hD hQ
  have hA : ∀ q : Nat, s.heap.size ≤ q → A q := fun q h => by rw [← hAe]; exact Or.inr h
  have hS : va_S A s.heap s.heap [] := va_S.rf
  have hK0 := hK
  have hl : lv_has ls 1 [(0, .ref xo)] := hl
  refine lv_aload_n hx hb d_Desk_init_0 rfl (lv_at hl 0 rfl) ?_
  refine W.objInit hx hb hown (hts _ k_12) (hts _ k_13) (hts _ k_14) rfl (by rw [F.2.2.1]; exact hl.1) rfl d_Desk_init_1 (by rw [hR]; exact Nat.le_of_ble_eq_true rfl) (by rw [hR]; exact Nat.le_of_ble_eq_true rfl) ?_
  refine W.eq (g2 := F0 m 4 ls []) rfl ?_
  refine lv_aload_n hx hb d_Desk_init_4 rfl (lv_at hl 0 rfl) ?_
  refine lv_sipush (v := 1000) hx hb d_Desk_init_5 (by decide) ?_
  refine va_newa (atype := .byte) (a0 := (1000, .inl (fun _ => 0))) (ty := .byte) (N' := 1000) hx hb (hts _ k_32) rfl hK hP hD hS hA (fun _ => rfl) (by decide) (by decide) (by decide) (by rw [hR]; exact Nat.le_of_ble_eq_true rfl) (by rw [hR]; exact Nat.le_of_ble_eq_true rfl) d_Desk_init_8 (fun q8 k8 H hK hP hD hS => ?_)
  have hP : va_P G classes [(xo, .inr (2, [.null, .int 0, .null, .int 0, .int 0])), (q8, .inl (k8, 1000, .inl (fun _ => 0)))] H := hP
  have hD : va_D A [(xo, .inr (2, [.null, .int 0, .null, .int 0, .int 0])), (q8, .inl (k8, 1000, .inl (fun _ => 0)))] := hD
  have hK : va_K G classes [(k8, .byte)] s := hK
  refine W.widen (k := 1) (n := 1000) (by omega) (by omega) ?_
  refine va_putF (D := G) (ci := 2) (v := .ref q8) (ty := .array .byte) (C := R_Desk) (T := F_Desk) (N := 5) hx hb hts i_Desk t_Desk t_Desk_ok n_Desk hown hK hP hD hS 0 rfl rfl 0 (by decide) (hts _ k_54) (fun _ h9 => h9) rfl hin rfl (by decide +kernel) rfl rfl (Nat.le_of_ble_eq_true rfl) d_Desk_init_10 (fun H locs hP hD hS => ?_)
  have hP : va_P G classes [(xo, .inr (2, [.ref q8, .int 0, .null, .int 0, .int 0])), (q8, .inl (k8, 1000, .inl (fun _ => 0)))] H := hP
  have hD : va_D A [(xo, .inr (2, [.ref q8, .int 0, .null, .int 0, .int 0])), (q8, .inl (k8, 1000, .inl (fun _ => 0)))] := hD
  refine lv_aload_n hx hb d_Desk_init_13 rfl (lv_at hl 0 rfl) ?_
  refine va_new (ci := 1) (fs := [.null, .null, .null, .int 0, .int 0]) (C := R_Chars) (T := F_Chars) (N := 5) hx hb hts i_Chars t_Chars t_Chars_ok hown (hts _ k_15) (hts _ k_16) (hts _ k_2) hK hP hD hS hA rfl (fun j hj => by rcases (show j = 0 ∨ j = 1 ∨ j = 2 ∨ j = 3 ∨ j = 4 by omega) with rfl | rfl | rfl | rfl | rfl <;> rfl) (by rw [hR]; exact Nat.le_of_ble_eq_true rfl) (by rw [hR]; exact Nat.le_of_ble_eq_true rfl) d_Desk_init_14 (fun q14 H hP hD hS => ?_)
  have hP : va_P G classes [(xo, .inr (2, [.ref q8, .int 0, .null, .int 0, .int 0])), (q8, .inl (k8, 1000, .inl (fun _ => 0))), (q14, .inr (1, [.null, .null, .null, .int 0, .int 0]))] H := hP
  have hD : va_D A [(xo, .inr (2, [.ref q8, .int 0, .null, .int 0, .int 0])), (q8, .inl (k8, 1000, .inl (fun _ => 0))), (q14, .inr (1, [.null, .null, .null, .int 0, .int 0]))] := hD
  refine W.widen (k := 2) (n := 1005) (by omega) (by omega) ?_
  refine lv_dup hx hb d_Desk_init_17 rfl ?_
  refine lv_sipush (v := 1000) hx hb d_Desk_init_18 (by decide) ?_
  refine cd_callI (rest := [.ref q14, .ref xo]) (wc := [(q14, .inr (1, [.null, .null, .null, .int 0, .int 0]))]) (wr := [(xo, .inr (2, [.ref q8, .int 0, .null, .int 0, .int 0])), (q8, .inl (k8, 1000, .inl (fun _ => 0)))]) F hK0 hNw hP hD hS hA [2] [0, 1] rfl rfl rfl (by decide) (by decide) (by decide) (c_Chars_init l G q14 H.size) (by decide) (by decide) k_17 k_18 k_2 k_19 (show cd_desc y_Chars_init 1 by decide +kernel) rfl (by rw [hR]; exact ⟨Nat.le_of_ble_eq_true rfl, Nat.le_of_ble_eq_true rfl⟩) rfl hl.1 (Nat.le_of_ble_eq_true rfl) d_Desk_init_21 (fun t H locs ht hvm hB hj hS => ?_)
  obtain ⟨cs, ps, co, k1, k2, hP1, hK1, hD1⟩ := hB
  obtain ⟨hP, hD⟩ := hj _ hP1 hD1
  have hK := hK.app (va_K.moved hvm.symm hK1)
  have hP : va_P G classes [(xo, .inr (2, [.ref q8, .int 0, .null, .int 0, .int 0])), (q8, .inl (k8, 1000, .inl (fun _ => 0))), (q14, .inr (1, [.ref cs, .ref ps, .ref co, .int 0, .int 0])), (co, .inr (0, [.int 0])), (cs, .inl (k1, 1000, .inl (fun _ => 0))), (ps, .inl (k2, 1001, .inl (fun _ => 0)))] H := hP
  have hD : va_D A [(xo, .inr (2, [.ref q8, .int 0, .null, .int 0, .int 0])), (q8, .inl (k8, 1000, .inl (fun _ => 0))), (q14, .inr (1, [.ref cs, .ref ps, .ref co, .int 0, .int 0])), (co, .inr (0, [.int 0])), (cs, .inl (k1, 1000, .inl (fun _ => 0))), (ps, .inl (k2, 1001, .inl (fun _ => 0)))] := hD
  have hK : va_K G classes [(k8, .byte), (k1, .int), (k2, .int)] s := hK
  refine W.widen (k := 5) (n := 3007) (by omega) (by omega) ?_
  refine va_putF (D := G) (ci := 2) (v := .ref q14) (ty := .object "CharDesk$Chars") (C := R_Desk) (T := F_Desk) (N := 5) hx hb hts i_Desk t_Desk t_Desk_ok n_Desk hown hK hP hD hS 0 rfl rfl 2 (by decide) (hts _ k_56) (fun _ h9 => h9) rfl hin rfl (by decide +kernel) rfl rfl (Nat.le_of_ble_eq_true rfl) d_Desk_init_24 (fun H locs hP hD hS => ?_)
  have hP : va_P G classes [(xo, .inr (2, [.ref q8, .int 0, .ref q14, .int 0, .int 0])), (q8, .inl (k8, 1000, .inl (fun _ => 0))), (q14, .inr (1, [.ref cs, .ref ps, .ref co, .int 0, .int 0])), (co, .inr (0, [.int 0])), (cs, .inl (k1, 1000, .inl (fun _ => 0))), (ps, .inl (k2, 1001, .inl (fun _ => 0)))] H := hP
  have hD : va_D A [(xo, .inr (2, [.ref q8, .int 0, .ref q14, .int 0, .int 0])), (q8, .inl (k8, 1000, .inl (fun _ => 0))), (q14, .inr (1, [.ref cs, .ref ps, .ref co, .int 0, .int 0])), (co, .inr (0, [.int 0])), (cs, .inl (k1, 1000, .inl (fun _ => 0))), (ps, .inl (k2, 1001, .inl (fun _ => 0)))] := hD
  refine lv_aload_n hx hb d_Desk_init_27 rfl (lv_at hl 0 rfl) ?_
  refine lv_iconst (v := -1) hx hb d_Desk_init_28 (by decide) ?_
  refine va_put (D := G) (ci := 2) (v := .int (-1)) (ty := .int) (C := R_Desk) (T := F_Desk) (N := 5) hx hb hts i_Desk t_Desk t_Desk_ok n_Desk hown hK hP hD hS 0 rfl rfl 4 (by decide) (hts _ k_58) (fun _ h9 => h9) rfl (by decide +kernel) rfl rfl (Nat.le_of_ble_eq_true rfl) d_Desk_init_29 (fun H locs hP hD hS => ?_)
  have hP : va_P G classes [(xo, .inr (2, [.ref q8, .int 0, .ref q14, .int 0, .int (-1)])), (q8, .inl (k8, 1000, .inl (fun _ => 0))), (q14, .inr (1, [.ref cs, .ref ps, .ref co, .int 0, .int 0])), (co, .inr (0, [.int 0])), (cs, .inl (k1, 1000, .inl (fun _ => 0))), (ps, .inl (k2, 1001, .inl (fun _ => 0)))] H := hP
  have hD : va_D A [(xo, .inr (2, [.ref q8, .int 0, .ref q14, .int 0, .int (-1)])), (q8, .inl (k8, 1000, .inl (fun _ => 0))), (q14, .inr (1, [.ref cs, .ref ps, .ref co, .int 0, .int 0])), (co, .inr (0, [.int 0])), (cs, .inl (k1, 1000, .inl (fun _ => 0))), (ps, .inl (k2, 1001, .inl (fun _ => 0)))] := hD
  subst hQ
  exact W.vret hx hb hr (fun t ht hW => ⟨⟨(), rfl, trivial, q8, q14, cs, ps, co, k8, k1, k2, by rw [ht]; exact hP, va_K.moved hW.alike hK, hD⟩, hS.F ht⟩) hS.2.2 d_Desk_init_32 hlk

set_option maxHeartbeats 4000000 in
set_option maxRecDepth 100000 in
theorem c_Model_init (l : Launch) (G : va_G) (mo sz : Nat) : cd_MetI l G y_Model_init b_Model_init 1 1 2 2000 [.ref mo] [(mo, .inr (3, [.null, .int 0, .null, .int 0, .int 0, .int 0, .int 0, .int 0, .int 0]))] sz (cd_Mn G mo) := by
  refine cd_met (by decide) (Nat.le_of_ble_eq_true rfl) ?_
  intro pg e s m args below meth c R Q ls hR hQ hr hlk hin F hB hl
  have hx := F.1
  have hb := F.2.1
  have hown := F.2.2.2.1
  have hts := F.2.2.2.2.1
  have hin := hin rfl
  obtain ⟨hsz, hD0, hP, hK, hNw⟩ := hB
  subst hsz
  have hD := hD0.self (sz := s.heap.size)
  generalize hAe : va_A [(mo, .inr (3, [.null, .int 0, .null, .int 0, .int 0, .int 0, .int 0, .int 0, .int 0]))] s.heap.size = A at hD hQ
  have hA : ∀ q : Nat, s.heap.size ≤ q → A q := fun q h => by rw [← hAe]; exact Or.inr h
  have hS : va_S A s.heap s.heap [] := va_S.rf
  have hK0 := hK
  have hl : lv_has ls 1 [(0, .ref mo)] := hl
  refine lv_aload_n hx hb d_Model_init_0 rfl (lv_at hl 0 rfl) ?_
  refine W.objInit hx hb hown (hts _ k_189) (hts _ k_13) (hts _ k_14) rfl (by rw [F.2.2.1]; exact hl.1) rfl d_Model_init_1 (by rw [hR]; exact Nat.le_of_ble_eq_true rfl) (by rw [hR]; exact Nat.le_of_ble_eq_true rfl) ?_
  refine W.eq (g2 := F0 m 4 ls []) rfl ?_
  refine lv_aload_n hx hb d_Model_init_4 rfl (lv_at hl 0 rfl) ?_
  refine lv_sipush (v := 1000) hx hb d_Model_init_5 (by decide) ?_
  refine va_newa (atype := .int) (a0 := (1000, .inl (fun _ => 0))) (ty := .int) (N' := 1000) hx hb (hts _ k_53) rfl hK hP hD hS hA (fun _ => rfl) (by decide) (by decide) (by decide) (by rw [hR]; exact Nat.le_of_ble_eq_true rfl) (by rw [hR]; exact Nat.le_of_ble_eq_true rfl) d_Model_init_8 (fun q8 k8 H hK hP hD hS => ?_)
  have hP : va_P G classes [(mo, .inr (3, [.null, .int 0, .null, .int 0, .int 0, .int 0, .int 0, .int 0, .int 0])), (q8, .inl (k8, 1000, .inl (fun _ => 0)))] H := hP
  have hD : va_D A [(mo, .inr (3, [.null, .int 0, .null, .int 0, .int 0, .int 0, .int 0, .int 0, .int 0])), (q8, .inl (k8, 1000, .inl (fun _ => 0)))] := hD
  have hK : va_K G classes [(k8, .int)] s := hK
  refine W.widen (k := 1) (n := 1000) (by omega) (by omega) ?_
  refine va_putF (D := G) (ci := 3) (v := .ref q8) (ty := .array .int) (C := R_Model) (T := F_Model) (N := 9) hx hb hts i_Model t_Model t_Model_ok n_Model hown hK hP hD hS 0 rfl rfl 0 (by decide) (hts _ k_190) (fun _ h9 => h9) rfl hin rfl (by decide +kernel) rfl rfl (Nat.le_of_ble_eq_true rfl) d_Model_init_10 (fun H locs hP hD hS => ?_)
  have hP : va_P G classes [(mo, .inr (3, [.ref q8, .int 0, .null, .int 0, .int 0, .int 0, .int 0, .int 0, .int 0])), (q8, .inl (k8, 1000, .inl (fun _ => 0)))] H := hP
  have hD : va_D A [(mo, .inr (3, [.ref q8, .int 0, .null, .int 0, .int 0, .int 0, .int 0, .int 0, .int 0])), (q8, .inl (k8, 1000, .inl (fun _ => 0)))] := hD
  refine lv_aload_n hx hb d_Model_init_13 rfl (lv_at hl 0 rfl) ?_
  refine lv_sipush (v := 1000) hx hb d_Model_init_14 (by decide) ?_
  refine va_newa (atype := .int) (a0 := (1000, .inl (fun _ => 0))) (ty := .int) (N' := 1000) hx hb (hts _ k_53) rfl hK hP hD hS hA (fun _ => rfl) (by decide) (by decide) (by decide) (by rw [hR]; exact Nat.le_of_ble_eq_true rfl) (by rw [hR]; exact Nat.le_of_ble_eq_true rfl) d_Model_init_17 (fun q17 k17 H hK hP hD hS => ?_)
  have hP : va_P G classes [(mo, .inr (3, [.ref q8, .int 0, .null, .int 0, .int 0, .int 0, .int 0, .int 0, .int 0])), (q8, .inl (k8, 1000, .inl (fun _ => 0))), (q17, .inl (k17, 1000, .inl (fun _ => 0)))] H := hP
  have hD : va_D A [(mo, .inr (3, [.ref q8, .int 0, .null, .int 0, .int 0, .int 0, .int 0, .int 0, .int 0])), (q8, .inl (k8, 1000, .inl (fun _ => 0))), (q17, .inl (k17, 1000, .inl (fun _ => 0)))] := hD
  have hK : va_K G classes [(k8, .int), (k17, .int)] s := hK
  refine W.widen (k := 2) (n := 2000) (by omega) (by omega) ?_
  refine va_putF (D := G) (ci := 3) (v := .ref q17) (ty := .array .int) (C := R_Model) (T := F_Model) (N := 9) hx hb hts i_Model t_Model t_Model_ok n_Model hown hK hP hD hS 0 rfl rfl 2 (by decide) (hts _ k_192) (fun _ h9 => h9) rfl hin rfl (by decide +kernel) rfl rfl (Nat.le_of_ble_eq_true rfl) d_Model_init_19 (fun H locs hP hD hS => ?_)
  have hP : va_P G classes [(mo, .inr (3, [.ref q8, .int 0, .ref q17, .int 0, .int 0, .int 0, .int 0, .int 0, .int 0])), (q8, .inl (k8, 1000, .inl (fun _ => 0))), (q17, .inl (k17, 1000, .inl (fun _ => 0)))] H := hP
  have hD : va_D A [(mo, .inr (3, [.ref q8, .int 0, .ref q17, .int 0, .int 0, .int 0, .int 0, .int 0, .int 0])), (q8, .inl (k8, 1000, .inl (fun _ => 0))), (q17, .inl (k17, 1000, .inl (fun _ => 0)))] := hD
  refine lv_aload_n hx hb d_Model_init_22 rfl (lv_at hl 0 rfl) ?_
  refine lv_iconst (v := -1) hx hb d_Model_init_23 (by decide) ?_
  refine va_put (D := G) (ci := 3) (v := .int (-1)) (ty := .int) (C := R_Model) (T := F_Model) (N := 9) hx hb hts i_Model t_Model t_Model_ok n_Model hown hK hP hD hS 0 rfl rfl 5 (by decide) (hts _ k_195) (fun _ h9 => h9) rfl (by decide +kernel) rfl rfl (Nat.le_of_ble_eq_true rfl) d_Model_init_24 (fun H locs hP hD hS => ?_)
  have hP : va_P G classes [(mo, .inr (3, [.ref q8, .int 0, .ref q17, .int 0, .int 0, .int (-1), .int 0, .int 0, .int 0])), (q8, .inl (k8, 1000, .inl (fun _ => 0))), (q17, .inl (k17, 1000, .inl (fun _ => 0)))] H := hP
  have hD : va_D A [(mo, .inr (3, [.ref q8, .int 0, .ref q17, .int 0, .int 0, .int (-1), .int 0, .int 0, .int 0])), (q8, .inl (k8, 1000, .inl (fun _ => 0))), (q17, .inl (k17, 1000, .inl (fun _ => 0)))] := hD
  subst hQ
  exact W.vret hx hb hr (fun t ht hW => ⟨⟨(), rfl, trivial, q8, q17, k8, k17, by rw [ht]; exact hP, va_K.moved hW.alike hK, hD⟩, hS.F ht⟩) hS.2.2 d_Model_init_27 hlk
end
section
def lw_P (b : Addr) (xs : List Int32) (args : Array Value) (s : State) : Prop := args = #[.ref b] ∧ s.IntsAt b xs ∧ xs.length ≤ 2048 ∧ (Jvm.Cond.and given_1 narrow_1).before args s = true
def lw_Q (_ : Array Value) (s : State) (o : Outcome) (t : State) : Prop := o = .returned (some (.int 1)) ∧ Framed s o t [] 600000 7302250
def lw_Z (below : List Frame) (a : Array Value) (s : State) : State → Prop := fun t => ∃ o, t.status = .running ∧ Ended t below o ∧ lw_Q a s o t
/-- the law's own end, with 1 on the stack, nothing written that was there before, its room as the claim has it -/
theorem lw_ret {p : Program} {l : Launch} {e : Env} {s : State} {m : MethodId} {below : List Frame} {meth : Method} {c : Code} {b : Nat} (hx : p.tables.exec = Jvm.exec) (hb : c.code = code) (hr : meth.sig.returnType = ret) (hlocks : meth.locks = false) {pc : Nat} {H : Heap} {ls : Array Slot} (hdg : decode code pc = .ok (.ireturn, 1)) : W p l e room_1 s m #[Value.ref b] below meth c H [] 600000 7302250 (lw_Z below #[Value.ref b] s) (F0 m pc ls [.int 1]) := by
  intro T hT X
  obtain ⟨fs, hret, hrun, hended, hW, hframe⟩ := X.leave (v := some (.int 1)) (hlocks := hlocks) (fun h => by rw [hr] at h; cases h)
  have hmeth' : T.vm.method? m = some meth := X.method'
  refine ⟨T.setFrames fs, ?_, .returned (some (.int 1)), hrun, hended, rfl, ⟨_, rfl⟩, hW, hframe⟩
  jvm_step X.here [X.here.top, hx, hb, hdg, hmeth', hr, ret, narrow_b1]
  (try refine ⟨rfl, ?_⟩); (try refine ⟨rfl, ?_⟩)
  first | (intro acts; rw [hret _ acts rfl rfl rfl]) | rw [hret _ _ rfl rfl rfl]
  exact Steps.refl _
/-- what holds at the law's entry: the machine, the code, the tables' words (any of lw_tbl by 'hts w (by decide +kernel)'), the script of L ints xs at the cell b, what the Statement gives of the start (any of its parts by flat_of_before) -/
def lw_At (p : Program) (s : State) (m : MethodId) (meth : Method) (c : Code) (b L : Nat) (xs : Nat → Int32) : Prop :=
  p.tables.exec = Jvm.exec ∧ c.code = code ∧ meth.sig.returnType = ret ∧ c.maxLocals = 4 ∧ s.vm.findClass R_law = some m.cls ∧ (∀ w ∈ lw_tbl, w.before #[Value.ref b] s = true) ∧ va_X b L xs s s.heap ∧ b < s.heap.size ∧ meth.locks = false ∧ (Jvm.Cond.and given_1 narrow_1).before #[Value.ref b] s = true

theorem cd_app_B {B : Nat → Nat} {fx ft f1 f2 : Nat → Int32} {n k : Nat} {g : Nat → Nat} (h1 : cd_tk B n fx) (h2 : cd_kp B n ft) (hg : ∀ j, j < k → g j < 256) (hn : n + k ≤ 1000) (a1 : cd_app fx f1 n k (fun j => cd_e8 (g j))) (a2 : cd_app ft f2 n k (fun j => nI (g j))) : ∃ B', cd_tk B' (n + k) f1 ∧ cd_kp B' (n + k) f2 := by
  refine ⟨fun j => if j < n then B j else g (j - n), ⟨hn, fun j hj => ?_⟩, ⟨hn, fun j hj => ?_⟩⟩
  · dsimp only
    by_cases q : j < n
    · rw [if_pos q]; exact ⟨(h1.2 j q).1, (a1.1 j q).trans (h1.2 j q).2⟩
    · rw [if_neg q]
      refine ⟨hg _ (by omega), ?_⟩
      have := a1.2 (j - n) (by omega)
      rw [show n + (j - n) = j by omega] at this
      exact this
  · dsimp only
    by_cases q : j < n
    · rw [if_pos q]; exact ⟨(h1.2 j q).1, (a2.1 j q).trans (h2.2 j q).2⟩
    · rw [if_neg q]
      refine ⟨hg _ (by omega), ?_⟩
      have := a2.2 (j - n) (by omega)
      rw [show n + (j - n) = j by omega] at this
      exact this
theorem cd_put_inv {n n1 n2 : Nat} {fx ft f1 f2 : Nat → Int32} {v : Int64} {x r1 r2 : Int32} (hn : n ≤ 1000) (hB : ∃ B, cd_tk B n fx ∧ cd_kp B n ft) (h1 : cd_putP cd_e8 fx n v x r1 (f1, n1)) (h2 : cd_putP nI ft n v x r2 (f2, n2)) : r1 = r2 ∧ n1 = n2 ∧ n1 ≤ 1000 ∧ ∃ B, cd_tk B n1 f1 ∧ cd_kp B n1 f2 := by
  obtain ⟨B, hB1, hB2⟩ := hB
  rcases h1 with ⟨a1, rfl, a3⟩ | ⟨k, rfl, a2, a3, a4, rfl, a6, a7⟩
  · cases a3
    rcases h2 with ⟨b1, rfl, b3⟩ | ⟨k, rfl, b2, b3, b4, rfl, b6, b7⟩
    · cases b3
      exact ⟨rfl, rfl, hn, B, hB1, hB2⟩
    · exact absurd (by rw [nI_toInt (by omega)]; omega) a1
  · rcases h2 with ⟨b1, rfl, b3⟩ | ⟨k', b1, b2, b3, b4, rfl, b6, b7⟩
    · exact absurd (by rw [nI_toInt (by omega)]; omega) b1
    · have := (nI_eq (by omega) (by omega)).mp b1
      subst this
      dsimp only at a6 b6 a7 b7
      subst a6; subst b6
      exact ⟨rfl, rfl, a4, cd_app_B hB1 hB2 (fun j _ => cd_pb_lt _ _) a4 a7 b7⟩
theorem cd_chr_inv {n n1 n2 : Nat} {fx ft f1 f2 : Nat → Int32} {x r1 r2 : Int32} (hn : n ≤ 1000) (hB : ∃ B, cd_tk B n fx ∧ cd_kp B n ft) (h1 : cd_chrP cd_e8 fx n x r1 (f1, n1)) (h2 : cd_chrP nI ft n x r2 (f2, n2)) : r1 = r2 ∧ n1 = n2 ∧ n1 ≤ 1000 ∧ ∃ B, cd_tk B n1 f1 ∧ cd_kp B n1 f2 := by
  obtain ⟨B, hB1, hB2⟩ := hB
  rcases h1 with ⟨a1, rfl, a3⟩ | ⟨q, w, rfl, a2, a3, a4, a5, rfl, a6, a7⟩
  · cases a3
    rcases h2 with ⟨b1, rfl, b3⟩ | ⟨q, w, rfl, b2, b3, b4, b5, rfl, b6, b7⟩
    · cases b3
      exact ⟨rfl, rfl, hn, B, hB1, hB2⟩
    · exact absurd (by rw [nI_toInt (by omega), b4]; exact ⟨b3, b5⟩) a1
  · rcases h2 with ⟨b1, rfl, b3⟩ | ⟨q', w', b1, b2, b3, b4, b5, rfl, b6, b7⟩
    · exact absurd (by rw [nI_toInt (by omega), a4]; exact ⟨a3, a5⟩) b1
    · have := (nI_eq (by omega) (by omega)).mp b1
      subst this
      rw [a4] at b4
      subst b4
      dsimp only at a6 b6 a7 b7
      subst a6; subst b6
      exact ⟨rfl, rfl, a5, cd_app_B hB1 hB2 (fun j _ => cd_by_lt a4 a2) a5 a7 b7⟩
/-- what the law's loop keeps: both sides hold the same bytes; what was read, if it was, is in order on both sides -/
def cd_Inv (n : Nat) (rd : Bool) (fx fc fp : Nat → Int32) (cz : Int32) (ft fk : Nat → Int32) (ln : Int32) : Prop :=
  (∃ B, cd_tk B n fx ∧ cd_kp B n ft) ∧ ∃ B N M, rd = true → (ln = nI N ∧ cd_rdy B N M fk) ∧ cd_drd B N M fc fp cz
theorem cd_read_inv {B : Nat → Nat} {n : Nat} {fx fc fp ft fk : Nat → Int32} {cz : Int32} {rd : Bool} {r pl : Int32} (h : cd_rdP B n r rd pl) (hd : rd = true → ∃ M, cd_isM B n M ∧ cd_drd B n M fc fp cz) (hm : rd = true → cd_kp B n fk) : cd_Inv 0 rd fx fc fp cz ft fk (nI n) := by
  refine ⟨⟨B, ⟨by omega, fun j hj => absurd hj (Nat.not_lt_zero j)⟩, ⟨by omega, fun j hj => absurd hj (Nat.not_lt_zero j)⟩⟩, ?_⟩
  cases rd with
  | false => exact ⟨B, 0, 0, fun h9 => by cases h9⟩
  | true =>
    obtain ⟨M, hM, hd⟩ := hd rfl
    exact ⟨B, n, M, fun _ => ⟨⟨rfl, hm rfl, (cd_rdP_M h).1, hM⟩, hd⟩⟩
section LAWR
variable {p : Program} {l : Launch} {e : Env} {R : Room} {s : State} {m : MethodId} {args : Array Value} {below : List Frame} {meth : Method} {c : Code} {H : Heap} {locs : List Loc} {cells slots : Nat} {Q : State → Prop}
variable {cc : ByteArray} {pc : Nat} {ls : Array Slot} {rest : List Value} {A : Nat → Prop} {H0 : Heap}
theorem cd_sld (hexec : p.tables.exec = Jvm.exec) (hb : c.code = cc) {b L : Nat} {xs : Nat → Int32} (hX : va_X b L xs s H0) (hbl : b < H0.size) (hbA : ¬ A b) (hS : va_S A H0 H locs) {n0 : Nat} (h : n0 < L) (hL : L < 2 ^ 31) (hdg : decode cc pc = .ok (.iaload, 1))
    (kk : W p l e R s m args below meth c H locs cells slots Q (F0 m (pc + 1) ls (.int (xs n0) :: rest))) : W p l e R s m args below meth c H locs cells slots Q (F0 m pc ls (.int (nI n0) :: .ref b :: rest)) := by
  refine va_sld hexec hb hX hbl hbA hS (vp_in_nI h hL) hdg ?_
  rw [nI_clamp (Nat.lt_trans h hL)]
  exact kk
theorem cd_lcmp (hexec : p.tables.exec = Jvm.exec) (hb : c.code = cc) {x : Int64} (hdg : decode cc pc = .ok (.lcmp, 1))
    (kk : W p l e R s m args below meth c H locs cells slots Q (F0 m (pc + 1) ls (.int 0 :: rest))) : W p l e R s m args below meth c H locs cells slots Q (F0 m pc ls (.long x :: .long x :: rest)) := by
  refine W.lcmp hexec hb hdg ?_
  rw [show lg_cmp x x = 0 by simp [lg_cmp]]
  exact kk
end LAWR
end
section
set_option maxHeartbeats 4000000 in
set_option maxRecDepth 100000 in
theorem law_loop {p : Program} {e : Env} {s : State} {m : MethodId} {below : List Frame} {meth : Method} {c : Code} (l : Launch) {G : va_G} {ks : Nat → ClassId} {A : Nat → Prop} {b L : Nat} {xs : Nat → Int32} (hL : L ≤ 2048) (C0 : lw_At p s m meth c b L xs) (E : cd_Env G ks A s) (hA : ∀ q : Nat, s.heap.size ≤ q → A q) (hAs : ∀ q : Nat, A q → s.heap.size ≤ q) (hbA : ¬ A b) (xo tx ch cs ps co mo mt mk : Nat) :
    ∀ (d i n : Nat) (rd : Bool) (pl : Int32) (fx fc fp : Nat → Int32) (cz cp cq : Int32) (ft fk : Nat → Int32) (ln st me be : Int32) (H : Heap) (locs : List Loc) (ls : Array Slot), L + 1 ≤ i + d → i ≤ L → n ≤ 1000 → cd_Inv n rd fx fc fp cz ft fk ln → va_P G classes [(xo, .inr (2, [.ref tx, .int (nI n), .ref ch, .int (cd_b rd), .int pl])), (tx, .inl (ks 0, 1000, .inl fx)), (ch, .inr (1, [.ref cs, .ref ps, .ref co, .int cz, .int cp])), (cs, .inl (ks 1, 1000, .inl fc)), (ps, .inl (ks 2, 1001, .inl fp)), (co, .inr (0, [.int cq])), (mo, .inr (3, [.ref mt, .int (nI n), .ref mk, .int ln, .int (cd_b rd), .int pl, .int st, .int me, .int be])), (mt, .inl (ks 3, 1000, .inl ft)), (mk, .inl (ks 4, 1000, .inl fk))] H → va_D A [(xo, .inr (2, [.ref tx, .int (nI n), .ref ch, .int (cd_b rd), .int pl])), (tx, .inl (ks 0, 1000, .inl fx)), (ch, .inr (1, [.ref cs, .ref ps, .ref co, .int cz, .int cp])), (cs, .inl (ks 1, 1000, .inl fc)), (ps, .inl (ks 2, 1001, .inl fp)), (co, .inr (0, [.int cq])), (mo, .inr (3, [.ref mt, .int (nI n), .ref mk, .int ln, .int (cd_b rd), .int pl, .int st, .int me, .int be])), (mt, .inl (ks 3, 1000, .inl ft)), (mk, .inl (ks 4, 1000, .inl fk))] → va_S A s.heap H locs → lv_has ls 4 [(0, .ref b), (1, .ref xo), (2, .ref mo), (3, .int (nI i))] → W p l e room_1 s m #[Value.ref b] below meth c H locs 9 5021 (lw_Z below #[Value.ref b] s) (F0 m 18 ls []) := by
  obtain ⟨hx, hb, hr, hml, hown, htl, hX, hbl, hlocks, hgv⟩ := C0
  have F : cd_Fx p s m #[Value.ref b] c code 4 R_law 8 room_1 := ⟨hx, hb, hml, hown, fun w hw => htl w (cd_big_tbl hw), by decide, by decide⟩
  have hts := F.2.2.2.2.1
  have hK := E.1
  intro d
  induction d with
  | zero => intro i n rd pl fx fc fp cz cp cq ft fk ln st me be H locs ls h1 h2; omega
  | succ d ih =>
    intro i n rd pl fx fc fp cz cp cq ft fk ln st me be H locs ls hd hiL hn hI hP hD hS hl
    refine lv_iload_n hx hb d_law_18 rfl (lv_at hl 3 rfl) ?_
    refine lv_aload_n hx hb d_law_19 rfl (lv_at hl 0 rfl) ?_
    refine va_slen hx hb hX hbl hbA hS d_law_20 ?_
    refine cd_top (y := nI L) rfl ?_
    refine lv_iconst (v := 4) hx hb d_law_21 (by decide) ?_
    refine lv_isub hx hb d_law_22 ?_
    refine cd_icmp_gt (tgt := 375) hx hb d_law_23 (by decide) (nI_toInt (n := i) (by omega)) (cd_subI (M := L) (I := 4) (by omega) (by omega)) (fun c23 => ?_) (fun c23 => ?_)
    · refine lv_iconst (v := 1) hx hb d_law_375 (by decide) ?_
      refine va_forget (fun q hq => hAs _ (hS.2.2 q hq)) ?_
      refine W.widen (k := 600000) (n := 7302250) (Nat.le_of_ble_eq_true rfl) (Nat.le_of_ble_eq_true rfl) ?_
      exact lw_ret hx hb hr hlocks d_law_376
    · refine lv_aload_n hx hb d_law_26 rfl (lv_at hl 0 rfl) ?_
      refine lv_iload_n hx hb d_law_27 rfl (lv_at hl 3 rfl) ?_
      refine cd_sld hx hb hX hbl hbA hS (n0 := i) (by omega) (by omega) d_law_28 ?_
      refine lv_bipush (v := 15) hx hb d_law_29 (by decide) ?_
      refine lv_iand hx hb d_law_31 ?_
      obtain ⟨j, hj, ej⟩ := pk_andE (xs i) (m := 15) 4 (by decide)
      refine cd_top (y := nI j) (ej) ?_
      rcases (show j = 0 ∨ j = 1 ∨ j = 2 ∨ j = 3 ∨ j = 4 ∨ j = 5 ∨ j = 6 ∨ j = 7 ∨ j = 8 ∨ j = 9 ∨ 10 ≤ j by omega) with rfl | rfl | rfl | rfl | rfl | rfl | rfl | rfl | rfl | rfl | hj10
      · refine lv_tableIn (off := 56) (tgt := 88) hx hb d_law_32 (by decide) (by decide) (by decide) (by decide) ?_
        refine lv_aload_n hx hb d_law_88 rfl (lv_at hl 1 rfl) ?_
        refine lv_aload_n hx hb d_law_89 rfl (lv_at hl 0 rfl) ?_
        refine lv_iload_n hx hb d_law_90 rfl (lv_at hl 3 rfl) ?_
        refine lv_iconst (v := 1) hx hb d_law_91 (by decide) ?_
        refine lv_iadd hx hb d_law_92 ?_
        refine cd_top (y := nI (i + 1)) (nI_add i 1) ?_
        refine cd_sld hx hb hX hbl hbA hS (n0 := i + 1) (by omega) (by omega) d_law_93 ?_
        refine lv_i2l (v := (xs (i + 1)).toInt64) hx hb d_law_94 rfl ?_
        refine lv_bipush (v := 32) hx hb d_law_95 (by decide) ?_
        refine lv_lshl (v := ((xs (i + 1)).toInt64) <<< ((32 : Int32).toInt64 &&& 63)) hx hb d_law_97 rfl ?_
        refine lv_aload_n hx hb d_law_98 rfl (lv_at hl 0 rfl) ?_
        refine lv_iload_n hx hb d_law_99 rfl (lv_at hl 3 rfl) ?_
        refine lv_iconst (v := 2) hx hb d_law_100 (by decide) ?_
        refine lv_iadd hx hb d_law_101 ?_
        refine cd_top (y := nI (i + 2)) (nI_add i 2) ?_
        refine cd_sld hx hb hX hbl hbA hS (n0 := i + 2) (by omega) (by omega) d_law_102 ?_
        refine lv_i2l (v := (xs (i + 2)).toInt64) hx hb d_law_103 rfl ?_
        refine lv_ldc2 (v := 4294967295) hx hb hown (hts _ k_309) d_law_104 ?_
        refine lv_land hx hb d_law_107 ?_
        refine lv_lor hx hb d_law_108 ?_
        refine lv_topl (fun v ev => ?_)
        refine lv_aload_n hx hb d_law_109 rfl (lv_at hl 0 rfl) ?_
        refine lv_iload_n hx hb d_law_110 rfl (lv_at hl 3 rfl) ?_
        refine lv_iconst (v := 3) hx hb d_law_111 (by decide) ?_
        refine lv_iadd hx hb d_law_112 ?_
        refine cd_top (y := nI (i + 3)) (nI_add i 3) ?_
        refine cd_sld hx hb hX hbl hbA hS (n0 := i + 3) (by omega) (by omega) d_law_113 ?_
        refine cd_callW (rest := []) (wc := [(xo, .inr (2, [.ref tx, .int (nI n), .ref ch, .int (cd_b rd), .int pl])), (tx, .inl (ks 0, 1000, .inl fx))]) (wr := [(ch, .inr (1, [.ref cs, .ref ps, .ref co, .int cz, .int cp])), (cs, .inl (ks 1, 1000, .inl fc)), (ps, .inl (ks 2, 1001, .inl fp)), (co, .inr (0, [.int cq])), (mo, .inr (3, [.ref mt, .int (nI n), .ref mk, .int ln, .int (cd_b rd), .int pl, .int st, .int me, .int be])), (mt, .inl (ks 3, 1000, .inl ft)), (mk, .inl (ks 4, 1000, .inl fk))]) F E hP hD hS hA [0, 1] [2, 3, 4, 5, 6, 7, 8] rfl rfl rfl (by decide) (by decide) (by decide) (c_Desk_put l G ks xo tx ch H.size fx rd pl n hn v (xs (i + 3))) (by decide) (by decide) 0 2 rfl rfl k_70 k_71 k_72 k_1 k_73 (show cd_desc y_Desk_put 2 by decide +kernel) ⟨Nat.le_of_ble_eq_true rfl, Nat.le_of_ble_eq_true rfl⟩ rfl hl.1 (Nat.le_of_ble_eq_true rfl) d_law_114 (fun r1 u1 H locs hw1 hP hD hS => ?_)
        obtain ⟨f1, n1⟩ := u1
        have hP : va_P G classes [(ch, .inr (1, [.ref cs, .ref ps, .ref co, .int cz, .int cp])), (cs, .inl (ks 1, 1000, .inl fc)), (ps, .inl (ks 2, 1001, .inl fp)), (co, .inr (0, [.int cq])), (mo, .inr (3, [.ref mt, .int (nI n), .ref mk, .int ln, .int (cd_b rd), .int pl, .int st, .int me, .int be])), (mt, .inl (ks 3, 1000, .inl ft)), (mk, .inl (ks 4, 1000, .inl fk)), (xo, .inr (2, [.ref tx, .int (nI n1), .ref ch, .int (cd_b rd), .int pl])), (tx, .inl (ks 0, 1000, .inl f1))] H := hP
        have hD : va_D A [(ch, .inr (1, [.ref cs, .ref ps, .ref co, .int cz, .int cp])), (cs, .inl (ks 1, 1000, .inl fc)), (ps, .inl (ks 2, 1001, .inl fp)), (co, .inr (0, [.int cq])), (mo, .inr (3, [.ref mt, .int (nI n), .ref mk, .int ln, .int (cd_b rd), .int pl, .int st, .int me, .int be])), (mt, .inl (ks 3, 1000, .inl ft)), (mk, .inl (ks 4, 1000, .inl fk)), (xo, .inr (2, [.ref tx, .int (nI n1), .ref ch, .int (cd_b rd), .int pl])), (tx, .inl (ks 0, 1000, .inl f1))] := hD
        refine lv_aload_n hx hb d_law_117 rfl (lv_at hl 2 rfl) ?_
        refine lv_aload_n hx hb d_law_118 rfl (lv_at hl 0 rfl) ?_
        refine lv_iload_n hx hb d_law_119 rfl (lv_at hl 3 rfl) ?_
        refine lv_iconst (v := 1) hx hb d_law_120 (by decide) ?_
        refine lv_iadd hx hb d_law_121 ?_
        refine cd_top (y := nI (i + 1)) (nI_add i 1) ?_
        refine cd_sld hx hb hX hbl hbA hS (n0 := i + 1) (by omega) (by omega) d_law_122 ?_
        refine lv_i2l (v := (xs (i + 1)).toInt64) hx hb d_law_123 rfl ?_
        refine lv_bipush (v := 32) hx hb d_law_124 (by decide) ?_
        refine lv_lshl (v := ((xs (i + 1)).toInt64) <<< ((32 : Int32).toInt64 &&& 63)) hx hb d_law_126 rfl ?_
        refine lv_aload_n hx hb d_law_127 rfl (lv_at hl 0 rfl) ?_
        refine lv_iload_n hx hb d_law_128 rfl (lv_at hl 3 rfl) ?_
        refine lv_iconst (v := 2) hx hb d_law_129 (by decide) ?_
        refine lv_iadd hx hb d_law_130 ?_
        refine cd_top (y := nI (i + 2)) (nI_add i 2) ?_
        refine cd_sld hx hb hX hbl hbA hS (n0 := i + 2) (by omega) (by omega) d_law_131 ?_
        refine lv_i2l (v := (xs (i + 2)).toInt64) hx hb d_law_132 rfl ?_
        refine lv_ldc2 (v := 4294967295) hx hb hown (hts _ k_309) d_law_133 ?_
        refine lv_land hx hb d_law_136 ?_
        refine lv_lor hx hb d_law_137 ?_
        refine cd_topl (y := v) (ev.symm) ?_
        refine lv_aload_n hx hb d_law_138 rfl (lv_at hl 0 rfl) ?_
        refine lv_iload_n hx hb d_law_139 rfl (lv_at hl 3 rfl) ?_
        refine lv_iconst (v := 3) hx hb d_law_140 (by decide) ?_
        refine lv_iadd hx hb d_law_141 ?_
        refine cd_top (y := nI (i + 3)) (nI_add i 3) ?_
        refine cd_sld hx hb hX hbl hbA hS (n0 := i + 3) (by omega) (by omega) d_law_142 ?_
        refine cd_callW (rest := [.int r1]) (wc := [(mo, .inr (3, [.ref mt, .int (nI n), .ref mk, .int ln, .int (cd_b rd), .int pl, .int st, .int me, .int be])), (mt, .inl (ks 3, 1000, .inl ft)), (mk, .inl (ks 4, 1000, .inl fk))]) (wr := [(ch, .inr (1, [.ref cs, .ref ps, .ref co, .int cz, .int cp])), (cs, .inl (ks 1, 1000, .inl fc)), (ps, .inl (ks 2, 1001, .inl fp)), (co, .inr (0, [.int cq])), (xo, .inr (2, [.ref tx, .int (nI n1), .ref ch, .int (cd_b rd), .int pl])), (tx, .inl (ks 0, 1000, .inl f1))]) F E hP hD hS hA [4, 5, 6] [0, 1, 2, 3, 7, 8] rfl rfl rfl (by decide) (by decide) (by decide) (c_Model_put l G ks mo mt mk H.size ft fk ln rd pl st me be n hn v (xs (i + 3))) (by decide) (by decide) 0 3 rfl rfl k_218 k_219 k_220 k_4 k_221 (show cd_desc y_Model_put 2 by decide +kernel) ⟨Nat.le_of_ble_eq_true rfl, Nat.le_of_ble_eq_true rfl⟩ rfl hl.1 (Nat.le_of_ble_eq_true rfl) d_law_143 (fun r2 u2 H locs hw2 hP hD hS => ?_)
        obtain ⟨f2, n2⟩ := u2
        obtain ⟨rfl, rfl, hn1, hB1⟩ := cd_put_inv hn hI.1 hw1 hw2
        have hP : va_P G classes [(ch, .inr (1, [.ref cs, .ref ps, .ref co, .int cz, .int cp])), (cs, .inl (ks 1, 1000, .inl fc)), (ps, .inl (ks 2, 1001, .inl fp)), (co, .inr (0, [.int cq])), (xo, .inr (2, [.ref tx, .int (nI n1), .ref ch, .int (cd_b rd), .int pl])), (tx, .inl (ks 0, 1000, .inl f1)), (mo, .inr (3, [.ref mt, .int (nI n1), .ref mk, .int ln, .int (cd_b rd), .int pl, .int st, .int me, .int be])), (mt, .inl (ks 3, 1000, .inl f2)), (mk, .inl (ks 4, 1000, .inl fk))] H := hP
        have hD : va_D A [(ch, .inr (1, [.ref cs, .ref ps, .ref co, .int cz, .int cp])), (cs, .inl (ks 1, 1000, .inl fc)), (ps, .inl (ks 2, 1001, .inl fp)), (co, .inr (0, [.int cq])), (xo, .inr (2, [.ref tx, .int (nI n1), .ref ch, .int (cd_b rd), .int pl])), (tx, .inl (ks 0, 1000, .inl f1)), (mo, .inr (3, [.ref mt, .int (nI n1), .ref mk, .int ln, .int (cd_b rd), .int pl, .int st, .int me, .int be])), (mt, .inl (ks 3, 1000, .inl f2)), (mk, .inl (ks 4, 1000, .inl fk))] := hD
        refine cd_icmp_eq (tgt := 369) hx hb d_law_146 (by decide) rfl rfl (fun c146 => ?_) (fun c146 => ?_)
        · refine lv_iinc (v := nI (i + 4)) (lv' := [(3, .int (nI (i + 4))), (0, .ref b), (1, .ref xo), (2, .ref mo)]) hx hb d_law_369 hl (k := 3) rfl (nI_add i 4) (by decide) rfl (fun ls hl => ?_)
          refine lv_goto (tgt := 18) hx hb d_law_372 (by decide) ?_
          have hP : va_P G classes [(xo, .inr (2, [.ref tx, .int (nI n1), .ref ch, .int (cd_b rd), .int pl])), (tx, .inl (ks 0, 1000, .inl f1)), (ch, .inr (1, [.ref cs, .ref ps, .ref co, .int cz, .int cp])), (cs, .inl (ks 1, 1000, .inl fc)), (ps, .inl (ks 2, 1001, .inl fp)), (co, .inr (0, [.int cq])), (mo, .inr (3, [.ref mt, .int (nI n1), .ref mk, .int ln, .int (cd_b rd), .int pl, .int st, .int me, .int be])), (mt, .inl (ks 3, 1000, .inl f2)), (mk, .inl (ks 4, 1000, .inl fk))] H := hP.sub [4, 5, 0, 1, 2, 3, 6, 7, 8] rfl
          have hD : va_D A [(xo, .inr (2, [.ref tx, .int (nI n1), .ref ch, .int (cd_b rd), .int pl])), (tx, .inl (ks 0, 1000, .inl f1)), (ch, .inr (1, [.ref cs, .ref ps, .ref co, .int cz, .int cp])), (cs, .inl (ks 1, 1000, .inl fc)), (ps, .inl (ks 2, 1001, .inl fp)), (co, .inr (0, [.int cq])), (mo, .inr (3, [.ref mt, .int (nI n1), .ref mk, .int ln, .int (cd_b rd), .int pl, .int st, .int me, .int be])), (mt, .inl (ks 3, 1000, .inl f2)), (mk, .inl (ks 4, 1000, .inl fk))] := hD.sub [4, 5, 0, 1, 2, 3, 6, 7, 8] (by decide) rfl
          exact ih (i + 4) (n1) rd pl f1 fc fp cz cp cq f2 fk ln st me be H locs ls (by omega) (by omega) hn1 ⟨hB1, hI.2⟩ hP hD hS (lv_sub hl [1, 2, 3, 0] rfl)
        · exact absurd rfl c146
      · refine lv_tableIn (off := 119) (tgt := 151) hx hb d_law_32 (by decide) (by decide) (by decide) (by decide) ?_
        refine lv_aload_n hx hb d_law_151 rfl (lv_at hl 1 rfl) ?_
        refine lv_aload_n hx hb d_law_152 rfl (lv_at hl 0 rfl) ?_
        refine lv_iload_n hx hb d_law_153 rfl (lv_at hl 3 rfl) ?_
        refine lv_iconst (v := 1) hx hb d_law_154 (by decide) ?_
        refine lv_iadd hx hb d_law_155 ?_
        refine cd_top (y := nI (i + 1)) (nI_add i 1) ?_
        refine cd_sld hx hb hX hbl hbA hS (n0 := i + 1) (by omega) (by omega) d_law_156 ?_
        refine cd_callW (rest := []) (wc := [(xo, .inr (2, [.ref tx, .int (nI n), .ref ch, .int (cd_b rd), .int pl])), (tx, .inl (ks 0, 1000, .inl fx))]) (wr := [(ch, .inr (1, [.ref cs, .ref ps, .ref co, .int cz, .int cp])), (cs, .inl (ks 1, 1000, .inl fc)), (ps, .inl (ks 2, 1001, .inl fp)), (co, .inr (0, [.int cq])), (mo, .inr (3, [.ref mt, .int (nI n), .ref mk, .int ln, .int (cd_b rd), .int pl, .int st, .int me, .int be])), (mt, .inl (ks 3, 1000, .inl ft)), (mk, .inl (ks 4, 1000, .inl fk))]) F E hP hD hS hA [0, 1] [2, 3, 4, 5, 6, 7, 8] rfl rfl rfl (by decide) (by decide) (by decide) (c_Desk_character l G ks xo tx ch H.size fx rd pl n hn (xs (i + 1))) (by decide) (by decide) 0 2 rfl rfl k_74 k_75 k_76 k_1 k_77 (show cd_desc y_Desk_character 1 by decide +kernel) ⟨Nat.le_of_ble_eq_true rfl, Nat.le_of_ble_eq_true rfl⟩ rfl hl.1 (Nat.le_of_ble_eq_true rfl) d_law_157 (fun r1 u1 H locs hw1 hP hD hS => ?_)
        obtain ⟨f1, n1⟩ := u1
        have hP : va_P G classes [(ch, .inr (1, [.ref cs, .ref ps, .ref co, .int cz, .int cp])), (cs, .inl (ks 1, 1000, .inl fc)), (ps, .inl (ks 2, 1001, .inl fp)), (co, .inr (0, [.int cq])), (mo, .inr (3, [.ref mt, .int (nI n), .ref mk, .int ln, .int (cd_b rd), .int pl, .int st, .int me, .int be])), (mt, .inl (ks 3, 1000, .inl ft)), (mk, .inl (ks 4, 1000, .inl fk)), (xo, .inr (2, [.ref tx, .int (nI n1), .ref ch, .int (cd_b rd), .int pl])), (tx, .inl (ks 0, 1000, .inl f1))] H := hP
        have hD : va_D A [(ch, .inr (1, [.ref cs, .ref ps, .ref co, .int cz, .int cp])), (cs, .inl (ks 1, 1000, .inl fc)), (ps, .inl (ks 2, 1001, .inl fp)), (co, .inr (0, [.int cq])), (mo, .inr (3, [.ref mt, .int (nI n), .ref mk, .int ln, .int (cd_b rd), .int pl, .int st, .int me, .int be])), (mt, .inl (ks 3, 1000, .inl ft)), (mk, .inl (ks 4, 1000, .inl fk)), (xo, .inr (2, [.ref tx, .int (nI n1), .ref ch, .int (cd_b rd), .int pl])), (tx, .inl (ks 0, 1000, .inl f1))] := hD
        refine lv_aload_n hx hb d_law_160 rfl (lv_at hl 2 rfl) ?_
        refine lv_aload_n hx hb d_law_161 rfl (lv_at hl 0 rfl) ?_
        refine lv_iload_n hx hb d_law_162 rfl (lv_at hl 3 rfl) ?_
        refine lv_iconst (v := 1) hx hb d_law_163 (by decide) ?_
        refine lv_iadd hx hb d_law_164 ?_
        refine cd_top (y := nI (i + 1)) (nI_add i 1) ?_
        refine cd_sld hx hb hX hbl hbA hS (n0 := i + 1) (by omega) (by omega) d_law_165 ?_
        refine cd_callW (rest := [.int r1]) (wc := [(mo, .inr (3, [.ref mt, .int (nI n), .ref mk, .int ln, .int (cd_b rd), .int pl, .int st, .int me, .int be])), (mt, .inl (ks 3, 1000, .inl ft)), (mk, .inl (ks 4, 1000, .inl fk))]) (wr := [(ch, .inr (1, [.ref cs, .ref ps, .ref co, .int cz, .int cp])), (cs, .inl (ks 1, 1000, .inl fc)), (ps, .inl (ks 2, 1001, .inl fp)), (co, .inr (0, [.int cq])), (xo, .inr (2, [.ref tx, .int (nI n1), .ref ch, .int (cd_b rd), .int pl])), (tx, .inl (ks 0, 1000, .inl f1))]) F E hP hD hS hA [4, 5, 6] [0, 1, 2, 3, 7, 8] rfl rfl rfl (by decide) (by decide) (by decide) (c_Model_character l G ks mo mt mk H.size ft fk ln rd pl st me be n hn (xs (i + 1))) (by decide) (by decide) 0 3 rfl rfl k_223 k_224 k_225 k_4 k_226 (show cd_desc y_Model_character 1 by decide +kernel) ⟨Nat.le_of_ble_eq_true rfl, Nat.le_of_ble_eq_true rfl⟩ rfl hl.1 (Nat.le_of_ble_eq_true rfl) d_law_166 (fun r2 u2 H locs hw2 hP hD hS => ?_)
        obtain ⟨f2, n2⟩ := u2
        obtain ⟨rfl, rfl, hn1, hB1⟩ := cd_chr_inv hn hI.1 hw1 hw2
        have hP : va_P G classes [(ch, .inr (1, [.ref cs, .ref ps, .ref co, .int cz, .int cp])), (cs, .inl (ks 1, 1000, .inl fc)), (ps, .inl (ks 2, 1001, .inl fp)), (co, .inr (0, [.int cq])), (xo, .inr (2, [.ref tx, .int (nI n1), .ref ch, .int (cd_b rd), .int pl])), (tx, .inl (ks 0, 1000, .inl f1)), (mo, .inr (3, [.ref mt, .int (nI n1), .ref mk, .int ln, .int (cd_b rd), .int pl, .int st, .int me, .int be])), (mt, .inl (ks 3, 1000, .inl f2)), (mk, .inl (ks 4, 1000, .inl fk))] H := hP
        have hD : va_D A [(ch, .inr (1, [.ref cs, .ref ps, .ref co, .int cz, .int cp])), (cs, .inl (ks 1, 1000, .inl fc)), (ps, .inl (ks 2, 1001, .inl fp)), (co, .inr (0, [.int cq])), (xo, .inr (2, [.ref tx, .int (nI n1), .ref ch, .int (cd_b rd), .int pl])), (tx, .inl (ks 0, 1000, .inl f1)), (mo, .inr (3, [.ref mt, .int (nI n1), .ref mk, .int ln, .int (cd_b rd), .int pl, .int st, .int me, .int be])), (mt, .inl (ks 3, 1000, .inl f2)), (mk, .inl (ks 4, 1000, .inl fk))] := hD
        refine cd_icmp_eq (tgt := 369) hx hb d_law_169 (by decide) rfl rfl (fun c169 => ?_) (fun c169 => ?_)
        · refine lv_iinc (v := nI (i + 4)) (lv' := [(3, .int (nI (i + 4))), (0, .ref b), (1, .ref xo), (2, .ref mo)]) hx hb d_law_369 hl (k := 3) rfl (nI_add i 4) (by decide) rfl (fun ls hl => ?_)
          refine lv_goto (tgt := 18) hx hb d_law_372 (by decide) ?_
          have hP : va_P G classes [(xo, .inr (2, [.ref tx, .int (nI n1), .ref ch, .int (cd_b rd), .int pl])), (tx, .inl (ks 0, 1000, .inl f1)), (ch, .inr (1, [.ref cs, .ref ps, .ref co, .int cz, .int cp])), (cs, .inl (ks 1, 1000, .inl fc)), (ps, .inl (ks 2, 1001, .inl fp)), (co, .inr (0, [.int cq])), (mo, .inr (3, [.ref mt, .int (nI n1), .ref mk, .int ln, .int (cd_b rd), .int pl, .int st, .int me, .int be])), (mt, .inl (ks 3, 1000, .inl f2)), (mk, .inl (ks 4, 1000, .inl fk))] H := hP.sub [4, 5, 0, 1, 2, 3, 6, 7, 8] rfl
          have hD : va_D A [(xo, .inr (2, [.ref tx, .int (nI n1), .ref ch, .int (cd_b rd), .int pl])), (tx, .inl (ks 0, 1000, .inl f1)), (ch, .inr (1, [.ref cs, .ref ps, .ref co, .int cz, .int cp])), (cs, .inl (ks 1, 1000, .inl fc)), (ps, .inl (ks 2, 1001, .inl fp)), (co, .inr (0, [.int cq])), (mo, .inr (3, [.ref mt, .int (nI n1), .ref mk, .int ln, .int (cd_b rd), .int pl, .int st, .int me, .int be])), (mt, .inl (ks 3, 1000, .inl f2)), (mk, .inl (ks 4, 1000, .inl fk))] := hD.sub [4, 5, 0, 1, 2, 3, 6, 7, 8] (by decide) rfl
          exact ih (i + 4) (n1) rd pl f1 fc fp cz cp cq f2 fk ln st me be H locs ls (by omega) (by omega) hn1 ⟨hB1, hI.2⟩ hP hD hS (lv_sub hl [1, 2, 3, 0] rfl)
        · exact absurd rfl c169
      · refine lv_tableIn (off := 142) (tgt := 174) hx hb d_law_32 (by decide) (by decide) (by decide) (by decide) ?_
        obtain ⟨B, hB1, hB2⟩ := id hI.1
        refine lv_aload_n hx hb d_law_174 rfl (lv_at hl 1 rfl) ?_
        refine cd_callW (rest := []) (wc := [(xo, .inr (2, [.ref tx, .int (nI n), .ref ch, .int (cd_b rd), .int pl])), (tx, .inl (ks 0, 1000, .inl fx)), (ch, .inr (1, [.ref cs, .ref ps, .ref co, .int cz, .int cp])), (cs, .inl (ks 1, 1000, .inl fc)), (ps, .inl (ks 2, 1001, .inl fp)), (co, .inr (0, [.int cq]))]) (wr := [(mo, .inr (3, [.ref mt, .int (nI n), .ref mk, .int ln, .int (cd_b rd), .int pl, .int st, .int me, .int be])), (mt, .inl (ks 3, 1000, .inl ft)), (mk, .inl (ks 4, 1000, .inl fk))]) F E hP hD hS hA [0, 1, 2, 3, 4, 5] [6, 7, 8] rfl rfl rfl (by decide) (by decide) (by decide) (c_Desk_read l G ks xo tx ch cs ps co H.size fx n rd pl fc fp cz cp cq B hB1) (by decide) (by decide) 0 2 rfl rfl k_91 k_92 k_93 k_1 k_94 (show cd_desc y_Desk_read 0 by decide +kernel) ⟨Nat.le_of_ble_eq_true rfl, Nat.le_of_ble_eq_true rfl⟩ rfl hl.1 (Nat.le_of_ble_eq_true rfl) d_law_175 (fun r1 u1 H locs hw1 hP hD hS => ?_)
        obtain ⟨fc1, fp1, cz1, cp1, cq1, rd1, pl1⟩ := u1
        dsimp only at hw1
        have hP : va_P G classes [(mo, .inr (3, [.ref mt, .int (nI n), .ref mk, .int ln, .int (cd_b rd), .int pl, .int st, .int me, .int be])), (mt, .inl (ks 3, 1000, .inl ft)), (mk, .inl (ks 4, 1000, .inl fk)), (xo, .inr (2, [.ref tx, .int 0, .ref ch, .int (cd_b rd1), .int pl1])), (tx, .inl (ks 0, 1000, .inl fx)), (ch, .inr (1, [.ref cs, .ref ps, .ref co, .int cz1, .int cp1])), (cs, .inl (ks 1, 1000, .inl fc1)), (ps, .inl (ks 2, 1001, .inl fp1)), (co, .inr (0, [.int cq1]))] H := hP
        have hD : va_D A [(mo, .inr (3, [.ref mt, .int (nI n), .ref mk, .int ln, .int (cd_b rd), .int pl, .int st, .int me, .int be])), (mt, .inl (ks 3, 1000, .inl ft)), (mk, .inl (ks 4, 1000, .inl fk)), (xo, .inr (2, [.ref tx, .int 0, .ref ch, .int (cd_b rd1), .int pl1])), (tx, .inl (ks 0, 1000, .inl fx)), (ch, .inr (1, [.ref cs, .ref ps, .ref co, .int cz1, .int cp1])), (cs, .inl (ks 1, 1000, .inl fc1)), (ps, .inl (ks 2, 1001, .inl fp1)), (co, .inr (0, [.int cq1]))] := hD
        refine lv_aload_n hx hb d_law_178 rfl (lv_at hl 2 rfl) ?_
        refine cd_callW (rest := [.int r1]) (wc := [(mo, .inr (3, [.ref mt, .int (nI n), .ref mk, .int ln, .int (cd_b rd), .int pl, .int st, .int me, .int be])), (mt, .inl (ks 3, 1000, .inl ft)), (mk, .inl (ks 4, 1000, .inl fk))]) (wr := [(xo, .inr (2, [.ref tx, .int 0, .ref ch, .int (cd_b rd1), .int pl1])), (tx, .inl (ks 0, 1000, .inl fx)), (ch, .inr (1, [.ref cs, .ref ps, .ref co, .int cz1, .int cp1])), (cs, .inl (ks 1, 1000, .inl fc1)), (ps, .inl (ks 2, 1001, .inl fp1)), (co, .inr (0, [.int cq1]))]) F E hP hD hS hA [0, 1, 2] [3, 4, 5, 6, 7, 8] rfl rfl rfl (by decide) (by decide) (by decide) (c_Model_read l G ks mo mt mk H.size ft fk ln rd pl st me be B n hB2) (by decide) (by decide) 0 3 rfl rfl k_240 k_241 k_242 k_4 k_243 (show cd_desc y_Model_read 0 by decide +kernel) ⟨Nat.le_of_ble_eq_true rfl, Nat.le_of_ble_eq_true rfl⟩ rfl hl.1 (Nat.le_of_ble_eq_true rfl) d_law_179 (fun r2 u2 H locs hw2 hP hD hS => ?_)
        obtain ⟨fk1, rd2, pl2, st1, me1, be1⟩ := u2
        dsimp only at hw2
        obtain ⟨rfl, rfl, rfl⟩ := cd_rdP_eq hw1.1 hw2.1
        have hP : va_P G classes [(xo, .inr (2, [.ref tx, .int 0, .ref ch, .int (cd_b rd1), .int pl1])), (tx, .inl (ks 0, 1000, .inl fx)), (ch, .inr (1, [.ref cs, .ref ps, .ref co, .int cz1, .int cp1])), (cs, .inl (ks 1, 1000, .inl fc1)), (ps, .inl (ks 2, 1001, .inl fp1)), (co, .inr (0, [.int cq1])), (mo, .inr (3, [.ref mt, .int 0, .ref mk, .int (nI n), .int (cd_b rd1), .int pl1, .int st1, .int me1, .int be1])), (mt, .inl (ks 3, 1000, .inl ft)), (mk, .inl (ks 4, 1000, .inl fk1))] H := hP
        have hD : va_D A [(xo, .inr (2, [.ref tx, .int 0, .ref ch, .int (cd_b rd1), .int pl1])), (tx, .inl (ks 0, 1000, .inl fx)), (ch, .inr (1, [.ref cs, .ref ps, .ref co, .int cz1, .int cp1])), (cs, .inl (ks 1, 1000, .inl fc1)), (ps, .inl (ks 2, 1001, .inl fp1)), (co, .inr (0, [.int cq1])), (mo, .inr (3, [.ref mt, .int 0, .ref mk, .int (nI n), .int (cd_b rd1), .int pl1, .int st1, .int me1, .int be1])), (mt, .inl (ks 3, 1000, .inl ft)), (mk, .inl (ks 4, 1000, .inl fk1))] := hD
        refine cd_icmp_eq (tgt := 369) hx hb d_law_182 (by decide) rfl rfl (fun c182 => ?_) (fun c182 => ?_)
        · refine lv_iinc (v := nI (i + 4)) (lv' := [(3, .int (nI (i + 4))), (0, .ref b), (1, .ref xo), (2, .ref mo)]) hx hb d_law_369 hl (k := 3) rfl (nI_add i 4) (by decide) rfl (fun ls hl => ?_)
          refine lv_goto (tgt := 18) hx hb d_law_372 (by decide) ?_
          have hP : va_P G classes [(xo, .inr (2, [.ref tx, .int 0, .ref ch, .int (cd_b rd1), .int pl1])), (tx, .inl (ks 0, 1000, .inl fx)), (ch, .inr (1, [.ref cs, .ref ps, .ref co, .int cz1, .int cp1])), (cs, .inl (ks 1, 1000, .inl fc1)), (ps, .inl (ks 2, 1001, .inl fp1)), (co, .inr (0, [.int cq1])), (mo, .inr (3, [.ref mt, .int 0, .ref mk, .int (nI n), .int (cd_b rd1), .int pl1, .int st1, .int me1, .int be1])), (mt, .inl (ks 3, 1000, .inl ft)), (mk, .inl (ks 4, 1000, .inl fk1))] H := hP.sub [0, 1, 2, 3, 4, 5, 6, 7, 8] rfl
          have hD : va_D A [(xo, .inr (2, [.ref tx, .int 0, .ref ch, .int (cd_b rd1), .int pl1])), (tx, .inl (ks 0, 1000, .inl fx)), (ch, .inr (1, [.ref cs, .ref ps, .ref co, .int cz1, .int cp1])), (cs, .inl (ks 1, 1000, .inl fc1)), (ps, .inl (ks 2, 1001, .inl fp1)), (co, .inr (0, [.int cq1])), (mo, .inr (3, [.ref mt, .int 0, .ref mk, .int (nI n), .int (cd_b rd1), .int pl1, .int st1, .int me1, .int be1])), (mt, .inl (ks 3, 1000, .inl ft)), (mk, .inl (ks 4, 1000, .inl fk1))] := hD.sub [0, 1, 2, 3, 4, 5, 6, 7, 8] (by decide) rfl
          exact ih (i + 4) (0) rd1 pl1 fx fc1 fp1 cz1 cp1 cq1 ft fk1 (nI n) st1 me1 be1 H locs ls (by omega) (by omega) (Nat.zero_le _) (cd_read_inv hw1.1 hw1.2 hw2.2) hP hD hS (lv_sub hl [1, 2, 3, 0] rfl)
        · exact absurd rfl c182
      · refine lv_tableIn (off := 155) (tgt := 187) hx hb d_law_32 (by decide) (by decide) (by decide) (by decide) ?_
        refine lv_aload_n hx hb d_law_187 rfl (lv_at hl 1 rfl) ?_
        refine cd_callPV (rest := []) F (c_Desk_place l G ks xo tx ch cs ps co fx (nI n) rd pl fc fp cz cp cq) (by decide) (by decide) hK hP 0 2 rfl rfl k_125 k_126 k_127 k_1 k_128 (show cd_desc y_Desk_place 0 by decide +kernel) (fun U g mk a h => h.calling) (fun U hU hW => cd_In.of E (hP.sub (ws' := [(xo, .inr (2, [.ref tx, .int (nI n), .ref ch, .int (cd_b rd), .int pl])), (tx, .inl (ks 0, 1000, .inl fx)), (ch, .inr (1, [.ref cs, .ref ps, .ref co, .int cz, .int cp])), (cs, .inl (ks 1, 1000, .inl fc)), (ps, .inl (ks 2, 1001, .inl fp)), (co, .inr (0, [.int cq]))]) [0, 1, 2, 3, 4, 5] rfl) hS hU hW) ⟨Nat.le_of_ble_eq_true rfl, Nat.le_of_ble_eq_true rfl⟩ rfl hl.1 (Nat.le_of_ble_eq_true rfl) d_law_188 (fun r hr => ?_)
        refine cd_top hr ?_
        refine lv_aload_n hx hb d_law_191 rfl (lv_at hl 2 rfl) ?_
        refine cd_callPV (rest := [.int pl]) F (c_Model_place l G ks mo mt mk ft fk (nI n) ln rd pl st me be) (by decide) (by decide) hK hP 6 3 rfl rfl k_258 k_259 k_260 k_4 k_261 (show cd_desc y_Model_place 0 by decide +kernel) (fun U g mk a h => h.calling) (fun U hU hW => cd_In.of E (hP.sub (ws' := [(mo, .inr (3, [.ref mt, .int (nI n), .ref mk, .int ln, .int (cd_b rd), .int pl, .int st, .int me, .int be])), (mt, .inl (ks 3, 1000, .inl ft)), (mk, .inl (ks 4, 1000, .inl fk))]) [6, 7, 8] rfl) hS hU hW) ⟨Nat.le_of_ble_eq_true rfl, Nat.le_of_ble_eq_true rfl⟩ rfl hl.1 (Nat.le_of_ble_eq_true rfl) d_law_192 (fun r hr => ?_)
        refine cd_top hr ?_
        refine cd_icmp_eq (tgt := 369) hx hb d_law_195 (by decide) rfl rfl (fun c195 => ?_) (fun c195 => ?_)
        · refine lv_iinc (v := nI (i + 4)) (lv' := [(3, .int (nI (i + 4))), (0, .ref b), (1, .ref xo), (2, .ref mo)]) hx hb d_law_369 hl (k := 3) rfl (nI_add i 4) (by decide) rfl (fun ls hl => ?_)
          refine lv_goto (tgt := 18) hx hb d_law_372 (by decide) ?_
          have hP : va_P G classes [(xo, .inr (2, [.ref tx, .int (nI n), .ref ch, .int (cd_b rd), .int pl])), (tx, .inl (ks 0, 1000, .inl fx)), (ch, .inr (1, [.ref cs, .ref ps, .ref co, .int cz, .int cp])), (cs, .inl (ks 1, 1000, .inl fc)), (ps, .inl (ks 2, 1001, .inl fp)), (co, .inr (0, [.int cq])), (mo, .inr (3, [.ref mt, .int (nI n), .ref mk, .int ln, .int (cd_b rd), .int pl, .int st, .int me, .int be])), (mt, .inl (ks 3, 1000, .inl ft)), (mk, .inl (ks 4, 1000, .inl fk))] H := hP.sub [0, 1, 2, 3, 4, 5, 6, 7, 8] rfl
          have hD : va_D A [(xo, .inr (2, [.ref tx, .int (nI n), .ref ch, .int (cd_b rd), .int pl])), (tx, .inl (ks 0, 1000, .inl fx)), (ch, .inr (1, [.ref cs, .ref ps, .ref co, .int cz, .int cp])), (cs, .inl (ks 1, 1000, .inl fc)), (ps, .inl (ks 2, 1001, .inl fp)), (co, .inr (0, [.int cq])), (mo, .inr (3, [.ref mt, .int (nI n), .ref mk, .int ln, .int (cd_b rd), .int pl, .int st, .int me, .int be])), (mt, .inl (ks 3, 1000, .inl ft)), (mk, .inl (ks 4, 1000, .inl fk))] := hD.sub [0, 1, 2, 3, 4, 5, 6, 7, 8] (by decide) rfl
          exact ih (i + 4) (n) rd pl fx fc fp cz cp cq ft fk ln st me be H locs ls (by omega) (by omega) hn hI hP hD hS (lv_sub hl [1, 2, 3, 0] rfl)
        · exact absurd rfl c195
      · refine lv_tableIn (off := 168) (tgt := 200) hx hb d_law_32 (by decide) (by decide) (by decide) (by decide) ?_
        obtain ⟨B, N, M, hr9⟩ := id hI.2
        refine lv_aload_n hx hb d_law_200 rfl (lv_at hl 1 rfl) ?_
        refine lv_aload_n hx hb d_law_201 rfl (lv_at hl 0 rfl) ?_
        refine lv_iload_n hx hb d_law_202 rfl (lv_at hl 3 rfl) ?_
        refine lv_iconst (v := 1) hx hb d_law_203 (by decide) ?_
        refine lv_iadd hx hb d_law_204 ?_
        refine cd_top (y := nI (i + 1)) (nI_add i 1) ?_
        refine cd_sld hx hb hX hbl hbA hS (n0 := i + 1) (by omega) (by omega) d_law_205 ?_
        refine cd_callPV (rest := []) F (c_Desk_at l G ks xo tx ch cs ps co fx (nI n) rd pl fc fp cz cp cq (xs (i + 1)) B N M (fun h9 => (hr9 h9).2)) (by decide) (by decide) hK hP 0 2 rfl rfl k_129 k_130 k_131 k_1 k_132 (show cd_desc y_Desk_at 1 by decide +kernel) (fun U g mk a h => h.calling) (fun U hU hW => cd_In.of E (hP.sub (ws' := [(xo, .inr (2, [.ref tx, .int (nI n), .ref ch, .int (cd_b rd), .int pl])), (tx, .inl (ks 0, 1000, .inl fx)), (ch, .inr (1, [.ref cs, .ref ps, .ref co, .int cz, .int cp])), (cs, .inl (ks 1, 1000, .inl fc)), (ps, .inl (ks 2, 1001, .inl fp)), (co, .inr (0, [.int cq]))]) [0, 1, 2, 3, 4, 5] rfl) hS hU hW) ⟨Nat.le_of_ble_eq_true rfl, Nat.le_of_ble_eq_true rfl⟩ rfl hl.1 (Nat.le_of_ble_eq_true rfl) d_law_206 (fun r hr => ?_)
        subst hr
        refine lv_aload_n hx hb d_law_209 rfl (lv_at hl 2 rfl) ?_
        refine lv_aload_n hx hb d_law_210 rfl (lv_at hl 0 rfl) ?_
        refine lv_iload_n hx hb d_law_211 rfl (lv_at hl 3 rfl) ?_
        refine lv_iconst (v := 1) hx hb d_law_212 (by decide) ?_
        refine lv_iadd hx hb d_law_213 ?_
        refine cd_top (y := nI (i + 1)) (nI_add i 1) ?_
        refine cd_sld hx hb hX hbl hbA hS (n0 := i + 1) (by omega) (by omega) d_law_214 ?_
        refine cd_callW (rest := [.int (cd_sel rd M (xs (i + 1)) (fun k => nI (cd_chr B N (cd_P B N k))) (-1))]) (wc := [(mo, .inr (3, [.ref mt, .int (nI n), .ref mk, .int ln, .int (cd_b rd), .int pl, .int st, .int me, .int be])), (mt, .inl (ks 3, 1000, .inl ft)), (mk, .inl (ks 4, 1000, .inl fk))]) (wr := [(xo, .inr (2, [.ref tx, .int (nI n), .ref ch, .int (cd_b rd), .int pl])), (tx, .inl (ks 0, 1000, .inl fx)), (ch, .inr (1, [.ref cs, .ref ps, .ref co, .int cz, .int cp])), (cs, .inl (ks 1, 1000, .inl fc)), (ps, .inl (ks 2, 1001, .inl fp)), (co, .inr (0, [.int cq]))]) F E hP hD hS hA [6, 7, 8] [0, 1, 2, 3, 4, 5] rfl rfl rfl (by decide) (by decide) (by decide) (c_Model_at l G ks mo mt mk H.size ft fk (nI n) ln rd pl st me be (xs (i + 1)) B N M (fun h9 => (hr9 h9).1)) (by decide) (by decide) 0 3 rfl rfl k_262 k_263 k_264 k_4 k_265 (show cd_desc y_Model_at 1 by decide +kernel) ⟨Nat.le_of_ble_eq_true rfl, Nat.le_of_ble_eq_true rfl⟩ rfl hl.1 (Nat.le_of_ble_eq_true rfl) d_law_215 (fun r2 u2 H locs hw2 hP hD hS => ?_)
        obtain ⟨st1, me1, be1⟩ := u2
        obtain rfl := hw2
        have hP : va_P G classes [(xo, .inr (2, [.ref tx, .int (nI n), .ref ch, .int (cd_b rd), .int pl])), (tx, .inl (ks 0, 1000, .inl fx)), (ch, .inr (1, [.ref cs, .ref ps, .ref co, .int cz, .int cp])), (cs, .inl (ks 1, 1000, .inl fc)), (ps, .inl (ks 2, 1001, .inl fp)), (co, .inr (0, [.int cq])), (mo, .inr (3, [.ref mt, .int (nI n), .ref mk, .int ln, .int (cd_b rd), .int pl, .int st1, .int me1, .int be1])), (mt, .inl (ks 3, 1000, .inl ft)), (mk, .inl (ks 4, 1000, .inl fk))] H := hP
        have hD : va_D A [(xo, .inr (2, [.ref tx, .int (nI n), .ref ch, .int (cd_b rd), .int pl])), (tx, .inl (ks 0, 1000, .inl fx)), (ch, .inr (1, [.ref cs, .ref ps, .ref co, .int cz, .int cp])), (cs, .inl (ks 1, 1000, .inl fc)), (ps, .inl (ks 2, 1001, .inl fp)), (co, .inr (0, [.int cq])), (mo, .inr (3, [.ref mt, .int (nI n), .ref mk, .int ln, .int (cd_b rd), .int pl, .int st1, .int me1, .int be1])), (mt, .inl (ks 3, 1000, .inl ft)), (mk, .inl (ks 4, 1000, .inl fk))] := hD
        refine cd_icmp_eq (tgt := 369) hx hb d_law_218 (by decide) rfl rfl (fun c218 => ?_) (fun c218 => ?_)
        · refine lv_iinc (v := nI (i + 4)) (lv' := [(3, .int (nI (i + 4))), (0, .ref b), (1, .ref xo), (2, .ref mo)]) hx hb d_law_369 hl (k := 3) rfl (nI_add i 4) (by decide) rfl (fun ls hl => ?_)
          refine lv_goto (tgt := 18) hx hb d_law_372 (by decide) ?_
          have hP : va_P G classes [(xo, .inr (2, [.ref tx, .int (nI n), .ref ch, .int (cd_b rd), .int pl])), (tx, .inl (ks 0, 1000, .inl fx)), (ch, .inr (1, [.ref cs, .ref ps, .ref co, .int cz, .int cp])), (cs, .inl (ks 1, 1000, .inl fc)), (ps, .inl (ks 2, 1001, .inl fp)), (co, .inr (0, [.int cq])), (mo, .inr (3, [.ref mt, .int (nI n), .ref mk, .int ln, .int (cd_b rd), .int pl, .int st1, .int me1, .int be1])), (mt, .inl (ks 3, 1000, .inl ft)), (mk, .inl (ks 4, 1000, .inl fk))] H := hP.sub [0, 1, 2, 3, 4, 5, 6, 7, 8] rfl
          have hD : va_D A [(xo, .inr (2, [.ref tx, .int (nI n), .ref ch, .int (cd_b rd), .int pl])), (tx, .inl (ks 0, 1000, .inl fx)), (ch, .inr (1, [.ref cs, .ref ps, .ref co, .int cz, .int cp])), (cs, .inl (ks 1, 1000, .inl fc)), (ps, .inl (ks 2, 1001, .inl fp)), (co, .inr (0, [.int cq])), (mo, .inr (3, [.ref mt, .int (nI n), .ref mk, .int ln, .int (cd_b rd), .int pl, .int st1, .int me1, .int be1])), (mt, .inl (ks 3, 1000, .inl ft)), (mk, .inl (ks 4, 1000, .inl fk))] := hD.sub [0, 1, 2, 3, 4, 5, 6, 7, 8] (by decide) rfl
          exact ih (i + 4) (n) rd pl fx fc fp cz cp cq ft fk ln st1 me1 be1 H locs ls (by omega) (by omega) hn hI hP hD hS (lv_sub hl [1, 2, 3, 0] rfl)
        · exact absurd rfl c218
      · refine lv_tableIn (off := 191) (tgt := 223) hx hb d_law_32 (by decide) (by decide) (by decide) (by decide) ?_
        obtain ⟨B, N, M, hr9⟩ := id hI.2
        refine lv_aload_n hx hb d_law_223 rfl (lv_at hl 1 rfl) ?_
        refine lv_aload_n hx hb d_law_224 rfl (lv_at hl 0 rfl) ?_
        refine lv_iload_n hx hb d_law_225 rfl (lv_at hl 3 rfl) ?_
        refine lv_iconst (v := 1) hx hb d_law_226 (by decide) ?_
        refine lv_iadd hx hb d_law_227 ?_
        refine cd_top (y := nI (i + 1)) (nI_add i 1) ?_
        refine cd_sld hx hb hX hbl hbA hS (n0 := i + 1) (by omega) (by omega) d_law_228 ?_
        refine cd_callPV (rest := []) F (c_Desk_placeOf l G ks xo tx ch cs ps co fx (nI n) rd pl fc fp cz cp cq (xs (i + 1)) B N M (fun h9 => (hr9 h9).2)) (by decide) (by decide) hK hP 0 2 rfl rfl k_133 k_134 k_135 k_1 k_136 (show cd_desc y_Desk_placeOf 1 by decide +kernel) (fun U g mk a h => h.calling) (fun U hU hW => cd_In.of E (hP.sub (ws' := [(xo, .inr (2, [.ref tx, .int (nI n), .ref ch, .int (cd_b rd), .int pl])), (tx, .inl (ks 0, 1000, .inl fx)), (ch, .inr (1, [.ref cs, .ref ps, .ref co, .int cz, .int cp])), (cs, .inl (ks 1, 1000, .inl fc)), (ps, .inl (ks 2, 1001, .inl fp)), (co, .inr (0, [.int cq]))]) [0, 1, 2, 3, 4, 5] rfl) hS hU hW) ⟨Nat.le_of_ble_eq_true rfl, Nat.le_of_ble_eq_true rfl⟩ rfl hl.1 (Nat.le_of_ble_eq_true rfl) d_law_229 (fun r hr => ?_)
        subst hr
        refine lv_aload_n hx hb d_law_232 rfl (lv_at hl 2 rfl) ?_
        refine lv_aload_n hx hb d_law_233 rfl (lv_at hl 0 rfl) ?_
        refine lv_iload_n hx hb d_law_234 rfl (lv_at hl 3 rfl) ?_
        refine lv_iconst (v := 1) hx hb d_law_235 (by decide) ?_
        refine lv_iadd hx hb d_law_236 ?_
        refine cd_top (y := nI (i + 1)) (nI_add i 1) ?_
        refine cd_sld hx hb hX hbl hbA hS (n0 := i + 1) (by omega) (by omega) d_law_237 ?_
        refine cd_callW (rest := [.int (cd_sel rd (M + 1) (xs (i + 1)) (fun k => if k < M then nI (cd_P B N k) else nI N) (-1))]) (wc := [(mo, .inr (3, [.ref mt, .int (nI n), .ref mk, .int ln, .int (cd_b rd), .int pl, .int st, .int me, .int be])), (mt, .inl (ks 3, 1000, .inl ft)), (mk, .inl (ks 4, 1000, .inl fk))]) (wr := [(xo, .inr (2, [.ref tx, .int (nI n), .ref ch, .int (cd_b rd), .int pl])), (tx, .inl (ks 0, 1000, .inl fx)), (ch, .inr (1, [.ref cs, .ref ps, .ref co, .int cz, .int cp])), (cs, .inl (ks 1, 1000, .inl fc)), (ps, .inl (ks 2, 1001, .inl fp)), (co, .inr (0, [.int cq]))]) F E hP hD hS hA [6, 7, 8] [0, 1, 2, 3, 4, 5] rfl rfl rfl (by decide) (by decide) (by decide) (c_Model_placeOf l G ks mo mt mk H.size ft fk (nI n) ln rd pl st me be (xs (i + 1)) B N M (fun h9 => (hr9 h9).1)) (by decide) (by decide) 0 3 rfl rfl k_270 k_271 k_272 k_4 k_273 (show cd_desc y_Model_placeOf 1 by decide +kernel) ⟨Nat.le_of_ble_eq_true rfl, Nat.le_of_ble_eq_true rfl⟩ rfl hl.1 (Nat.le_of_ble_eq_true rfl) d_law_238 (fun r2 u2 H locs hw2 hP hD hS => ?_)
        obtain ⟨st1, me1, be1⟩ := u2
        obtain rfl := hw2
        have hP : va_P G classes [(xo, .inr (2, [.ref tx, .int (nI n), .ref ch, .int (cd_b rd), .int pl])), (tx, .inl (ks 0, 1000, .inl fx)), (ch, .inr (1, [.ref cs, .ref ps, .ref co, .int cz, .int cp])), (cs, .inl (ks 1, 1000, .inl fc)), (ps, .inl (ks 2, 1001, .inl fp)), (co, .inr (0, [.int cq])), (mo, .inr (3, [.ref mt, .int (nI n), .ref mk, .int ln, .int (cd_b rd), .int pl, .int st1, .int me1, .int be1])), (mt, .inl (ks 3, 1000, .inl ft)), (mk, .inl (ks 4, 1000, .inl fk))] H := hP
        have hD : va_D A [(xo, .inr (2, [.ref tx, .int (nI n), .ref ch, .int (cd_b rd), .int pl])), (tx, .inl (ks 0, 1000, .inl fx)), (ch, .inr (1, [.ref cs, .ref ps, .ref co, .int cz, .int cp])), (cs, .inl (ks 1, 1000, .inl fc)), (ps, .inl (ks 2, 1001, .inl fp)), (co, .inr (0, [.int cq])), (mo, .inr (3, [.ref mt, .int (nI n), .ref mk, .int ln, .int (cd_b rd), .int pl, .int st1, .int me1, .int be1])), (mt, .inl (ks 3, 1000, .inl ft)), (mk, .inl (ks 4, 1000, .inl fk))] := hD
        refine cd_icmp_eq (tgt := 369) hx hb d_law_241 (by decide) rfl rfl (fun c241 => ?_) (fun c241 => ?_)
        · refine lv_iinc (v := nI (i + 4)) (lv' := [(3, .int (nI (i + 4))), (0, .ref b), (1, .ref xo), (2, .ref mo)]) hx hb d_law_369 hl (k := 3) rfl (nI_add i 4) (by decide) rfl (fun ls hl => ?_)
          refine lv_goto (tgt := 18) hx hb d_law_372 (by decide) ?_
          have hP : va_P G classes [(xo, .inr (2, [.ref tx, .int (nI n), .ref ch, .int (cd_b rd), .int pl])), (tx, .inl (ks 0, 1000, .inl fx)), (ch, .inr (1, [.ref cs, .ref ps, .ref co, .int cz, .int cp])), (cs, .inl (ks 1, 1000, .inl fc)), (ps, .inl (ks 2, 1001, .inl fp)), (co, .inr (0, [.int cq])), (mo, .inr (3, [.ref mt, .int (nI n), .ref mk, .int ln, .int (cd_b rd), .int pl, .int st1, .int me1, .int be1])), (mt, .inl (ks 3, 1000, .inl ft)), (mk, .inl (ks 4, 1000, .inl fk))] H := hP.sub [0, 1, 2, 3, 4, 5, 6, 7, 8] rfl
          have hD : va_D A [(xo, .inr (2, [.ref tx, .int (nI n), .ref ch, .int (cd_b rd), .int pl])), (tx, .inl (ks 0, 1000, .inl fx)), (ch, .inr (1, [.ref cs, .ref ps, .ref co, .int cz, .int cp])), (cs, .inl (ks 1, 1000, .inl fc)), (ps, .inl (ks 2, 1001, .inl fp)), (co, .inr (0, [.int cq])), (mo, .inr (3, [.ref mt, .int (nI n), .ref mk, .int ln, .int (cd_b rd), .int pl, .int st1, .int me1, .int be1])), (mt, .inl (ks 3, 1000, .inl ft)), (mk, .inl (ks 4, 1000, .inl fk))] := hD.sub [0, 1, 2, 3, 4, 5, 6, 7, 8] (by decide) rfl
          exact ih (i + 4) (n) rd pl fx fc fp cz cp cq ft fk ln st1 me1 be1 H locs ls (by omega) (by omega) hn hI hP hD hS (lv_sub hl [1, 2, 3, 0] rfl)
        · exact absurd rfl c241
      · refine lv_tableIn (off := 214) (tgt := 246) hx hb d_law_32 (by decide) (by decide) (by decide) (by decide) ?_
        refine lv_aload_n hx hb d_law_246 rfl (lv_at hl 1 rfl) ?_
        refine lv_aload_n hx hb d_law_247 rfl (lv_at hl 0 rfl) ?_
        refine lv_iload_n hx hb d_law_248 rfl (lv_at hl 3 rfl) ?_
        refine lv_iconst (v := 1) hx hb d_law_249 (by decide) ?_
        refine lv_iadd hx hb d_law_250 ?_
        refine cd_top (y := nI (i + 1)) (nI_add i 1) ?_
        refine cd_sld hx hb hX hbl hbA hS (n0 := i + 1) (by omega) (by omega) d_law_251 ?_
        refine cd_callPV (rest := []) F (c_Desk_kind l xo (xs (i + 1))) (by decide) (by decide) hK hP 0 2 rfl rfl k_137 k_138 k_139 k_1 k_140 (show cd_desc y_Desk_kind 1 by decide +kernel) (fun U g mk a h => h.calling) (fun U hU hW => E.2.2.at hS (fun _ h => h.elim) hU hW) ⟨Nat.le_of_ble_eq_true rfl, Nat.le_of_ble_eq_true rfl⟩ rfl hl.1 (Nat.le_of_ble_eq_true rfl) d_law_252 (fun r hr => ?_)
        subst hr
        refine lv_aload_n hx hb d_law_255 rfl (lv_at hl 2 rfl) ?_
        refine lv_aload_n hx hb d_law_256 rfl (lv_at hl 0 rfl) ?_
        refine lv_iload_n hx hb d_law_257 rfl (lv_at hl 3 rfl) ?_
        refine lv_iconst (v := 1) hx hb d_law_258 (by decide) ?_
        refine lv_iadd hx hb d_law_259 ?_
        refine cd_top (y := nI (i + 1)) (nI_add i 1) ?_
        refine cd_sld hx hb hX hbl hbA hS (n0 := i + 1) (by omega) (by omega) d_law_260 ?_
        refine cd_callPV (rest := [.int (nI (cd_kd (xs (i + 1)).toInt))]) F (c_Model_kind l mo (xs (i + 1))) (by decide) (by decide) hK hP 6 3 rfl rfl k_274 k_275 k_276 k_4 k_277 (show cd_desc y_Model_kind 1 by decide +kernel) (fun _ _ _ _ _ => trivial) (fun _ _ _ => trivial) ⟨Nat.le_of_ble_eq_true rfl, Nat.le_of_ble_eq_true rfl⟩ rfl hl.1 (Nat.le_of_ble_eq_true rfl) d_law_261 (fun r hr => ?_)
        subst hr
        refine cd_icmp_eq (tgt := 369) hx hb d_law_264 (by decide) rfl rfl (fun c264 => ?_) (fun c264 => ?_)
        · refine lv_iinc (v := nI (i + 4)) (lv' := [(3, .int (nI (i + 4))), (0, .ref b), (1, .ref xo), (2, .ref mo)]) hx hb d_law_369 hl (k := 3) rfl (nI_add i 4) (by decide) rfl (fun ls hl => ?_)
          refine lv_goto (tgt := 18) hx hb d_law_372 (by decide) ?_
          have hP : va_P G classes [(xo, .inr (2, [.ref tx, .int (nI n), .ref ch, .int (cd_b rd), .int pl])), (tx, .inl (ks 0, 1000, .inl fx)), (ch, .inr (1, [.ref cs, .ref ps, .ref co, .int cz, .int cp])), (cs, .inl (ks 1, 1000, .inl fc)), (ps, .inl (ks 2, 1001, .inl fp)), (co, .inr (0, [.int cq])), (mo, .inr (3, [.ref mt, .int (nI n), .ref mk, .int ln, .int (cd_b rd), .int pl, .int st, .int me, .int be])), (mt, .inl (ks 3, 1000, .inl ft)), (mk, .inl (ks 4, 1000, .inl fk))] H := hP.sub [0, 1, 2, 3, 4, 5, 6, 7, 8] rfl
          have hD : va_D A [(xo, .inr (2, [.ref tx, .int (nI n), .ref ch, .int (cd_b rd), .int pl])), (tx, .inl (ks 0, 1000, .inl fx)), (ch, .inr (1, [.ref cs, .ref ps, .ref co, .int cz, .int cp])), (cs, .inl (ks 1, 1000, .inl fc)), (ps, .inl (ks 2, 1001, .inl fp)), (co, .inr (0, [.int cq])), (mo, .inr (3, [.ref mt, .int (nI n), .ref mk, .int ln, .int (cd_b rd), .int pl, .int st, .int me, .int be])), (mt, .inl (ks 3, 1000, .inl ft)), (mk, .inl (ks 4, 1000, .inl fk))] := hD.sub [0, 1, 2, 3, 4, 5, 6, 7, 8] (by decide) rfl
          exact ih (i + 4) (n) rd pl fx fc fp cz cp cq ft fk ln st me be H locs ls (by omega) (by omega) hn hI hP hD hS (lv_sub hl [1, 2, 3, 0] rfl)
        · exact absurd rfl c264
      · refine lv_tableIn (off := 237) (tgt := 269) hx hb d_law_32 (by decide) (by decide) (by decide) (by decide) ?_
        obtain ⟨B, N, M, hr9⟩ := id hI.2
        refine lv_aload_n hx hb d_law_269 rfl (lv_at hl 1 rfl) ?_
        refine lv_aload_n hx hb d_law_270 rfl (lv_at hl 0 rfl) ?_
        refine lv_iload_n hx hb d_law_271 rfl (lv_at hl 3 rfl) ?_
        refine lv_iconst (v := 1) hx hb d_law_272 (by decide) ?_
        refine lv_iadd hx hb d_law_273 ?_
        refine cd_top (y := nI (i + 1)) (nI_add i 1) ?_
        refine cd_sld hx hb hX hbl hbA hS (n0 := i + 1) (by omega) (by omega) d_law_274 ?_
        refine lv_aload_n hx hb d_law_275 rfl (lv_at hl 0 rfl) ?_
        refine lv_iload_n hx hb d_law_276 rfl (lv_at hl 3 rfl) ?_
        refine lv_iconst (v := 2) hx hb d_law_277 (by decide) ?_
        refine lv_iadd hx hb d_law_278 ?_
        refine cd_top (y := nI (i + 2)) (nI_add i 2) ?_
        refine cd_sld hx hb hX hbl hbA hS (n0 := i + 2) (by omega) (by omega) d_law_279 ?_
        refine cd_callPV (rest := []) F (c_Desk_run l G ks xo tx ch cs ps co fx (nI n) rd pl fc fp cz cp cq (xs (i + 1)) (xs (i + 2)) B N M (fun h9 => (hr9 h9).2)) (by decide) (by decide) hK hP 0 2 rfl rfl k_158 k_159 k_160 k_1 k_161 (show cd_desc y_Desk_run 2 by decide +kernel) (fun U g mk a h => h.calling) (fun U hU hW => cd_In.of E (hP.sub (ws' := [(xo, .inr (2, [.ref tx, .int (nI n), .ref ch, .int (cd_b rd), .int pl])), (tx, .inl (ks 0, 1000, .inl fx)), (ch, .inr (1, [.ref cs, .ref ps, .ref co, .int cz, .int cp])), (cs, .inl (ks 1, 1000, .inl fc)), (ps, .inl (ks 2, 1001, .inl fp)), (co, .inr (0, [.int cq]))]) [0, 1, 2, 3, 4, 5] rfl) hS hU hW) ⟨Nat.le_of_ble_eq_true rfl, Nat.le_of_ble_eq_true rfl⟩ rfl hl.1 (Nat.le_of_ble_eq_true rfl) d_law_280 (fun r1 hw1 => ?_)
        refine lv_aload_n hx hb d_law_283 rfl (lv_at hl 2 rfl) ?_
        refine lv_aload_n hx hb d_law_284 rfl (lv_at hl 0 rfl) ?_
        refine lv_iload_n hx hb d_law_285 rfl (lv_at hl 3 rfl) ?_
        refine lv_iconst (v := 1) hx hb d_law_286 (by decide) ?_
        refine lv_iadd hx hb d_law_287 ?_
        refine cd_top (y := nI (i + 1)) (nI_add i 1) ?_
        refine cd_sld hx hb hX hbl hbA hS (n0 := i + 1) (by omega) (by omega) d_law_288 ?_
        refine lv_aload_n hx hb d_law_289 rfl (lv_at hl 0 rfl) ?_
        refine lv_iload_n hx hb d_law_290 rfl (lv_at hl 3 rfl) ?_
        refine lv_iconst (v := 2) hx hb d_law_291 (by decide) ?_
        refine lv_iadd hx hb d_law_292 ?_
        refine cd_top (y := nI (i + 2)) (nI_add i 2) ?_
        refine cd_sld hx hb hX hbl hbA hS (n0 := i + 2) (by omega) (by omega) d_law_293 ?_
        refine cd_callW (rest := [.int r1]) (wc := [(mo, .inr (3, [.ref mt, .int (nI n), .ref mk, .int ln, .int (cd_b rd), .int pl, .int st, .int me, .int be])), (mt, .inl (ks 3, 1000, .inl ft)), (mk, .inl (ks 4, 1000, .inl fk))]) (wr := [(xo, .inr (2, [.ref tx, .int (nI n), .ref ch, .int (cd_b rd), .int pl])), (tx, .inl (ks 0, 1000, .inl fx)), (ch, .inr (1, [.ref cs, .ref ps, .ref co, .int cz, .int cp])), (cs, .inl (ks 1, 1000, .inl fc)), (ps, .inl (ks 2, 1001, .inl fp)), (co, .inr (0, [.int cq]))]) F E hP hD hS hA [6, 7, 8] [0, 1, 2, 3, 4, 5] rfl rfl rfl (by decide) (by decide) (by decide) (c_Model_run l G ks mo mt mk H.size ft fk (nI n) ln rd pl st me be (xs (i + 1)) (xs (i + 2)) B N M (fun h9 => (hr9 h9).1)) (by decide) (by decide) 0 3 rfl rfl k_296 k_297 k_298 k_4 k_299 (show cd_desc y_Model_run 2 by decide +kernel) ⟨Nat.le_of_ble_eq_true rfl, Nat.le_of_ble_eq_true rfl⟩ rfl hl.1 (Nat.le_of_ble_eq_true rfl) d_law_294 (fun r2 u2 H locs hw2 hP hD hS => ?_)
        obtain ⟨st1, me1, be1⟩ := u2
        obtain rfl : r1 = r2 := cd_runP_eq (fun h9 => cd_rdy_M (hr9 h9).1.2) (fun _ _ => rfl) hw1 hw2
        have hP : va_P G classes [(xo, .inr (2, [.ref tx, .int (nI n), .ref ch, .int (cd_b rd), .int pl])), (tx, .inl (ks 0, 1000, .inl fx)), (ch, .inr (1, [.ref cs, .ref ps, .ref co, .int cz, .int cp])), (cs, .inl (ks 1, 1000, .inl fc)), (ps, .inl (ks 2, 1001, .inl fp)), (co, .inr (0, [.int cq])), (mo, .inr (3, [.ref mt, .int (nI n), .ref mk, .int ln, .int (cd_b rd), .int pl, .int st1, .int me1, .int be1])), (mt, .inl (ks 3, 1000, .inl ft)), (mk, .inl (ks 4, 1000, .inl fk))] H := hP
        have hD : va_D A [(xo, .inr (2, [.ref tx, .int (nI n), .ref ch, .int (cd_b rd), .int pl])), (tx, .inl (ks 0, 1000, .inl fx)), (ch, .inr (1, [.ref cs, .ref ps, .ref co, .int cz, .int cp])), (cs, .inl (ks 1, 1000, .inl fc)), (ps, .inl (ks 2, 1001, .inl fp)), (co, .inr (0, [.int cq])), (mo, .inr (3, [.ref mt, .int (nI n), .ref mk, .int ln, .int (cd_b rd), .int pl, .int st1, .int me1, .int be1])), (mt, .inl (ks 3, 1000, .inl ft)), (mk, .inl (ks 4, 1000, .inl fk))] := hD
        refine cd_icmp_eq (tgt := 369) hx hb d_law_297 (by decide) rfl rfl (fun c297 => ?_) (fun c297 => ?_)
        · refine lv_iinc (v := nI (i + 4)) (lv' := [(3, .int (nI (i + 4))), (0, .ref b), (1, .ref xo), (2, .ref mo)]) hx hb d_law_369 hl (k := 3) rfl (nI_add i 4) (by decide) rfl (fun ls hl => ?_)
          refine lv_goto (tgt := 18) hx hb d_law_372 (by decide) ?_
          have hP : va_P G classes [(xo, .inr (2, [.ref tx, .int (nI n), .ref ch, .int (cd_b rd), .int pl])), (tx, .inl (ks 0, 1000, .inl fx)), (ch, .inr (1, [.ref cs, .ref ps, .ref co, .int cz, .int cp])), (cs, .inl (ks 1, 1000, .inl fc)), (ps, .inl (ks 2, 1001, .inl fp)), (co, .inr (0, [.int cq])), (mo, .inr (3, [.ref mt, .int (nI n), .ref mk, .int ln, .int (cd_b rd), .int pl, .int st1, .int me1, .int be1])), (mt, .inl (ks 3, 1000, .inl ft)), (mk, .inl (ks 4, 1000, .inl fk))] H := hP.sub [0, 1, 2, 3, 4, 5, 6, 7, 8] rfl
          have hD : va_D A [(xo, .inr (2, [.ref tx, .int (nI n), .ref ch, .int (cd_b rd), .int pl])), (tx, .inl (ks 0, 1000, .inl fx)), (ch, .inr (1, [.ref cs, .ref ps, .ref co, .int cz, .int cp])), (cs, .inl (ks 1, 1000, .inl fc)), (ps, .inl (ks 2, 1001, .inl fp)), (co, .inr (0, [.int cq])), (mo, .inr (3, [.ref mt, .int (nI n), .ref mk, .int ln, .int (cd_b rd), .int pl, .int st1, .int me1, .int be1])), (mt, .inl (ks 3, 1000, .inl ft)), (mk, .inl (ks 4, 1000, .inl fk))] := hD.sub [0, 1, 2, 3, 4, 5, 6, 7, 8] (by decide) rfl
          exact ih (i + 4) (n) rd pl fx fc fp cz cp cq ft fk ln st1 me1 be1 H locs ls (by omega) (by omega) hn hI hP hD hS (lv_sub hl [1, 2, 3, 0] rfl)
        · exact absurd rfl c297
      · refine lv_tableIn (off := 270) (tgt := 302) hx hb d_law_32 (by decide) (by decide) (by decide) (by decide) ?_
        obtain ⟨B, N, M, hr9⟩ := id hI.2
        refine lv_aload_n hx hb d_law_302 rfl (lv_at hl 1 rfl) ?_
        refine lv_aload_n hx hb d_law_303 rfl (lv_at hl 0 rfl) ?_
        refine lv_iload_n hx hb d_law_304 rfl (lv_at hl 3 rfl) ?_
        refine lv_iconst (v := 1) hx hb d_law_305 (by decide) ?_
        refine lv_iadd hx hb d_law_306 ?_
        refine cd_top (y := nI (i + 1)) (nI_add i 1) ?_
        refine cd_sld hx hb hX hbl hbA hS (n0 := i + 1) (by omega) (by omega) d_law_307 ?_
        refine lv_aload_n hx hb d_law_308 rfl (lv_at hl 0 rfl) ?_
        refine lv_iload_n hx hb d_law_309 rfl (lv_at hl 3 rfl) ?_
        refine lv_iconst (v := 2) hx hb d_law_310 (by decide) ?_
        refine lv_iadd hx hb d_law_311 ?_
        refine cd_top (y := nI (i + 2)) (nI_add i 2) ?_
        refine cd_sld hx hb hX hbl hbA hS (n0 := i + 2) (by omega) (by omega) d_law_312 ?_
        refine lv_aload_n hx hb d_law_313 rfl (lv_at hl 0 rfl) ?_
        refine lv_iload_n hx hb d_law_314 rfl (lv_at hl 3 rfl) ?_
        refine lv_iconst (v := 3) hx hb d_law_315 (by decide) ?_
        refine lv_iadd hx hb d_law_316 ?_
        refine cd_top (y := nI (i + 3)) (nI_add i 3) ?_
        refine cd_sld hx hb hX hbl hbA hS (n0 := i + 3) (by omega) (by omega) d_law_317 ?_
        refine cd_callPV (rest := []) F (c_Desk_compare l G ks xo tx ch cs ps co fx (nI n) rd pl fc fp cz cp cq (xs (i + 1)) (xs (i + 2)) (xs (i + 3)) B N M (fun h9 => (hr9 h9).2)) (by decide) (by decide) hK hP 0 2 rfl rfl k_173 k_174 k_175 k_1 k_176 (show cd_desc y_Desk_compare 3 by decide +kernel) (fun U g mk a h => h.calling) (fun U hU hW => cd_In.of E (hP.sub (ws' := [(xo, .inr (2, [.ref tx, .int (nI n), .ref ch, .int (cd_b rd), .int pl])), (tx, .inl (ks 0, 1000, .inl fx)), (ch, .inr (1, [.ref cs, .ref ps, .ref co, .int cz, .int cp])), (cs, .inl (ks 1, 1000, .inl fc)), (ps, .inl (ks 2, 1001, .inl fp)), (co, .inr (0, [.int cq]))]) [0, 1, 2, 3, 4, 5] rfl) hS hU hW) ⟨Nat.le_of_ble_eq_true rfl, Nat.le_of_ble_eq_true rfl⟩ rfl hl.1 (Nat.le_of_ble_eq_true rfl) d_law_318 (fun r1 hw1 => ?_)
        refine lv_aload_n hx hb d_law_321 rfl (lv_at hl 2 rfl) ?_
        refine lv_aload_n hx hb d_law_322 rfl (lv_at hl 0 rfl) ?_
        refine lv_iload_n hx hb d_law_323 rfl (lv_at hl 3 rfl) ?_
        refine lv_iconst (v := 1) hx hb d_law_324 (by decide) ?_
        refine lv_iadd hx hb d_law_325 ?_
        refine cd_top (y := nI (i + 1)) (nI_add i 1) ?_
        refine cd_sld hx hb hX hbl hbA hS (n0 := i + 1) (by omega) (by omega) d_law_326 ?_
        refine lv_aload_n hx hb d_law_327 rfl (lv_at hl 0 rfl) ?_
        refine lv_iload_n hx hb d_law_328 rfl (lv_at hl 3 rfl) ?_
        refine lv_iconst (v := 2) hx hb d_law_329 (by decide) ?_
        refine lv_iadd hx hb d_law_330 ?_
        refine cd_top (y := nI (i + 2)) (nI_add i 2) ?_
        refine cd_sld hx hb hX hbl hbA hS (n0 := i + 2) (by omega) (by omega) d_law_331 ?_
        refine lv_aload_n hx hb d_law_332 rfl (lv_at hl 0 rfl) ?_
        refine lv_iload_n hx hb d_law_333 rfl (lv_at hl 3 rfl) ?_
        refine lv_iconst (v := 3) hx hb d_law_334 (by decide) ?_
        refine lv_iadd hx hb d_law_335 ?_
        refine cd_top (y := nI (i + 3)) (nI_add i 3) ?_
        refine cd_sld hx hb hX hbl hbA hS (n0 := i + 3) (by omega) (by omega) d_law_336 ?_
        refine cd_callW (rest := [.int r1]) (wc := [(mo, .inr (3, [.ref mt, .int (nI n), .ref mk, .int ln, .int (cd_b rd), .int pl, .int st, .int me, .int be])), (mt, .inl (ks 3, 1000, .inl ft)), (mk, .inl (ks 4, 1000, .inl fk))]) (wr := [(xo, .inr (2, [.ref tx, .int (nI n), .ref ch, .int (cd_b rd), .int pl])), (tx, .inl (ks 0, 1000, .inl fx)), (ch, .inr (1, [.ref cs, .ref ps, .ref co, .int cz, .int cp])), (cs, .inl (ks 1, 1000, .inl fc)), (ps, .inl (ks 2, 1001, .inl fp)), (co, .inr (0, [.int cq]))]) F E hP hD hS hA [6, 7, 8] [0, 1, 2, 3, 4, 5] rfl rfl rfl (by decide) (by decide) (by decide) (c_Model_compare l G ks mo mt mk H.size ft fk (nI n) ln rd pl st me be (xs (i + 1)) (xs (i + 2)) (xs (i + 3)) B N M (fun h9 => (hr9 h9).1)) (by decide) (by decide) 0 3 rfl rfl k_300 k_301 k_302 k_4 k_303 (show cd_desc y_Model_compare 3 by decide +kernel) ⟨Nat.le_of_ble_eq_true rfl, Nat.le_of_ble_eq_true rfl⟩ rfl hl.1 (Nat.le_of_ble_eq_true rfl) d_law_337 (fun r2 u2 H locs hw2 hP hD hS => ?_)
        obtain ⟨st1, me1, be1⟩ := u2
        obtain rfl : r1 = r2 := cd_cmpP_eq (fun h9 => cd_rdy_M (hr9 h9).1.2) (fun _ _ => rfl) hw1 hw2
        have hP : va_P G classes [(xo, .inr (2, [.ref tx, .int (nI n), .ref ch, .int (cd_b rd), .int pl])), (tx, .inl (ks 0, 1000, .inl fx)), (ch, .inr (1, [.ref cs, .ref ps, .ref co, .int cz, .int cp])), (cs, .inl (ks 1, 1000, .inl fc)), (ps, .inl (ks 2, 1001, .inl fp)), (co, .inr (0, [.int cq])), (mo, .inr (3, [.ref mt, .int (nI n), .ref mk, .int ln, .int (cd_b rd), .int pl, .int st1, .int me1, .int be1])), (mt, .inl (ks 3, 1000, .inl ft)), (mk, .inl (ks 4, 1000, .inl fk))] H := hP
        have hD : va_D A [(xo, .inr (2, [.ref tx, .int (nI n), .ref ch, .int (cd_b rd), .int pl])), (tx, .inl (ks 0, 1000, .inl fx)), (ch, .inr (1, [.ref cs, .ref ps, .ref co, .int cz, .int cp])), (cs, .inl (ks 1, 1000, .inl fc)), (ps, .inl (ks 2, 1001, .inl fp)), (co, .inr (0, [.int cq])), (mo, .inr (3, [.ref mt, .int (nI n), .ref mk, .int ln, .int (cd_b rd), .int pl, .int st1, .int me1, .int be1])), (mt, .inl (ks 3, 1000, .inl ft)), (mk, .inl (ks 4, 1000, .inl fk))] := hD
        refine cd_icmp_eq (tgt := 369) hx hb d_law_340 (by decide) rfl rfl (fun c340 => ?_) (fun c340 => ?_)
        · refine lv_iinc (v := nI (i + 4)) (lv' := [(3, .int (nI (i + 4))), (0, .ref b), (1, .ref xo), (2, .ref mo)]) hx hb d_law_369 hl (k := 3) rfl (nI_add i 4) (by decide) rfl (fun ls hl => ?_)
          refine lv_goto (tgt := 18) hx hb d_law_372 (by decide) ?_
          have hP : va_P G classes [(xo, .inr (2, [.ref tx, .int (nI n), .ref ch, .int (cd_b rd), .int pl])), (tx, .inl (ks 0, 1000, .inl fx)), (ch, .inr (1, [.ref cs, .ref ps, .ref co, .int cz, .int cp])), (cs, .inl (ks 1, 1000, .inl fc)), (ps, .inl (ks 2, 1001, .inl fp)), (co, .inr (0, [.int cq])), (mo, .inr (3, [.ref mt, .int (nI n), .ref mk, .int ln, .int (cd_b rd), .int pl, .int st1, .int me1, .int be1])), (mt, .inl (ks 3, 1000, .inl ft)), (mk, .inl (ks 4, 1000, .inl fk))] H := hP.sub [0, 1, 2, 3, 4, 5, 6, 7, 8] rfl
          have hD : va_D A [(xo, .inr (2, [.ref tx, .int (nI n), .ref ch, .int (cd_b rd), .int pl])), (tx, .inl (ks 0, 1000, .inl fx)), (ch, .inr (1, [.ref cs, .ref ps, .ref co, .int cz, .int cp])), (cs, .inl (ks 1, 1000, .inl fc)), (ps, .inl (ks 2, 1001, .inl fp)), (co, .inr (0, [.int cq])), (mo, .inr (3, [.ref mt, .int (nI n), .ref mk, .int ln, .int (cd_b rd), .int pl, .int st1, .int me1, .int be1])), (mt, .inl (ks 3, 1000, .inl ft)), (mk, .inl (ks 4, 1000, .inl fk))] := hD.sub [0, 1, 2, 3, 4, 5, 6, 7, 8] (by decide) rfl
          exact ih (i + 4) (n) rd pl fx fc fp cz cp cq ft fk ln st1 me1 be1 H locs ls (by omega) (by omega) hn hI hP hD hS (lv_sub hl [1, 2, 3, 0] rfl)
        · exact absurd rfl c340
      · refine lv_tableIn (off := 313) (tgt := 345) hx hb d_law_32 (by decide) (by decide) (by decide) (by decide) ?_
        refine lv_aload_n hx hb d_law_345 rfl (lv_at hl 1 rfl) ?_
        refine lv_aload_n hx hb d_law_346 rfl (lv_at hl 0 rfl) ?_
        refine lv_iload_n hx hb d_law_347 rfl (lv_at hl 3 rfl) ?_
        refine lv_iconst (v := 1) hx hb d_law_348 (by decide) ?_
        refine lv_iadd hx hb d_law_349 ?_
        refine cd_top (y := nI (i + 1)) (nI_add i 1) ?_
        refine cd_sld hx hb hX hbl hbA hS (n0 := i + 1) (by omega) (by omega) d_law_350 ?_
        refine cd_callPVl (rest := []) F (c_Desk_bytes l xo (xs (i + 1))) (by decide) (by decide) hK hP 0 2 rfl rfl k_180 k_181 k_182 k_1 k_183 (show cd_desc y_Desk_bytes 1 by decide +kernel) (fun _ _ _ _ _ => trivial) (fun _ _ _ => trivial) ⟨Nat.le_of_ble_eq_true rfl, Nat.le_of_ble_eq_true rfl⟩ rfl hl.1 (Nat.le_of_ble_eq_true rfl) d_law_351 (fun r1 hw1 => ?_)
        refine lv_aload_n hx hb d_law_354 rfl (lv_at hl 2 rfl) ?_
        refine lv_aload_n hx hb d_law_355 rfl (lv_at hl 0 rfl) ?_
        refine lv_iload_n hx hb d_law_356 rfl (lv_at hl 3 rfl) ?_
        refine lv_iconst (v := 1) hx hb d_law_357 (by decide) ?_
        refine lv_iadd hx hb d_law_358 ?_
        refine cd_top (y := nI (i + 1)) (nI_add i 1) ?_
        refine cd_sld hx hb hX hbl hbA hS (n0 := i + 1) (by omega) (by omega) d_law_359 ?_
        refine cd_callPVl (rest := [.long r1]) F (c_Model_bytes l mo (xs (i + 1))) (by decide) (by decide) hK hP 6 3 rfl rfl k_304 k_305 k_306 k_4 k_307 (show cd_desc y_Model_bytes 1 by decide +kernel) (fun _ _ _ _ _ => trivial) (fun _ _ _ => trivial) ⟨Nat.le_of_ble_eq_true rfl, Nat.le_of_ble_eq_true rfl⟩ rfl hl.1 (Nat.le_of_ble_eq_true rfl) d_law_360 (fun r2 hw2 => ?_)
        obtain rfl : r1 = r2 := cd_bytP_eq hw1 hw2
        refine cd_lcmp hx hb d_law_363 ?_
        refine cd_if_eq (tgt := 369) hx hb d_law_364 (by decide) (show (0 : Int32).toInt = 0 by decide) (fun c364 => ?_) (fun c364 => ?_)
        · refine lv_iinc (v := nI (i + 4)) (lv' := [(3, .int (nI (i + 4))), (0, .ref b), (1, .ref xo), (2, .ref mo)]) hx hb d_law_369 hl (k := 3) rfl (nI_add i 4) (by decide) rfl (fun ls hl => ?_)
          refine lv_goto (tgt := 18) hx hb d_law_372 (by decide) ?_
          have hP : va_P G classes [(xo, .inr (2, [.ref tx, .int (nI n), .ref ch, .int (cd_b rd), .int pl])), (tx, .inl (ks 0, 1000, .inl fx)), (ch, .inr (1, [.ref cs, .ref ps, .ref co, .int cz, .int cp])), (cs, .inl (ks 1, 1000, .inl fc)), (ps, .inl (ks 2, 1001, .inl fp)), (co, .inr (0, [.int cq])), (mo, .inr (3, [.ref mt, .int (nI n), .ref mk, .int ln, .int (cd_b rd), .int pl, .int st, .int me, .int be])), (mt, .inl (ks 3, 1000, .inl ft)), (mk, .inl (ks 4, 1000, .inl fk))] H := hP.sub [0, 1, 2, 3, 4, 5, 6, 7, 8] rfl
          have hD : va_D A [(xo, .inr (2, [.ref tx, .int (nI n), .ref ch, .int (cd_b rd), .int pl])), (tx, .inl (ks 0, 1000, .inl fx)), (ch, .inr (1, [.ref cs, .ref ps, .ref co, .int cz, .int cp])), (cs, .inl (ks 1, 1000, .inl fc)), (ps, .inl (ks 2, 1001, .inl fp)), (co, .inr (0, [.int cq])), (mo, .inr (3, [.ref mt, .int (nI n), .ref mk, .int ln, .int (cd_b rd), .int pl, .int st, .int me, .int be])), (mt, .inl (ks 3, 1000, .inl ft)), (mk, .inl (ks 4, 1000, .inl fk))] := hD.sub [0, 1, 2, 3, 4, 5, 6, 7, 8] (by decide) rfl
          exact ih (i + 4) (n) rd pl fx fc fp cz cp cq ft fk ln st me be H locs ls (by omega) (by omega) hn hI hP hD hS (lv_sub hl [1, 2, 3, 0] rfl)
        · exact absurd rfl c364
      · refine lv_tableOut (tgt := 369) hx hb d_law_32 (Or.inr (by rw [nI_toInt (by omega)]; omega)) (by decide) ?_
        refine lv_iinc (v := nI (i + 4)) (lv' := [(3, .int (nI (i + 4))), (0, .ref b), (1, .ref xo), (2, .ref mo)]) hx hb d_law_369 hl (k := 3) rfl (nI_add i 4) (by decide) rfl (fun ls hl => ?_)
        refine lv_goto (tgt := 18) hx hb d_law_372 (by decide) ?_
        have hP : va_P G classes [(xo, .inr (2, [.ref tx, .int (nI n), .ref ch, .int (cd_b rd), .int pl])), (tx, .inl (ks 0, 1000, .inl fx)), (ch, .inr (1, [.ref cs, .ref ps, .ref co, .int cz, .int cp])), (cs, .inl (ks 1, 1000, .inl fc)), (ps, .inl (ks 2, 1001, .inl fp)), (co, .inr (0, [.int cq])), (mo, .inr (3, [.ref mt, .int (nI n), .ref mk, .int ln, .int (cd_b rd), .int pl, .int st, .int me, .int be])), (mt, .inl (ks 3, 1000, .inl ft)), (mk, .inl (ks 4, 1000, .inl fk))] H := hP.sub [0, 1, 2, 3, 4, 5, 6, 7, 8] rfl
        have hD : va_D A [(xo, .inr (2, [.ref tx, .int (nI n), .ref ch, .int (cd_b rd), .int pl])), (tx, .inl (ks 0, 1000, .inl fx)), (ch, .inr (1, [.ref cs, .ref ps, .ref co, .int cz, .int cp])), (cs, .inl (ks 1, 1000, .inl fc)), (ps, .inl (ks 2, 1001, .inl fp)), (co, .inr (0, [.int cq])), (mo, .inr (3, [.ref mt, .int (nI n), .ref mk, .int ln, .int (cd_b rd), .int pl, .int st, .int me, .int be])), (mt, .inl (ks 3, 1000, .inl ft)), (mk, .inl (ks 4, 1000, .inl fk))] := hD.sub [0, 1, 2, 3, 4, 5, 6, 7, 8] (by decide) rfl
        exact ih (i + 4) (n) rd pl fx fc fp cz cp cq ft fk ln st me be H locs ls (by omega) (by omega) hn hI hP hD hS (lv_sub hl [1, 2, 3, 0] rfl)
end
section
theorem cd_T1_of {args : Array Value} {s : State} {nm : String} {L : List Int32} {A : Nat → Prop} (hl : (Cond.laysStatic R_Letters nm "[I").before args s = true) (hini : (Cond.initialized R_Letters).before args s = true) (harr : (Cond.arrayOf (.static R_Letters nm "[I") .int).before args s = true) (hlen : (Cond.eq (.length (.static R_Letters nm "[I")) (.int (Int32.ofNat L.length))).before args s = true)
    (hel : ∀ j, j < L.length → (Cond.eq (.elem (.static R_Letters nm "[I") (.int (Int32.ofNat j))) (.int (L.getD j 0))).before args s = true) (hN : L.length < 2 ^ 31) (hA : ∀ a : Nat, a < s.heap.size → ¬ A a) : cd_T1 nm L A s s.heap := by
  obtain ⟨t, ht, hT⟩ := va_Tof (tm := .static R_Letters nm "[I") (ty := .int) (N := L.length) (f := fun j => .int (L.getD j 0)) (A := A) hN harr (va_eqt hlen) (fun j hj => va_eqt (hel j hj)) hA
  exact ⟨t, va_Zref hl hini ht hA, hT⟩

theorem cd_mem_cd_may : ∀ j, j < cd_may.length → Cond.eq (.elem (.static R_Letters "MAY" "[I") (.int (Int32.ofNat j))) (.int (cd_may.getD j 0)) ∈ flatC (Jvm.Cond.and given_1 narrow_1) := fun j hj => of_decide_eq_true (List.all_eq_true.mp (show (List.range cd_may.length).all (fun j => decide (Cond.eq (.elem (.static R_Letters "MAY" "[I") (.int (Int32.ofNat j))) (.int (cd_may.getD j 0)) ∈ flatC (Jvm.Cond.and given_1 narrow_1))) = true by decide +kernel) j (List.mem_range.mpr hj))

theorem cd_mem_cd_bgs : ∀ j, j < cd_bgs.length → Cond.eq (.elem (.static R_Letters "BEGINS" "[I") (.int (Int32.ofNat j))) (.int (cd_bgs.getD j 0)) ∈ flatC (Jvm.Cond.and given_1 narrow_1) := fun j hj => of_decide_eq_true (List.all_eq_true.mp (show (List.range cd_bgs.length).all (fun j => decide (Cond.eq (.elem (.static R_Letters "BEGINS" "[I") (.int (Int32.ofNat j))) (.int (cd_bgs.getD j 0)) ∈ flatC (Jvm.Cond.and given_1 narrow_1))) = true by decide +kernel) j (List.mem_range.mpr hj))

theorem cd_mem_cd_pts : ∀ j, j < cd_pts.length → Cond.eq (.elem (.static R_Letters "PARTS" "[I") (.int (Int32.ofNat j))) (.int (cd_pts.getD j 0)) ∈ flatC (Jvm.Cond.and given_1 narrow_1) := fun j hj => of_decide_eq_true (List.all_eq_true.mp (show (List.range cd_pts.length).all (fun j => decide (Cond.eq (.elem (.static R_Letters "PARTS" "[I") (.int (Int32.ofNat j))) (.int (cd_pts.getD j 0)) ∈ flatC (Jvm.Cond.and given_1 narrow_1))) = true by decide +kernel) j (List.mem_range.mpr hj))

set_option maxHeartbeats 4000000 in
set_option maxRecDepth 100000 in
/-- THE LAW, from its entry -/
theorem whole_start {p : Program} {e : Env} {s : State} {m : MethodId} {below : List Frame} {meth : Method} {c : Code} (l : Launch) {b L : Nat} {xs : Nat → Int32} (hL : L ≤ 2048) (C0 : lw_At p s m meth c b L xs) : W p l e room_1 s m #[Value.ref b] below meth c s.heap [] 0 0 (lw_Z below #[Value.ref b] s) (entryFrame m ([Value.ref b] : List Value).toArray 4) := by
  obtain ⟨hx, hb, hr, hml, hown, htl, hX, hbl, hlocks, hgv⟩ := id C0
  have F : cd_Fx p s m #[Value.ref b] c code 4 R_law 8 room_1 := ⟨hx, hb, hml, hown, fun w hw => htl w (cd_big_tbl hw), by decide, by decide⟩
  have hts := F.2.2.2.2.1
  obtain ⟨A, hAe⟩ : ∃ A : Nat → Prop, A = fun q => s.heap.size ≤ q := ⟨_, rfl⟩
  have hA : ∀ q : Nat, s.heap.size ≤ q → A q := fun q h => by rw [hAe]; exact h
  have hAs : ∀ q : Nat, A q → s.heap.size ≤ q := fun q h => by rw [hAe] at h; exact h
  have hbA : ¬ A b := fun h => absurd (hAs _ h) (Nat.not_le.mpr hbl)
  have hnA : ∀ a : Nat, a < s.heap.size → ¬ A a := fun a h g => absurd (hAs _ g) (Nat.not_le.mpr h)
  obtain ⟨c0, iS0, hKn0⟩ := u_known (C := R_Coder) (T := F_Coder) (N := 1) (n := 1) hts i_Coder (hts _ k_22)
  obtain ⟨c1, iS1, hKn1⟩ := u_known (C := R_Chars) (T := F_Chars) (N := 5) (n := 5) hts i_Chars (hts _ k_16)
  obtain ⟨c2, iS2, hKn2⟩ := u_known (C := R_Desk) (T := F_Desk) (N := 5) (n := 5) hts i_Desk (hts _ k_8)
  obtain ⟨c3, iS3, hKn3⟩ := u_known (C := R_Model) (T := F_Model) (N := 9) (n := 9) hts i_Model (hts _ k_185)
  obtain ⟨G, hKc⟩ : ∃ G : va_G, ∀ (k : Nat) (q : vw_C), classes[k]? = some q → u_Kn s q.1 q.2.1 q.2.2 (G.1 k) (G.2 k) := by
    refine ⟨(fun k => if k = 0 then c0 else if k = 1 then c1 else if k = 2 then c2 else c3, fun k => if k = 0 then iS0 else if k = 1 then iS1 else if k = 2 then iS2 else iS3), ?_⟩
    intro k q hq
    match k, hq with
    | 0, hq => cases hq; exact hKn0
    | 1, hq => cases hq; exact hKn1
    | 2, hq => cases hq; exact hKn2
    | 3, hq => cases hq; exact hKn3
    | k + 4, hq => simp [classes] at hq
  have hK : va_K G classes [] s := ⟨hKc, fun k q h => by simp at h⟩
  have hK0 := hK
  have hNw : cd_Nw s := ⟨va_Nw.of rfl (htl _ (List.mem_append_right _ (List.mem_of_getElem? (i := 27) (by decide +kernel)))), va_Nw.of rfl (htl _ (List.mem_append_right _ (List.mem_of_getElem? (i := 34) (by decide +kernel)))), va_Nw.of rfl (htl _ (List.mem_append_right _ (List.mem_of_getElem? (i := 36) (by decide +kernel)))), va_Nw.of rfl (htl _ (List.mem_append_right _ (List.mem_of_getElem? (i := 39) (by decide +kernel)))), va_Nw.of rfl (htl _ (List.mem_append_right _ (List.mem_of_getElem? (i := 41) (by decide +kernel)))), va_Nw.of rfl (htl _ (List.mem_append_right _ (List.mem_of_getElem? (i := 23) (by decide +kernel))))⟩
  have hs := flat_of_before _ hgv
  have hTb : cd_Tb A s s.heap := ⟨cd_T1_of (args := #[Value.ref b]) (htl _ (List.mem_append_right _ (List.mem_of_getElem? (i := 116) (by decide +kernel)))) (hts _ k_5) (hs _ (by decide +kernel)) (hs _ (by decide +kernel)) (fun j hj => hs _ (cd_mem_cd_may j hj)) (by decide) hnA, cd_T1_of (args := #[Value.ref b]) (htl _ (List.mem_append_right _ (List.mem_of_getElem? (i := 152) (by decide +kernel)))) (hts _ k_5) (hs _ (by decide +kernel)) (hs _ (by decide +kernel)) (fun j hj => hs _ (cd_mem_cd_bgs j hj)) (by decide) hnA, cd_T1_of (args := #[Value.ref b]) (htl _ (List.mem_append_right _ (List.mem_of_getElem? (i := 157) (by decide +kernel)))) (hts _ k_5) (hs _ (by decide +kernel)) (hs _ (by decide +kernel)) (fun j hj => hs _ (cd_mem_cd_pts j hj)) (by decide) hnA⟩
  have hS : va_S A s.heap s.heap [] := va_S.rf
  have hP : va_P G classes [] s.heap := fun k q h => by simp at h
  have hD : va_D A [] := ⟨fun i j p q h => by simp at h, fun k q h => by simp at h⟩
  have hl := lv_entry ([.ref b]) (n := 4) (Nat.le_of_ble_eq_true rfl)
  rw [lg_entry_eq]
  generalize (lg_sl ([.ref b]) ++ List.replicate (4 - (lg_sl ([.ref b])).length) Slot.unset).toArray = ls at hl ⊢
  have hl : lv_has ls 4 [(0, .ref b)] := hl
  refine va_new (ci := 2) (fs := [.null, .int 0, .null, .int 0, .int 0]) (C := R_Desk) (T := F_Desk) (N := 5) hx hb hts i_Desk t_Desk t_Desk_ok hown (hts _ k_7) (hts _ k_8) (hts _ k_1) hK hP hD hS hA rfl (fun j hj => by rcases (show j = 0 ∨ j = 1 ∨ j = 2 ∨ j = 3 ∨ j = 4 by omega) with rfl | rfl | rfl | rfl | rfl <;> rfl) (Nat.le_of_ble_eq_true rfl) (Nat.le_of_ble_eq_true rfl) d_law_0 (fun q0 H hP hD hS => ?_)
  have hP : va_P G classes [(q0, .inr (2, [.null, .int 0, .null, .int 0, .int 0]))] H := hP
  have hD : va_D A [(q0, .inr (2, [.null, .int 0, .null, .int 0, .int 0]))] := hD
  refine W.widen (k := 1) (n := 5) (by omega) (by omega) ?_
  refine lv_dup hx hb d_law_3 rfl ?_
  refine cd_callI (rest := [.ref q0]) (wc := [(q0, .inr (2, [.null, .int 0, .null, .int 0, .int 0]))]) (wr := []) F hK0 hNw hP hD hS hA [0] [] rfl rfl rfl (by decide) (by decide) (by decide) (c_Desk_init l G q0 H.size) (by decide) (by decide) k_9 k_10 k_1 k_11 (show cd_desc y_Desk_init 0 by decide +kernel) rfl ⟨Nat.le_of_ble_eq_true rfl, Nat.le_of_ble_eq_true rfl⟩ rfl hl.1 (Nat.le_of_ble_eq_true rfl) d_law_4 (fun t H locs ht hvm hB hj hS => ?_)
  obtain ⟨tx, ch, cs, ps, co, k0, k1, k2, hP1, hK1, hD1⟩ := hB
  obtain ⟨hP, hD⟩ := hj _ hP1 hD1
  have hK := hK.app (va_K.moved hvm.symm hK1)
  have hP : va_P G classes [(q0, .inr (2, [.ref tx, .int 0, .ref ch, .int 0, .int (-1)])), (tx, .inl (k0, 1000, .inl (fun _ => 0))), (ch, .inr (1, [.ref cs, .ref ps, .ref co, .int 0, .int 0])), (co, .inr (0, [.int 0])), (cs, .inl (k1, 1000, .inl (fun _ => 0))), (ps, .inl (k2, 1001, .inl (fun _ => 0)))] H := hP
  have hD : va_D A [(q0, .inr (2, [.ref tx, .int 0, .ref ch, .int 0, .int (-1)])), (tx, .inl (k0, 1000, .inl (fun _ => 0))), (ch, .inr (1, [.ref cs, .ref ps, .ref co, .int 0, .int 0])), (co, .inr (0, [.int 0])), (cs, .inl (k1, 1000, .inl (fun _ => 0))), (ps, .inl (k2, 1001, .inl (fun _ => 0)))] := hD
  have hK : va_K G classes [(k0, .byte), (k1, .int), (k2, .int)] s := hK
  refine W.widen (k := 6) (n := 3012) (by omega) (by omega) ?_
  refine lv_astore_n (lv' := [(1, .ref q0), (0, .ref b)]) hx hb d_law_7 rfl hl (by decide) rfl (fun ls hl => ?_)
  refine va_new (ci := 3) (fs := [.null, .int 0, .null, .int 0, .int 0, .int 0, .int 0, .int 0, .int 0]) (C := R_Model) (T := F_Model) (N := 9) hx hb hts i_Model t_Model t_Model_ok hown (hts _ k_184) (hts _ k_185) (hts _ k_4) hK hP hD hS hA rfl (fun j hj => by rcases (show j = 0 ∨ j = 1 ∨ j = 2 ∨ j = 3 ∨ j = 4 ∨ j = 5 ∨ j = 6 ∨ j = 7 ∨ j = 8 by omega) with rfl | rfl | rfl | rfl | rfl | rfl | rfl | rfl | rfl <;> rfl) (Nat.le_of_ble_eq_true rfl) (Nat.le_of_ble_eq_true rfl) d_law_8 (fun q8 H hP hD hS => ?_)
  have hP : va_P G classes [(q0, .inr (2, [.ref tx, .int 0, .ref ch, .int 0, .int (-1)])), (tx, .inl (k0, 1000, .inl (fun _ => 0))), (ch, .inr (1, [.ref cs, .ref ps, .ref co, .int 0, .int 0])), (co, .inr (0, [.int 0])), (cs, .inl (k1, 1000, .inl (fun _ => 0))), (ps, .inl (k2, 1001, .inl (fun _ => 0))), (q8, .inr (3, [.null, .int 0, .null, .int 0, .int 0, .int 0, .int 0, .int 0, .int 0]))] H := hP
  have hD : va_D A [(q0, .inr (2, [.ref tx, .int 0, .ref ch, .int 0, .int (-1)])), (tx, .inl (k0, 1000, .inl (fun _ => 0))), (ch, .inr (1, [.ref cs, .ref ps, .ref co, .int 0, .int 0])), (co, .inr (0, [.int 0])), (cs, .inl (k1, 1000, .inl (fun _ => 0))), (ps, .inl (k2, 1001, .inl (fun _ => 0))), (q8, .inr (3, [.null, .int 0, .null, .int 0, .int 0, .int 0, .int 0, .int 0, .int 0]))] := hD
  refine W.widen (k := 7) (n := 3021) (by omega) (by omega) ?_
  refine lv_dup hx hb d_law_11 rfl ?_
  refine cd_callI (rest := [.ref q8]) (wc := [(q8, .inr (3, [.null, .int 0, .null, .int 0, .int 0, .int 0, .int 0, .int 0, .int 0]))]) (wr := [(q0, .inr (2, [.ref tx, .int 0, .ref ch, .int 0, .int (-1)])), (tx, .inl (k0, 1000, .inl (fun _ => 0))), (ch, .inr (1, [.ref cs, .ref ps, .ref co, .int 0, .int 0])), (co, .inr (0, [.int 0])), (cs, .inl (k1, 1000, .inl (fun _ => 0))), (ps, .inl (k2, 1001, .inl (fun _ => 0)))]) F hK0 hNw hP hD hS hA [6] [0, 1, 2, 3, 4, 5] rfl rfl rfl (by decide) (by decide) (by decide) (c_Model_init l G q8 H.size) (by decide) (by decide) k_186 k_187 k_4 k_188 (show cd_desc y_Model_init 0 by decide +kernel) rfl ⟨Nat.le_of_ble_eq_true rfl, Nat.le_of_ble_eq_true rfl⟩ rfl hl.1 (Nat.le_of_ble_eq_true rfl) d_law_12 (fun t H locs ht hvm hB hj hS => ?_)
  obtain ⟨mt, mk, k3, k4, hP1, hK1, hD1⟩ := hB
  obtain ⟨hP, hD⟩ := hj _ hP1 hD1
  have hK := hK.app (va_K.moved hvm.symm hK1)
  have hP : va_P G classes [(q0, .inr (2, [.ref tx, .int 0, .ref ch, .int 0, .int (-1)])), (tx, .inl (k0, 1000, .inl (fun _ => 0))), (ch, .inr (1, [.ref cs, .ref ps, .ref co, .int 0, .int 0])), (co, .inr (0, [.int 0])), (cs, .inl (k1, 1000, .inl (fun _ => 0))), (ps, .inl (k2, 1001, .inl (fun _ => 0))), (q8, .inr (3, [.ref mt, .int 0, .ref mk, .int 0, .int 0, .int (-1), .int 0, .int 0, .int 0])), (mt, .inl (k3, 1000, .inl (fun _ => 0))), (mk, .inl (k4, 1000, .inl (fun _ => 0)))] H := hP
  have hD : va_D A [(q0, .inr (2, [.ref tx, .int 0, .ref ch, .int 0, .int (-1)])), (tx, .inl (k0, 1000, .inl (fun _ => 0))), (ch, .inr (1, [.ref cs, .ref ps, .ref co, .int 0, .int 0])), (co, .inr (0, [.int 0])), (cs, .inl (k1, 1000, .inl (fun _ => 0))), (ps, .inl (k2, 1001, .inl (fun _ => 0))), (q8, .inr (3, [.ref mt, .int 0, .ref mk, .int 0, .int 0, .int (-1), .int 0, .int 0, .int 0])), (mt, .inl (k3, 1000, .inl (fun _ => 0))), (mk, .inl (k4, 1000, .inl (fun _ => 0)))] := hD
  have hK : va_K G classes [(k0, .byte), (k1, .int), (k2, .int), (k3, .int), (k4, .int)] s := hK
  refine W.widen (k := 9) (n := 5021) (by omega) (by omega) ?_
  refine lv_astore_n (lv' := [(2, .ref q8), (1, .ref q0), (0, .ref b)]) hx hb d_law_15 rfl hl (by decide) rfl (fun ls hl => ?_)
  refine lv_iconst (v := 0) hx hb d_law_16 (by decide) ?_
  refine lv_istore_n (lv' := [(3, .int 0), (2, .ref q8), (1, .ref q0), (0, .ref b)]) hx hb d_law_17 rfl hl (by decide) rfl (fun ls hl => ?_)
  have hP : va_P G classes [(q0, .inr (2, [.ref tx, .int 0, .ref ch, .int 0, .int (-1)])), (tx, .inl (k0, 1000, .inl (fun _ => 0))), (ch, .inr (1, [.ref cs, .ref ps, .ref co, .int 0, .int 0])), (cs, .inl (k1, 1000, .inl (fun _ => 0))), (ps, .inl (k2, 1001, .inl (fun _ => 0))), (co, .inr (0, [.int 0])), (q8, .inr (3, [.ref mt, .int 0, .ref mk, .int 0, .int 0, .int (-1), .int 0, .int 0, .int 0])), (mt, .inl (k3, 1000, .inl (fun _ => 0))), (mk, .inl (k4, 1000, .inl (fun _ => 0)))] H := hP.sub [0, 1, 2, 4, 5, 3, 6, 7, 8] rfl
  have hD : va_D A [(q0, .inr (2, [.ref tx, .int 0, .ref ch, .int 0, .int (-1)])), (tx, .inl (k0, 1000, .inl (fun _ => 0))), (ch, .inr (1, [.ref cs, .ref ps, .ref co, .int 0, .int 0])), (cs, .inl (k1, 1000, .inl (fun _ => 0))), (ps, .inl (k2, 1001, .inl (fun _ => 0))), (co, .inr (0, [.int 0])), (q8, .inr (3, [.ref mt, .int 0, .ref mk, .int 0, .int 0, .int (-1), .int 0, .int 0, .int 0])), (mt, .inl (k3, 1000, .inl (fun _ => 0))), (mk, .inl (k4, 1000, .inl (fun _ => 0)))] := hD.sub [0, 1, 2, 4, 5, 3, 6, 7, 8] (by decide) rfl
  have E : cd_Env G (fun k => match k with | 0 => k0 | 1 => k1 | 2 => k2 | 3 => k3 | _ => k4) A s := ⟨hK, hNw, hTb⟩
  exact law_loop l hL C0 E hA hAs hbA q0 tx ch cs ps co q8 mt mk (L + 1) 0 0 false (-1) (fun _ => 0) (fun _ => 0) (fun _ => 0) 0 0 0 (fun _ => 0) (fun _ => 0) 0 0 0 0 H locs ls (by omega) (Nat.zero_le _) (Nat.zero_le _) ⟨⟨fun _ => 0, ⟨Nat.zero_le _, fun j hj => absurd hj (Nat.not_lt_zero j)⟩, ⟨Nat.zero_le _, fun j hj => absurd hj (Nat.not_lt_zero j)⟩⟩, fun _ => 0, 0, 0, fun h9 => by cases h9⟩ hP hD hS (lv_sub hl [3, 2, 1, 0] rfl)
end
section
set_option maxHeartbeats 4000000 in
theorem lw_walk (l : Launch) (b : Addr) (xs : List Int32) : MetFree l x (headSpec (Jvm.Cond.code x code maxLocals ret :: tables_1) room_1) (lw_P b xs) (fun _ _ _ _ _ => True) lw_Q := by
  refine MetFree.of_bodyS (code := code) (maxLocals := maxLocals) (ret := ret) (by decide) ?_ ?_
  · intro args s m h hn
    obtain ⟨meth, c, h1, h2, h3, h4, h5, h6, -, -⟩ := Cond.code_spec hn (atoms_spec (ws := Jvm.Cond.code x code maxLocals ret :: tables_1) h _ List.mem_cons_self)
    exact ⟨meth, c, h1, h2, h3, h4, h5, h6⟩
  · intro p e s m args below meth c s₁ B hml0 hP _
    obtain ⟨rfl, hx, hbd, hgv⟩ := hP
    obtain ⟨scr, harrAt, hlist, hof, hsmall⟩ := hx
    obtain ⟨hcb, hkn, -, -⟩ := State.arrayAt?_spec harrAt
    have hown : s.vm.findClass R_law = some m.cls := findClass_of_methodNamed B.named
    have hts0 : ∀ c ∈ (Jvm.Cond.code x code maxLocals ret :: tables_1), c.before #[Value.ref b] s = true := atoms_spec (ws := Jvm.Cond.code x code maxLocals ret :: tables_1) B.pre
    have hts : ∀ w ∈ lw_tbl, w.before #[Value.ref b] s = true := k2_hts_sels lw_privs (fun w hw => hts0 w (List.mem_cons_of_mem _ hw)) lw_privs_ok
    have hml : c.maxLocals = 4 := B.maxLocals_eq (hts0 _ List.mem_cons_self)
    have X₀ : Stand p l e room_1 s m #[Value.ref b] below meth c s₁ [] 0 0 := Stand.of_body B
    have hh0 : s₁.heap = s.heap := by rw [B.state]; rfl
    have hsz : scr.slots.size = xs.length := by rw [← Array.length_toList, hlist, List.length_map]
    have hval : ∀ j : Nat, j < xs.length → scr.slots[j]? = some (.int (xs.getD j 0)) := fun j hj => by
      rw [← Array.getElem?_toList, hlist]
      simp [hj]
    have hbl : b < s.heap.size := (Array.getElem?_eq_some_iff.mp hcb).1
    have hX : va_X b xs.length (fun j => xs.getD j 0) s s.heap := ⟨scr, hcb, hof, hkn, hsz, hval⟩
    have K : W p l e room_1 s m #[Value.ref b] below meth c s₁.heap [] 0 0 (lw_Z below #[Value.ref b] s) (entryFrame m ([Value.ref b] : List Value).toArray 4) := by
      rw [hh0]
      exact whole_start l hbd ⟨B.exec, B.bytes, B.returns, hml, hown, hts, hX, hbl, B.notSynchronized, hgv⟩
    obtain ⟨t, a1, o, b1, b2, b3⟩ := K s₁ rfl X₀
    exact ⟨t, o, a1, b1, b2, b3⟩
theorem lw_pre_spec {args : Array Value} {s : State} (h : (Jvm.Cond.and given_1 narrow_1).before args s = true) (hr : rest_1_c.before args s = true) : ∃ (b : Addr) (xs : List Int32), lw_P b xs args s := by
  have hs := flat_of_before _ h
  have hq := flat_of_before _ hr
  have hc : (Cond.count 1).before args s = true := hs _ (by decide +kernel)
  have harr : (Cond.arrayOf (.arg 0) .int).before args s = true := hs _ (by decide +kernel)
  have hle : (Cond.le (.length (.arg 0)) (.int 2048)).before args s = true := hs _ (by decide +kernel)
  have hlen : (Cond.isInt (.length (.arg 0))).before args s = true := hq _ (by decide +kernel)
  have hall : (Cond.all (.arg 0) (.isInt (.elem (.arg 0) (.index 0)))).before args s = true := hq _ (by decide +kernel)
  obtain ⟨b, xs, hb, hx⟩ := State.ints_of_pre rfl harr hlen hall
  have hsm : xs.length < 2 ^ 31 := hx.choose_spec.2.2.2
  have hev : (Term.length (.arg 0)).eval args s none [] s = some (.int xs.length.toInt32) := hx.length_eval hb
  have hv := Cond.le_ints hev (show (Term.int 2048).eval args s none [] s = some (.int 2048) from rfl)
  have hd : xs.length.toInt32 ≤ 2048 := by
    simpa [Cond.before, Cond.holds, hv] using hle
  have hN : xs.length ≤ 2048 := (Int32.ofNat_le_ofNat hsm (by decide)).mp (show Int32.ofNat xs.length ≤ Int32.ofNat 2048 from hd)
  exact ⟨b, xs, Cond.one_arg hc (show args[0]? = some (.ref b) from hb), hx, hN, h⟩
theorem lw_comes (l : Launch) : Comes l x (Jvm.Cond.code x code maxLocals ret :: tables_1) room_1 (fun tb e args s => Calls_1 tb e args s ∧ rest_1 tb e args s ∧ Pre_1 tb e args s)
    (fun _ _ args s o t => lw_Q args s o t) := by
  intro p e ha hc hk s m args below hf hfit hheap happ hpre
  obtain ⟨b, xs, hP⟩ := lw_pre_spec hpre.2.2 hpre.2.1
  obtain ⟨k, o, h1, h2, h3, hQ⟩ := lw_walk l b xs p e ha hc hk s m args below hf ((Spec.applies_iff_loose hf).mp happ).1 hP trivial
  exact ⟨k, o, h1, h2, h3, hQ⟩
theorem lw_frame {s t : State} {o : Outcome} {args : Array Value} (h : Framed s o t [] 600000 7302250) :
    Framed s o t (fieldLocs frame_1_writes args s ++ arrayLocs frame_1_arrays args s ++ staticLocs frame_1_statics s) 600000 7302250 := h
theorem lw_limb (L : Cond) (hL : ∀ (args : Array Value) (s t : State), L.after args s (.returned (some (.int 1))) t = true) :
    ArmFor flags0 classFile x code maxLocals ret World_1 tables_1 room_1 Calls_1 rest_1 Pre_1
      (fun tb e a s o t => postC L tb e a s o t ∧ Framed s o t (fieldLocs frame_1_writes a s ++ arrayLocs frame_1_arrays a s ++ staticLocs frame_1_statics s) 600000 7302250) := by
  intro l _ _ _ p e ha hc hk s m args below hf hfit hheap happ hpre
  obtain ⟨k, o, h1, h2, h3, rfl, hF⟩ := lw_comes l p e ha hc hk s m args below hf hfit hheap happ hpre
  exact ⟨k, _, h1, h2, h3, hL args s _, lw_frame hF⟩
theorem i_vc : Claimed_1_1 ∧ Claimed_1_2 := ⟨lw_limb limb_1_1 (fun args s t => by simp [limb_1_1, Cond.after, Cond.holds, Cond.value]), lw_limb limb_1_2 (fun args s t => Cond.after_iff.mpr (by
  first | (rw [show limb_1_2 = Cond.eq .result (.int 1) from rfl, Cond.eq_ints (x := 1) (y := 1) rfl rfl]; simp; done) | (simp [limb_1_2, Cond.value, Term.eval]; done)))⟩
end
