section
/-! PART A of the skeleton, then names, words, memberships (printed by gen01.py) -/
/-- a private method of a class that the tables say can be made, by its rows of tables_1 -/
def lw_okq (q : MethodName × Nat) : Prop := (q.1.cls ≠ "java/lang/invoke/MethodHandle" ∧ q.1.cls ≠ "java/lang/invoke/VarHandle") ∧ Cond.instantiable q.1.cls q.2 ∈ tables_1 ∧ Cond.privateMethod q.1 ∈ tables_1 ∧ Cond.instanceMethod q.1 ∈ tables_1
theorem lw_p0 : lw_okq (⟨"EventLineDesk$Lines", "hasRoom", "(I)Z"⟩, 7) := ⟨⟨by decide +kernel, by decide +kernel⟩, List.mem_of_getElem? (i := 29) (by decide +kernel), List.mem_of_getElem? (i := 77) (by decide +kernel), List.mem_of_getElem? (i := 78) (by decide +kernel)⟩
theorem lw_p1 : lw_okq (⟨"EventLineDesk$Lines", "put", "(I)V"⟩, 7) := ⟨⟨by decide +kernel, by decide +kernel⟩, List.mem_of_getElem? (i := 29) (by decide +kernel), List.mem_of_getElem? (i := 85) (by decide +kernel), List.mem_of_getElem? (i := 86) (by decide +kernel)⟩
theorem lw_p2 : lw_okq (⟨"EventLineDeskModel", "start", "(I)V"⟩, 9) := ⟨⟨by decide +kernel, by decide +kernel⟩, List.mem_of_getElem? (i := 166) (by decide +kernel), List.mem_of_getElem? (i := 205) (by decide +kernel), List.mem_of_getElem? (i := 206) (by decide +kernel)⟩
theorem lw_p3 : lw_okq (⟨"EventLineDeskModel", "close", "()V"⟩, 9) := ⟨⟨by decide +kernel, by decide +kernel⟩, List.mem_of_getElem? (i := 166) (by decide +kernel), List.mem_of_getElem? (i := 209) (by decide +kernel), List.mem_of_getElem? (i := 210) (by decide +kernel)⟩
theorem lw_p4 : lw_okq (⟨"EventLineDeskModel", "put", "(I)V"⟩, 9) := ⟨⟨by decide +kernel, by decide +kernel⟩, List.mem_of_getElem? (i := 166) (by decide +kernel), List.mem_of_getElem? (i := 213) (by decide +kernel), List.mem_of_getElem? (i := 214) (by decide +kernel)⟩
theorem lw_p5 : lw_okq (⟨"EventLineDeskModel", "code", "(I)Z"⟩, 9) := ⟨⟨by decide +kernel, by decide +kernel⟩, List.mem_of_getElem? (i := 166) (by decide +kernel), List.mem_of_getElem? (i := 221) (by decide +kernel), List.mem_of_getElem? (i := 222) (by decide +kernel)⟩
def lw_privs_1 : List (MethodName × Nat) := [(⟨"EventLineDesk$Lines", "hasRoom", "(I)Z"⟩, 7), (⟨"EventLineDesk$Lines", "put", "(I)V"⟩, 7), (⟨"EventLineDeskModel", "start", "(I)V"⟩, 9), (⟨"EventLineDeskModel", "close", "()V"⟩, 9), (⟨"EventLineDeskModel", "put", "(I)V"⟩, 9), (⟨"EventLineDeskModel", "code", "(I)Z"⟩, 9)]
theorem lw_r1 : ∀ q ∈ lw_privs_1, lw_okq q := List.forall_mem_cons.mpr ⟨lw_p0, List.forall_mem_cons.mpr ⟨lw_p1, List.forall_mem_cons.mpr ⟨lw_p2, List.forall_mem_cons.mpr ⟨lw_p3, List.forall_mem_cons.mpr ⟨lw_p4, List.forall_mem_cons.mpr ⟨lw_p5, fun _ h => absurd h List.not_mem_nil⟩⟩⟩⟩⟩⟩
def lw_privs : List (MethodName × Nat) := lw_privs_1
def lw_tbl : List Cond := k2_sels lw_privs ++ tables_1
theorem lw_privs_ok : ∀ q ∈ lw_privs, lw_okq q := lw_r1
def R_L : String := "EventLineDesk$Lines"
def R_D : String := "EventLineDesk"
def R_M : String := "EventLineDeskModel"
def R_K : String := "EventLineDesk$LineKind"
def R_E : String := "java/lang/Enum"
def R_law : String := "EventLineDeskLaw"
def F_L : u_T := fun k => match k with
  | 0 => ("EventLineDesk$Lines", "bytes", "[B", true)
  | 1 => ("EventLineDesk$Lines", "open", "LEventLineDesk$LineKind;", false)
  | 2 => ("EventLineDesk$Lines", "size", "I", false)
  | 3 => ("EventLineDesk$Lines", "from", "I", false)
  | 4 => ("EventLineDesk$Lines", "taken", "I", false)
  | 5 => ("EventLineDesk$Lines", "lines", "I", false)
  | _ => ("EventLineDesk$Lines", "whole", "Z", false)
def t_L : Nat → FieldType := fun k => match k with
  | 0 => .array .byte
  | 1 => .object "EventLineDesk$LineKind"
  | 2 => .int
  | 3 => .int
  | 4 => .int
  | 5 => .int
  | _ => .boolean
theorem n_L : ∀ a, a < 7 → ∀ b, b < 7 → a ≠ b → (F_L a).2.1 ≠ (F_L b).2.1 := by decide +kernel
theorem t_L_ok : ∀ k, k < 7 → parseFieldDescriptor (F_L k).2.2.1 = some (t_L k) := by decide +kernel
def F_D : u_T := fun k => match k with
  | 0 => ("EventLineDesk", "kinds", "[LEventLineDesk$LineKind;", true)
  | _ => ("EventLineDesk", "lines", "LEventLineDesk$Lines;", true)
def t_D : Nat → FieldType := fun k => match k with
  | 0 => .array (.object "EventLineDesk$LineKind")
  | _ => .object "EventLineDesk$Lines"
theorem n_D : ∀ a, a < 2 → ∀ b, b < 2 → a ≠ b → (F_D a).2.1 ≠ (F_D b).2.1 := by decide +kernel
theorem t_D_ok : ∀ k, k < 2 → parseFieldDescriptor (F_D k).2.2.1 = some (t_D k) := by decide +kernel
def F_M : u_T := fun k => match k with
  | 0 => ("EventLineDeskModel", "row", "[I", true)
  | 1 => ("EventLineDeskModel", "size", "I", false)
  | 2 => ("EventLineDeskModel", "open", "I", false)
  | 3 => ("EventLineDeskModel", "kind", "I", false)
  | 4 => ("EventLineDeskModel", "taken", "I", false)
  | 5 => ("EventLineDeskModel", "last", "I", false)
  | 6 => ("EventLineDeskModel", "lines", "I", false)
  | 7 => ("EventLineDeskModel", "bytes", "[I", true)
  | _ => ("EventLineDeskModel", "many", "I", false)
def t_M : Nat → FieldType := fun k => match k with
  | 0 => .array .int
  | 1 => .int
  | 2 => .int
  | 3 => .int
  | 4 => .int
  | 5 => .int
  | 6 => .int
  | 7 => .array .int
  | _ => .int
theorem n_M : ∀ a, a < 9 → ∀ b, b < 9 → a ≠ b → (F_M a).2.1 ≠ (F_M b).2.1 := by decide +kernel
theorem t_M_ok : ∀ k, k < 9 → parseFieldDescriptor (F_M k).2.2.1 = some (t_M k) := by decide +kernel
abbrev classes : List vw_C := [(R_L, F_L, 7), (R_D, F_D, 2), (R_M, F_M, 9)]
abbrev b_D_init : ByteArray := prog_1_method_1_code
def y_D_init : MethodName := ⟨R_D, "<init>", "()V"⟩
abbrev b_K_values : ByteArray := prog_2_method_1_code
def y_K_values : MethodName := ⟨R_K, "values", "()[LEventLineDesk$LineKind;"⟩
abbrev b_L_init : ByteArray := prog_3_method_1_code
def y_L_init : MethodName := ⟨R_L, "<init>", "(I)V"⟩
abbrev b_D_begin : ByteArray := prog_1_method_3_code
def y_D_begin : MethodName := ⟨R_D, "begin", "(I)Z"⟩
abbrev b_L_begin : ByteArray := prog_3_method_5_code
def y_L_begin : MethodName := ⟨R_L, "begin", "(LEventLineDesk$LineKind;)Z"⟩
abbrev b_L_hasRoom : ByteArray := prog_3_method_3_code
def y_L_hasRoom : MethodName := ⟨R_L, "hasRoom", "(I)Z"⟩
abbrev b_L_end : ByteArray := prog_3_method_6_code
def y_L_end : MethodName := ⟨R_L, "end", "()V"⟩
abbrev b_L_put : ByteArray := prog_3_method_4_code
def y_L_put : MethodName := ⟨R_L, "put", "(I)V"⟩
abbrev b_D_add : ByteArray := prog_1_method_4_code
def y_D_add : MethodName := ⟨R_D, "add", "(I)Z"⟩
abbrev b_D_isCharacter : ByteArray := prog_1_method_2_code
def y_D_isCharacter : MethodName := ⟨R_D, "isCharacter", "(I)Z"⟩
abbrev b_L_add : ByteArray := prog_3_method_9_code
def y_L_add : MethodName := ⟨R_L, "add", "(I)Z"⟩
abbrev b_L_bytesOf : ByteArray := prog_3_method_8_code
def y_L_bytesOf : MethodName := ⟨R_L, "bytesOf", "(I)I"⟩
abbrev b_L_letter : ByteArray := prog_3_method_7_code
def y_L_letter : MethodName := ⟨R_L, "letter", "(I)I"⟩
abbrev b_D_text : ByteArray := prog_1_method_5_code
def y_D_text : MethodName := ⟨R_D, "text", "(I)Z"⟩
abbrev b_L_text : ByteArray := prog_3_method_10_code
def y_L_text : MethodName := ⟨R_L, "text", "(I)Z"⟩
abbrev b_D_end : ByteArray := prog_1_method_6_code
def y_D_end : MethodName := ⟨R_D, "end", "()I"⟩
abbrev b_E_ordinal : ByteArray := prog_7_method_2_code
def y_E_ordinal : MethodName := ⟨R_E, "ordinal", "()I"⟩
abbrev b_D_back : ByteArray := prog_1_method_7_code
def y_D_back : MethodName := ⟨R_D, "back", "(I)Z"⟩
abbrev b_L_back : ByteArray := prog_3_method_12_code
def y_L_back : MethodName := ⟨R_L, "back", "(I)Z"⟩
abbrev b_D_mark : ByteArray := prog_1_method_8_code
def y_D_mark : MethodName := ⟨R_D, "mark", "()I"⟩
abbrev b_L_mark : ByteArray := prog_3_method_11_code
def y_L_mark : MethodName := ⟨R_L, "mark", "()I"⟩
abbrev b_D_take : ByteArray := prog_1_method_9_code
def y_D_take : MethodName := ⟨R_D, "take", "()J"⟩
abbrev b_L_take : ByteArray := prog_3_method_13_code
def y_L_take : MethodName := ⟨R_L, "take", "()J"⟩
abbrev b_Ma_min : ByteArray := prog_8_method_69_code
def y_Ma_min : MethodName := ⟨"java/lang/Math", "min", "(II)I"⟩
abbrev b_D_count : ByteArray := prog_1_method_10_code
def y_D_count : MethodName := ⟨R_D, "count", "(I)I"⟩
abbrev b_M_init : ByteArray := prog_5_method_1_code
def y_M_init : MethodName := ⟨R_M, "<init>", "()V"⟩
abbrev b_M_begin : ByteArray := prog_5_method_6_code
def y_M_begin : MethodName := ⟨R_M, "begin", "(I)Z"⟩
abbrev b_M_start : ByteArray := prog_5_method_5_code
def y_M_start : MethodName := ⟨R_M, "start", "(I)V"⟩
abbrev b_M_close : ByteArray := prog_5_method_4_code
def y_M_close : MethodName := ⟨R_M, "close", "()V"⟩
abbrev b_M_put : ByteArray := prog_5_method_2_code
def y_M_put : MethodName := ⟨R_M, "put", "(I)V"⟩
abbrev b_M_add : ByteArray := prog_5_method_7_code
def y_M_add : MethodName := ⟨R_M, "add", "(I)Z"⟩
abbrev b_M_code : ByteArray := prog_5_method_3_code
def y_M_code : MethodName := ⟨R_M, "code", "(I)Z"⟩
abbrev b_M_text : ByteArray := prog_5_method_8_code
def y_M_text : MethodName := ⟨R_M, "text", "(I)Z"⟩
abbrev b_M_end : ByteArray := prog_5_method_9_code
def y_M_end : MethodName := ⟨R_M, "end", "()I"⟩
abbrev b_M_back : ByteArray := prog_5_method_10_code
def y_M_back : MethodName := ⟨R_M, "back", "(I)Z"⟩
abbrev b_M_mark : ByteArray := prog_5_method_11_code
def y_M_mark : MethodName := ⟨R_M, "mark", "()I"⟩
abbrev b_M_take : ByteArray := prog_5_method_12_code
def y_M_take : MethodName := ⟨R_M, "take", "()J"⟩
abbrev b_M_count : ByteArray := prog_5_method_13_code
def y_M_count : MethodName := ⟨R_M, "count", "(I)I"⟩
/-- the good words of the tables: one list for all methods -/
def gw : List Cond := lw_tbl.filter goodWord
theorem gw_good : GoodIn gw gw := fun w h => ⟨h, good_of_word (List.mem_filter.mp h).2⟩
theorem gw_t {w : Cond} (h : w ∈ tables_1) (hg : goodWord w = true) : w ∈ gw := List.mem_filter.mpr ⟨List.mem_append_right _ h, hg⟩
theorem gw_s {w : Cond} (h : w ∈ k2_sels lw_privs) (hg : goodWord w = true) : w ∈ gw := List.mem_filter.mpr ⟨List.mem_append_left _ h, hg⟩
abbrev ww (y : MethodName) (b : ByteArray) (n : Nat) (r : Option FieldType) : List Cond := Cond.code y b n r :: gw
theorem m_0 : Cond.initialized "EventLineDeskLaw" ∈ gw := gw_t (List.mem_of_getElem? (i := 0) (by decide +kernel)) rfl
theorem m_1 : Cond.initialized "EventLineDesk" ∈ gw := gw_t (List.mem_of_getElem? (i := 1) (by decide +kernel)) rfl
theorem m_2 : Cond.initialized "java/lang/Enum" ∈ gw := gw_t (List.mem_of_getElem? (i := 2) (by decide +kernel)) rfl
theorem m_3 : Cond.initialized "EventLineDesk$LineKind" ∈ gw := gw_t (List.mem_of_getElem? (i := 3) (by decide +kernel)) rfl
theorem m_4 : Cond.initialized "EventLineDesk$Lines" ∈ gw := gw_t (List.mem_of_getElem? (i := 4) (by decide +kernel)) rfl
theorem m_5 : Cond.initialized "EventLineDeskModel" ∈ gw := gw_t (List.mem_of_getElem? (i := 5) (by decide +kernel)) rfl
theorem m_6 : Cond.initialized "java/lang/Math" ∈ gw := gw_t (List.mem_of_getElem? (i := 6) (by decide +kernel)) rfl
theorem m_7 : Cond.classLink "EventLineDeskLaw" 7 "EventLineDesk" ∈ gw := gw_t (List.mem_of_getElem? (i := 7) (by decide +kernel)) rfl
theorem m_8 : Cond.instantiable "EventLineDesk" 2 ∈ gw := gw_t (List.mem_of_getElem? (i := 8) (by decide +kernel)) rfl
theorem m_9 : Cond.methodLink "EventLineDeskLaw" 9 y_D_init ∈ gw := gw_t (List.mem_of_getElem? (i := 9) (by decide +kernel)) rfl
theorem m_10 : Cond.instanceMethod y_D_init ∈ gw := gw_t (List.mem_of_getElem? (i := 10) (by decide +kernel)) rfl
theorem m_11 : Cond.code y_D_init prog_1_method_1_code 1 (Option.none : Option FieldType) ∈ gw := gw_t (List.mem_of_getElem? (i := 11) rfl) rfl
theorem m_12 : Cond.methodLink "EventLineDesk" 1 objectInit ∈ gw := gw_t (List.mem_of_getElem? (i := 12) (by decide +kernel)) rfl
theorem m_13 : Cond.instanceMethod objectInit ∈ gw := gw_t (List.mem_of_getElem? (i := 13) (by decide +kernel)) rfl
theorem m_14 : Cond.code objectInit object_method_1_code 1 (Option.none : Option FieldType) ∈ gw := gw_t (List.mem_of_getElem? (i := 14) rfl) rfl
theorem m_15 : Cond.methodLink "EventLineDesk" 7 y_K_values ∈ gw := gw_t (List.mem_of_getElem? (i := 15) (by decide +kernel)) rfl
theorem m_16 : Cond.static y_K_values ∈ gw := gw_t (List.mem_of_getElem? (i := 16) (by decide +kernel)) rfl
theorem m_17 : Cond.code y_K_values prog_2_method_1_code 0 (Option.some (FieldType.array (FieldType.object "EventLineDesk$LineKind"))) ∈ gw := gw_t (List.mem_of_getElem? (i := 17) rfl) rfl
theorem m_18 : Cond.fieldLink "EventLineDesk$LineKind" 19 "EventLineDesk$LineKind" "$VALUES" "[LEventLineDesk$LineKind;" ∈ gw := gw_t (List.mem_of_getElem? (i := 18) (by decide +kernel)) rfl
theorem m_19 : Cond.laysStatic "EventLineDesk$LineKind" "$VALUES" "[LEventLineDesk$LineKind;" ∈ tables_1 := List.mem_of_getElem? (i := 19) (by decide +kernel)
theorem m_20 : Cond.methodLink "EventLineDesk$LineKind" 23 ⟨"[LEventLineDesk$LineKind;", "clone", "()Ljava/lang/Object;"⟩ ∈ gw := gw_t (List.mem_of_getElem? (i := 20) (by decide +kernel)) rfl
theorem m_21 : Cond.sameMethod "[LEventLineDesk$LineKind;" "java/lang/Object" "clone" "()Ljava/lang/Object;" ∈ gw := gw_t (List.mem_of_getElem? (i := 21) (by decide +kernel)) rfl
theorem m_22 : Cond.native ⟨"java/lang/Object", "clone", "()Ljava/lang/Object;"⟩ ∈ gw := gw_t (List.mem_of_getElem? (i := 22) (by decide +kernel)) rfl
theorem m_23 : Cond.instanceMethod ⟨"java/lang/Object", "clone", "()Ljava/lang/Object;"⟩ ∈ gw := gw_t (List.mem_of_getElem? (i := 23) (by decide +kernel)) rfl
theorem m_24 : Cond.selects "[LEventLineDesk$LineKind;" ⟨"[LEventLineDesk$LineKind;", "clone", "()Ljava/lang/Object;"⟩ ⟨"java/lang/Object", "clone", "()Ljava/lang/Object;"⟩ ∈ gw := gw_t (List.mem_of_getElem? (i := 24) (by decide +kernel)) rfl
theorem m_25 : Cond.castable "[LEventLineDesk$LineKind;" "java/lang/Cloneable" ∈ tables_1 := List.mem_of_getElem? (i := 25) (by decide +kernel)
theorem m_26 : Cond.arrayOver (FieldType.object "EventLineDesk$LineKind") ∈ tables_1 := List.mem_of_getElem? (i := 26) (by decide +kernel)
theorem m_27 : Cond.classLink "EventLineDesk$LineKind" 24 "[LEventLineDesk$LineKind;" ∈ gw := gw_t (List.mem_of_getElem? (i := 27) (by decide +kernel)) rfl
theorem m_28 : Cond.classLink "EventLineDesk" 19 "EventLineDesk$Lines" ∈ gw := gw_t (List.mem_of_getElem? (i := 28) (by decide +kernel)) rfl
theorem m_29 : Cond.instantiable "EventLineDesk$Lines" 7 ∈ gw := gw_t (List.mem_of_getElem? (i := 29) (by decide +kernel)) rfl
theorem m_30 : Cond.methodLink "EventLineDesk" 21 y_L_init ∈ gw := gw_t (List.mem_of_getElem? (i := 30) (by decide +kernel)) rfl
theorem m_31 : Cond.instanceMethod y_L_init ∈ gw := gw_t (List.mem_of_getElem? (i := 31) (by decide +kernel)) rfl
theorem m_32 : Cond.code y_L_init prog_3_method_1_code 2 (Option.none : Option FieldType) ∈ gw := gw_t (List.mem_of_getElem? (i := 32) rfl) rfl
theorem m_33 : Cond.methodLink "EventLineDesk$Lines" 1 objectInit ∈ gw := gw_t (List.mem_of_getElem? (i := 33) (by decide +kernel)) rfl
theorem m_34 : Cond.fieldLink "EventLineDesk$Lines" 13 "EventLineDesk$Lines" "bytes" "[B" ∈ gw := gw_t (List.mem_of_getElem? (i := 34) (by decide +kernel)) rfl
theorem m_35 : Cond.fieldLinkNest "EventLineDesk" 39 "EventLineDesk$Lines" "open" "LEventLineDesk$LineKind;" "EventLineDesk" ∈ tables_1 := List.mem_of_getElem? (i := 35) (by decide +kernel)
theorem m_36 : Cond.fieldLink "EventLineDesk$Lines" 17 "EventLineDesk$Lines" "open" "LEventLineDesk$LineKind;" ∈ gw := gw_t (List.mem_of_getElem? (i := 36) (by decide +kernel)) rfl
theorem m_37 : Cond.fieldLink "EventLineDesk$Lines" 21 "EventLineDesk$Lines" "size" "I" ∈ gw := gw_t (List.mem_of_getElem? (i := 37) (by decide +kernel)) rfl
theorem m_38 : Cond.fieldLinkNest "EventLineDesk" 69 "EventLineDesk$Lines" "size" "I" "EventLineDesk" ∈ tables_1 := List.mem_of_getElem? (i := 38) (by decide +kernel)
theorem m_39 : Cond.fieldLink "EventLineDesk$Lines" 25 "EventLineDesk$Lines" "from" "I" ∈ gw := gw_t (List.mem_of_getElem? (i := 39) (by decide +kernel)) rfl
theorem m_40 : Cond.fieldLinkNest "EventLineDesk" 75 "EventLineDesk$Lines" "from" "I" "EventLineDesk" ∈ tables_1 := List.mem_of_getElem? (i := 40) (by decide +kernel)
theorem m_41 : Cond.fieldLink "EventLineDesk$Lines" 28 "EventLineDesk$Lines" "taken" "I" ∈ gw := gw_t (List.mem_of_getElem? (i := 41) (by decide +kernel)) rfl
theorem m_42 : Cond.fieldLink "EventLineDesk$Lines" 31 "EventLineDesk$Lines" "lines" "I" ∈ gw := gw_t (List.mem_of_getElem? (i := 42) (by decide +kernel)) rfl
theorem m_43 : Cond.fieldLinkNest "EventLineDesk" 73 "EventLineDesk$Lines" "lines" "I" "EventLineDesk" ∈ tables_1 := List.mem_of_getElem? (i := 43) (by decide +kernel)
theorem m_44 : Cond.fieldLink "EventLineDesk$Lines" 7 "EventLineDesk$Lines" "whole" "Z" ∈ gw := gw_t (List.mem_of_getElem? (i := 44) (by decide +kernel)) rfl
theorem m_45 : Cond.laysFinal "EventLineDesk$Lines" "EventLineDesk$Lines" "bytes" "[B" ∈ gw := gw_t (List.mem_of_getElem? (i := 45) (by decide +kernel)) rfl
theorem m_46 : Cond.soleField "EventLineDesk$Lines" "bytes" ∈ gw := gw_t (List.mem_of_getElem? (i := 46) (by decide +kernel)) rfl
theorem m_47 : Cond.lays "EventLineDesk$Lines" "EventLineDesk$Lines" "open" "LEventLineDesk$LineKind;" ∈ gw := gw_t (List.mem_of_getElem? (i := 47) (by decide +kernel)) rfl
theorem m_48 : Cond.soleField "EventLineDesk$Lines" "open" ∈ gw := gw_t (List.mem_of_getElem? (i := 48) (by decide +kernel)) rfl
theorem m_49 : Cond.lays "EventLineDesk$Lines" "EventLineDesk$Lines" "size" "I" ∈ gw := gw_t (List.mem_of_getElem? (i := 49) (by decide +kernel)) rfl
theorem m_50 : Cond.soleField "EventLineDesk$Lines" "size" ∈ gw := gw_t (List.mem_of_getElem? (i := 50) (by decide +kernel)) rfl
theorem m_51 : Cond.lays "EventLineDesk$Lines" "EventLineDesk$Lines" "from" "I" ∈ gw := gw_t (List.mem_of_getElem? (i := 51) (by decide +kernel)) rfl
theorem m_52 : Cond.soleField "EventLineDesk$Lines" "from" ∈ gw := gw_t (List.mem_of_getElem? (i := 52) (by decide +kernel)) rfl
theorem m_53 : Cond.lays "EventLineDesk$Lines" "EventLineDesk$Lines" "taken" "I" ∈ gw := gw_t (List.mem_of_getElem? (i := 53) (by decide +kernel)) rfl
theorem m_54 : Cond.soleField "EventLineDesk$Lines" "taken" ∈ gw := gw_t (List.mem_of_getElem? (i := 54) (by decide +kernel)) rfl
theorem m_55 : Cond.lays "EventLineDesk$Lines" "EventLineDesk$Lines" "lines" "I" ∈ gw := gw_t (List.mem_of_getElem? (i := 55) (by decide +kernel)) rfl
theorem m_56 : Cond.soleField "EventLineDesk$Lines" "lines" ∈ gw := gw_t (List.mem_of_getElem? (i := 56) (by decide +kernel)) rfl
theorem m_57 : Cond.lays "EventLineDesk$Lines" "EventLineDesk$Lines" "whole" "Z" ∈ gw := gw_t (List.mem_of_getElem? (i := 57) (by decide +kernel)) rfl
theorem m_58 : Cond.soleField "EventLineDesk$Lines" "whole" ∈ gw := gw_t (List.mem_of_getElem? (i := 58) (by decide +kernel)) rfl
theorem m_59 : Cond.superclass "EventLineDesk$Lines" "java/lang/Object" ∈ gw := gw_t (List.mem_of_getElem? (i := 59) (by decide +kernel)) rfl
theorem m_60 : Cond.arrayClass FieldType.byte ∈ gw := gw_t (List.mem_of_getElem? (i := 60) (by decide +kernel)) rfl
theorem m_61 : Cond.fieldLink "EventLineDesk" 13 "EventLineDesk" "kinds" "[LEventLineDesk$LineKind;" ∈ gw := gw_t (List.mem_of_getElem? (i := 61) (by decide +kernel)) rfl
theorem m_62 : Cond.fieldLink "EventLineDesk" 24 "EventLineDesk" "lines" "LEventLineDesk$Lines;" ∈ gw := gw_t (List.mem_of_getElem? (i := 62) (by decide +kernel)) rfl
theorem m_63 : Cond.laysFinal "EventLineDesk" "EventLineDesk" "kinds" "[LEventLineDesk$LineKind;" ∈ gw := gw_t (List.mem_of_getElem? (i := 63) (by decide +kernel)) rfl
theorem m_64 : Cond.soleField "EventLineDesk" "kinds" ∈ gw := gw_t (List.mem_of_getElem? (i := 64) (by decide +kernel)) rfl
theorem m_65 : Cond.laysFinal "EventLineDesk" "EventLineDesk" "lines" "LEventLineDesk$Lines;" ∈ gw := gw_t (List.mem_of_getElem? (i := 65) (by decide +kernel)) rfl
theorem m_66 : Cond.soleField "EventLineDesk" "lines" ∈ gw := gw_t (List.mem_of_getElem? (i := 66) (by decide +kernel)) rfl
theorem m_67 : Cond.superclass "EventLineDesk" "java/lang/Object" ∈ gw := gw_t (List.mem_of_getElem? (i := 67) (by decide +kernel)) rfl
theorem m_68 : Cond.methodLink "EventLineDeskLaw" 13 y_D_begin ∈ gw := gw_t (List.mem_of_getElem? (i := 68) (by decide +kernel)) rfl
theorem m_69 : Cond.instanceMethod y_D_begin ∈ gw := gw_t (List.mem_of_getElem? (i := 69) (by decide +kernel)) rfl
theorem m_70 : Cond.selects "EventLineDesk" y_D_begin y_D_begin ∈ gw := gw_t (List.mem_of_getElem? (i := 70) (by decide +kernel)) rfl
theorem m_71 : Cond.code y_D_begin prog_1_method_3_code 2 (Option.some FieldType.boolean) ∈ gw := gw_t (List.mem_of_getElem? (i := 71) rfl) rfl
theorem m_72 : Cond.methodLink "EventLineDesk" 31 y_L_begin ∈ gw := gw_t (List.mem_of_getElem? (i := 72) (by decide +kernel)) rfl
theorem m_73 : Cond.instanceMethod y_L_begin ∈ gw := gw_t (List.mem_of_getElem? (i := 73) (by decide +kernel)) rfl
theorem m_74 : Cond.selects "EventLineDesk$Lines" y_L_begin y_L_begin ∈ gw := gw_t (List.mem_of_getElem? (i := 74) (by decide +kernel)) rfl
theorem m_75 : Cond.code y_L_begin prog_3_method_5_code 3 (Option.some FieldType.boolean) ∈ gw := gw_t (List.mem_of_getElem? (i := 75) rfl) rfl
theorem m_76 : Cond.methodLink "EventLineDesk$Lines" 34 y_L_hasRoom ∈ gw := gw_t (List.mem_of_getElem? (i := 76) (by decide +kernel)) rfl
theorem m_77 : Cond.privateMethod y_L_hasRoom ∈ tables_1 := List.mem_of_getElem? (i := 77) (by decide +kernel)
theorem m_78 : Cond.instanceMethod y_L_hasRoom ∈ gw := gw_t (List.mem_of_getElem? (i := 78) (by decide +kernel)) rfl
theorem m_79 : Cond.code y_L_hasRoom prog_3_method_3_code 2 (Option.some FieldType.boolean) ∈ gw := gw_t (List.mem_of_getElem? (i := 79) rfl) rfl
theorem m_80 : Cond.methodLink "EventLineDesk$Lines" 38 y_L_end ∈ gw := gw_t (List.mem_of_getElem? (i := 80) (by decide +kernel)) rfl
theorem m_81 : Cond.instanceMethod y_L_end ∈ gw := gw_t (List.mem_of_getElem? (i := 81) (by decide +kernel)) rfl
theorem m_82 : Cond.selects "EventLineDesk$Lines" y_L_end y_L_end ∈ gw := gw_t (List.mem_of_getElem? (i := 82) (by decide +kernel)) rfl
theorem m_83 : Cond.code y_L_end prog_3_method_6_code 1 (Option.none : Option FieldType) ∈ gw := gw_t (List.mem_of_getElem? (i := 83) rfl) rfl
theorem m_84 : Cond.methodLink "EventLineDesk$Lines" 46 y_L_put ∈ gw := gw_t (List.mem_of_getElem? (i := 84) (by decide +kernel)) rfl
theorem m_85 : Cond.privateMethod y_L_put ∈ tables_1 := List.mem_of_getElem? (i := 85) (by decide +kernel)
theorem m_86 : Cond.instanceMethod y_L_put ∈ gw := gw_t (List.mem_of_getElem? (i := 86) (by decide +kernel)) rfl
theorem m_87 : Cond.code y_L_put prog_3_method_4_code 2 (Option.none : Option FieldType) ∈ gw := gw_t (List.mem_of_getElem? (i := 87) rfl) rfl
theorem m_88 : Cond.methodLink "EventLineDeskLaw" 18 y_D_add ∈ gw := gw_t (List.mem_of_getElem? (i := 88) (by decide +kernel)) rfl
theorem m_89 : Cond.instanceMethod y_D_add ∈ gw := gw_t (List.mem_of_getElem? (i := 89) (by decide +kernel)) rfl
theorem m_90 : Cond.selects "EventLineDesk" y_D_add y_D_add ∈ gw := gw_t (List.mem_of_getElem? (i := 90) (by decide +kernel)) rfl
theorem m_91 : Cond.code y_D_add prog_1_method_4_code 2 (Option.some FieldType.boolean) ∈ gw := gw_t (List.mem_of_getElem? (i := 91) rfl) rfl
theorem m_92 : Cond.methodLink "EventLineDesk" 35 y_D_isCharacter ∈ gw := gw_t (List.mem_of_getElem? (i := 92) (by decide +kernel)) rfl
theorem m_93 : Cond.static y_D_isCharacter ∈ gw := gw_t (List.mem_of_getElem? (i := 93) (by decide +kernel)) rfl
theorem m_94 : Cond.code y_D_isCharacter prog_1_method_2_code 1 (Option.some FieldType.boolean) ∈ gw := gw_t (List.mem_of_getElem? (i := 94) rfl) rfl
theorem m_95 : Cond.constant "EventLineDesk" 28 (1114111 : Int32) ∈ gw := gw_t (List.mem_of_getElem? (i := 95) (by decide +kernel)) rfl
theorem m_96 : Cond.constant "EventLineDesk" 29 (55296 : Int32) ∈ gw := gw_t (List.mem_of_getElem? (i := 96) (by decide +kernel)) rfl
theorem m_97 : Cond.constant "EventLineDesk" 30 (57343 : Int32) ∈ gw := gw_t (List.mem_of_getElem? (i := 97) (by decide +kernel)) rfl
theorem m_98 : Cond.fieldLink "EventLineDesk" 43 "EventLineDesk$LineKind" "TEXT" "LEventLineDesk$LineKind;" ∈ gw := gw_t (List.mem_of_getElem? (i := 98) (by decide +kernel)) rfl
theorem m_99 : Cond.laysStatic "EventLineDesk$LineKind" "TEXT" "LEventLineDesk$LineKind;" ∈ tables_1 := List.mem_of_getElem? (i := 99) (by decide +kernel)
theorem m_100 : Cond.methodLink "EventLineDesk" 46 y_L_add ∈ gw := gw_t (List.mem_of_getElem? (i := 100) (by decide +kernel)) rfl
theorem m_101 : Cond.instanceMethod y_L_add ∈ gw := gw_t (List.mem_of_getElem? (i := 101) (by decide +kernel)) rfl
theorem m_102 : Cond.selects "EventLineDesk$Lines" y_L_add y_L_add ∈ gw := gw_t (List.mem_of_getElem? (i := 102) (by decide +kernel)) rfl
theorem m_103 : Cond.code y_L_add prog_3_method_9_code 4 (Option.some FieldType.boolean) ∈ gw := gw_t (List.mem_of_getElem? (i := 103) rfl) rfl
theorem m_104 : Cond.methodLink "EventLineDesk$Lines" 54 y_L_bytesOf ∈ gw := gw_t (List.mem_of_getElem? (i := 104) (by decide +kernel)) rfl
theorem m_105 : Cond.static y_L_bytesOf ∈ gw := gw_t (List.mem_of_getElem? (i := 105) (by decide +kernel)) rfl
theorem m_106 : Cond.code y_L_bytesOf prog_3_method_8_code 1 (Option.some FieldType.int) ∈ gw := gw_t (List.mem_of_getElem? (i := 106) rfl) rfl
theorem m_107 : Cond.methodLink "EventLineDesk$Lines" 50 y_L_letter ∈ gw := gw_t (List.mem_of_getElem? (i := 107) (by decide +kernel)) rfl
theorem m_108 : Cond.static y_L_letter ∈ gw := gw_t (List.mem_of_getElem? (i := 108) (by decide +kernel)) rfl
theorem m_109 : Cond.code y_L_letter prog_3_method_7_code 1 (Option.some FieldType.int) ∈ gw := gw_t (List.mem_of_getElem? (i := 109) rfl) rfl
theorem m_110 : Cond.constant "EventLineDesk$Lines" 53 (65536 : Int32) ∈ gw := gw_t (List.mem_of_getElem? (i := 110) (by decide +kernel)) rfl
theorem m_111 : Cond.methodLink "EventLineDeskLaw" 22 y_D_text ∈ gw := gw_t (List.mem_of_getElem? (i := 111) (by decide +kernel)) rfl
theorem m_112 : Cond.instanceMethod y_D_text ∈ gw := gw_t (List.mem_of_getElem? (i := 112) (by decide +kernel)) rfl
theorem m_113 : Cond.selects "EventLineDesk" y_D_text y_D_text ∈ gw := gw_t (List.mem_of_getElem? (i := 113) (by decide +kernel)) rfl
theorem m_114 : Cond.code y_D_text prog_1_method_5_code 2 (Option.some FieldType.boolean) ∈ gw := gw_t (List.mem_of_getElem? (i := 114) rfl) rfl
theorem m_115 : Cond.methodLink "EventLineDesk" 49 y_L_text ∈ gw := gw_t (List.mem_of_getElem? (i := 115) (by decide +kernel)) rfl
theorem m_116 : Cond.instanceMethod y_L_text ∈ gw := gw_t (List.mem_of_getElem? (i := 116) (by decide +kernel)) rfl
theorem m_117 : Cond.selects "EventLineDesk$Lines" y_L_text y_L_text ∈ gw := gw_t (List.mem_of_getElem? (i := 117) (by decide +kernel)) rfl
theorem m_118 : Cond.code y_L_text prog_3_method_10_code 3 (Option.some FieldType.boolean) ∈ gw := gw_t (List.mem_of_getElem? (i := 118) rfl) rfl
theorem m_119 : Cond.fieldLink "EventLineDesk$Lines" 57 "EventLineDesk$LineKind" "TEXT" "LEventLineDesk$LineKind;" ∈ gw := gw_t (List.mem_of_getElem? (i := 119) (by decide +kernel)) rfl
theorem m_120 : Cond.methodLink "EventLineDesk$Lines" 60 y_L_add ∈ gw := gw_t (List.mem_of_getElem? (i := 120) (by decide +kernel)) rfl
theorem m_121 : Cond.methodLink "EventLineDesk$Lines" 63 y_L_begin ∈ gw := gw_t (List.mem_of_getElem? (i := 121) (by decide +kernel)) rfl
theorem m_122 : Cond.methodLink "EventLineDeskLaw" 26 y_D_end ∈ gw := gw_t (List.mem_of_getElem? (i := 122) (by decide +kernel)) rfl
theorem m_123 : Cond.instanceMethod y_D_end ∈ gw := gw_t (List.mem_of_getElem? (i := 123) (by decide +kernel)) rfl
theorem m_124 : Cond.selects "EventLineDesk" y_D_end y_D_end ∈ gw := gw_t (List.mem_of_getElem? (i := 124) (by decide +kernel)) rfl
theorem m_125 : Cond.code y_D_end prog_1_method_6_code 2 (Option.some FieldType.int) ∈ gw := gw_t (List.mem_of_getElem? (i := 125) rfl) rfl
theorem m_126 : Cond.methodLink "EventLineDesk" 52 ⟨"EventLineDesk$LineKind", "ordinal", "()I"⟩ ∈ gw := gw_t (List.mem_of_getElem? (i := 126) (by decide +kernel)) rfl
theorem m_127 : Cond.sameMethod "EventLineDesk$LineKind" "java/lang/Enum" "ordinal" "()I" ∈ gw := gw_t (List.mem_of_getElem? (i := 127) (by decide +kernel)) rfl
theorem m_128 : Cond.declares y_E_ordinal ∈ tables_1 := List.mem_of_getElem? (i := 128) (by decide +kernel)
theorem m_129 : Cond.selects "EventLineDesk$LineKind" ⟨"EventLineDesk$LineKind", "ordinal", "()I"⟩ y_E_ordinal ∈ gw := gw_t (List.mem_of_getElem? (i := 129) (by decide +kernel)) rfl
theorem m_130 : Cond.instanceMethod y_E_ordinal ∈ gw := gw_t (List.mem_of_getElem? (i := 130) (by decide +kernel)) rfl
theorem m_131 : Cond.code y_E_ordinal prog_7_method_2_code 1 (Option.some FieldType.int) ∈ gw := gw_t (List.mem_of_getElem? (i := 131) rfl) rfl
theorem m_132 : Cond.methodLink "EventLineDesk" 56 y_L_end ∈ gw := gw_t (List.mem_of_getElem? (i := 132) (by decide +kernel)) rfl
theorem m_133 : Cond.methodLink "EventLineDeskLaw" 31 y_D_back ∈ gw := gw_t (List.mem_of_getElem? (i := 133) (by decide +kernel)) rfl
theorem m_134 : Cond.instanceMethod y_D_back ∈ gw := gw_t (List.mem_of_getElem? (i := 134) (by decide +kernel)) rfl
theorem m_135 : Cond.selects "EventLineDesk" y_D_back y_D_back ∈ gw := gw_t (List.mem_of_getElem? (i := 135) (by decide +kernel)) rfl
theorem m_136 : Cond.code y_D_back prog_1_method_7_code 2 (Option.some FieldType.boolean) ∈ gw := gw_t (List.mem_of_getElem? (i := 136) rfl) rfl
theorem m_137 : Cond.methodLink "EventLineDesk" 59 y_L_back ∈ gw := gw_t (List.mem_of_getElem? (i := 137) (by decide +kernel)) rfl
theorem m_138 : Cond.instanceMethod y_L_back ∈ gw := gw_t (List.mem_of_getElem? (i := 138) (by decide +kernel)) rfl
theorem m_139 : Cond.selects "EventLineDesk$Lines" y_L_back y_L_back ∈ gw := gw_t (List.mem_of_getElem? (i := 139) (by decide +kernel)) rfl
theorem m_140 : Cond.code y_L_back prog_3_method_12_code 5 (Option.some FieldType.boolean) ∈ gw := gw_t (List.mem_of_getElem? (i := 140) rfl) rfl
theorem m_141 : Cond.methodLink "EventLineDeskLaw" 35 y_D_mark ∈ gw := gw_t (List.mem_of_getElem? (i := 141) (by decide +kernel)) rfl
theorem m_142 : Cond.instanceMethod y_D_mark ∈ gw := gw_t (List.mem_of_getElem? (i := 142) (by decide +kernel)) rfl
theorem m_143 : Cond.selects "EventLineDesk" y_D_mark y_D_mark ∈ gw := gw_t (List.mem_of_getElem? (i := 143) (by decide +kernel)) rfl
theorem m_144 : Cond.code y_D_mark prog_1_method_8_code 1 (Option.some FieldType.int) ∈ gw := gw_t (List.mem_of_getElem? (i := 144) rfl) rfl
theorem m_145 : Cond.methodLink "EventLineDesk" 62 y_L_mark ∈ gw := gw_t (List.mem_of_getElem? (i := 145) (by decide +kernel)) rfl
theorem m_146 : Cond.instanceMethod y_L_mark ∈ gw := gw_t (List.mem_of_getElem? (i := 146) (by decide +kernel)) rfl
theorem m_147 : Cond.selects "EventLineDesk$Lines" y_L_mark y_L_mark ∈ gw := gw_t (List.mem_of_getElem? (i := 147) (by decide +kernel)) rfl
theorem m_148 : Cond.code y_L_mark prog_3_method_11_code 1 (Option.some FieldType.int) ∈ gw := gw_t (List.mem_of_getElem? (i := 148) rfl) rfl
theorem m_149 : Cond.methodLink "EventLineDeskLaw" 39 y_D_take ∈ gw := gw_t (List.mem_of_getElem? (i := 149) (by decide +kernel)) rfl
theorem m_150 : Cond.instanceMethod y_D_take ∈ gw := gw_t (List.mem_of_getElem? (i := 150) (by decide +kernel)) rfl
theorem m_151 : Cond.selects "EventLineDesk" y_D_take y_D_take ∈ gw := gw_t (List.mem_of_getElem? (i := 151) (by decide +kernel)) rfl
theorem m_152 : Cond.code y_D_take prog_1_method_9_code 1 (Option.some FieldType.long) ∈ gw := gw_t (List.mem_of_getElem? (i := 152) rfl) rfl
theorem m_153 : Cond.methodLink "EventLineDesk" 65 y_L_take ∈ gw := gw_t (List.mem_of_getElem? (i := 153) (by decide +kernel)) rfl
theorem m_154 : Cond.instanceMethod y_L_take ∈ gw := gw_t (List.mem_of_getElem? (i := 154) (by decide +kernel)) rfl
theorem m_155 : Cond.selects "EventLineDesk$Lines" y_L_take y_L_take ∈ gw := gw_t (List.mem_of_getElem? (i := 155) (by decide +kernel)) rfl
theorem m_156 : Cond.code y_L_take prog_3_method_13_code 5 (Option.some FieldType.long) ∈ gw := gw_t (List.mem_of_getElem? (i := 156) rfl) rfl
theorem m_157 : Cond.methodLink "EventLineDesk$Lines" 67 y_Ma_min ∈ gw := gw_t (List.mem_of_getElem? (i := 157) (by decide +kernel)) rfl
theorem m_158 : Cond.static y_Ma_min ∈ gw := gw_t (List.mem_of_getElem? (i := 158) (by decide +kernel)) rfl
theorem m_159 : Cond.code y_Ma_min prog_8_method_69_code 2 (Option.some FieldType.int) ∈ gw := gw_t (List.mem_of_getElem? (i := 159) rfl) rfl
theorem m_160 : Cond.constantLong "EventLineDesk$Lines" 73 (255 : Int64) ∈ gw := gw_t (List.mem_of_getElem? (i := 160) (by decide +kernel)) rfl
theorem m_161 : Cond.methodLink "EventLineDeskLaw" 44 y_D_count ∈ gw := gw_t (List.mem_of_getElem? (i := 161) (by decide +kernel)) rfl
theorem m_162 : Cond.instanceMethod y_D_count ∈ gw := gw_t (List.mem_of_getElem? (i := 162) (by decide +kernel)) rfl
theorem m_163 : Cond.selects "EventLineDesk" y_D_count y_D_count ∈ gw := gw_t (List.mem_of_getElem? (i := 163) (by decide +kernel)) rfl
theorem m_164 : Cond.code y_D_count prog_1_method_10_code 2 (Option.some FieldType.int) ∈ gw := gw_t (List.mem_of_getElem? (i := 164) rfl) rfl
theorem m_165 : Cond.classLink "EventLineDeskLaw" 10 "EventLineDeskModel" ∈ gw := gw_t (List.mem_of_getElem? (i := 165) (by decide +kernel)) rfl
theorem m_166 : Cond.instantiable "EventLineDeskModel" 9 ∈ gw := gw_t (List.mem_of_getElem? (i := 166) (by decide +kernel)) rfl
theorem m_167 : Cond.methodLink "EventLineDeskLaw" 12 y_M_init ∈ gw := gw_t (List.mem_of_getElem? (i := 167) (by decide +kernel)) rfl
theorem m_168 : Cond.instanceMethod y_M_init ∈ gw := gw_t (List.mem_of_getElem? (i := 168) (by decide +kernel)) rfl
theorem m_169 : Cond.code y_M_init prog_5_method_1_code 1 (Option.none : Option FieldType) ∈ gw := gw_t (List.mem_of_getElem? (i := 169) rfl) rfl
theorem m_170 : Cond.methodLink "EventLineDeskModel" 1 objectInit ∈ gw := gw_t (List.mem_of_getElem? (i := 170) (by decide +kernel)) rfl
theorem m_171 : Cond.fieldLink "EventLineDeskModel" 7 "EventLineDeskModel" "row" "[I" ∈ gw := gw_t (List.mem_of_getElem? (i := 171) (by decide +kernel)) rfl
theorem m_172 : Cond.fieldLink "EventLineDeskModel" 23 "EventLineDeskModel" "size" "I" ∈ gw := gw_t (List.mem_of_getElem? (i := 172) (by decide +kernel)) rfl
theorem m_173 : Cond.fieldLink "EventLineDeskModel" 26 "EventLineDeskModel" "open" "I" ∈ gw := gw_t (List.mem_of_getElem? (i := 173) (by decide +kernel)) rfl
theorem m_174 : Cond.fieldLink "EventLineDeskModel" 13 "EventLineDeskModel" "kind" "I" ∈ gw := gw_t (List.mem_of_getElem? (i := 174) (by decide +kernel)) rfl
theorem m_175 : Cond.fieldLink "EventLineDeskModel" 50 "EventLineDeskModel" "taken" "I" ∈ gw := gw_t (List.mem_of_getElem? (i := 175) (by decide +kernel)) rfl
theorem m_176 : Cond.fieldLink "EventLineDeskModel" 17 "EventLineDeskModel" "last" "I" ∈ gw := gw_t (List.mem_of_getElem? (i := 176) (by decide +kernel)) rfl
theorem m_177 : Cond.fieldLink "EventLineDeskModel" 53 "EventLineDeskModel" "lines" "I" ∈ gw := gw_t (List.mem_of_getElem? (i := 177) (by decide +kernel)) rfl
theorem m_178 : Cond.fieldLink "EventLineDeskModel" 20 "EventLineDeskModel" "bytes" "[I" ∈ gw := gw_t (List.mem_of_getElem? (i := 178) (by decide +kernel)) rfl
theorem m_179 : Cond.fieldLink "EventLineDeskModel" 33 "EventLineDeskModel" "many" "I" ∈ gw := gw_t (List.mem_of_getElem? (i := 179) (by decide +kernel)) rfl
theorem m_180 : Cond.laysFinal "EventLineDeskModel" "EventLineDeskModel" "row" "[I" ∈ gw := gw_t (List.mem_of_getElem? (i := 180) (by decide +kernel)) rfl
theorem m_181 : Cond.soleField "EventLineDeskModel" "row" ∈ gw := gw_t (List.mem_of_getElem? (i := 181) (by decide +kernel)) rfl
theorem m_182 : Cond.lays "EventLineDeskModel" "EventLineDeskModel" "size" "I" ∈ gw := gw_t (List.mem_of_getElem? (i := 182) (by decide +kernel)) rfl
theorem m_183 : Cond.soleField "EventLineDeskModel" "size" ∈ gw := gw_t (List.mem_of_getElem? (i := 183) (by decide +kernel)) rfl
theorem m_184 : Cond.lays "EventLineDeskModel" "EventLineDeskModel" "open" "I" ∈ gw := gw_t (List.mem_of_getElem? (i := 184) (by decide +kernel)) rfl
theorem m_185 : Cond.soleField "EventLineDeskModel" "open" ∈ gw := gw_t (List.mem_of_getElem? (i := 185) (by decide +kernel)) rfl
theorem m_186 : Cond.lays "EventLineDeskModel" "EventLineDeskModel" "kind" "I" ∈ gw := gw_t (List.mem_of_getElem? (i := 186) (by decide +kernel)) rfl
theorem m_187 : Cond.soleField "EventLineDeskModel" "kind" ∈ gw := gw_t (List.mem_of_getElem? (i := 187) (by decide +kernel)) rfl
theorem m_188 : Cond.lays "EventLineDeskModel" "EventLineDeskModel" "taken" "I" ∈ gw := gw_t (List.mem_of_getElem? (i := 188) (by decide +kernel)) rfl
theorem m_189 : Cond.soleField "EventLineDeskModel" "taken" ∈ gw := gw_t (List.mem_of_getElem? (i := 189) (by decide +kernel)) rfl
theorem m_190 : Cond.lays "EventLineDeskModel" "EventLineDeskModel" "last" "I" ∈ gw := gw_t (List.mem_of_getElem? (i := 190) (by decide +kernel)) rfl
theorem m_191 : Cond.soleField "EventLineDeskModel" "last" ∈ gw := gw_t (List.mem_of_getElem? (i := 191) (by decide +kernel)) rfl
theorem m_192 : Cond.lays "EventLineDeskModel" "EventLineDeskModel" "lines" "I" ∈ gw := gw_t (List.mem_of_getElem? (i := 192) (by decide +kernel)) rfl
theorem m_193 : Cond.soleField "EventLineDeskModel" "lines" ∈ gw := gw_t (List.mem_of_getElem? (i := 193) (by decide +kernel)) rfl
theorem m_194 : Cond.laysFinal "EventLineDeskModel" "EventLineDeskModel" "bytes" "[I" ∈ gw := gw_t (List.mem_of_getElem? (i := 194) (by decide +kernel)) rfl
theorem m_195 : Cond.soleField "EventLineDeskModel" "bytes" ∈ gw := gw_t (List.mem_of_getElem? (i := 195) (by decide +kernel)) rfl
theorem m_196 : Cond.lays "EventLineDeskModel" "EventLineDeskModel" "many" "I" ∈ gw := gw_t (List.mem_of_getElem? (i := 196) (by decide +kernel)) rfl
theorem m_197 : Cond.soleField "EventLineDeskModel" "many" ∈ gw := gw_t (List.mem_of_getElem? (i := 197) (by decide +kernel)) rfl
theorem m_198 : Cond.superclass "EventLineDeskModel" "java/lang/Object" ∈ gw := gw_t (List.mem_of_getElem? (i := 198) (by decide +kernel)) rfl
theorem m_199 : Cond.arrayClass FieldType.int ∈ gw := gw_t (List.mem_of_getElem? (i := 199) (by decide +kernel)) rfl
theorem m_200 : Cond.methodLink "EventLineDeskLaw" 17 y_M_begin ∈ gw := gw_t (List.mem_of_getElem? (i := 200) (by decide +kernel)) rfl
theorem m_201 : Cond.instanceMethod y_M_begin ∈ gw := gw_t (List.mem_of_getElem? (i := 201) (by decide +kernel)) rfl
theorem m_202 : Cond.selects "EventLineDeskModel" y_M_begin y_M_begin ∈ gw := gw_t (List.mem_of_getElem? (i := 202) (by decide +kernel)) rfl
theorem m_203 : Cond.code y_M_begin prog_5_method_6_code 2 (Option.some FieldType.boolean) ∈ gw := gw_t (List.mem_of_getElem? (i := 203) rfl) rfl
theorem m_204 : Cond.methodLink "EventLineDeskModel" 43 y_M_start ∈ gw := gw_t (List.mem_of_getElem? (i := 204) (by decide +kernel)) rfl
theorem m_205 : Cond.privateMethod y_M_start ∈ tables_1 := List.mem_of_getElem? (i := 205) (by decide +kernel)
theorem m_206 : Cond.instanceMethod y_M_start ∈ gw := gw_t (List.mem_of_getElem? (i := 206) (by decide +kernel)) rfl
theorem m_207 : Cond.code y_M_start prog_5_method_5_code 2 (Option.none : Option FieldType) ∈ gw := gw_t (List.mem_of_getElem? (i := 207) rfl) rfl
theorem m_208 : Cond.methodLink "EventLineDeskModel" 36 y_M_close ∈ gw := gw_t (List.mem_of_getElem? (i := 208) (by decide +kernel)) rfl
theorem m_209 : Cond.privateMethod y_M_close ∈ tables_1 := List.mem_of_getElem? (i := 209) (by decide +kernel)
theorem m_210 : Cond.instanceMethod y_M_close ∈ gw := gw_t (List.mem_of_getElem? (i := 210) (by decide +kernel)) rfl
theorem m_211 : Cond.code y_M_close prog_5_method_4_code 1 (Option.none : Option FieldType) ∈ gw := gw_t (List.mem_of_getElem? (i := 211) rfl) rfl
theorem m_212 : Cond.methodLink "EventLineDeskModel" 39 y_M_put ∈ gw := gw_t (List.mem_of_getElem? (i := 212) (by decide +kernel)) rfl
theorem m_213 : Cond.privateMethod y_M_put ∈ tables_1 := List.mem_of_getElem? (i := 213) (by decide +kernel)
theorem m_214 : Cond.instanceMethod y_M_put ∈ gw := gw_t (List.mem_of_getElem? (i := 214) (by decide +kernel)) rfl
theorem m_215 : Cond.code y_M_put prog_5_method_2_code 2 (Option.none : Option FieldType) ∈ gw := gw_t (List.mem_of_getElem? (i := 215) rfl) rfl
theorem m_216 : Cond.methodLink "EventLineDeskLaw" 21 y_M_add ∈ gw := gw_t (List.mem_of_getElem? (i := 216) (by decide +kernel)) rfl
theorem m_217 : Cond.instanceMethod y_M_add ∈ gw := gw_t (List.mem_of_getElem? (i := 217) (by decide +kernel)) rfl
theorem m_218 : Cond.selects "EventLineDeskModel" y_M_add y_M_add ∈ gw := gw_t (List.mem_of_getElem? (i := 218) (by decide +kernel)) rfl
theorem m_219 : Cond.code y_M_add prog_5_method_7_code 3 (Option.some FieldType.boolean) ∈ gw := gw_t (List.mem_of_getElem? (i := 219) rfl) rfl
theorem m_220 : Cond.methodLink "EventLineDeskModel" 46 y_M_code ∈ gw := gw_t (List.mem_of_getElem? (i := 220) (by decide +kernel)) rfl
theorem m_221 : Cond.privateMethod y_M_code ∈ tables_1 := List.mem_of_getElem? (i := 221) (by decide +kernel)
theorem m_222 : Cond.instanceMethod y_M_code ∈ gw := gw_t (List.mem_of_getElem? (i := 222) (by decide +kernel)) rfl
theorem m_223 : Cond.code y_M_code prog_5_method_3_code 4 (Option.some FieldType.boolean) ∈ gw := gw_t (List.mem_of_getElem? (i := 223) rfl) rfl
theorem m_224 : Cond.constant "EventLineDeskModel" 29 (1114111 : Int32) ∈ gw := gw_t (List.mem_of_getElem? (i := 224) (by decide +kernel)) rfl
theorem m_225 : Cond.constant "EventLineDeskModel" 30 (55296 : Int32) ∈ gw := gw_t (List.mem_of_getElem? (i := 225) (by decide +kernel)) rfl
theorem m_226 : Cond.constant "EventLineDeskModel" 31 (57344 : Int32) ∈ gw := gw_t (List.mem_of_getElem? (i := 226) (by decide +kernel)) rfl
theorem m_227 : Cond.constant "EventLineDeskModel" 32 (65536 : Int32) ∈ gw := gw_t (List.mem_of_getElem? (i := 227) (by decide +kernel)) rfl
theorem m_228 : Cond.methodLink "EventLineDeskLaw" 25 y_M_text ∈ gw := gw_t (List.mem_of_getElem? (i := 228) (by decide +kernel)) rfl
theorem m_229 : Cond.instanceMethod y_M_text ∈ gw := gw_t (List.mem_of_getElem? (i := 229) (by decide +kernel)) rfl
theorem m_230 : Cond.selects "EventLineDeskModel" y_M_text y_M_text ∈ gw := gw_t (List.mem_of_getElem? (i := 230) (by decide +kernel)) rfl
theorem m_231 : Cond.code y_M_text prog_5_method_8_code 4 (Option.some FieldType.boolean) ∈ gw := gw_t (List.mem_of_getElem? (i := 231) rfl) rfl
theorem m_232 : Cond.methodLink "EventLineDeskLaw" 30 y_M_end ∈ gw := gw_t (List.mem_of_getElem? (i := 232) (by decide +kernel)) rfl
theorem m_233 : Cond.instanceMethod y_M_end ∈ gw := gw_t (List.mem_of_getElem? (i := 233) (by decide +kernel)) rfl
theorem m_234 : Cond.selects "EventLineDeskModel" y_M_end y_M_end ∈ gw := gw_t (List.mem_of_getElem? (i := 234) (by decide +kernel)) rfl
theorem m_235 : Cond.code y_M_end prog_5_method_9_code 2 (Option.some FieldType.int) ∈ gw := gw_t (List.mem_of_getElem? (i := 235) rfl) rfl
theorem m_236 : Cond.methodLink "EventLineDeskLaw" 34 y_M_back ∈ gw := gw_t (List.mem_of_getElem? (i := 236) (by decide +kernel)) rfl
theorem m_237 : Cond.instanceMethod y_M_back ∈ gw := gw_t (List.mem_of_getElem? (i := 237) (by decide +kernel)) rfl
theorem m_238 : Cond.selects "EventLineDeskModel" y_M_back y_M_back ∈ gw := gw_t (List.mem_of_getElem? (i := 238) (by decide +kernel)) rfl
theorem m_239 : Cond.code y_M_back prog_5_method_10_code 4 (Option.some FieldType.boolean) ∈ gw := gw_t (List.mem_of_getElem? (i := 239) rfl) rfl
theorem m_240 : Cond.methodLink "EventLineDeskLaw" 38 y_M_mark ∈ gw := gw_t (List.mem_of_getElem? (i := 240) (by decide +kernel)) rfl
theorem m_241 : Cond.instanceMethod y_M_mark ∈ gw := gw_t (List.mem_of_getElem? (i := 241) (by decide +kernel)) rfl
theorem m_242 : Cond.selects "EventLineDeskModel" y_M_mark y_M_mark ∈ gw := gw_t (List.mem_of_getElem? (i := 242) (by decide +kernel)) rfl
theorem m_243 : Cond.code y_M_mark prog_5_method_11_code 1 (Option.some FieldType.int) ∈ gw := gw_t (List.mem_of_getElem? (i := 243) rfl) rfl
theorem m_244 : Cond.methodLink "EventLineDeskLaw" 43 y_M_take ∈ gw := gw_t (List.mem_of_getElem? (i := 244) (by decide +kernel)) rfl
theorem m_245 : Cond.instanceMethod y_M_take ∈ gw := gw_t (List.mem_of_getElem? (i := 245) (by decide +kernel)) rfl
theorem m_246 : Cond.selects "EventLineDeskModel" y_M_take y_M_take ∈ gw := gw_t (List.mem_of_getElem? (i := 246) (by decide +kernel)) rfl
theorem m_247 : Cond.code y_M_take prog_5_method_12_code 5 (Option.some FieldType.long) ∈ gw := gw_t (List.mem_of_getElem? (i := 247) rfl) rfl
theorem m_248 : Cond.methodLink "EventLineDeskLaw" 48 y_M_count ∈ gw := gw_t (List.mem_of_getElem? (i := 248) (by decide +kernel)) rfl
theorem m_249 : Cond.instanceMethod y_M_count ∈ gw := gw_t (List.mem_of_getElem? (i := 249) (by decide +kernel)) rfl
theorem m_250 : Cond.selects "EventLineDeskModel" y_M_count y_M_count ∈ gw := gw_t (List.mem_of_getElem? (i := 250) (by decide +kernel)) rfl
theorem m_251 : Cond.code y_M_count prog_5_method_13_code 4 (Option.some FieldType.int) ∈ gw := gw_t (List.mem_of_getElem? (i := 251) rfl) rfl
theorem m_252 : Cond.fieldLinkNest "EventLineDesk$Lines" 41 "EventLineDesk$LineKind" "letter" "I" "EventLineDesk" ∈ tables_1 := List.mem_of_getElem? (i := 252) (by decide +kernel)
theorem m_253 : Cond.fieldLink "java/lang/Enum" 7 "java/lang/Enum" "ordinal" "I" ∈ gw := gw_t (List.mem_of_getElem? (i := 253) (by decide +kernel)) rfl
theorem m_254 : Cond.laysStatic "EventLineDesk$LineKind" "START" "LEventLineDesk$LineKind;" ∈ tables_1 := List.mem_of_getElem? (i := 254) (by decide +kernel)
theorem m_255 : Cond.laysStatic "EventLineDesk$LineKind" "END" "LEventLineDesk$LineKind;" ∈ tables_1 := List.mem_of_getElem? (i := 255) (by decide +kernel)
theorem m_256 : Cond.laysStatic "EventLineDesk$LineKind" "ATTRIBUTE" "LEventLineDesk$LineKind;" ∈ tables_1 := List.mem_of_getElem? (i := 256) (by decide +kernel)
theorem m_257 : Cond.laysStatic "EventLineDesk$LineKind" "INSTRUCTION" "LEventLineDesk$LineKind;" ∈ tables_1 := List.mem_of_getElem? (i := 257) (by decide +kernel)
theorem s_L_hasRoom : Cond.selects R_L y_L_hasRoom y_L_hasRoom ∈ gw := gw_s (List.mem_of_getElem? (i := 0) rfl) rfl
theorem s_L_put : Cond.selects R_L y_L_put y_L_put ∈ gw := gw_s (List.mem_of_getElem? (i := 1) rfl) rfl
theorem s_M_start : Cond.selects R_M y_M_start y_M_start ∈ gw := gw_s (List.mem_of_getElem? (i := 2) rfl) rfl
theorem s_M_close : Cond.selects R_M y_M_close y_M_close ∈ gw := gw_s (List.mem_of_getElem? (i := 3) rfl) rfl
theorem s_M_put : Cond.selects R_M y_M_put y_M_put ∈ gw := gw_s (List.mem_of_getElem? (i := 4) rfl) rfl
theorem s_M_code : Cond.selects R_M y_M_code y_M_code ∈ gw := gw_s (List.mem_of_getElem? (i := 5) rfl) rfl
theorem i_L : ∀ w ∈ u_ws R_L F_L 7, w ∈ gw := by decide +kernel
theorem i_D : ∀ w ∈ u_ws R_D F_D 2, w ∈ gw := by decide +kernel
theorem i_M : ∀ w ∈ u_ws R_M F_M 9, w ∈ gw := by decide +kernel
end
section
/-! decode rows (printed by gen02.py) -/
theorem d_L_init_0 : decode b_L_init 0 = .ok (.aload_n 0, 1) := by decide +kernel
theorem d_L_init_1 : decode b_L_init 1 = .ok (.invokespecial 1, 3) := by decide +kernel
theorem d_L_init_4 : decode b_L_init 4 = .ok (.aload_n 0, 1) := by decide +kernel
theorem d_L_init_5 : decode b_L_init 5 = .ok (.iconst 1, 1) := by decide +kernel
theorem d_L_init_6 : decode b_L_init 6 = .ok (.putfield 7, 3) := by decide +kernel
theorem d_L_init_9 : decode b_L_init 9 = .ok (.aload_n 0, 1) := by decide +kernel
theorem d_L_init_10 : decode b_L_init 10 = .ok (.iload_n 1, 1) := by decide +kernel
theorem d_L_init_11 : decode b_L_init 11 = .ok (.newarray .byte, 2) := by decide +kernel
theorem d_L_init_13 : decode b_L_init 13 = .ok (.putfield 13, 3) := by decide +kernel
theorem d_L_init_16 : decode b_L_init 16 = .ok (.return_, 1) := by decide +kernel
theorem d_L_begin_0 : decode b_L_begin 0 = .ok (.aload_n 0, 1) := by decide +kernel
theorem d_L_begin_1 : decode b_L_begin 1 = .ok (.getfield 17, 3) := by decide +kernel
theorem d_L_begin_4 : decode b_L_begin 4 = .ok (.ifnonnull 7, 3) := by decide +kernel
theorem d_L_begin_7 : decode b_L_begin 7 = .ok (.iconst 0, 1) := by decide +kernel
theorem d_L_begin_8 : decode b_L_begin 8 = .ok (.goto 4, 3) := by decide +kernel
theorem d_L_begin_11 : decode b_L_begin 11 = .ok (.iconst 1, 1) := by decide +kernel
theorem d_L_begin_12 : decode b_L_begin 12 = .ok (.istore_n 2, 1) := by decide +kernel
theorem d_L_begin_13 : decode b_L_begin 13 = .ok (.aload_n 0, 1) := by decide +kernel
theorem d_L_begin_14 : decode b_L_begin 14 = .ok (.iload_n 2, 1) := by decide +kernel
theorem d_L_begin_15 : decode b_L_begin 15 = .ok (.iconst 1, 1) := by decide +kernel
theorem d_L_begin_16 : decode b_L_begin 16 = .ok (.iadd, 1) := by decide +kernel
theorem d_L_begin_17 : decode b_L_begin 17 = .ok (.invokevirtual 34, 3) := by decide +kernel
theorem d_L_begin_20 : decode b_L_begin 20 = .ok (.ifCond .ne 5, 3) := by decide +kernel
theorem d_L_begin_23 : decode b_L_begin 23 = .ok (.iconst 0, 1) := by decide +kernel
theorem d_L_begin_24 : decode b_L_begin 24 = .ok (.ireturn, 1) := by decide +kernel
theorem d_L_begin_25 : decode b_L_begin 25 = .ok (.aload_n 0, 1) := by decide +kernel
theorem d_L_begin_26 : decode b_L_begin 26 = .ok (.invokevirtual 38, 3) := by decide +kernel
theorem d_L_begin_29 : decode b_L_begin 29 = .ok (.aload_n 0, 1) := by decide +kernel
theorem d_L_begin_30 : decode b_L_begin 30 = .ok (.aload_n 1, 1) := by decide +kernel
theorem d_L_begin_31 : decode b_L_begin 31 = .ok (.putfield 17, 3) := by decide +kernel
theorem d_L_begin_34 : decode b_L_begin 34 = .ok (.aload_n 0, 1) := by decide +kernel
theorem d_L_begin_35 : decode b_L_begin 35 = .ok (.aload_n 0, 1) := by decide +kernel
theorem d_L_begin_36 : decode b_L_begin 36 = .ok (.getfield 21, 3) := by decide +kernel
theorem d_L_begin_39 : decode b_L_begin 39 = .ok (.putfield 25, 3) := by decide +kernel
theorem d_L_begin_42 : decode b_L_begin 42 = .ok (.aload_n 0, 1) := by decide +kernel
theorem d_L_begin_43 : decode b_L_begin 43 = .ok (.aload_n 1, 1) := by decide +kernel
theorem d_L_begin_44 : decode b_L_begin 44 = .ok (.getfield 41, 3) := by decide +kernel
theorem d_L_begin_47 : decode b_L_begin 47 = .ok (.invokevirtual 46, 3) := by decide +kernel
theorem d_L_begin_50 : decode b_L_begin 50 = .ok (.iconst 1, 1) := by decide +kernel
theorem d_L_begin_51 : decode b_L_begin 51 = .ok (.ireturn, 1) := by decide +kernel
theorem d_L_hasRoom_0 : decode b_L_hasRoom 0 = .ok (.aload_n 0, 1) := by decide +kernel
theorem d_L_hasRoom_1 : decode b_L_hasRoom 1 = .ok (.getfield 21, 3) := by decide +kernel
theorem d_L_hasRoom_4 : decode b_L_hasRoom 4 = .ok (.iload_n 1, 1) := by decide +kernel
theorem d_L_hasRoom_5 : decode b_L_hasRoom 5 = .ok (.iadd, 1) := by decide +kernel
theorem d_L_hasRoom_6 : decode b_L_hasRoom 6 = .ok (.iconst 1, 1) := by decide +kernel
theorem d_L_hasRoom_7 : decode b_L_hasRoom 7 = .ok (.iadd, 1) := by decide +kernel
theorem d_L_hasRoom_8 : decode b_L_hasRoom 8 = .ok (.aload_n 0, 1) := by decide +kernel
theorem d_L_hasRoom_9 : decode b_L_hasRoom 9 = .ok (.getfield 13, 3) := by decide +kernel
theorem d_L_hasRoom_12 : decode b_L_hasRoom 12 = .ok (.arraylength, 1) := by decide +kernel
theorem d_L_hasRoom_13 : decode b_L_hasRoom 13 = .ok (.if_icmp .gt 7, 3) := by decide +kernel
theorem d_L_hasRoom_16 : decode b_L_hasRoom 16 = .ok (.iconst 1, 1) := by decide +kernel
theorem d_L_hasRoom_17 : decode b_L_hasRoom 17 = .ok (.goto 4, 3) := by decide +kernel
theorem d_L_hasRoom_20 : decode b_L_hasRoom 20 = .ok (.iconst 0, 1) := by decide +kernel
theorem d_L_hasRoom_21 : decode b_L_hasRoom 21 = .ok (.ireturn, 1) := by decide +kernel
theorem d_L_end_0 : decode b_L_end 0 = .ok (.aload_n 0, 1) := by decide +kernel
theorem d_L_end_1 : decode b_L_end 1 = .ok (.getfield 17, 3) := by decide +kernel
theorem d_L_end_4 : decode b_L_end 4 = .ok (.ifnonnull 4, 3) := by decide +kernel
theorem d_L_end_7 : decode b_L_end 7 = .ok (.return_, 1) := by decide +kernel
theorem d_L_end_8 : decode b_L_end 8 = .ok (.aload_n 0, 1) := by decide +kernel
theorem d_L_end_9 : decode b_L_end 9 = .ok (.bipush 10, 2) := by decide +kernel
theorem d_L_end_11 : decode b_L_end 11 = .ok (.invokevirtual 46, 3) := by decide +kernel
theorem d_L_end_14 : decode b_L_end 14 = .ok (.aload_n 0, 1) := by decide +kernel
theorem d_L_end_15 : decode b_L_end 15 = .ok (.aconst_null, 1) := by decide +kernel
theorem d_L_end_16 : decode b_L_end 16 = .ok (.putfield 17, 3) := by decide +kernel
theorem d_L_end_19 : decode b_L_end 19 = .ok (.aload_n 0, 1) := by decide +kernel
theorem d_L_end_20 : decode b_L_end 20 = .ok (.aload_n 0, 1) := by decide +kernel
theorem d_L_end_21 : decode b_L_end 21 = .ok (.getfield 21, 3) := by decide +kernel
theorem d_L_end_24 : decode b_L_end 24 = .ok (.putfield 25, 3) := by decide +kernel
theorem d_L_end_27 : decode b_L_end 27 = .ok (.aload_n 0, 1) := by decide +kernel
theorem d_L_end_28 : decode b_L_end 28 = .ok (.dup, 1) := by decide +kernel
theorem d_L_end_29 : decode b_L_end 29 = .ok (.getfield 31, 3) := by decide +kernel
theorem d_L_end_32 : decode b_L_end 32 = .ok (.iconst 1, 1) := by decide +kernel
theorem d_L_end_33 : decode b_L_end 33 = .ok (.iadd, 1) := by decide +kernel
theorem d_L_end_34 : decode b_L_end 34 = .ok (.putfield 31, 3) := by decide +kernel
theorem d_L_end_37 : decode b_L_end 37 = .ok (.return_, 1) := by decide +kernel
theorem d_L_put_0 : decode b_L_put 0 = .ok (.aload_n 0, 1) := by decide +kernel
theorem d_L_put_1 : decode b_L_put 1 = .ok (.getfield 13, 3) := by decide +kernel
theorem d_L_put_4 : decode b_L_put 4 = .ok (.aload_n 0, 1) := by decide +kernel
theorem d_L_put_5 : decode b_L_put 5 = .ok (.getfield 21, 3) := by decide +kernel
theorem d_L_put_8 : decode b_L_put 8 = .ok (.iload_n 1, 1) := by decide +kernel
theorem d_L_put_9 : decode b_L_put 9 = .ok (.i2b, 1) := by decide +kernel
theorem d_L_put_10 : decode b_L_put 10 = .ok (.bastore, 1) := by decide +kernel
theorem d_L_put_11 : decode b_L_put 11 = .ok (.aload_n 0, 1) := by decide +kernel
theorem d_L_put_12 : decode b_L_put 12 = .ok (.dup, 1) := by decide +kernel
theorem d_L_put_13 : decode b_L_put 13 = .ok (.getfield 21, 3) := by decide +kernel
theorem d_L_put_16 : decode b_L_put 16 = .ok (.iconst 1, 1) := by decide +kernel
theorem d_L_put_17 : decode b_L_put 17 = .ok (.iadd, 1) := by decide +kernel
theorem d_L_put_18 : decode b_L_put 18 = .ok (.putfield 21, 3) := by decide +kernel
theorem d_L_put_21 : decode b_L_put 21 = .ok (.return_, 1) := by decide +kernel
theorem d_L_add_0 : decode b_L_add 0 = .ok (.iload_n 1, 1) := by decide +kernel
theorem d_L_add_1 : decode b_L_add 1 = .ok (.invokestatic 54, 3) := by decide +kernel
theorem d_L_add_4 : decode b_L_add 4 = .ok (.istore_n 2, 1) := by decide +kernel
theorem d_L_add_5 : decode b_L_add 5 = .ok (.aload_n 0, 1) := by decide +kernel
theorem d_L_add_6 : decode b_L_add 6 = .ok (.iload_n 2, 1) := by decide +kernel
theorem d_L_add_7 : decode b_L_add 7 = .ok (.invokevirtual 34, 3) := by decide +kernel
theorem d_L_add_10 : decode b_L_add 10 = .ok (.ifCond .ne 5, 3) := by decide +kernel
theorem d_L_add_13 : decode b_L_add 13 = .ok (.iconst 0, 1) := by decide +kernel
theorem d_L_add_14 : decode b_L_add 14 = .ok (.ireturn, 1) := by decide +kernel
theorem d_L_add_15 : decode b_L_add 15 = .ok (.iload_n 1, 1) := by decide +kernel
theorem d_L_add_16 : decode b_L_add 16 = .ok (.invokestatic 50, 3) := by decide +kernel
theorem d_L_add_19 : decode b_L_add 19 = .ok (.ifCond .eq 20, 3) := by decide +kernel
theorem d_L_add_22 : decode b_L_add 22 = .ok (.aload_n 0, 1) := by decide +kernel
theorem d_L_add_23 : decode b_L_add 23 = .ok (.bipush 92, 2) := by decide +kernel
theorem d_L_add_25 : decode b_L_add 25 = .ok (.invokevirtual 46, 3) := by decide +kernel
theorem d_L_add_28 : decode b_L_add 28 = .ok (.aload_n 0, 1) := by decide +kernel
theorem d_L_add_29 : decode b_L_add 29 = .ok (.iload_n 1, 1) := by decide +kernel
theorem d_L_add_30 : decode b_L_add 30 = .ok (.invokestatic 50, 3) := by decide +kernel
theorem d_L_add_33 : decode b_L_add 33 = .ok (.invokevirtual 46, 3) := by decide +kernel
theorem d_L_add_36 : decode b_L_add 36 = .ok (.goto 85, 3) := by decide +kernel
theorem d_L_add_39 : decode b_L_add 39 = .ok (.iload_n 2, 1) := by decide +kernel
theorem d_L_add_40 : decode b_L_add 40 = .ok (.iconst 1, 1) := by decide +kernel
theorem d_L_add_41 : decode b_L_add 41 = .ok (.if_icmp .ne 11, 3) := by decide +kernel
theorem d_L_add_44 : decode b_L_add 44 = .ok (.aload_n 0, 1) := by decide +kernel
theorem d_L_add_45 : decode b_L_add 45 = .ok (.iload_n 1, 1) := by decide +kernel
theorem d_L_add_46 : decode b_L_add 46 = .ok (.invokevirtual 46, 3) := by decide +kernel
theorem d_L_add_49 : decode b_L_add 49 = .ok (.goto 72, 3) := by decide +kernel
theorem d_L_add_52 : decode b_L_add 52 = .ok (.aload_n 0, 1) := by decide +kernel
theorem d_L_add_53 : decode b_L_add 53 = .ok (.iload_n 2, 1) := by decide +kernel
theorem d_L_add_54 : decode b_L_add 54 = .ok (.iconst 2, 1) := by decide +kernel
theorem d_L_add_55 : decode b_L_add 55 = .ok (.if_icmp .ne 9, 3) := by decide +kernel
theorem d_L_add_58 : decode b_L_add 58 = .ok (.sipush 192, 3) := by decide +kernel
theorem d_L_add_61 : decode b_L_add 61 = .ok (.goto 17, 3) := by decide +kernel
theorem d_L_add_64 : decode b_L_add 64 = .ok (.iload_n 2, 1) := by decide +kernel
theorem d_L_add_65 : decode b_L_add 65 = .ok (.iconst 3, 1) := by decide +kernel
theorem d_L_add_66 : decode b_L_add 66 = .ok (.if_icmp .ne 9, 3) := by decide +kernel
theorem d_L_add_69 : decode b_L_add 69 = .ok (.sipush 224, 3) := by decide +kernel
theorem d_L_add_72 : decode b_L_add 72 = .ok (.goto 6, 3) := by decide +kernel
theorem d_L_add_75 : decode b_L_add 75 = .ok (.sipush 240, 3) := by decide +kernel
theorem d_L_add_78 : decode b_L_add 78 = .ok (.iload_n 1, 1) := by decide +kernel
theorem d_L_add_79 : decode b_L_add 79 = .ok (.bipush 6, 2) := by decide +kernel
theorem d_L_add_81 : decode b_L_add 81 = .ok (.iload_n 2, 1) := by decide +kernel
theorem d_L_add_82 : decode b_L_add 82 = .ok (.iconst 1, 1) := by decide +kernel
theorem d_L_add_83 : decode b_L_add 83 = .ok (.isub, 1) := by decide +kernel
theorem d_L_add_84 : decode b_L_add 84 = .ok (.imul, 1) := by decide +kernel
theorem d_L_add_85 : decode b_L_add 85 = .ok (.ishr, 1) := by decide +kernel
theorem d_L_add_86 : decode b_L_add 86 = .ok (.ior, 1) := by decide +kernel
theorem d_L_add_87 : decode b_L_add 87 = .ok (.invokevirtual 46, 3) := by decide +kernel
theorem d_L_add_90 : decode b_L_add 90 = .ok (.iload_n 2, 1) := by decide +kernel
theorem d_L_add_91 : decode b_L_add 91 = .ok (.iconst 2, 1) := by decide +kernel
theorem d_L_add_92 : decode b_L_add 92 = .ok (.isub, 1) := by decide +kernel
theorem d_L_add_93 : decode b_L_add 93 = .ok (.istore_n 3, 1) := by decide +kernel
theorem d_L_add_94 : decode b_L_add 94 = .ok (.iload_n 3, 1) := by decide +kernel
theorem d_L_add_95 : decode b_L_add 95 = .ok (.ifCond .lt 26, 3) := by decide +kernel
theorem d_L_add_98 : decode b_L_add 98 = .ok (.aload_n 0, 1) := by decide +kernel
theorem d_L_add_99 : decode b_L_add 99 = .ok (.sipush 128, 3) := by decide +kernel
theorem d_L_add_102 : decode b_L_add 102 = .ok (.iload_n 1, 1) := by decide +kernel
theorem d_L_add_103 : decode b_L_add 103 = .ok (.bipush 6, 2) := by decide +kernel
theorem d_L_add_105 : decode b_L_add 105 = .ok (.iload_n 3, 1) := by decide +kernel
theorem d_L_add_106 : decode b_L_add 106 = .ok (.imul, 1) := by decide +kernel
theorem d_L_add_107 : decode b_L_add 107 = .ok (.ishr, 1) := by decide +kernel
theorem d_L_add_108 : decode b_L_add 108 = .ok (.bipush 63, 2) := by decide +kernel
theorem d_L_add_110 : decode b_L_add 110 = .ok (.iand, 1) := by decide +kernel
theorem d_L_add_111 : decode b_L_add 111 = .ok (.ior, 1) := by decide +kernel
theorem d_L_add_112 : decode b_L_add 112 = .ok (.invokevirtual 46, 3) := by decide +kernel
theorem d_L_add_115 : decode b_L_add 115 = .ok (.iinc 3 (-1), 3) := by decide +kernel
theorem d_L_add_118 : decode b_L_add 118 = .ok (.goto (-24), 3) := by decide +kernel
theorem d_L_add_121 : decode b_L_add 121 = .ok (.iconst 1, 1) := by decide +kernel
theorem d_L_add_122 : decode b_L_add 122 = .ok (.ireturn, 1) := by decide +kernel
theorem d_L_bytesOf_0 : decode b_L_bytesOf 0 = .ok (.iload_n 0, 1) := by decide +kernel
theorem d_L_bytesOf_1 : decode b_L_bytesOf 1 = .ok (.invokestatic 50, 3) := by decide +kernel
theorem d_L_bytesOf_4 : decode b_L_bytesOf 4 = .ok (.ifCond .ne 17, 3) := by decide +kernel
theorem d_L_bytesOf_7 : decode b_L_bytesOf 7 = .ok (.iload_n 0, 1) := by decide +kernel
theorem d_L_bytesOf_8 : decode b_L_bytesOf 8 = .ok (.sipush 128, 3) := by decide +kernel
theorem d_L_bytesOf_11 : decode b_L_bytesOf 11 = .ok (.if_icmp .lt 14, 3) := by decide +kernel
theorem d_L_bytesOf_14 : decode b_L_bytesOf 14 = .ok (.iload_n 0, 1) := by decide +kernel
theorem d_L_bytesOf_15 : decode b_L_bytesOf 15 = .ok (.sipush 2048, 3) := by decide +kernel
theorem d_L_bytesOf_18 : decode b_L_bytesOf 18 = .ok (.if_icmp .ge 7, 3) := by decide +kernel
theorem d_L_bytesOf_21 : decode b_L_bytesOf 21 = .ok (.iconst 2, 1) := by decide +kernel
theorem d_L_bytesOf_22 : decode b_L_bytesOf 22 = .ok (.goto 25, 3) := by decide +kernel
theorem d_L_bytesOf_25 : decode b_L_bytesOf 25 = .ok (.iload_n 0, 1) := by decide +kernel
theorem d_L_bytesOf_26 : decode b_L_bytesOf 26 = .ok (.sipush 128, 3) := by decide +kernel
theorem d_L_bytesOf_29 : decode b_L_bytesOf 29 = .ok (.if_icmp .ge 7, 3) := by decide +kernel
theorem d_L_bytesOf_32 : decode b_L_bytesOf 32 = .ok (.iconst 1, 1) := by decide +kernel
theorem d_L_bytesOf_33 : decode b_L_bytesOf 33 = .ok (.goto 14, 3) := by decide +kernel
theorem d_L_bytesOf_36 : decode b_L_bytesOf 36 = .ok (.iload_n 0, 1) := by decide +kernel
theorem d_L_bytesOf_37 : decode b_L_bytesOf 37 = .ok (.ldc 53, 2) := by decide +kernel
theorem d_L_bytesOf_39 : decode b_L_bytesOf 39 = .ok (.if_icmp .ge 7, 3) := by decide +kernel
theorem d_L_bytesOf_42 : decode b_L_bytesOf 42 = .ok (.iconst 3, 1) := by decide +kernel
theorem d_L_bytesOf_43 : decode b_L_bytesOf 43 = .ok (.goto 4, 3) := by decide +kernel
theorem d_L_bytesOf_46 : decode b_L_bytesOf 46 = .ok (.iconst 4, 1) := by decide +kernel
theorem d_L_bytesOf_47 : decode b_L_bytesOf 47 = .ok (.ireturn, 1) := by decide +kernel
theorem d_L_letter_0 : decode b_L_letter 0 = .ok (.iload_n 0, 1) := by decide +kernel
theorem d_L_letter_1 : decode b_L_letter 1 = .ok (.bipush 92, 2) := by decide +kernel
theorem d_L_letter_3 : decode b_L_letter 3 = .ok (.if_icmp .ne 8, 3) := by decide +kernel
theorem d_L_letter_6 : decode b_L_letter 6 = .ok (.bipush 92, 2) := by decide +kernel
theorem d_L_letter_8 : decode b_L_letter 8 = .ok (.goto 37, 3) := by decide +kernel
theorem d_L_letter_11 : decode b_L_letter 11 = .ok (.iload_n 0, 1) := by decide +kernel
theorem d_L_letter_12 : decode b_L_letter 12 = .ok (.bipush 10, 2) := by decide +kernel
theorem d_L_letter_14 : decode b_L_letter 14 = .ok (.if_icmp .ne 8, 3) := by decide +kernel
theorem d_L_letter_17 : decode b_L_letter 17 = .ok (.bipush 110, 2) := by decide +kernel
theorem d_L_letter_19 : decode b_L_letter 19 = .ok (.goto 26, 3) := by decide +kernel
theorem d_L_letter_22 : decode b_L_letter 22 = .ok (.iload_n 0, 1) := by decide +kernel
theorem d_L_letter_23 : decode b_L_letter 23 = .ok (.bipush 9, 2) := by decide +kernel
theorem d_L_letter_25 : decode b_L_letter 25 = .ok (.if_icmp .ne 8, 3) := by decide +kernel
theorem d_L_letter_28 : decode b_L_letter 28 = .ok (.bipush 116, 2) := by decide +kernel
theorem d_L_letter_30 : decode b_L_letter 30 = .ok (.goto 15, 3) := by decide +kernel
theorem d_L_letter_33 : decode b_L_letter 33 = .ok (.iload_n 0, 1) := by decide +kernel
theorem d_L_letter_34 : decode b_L_letter 34 = .ok (.bipush 13, 2) := by decide +kernel
theorem d_L_letter_36 : decode b_L_letter 36 = .ok (.if_icmp .ne 8, 3) := by decide +kernel
theorem d_L_letter_39 : decode b_L_letter 39 = .ok (.bipush 114, 2) := by decide +kernel
theorem d_L_letter_41 : decode b_L_letter 41 = .ok (.goto 4, 3) := by decide +kernel
theorem d_L_letter_44 : decode b_L_letter 44 = .ok (.iconst 0, 1) := by decide +kernel
theorem d_L_letter_45 : decode b_L_letter 45 = .ok (.ireturn, 1) := by decide +kernel
theorem d_L_text_0 : decode b_L_text 0 = .ok (.aload_n 0, 1) := by decide +kernel
theorem d_L_text_1 : decode b_L_text 1 = .ok (.getfield 17, 3) := by decide +kernel
theorem d_L_text_4 : decode b_L_text 4 = .ok (.getstatic 57, 3) := by decide +kernel
theorem d_L_text_7 : decode b_L_text 7 = .ok (.if_acmp .ne 9, 3) := by decide +kernel
theorem d_L_text_10 : decode b_L_text 10 = .ok (.aload_n 0, 1) := by decide +kernel
theorem d_L_text_11 : decode b_L_text 11 = .ok (.iload_n 1, 1) := by decide +kernel
theorem d_L_text_12 : decode b_L_text 12 = .ok (.invokevirtual 60, 3) := by decide +kernel
theorem d_L_text_15 : decode b_L_text 15 = .ok (.ireturn, 1) := by decide +kernel
theorem d_L_text_16 : decode b_L_text 16 = .ok (.aload_n 0, 1) := by decide +kernel
theorem d_L_text_17 : decode b_L_text 17 = .ok (.getfield 17, 3) := by decide +kernel
theorem d_L_text_20 : decode b_L_text 20 = .ok (.ifnonnull 7, 3) := by decide +kernel
theorem d_L_text_23 : decode b_L_text 23 = .ok (.iconst 0, 1) := by decide +kernel
theorem d_L_text_24 : decode b_L_text 24 = .ok (.goto 4, 3) := by decide +kernel
theorem d_L_text_27 : decode b_L_text 27 = .ok (.iconst 1, 1) := by decide +kernel
theorem d_L_text_28 : decode b_L_text 28 = .ok (.istore_n 2, 1) := by decide +kernel
theorem d_L_text_29 : decode b_L_text 29 = .ok (.aload_n 0, 1) := by decide +kernel
theorem d_L_text_30 : decode b_L_text 30 = .ok (.iload_n 2, 1) := by decide +kernel
theorem d_L_text_31 : decode b_L_text 31 = .ok (.iconst 1, 1) := by decide +kernel
theorem d_L_text_32 : decode b_L_text 32 = .ok (.iadd, 1) := by decide +kernel
theorem d_L_text_33 : decode b_L_text 33 = .ok (.iload_n 1, 1) := by decide +kernel
theorem d_L_text_34 : decode b_L_text 34 = .ok (.invokestatic 54, 3) := by decide +kernel
theorem d_L_text_37 : decode b_L_text 37 = .ok (.iadd, 1) := by decide +kernel
theorem d_L_text_38 : decode b_L_text 38 = .ok (.invokevirtual 34, 3) := by decide +kernel
theorem d_L_text_41 : decode b_L_text 41 = .ok (.ifCond .eq 25, 3) := by decide +kernel
theorem d_L_text_44 : decode b_L_text 44 = .ok (.aload_n 0, 1) := by decide +kernel
theorem d_L_text_45 : decode b_L_text 45 = .ok (.getstatic 57, 3) := by decide +kernel
theorem d_L_text_48 : decode b_L_text 48 = .ok (.invokevirtual 63, 3) := by decide +kernel
theorem d_L_text_51 : decode b_L_text 51 = .ok (.ifCond .eq 15, 3) := by decide +kernel
theorem d_L_text_54 : decode b_L_text 54 = .ok (.aload_n 0, 1) := by decide +kernel
theorem d_L_text_55 : decode b_L_text 55 = .ok (.iload_n 1, 1) := by decide +kernel
theorem d_L_text_56 : decode b_L_text 56 = .ok (.invokevirtual 60, 3) := by decide +kernel
theorem d_L_text_59 : decode b_L_text 59 = .ok (.ifCond .eq 7, 3) := by decide +kernel
theorem d_L_text_62 : decode b_L_text 62 = .ok (.iconst 1, 1) := by decide +kernel
theorem d_L_text_63 : decode b_L_text 63 = .ok (.goto 4, 3) := by decide +kernel
theorem d_L_text_66 : decode b_L_text 66 = .ok (.iconst 0, 1) := by decide +kernel
theorem d_L_text_67 : decode b_L_text 67 = .ok (.ireturn, 1) := by decide +kernel
theorem d_L_back_0 : decode b_L_back 0 = .ok (.iload_n 1, 1) := by decide +kernel
theorem d_L_back_1 : decode b_L_back 1 = .ok (.aload_n 0, 1) := by decide +kernel
theorem d_L_back_2 : decode b_L_back 2 = .ok (.getfield 28, 3) := by decide +kernel
theorem d_L_back_5 : decode b_L_back 5 = .ok (.if_icmp .lt 16, 3) := by decide +kernel
theorem d_L_back_8 : decode b_L_back 8 = .ok (.iload_n 1, 1) := by decide +kernel
theorem d_L_back_9 : decode b_L_back 9 = .ok (.aload_n 0, 1) := by decide +kernel
theorem d_L_back_10 : decode b_L_back 10 = .ok (.getfield 28, 3) := by decide +kernel
theorem d_L_back_13 : decode b_L_back 13 = .ok (.aload_n 0, 1) := by decide +kernel
theorem d_L_back_14 : decode b_L_back 14 = .ok (.getfield 21, 3) := by decide +kernel
theorem d_L_back_17 : decode b_L_back 17 = .ok (.iadd, 1) := by decide +kernel
theorem d_L_back_18 : decode b_L_back 18 = .ok (.if_icmp .le 5, 3) := by decide +kernel
theorem d_L_back_21 : decode b_L_back 21 = .ok (.iconst 0, 1) := by decide +kernel
theorem d_L_back_22 : decode b_L_back 22 = .ok (.ireturn, 1) := by decide +kernel
theorem d_L_back_23 : decode b_L_back 23 = .ok (.iload_n 1, 1) := by decide +kernel
theorem d_L_back_24 : decode b_L_back 24 = .ok (.aload_n 0, 1) := by decide +kernel
theorem d_L_back_25 : decode b_L_back 25 = .ok (.getfield 28, 3) := by decide +kernel
theorem d_L_back_28 : decode b_L_back 28 = .ok (.isub, 1) := by decide +kernel
theorem d_L_back_29 : decode b_L_back 29 = .ok (.istore_n 2, 1) := by decide +kernel
theorem d_L_back_30 : decode b_L_back 30 = .ok (.iload_n 2, 1) := by decide +kernel
theorem d_L_back_31 : decode b_L_back 31 = .ok (.ifCond .ne 10, 3) := by decide +kernel
theorem d_L_back_34 : decode b_L_back 34 = .ok (.aload_n 0, 1) := by decide +kernel
theorem d_L_back_35 : decode b_L_back 35 = .ok (.getfield 7, 3) := by decide +kernel
theorem d_L_back_38 : decode b_L_back 38 = .ok (.goto 21, 3) := by decide +kernel
theorem d_L_back_41 : decode b_L_back 41 = .ok (.aload_n 0, 1) := by decide +kernel
theorem d_L_back_42 : decode b_L_back 42 = .ok (.getfield 13, 3) := by decide +kernel
theorem d_L_back_45 : decode b_L_back 45 = .ok (.iload_n 2, 1) := by decide +kernel
theorem d_L_back_46 : decode b_L_back 46 = .ok (.iconst 1, 1) := by decide +kernel
theorem d_L_back_47 : decode b_L_back 47 = .ok (.isub, 1) := by decide +kernel
theorem d_L_back_48 : decode b_L_back 48 = .ok (.baload, 1) := by decide +kernel
theorem d_L_back_49 : decode b_L_back 49 = .ok (.bipush 10, 2) := by decide +kernel
theorem d_L_back_51 : decode b_L_back 51 = .ok (.if_icmp .ne 7, 3) := by decide +kernel
theorem d_L_back_54 : decode b_L_back 54 = .ok (.iconst 1, 1) := by decide +kernel
theorem d_L_back_55 : decode b_L_back 55 = .ok (.goto 4, 3) := by decide +kernel
theorem d_L_back_58 : decode b_L_back 58 = .ok (.iconst 0, 1) := by decide +kernel
theorem d_L_back_59 : decode b_L_back 59 = .ok (.istore_n 3, 1) := by decide +kernel
theorem d_L_back_60 : decode b_L_back 60 = .ok (.iload_n 3, 1) := by decide +kernel
theorem d_L_back_61 : decode b_L_back 61 = .ok (.ifCond .ne 5, 3) := by decide +kernel
theorem d_L_back_64 : decode b_L_back 64 = .ok (.iconst 0, 1) := by decide +kernel
theorem d_L_back_65 : decode b_L_back 65 = .ok (.ireturn, 1) := by decide +kernel
theorem d_L_back_66 : decode b_L_back 66 = .ok (.iload_n 2, 1) := by decide +kernel
theorem d_L_back_67 : decode b_L_back 67 = .ok (.istore 4, 2) := by decide +kernel
theorem d_L_back_69 : decode b_L_back 69 = .ok (.iload 4, 2) := by decide +kernel
theorem d_L_back_71 : decode b_L_back 71 = .ok (.aload_n 0, 1) := by decide +kernel
theorem d_L_back_72 : decode b_L_back 72 = .ok (.getfield 25, 3) := by decide +kernel
theorem d_L_back_75 : decode b_L_back 75 = .ok (.if_icmp .ge 35, 3) := by decide +kernel
theorem d_L_back_78 : decode b_L_back 78 = .ok (.aload_n 0, 1) := by decide +kernel
theorem d_L_back_79 : decode b_L_back 79 = .ok (.dup, 1) := by decide +kernel
theorem d_L_back_80 : decode b_L_back 80 = .ok (.getfield 31, 3) := by decide +kernel
theorem d_L_back_83 : decode b_L_back 83 = .ok (.aload_n 0, 1) := by decide +kernel
theorem d_L_back_84 : decode b_L_back 84 = .ok (.getfield 13, 3) := by decide +kernel
theorem d_L_back_87 : decode b_L_back 87 = .ok (.iload 4, 2) := by decide +kernel
theorem d_L_back_89 : decode b_L_back 89 = .ok (.baload, 1) := by decide +kernel
theorem d_L_back_90 : decode b_L_back 90 = .ok (.bipush 10, 2) := by decide +kernel
theorem d_L_back_92 : decode b_L_back 92 = .ok (.if_icmp .ne 7, 3) := by decide +kernel
theorem d_L_back_95 : decode b_L_back 95 = .ok (.iconst 1, 1) := by decide +kernel
theorem d_L_back_96 : decode b_L_back 96 = .ok (.goto 4, 3) := by decide +kernel
theorem d_L_back_99 : decode b_L_back 99 = .ok (.iconst 0, 1) := by decide +kernel
theorem d_L_back_100 : decode b_L_back 100 = .ok (.isub, 1) := by decide +kernel
theorem d_L_back_101 : decode b_L_back 101 = .ok (.putfield 31, 3) := by decide +kernel
theorem d_L_back_104 : decode b_L_back 104 = .ok (.iinc 4 1, 3) := by decide +kernel
theorem d_L_back_107 : decode b_L_back 107 = .ok (.goto (-38), 3) := by decide +kernel
theorem d_L_back_110 : decode b_L_back 110 = .ok (.aload_n 0, 1) := by decide +kernel
theorem d_L_back_111 : decode b_L_back 111 = .ok (.iload_n 2, 1) := by decide +kernel
theorem d_L_back_112 : decode b_L_back 112 = .ok (.putfield 21, 3) := by decide +kernel
theorem d_L_back_115 : decode b_L_back 115 = .ok (.aload_n 0, 1) := by decide +kernel
theorem d_L_back_116 : decode b_L_back 116 = .ok (.iload_n 2, 1) := by decide +kernel
theorem d_L_back_117 : decode b_L_back 117 = .ok (.putfield 25, 3) := by decide +kernel
theorem d_L_back_120 : decode b_L_back 120 = .ok (.aload_n 0, 1) := by decide +kernel
theorem d_L_back_121 : decode b_L_back 121 = .ok (.aconst_null, 1) := by decide +kernel
theorem d_L_back_122 : decode b_L_back 122 = .ok (.putfield 17, 3) := by decide +kernel
theorem d_L_back_125 : decode b_L_back 125 = .ok (.iconst 1, 1) := by decide +kernel
theorem d_L_back_126 : decode b_L_back 126 = .ok (.ireturn, 1) := by decide +kernel
theorem d_L_mark_0 : decode b_L_mark 0 = .ok (.aload_n 0, 1) := by decide +kernel
theorem d_L_mark_1 : decode b_L_mark 1 = .ok (.getfield 28, 3) := by decide +kernel
theorem d_L_mark_4 : decode b_L_mark 4 = .ok (.aload_n 0, 1) := by decide +kernel
theorem d_L_mark_5 : decode b_L_mark 5 = .ok (.getfield 21, 3) := by decide +kernel
theorem d_L_mark_8 : decode b_L_mark 8 = .ok (.iadd, 1) := by decide +kernel
theorem d_L_mark_9 : decode b_L_mark 9 = .ok (.ireturn, 1) := by decide +kernel
theorem d_L_take_0 : decode b_L_take 0 = .ok (.bipush 7, 2) := by decide +kernel
theorem d_L_take_2 : decode b_L_take 2 = .ok (.aload_n 0, 1) := by decide +kernel
theorem d_L_take_3 : decode b_L_take 3 = .ok (.getfield 25, 3) := by decide +kernel
theorem d_L_take_6 : decode b_L_take 6 = .ok (.invokestatic 67, 3) := by decide +kernel
theorem d_L_take_9 : decode b_L_take 9 = .ok (.istore_n 1, 1) := by decide +kernel
theorem d_L_take_10 : decode b_L_take 10 = .ok (.iload_n 1, 1) := by decide +kernel
theorem d_L_take_11 : decode b_L_take 11 = .ok (.i2l, 1) := by decide +kernel
theorem d_L_take_12 : decode b_L_take 12 = .ok (.bipush 56, 2) := by decide +kernel
theorem d_L_take_14 : decode b_L_take 14 = .ok (.lshl, 1) := by decide +kernel
theorem d_L_take_15 : decode b_L_take 15 = .ok (.lstore_n 2, 1) := by decide +kernel
theorem d_L_take_16 : decode b_L_take 16 = .ok (.iconst 0, 1) := by decide +kernel
theorem d_L_take_17 : decode b_L_take 17 = .ok (.istore 4, 2) := by decide +kernel
theorem d_L_take_19 : decode b_L_take 19 = .ok (.iload 4, 2) := by decide +kernel
theorem d_L_take_21 : decode b_L_take 21 = .ok (.iload_n 1, 1) := by decide +kernel
theorem d_L_take_22 : decode b_L_take 22 = .ok (.if_icmp .ge 33, 3) := by decide +kernel
theorem d_L_take_25 : decode b_L_take 25 = .ok (.lload_n 2, 1) := by decide +kernel
theorem d_L_take_26 : decode b_L_take 26 = .ok (.aload_n 0, 1) := by decide +kernel
theorem d_L_take_27 : decode b_L_take 27 = .ok (.getfield 13, 3) := by decide +kernel
theorem d_L_take_30 : decode b_L_take 30 = .ok (.iload 4, 2) := by decide +kernel
theorem d_L_take_32 : decode b_L_take 32 = .ok (.baload, 1) := by decide +kernel
theorem d_L_take_33 : decode b_L_take 33 = .ok (.i2l, 1) := by decide +kernel
theorem d_L_take_34 : decode b_L_take 34 = .ok (.ldc2_w 73, 3) := by decide +kernel
theorem d_L_take_37 : decode b_L_take 37 = .ok (.land, 1) := by decide +kernel
theorem d_L_take_38 : decode b_L_take 38 = .ok (.bipush 48, 2) := by decide +kernel
theorem d_L_take_40 : decode b_L_take 40 = .ok (.bipush 8, 2) := by decide +kernel
theorem d_L_take_42 : decode b_L_take 42 = .ok (.iload 4, 2) := by decide +kernel
theorem d_L_take_44 : decode b_L_take 44 = .ok (.imul, 1) := by decide +kernel
theorem d_L_take_45 : decode b_L_take 45 = .ok (.isub, 1) := by decide +kernel
theorem d_L_take_46 : decode b_L_take 46 = .ok (.lshl, 1) := by decide +kernel
theorem d_L_take_47 : decode b_L_take 47 = .ok (.lor, 1) := by decide +kernel
theorem d_L_take_48 : decode b_L_take 48 = .ok (.lstore_n 2, 1) := by decide +kernel
theorem d_L_take_49 : decode b_L_take 49 = .ok (.iinc 4 1, 3) := by decide +kernel
theorem d_L_take_52 : decode b_L_take 52 = .ok (.goto (-33), 3) := by decide +kernel
theorem d_L_take_55 : decode b_L_take 55 = .ok (.iload_n 1, 1) := by decide +kernel
theorem d_L_take_56 : decode b_L_take 56 = .ok (.ifCond .le 25, 3) := by decide +kernel
theorem d_L_take_59 : decode b_L_take 59 = .ok (.aload_n 0, 1) := by decide +kernel
theorem d_L_take_60 : decode b_L_take 60 = .ok (.aload_n 0, 1) := by decide +kernel
theorem d_L_take_61 : decode b_L_take 61 = .ok (.getfield 13, 3) := by decide +kernel
theorem d_L_take_64 : decode b_L_take 64 = .ok (.iload_n 1, 1) := by decide +kernel
theorem d_L_take_65 : decode b_L_take 65 = .ok (.iconst 1, 1) := by decide +kernel
theorem d_L_take_66 : decode b_L_take 66 = .ok (.isub, 1) := by decide +kernel
theorem d_L_take_67 : decode b_L_take 67 = .ok (.baload, 1) := by decide +kernel
theorem d_L_take_68 : decode b_L_take 68 = .ok (.bipush 10, 2) := by decide +kernel
theorem d_L_take_70 : decode b_L_take 70 = .ok (.if_icmp .ne 7, 3) := by decide +kernel
theorem d_L_take_73 : decode b_L_take 73 = .ok (.iconst 1, 1) := by decide +kernel
theorem d_L_take_74 : decode b_L_take 74 = .ok (.goto 4, 3) := by decide +kernel
theorem d_L_take_77 : decode b_L_take 77 = .ok (.iconst 0, 1) := by decide +kernel
theorem d_L_take_78 : decode b_L_take 78 = .ok (.putfield 7, 3) := by decide +kernel
theorem d_L_take_81 : decode b_L_take 81 = .ok (.iload_n 1, 1) := by decide +kernel
theorem d_L_take_82 : decode b_L_take 82 = .ok (.istore 4, 2) := by decide +kernel
theorem d_L_take_84 : decode b_L_take 84 = .ok (.iload 4, 2) := by decide +kernel
theorem d_L_take_86 : decode b_L_take 86 = .ok (.aload_n 0, 1) := by decide +kernel
theorem d_L_take_87 : decode b_L_take 87 = .ok (.getfield 21, 3) := by decide +kernel
theorem d_L_take_90 : decode b_L_take 90 = .ok (.if_icmp .ge 25, 3) := by decide +kernel
theorem d_L_take_93 : decode b_L_take 93 = .ok (.aload_n 0, 1) := by decide +kernel
theorem d_L_take_94 : decode b_L_take 94 = .ok (.getfield 13, 3) := by decide +kernel
theorem d_L_take_97 : decode b_L_take 97 = .ok (.iload 4, 2) := by decide +kernel
theorem d_L_take_99 : decode b_L_take 99 = .ok (.iload_n 1, 1) := by decide +kernel
theorem d_L_take_100 : decode b_L_take 100 = .ok (.isub, 1) := by decide +kernel
theorem d_L_take_101 : decode b_L_take 101 = .ok (.aload_n 0, 1) := by decide +kernel
theorem d_L_take_102 : decode b_L_take 102 = .ok (.getfield 13, 3) := by decide +kernel
theorem d_L_take_105 : decode b_L_take 105 = .ok (.iload 4, 2) := by decide +kernel
theorem d_L_take_107 : decode b_L_take 107 = .ok (.baload, 1) := by decide +kernel
theorem d_L_take_108 : decode b_L_take 108 = .ok (.bastore, 1) := by decide +kernel
theorem d_L_take_109 : decode b_L_take 109 = .ok (.iinc 4 1, 3) := by decide +kernel
theorem d_L_take_112 : decode b_L_take 112 = .ok (.goto (-28), 3) := by decide +kernel
theorem d_L_take_115 : decode b_L_take 115 = .ok (.aload_n 0, 1) := by decide +kernel
theorem d_L_take_116 : decode b_L_take 116 = .ok (.dup, 1) := by decide +kernel
theorem d_L_take_117 : decode b_L_take 117 = .ok (.getfield 21, 3) := by decide +kernel
theorem d_L_take_120 : decode b_L_take 120 = .ok (.iload_n 1, 1) := by decide +kernel
theorem d_L_take_121 : decode b_L_take 121 = .ok (.isub, 1) := by decide +kernel
theorem d_L_take_122 : decode b_L_take 122 = .ok (.putfield 21, 3) := by decide +kernel
theorem d_L_take_125 : decode b_L_take 125 = .ok (.aload_n 0, 1) := by decide +kernel
theorem d_L_take_126 : decode b_L_take 126 = .ok (.dup, 1) := by decide +kernel
theorem d_L_take_127 : decode b_L_take 127 = .ok (.getfield 25, 3) := by decide +kernel
theorem d_L_take_130 : decode b_L_take 130 = .ok (.iload_n 1, 1) := by decide +kernel
theorem d_L_take_131 : decode b_L_take 131 = .ok (.isub, 1) := by decide +kernel
theorem d_L_take_132 : decode b_L_take 132 = .ok (.putfield 25, 3) := by decide +kernel
theorem d_L_take_135 : decode b_L_take 135 = .ok (.aload_n 0, 1) := by decide +kernel
theorem d_L_take_136 : decode b_L_take 136 = .ok (.dup, 1) := by decide +kernel
theorem d_L_take_137 : decode b_L_take 137 = .ok (.getfield 28, 3) := by decide +kernel
theorem d_L_take_140 : decode b_L_take 140 = .ok (.iload_n 1, 1) := by decide +kernel
theorem d_L_take_141 : decode b_L_take 141 = .ok (.iadd, 1) := by decide +kernel
theorem d_L_take_142 : decode b_L_take 142 = .ok (.putfield 28, 3) := by decide +kernel
theorem d_L_take_145 : decode b_L_take 145 = .ok (.iload_n 1, 1) := by decide +kernel
theorem d_L_take_146 : decode b_L_take 146 = .ok (.ifCond .ne 7, 3) := by decide +kernel
theorem d_L_take_149 : decode b_L_take 149 = .ok (.lconst 0, 1) := by decide +kernel
theorem d_L_take_150 : decode b_L_take 150 = .ok (.goto 4, 3) := by decide +kernel
theorem d_L_take_153 : decode b_L_take 153 = .ok (.lload_n 2, 1) := by decide +kernel
theorem d_L_take_154 : decode b_L_take 154 = .ok (.lreturn, 1) := by decide +kernel
end
section
/-! decode rows (printed by gen02.py) -/
theorem d_M_init_0 : decode b_M_init 0 = .ok (.aload_n 0, 1) := by decide +kernel
theorem d_M_init_1 : decode b_M_init 1 = .ok (.invokespecial 1, 3) := by decide +kernel
theorem d_M_init_4 : decode b_M_init 4 = .ok (.aload_n 0, 1) := by decide +kernel
theorem d_M_init_5 : decode b_M_init 5 = .ok (.sipush 3000, 3) := by decide +kernel
theorem d_M_init_8 : decode b_M_init 8 = .ok (.newarray .int, 2) := by decide +kernel
theorem d_M_init_10 : decode b_M_init 10 = .ok (.putfield 7, 3) := by decide +kernel
theorem d_M_init_13 : decode b_M_init 13 = .ok (.aload_n 0, 1) := by decide +kernel
theorem d_M_init_14 : decode b_M_init 14 = .ok (.iconst (-1), 1) := by decide +kernel
theorem d_M_init_15 : decode b_M_init 15 = .ok (.putfield 13, 3) := by decide +kernel
theorem d_M_init_18 : decode b_M_init 18 = .ok (.aload_n 0, 1) := by decide +kernel
theorem d_M_init_19 : decode b_M_init 19 = .ok (.bipush 10, 2) := by decide +kernel
theorem d_M_init_21 : decode b_M_init 21 = .ok (.putfield 17, 3) := by decide +kernel
theorem d_M_init_24 : decode b_M_init 24 = .ok (.aload_n 0, 1) := by decide +kernel
theorem d_M_init_25 : decode b_M_init 25 = .ok (.iconst 4, 1) := by decide +kernel
theorem d_M_init_26 : decode b_M_init 26 = .ok (.newarray .int, 2) := by decide +kernel
theorem d_M_init_28 : decode b_M_init 28 = .ok (.putfield 20, 3) := by decide +kernel
theorem d_M_init_31 : decode b_M_init 31 = .ok (.return_, 1) := by decide +kernel
theorem d_M_begin_0 : decode b_M_begin 0 = .ok (.iload_n 1, 1) := by decide +kernel
theorem d_M_begin_1 : decode b_M_begin 1 = .ok (.ifCond .lt 33, 3) := by decide +kernel
theorem d_M_begin_4 : decode b_M_begin 4 = .ok (.iload_n 1, 1) := by decide +kernel
theorem d_M_begin_5 : decode b_M_begin 5 = .ok (.iconst 3, 1) := by decide +kernel
theorem d_M_begin_6 : decode b_M_begin 6 = .ok (.if_icmp .gt 28, 3) := by decide +kernel
theorem d_M_begin_9 : decode b_M_begin 9 = .ok (.aload_n 0, 1) := by decide +kernel
theorem d_M_begin_10 : decode b_M_begin 10 = .ok (.getfield 23, 3) := by decide +kernel
theorem d_M_begin_13 : decode b_M_begin 13 = .ok (.aload_n 0, 1) := by decide +kernel
theorem d_M_begin_14 : decode b_M_begin 14 = .ok (.getfield 13, 3) := by decide +kernel
theorem d_M_begin_17 : decode b_M_begin 17 = .ok (.ifCond .lt 7, 3) := by decide +kernel
theorem d_M_begin_20 : decode b_M_begin 20 = .ok (.iconst 1, 1) := by decide +kernel
theorem d_M_begin_21 : decode b_M_begin 21 = .ok (.goto 4, 3) := by decide +kernel
theorem d_M_begin_24 : decode b_M_begin 24 = .ok (.iconst 0, 1) := by decide +kernel
theorem d_M_begin_25 : decode b_M_begin 25 = .ok (.iadd, 1) := by decide +kernel
theorem d_M_begin_26 : decode b_M_begin 26 = .ok (.iconst 2, 1) := by decide +kernel
theorem d_M_begin_27 : decode b_M_begin 27 = .ok (.iadd, 1) := by decide +kernel
theorem d_M_begin_28 : decode b_M_begin 28 = .ok (.sipush 3000, 3) := by decide +kernel
theorem d_M_begin_31 : decode b_M_begin 31 = .ok (.if_icmp .le 5, 3) := by decide +kernel
theorem d_M_begin_34 : decode b_M_begin 34 = .ok (.iconst 0, 1) := by decide +kernel
theorem d_M_begin_35 : decode b_M_begin 35 = .ok (.ireturn, 1) := by decide +kernel
theorem d_M_begin_36 : decode b_M_begin 36 = .ok (.aload_n 0, 1) := by decide +kernel
theorem d_M_begin_37 : decode b_M_begin 37 = .ok (.iload_n 1, 1) := by decide +kernel
theorem d_M_begin_38 : decode b_M_begin 38 = .ok (.invokevirtual 43, 3) := by decide +kernel
theorem d_M_begin_41 : decode b_M_begin 41 = .ok (.iconst 1, 1) := by decide +kernel
theorem d_M_begin_42 : decode b_M_begin 42 = .ok (.ireturn, 1) := by decide +kernel
theorem d_M_start_0 : decode b_M_start 0 = .ok (.aload_n 0, 1) := by decide +kernel
theorem d_M_start_1 : decode b_M_start 1 = .ok (.getfield 13, 3) := by decide +kernel
theorem d_M_start_4 : decode b_M_start 4 = .ok (.ifCond .lt 7, 3) := by decide +kernel
theorem d_M_start_7 : decode b_M_start 7 = .ok (.aload_n 0, 1) := by decide +kernel
theorem d_M_start_8 : decode b_M_start 8 = .ok (.invokevirtual 36, 3) := by decide +kernel
theorem d_M_start_11 : decode b_M_start 11 = .ok (.aload_n 0, 1) := by decide +kernel
theorem d_M_start_12 : decode b_M_start 12 = .ok (.iload_n 1, 1) := by decide +kernel
theorem d_M_start_13 : decode b_M_start 13 = .ok (.putfield 13, 3) := by decide +kernel
theorem d_M_start_16 : decode b_M_start 16 = .ok (.aload_n 0, 1) := by decide +kernel
theorem d_M_start_17 : decode b_M_start 17 = .ok (.iload_n 1, 1) := by decide +kernel
theorem d_M_start_18 : decode b_M_start 18 = .ok (.ifCond .ne 8, 3) := by decide +kernel
theorem d_M_start_21 : decode b_M_start 21 = .ok (.bipush 40, 2) := by decide +kernel
theorem d_M_start_23 : decode b_M_start 23 = .ok (.goto 35, 3) := by decide +kernel
theorem d_M_start_26 : decode b_M_start 26 = .ok (.iload_n 1, 1) := by decide +kernel
theorem d_M_start_27 : decode b_M_start 27 = .ok (.iconst 1, 1) := by decide +kernel
theorem d_M_start_28 : decode b_M_start 28 = .ok (.if_icmp .ne 8, 3) := by decide +kernel
theorem d_M_start_31 : decode b_M_start 31 = .ok (.bipush 41, 2) := by decide +kernel
theorem d_M_start_33 : decode b_M_start 33 = .ok (.goto 25, 3) := by decide +kernel
theorem d_M_start_36 : decode b_M_start 36 = .ok (.iload_n 1, 1) := by decide +kernel
theorem d_M_start_37 : decode b_M_start 37 = .ok (.iconst 2, 1) := by decide +kernel
theorem d_M_start_38 : decode b_M_start 38 = .ok (.if_icmp .ne 8, 3) := by decide +kernel
theorem d_M_start_41 : decode b_M_start 41 = .ok (.bipush 65, 2) := by decide +kernel
theorem d_M_start_43 : decode b_M_start 43 = .ok (.goto 15, 3) := by decide +kernel
theorem d_M_start_46 : decode b_M_start 46 = .ok (.iload_n 1, 1) := by decide +kernel
theorem d_M_start_47 : decode b_M_start 47 = .ok (.iconst 3, 1) := by decide +kernel
theorem d_M_start_48 : decode b_M_start 48 = .ok (.if_icmp .ne 8, 3) := by decide +kernel
theorem d_M_start_51 : decode b_M_start 51 = .ok (.bipush 63, 2) := by decide +kernel
theorem d_M_start_53 : decode b_M_start 53 = .ok (.goto 5, 3) := by decide +kernel
theorem d_M_start_56 : decode b_M_start 56 = .ok (.bipush 45, 2) := by decide +kernel
theorem d_M_start_58 : decode b_M_start 58 = .ok (.invokevirtual 39, 3) := by decide +kernel
theorem d_M_start_61 : decode b_M_start 61 = .ok (.return_, 1) := by decide +kernel
theorem d_M_close_0 : decode b_M_close 0 = .ok (.aload_n 0, 1) := by decide +kernel
theorem d_M_close_1 : decode b_M_close 1 = .ok (.getfield 7, 3) := by decide +kernel
theorem d_M_close_4 : decode b_M_close 4 = .ok (.aload_n 0, 1) := by decide +kernel
theorem d_M_close_5 : decode b_M_close 5 = .ok (.getfield 23, 3) := by decide +kernel
theorem d_M_close_8 : decode b_M_close 8 = .ok (.bipush 10, 2) := by decide +kernel
theorem d_M_close_10 : decode b_M_close 10 = .ok (.iastore, 1) := by decide +kernel
theorem d_M_close_11 : decode b_M_close 11 = .ok (.aload_n 0, 1) := by decide +kernel
theorem d_M_close_12 : decode b_M_close 12 = .ok (.aload_n 0, 1) := by decide +kernel
theorem d_M_close_13 : decode b_M_close 13 = .ok (.getfield 23, 3) := by decide +kernel
theorem d_M_close_16 : decode b_M_close 16 = .ok (.iconst 1, 1) := by decide +kernel
theorem d_M_close_17 : decode b_M_close 17 = .ok (.iadd, 1) := by decide +kernel
theorem d_M_close_18 : decode b_M_close 18 = .ok (.putfield 23, 3) := by decide +kernel
theorem d_M_close_21 : decode b_M_close 21 = .ok (.aload_n 0, 1) := by decide +kernel
theorem d_M_close_22 : decode b_M_close 22 = .ok (.iconst 0, 1) := by decide +kernel
theorem d_M_close_23 : decode b_M_close 23 = .ok (.putfield 26, 3) := by decide +kernel
theorem d_M_close_26 : decode b_M_close 26 = .ok (.aload_n 0, 1) := by decide +kernel
theorem d_M_close_27 : decode b_M_close 27 = .ok (.iconst (-1), 1) := by decide +kernel
theorem d_M_close_28 : decode b_M_close 28 = .ok (.putfield 13, 3) := by decide +kernel
theorem d_M_close_31 : decode b_M_close 31 = .ok (.return_, 1) := by decide +kernel
theorem d_M_put_0 : decode b_M_put 0 = .ok (.aload_n 0, 1) := by decide +kernel
theorem d_M_put_1 : decode b_M_put 1 = .ok (.getfield 7, 3) := by decide +kernel
theorem d_M_put_4 : decode b_M_put 4 = .ok (.aload_n 0, 1) := by decide +kernel
theorem d_M_put_5 : decode b_M_put 5 = .ok (.getfield 23, 3) := by decide +kernel
theorem d_M_put_8 : decode b_M_put 8 = .ok (.iload_n 1, 1) := by decide +kernel
theorem d_M_put_9 : decode b_M_put 9 = .ok (.iastore, 1) := by decide +kernel
theorem d_M_put_10 : decode b_M_put 10 = .ok (.aload_n 0, 1) := by decide +kernel
theorem d_M_put_11 : decode b_M_put 11 = .ok (.aload_n 0, 1) := by decide +kernel
theorem d_M_put_12 : decode b_M_put 12 = .ok (.getfield 23, 3) := by decide +kernel
theorem d_M_put_15 : decode b_M_put 15 = .ok (.iconst 1, 1) := by decide +kernel
theorem d_M_put_16 : decode b_M_put 16 = .ok (.iadd, 1) := by decide +kernel
theorem d_M_put_17 : decode b_M_put 17 = .ok (.putfield 23, 3) := by decide +kernel
theorem d_M_put_20 : decode b_M_put 20 = .ok (.aload_n 0, 1) := by decide +kernel
theorem d_M_put_21 : decode b_M_put 21 = .ok (.aload_n 0, 1) := by decide +kernel
theorem d_M_put_22 : decode b_M_put 22 = .ok (.getfield 26, 3) := by decide +kernel
theorem d_M_put_25 : decode b_M_put 25 = .ok (.iconst 1, 1) := by decide +kernel
theorem d_M_put_26 : decode b_M_put 26 = .ok (.iadd, 1) := by decide +kernel
theorem d_M_put_27 : decode b_M_put 27 = .ok (.putfield 26, 3) := by decide +kernel
theorem d_M_put_30 : decode b_M_put 30 = .ok (.return_, 1) := by decide +kernel
theorem d_M_add_0 : decode b_M_add 0 = .ok (.aload_n 0, 1) := by decide +kernel
theorem d_M_add_1 : decode b_M_add 1 = .ok (.getfield 13, 3) := by decide +kernel
theorem d_M_add_4 : decode b_M_add 4 = .ok (.ifCond .lt 36, 3) := by decide +kernel
theorem d_M_add_7 : decode b_M_add 7 = .ok (.aload_n 0, 1) := by decide +kernel
theorem d_M_add_8 : decode b_M_add 8 = .ok (.getfield 13, 3) := by decide +kernel
theorem d_M_add_11 : decode b_M_add 11 = .ok (.iconst 4, 1) := by decide +kernel
theorem d_M_add_12 : decode b_M_add 12 = .ok (.if_icmp .eq 28, 3) := by decide +kernel
theorem d_M_add_15 : decode b_M_add 15 = .ok (.aload_n 0, 1) := by decide +kernel
theorem d_M_add_16 : decode b_M_add 16 = .ok (.iload_n 1, 1) := by decide +kernel
theorem d_M_add_17 : decode b_M_add 17 = .ok (.invokevirtual 46, 3) := by decide +kernel
theorem d_M_add_20 : decode b_M_add 20 = .ok (.ifCond .eq 20, 3) := by decide +kernel
theorem d_M_add_23 : decode b_M_add 23 = .ok (.aload_n 0, 1) := by decide +kernel
theorem d_M_add_24 : decode b_M_add 24 = .ok (.getfield 23, 3) := by decide +kernel
theorem d_M_add_27 : decode b_M_add 27 = .ok (.aload_n 0, 1) := by decide +kernel
theorem d_M_add_28 : decode b_M_add 28 = .ok (.getfield 33, 3) := by decide +kernel
theorem d_M_add_31 : decode b_M_add 31 = .ok (.iadd, 1) := by decide +kernel
theorem d_M_add_32 : decode b_M_add 32 = .ok (.iconst 1, 1) := by decide +kernel
theorem d_M_add_33 : decode b_M_add 33 = .ok (.iadd, 1) := by decide +kernel
theorem d_M_add_34 : decode b_M_add 34 = .ok (.sipush 3000, 3) := by decide +kernel
theorem d_M_add_37 : decode b_M_add 37 = .ok (.if_icmp .le 5, 3) := by decide +kernel
theorem d_M_add_40 : decode b_M_add 40 = .ok (.iconst 0, 1) := by decide +kernel
theorem d_M_add_41 : decode b_M_add 41 = .ok (.ireturn, 1) := by decide +kernel
theorem d_M_add_42 : decode b_M_add 42 = .ok (.iconst 0, 1) := by decide +kernel
theorem d_M_add_43 : decode b_M_add 43 = .ok (.istore_n 2, 1) := by decide +kernel
theorem d_M_add_44 : decode b_M_add 44 = .ok (.iload_n 2, 1) := by decide +kernel
theorem d_M_add_45 : decode b_M_add 45 = .ok (.aload_n 0, 1) := by decide +kernel
theorem d_M_add_46 : decode b_M_add 46 = .ok (.getfield 33, 3) := by decide +kernel
theorem d_M_add_49 : decode b_M_add 49 = .ok (.if_icmp .ge 19, 3) := by decide +kernel
theorem d_M_add_52 : decode b_M_add 52 = .ok (.aload_n 0, 1) := by decide +kernel
theorem d_M_add_53 : decode b_M_add 53 = .ok (.aload_n 0, 1) := by decide +kernel
theorem d_M_add_54 : decode b_M_add 54 = .ok (.getfield 20, 3) := by decide +kernel
theorem d_M_add_57 : decode b_M_add 57 = .ok (.iload_n 2, 1) := by decide +kernel
theorem d_M_add_58 : decode b_M_add 58 = .ok (.iaload, 1) := by decide +kernel
theorem d_M_add_59 : decode b_M_add 59 = .ok (.invokevirtual 39, 3) := by decide +kernel
theorem d_M_add_62 : decode b_M_add 62 = .ok (.iinc 2 1, 3) := by decide +kernel
theorem d_M_add_65 : decode b_M_add 65 = .ok (.goto (-21), 3) := by decide +kernel
theorem d_M_add_68 : decode b_M_add 68 = .ok (.iconst 1, 1) := by decide +kernel
theorem d_M_add_69 : decode b_M_add 69 = .ok (.ireturn, 1) := by decide +kernel
theorem d_M_code_0 : decode b_M_code 0 = .ok (.iload_n 1, 1) := by decide +kernel
theorem d_M_code_1 : decode b_M_code 1 = .ok (.ifCond .lt 21, 3) := by decide +kernel
theorem d_M_code_4 : decode b_M_code 4 = .ok (.iload_n 1, 1) := by decide +kernel
theorem d_M_code_5 : decode b_M_code 5 = .ok (.ldc 29, 2) := by decide +kernel
theorem d_M_code_7 : decode b_M_code 7 = .ok (.if_icmp .gt 15, 3) := by decide +kernel
theorem d_M_code_10 : decode b_M_code 10 = .ok (.iload_n 1, 1) := by decide +kernel
theorem d_M_code_11 : decode b_M_code 11 = .ok (.ldc 30, 2) := by decide +kernel
theorem d_M_code_13 : decode b_M_code 13 = .ok (.if_icmp .lt 11, 3) := by decide +kernel
theorem d_M_code_16 : decode b_M_code 16 = .ok (.iload_n 1, 1) := by decide +kernel
theorem d_M_code_17 : decode b_M_code 17 = .ok (.ldc 31, 2) := by decide +kernel
theorem d_M_code_19 : decode b_M_code 19 = .ok (.if_icmp .ge 5, 3) := by decide +kernel
theorem d_M_code_22 : decode b_M_code 22 = .ok (.iconst 0, 1) := by decide +kernel
theorem d_M_code_23 : decode b_M_code 23 = .ok (.ireturn, 1) := by decide +kernel
theorem d_M_code_24 : decode b_M_code 24 = .ok (.aload_n 0, 1) := by decide +kernel
theorem d_M_code_25 : decode b_M_code 25 = .ok (.iload_n 1, 1) := by decide +kernel
theorem d_M_code_26 : decode b_M_code 26 = .ok (.sipush 128, 3) := by decide +kernel
theorem d_M_code_29 : decode b_M_code 29 = .ok (.if_icmp .ge 7, 3) := by decide +kernel
theorem d_M_code_32 : decode b_M_code 32 = .ok (.iconst 1, 1) := by decide +kernel
theorem d_M_code_33 : decode b_M_code 33 = .ok (.goto 25, 3) := by decide +kernel
theorem d_M_code_36 : decode b_M_code 36 = .ok (.iload_n 1, 1) := by decide +kernel
theorem d_M_code_37 : decode b_M_code 37 = .ok (.sipush 2048, 3) := by decide +kernel
theorem d_M_code_40 : decode b_M_code 40 = .ok (.if_icmp .ge 7, 3) := by decide +kernel
theorem d_M_code_43 : decode b_M_code 43 = .ok (.iconst 2, 1) := by decide +kernel
theorem d_M_code_44 : decode b_M_code 44 = .ok (.goto 14, 3) := by decide +kernel
theorem d_M_code_47 : decode b_M_code 47 = .ok (.iload_n 1, 1) := by decide +kernel
theorem d_M_code_48 : decode b_M_code 48 = .ok (.ldc 32, 2) := by decide +kernel
theorem d_M_code_50 : decode b_M_code 50 = .ok (.if_icmp .ge 7, 3) := by decide +kernel
theorem d_M_code_53 : decode b_M_code 53 = .ok (.iconst 3, 1) := by decide +kernel
theorem d_M_code_54 : decode b_M_code 54 = .ok (.goto 4, 3) := by decide +kernel
theorem d_M_code_57 : decode b_M_code 57 = .ok (.iconst 4, 1) := by decide +kernel
theorem d_M_code_58 : decode b_M_code 58 = .ok (.putfield 33, 3) := by decide +kernel
theorem d_M_code_61 : decode b_M_code 61 = .ok (.iload_n 1, 1) := by decide +kernel
theorem d_M_code_62 : decode b_M_code 62 = .ok (.istore_n 2, 1) := by decide +kernel
theorem d_M_code_63 : decode b_M_code 63 = .ok (.aload_n 0, 1) := by decide +kernel
theorem d_M_code_64 : decode b_M_code 64 = .ok (.getfield 33, 3) := by decide +kernel
theorem d_M_code_67 : decode b_M_code 67 = .ok (.iconst 1, 1) := by decide +kernel
theorem d_M_code_68 : decode b_M_code 68 = .ok (.isub, 1) := by decide +kernel
theorem d_M_code_69 : decode b_M_code 69 = .ok (.istore_n 3, 1) := by decide +kernel
theorem d_M_code_70 : decode b_M_code 70 = .ok (.iload_n 3, 1) := by decide +kernel
theorem d_M_code_71 : decode b_M_code 71 = .ok (.ifCond .le 28, 3) := by decide +kernel
theorem d_M_code_74 : decode b_M_code 74 = .ok (.aload_n 0, 1) := by decide +kernel
theorem d_M_code_75 : decode b_M_code 75 = .ok (.getfield 20, 3) := by decide +kernel
theorem d_M_code_78 : decode b_M_code 78 = .ok (.iload_n 3, 1) := by decide +kernel
theorem d_M_code_79 : decode b_M_code 79 = .ok (.sipush 128, 3) := by decide +kernel
theorem d_M_code_82 : decode b_M_code 82 = .ok (.iload_n 2, 1) := by decide +kernel
theorem d_M_code_83 : decode b_M_code 83 = .ok (.bipush 64, 2) := by decide +kernel
theorem d_M_code_85 : decode b_M_code 85 = .ok (.irem, 1) := by decide +kernel
theorem d_M_code_86 : decode b_M_code 86 = .ok (.iadd, 1) := by decide +kernel
theorem d_M_code_87 : decode b_M_code 87 = .ok (.iastore, 1) := by decide +kernel
theorem d_M_code_88 : decode b_M_code 88 = .ok (.iload_n 2, 1) := by decide +kernel
theorem d_M_code_89 : decode b_M_code 89 = .ok (.bipush 64, 2) := by decide +kernel
theorem d_M_code_91 : decode b_M_code 91 = .ok (.idiv, 1) := by decide +kernel
theorem d_M_code_92 : decode b_M_code 92 = .ok (.istore_n 2, 1) := by decide +kernel
theorem d_M_code_93 : decode b_M_code 93 = .ok (.iinc 3 (-1), 3) := by decide +kernel
theorem d_M_code_96 : decode b_M_code 96 = .ok (.goto (-26), 3) := by decide +kernel
theorem d_M_code_99 : decode b_M_code 99 = .ok (.aload_n 0, 1) := by decide +kernel
theorem d_M_code_100 : decode b_M_code 100 = .ok (.getfield 20, 3) := by decide +kernel
theorem d_M_code_103 : decode b_M_code 103 = .ok (.iconst 0, 1) := by decide +kernel
theorem d_M_code_104 : decode b_M_code 104 = .ok (.aload_n 0, 1) := by decide +kernel
theorem d_M_code_105 : decode b_M_code 105 = .ok (.getfield 33, 3) := by decide +kernel
theorem d_M_code_108 : decode b_M_code 108 = .ok (.iconst 1, 1) := by decide +kernel
theorem d_M_code_109 : decode b_M_code 109 = .ok (.if_icmp .ne 7, 3) := by decide +kernel
theorem d_M_code_112 : decode b_M_code 112 = .ok (.iload_n 2, 1) := by decide +kernel
theorem d_M_code_113 : decode b_M_code 113 = .ok (.goto 40, 3) := by decide +kernel
theorem d_M_code_116 : decode b_M_code 116 = .ok (.aload_n 0, 1) := by decide +kernel
theorem d_M_code_117 : decode b_M_code 117 = .ok (.getfield 33, 3) := by decide +kernel
theorem d_M_code_120 : decode b_M_code 120 = .ok (.iconst 2, 1) := by decide +kernel
theorem d_M_code_121 : decode b_M_code 121 = .ok (.if_icmp .ne 11, 3) := by decide +kernel
theorem d_M_code_124 : decode b_M_code 124 = .ok (.sipush 192, 3) := by decide +kernel
theorem d_M_code_127 : decode b_M_code 127 = .ok (.iload_n 2, 1) := by decide +kernel
theorem d_M_code_128 : decode b_M_code 128 = .ok (.iadd, 1) := by decide +kernel
theorem d_M_code_129 : decode b_M_code 129 = .ok (.goto 24, 3) := by decide +kernel
theorem d_M_code_132 : decode b_M_code 132 = .ok (.aload_n 0, 1) := by decide +kernel
theorem d_M_code_133 : decode b_M_code 133 = .ok (.getfield 33, 3) := by decide +kernel
theorem d_M_code_136 : decode b_M_code 136 = .ok (.iconst 3, 1) := by decide +kernel
theorem d_M_code_137 : decode b_M_code 137 = .ok (.if_icmp .ne 11, 3) := by decide +kernel
theorem d_M_code_140 : decode b_M_code 140 = .ok (.sipush 224, 3) := by decide +kernel
theorem d_M_code_143 : decode b_M_code 143 = .ok (.iload_n 2, 1) := by decide +kernel
theorem d_M_code_144 : decode b_M_code 144 = .ok (.iadd, 1) := by decide +kernel
theorem d_M_code_145 : decode b_M_code 145 = .ok (.goto 8, 3) := by decide +kernel
theorem d_M_code_148 : decode b_M_code 148 = .ok (.sipush 240, 3) := by decide +kernel
theorem d_M_code_151 : decode b_M_code 151 = .ok (.iload_n 2, 1) := by decide +kernel
theorem d_M_code_152 : decode b_M_code 152 = .ok (.iadd, 1) := by decide +kernel
theorem d_M_code_153 : decode b_M_code 153 = .ok (.iastore, 1) := by decide +kernel
theorem d_M_code_154 : decode b_M_code 154 = .ok (.iload_n 1, 1) := by decide +kernel
theorem d_M_code_155 : decode b_M_code 155 = .ok (.bipush 92, 2) := by decide +kernel
theorem d_M_code_157 : decode b_M_code 157 = .ok (.if_icmp .ne 8, 3) := by decide +kernel
theorem d_M_code_160 : decode b_M_code 160 = .ok (.bipush 92, 2) := by decide +kernel
theorem d_M_code_162 : decode b_M_code 162 = .ok (.goto 37, 3) := by decide +kernel
theorem d_M_code_165 : decode b_M_code 165 = .ok (.iload_n 1, 1) := by decide +kernel
theorem d_M_code_166 : decode b_M_code 166 = .ok (.bipush 10, 2) := by decide +kernel
theorem d_M_code_168 : decode b_M_code 168 = .ok (.if_icmp .ne 8, 3) := by decide +kernel
theorem d_M_code_171 : decode b_M_code 171 = .ok (.bipush 110, 2) := by decide +kernel
theorem d_M_code_173 : decode b_M_code 173 = .ok (.goto 26, 3) := by decide +kernel
theorem d_M_code_176 : decode b_M_code 176 = .ok (.iload_n 1, 1) := by decide +kernel
theorem d_M_code_177 : decode b_M_code 177 = .ok (.bipush 9, 2) := by decide +kernel
theorem d_M_code_179 : decode b_M_code 179 = .ok (.if_icmp .ne 8, 3) := by decide +kernel
theorem d_M_code_182 : decode b_M_code 182 = .ok (.bipush 116, 2) := by decide +kernel
theorem d_M_code_184 : decode b_M_code 184 = .ok (.goto 15, 3) := by decide +kernel
theorem d_M_code_187 : decode b_M_code 187 = .ok (.iload_n 1, 1) := by decide +kernel
theorem d_M_code_188 : decode b_M_code 188 = .ok (.bipush 13, 2) := by decide +kernel
theorem d_M_code_190 : decode b_M_code 190 = .ok (.if_icmp .ne 8, 3) := by decide +kernel
theorem d_M_code_193 : decode b_M_code 193 = .ok (.bipush 114, 2) := by decide +kernel
theorem d_M_code_195 : decode b_M_code 195 = .ok (.goto 4, 3) := by decide +kernel
theorem d_M_code_198 : decode b_M_code 198 = .ok (.iconst 0, 1) := by decide +kernel
theorem d_M_code_199 : decode b_M_code 199 = .ok (.istore_n 3, 1) := by decide +kernel
theorem d_M_code_200 : decode b_M_code 200 = .ok (.iload_n 3, 1) := by decide +kernel
theorem d_M_code_201 : decode b_M_code 201 = .ok (.ifCond .le 23, 3) := by decide +kernel
theorem d_M_code_204 : decode b_M_code 204 = .ok (.aload_n 0, 1) := by decide +kernel
theorem d_M_code_205 : decode b_M_code 205 = .ok (.iconst 2, 1) := by decide +kernel
theorem d_M_code_206 : decode b_M_code 206 = .ok (.putfield 33, 3) := by decide +kernel
theorem d_M_code_209 : decode b_M_code 209 = .ok (.aload_n 0, 1) := by decide +kernel
theorem d_M_code_210 : decode b_M_code 210 = .ok (.getfield 20, 3) := by decide +kernel
theorem d_M_code_213 : decode b_M_code 213 = .ok (.iconst 0, 1) := by decide +kernel
theorem d_M_code_214 : decode b_M_code 214 = .ok (.bipush 92, 2) := by decide +kernel
theorem d_M_code_216 : decode b_M_code 216 = .ok (.iastore, 1) := by decide +kernel
theorem d_M_code_217 : decode b_M_code 217 = .ok (.aload_n 0, 1) := by decide +kernel
theorem d_M_code_218 : decode b_M_code 218 = .ok (.getfield 20, 3) := by decide +kernel
theorem d_M_code_221 : decode b_M_code 221 = .ok (.iconst 1, 1) := by decide +kernel
theorem d_M_code_222 : decode b_M_code 222 = .ok (.iload_n 3, 1) := by decide +kernel
theorem d_M_code_223 : decode b_M_code 223 = .ok (.iastore, 1) := by decide +kernel
theorem d_M_code_224 : decode b_M_code 224 = .ok (.iconst 1, 1) := by decide +kernel
theorem d_M_code_225 : decode b_M_code 225 = .ok (.ireturn, 1) := by decide +kernel
theorem d_M_text_0 : decode b_M_text 0 = .ok (.aload_n 0, 1) := by decide +kernel
theorem d_M_text_1 : decode b_M_text 1 = .ok (.iload_n 1, 1) := by decide +kernel
theorem d_M_text_2 : decode b_M_text 2 = .ok (.invokevirtual 46, 3) := by decide +kernel
theorem d_M_text_5 : decode b_M_text 5 = .ok (.ifCond .ne 5, 3) := by decide +kernel
theorem d_M_text_8 : decode b_M_text 8 = .ok (.iconst 0, 1) := by decide +kernel
theorem d_M_text_9 : decode b_M_text 9 = .ok (.ireturn, 1) := by decide +kernel
theorem d_M_text_10 : decode b_M_text 10 = .ok (.aload_n 0, 1) := by decide +kernel
theorem d_M_text_11 : decode b_M_text 11 = .ok (.getfield 13, 3) := by decide +kernel
theorem d_M_text_14 : decode b_M_text 14 = .ok (.iconst 4, 1) := by decide +kernel
theorem d_M_text_15 : decode b_M_text 15 = .ok (.if_icmp .ne 7, 3) := by decide +kernel
theorem d_M_text_18 : decode b_M_text 18 = .ok (.iconst 0, 1) := by decide +kernel
theorem d_M_text_19 : decode b_M_text 19 = .ok (.goto 15, 3) := by decide +kernel
theorem d_M_text_22 : decode b_M_text 22 = .ok (.aload_n 0, 1) := by decide +kernel
theorem d_M_text_23 : decode b_M_text 23 = .ok (.getfield 13, 3) := by decide +kernel
theorem d_M_text_26 : decode b_M_text 26 = .ok (.ifCond .lt 7, 3) := by decide +kernel
theorem d_M_text_29 : decode b_M_text 29 = .ok (.iconst 2, 1) := by decide +kernel
theorem d_M_text_30 : decode b_M_text 30 = .ok (.goto 4, 3) := by decide +kernel
theorem d_M_text_33 : decode b_M_text 33 = .ok (.iconst 1, 1) := by decide +kernel
theorem d_M_text_34 : decode b_M_text 34 = .ok (.istore_n 2, 1) := by decide +kernel
theorem d_M_text_35 : decode b_M_text 35 = .ok (.aload_n 0, 1) := by decide +kernel
theorem d_M_text_36 : decode b_M_text 36 = .ok (.getfield 23, 3) := by decide +kernel
theorem d_M_text_39 : decode b_M_text 39 = .ok (.iload_n 2, 1) := by decide +kernel
theorem d_M_text_40 : decode b_M_text 40 = .ok (.iadd, 1) := by decide +kernel
theorem d_M_text_41 : decode b_M_text 41 = .ok (.aload_n 0, 1) := by decide +kernel
theorem d_M_text_42 : decode b_M_text 42 = .ok (.getfield 33, 3) := by decide +kernel
theorem d_M_text_45 : decode b_M_text 45 = .ok (.iadd, 1) := by decide +kernel
theorem d_M_text_46 : decode b_M_text 46 = .ok (.iconst 1, 1) := by decide +kernel
theorem d_M_text_47 : decode b_M_text 47 = .ok (.iadd, 1) := by decide +kernel
theorem d_M_text_48 : decode b_M_text 48 = .ok (.sipush 3000, 3) := by decide +kernel
theorem d_M_text_51 : decode b_M_text 51 = .ok (.if_icmp .le 5, 3) := by decide +kernel
theorem d_M_text_54 : decode b_M_text 54 = .ok (.iconst 0, 1) := by decide +kernel
theorem d_M_text_55 : decode b_M_text 55 = .ok (.ireturn, 1) := by decide +kernel
theorem d_M_text_56 : decode b_M_text 56 = .ok (.aload_n 0, 1) := by decide +kernel
theorem d_M_text_57 : decode b_M_text 57 = .ok (.getfield 13, 3) := by decide +kernel
theorem d_M_text_60 : decode b_M_text 60 = .ok (.iconst 4, 1) := by decide +kernel
theorem d_M_text_61 : decode b_M_text 61 = .ok (.if_icmp .eq 8, 3) := by decide +kernel
theorem d_M_text_64 : decode b_M_text 64 = .ok (.aload_n 0, 1) := by decide +kernel
theorem d_M_text_65 : decode b_M_text 65 = .ok (.iconst 4, 1) := by decide +kernel
theorem d_M_text_66 : decode b_M_text 66 = .ok (.invokevirtual 43, 3) := by decide +kernel
theorem d_M_text_69 : decode b_M_text 69 = .ok (.iconst 0, 1) := by decide +kernel
theorem d_M_text_70 : decode b_M_text 70 = .ok (.istore_n 3, 1) := by decide +kernel
theorem d_M_text_71 : decode b_M_text 71 = .ok (.iload_n 3, 1) := by decide +kernel
theorem d_M_text_72 : decode b_M_text 72 = .ok (.aload_n 0, 1) := by decide +kernel
theorem d_M_text_73 : decode b_M_text 73 = .ok (.getfield 33, 3) := by decide +kernel
theorem d_M_text_76 : decode b_M_text 76 = .ok (.if_icmp .ge 19, 3) := by decide +kernel
theorem d_M_text_79 : decode b_M_text 79 = .ok (.aload_n 0, 1) := by decide +kernel
theorem d_M_text_80 : decode b_M_text 80 = .ok (.aload_n 0, 1) := by decide +kernel
theorem d_M_text_81 : decode b_M_text 81 = .ok (.getfield 20, 3) := by decide +kernel
theorem d_M_text_84 : decode b_M_text 84 = .ok (.iload_n 3, 1) := by decide +kernel
theorem d_M_text_85 : decode b_M_text 85 = .ok (.iaload, 1) := by decide +kernel
theorem d_M_text_86 : decode b_M_text 86 = .ok (.invokevirtual 39, 3) := by decide +kernel
theorem d_M_text_89 : decode b_M_text 89 = .ok (.iinc 3 1, 3) := by decide +kernel
theorem d_M_text_92 : decode b_M_text 92 = .ok (.goto (-21), 3) := by decide +kernel
theorem d_M_text_95 : decode b_M_text 95 = .ok (.iconst 1, 1) := by decide +kernel
theorem d_M_text_96 : decode b_M_text 96 = .ok (.ireturn, 1) := by decide +kernel
theorem d_M_end_0 : decode b_M_end 0 = .ok (.aload_n 0, 1) := by decide +kernel
theorem d_M_end_1 : decode b_M_end 1 = .ok (.getfield 13, 3) := by decide +kernel
theorem d_M_end_4 : decode b_M_end 4 = .ok (.istore_n 1, 1) := by decide +kernel
theorem d_M_end_5 : decode b_M_end 5 = .ok (.aload_n 0, 1) := by decide +kernel
theorem d_M_end_6 : decode b_M_end 6 = .ok (.getfield 13, 3) := by decide +kernel
theorem d_M_end_9 : decode b_M_end 9 = .ok (.ifCond .lt 7, 3) := by decide +kernel
theorem d_M_end_12 : decode b_M_end 12 = .ok (.aload_n 0, 1) := by decide +kernel
theorem d_M_end_13 : decode b_M_end 13 = .ok (.invokevirtual 36, 3) := by decide +kernel
theorem d_M_end_16 : decode b_M_end 16 = .ok (.iload_n 1, 1) := by decide +kernel
theorem d_M_end_17 : decode b_M_end 17 = .ok (.ireturn, 1) := by decide +kernel
theorem d_M_back_0 : decode b_M_back 0 = .ok (.iload_n 1, 1) := by decide +kernel
theorem d_M_back_1 : decode b_M_back 1 = .ok (.aload_n 0, 1) := by decide +kernel
theorem d_M_back_2 : decode b_M_back 2 = .ok (.getfield 50, 3) := by decide +kernel
theorem d_M_back_5 : decode b_M_back 5 = .ok (.isub, 1) := by decide +kernel
theorem d_M_back_6 : decode b_M_back 6 = .ok (.istore_n 2, 1) := by decide +kernel
theorem d_M_back_7 : decode b_M_back 7 = .ok (.iload_n 2, 1) := by decide +kernel
theorem d_M_back_8 : decode b_M_back 8 = .ok (.ifCond .lt 11, 3) := by decide +kernel
theorem d_M_back_11 : decode b_M_back 11 = .ok (.iload_n 2, 1) := by decide +kernel
theorem d_M_back_12 : decode b_M_back 12 = .ok (.aload_n 0, 1) := by decide +kernel
theorem d_M_back_13 : decode b_M_back 13 = .ok (.getfield 23, 3) := by decide +kernel
theorem d_M_back_16 : decode b_M_back 16 = .ok (.if_icmp .le 5, 3) := by decide +kernel
theorem d_M_back_19 : decode b_M_back 19 = .ok (.iconst 0, 1) := by decide +kernel
theorem d_M_back_20 : decode b_M_back 20 = .ok (.ireturn, 1) := by decide +kernel
theorem d_M_back_21 : decode b_M_back 21 = .ok (.iload_n 2, 1) := by decide +kernel
theorem d_M_back_22 : decode b_M_back 22 = .ok (.ifCond .le 14, 3) := by decide +kernel
theorem d_M_back_25 : decode b_M_back 25 = .ok (.aload_n 0, 1) := by decide +kernel
theorem d_M_back_26 : decode b_M_back 26 = .ok (.getfield 7, 3) := by decide +kernel
theorem d_M_back_29 : decode b_M_back 29 = .ok (.iload_n 2, 1) := by decide +kernel
theorem d_M_back_30 : decode b_M_back 30 = .ok (.iconst 1, 1) := by decide +kernel
theorem d_M_back_31 : decode b_M_back 31 = .ok (.isub, 1) := by decide +kernel
theorem d_M_back_32 : decode b_M_back 32 = .ok (.iaload, 1) := by decide +kernel
theorem d_M_back_33 : decode b_M_back 33 = .ok (.goto 7, 3) := by decide +kernel
theorem d_M_back_36 : decode b_M_back 36 = .ok (.aload_n 0, 1) := by decide +kernel
theorem d_M_back_37 : decode b_M_back 37 = .ok (.getfield 17, 3) := by decide +kernel
theorem d_M_back_40 : decode b_M_back 40 = .ok (.istore_n 3, 1) := by decide +kernel
theorem d_M_back_41 : decode b_M_back 41 = .ok (.iload_n 3, 1) := by decide +kernel
theorem d_M_back_42 : decode b_M_back 42 = .ok (.bipush 10, 2) := by decide +kernel
theorem d_M_back_44 : decode b_M_back 44 = .ok (.if_icmp .eq 5, 3) := by decide +kernel
theorem d_M_back_47 : decode b_M_back 47 = .ok (.iconst 0, 1) := by decide +kernel
theorem d_M_back_48 : decode b_M_back 48 = .ok (.ireturn, 1) := by decide +kernel
theorem d_M_back_49 : decode b_M_back 49 = .ok (.aload_n 0, 1) := by decide +kernel
theorem d_M_back_50 : decode b_M_back 50 = .ok (.iload_n 2, 1) := by decide +kernel
theorem d_M_back_51 : decode b_M_back 51 = .ok (.putfield 23, 3) := by decide +kernel
theorem d_M_back_54 : decode b_M_back 54 = .ok (.aload_n 0, 1) := by decide +kernel
theorem d_M_back_55 : decode b_M_back 55 = .ok (.iconst 0, 1) := by decide +kernel
theorem d_M_back_56 : decode b_M_back 56 = .ok (.putfield 26, 3) := by decide +kernel
theorem d_M_back_59 : decode b_M_back 59 = .ok (.aload_n 0, 1) := by decide +kernel
theorem d_M_back_60 : decode b_M_back 60 = .ok (.iconst (-1), 1) := by decide +kernel
theorem d_M_back_61 : decode b_M_back 61 = .ok (.putfield 13, 3) := by decide +kernel
theorem d_M_back_64 : decode b_M_back 64 = .ok (.iconst 1, 1) := by decide +kernel
theorem d_M_back_65 : decode b_M_back 65 = .ok (.ireturn, 1) := by decide +kernel
theorem d_M_mark_0 : decode b_M_mark 0 = .ok (.aload_n 0, 1) := by decide +kernel
theorem d_M_mark_1 : decode b_M_mark 1 = .ok (.getfield 13, 3) := by decide +kernel
theorem d_M_mark_4 : decode b_M_mark 4 = .ok (.ifCond .lt 7, 3) := by decide +kernel
theorem d_M_mark_7 : decode b_M_mark 7 = .ok (.iconst (-1), 1) := by decide +kernel
theorem d_M_mark_8 : decode b_M_mark 8 = .ok (.goto 12, 3) := by decide +kernel
theorem d_M_mark_11 : decode b_M_mark 11 = .ok (.aload_n 0, 1) := by decide +kernel
theorem d_M_mark_12 : decode b_M_mark 12 = .ok (.getfield 50, 3) := by decide +kernel
theorem d_M_mark_15 : decode b_M_mark 15 = .ok (.aload_n 0, 1) := by decide +kernel
theorem d_M_mark_16 : decode b_M_mark 16 = .ok (.getfield 23, 3) := by decide +kernel
theorem d_M_mark_19 : decode b_M_mark 19 = .ok (.iadd, 1) := by decide +kernel
theorem d_M_mark_20 : decode b_M_mark 20 = .ok (.ireturn, 1) := by decide +kernel
theorem d_M_take_0 : decode b_M_take 0 = .ok (.aload_n 0, 1) := by decide +kernel
theorem d_M_take_1 : decode b_M_take 1 = .ok (.getfield 23, 3) := by decide +kernel
theorem d_M_take_4 : decode b_M_take 4 = .ok (.aload_n 0, 1) := by decide +kernel
theorem d_M_take_5 : decode b_M_take 5 = .ok (.getfield 26, 3) := by decide +kernel
theorem d_M_take_8 : decode b_M_take 8 = .ok (.isub, 1) := by decide +kernel
theorem d_M_take_9 : decode b_M_take 9 = .ok (.bipush 7, 2) := by decide +kernel
theorem d_M_take_11 : decode b_M_take 11 = .ok (.if_icmp .ge 15, 3) := by decide +kernel
theorem d_M_take_14 : decode b_M_take 14 = .ok (.aload_n 0, 1) := by decide +kernel
theorem d_M_take_15 : decode b_M_take 15 = .ok (.getfield 23, 3) := by decide +kernel
theorem d_M_take_18 : decode b_M_take 18 = .ok (.aload_n 0, 1) := by decide +kernel
theorem d_M_take_19 : decode b_M_take 19 = .ok (.getfield 26, 3) := by decide +kernel
theorem d_M_take_22 : decode b_M_take 22 = .ok (.isub, 1) := by decide +kernel
theorem d_M_take_23 : decode b_M_take 23 = .ok (.goto 5, 3) := by decide +kernel
theorem d_M_take_26 : decode b_M_take 26 = .ok (.bipush 7, 2) := by decide +kernel
theorem d_M_take_28 : decode b_M_take 28 = .ok (.istore_n 1, 1) := by decide +kernel
theorem d_M_take_29 : decode b_M_take 29 = .ok (.iload_n 1, 1) := by decide +kernel
theorem d_M_take_30 : decode b_M_take 30 = .ok (.ifCond .ne 5, 3) := by decide +kernel
theorem d_M_take_33 : decode b_M_take 33 = .ok (.lconst 0, 1) := by decide +kernel
theorem d_M_take_34 : decode b_M_take 34 = .ok (.lreturn, 1) := by decide +kernel
theorem d_M_take_35 : decode b_M_take 35 = .ok (.iload_n 1, 1) := by decide +kernel
theorem d_M_take_36 : decode b_M_take 36 = .ok (.i2l, 1) := by decide +kernel
theorem d_M_take_37 : decode b_M_take 37 = .ok (.bipush 56, 2) := by decide +kernel
theorem d_M_take_39 : decode b_M_take 39 = .ok (.lshl, 1) := by decide +kernel
theorem d_M_take_40 : decode b_M_take 40 = .ok (.lstore_n 2, 1) := by decide +kernel
theorem d_M_take_41 : decode b_M_take 41 = .ok (.iconst 0, 1) := by decide +kernel
theorem d_M_take_42 : decode b_M_take 42 = .ok (.istore 4, 2) := by decide +kernel
theorem d_M_take_44 : decode b_M_take 44 = .ok (.iload 4, 2) := by decide +kernel
theorem d_M_take_46 : decode b_M_take 46 = .ok (.iload_n 1, 1) := by decide +kernel
theorem d_M_take_47 : decode b_M_take 47 = .ok (.if_icmp .ge 55, 3) := by decide +kernel
theorem d_M_take_50 : decode b_M_take 50 = .ok (.lload_n 2, 1) := by decide +kernel
theorem d_M_take_51 : decode b_M_take 51 = .ok (.aload_n 0, 1) := by decide +kernel
theorem d_M_take_52 : decode b_M_take 52 = .ok (.getfield 7, 3) := by decide +kernel
theorem d_M_take_55 : decode b_M_take 55 = .ok (.iload 4, 2) := by decide +kernel
theorem d_M_take_57 : decode b_M_take 57 = .ok (.iaload, 1) := by decide +kernel
theorem d_M_take_58 : decode b_M_take 58 = .ok (.i2l, 1) := by decide +kernel
theorem d_M_take_59 : decode b_M_take 59 = .ok (.bipush 48, 2) := by decide +kernel
theorem d_M_take_61 : decode b_M_take 61 = .ok (.bipush 8, 2) := by decide +kernel
theorem d_M_take_63 : decode b_M_take 63 = .ok (.iload 4, 2) := by decide +kernel
theorem d_M_take_65 : decode b_M_take 65 = .ok (.imul, 1) := by decide +kernel
theorem d_M_take_66 : decode b_M_take 66 = .ok (.isub, 1) := by decide +kernel
theorem d_M_take_67 : decode b_M_take 67 = .ok (.lshl, 1) := by decide +kernel
theorem d_M_take_68 : decode b_M_take 68 = .ok (.lor, 1) := by decide +kernel
theorem d_M_take_69 : decode b_M_take 69 = .ok (.lstore_n 2, 1) := by decide +kernel
theorem d_M_take_70 : decode b_M_take 70 = .ok (.aload_n 0, 1) := by decide +kernel
theorem d_M_take_71 : decode b_M_take 71 = .ok (.aload_n 0, 1) := by decide +kernel
theorem d_M_take_72 : decode b_M_take 72 = .ok (.getfield 53, 3) := by decide +kernel
theorem d_M_take_75 : decode b_M_take 75 = .ok (.aload_n 0, 1) := by decide +kernel
theorem d_M_take_76 : decode b_M_take 76 = .ok (.getfield 7, 3) := by decide +kernel
theorem d_M_take_79 : decode b_M_take 79 = .ok (.iload 4, 2) := by decide +kernel
theorem d_M_take_81 : decode b_M_take 81 = .ok (.iaload, 1) := by decide +kernel
theorem d_M_take_82 : decode b_M_take 82 = .ok (.bipush 10, 2) := by decide +kernel
theorem d_M_take_84 : decode b_M_take 84 = .ok (.if_icmp .ne 7, 3) := by decide +kernel
theorem d_M_take_87 : decode b_M_take 87 = .ok (.iconst 1, 1) := by decide +kernel
theorem d_M_take_88 : decode b_M_take 88 = .ok (.goto 4, 3) := by decide +kernel
theorem d_M_take_91 : decode b_M_take 91 = .ok (.iconst 0, 1) := by decide +kernel
theorem d_M_take_92 : decode b_M_take 92 = .ok (.iadd, 1) := by decide +kernel
theorem d_M_take_93 : decode b_M_take 93 = .ok (.putfield 53, 3) := by decide +kernel
theorem d_M_take_96 : decode b_M_take 96 = .ok (.iinc 4 1, 3) := by decide +kernel
theorem d_M_take_99 : decode b_M_take 99 = .ok (.goto (-55), 3) := by decide +kernel
theorem d_M_take_102 : decode b_M_take 102 = .ok (.aload_n 0, 1) := by decide +kernel
theorem d_M_take_103 : decode b_M_take 103 = .ok (.aload_n 0, 1) := by decide +kernel
theorem d_M_take_104 : decode b_M_take 104 = .ok (.getfield 7, 3) := by decide +kernel
theorem d_M_take_107 : decode b_M_take 107 = .ok (.iload_n 1, 1) := by decide +kernel
theorem d_M_take_108 : decode b_M_take 108 = .ok (.iconst 1, 1) := by decide +kernel
theorem d_M_take_109 : decode b_M_take 109 = .ok (.isub, 1) := by decide +kernel
theorem d_M_take_110 : decode b_M_take 110 = .ok (.iaload, 1) := by decide +kernel
theorem d_M_take_111 : decode b_M_take 111 = .ok (.putfield 17, 3) := by decide +kernel
theorem d_M_take_114 : decode b_M_take 114 = .ok (.iload_n 1, 1) := by decide +kernel
theorem d_M_take_115 : decode b_M_take 115 = .ok (.istore 4, 2) := by decide +kernel
theorem d_M_take_117 : decode b_M_take 117 = .ok (.iload 4, 2) := by decide +kernel
theorem d_M_take_119 : decode b_M_take 119 = .ok (.aload_n 0, 1) := by decide +kernel
theorem d_M_take_120 : decode b_M_take 120 = .ok (.getfield 23, 3) := by decide +kernel
theorem d_M_take_123 : decode b_M_take 123 = .ok (.if_icmp .ge 25, 3) := by decide +kernel
theorem d_M_take_126 : decode b_M_take 126 = .ok (.aload_n 0, 1) := by decide +kernel
theorem d_M_take_127 : decode b_M_take 127 = .ok (.getfield 7, 3) := by decide +kernel
theorem d_M_take_130 : decode b_M_take 130 = .ok (.iload 4, 2) := by decide +kernel
theorem d_M_take_132 : decode b_M_take 132 = .ok (.iload_n 1, 1) := by decide +kernel
theorem d_M_take_133 : decode b_M_take 133 = .ok (.isub, 1) := by decide +kernel
theorem d_M_take_134 : decode b_M_take 134 = .ok (.aload_n 0, 1) := by decide +kernel
theorem d_M_take_135 : decode b_M_take 135 = .ok (.getfield 7, 3) := by decide +kernel
theorem d_M_take_138 : decode b_M_take 138 = .ok (.iload 4, 2) := by decide +kernel
theorem d_M_take_140 : decode b_M_take 140 = .ok (.iaload, 1) := by decide +kernel
theorem d_M_take_141 : decode b_M_take 141 = .ok (.iastore, 1) := by decide +kernel
theorem d_M_take_142 : decode b_M_take 142 = .ok (.iinc 4 1, 3) := by decide +kernel
theorem d_M_take_145 : decode b_M_take 145 = .ok (.goto (-28), 3) := by decide +kernel
theorem d_M_take_148 : decode b_M_take 148 = .ok (.aload_n 0, 1) := by decide +kernel
theorem d_M_take_149 : decode b_M_take 149 = .ok (.aload_n 0, 1) := by decide +kernel
theorem d_M_take_150 : decode b_M_take 150 = .ok (.getfield 23, 3) := by decide +kernel
theorem d_M_take_153 : decode b_M_take 153 = .ok (.iload_n 1, 1) := by decide +kernel
theorem d_M_take_154 : decode b_M_take 154 = .ok (.isub, 1) := by decide +kernel
theorem d_M_take_155 : decode b_M_take 155 = .ok (.putfield 23, 3) := by decide +kernel
theorem d_M_take_158 : decode b_M_take 158 = .ok (.aload_n 0, 1) := by decide +kernel
theorem d_M_take_159 : decode b_M_take 159 = .ok (.aload_n 0, 1) := by decide +kernel
theorem d_M_take_160 : decode b_M_take 160 = .ok (.getfield 50, 3) := by decide +kernel
theorem d_M_take_163 : decode b_M_take 163 = .ok (.iload_n 1, 1) := by decide +kernel
theorem d_M_take_164 : decode b_M_take 164 = .ok (.iadd, 1) := by decide +kernel
theorem d_M_take_165 : decode b_M_take 165 = .ok (.putfield 50, 3) := by decide +kernel
theorem d_M_take_168 : decode b_M_take 168 = .ok (.lload_n 2, 1) := by decide +kernel
theorem d_M_take_169 : decode b_M_take 169 = .ok (.lreturn, 1) := by decide +kernel
theorem d_M_count_0 : decode b_M_count 0 = .ok (.iload_n 1, 1) := by decide +kernel
theorem d_M_count_1 : decode b_M_count 1 = .ok (.tableswitch 49 0 3 #[31, 36, 39, 44], 31) := by decide +kernel
theorem d_M_count_32 : decode b_M_count 32 = .ok (.aload_n 0, 1) := by decide +kernel
theorem d_M_count_33 : decode b_M_count 33 = .ok (.getfield 23, 3) := by decide +kernel
theorem d_M_count_36 : decode b_M_count 36 = .ok (.ireturn, 1) := by decide +kernel
theorem d_M_count_37 : decode b_M_count 37 = .ok (.goto 15, 3) := by decide +kernel
theorem d_M_count_40 : decode b_M_count 40 = .ok (.aload_n 0, 1) := by decide +kernel
theorem d_M_count_41 : decode b_M_count 41 = .ok (.getfield 13, 3) := by decide +kernel
theorem d_M_count_44 : decode b_M_count 44 = .ok (.ireturn, 1) := by decide +kernel
theorem d_M_count_45 : decode b_M_count 45 = .ok (.aload_n 0, 1) := by decide +kernel
theorem d_M_count_46 : decode b_M_count 46 = .ok (.getfield 26, 3) := by decide +kernel
theorem d_M_count_49 : decode b_M_count 49 = .ok (.ireturn, 1) := by decide +kernel
theorem d_M_count_50 : decode b_M_count 50 = .ok (.iconst (-1), 1) := by decide +kernel
theorem d_M_count_51 : decode b_M_count 51 = .ok (.ireturn, 1) := by decide +kernel
theorem d_M_count_52 : decode b_M_count 52 = .ok (.aload_n 0, 1) := by decide +kernel
theorem d_M_count_53 : decode b_M_count 53 = .ok (.getfield 53, 3) := by decide +kernel
theorem d_M_count_56 : decode b_M_count 56 = .ok (.istore_n 2, 1) := by decide +kernel
theorem d_M_count_57 : decode b_M_count 57 = .ok (.iconst 0, 1) := by decide +kernel
theorem d_M_count_58 : decode b_M_count 58 = .ok (.istore_n 3, 1) := by decide +kernel
theorem d_M_count_59 : decode b_M_count 59 = .ok (.iload_n 3, 1) := by decide +kernel
theorem d_M_count_60 : decode b_M_count 60 = .ok (.aload_n 0, 1) := by decide +kernel
theorem d_M_count_61 : decode b_M_count 61 = .ok (.getfield 23, 3) := by decide +kernel
theorem d_M_count_64 : decode b_M_count 64 = .ok (.if_icmp .ge 28, 3) := by decide +kernel
theorem d_M_count_67 : decode b_M_count 67 = .ok (.iload_n 2, 1) := by decide +kernel
theorem d_M_count_68 : decode b_M_count 68 = .ok (.aload_n 0, 1) := by decide +kernel
theorem d_M_count_69 : decode b_M_count 69 = .ok (.getfield 7, 3) := by decide +kernel
theorem d_M_count_72 : decode b_M_count 72 = .ok (.iload_n 3, 1) := by decide +kernel
theorem d_M_count_73 : decode b_M_count 73 = .ok (.iaload, 1) := by decide +kernel
theorem d_M_count_74 : decode b_M_count 74 = .ok (.bipush 10, 2) := by decide +kernel
theorem d_M_count_76 : decode b_M_count 76 = .ok (.if_icmp .ne 7, 3) := by decide +kernel
theorem d_M_count_79 : decode b_M_count 79 = .ok (.iconst 1, 1) := by decide +kernel
theorem d_M_count_80 : decode b_M_count 80 = .ok (.goto 4, 3) := by decide +kernel
theorem d_M_count_83 : decode b_M_count 83 = .ok (.iconst 0, 1) := by decide +kernel
theorem d_M_count_84 : decode b_M_count 84 = .ok (.iadd, 1) := by decide +kernel
theorem d_M_count_85 : decode b_M_count 85 = .ok (.istore_n 2, 1) := by decide +kernel
theorem d_M_count_86 : decode b_M_count 86 = .ok (.iinc 3 1, 3) := by decide +kernel
theorem d_M_count_89 : decode b_M_count 89 = .ok (.goto (-30), 3) := by decide +kernel
theorem d_M_count_92 : decode b_M_count 92 = .ok (.iload_n 2, 1) := by decide +kernel
theorem d_M_count_93 : decode b_M_count 93 = .ok (.ireturn, 1) := by decide +kernel
end
section
/-! decode rows (printed by gen02.py) -/
theorem d_D_init_0 : decode b_D_init 0 = .ok (.aload_n 0, 1) := by decide +kernel
theorem d_D_init_1 : decode b_D_init 1 = .ok (.invokespecial 1, 3) := by decide +kernel
theorem d_D_init_4 : decode b_D_init 4 = .ok (.aload_n 0, 1) := by decide +kernel
theorem d_D_init_5 : decode b_D_init 5 = .ok (.invokestatic 7, 3) := by decide +kernel
theorem d_D_init_8 : decode b_D_init 8 = .ok (.putfield 13, 3) := by decide +kernel
theorem d_D_init_11 : decode b_D_init 11 = .ok (.aload_n 0, 1) := by decide +kernel
theorem d_D_init_12 : decode b_D_init 12 = .ok (.new 19, 3) := by decide +kernel
theorem d_D_init_15 : decode b_D_init 15 = .ok (.dup, 1) := by decide +kernel
theorem d_D_init_16 : decode b_D_init 16 = .ok (.sipush 3000, 3) := by decide +kernel
theorem d_D_init_19 : decode b_D_init 19 = .ok (.invokespecial 21, 3) := by decide +kernel
theorem d_D_init_22 : decode b_D_init 22 = .ok (.putfield 24, 3) := by decide +kernel
theorem d_D_init_25 : decode b_D_init 25 = .ok (.return_, 1) := by decide +kernel
theorem d_K_values_0 : decode b_K_values 0 = .ok (.getstatic 19, 3) := by decide +kernel
theorem d_K_values_3 : decode b_K_values 3 = .ok (.invokevirtual 23, 3) := by decide +kernel
theorem d_K_values_6 : decode b_K_values 6 = .ok (.checkcast 24, 3) := by decide +kernel
theorem d_K_values_9 : decode b_K_values 9 = .ok (.areturn, 1) := by decide +kernel
theorem d_D_begin_0 : decode b_D_begin 0 = .ok (.iload_n 1, 1) := by decide +kernel
theorem d_D_begin_1 : decode b_D_begin 1 = .ok (.ifCond .lt 28, 3) := by decide +kernel
theorem d_D_begin_4 : decode b_D_begin 4 = .ok (.iload_n 1, 1) := by decide +kernel
theorem d_D_begin_5 : decode b_D_begin 5 = .ok (.iconst 4, 1) := by decide +kernel
theorem d_D_begin_6 : decode b_D_begin 6 = .ok (.if_icmp .ge 23, 3) := by decide +kernel
theorem d_D_begin_9 : decode b_D_begin 9 = .ok (.aload_n 0, 1) := by decide +kernel
theorem d_D_begin_10 : decode b_D_begin 10 = .ok (.getfield 24, 3) := by decide +kernel
theorem d_D_begin_13 : decode b_D_begin 13 = .ok (.aload_n 0, 1) := by decide +kernel
theorem d_D_begin_14 : decode b_D_begin 14 = .ok (.getfield 13, 3) := by decide +kernel
theorem d_D_begin_17 : decode b_D_begin 17 = .ok (.iload_n 1, 1) := by decide +kernel
theorem d_D_begin_18 : decode b_D_begin 18 = .ok (.aaload, 1) := by decide +kernel
theorem d_D_begin_19 : decode b_D_begin 19 = .ok (.invokevirtual 31, 3) := by decide +kernel
theorem d_D_begin_22 : decode b_D_begin 22 = .ok (.ifCond .eq 7, 3) := by decide +kernel
theorem d_D_begin_25 : decode b_D_begin 25 = .ok (.iconst 1, 1) := by decide +kernel
theorem d_D_begin_26 : decode b_D_begin 26 = .ok (.goto 4, 3) := by decide +kernel
theorem d_D_begin_29 : decode b_D_begin 29 = .ok (.iconst 0, 1) := by decide +kernel
theorem d_D_begin_30 : decode b_D_begin 30 = .ok (.ireturn, 1) := by decide +kernel
theorem d_D_add_0 : decode b_D_add 0 = .ok (.iload_n 1, 1) := by decide +kernel
theorem d_D_add_1 : decode b_D_add 1 = .ok (.invokestatic 35, 3) := by decide +kernel
theorem d_D_add_4 : decode b_D_add 4 = .ok (.ifCond .eq 41, 3) := by decide +kernel
theorem d_D_add_7 : decode b_D_add 7 = .ok (.aload_n 0, 1) := by decide +kernel
theorem d_D_add_8 : decode b_D_add 8 = .ok (.getfield 24, 3) := by decide +kernel
theorem d_D_add_11 : decode b_D_add 11 = .ok (.getfield 39, 3) := by decide +kernel
theorem d_D_add_14 : decode b_D_add 14 = .ok (.ifnull 31, 3) := by decide +kernel
theorem d_D_add_17 : decode b_D_add 17 = .ok (.aload_n 0, 1) := by decide +kernel
theorem d_D_add_18 : decode b_D_add 18 = .ok (.getfield 24, 3) := by decide +kernel
theorem d_D_add_21 : decode b_D_add 21 = .ok (.getfield 39, 3) := by decide +kernel
theorem d_D_add_24 : decode b_D_add 24 = .ok (.getstatic 43, 3) := by decide +kernel
theorem d_D_add_27 : decode b_D_add 27 = .ok (.if_acmp .eq 18, 3) := by decide +kernel
theorem d_D_add_30 : decode b_D_add 30 = .ok (.aload_n 0, 1) := by decide +kernel
theorem d_D_add_31 : decode b_D_add 31 = .ok (.getfield 24, 3) := by decide +kernel
theorem d_D_add_34 : decode b_D_add 34 = .ok (.iload_n 1, 1) := by decide +kernel
theorem d_D_add_35 : decode b_D_add 35 = .ok (.invokevirtual 46, 3) := by decide +kernel
theorem d_D_add_38 : decode b_D_add 38 = .ok (.ifCond .eq 7, 3) := by decide +kernel
theorem d_D_add_41 : decode b_D_add 41 = .ok (.iconst 1, 1) := by decide +kernel
theorem d_D_add_42 : decode b_D_add 42 = .ok (.goto 4, 3) := by decide +kernel
theorem d_D_add_45 : decode b_D_add 45 = .ok (.iconst 0, 1) := by decide +kernel
theorem d_D_add_46 : decode b_D_add 46 = .ok (.ireturn, 1) := by decide +kernel
theorem d_D_isCharacter_0 : decode b_D_isCharacter 0 = .ok (.iload_n 0, 1) := by decide +kernel
theorem d_D_isCharacter_1 : decode b_D_isCharacter 1 = .ok (.ifCond .lt 25, 3) := by decide +kernel
theorem d_D_isCharacter_4 : decode b_D_isCharacter 4 = .ok (.iload_n 0, 1) := by decide +kernel
theorem d_D_isCharacter_5 : decode b_D_isCharacter 5 = .ok (.ldc 28, 2) := by decide +kernel
theorem d_D_isCharacter_7 : decode b_D_isCharacter 7 = .ok (.if_icmp .gt 19, 3) := by decide +kernel
theorem d_D_isCharacter_10 : decode b_D_isCharacter 10 = .ok (.iload_n 0, 1) := by decide +kernel
theorem d_D_isCharacter_11 : decode b_D_isCharacter 11 = .ok (.ldc 29, 2) := by decide +kernel
theorem d_D_isCharacter_13 : decode b_D_isCharacter 13 = .ok (.if_icmp .lt 9, 3) := by decide +kernel
theorem d_D_isCharacter_16 : decode b_D_isCharacter 16 = .ok (.iload_n 0, 1) := by decide +kernel
theorem d_D_isCharacter_17 : decode b_D_isCharacter 17 = .ok (.ldc 30, 2) := by decide +kernel
theorem d_D_isCharacter_19 : decode b_D_isCharacter 19 = .ok (.if_icmp .le 7, 3) := by decide +kernel
theorem d_D_isCharacter_22 : decode b_D_isCharacter 22 = .ok (.iconst 1, 1) := by decide +kernel
theorem d_D_isCharacter_23 : decode b_D_isCharacter 23 = .ok (.goto 4, 3) := by decide +kernel
theorem d_D_isCharacter_26 : decode b_D_isCharacter 26 = .ok (.iconst 0, 1) := by decide +kernel
theorem d_D_isCharacter_27 : decode b_D_isCharacter 27 = .ok (.ireturn, 1) := by decide +kernel
theorem d_D_text_0 : decode b_D_text 0 = .ok (.iload_n 1, 1) := by decide +kernel
theorem d_D_text_1 : decode b_D_text 1 = .ok (.invokestatic 35, 3) := by decide +kernel
theorem d_D_text_4 : decode b_D_text 4 = .ok (.ifCond .eq 18, 3) := by decide +kernel
theorem d_D_text_7 : decode b_D_text 7 = .ok (.aload_n 0, 1) := by decide +kernel
theorem d_D_text_8 : decode b_D_text 8 = .ok (.getfield 24, 3) := by decide +kernel
theorem d_D_text_11 : decode b_D_text 11 = .ok (.iload_n 1, 1) := by decide +kernel
theorem d_D_text_12 : decode b_D_text 12 = .ok (.invokevirtual 49, 3) := by decide +kernel
theorem d_D_text_15 : decode b_D_text 15 = .ok (.ifCond .eq 7, 3) := by decide +kernel
theorem d_D_text_18 : decode b_D_text 18 = .ok (.iconst 1, 1) := by decide +kernel
theorem d_D_text_19 : decode b_D_text 19 = .ok (.goto 4, 3) := by decide +kernel
theorem d_D_text_22 : decode b_D_text 22 = .ok (.iconst 0, 1) := by decide +kernel
theorem d_D_text_23 : decode b_D_text 23 = .ok (.ireturn, 1) := by decide +kernel
theorem d_D_end_0 : decode b_D_end 0 = .ok (.aload_n 0, 1) := by decide +kernel
theorem d_D_end_1 : decode b_D_end 1 = .ok (.getfield 24, 3) := by decide +kernel
theorem d_D_end_4 : decode b_D_end 4 = .ok (.getfield 39, 3) := by decide +kernel
theorem d_D_end_7 : decode b_D_end 7 = .ok (.ifnonnull 5, 3) := by decide +kernel
theorem d_D_end_10 : decode b_D_end 10 = .ok (.iconst (-1), 1) := by decide +kernel
theorem d_D_end_11 : decode b_D_end 11 = .ok (.ireturn, 1) := by decide +kernel
theorem d_D_end_12 : decode b_D_end 12 = .ok (.aload_n 0, 1) := by decide +kernel
theorem d_D_end_13 : decode b_D_end 13 = .ok (.getfield 24, 3) := by decide +kernel
theorem d_D_end_16 : decode b_D_end 16 = .ok (.getfield 39, 3) := by decide +kernel
theorem d_D_end_19 : decode b_D_end 19 = .ok (.invokevirtual 52, 3) := by decide +kernel
theorem d_D_end_22 : decode b_D_end 22 = .ok (.istore_n 1, 1) := by decide +kernel
theorem d_D_end_23 : decode b_D_end 23 = .ok (.aload_n 0, 1) := by decide +kernel
theorem d_D_end_24 : decode b_D_end 24 = .ok (.getfield 24, 3) := by decide +kernel
theorem d_D_end_27 : decode b_D_end 27 = .ok (.invokevirtual 56, 3) := by decide +kernel
theorem d_D_end_30 : decode b_D_end 30 = .ok (.iload_n 1, 1) := by decide +kernel
theorem d_D_end_31 : decode b_D_end 31 = .ok (.ireturn, 1) := by decide +kernel
theorem d_E_ordinal_0 : decode b_E_ordinal 0 = .ok (.aload_n 0, 1) := by decide +kernel
theorem d_E_ordinal_1 : decode b_E_ordinal 1 = .ok (.getfield 7, 3) := by decide +kernel
theorem d_E_ordinal_4 : decode b_E_ordinal 4 = .ok (.ireturn, 1) := by decide +kernel
theorem d_D_back_0 : decode b_D_back 0 = .ok (.aload_n 0, 1) := by decide +kernel
theorem d_D_back_1 : decode b_D_back 1 = .ok (.getfield 24, 3) := by decide +kernel
theorem d_D_back_4 : decode b_D_back 4 = .ok (.iload_n 1, 1) := by decide +kernel
theorem d_D_back_5 : decode b_D_back 5 = .ok (.invokevirtual 59, 3) := by decide +kernel
theorem d_D_back_8 : decode b_D_back 8 = .ok (.ireturn, 1) := by decide +kernel
theorem d_D_mark_0 : decode b_D_mark 0 = .ok (.aload_n 0, 1) := by decide +kernel
theorem d_D_mark_1 : decode b_D_mark 1 = .ok (.getfield 24, 3) := by decide +kernel
theorem d_D_mark_4 : decode b_D_mark 4 = .ok (.getfield 39, 3) := by decide +kernel
theorem d_D_mark_7 : decode b_D_mark 7 = .ok (.ifnonnull 13, 3) := by decide +kernel
theorem d_D_mark_10 : decode b_D_mark 10 = .ok (.aload_n 0, 1) := by decide +kernel
theorem d_D_mark_11 : decode b_D_mark 11 = .ok (.getfield 24, 3) := by decide +kernel
theorem d_D_mark_14 : decode b_D_mark 14 = .ok (.invokevirtual 62, 3) := by decide +kernel
theorem d_D_mark_17 : decode b_D_mark 17 = .ok (.goto 4, 3) := by decide +kernel
theorem d_D_mark_20 : decode b_D_mark 20 = .ok (.iconst (-1), 1) := by decide +kernel
theorem d_D_mark_21 : decode b_D_mark 21 = .ok (.ireturn, 1) := by decide +kernel
theorem d_D_take_0 : decode b_D_take 0 = .ok (.aload_n 0, 1) := by decide +kernel
theorem d_D_take_1 : decode b_D_take 1 = .ok (.getfield 24, 3) := by decide +kernel
theorem d_D_take_4 : decode b_D_take 4 = .ok (.invokevirtual 65, 3) := by decide +kernel
theorem d_D_take_7 : decode b_D_take 7 = .ok (.lreturn, 1) := by decide +kernel
theorem d_Ma_min_0 : decode b_Ma_min 0 = .ok (.iload_n 0, 1) := by decide +kernel
theorem d_Ma_min_1 : decode b_Ma_min 1 = .ok (.iload_n 1, 1) := by decide +kernel
theorem d_Ma_min_2 : decode b_Ma_min 2 = .ok (.if_icmp .gt 7, 3) := by decide +kernel
theorem d_Ma_min_5 : decode b_Ma_min 5 = .ok (.iload_n 0, 1) := by decide +kernel
theorem d_Ma_min_6 : decode b_Ma_min 6 = .ok (.goto 4, 3) := by decide +kernel
theorem d_Ma_min_9 : decode b_Ma_min 9 = .ok (.iload_n 1, 1) := by decide +kernel
theorem d_Ma_min_10 : decode b_Ma_min 10 = .ok (.ireturn, 1) := by decide +kernel
theorem d_D_count_0 : decode b_D_count 0 = .ok (.iload_n 1, 1) := by decide +kernel
theorem d_D_count_1 : decode b_D_count 1 = .ok (.tableswitch 88 0 3 #[31, 39, 47, 72], 31) := by decide +kernel
theorem d_D_count_32 : decode b_D_count 32 = .ok (.aload_n 0, 1) := by decide +kernel
theorem d_D_count_33 : decode b_D_count 33 = .ok (.getfield 24, 3) := by decide +kernel
theorem d_D_count_36 : decode b_D_count 36 = .ok (.getfield 69, 3) := by decide +kernel
theorem d_D_count_39 : decode b_D_count 39 = .ok (.ireturn, 1) := by decide +kernel
theorem d_D_count_40 : decode b_D_count 40 = .ok (.aload_n 0, 1) := by decide +kernel
theorem d_D_count_41 : decode b_D_count 41 = .ok (.getfield 24, 3) := by decide +kernel
theorem d_D_count_44 : decode b_D_count 44 = .ok (.getfield 73, 3) := by decide +kernel
theorem d_D_count_47 : decode b_D_count 47 = .ok (.ireturn, 1) := by decide +kernel
theorem d_D_count_48 : decode b_D_count 48 = .ok (.aload_n 0, 1) := by decide +kernel
theorem d_D_count_49 : decode b_D_count 49 = .ok (.getfield 24, 3) := by decide +kernel
theorem d_D_count_52 : decode b_D_count 52 = .ok (.getfield 39, 3) := by decide +kernel
theorem d_D_count_55 : decode b_D_count 55 = .ok (.ifnonnull 7, 3) := by decide +kernel
theorem d_D_count_58 : decode b_D_count 58 = .ok (.iconst (-1), 1) := by decide +kernel
theorem d_D_count_59 : decode b_D_count 59 = .ok (.goto 13, 3) := by decide +kernel
theorem d_D_count_62 : decode b_D_count 62 = .ok (.aload_n 0, 1) := by decide +kernel
theorem d_D_count_63 : decode b_D_count 63 = .ok (.getfield 24, 3) := by decide +kernel
theorem d_D_count_66 : decode b_D_count 66 = .ok (.getfield 39, 3) := by decide +kernel
theorem d_D_count_69 : decode b_D_count 69 = .ok (.invokevirtual 52, 3) := by decide +kernel
theorem d_D_count_72 : decode b_D_count 72 = .ok (.ireturn, 1) := by decide +kernel
theorem d_D_count_73 : decode b_D_count 73 = .ok (.aload_n 0, 1) := by decide +kernel
theorem d_D_count_74 : decode b_D_count 74 = .ok (.getfield 24, 3) := by decide +kernel
theorem d_D_count_77 : decode b_D_count 77 = .ok (.getfield 69, 3) := by decide +kernel
theorem d_D_count_80 : decode b_D_count 80 = .ok (.aload_n 0, 1) := by decide +kernel
theorem d_D_count_81 : decode b_D_count 81 = .ok (.getfield 24, 3) := by decide +kernel
theorem d_D_count_84 : decode b_D_count 84 = .ok (.getfield 75, 3) := by decide +kernel
theorem d_D_count_87 : decode b_D_count 87 = .ok (.isub, 1) := by decide +kernel
theorem d_D_count_88 : decode b_D_count 88 = .ok (.ireturn, 1) := by decide +kernel
theorem d_D_count_89 : decode b_D_count 89 = .ok (.iconst (-1), 1) := by decide +kernel
theorem d_D_count_90 : decode b_D_count 90 = .ok (.ireturn, 1) := by decide +kernel
theorem d_law_0 : decode code 0 = .ok (.new 7, 3) := by decide +kernel
theorem d_law_3 : decode code 3 = .ok (.dup, 1) := by decide +kernel
theorem d_law_4 : decode code 4 = .ok (.invokespecial 9, 3) := by decide +kernel
theorem d_law_7 : decode code 7 = .ok (.astore_n 1, 1) := by decide +kernel
theorem d_law_8 : decode code 8 = .ok (.new 10, 3) := by decide +kernel
theorem d_law_11 : decode code 11 = .ok (.dup, 1) := by decide +kernel
theorem d_law_12 : decode code 12 = .ok (.invokespecial 12, 3) := by decide +kernel
theorem d_law_15 : decode code 15 = .ok (.astore_n 2, 1) := by decide +kernel
theorem d_law_16 : decode code 16 = .ok (.iconst 0, 1) := by decide +kernel
theorem d_law_17 : decode code 17 = .ok (.istore_n 3, 1) := by decide +kernel
theorem d_law_18 : decode code 18 = .ok (.iload_n 3, 1) := by decide +kernel
theorem d_law_19 : decode code 19 = .ok (.aload_n 0, 1) := by decide +kernel
theorem d_law_20 : decode code 20 = .ok (.arraylength, 1) := by decide +kernel
theorem d_law_21 : decode code 21 = .ok (.iconst 2, 1) := by decide +kernel
theorem d_law_22 : decode code 22 = .ok (.isub, 1) := by decide +kernel
theorem d_law_23 : decode code 23 = .ok (.if_icmp .gt 218, 3) := by decide +kernel
theorem d_law_26 : decode code 26 = .ok (.aload_n 0, 1) := by decide +kernel
theorem d_law_27 : decode code 27 = .ok (.iload_n 3, 1) := by decide +kernel
theorem d_law_28 : decode code 28 = .ok (.iaload, 1) := by decide +kernel
theorem d_law_29 : decode code 29 = .ok (.bipush 7, 2) := by decide +kernel
theorem d_law_31 : decode code 31 = .ok (.iand, 1) := by decide +kernel
theorem d_law_32 : decode code 32 = .ok (.tableswitch 203 0 7 #[48, 71, 94, 117, 130, 153, 166, 180], 48) := by decide +kernel
theorem d_law_80 : decode code 80 = .ok (.aload_n 1, 1) := by decide +kernel
theorem d_law_81 : decode code 81 = .ok (.aload_n 0, 1) := by decide +kernel
theorem d_law_82 : decode code 82 = .ok (.iload_n 3, 1) := by decide +kernel
theorem d_law_83 : decode code 83 = .ok (.iconst 1, 1) := by decide +kernel
theorem d_law_84 : decode code 84 = .ok (.iadd, 1) := by decide +kernel
theorem d_law_85 : decode code 85 = .ok (.iaload, 1) := by decide +kernel
theorem d_law_86 : decode code 86 = .ok (.invokevirtual 13, 3) := by decide +kernel
theorem d_law_89 : decode code 89 = .ok (.aload_n 2, 1) := by decide +kernel
theorem d_law_90 : decode code 90 = .ok (.aload_n 0, 1) := by decide +kernel
theorem d_law_91 : decode code 91 = .ok (.iload_n 3, 1) := by decide +kernel
theorem d_law_92 : decode code 92 = .ok (.iconst 1, 1) := by decide +kernel
theorem d_law_93 : decode code 93 = .ok (.iadd, 1) := by decide +kernel
theorem d_law_94 : decode code 94 = .ok (.iaload, 1) := by decide +kernel
theorem d_law_95 : decode code 95 = .ok (.invokevirtual 17, 3) := by decide +kernel
theorem d_law_98 : decode code 98 = .ok (.if_icmp .eq 137, 3) := by decide +kernel
theorem d_law_101 : decode code 101 = .ok (.iconst 0, 1) := by decide +kernel
theorem d_law_102 : decode code 102 = .ok (.ireturn, 1) := by decide +kernel
theorem d_law_103 : decode code 103 = .ok (.aload_n 1, 1) := by decide +kernel
theorem d_law_104 : decode code 104 = .ok (.aload_n 0, 1) := by decide +kernel
theorem d_law_105 : decode code 105 = .ok (.iload_n 3, 1) := by decide +kernel
theorem d_law_106 : decode code 106 = .ok (.iconst 1, 1) := by decide +kernel
theorem d_law_107 : decode code 107 = .ok (.iadd, 1) := by decide +kernel
theorem d_law_108 : decode code 108 = .ok (.iaload, 1) := by decide +kernel
theorem d_law_109 : decode code 109 = .ok (.invokevirtual 18, 3) := by decide +kernel
theorem d_law_112 : decode code 112 = .ok (.aload_n 2, 1) := by decide +kernel
theorem d_law_113 : decode code 113 = .ok (.aload_n 0, 1) := by decide +kernel
theorem d_law_114 : decode code 114 = .ok (.iload_n 3, 1) := by decide +kernel
theorem d_law_115 : decode code 115 = .ok (.iconst 1, 1) := by decide +kernel
theorem d_law_116 : decode code 116 = .ok (.iadd, 1) := by decide +kernel
theorem d_law_117 : decode code 117 = .ok (.iaload, 1) := by decide +kernel
theorem d_law_118 : decode code 118 = .ok (.invokevirtual 21, 3) := by decide +kernel
theorem d_law_121 : decode code 121 = .ok (.if_icmp .eq 114, 3) := by decide +kernel
theorem d_law_124 : decode code 124 = .ok (.iconst 0, 1) := by decide +kernel
theorem d_law_125 : decode code 125 = .ok (.ireturn, 1) := by decide +kernel
theorem d_law_126 : decode code 126 = .ok (.aload_n 1, 1) := by decide +kernel
theorem d_law_127 : decode code 127 = .ok (.aload_n 0, 1) := by decide +kernel
theorem d_law_128 : decode code 128 = .ok (.iload_n 3, 1) := by decide +kernel
theorem d_law_129 : decode code 129 = .ok (.iconst 1, 1) := by decide +kernel
theorem d_law_130 : decode code 130 = .ok (.iadd, 1) := by decide +kernel
theorem d_law_131 : decode code 131 = .ok (.iaload, 1) := by decide +kernel
theorem d_law_132 : decode code 132 = .ok (.invokevirtual 22, 3) := by decide +kernel
theorem d_law_135 : decode code 135 = .ok (.aload_n 2, 1) := by decide +kernel
theorem d_law_136 : decode code 136 = .ok (.aload_n 0, 1) := by decide +kernel
theorem d_law_137 : decode code 137 = .ok (.iload_n 3, 1) := by decide +kernel
theorem d_law_138 : decode code 138 = .ok (.iconst 1, 1) := by decide +kernel
theorem d_law_139 : decode code 139 = .ok (.iadd, 1) := by decide +kernel
theorem d_law_140 : decode code 140 = .ok (.iaload, 1) := by decide +kernel
theorem d_law_141 : decode code 141 = .ok (.invokevirtual 25, 3) := by decide +kernel
theorem d_law_144 : decode code 144 = .ok (.if_icmp .eq 91, 3) := by decide +kernel
theorem d_law_147 : decode code 147 = .ok (.iconst 0, 1) := by decide +kernel
theorem d_law_148 : decode code 148 = .ok (.ireturn, 1) := by decide +kernel
theorem d_law_149 : decode code 149 = .ok (.aload_n 1, 1) := by decide +kernel
theorem d_law_150 : decode code 150 = .ok (.invokevirtual 26, 3) := by decide +kernel
theorem d_law_153 : decode code 153 = .ok (.aload_n 2, 1) := by decide +kernel
theorem d_law_154 : decode code 154 = .ok (.invokevirtual 30, 3) := by decide +kernel
theorem d_law_157 : decode code 157 = .ok (.if_icmp .eq 78, 3) := by decide +kernel
theorem d_law_160 : decode code 160 = .ok (.iconst 0, 1) := by decide +kernel
theorem d_law_161 : decode code 161 = .ok (.ireturn, 1) := by decide +kernel
theorem d_law_162 : decode code 162 = .ok (.aload_n 1, 1) := by decide +kernel
theorem d_law_163 : decode code 163 = .ok (.aload_n 0, 1) := by decide +kernel
theorem d_law_164 : decode code 164 = .ok (.iload_n 3, 1) := by decide +kernel
theorem d_law_165 : decode code 165 = .ok (.iconst 1, 1) := by decide +kernel
theorem d_law_166 : decode code 166 = .ok (.iadd, 1) := by decide +kernel
theorem d_law_167 : decode code 167 = .ok (.iaload, 1) := by decide +kernel
theorem d_law_168 : decode code 168 = .ok (.invokevirtual 31, 3) := by decide +kernel
theorem d_law_171 : decode code 171 = .ok (.aload_n 2, 1) := by decide +kernel
theorem d_law_172 : decode code 172 = .ok (.aload_n 0, 1) := by decide +kernel
theorem d_law_173 : decode code 173 = .ok (.iload_n 3, 1) := by decide +kernel
theorem d_law_174 : decode code 174 = .ok (.iconst 1, 1) := by decide +kernel
theorem d_law_175 : decode code 175 = .ok (.iadd, 1) := by decide +kernel
theorem d_law_176 : decode code 176 = .ok (.iaload, 1) := by decide +kernel
theorem d_law_177 : decode code 177 = .ok (.invokevirtual 34, 3) := by decide +kernel
theorem d_law_180 : decode code 180 = .ok (.if_icmp .eq 55, 3) := by decide +kernel
theorem d_law_183 : decode code 183 = .ok (.iconst 0, 1) := by decide +kernel
theorem d_law_184 : decode code 184 = .ok (.ireturn, 1) := by decide +kernel
theorem d_law_185 : decode code 185 = .ok (.aload_n 1, 1) := by decide +kernel
theorem d_law_186 : decode code 186 = .ok (.invokevirtual 35, 3) := by decide +kernel
theorem d_law_189 : decode code 189 = .ok (.aload_n 2, 1) := by decide +kernel
theorem d_law_190 : decode code 190 = .ok (.invokevirtual 38, 3) := by decide +kernel
theorem d_law_193 : decode code 193 = .ok (.if_icmp .eq 42, 3) := by decide +kernel
theorem d_law_196 : decode code 196 = .ok (.iconst 0, 1) := by decide +kernel
theorem d_law_197 : decode code 197 = .ok (.ireturn, 1) := by decide +kernel
theorem d_law_198 : decode code 198 = .ok (.aload_n 1, 1) := by decide +kernel
theorem d_law_199 : decode code 199 = .ok (.invokevirtual 39, 3) := by decide +kernel
theorem d_law_202 : decode code 202 = .ok (.aload_n 2, 1) := by decide +kernel
theorem d_law_203 : decode code 203 = .ok (.invokevirtual 43, 3) := by decide +kernel
theorem d_law_206 : decode code 206 = .ok (.lcmp, 1) := by decide +kernel
theorem d_law_207 : decode code 207 = .ok (.ifCond .eq 28, 3) := by decide +kernel
theorem d_law_210 : decode code 210 = .ok (.iconst 0, 1) := by decide +kernel
theorem d_law_211 : decode code 211 = .ok (.ireturn, 1) := by decide +kernel
theorem d_law_212 : decode code 212 = .ok (.aload_n 1, 1) := by decide +kernel
theorem d_law_213 : decode code 213 = .ok (.aload_n 0, 1) := by decide +kernel
theorem d_law_214 : decode code 214 = .ok (.iload_n 3, 1) := by decide +kernel
theorem d_law_215 : decode code 215 = .ok (.iconst 1, 1) := by decide +kernel
theorem d_law_216 : decode code 216 = .ok (.iadd, 1) := by decide +kernel
theorem d_law_217 : decode code 217 = .ok (.iaload, 1) := by decide +kernel
theorem d_law_218 : decode code 218 = .ok (.invokevirtual 44, 3) := by decide +kernel
theorem d_law_221 : decode code 221 = .ok (.aload_n 2, 1) := by decide +kernel
theorem d_law_222 : decode code 222 = .ok (.aload_n 0, 1) := by decide +kernel
theorem d_law_223 : decode code 223 = .ok (.iload_n 3, 1) := by decide +kernel
theorem d_law_224 : decode code 224 = .ok (.iconst 1, 1) := by decide +kernel
theorem d_law_225 : decode code 225 = .ok (.iadd, 1) := by decide +kernel
theorem d_law_226 : decode code 226 = .ok (.iaload, 1) := by decide +kernel
theorem d_law_227 : decode code 227 = .ok (.invokevirtual 48, 3) := by decide +kernel
theorem d_law_230 : decode code 230 = .ok (.if_icmp .eq 5, 3) := by decide +kernel
theorem d_law_233 : decode code 233 = .ok (.iconst 0, 1) := by decide +kernel
theorem d_law_234 : decode code 234 = .ok (.ireturn, 1) := by decide +kernel
theorem d_law_235 : decode code 235 = .ok (.iinc 3 2, 3) := by decide +kernel
theorem d_law_238 : decode code 238 = .ok (.goto (-220), 3) := by decide +kernel
theorem d_law_241 : decode code 241 = .ok (.iconst 1, 1) := by decide +kernel
theorem d_law_242 : decode code 242 = .ok (.ireturn, 1) := by decide +kernel
end
section
/-! GENERAL ROWS: a method's entry, its calls and its returns, over one form of world -/
/-- what a method's body stands on -/
def Cx (p : Program) (s : State) (m : MethodId) (args : Array Value) (meth : Method) (c : Code) (b : ByteArray) (n : Nat) (r : Option FieldType) (y : MethodName) : Prop :=
  p.tables.exec = Jvm.exec ∧ c.code = b ∧ meth.sig.returnType = r ∧ c.maxLocals = n ∧ s.vm.findClass y.cls = some m.cls ∧ meth.locks = false ∧ meth.name = y.name ∧ ∀ w ∈ gw, w.before args s = true
abbrev PreW (dC : Nat → ClassId) (dI : Nat → Nat → Nat) (tys : List (ClassId × FieldType)) (ws : va_W) (sz : Nat) (X : (Nat → Prop) → State → Prop) (U : State) : Prop :=
  U.heap.size = sz ∧ va_P (dC, dI) classes ws U.heap ∧ va_K (dC, dI) classes tys U ∧ va_D (fun _ => True) ws ∧ X (va_A ws sz) U
abbrev PW {S : Type} (dC : Nat → ClassId) (dI : Nat → Nat → Nat) (A : Nat → Prop) (Wf : S → va_W) : S → State → Prop := fun u t => va_P (dC, dI) classes (Wf u) t.heap ∧ va_D A (Wf u)
abbrev noX : (Nat → Prop) → State → Prop := fun _ _ => True
theorem enter {l : Launch} {y : MethodName} {b : ByteArray} {n : Nat} {r : Option FieldType} {rm : Room} {av : List Value} {ws : va_W} {tys : List (ClassId × FieldType)} {dC : Nat → ClassId} {dI : Nat → Nat → Nat} {sz : Nat} {X : (Nat → Prop) → State → Prop} {Qf : (Nat → Prop) → Array Value → State → Outcome → State → Prop} {mc ms : Nat}
    (hy : plainName y.cls = true) (hn : (lg_sl av).length ≤ n)
    (body : ∀ (p : Program) (e : Env) (s : State) (m : MethodId) (below : List Frame) (meth : Method) (c : Code) (A : Nat → Prop) (ls : Array Slot), Cx p s m av.toArray meth c b n r y → s.heap.size = sz → (∀ q, s.heap.size ≤ q → A q) → va_K (dC, dI) classes tys s → va_P (dC, dI) classes ws s.heap → va_D A ws → va_S A s.heap s.heap [] → X A s → lv_has ls n (lv_args 0 av) →
      W p l e rm s m av.toArray below meth c s.heap [] 0 0 (MQ below (Qf A) av.toArray s mc ms A) (F0 m 0 ls [])) :
    Met l y (ww y b n r) rm (va_Pc av (PreW dC dI tys ws sz X)) (Qf (va_A ws sz)) mc ms (va_A ws sz) := by
  refine Met.ofW (cc := b) (maxL := n) (ret := r) hy rfl ?_
  intro p e s m args below meth c s₁ B hml hv
  obtain ⟨rfl, hsz, hP, hK, hD0, hX⟩ := hv
  have hts := atoms_spec (ws := ww y b n r) B.pre
  have hown : s.vm.findClass y.cls = some m.cls := findClass_of_methodNamed B.named
  have hnm : meth.name = y.name := (name_of_methodNamed B.named B.method).1
  subst hsz
  rw [lg_entry_eq]
  exact body p e s m below meth c _ _ ⟨B.exec, B.bytes, B.returns, hml, hown, B.notSynchronized, hnm, fun w hw => hts w (List.mem_cons_of_mem _ hw)⟩ rfl (fun q h => Or.inr h) hK hP hD0.self va_S.rf hX (lv_entry av hn)
/-- a method that reads nothing of the heap and answers an int -/
theorem enterS {l : Launch} {y : MethodName} {b : ByteArray} {n : Nat} {r : Option FieldType} {rm : Room} {av : List Value} {post : Int32 → Prop}
    (hy : plainName y.cls = true) (hn : (lg_sl av).length ≤ n)
    (body : ∀ (p : Program) (e : Env) (s : State) (m : MethodId) (below : List Frame) (meth : Method) (c : Code) (ls : Array Slot), Cx p s m av.toArray meth c b n r y → lv_has ls n (lv_args 0 av) →
      W p l e rm s m av.toArray below meth c s.heap [] 0 0 (MQ below (vp_Si post) av.toArray s 0 0 (fun _ => False)) (F0 m 0 ls [])) :
    Met l y (ww y b n r) rm (va_Pc av (fun _ => True)) (vp_Si post) 0 0 (fun _ => False) := by
  refine Met.ofW (cc := b) (maxL := n) (ret := r) hy rfl ?_
  intro p e s m args below meth c s₁ B hml hv
  obtain ⟨rfl, -⟩ := hv
  have hts := atoms_spec (ws := ww y b n r) B.pre
  have hown : s.vm.findClass y.cls = some m.cls := findClass_of_methodNamed B.named
  have hnm : meth.name = y.name := (name_of_methodNamed B.named B.method).1
  rw [lg_entry_eq]
  exact body p e s m below meth c _ ⟨B.exec, B.bytes, B.returns, hml, hown, B.notSynchronized, hnm, fun w hw => hts w (List.mem_cons_of_mem _ hw)⟩ (lv_entry av hn)
/-- what a call of an instance method asks of the tables -/
def CallG (own : String) (idx : Nat) (C : String) (y : MethodName) (b : ByteArray) (n : Nat) (r : Option FieldType) (k : Nat) : Prop :=
  (Cond.methodLink own idx y ∈ gw ∧ Cond.instanceMethod y ∈ gw ∧ Cond.selects C y y ∈ gw ∧ Cond.initialized C ∈ gw ∧ Cond.code y b n r ∈ gw) ∧ (y.cls = C ∧ y.cls ≠ "java/lang/invoke/MethodHandle" ∧ y.cls ≠ "java/lang/invoke/VarHandle" ∧ (parseMethodDescriptor y.desc).map (fun d => d.parameters.length) = some k)
theorem CallG.good {own : String} {idx : Nat} {C : String} {y : MethodName} {b : ByteArray} {n : Nat} {r : Option FieldType} {k : Nat} (g : CallG own idx C y b n r k) : GoodIn gw (wsV own idx C y (ww y b n r)) := by
  obtain ⟨⟨h1, h2, h3, h4, h5⟩, -⟩ := g
  intro w hw
  unfold wsV at hw
  simp only [List.cons_append, List.nil_append, List.mem_cons] at hw
  rcases hw with rfl | rfl | rfl | rfl | rfl | hw
  · exact gw_good _ h1
  · exact gw_good _ h2
  · exact gw_good _ h3
  · exact gw_good _ h4
  · exact gw_good _ h5
  · exact gw_good _ hw
/-- what a call of a static method asks of the tables -/
def CallT (own : String) (idx : Nat) (y : MethodName) (b : ByteArray) (n : Nat) (r : Option FieldType) (k : Nat) : Prop :=
  (Cond.methodLink own idx y ∈ gw ∧ Cond.static y ∈ gw ∧ Cond.initialized y.cls ∈ gw ∧ Cond.code y b n r ∈ gw) ∧ (y.cls ≠ "java/lang/invoke/MethodHandle" ∧ y.cls ≠ "java/lang/invoke/VarHandle" ∧ (parseMethodDescriptor y.desc).map (fun d => d.parameters.length) = some k)
theorem CallT.good {own : String} {idx : Nat} {y : MethodName} {b : ByteArray} {n : Nat} {r : Option FieldType} {k : Nat} (g : CallT own idx y b n r k) : GoodIn gw (ww y b n r) := by
  obtain ⟨⟨h1, h2, h3, h4⟩, -⟩ := g
  intro w hw
  rcases List.mem_cons.mp hw with rfl | hw
  · exact gw_good _ h4
  · exact gw_good _ hw
section GR
variable {p : Program} {l : Launch} {e : Env} {R : Room} {s : State} {m : MethodId} {args : Array Value} {below : List Frame} {meth : Method} {c : Code} {H : Heap} {locs : List Loc} {cells slots : Nat} {Q : State → Prop}
variable {cc : ByteArray} {pc nL : Nat} {ls : Array Slot} {rest : List Value} {ro : Option FieldType} {yo : MethodName} {dC : Nat → ClassId} {dI : Nat → Nat → Nat} {A : Nat → Prop}
-- returns
theorem ret_v {S : Type} {post : S → Prop} {Wf : S → va_W} (C0 : Cx p s m args meth c cc nL none yo) (hS : va_S A s.heap H locs) (hdg : decode cc pc = .ok (.return_, 1)) (u : S) (hp : post u) (hP : va_P (dC, dI) classes (Wf u) H) (hD : va_D A (Wf u)) :
    W p l e R s m args below meth c H locs cells slots (MQ below (va_Qv post (PW dC dI A Wf) A) args s cells slots A) (F0 m pc ls []) :=
  W.vret C0.1 C0.2.1 C0.2.2.1 (fun t ht hW => ⟨⟨u, rfl, hp, by rw [ht]; exact hP, hD⟩, hS.F ht⟩) hS.2.2 hdg C0.2.2.2.2.2.1
theorem ret_i {S : Type} {post : Int32 → S → Prop} {Wf : S → va_W} {ty : FieldType} {v : Int32} (C0 : Cx p s m args meth c cc nL (some ty) yo) (hS : va_S A s.heap H locs) (hdg : decode cc pc = .ok (.ireturn, 1)) (hn : narrow ty (.int v) = .int v) (u : S) (hp : post v u) (hP : va_P (dC, dI) classes (Wf u) H) (hD : va_D A (Wf u)) :
    W p l e R s m args below meth c H locs cells slots (MQ below (va_Qi post (PW dC dI A Wf) A) args s cells slots A) (F0 m pc ls [.int v]) :=
  W.zret C0.1 C0.2.1 C0.2.2.1 hn (fun t ht hW => ⟨⟨v, u, rfl, hp, by rw [ht]; exact hP, hD⟩, hS.F ht⟩) hS.2.2 hdg C0.2.2.2.2.2.1
theorem ret_l {S : Type} {post : Int64 → S → Prop} {Wf : S → va_W} {v : Int64} (C0 : Cx p s m args meth c cc nL (some .long) yo) (hS : va_S A s.heap H locs) (hdg : decode cc pc = .ok (.lreturn, 1)) (u : S) (hp : post v u) (hP : va_P (dC, dI) classes (Wf u) H) (hD : va_D A (Wf u)) :
    W p l e R s m args below meth c H locs cells slots (MQ below (va_Ql post (PW dC dI A Wf) A) args s cells slots A) (F0 m pc ls [.long v]) :=
  W.lret C0.1 C0.2.1 C0.2.2.1 (fun t ht hW => ⟨⟨v, u, rfl, hp, by rw [ht]; exact hP, hD⟩, hS.F ht⟩) hS.2.2 hdg C0.2.2.2.2.2.1
theorem ret_S {post : Int32 → Prop} {ty : FieldType} {v : Int32} (C0 : Cx p s m args meth c cc nL (some ty) yo) (hdg : decode cc pc = .ok (.ireturn, 1)) (hn : narrow ty (.int v) = .int v) (hp : post v) :
    W p l e R s m args below meth c s.heap [] cells slots (MQ below (vp_Si post) args s cells slots (fun _ => False)) (F0 m pc ls [.int v]) :=
  W.zret C0.1 C0.2.1 C0.2.2.1 hn (fun t ht hW => ⟨v, rfl, hp, ht⟩) (fun q h => by cases h) hdg C0.2.2.2.2.2.1
-- calls
variable {C : String} {idx maxL k : Nat} {y : MethodName} {bytes : ByteArray} {ret : Option FieldType} {rm : Room} {As st : List Value} {b : Nat} {tys tyc : List (ClassId × FieldType)} {ws wc wr : va_W} {X : (Nat → Prop) → State → Prop}
theorem gpre {fs : List Value} {ci q0 N : Nat} {T : u_T} (hK : va_K (dC, dI) classes tys s) (hP : va_P (dC, dI) classes ws H) (hD : va_D A ws) (hS : va_S A s.heap H locs) (hA : ∀ q, s.heap.size ≤ q → A q) (isC : List Nat) (hC : isC.map (fun i => ws[i]?) = wc.map some) (hCn : va_nd isC = true) (isT : List Nat) (hT : isT.filterMap (fun i => tys[i]?) = tyc)
    (hq0 : wc[q0]? = some (b, .inr (ci, fs))) (hci : classes[ci]? = some (C, T, N)) (hXb : ∀ (A1 : Nat → Prop) (U : State) (g : JFrame) (mk : MethodId) (a : Array Value), X A1 U → X A1 (U.calling g mk a)) (hX : ∀ (A1 : Nat → Prop) (U : State), (∀ q, A1 q → A q) → U.heap = H → s.WarmedH U.vm → X A1 U) :
    PreV s H C b (va_Pc (.ref b :: As) (PreW dC dI tyc wc H.size X)) As := by
  have hCw : ∀ (kk : Nat) (q : Nat × va_E), wc[kk]? = some q → ∃ i : Nat, ws[i]? = some q := by
    intro kk q hq
    have h1 : (isC.map (fun i => ws[i]?))[kk]? = some (some q) := by rw [hC, List.getElem?_map, hq]; rfl
    rw [List.getElem?_map] at h1
    cases hi : isC[kk]? with
    | none => rw [hi] at h1; cases h1
    | some i => rw [hi] at h1; exact ⟨i, Option.some.inj h1⟩
  have hPc : va_P (dC, dI) classes wc H := fun kk q hq => by
    obtain ⟨i, hi⟩ := hCw kk q hq
    exact hP i q hi
  have hDc : va_D A wc := hD.sub isC hCn hC
  have hKc : va_K (dC, dI) classes tyc s := hK.sub isT hT
  have hFc := va_free hD hS hA isC hC
  exact ⟨fun a U g mk q => by obtain ⟨q0, q1, qP, qK, qD, qX⟩ := q; exact ⟨q0, q1, qP, va_K.moved (u := U) (U := U.calling g mk a) (Vm.Alike.refl U.vm) qK, qD, hXb _ _ _ _ _ qX⟩, va_recv hKc hPc hci hq0, fun U hU hW => ⟨rfl, by rw [hU], by rw [hU]; exact hPc, va_K.moved hW.alike hKc, hDc.weaken (fun _ _ _ _ => trivial), hX _ _ hFc hU hW⟩⟩
theorem gcall_v {S : Type} {post : S → Prop} {Wf : S → va_W} {fs : List Value} {ci q0 N : Nat} {T : u_T} (C0 : Cx p s m args meth c cc nL ro yo) (g : CallG yo.cls idx C y bytes maxL ret k)
    (hM : Met l y (ww y bytes maxL ret) rm (va_Pc (.ref b :: As) (PreW dC dI tyc wc H.size X)) (va_Qv post (PW dC dI (va_A wc H.size) Wf) (va_A wc H.size)) 0 0 (va_A wc H.size))
    (hR : rm.frames + 1 ≤ R.frames ∧ 8 + (maxL + 11) + rm.locals ≤ R.locals) (hrc : rm.cells = 0 ∧ rm.slots = 0) (hcs : cells ≤ R.cells ∧ slots ≤ R.slots)
    (hdg : decode cc pc = .ok (.invokevirtual idx, 3)) (hAs : As.length = k) (hst : st = As.reverse ++ .ref b :: rest) (hroom : (rest.map fun v => v.category).sum ≤ 8) (hls : ls.size = nL)
    (hK : va_K (dC, dI) classes tys s) (hP : va_P (dC, dI) classes ws H) (hD : va_D A ws) (hS : va_S A s.heap H locs) (hA : ∀ q, s.heap.size ≤ q → A q)
    (isC isR isT : List Nat) (hC : isC.map (fun i => ws[i]?) = wc.map some) (hCn : va_nd isC = true) (hRw : isR.map (fun i => ws[i]?) = wr.map some) (hRn : va_nd isR = true) (hdis : ∀ i ∈ isR, i ∉ isC) (hT : isT.filterMap (fun i => tys[i]?) = tyc)
    (hq0 : wc[q0]? = some (b, .inr (ci, fs))) (hci : classes[ci]? = some (C, T, N)) (hXb : ∀ (A1 : Nat → Prop) (U : State) (g : JFrame) (mk : MethodId) (a : Array Value), X A1 U → X A1 (U.calling g mk a)) (hX : ∀ (A1 : Nat → Prop) (U : State), (∀ q, A1 q → A q) → U.heap = H → s.WarmedH U.vm → X A1 U)
    (kk : ∀ (u : S) (H1 : Heap) (locs1 : List Loc), post u → va_P (dC, dI) classes (wr ++ Wf u) H1 → va_D A (wr ++ Wf u) → va_S A s.heap H1 locs1 → W p l e R s m args below meth c H1 locs1 cells slots Q (F0 m (pc + 3) ls rest)) :
    W p l e R s m args below meth c H locs cells slots Q (F0 m pc ls st) := by
  subst hst
  have hFc := va_free hD hS hA isC hC
  refine va_callv (va_runV (As := As) (rest := rest) (b := b) (n := k) ⟨C0.1, C0.2.1, C0.2.2.2.1, C0.2.2.2.2.1, C0.2.2.2.2.2.2.2⟩ hM (cwV k C0.2.2.2.2.2.2.2 g.good rfl hrc.1 hrc.2 g.2 hR) (gpre hK hP hD hS hA isC hC hCn isT hT hq0 hci hXb hX) rfl hAs hls rfl (lv_room hroom) hdg ⟨hcs.1, hcs.2⟩) hS (fun q _ h => hFc q h) hFc (fun u t H1 locs1 ht hvm hw hB hz1 hk1 hS1 => ?_)
  obtain ⟨hP1, hD1⟩ := hB
  rw [ht] at hP1
  obtain ⟨hP2, hD2⟩ := va_join hP hD isC isR hC hRw hRn hdis hk1 hFc hP1 hD1
  exact kk u H1 locs1 hw hP2 hD2 hS1
theorem gcall_i {S : Type} {post : Int32 → S → Prop} {Wf : S → va_W} {fs : List Value} {ci q0 N : Nat} {T : u_T} (C0 : Cx p s m args meth c cc nL ro yo) (g : CallG yo.cls idx C y bytes maxL ret k)
    (hM : Met l y (ww y bytes maxL ret) rm (va_Pc (.ref b :: As) (PreW dC dI tyc wc H.size X)) (va_Qi post (PW dC dI (va_A wc H.size) Wf) (va_A wc H.size)) 0 0 (va_A wc H.size))
    (hR : rm.frames + 1 ≤ R.frames ∧ 8 + (maxL + 11) + rm.locals ≤ R.locals) (hrc : rm.cells = 0 ∧ rm.slots = 0) (hcs : cells ≤ R.cells ∧ slots ≤ R.slots)
    (hdg : decode cc pc = .ok (.invokevirtual idx, 3)) (hAs : As.length = k) (hst : st = As.reverse ++ .ref b :: rest) (hroom : (rest.map fun v => v.category).sum ≤ 8) (hls : ls.size = nL)
    (hK : va_K (dC, dI) classes tys s) (hP : va_P (dC, dI) classes ws H) (hD : va_D A ws) (hS : va_S A s.heap H locs) (hA : ∀ q, s.heap.size ≤ q → A q)
    (isC isR isT : List Nat) (hC : isC.map (fun i => ws[i]?) = wc.map some) (hCn : va_nd isC = true) (hRw : isR.map (fun i => ws[i]?) = wr.map some) (hRn : va_nd isR = true) (hdis : ∀ i ∈ isR, i ∉ isC) (hT : isT.filterMap (fun i => tys[i]?) = tyc)
    (hq0 : wc[q0]? = some (b, .inr (ci, fs))) (hci : classes[ci]? = some (C, T, N)) (hXb : ∀ (A1 : Nat → Prop) (U : State) (g : JFrame) (mk : MethodId) (a : Array Value), X A1 U → X A1 (U.calling g mk a)) (hX : ∀ (A1 : Nat → Prop) (U : State), (∀ q, A1 q → A q) → U.heap = H → s.WarmedH U.vm → X A1 U)
    (kk : ∀ (r : Int32) (u : S) (H1 : Heap) (locs1 : List Loc), post r u → va_P (dC, dI) classes (wr ++ Wf u) H1 → va_D A (wr ++ Wf u) → va_S A s.heap H1 locs1 → W p l e R s m args below meth c H1 locs1 cells slots Q (F0 m (pc + 3) ls (.int r :: rest))) :
    W p l e R s m args below meth c H locs cells slots Q (F0 m pc ls st) := by
  subst hst
  have hFc := va_free hD hS hA isC hC
  refine va_calli (va_runV (As := As) (rest := rest) (b := b) (n := k) ⟨C0.1, C0.2.1, C0.2.2.2.1, C0.2.2.2.2.1, C0.2.2.2.2.2.2.2⟩ hM (cwV k C0.2.2.2.2.2.2.2 g.good rfl hrc.1 hrc.2 g.2 hR) (gpre hK hP hD hS hA isC hC hCn isT hT hq0 hci hXb hX) rfl hAs hls rfl (lv_room hroom) hdg ⟨hcs.1, hcs.2⟩) hS (fun q _ h => hFc q h) hFc (fun r u t H1 locs1 ht hvm hw hB hz1 hk1 hS1 => ?_)
  obtain ⟨hP1, hD1⟩ := hB
  rw [ht] at hP1
  obtain ⟨hP2, hD2⟩ := va_join hP hD isC isR hC hRw hRn hdis hk1 hFc hP1 hD1
  exact kk r u H1 locs1 hw hP2 hD2 hS1
theorem gcall_l {S : Type} {post : Int64 → S → Prop} {Wf : S → va_W} {fs : List Value} {ci q0 N : Nat} {T : u_T} (C0 : Cx p s m args meth c cc nL ro yo) (g : CallG yo.cls idx C y bytes maxL ret k)
    (hM : Met l y (ww y bytes maxL ret) rm (va_Pc (.ref b :: As) (PreW dC dI tyc wc H.size X)) (va_Ql post (PW dC dI (va_A wc H.size) Wf) (va_A wc H.size)) 0 0 (va_A wc H.size))
    (hR : rm.frames + 1 ≤ R.frames ∧ 8 + (maxL + 11) + rm.locals ≤ R.locals) (hrc : rm.cells = 0 ∧ rm.slots = 0) (hcs : cells ≤ R.cells ∧ slots ≤ R.slots)
    (hdg : decode cc pc = .ok (.invokevirtual idx, 3)) (hAs : As.length = k) (hst : st = As.reverse ++ .ref b :: rest) (hroom : (rest.map fun v => v.category).sum ≤ 8) (hls : ls.size = nL)
    (hK : va_K (dC, dI) classes tys s) (hP : va_P (dC, dI) classes ws H) (hD : va_D A ws) (hS : va_S A s.heap H locs) (hA : ∀ q, s.heap.size ≤ q → A q)
    (isC isR isT : List Nat) (hC : isC.map (fun i => ws[i]?) = wc.map some) (hCn : va_nd isC = true) (hRw : isR.map (fun i => ws[i]?) = wr.map some) (hRn : va_nd isR = true) (hdis : ∀ i ∈ isR, i ∉ isC) (hT : isT.filterMap (fun i => tys[i]?) = tyc)
    (hq0 : wc[q0]? = some (b, .inr (ci, fs))) (hci : classes[ci]? = some (C, T, N)) (hXb : ∀ (A1 : Nat → Prop) (U : State) (g : JFrame) (mk : MethodId) (a : Array Value), X A1 U → X A1 (U.calling g mk a)) (hX : ∀ (A1 : Nat → Prop) (U : State), (∀ q, A1 q → A q) → U.heap = H → s.WarmedH U.vm → X A1 U)
    (kk : ∀ (r : Int64) (u : S) (H1 : Heap) (locs1 : List Loc), post r u → va_P (dC, dI) classes (wr ++ Wf u) H1 → va_D A (wr ++ Wf u) → va_S A s.heap H1 locs1 → W p l e R s m args below meth c H1 locs1 cells slots Q (F0 m (pc + 3) ls (.long r :: rest))) :
    W p l e R s m args below meth c H locs cells slots Q (F0 m pc ls st) := by
  subst hst
  have hFc := va_free hD hS hA isC hC
  refine va_calll (va_runV (As := As) (rest := rest) (b := b) (n := k) ⟨C0.1, C0.2.1, C0.2.2.2.1, C0.2.2.2.2.1, C0.2.2.2.2.2.2.2⟩ hM (cwV k C0.2.2.2.2.2.2.2 g.good rfl hrc.1 hrc.2 g.2 hR) (gpre hK hP hD hS hA isC hC hCn isT hT hq0 hci hXb hX) rfl hAs hls rfl (lv_room hroom) hdg ⟨hcs.1, hcs.2⟩) hS (fun q _ h => hFc q h) hFc (fun r u t H1 locs1 ht hvm hw hB hz1 hk1 hS1 => ?_)
  obtain ⟨hP1, hD1⟩ := hB
  rw [ht] at hP1
  obtain ⟨hP2, hD2⟩ := va_join hP hD isC isR hC hRw hRn hdis hk1 hFc hP1 hD1
  exact kk r u H1 locs1 hw hP2 hD2 hS1
/-- a static method that reads nothing of the heap -/
theorem gcall_s {v : Int32} (C0 : Cx p s m args meth c cc nL ro yo) (g : CallT yo.cls idx y bytes maxL ret k)
    (hM : Met l y (ww y bytes maxL ret) rm (va_Pc As (fun _ => True)) (vp_Si (fun r => r = v)) 0 0 (fun _ => False))
    (hR : rm.frames + 1 ≤ R.frames ∧ 8 + (maxL + 11) + rm.locals ≤ R.locals) (hrc : rm.cells = 0 ∧ rm.slots = 0) (hcs : cells ≤ R.cells ∧ slots ≤ R.slots)
    (hdg : decode cc pc = .ok (.invokestatic idx, 3)) (hAs : As.length = k) (hst : st = As.reverse ++ rest) (hroom : (rest.map fun v => v.category).sum ≤ 8) (hls : ls.size = nL)
    (kk : W p l e R s m args below meth c H locs cells slots Q (F0 m (pc + 3) ls (.int v :: rest))) :
    W p l e R s m args below meth c H locs cells slots Q (F0 m pc ls st) := by
  subst hst
  have hts := C0.2.2.2.2.2.2.2
  exact vp_callSi (va_Run.run (va_runS (As := As) (rest := rest) (n := k) ⟨C0.1, C0.2.1, C0.2.2.2.1, C0.2.2.2.2.1, hts⟩ hM ⟨callB_of k hts g.good rfl hrc.1 hrc.2 (hts _ g.1.2.2.1) (hts _ g.1.1) g.2 hR, hts _ g.1.2.1⟩ ⟨fun _ _ _ _ q => q, fun _ _ _ => ⟨rfl, trivial⟩⟩ rfl hAs hls rfl (lv_room hroom) hdg ⟨hcs.1, hcs.2⟩)) (fun r hr => by rw [hr]; exact kk)
-- numbers
theorem lx_i {x y : Int32} (h : x = y) (k : W p l e R s m args below meth c H locs cells slots Q (F0 m pc ls (.int y :: rest))) : W p l e R s m args below meth c H locs cells slots Q (F0 m pc ls (.int x :: rest)) := by rw [h]; exact k
theorem lx_l {x y : Int64} (h : x = y) (k : W p l e R s m args below meth c H locs cells slots Q (F0 m pc ls (.long y :: rest))) : W p l e R s m args below meth c H locs cells slots Q (F0 m pc ls (.long x :: rest)) := by rw [h]; exact k
theorem lq_add (hx : p.tables.exec = Jvm.exec) (hb : c.code = cc) {a b : Nat} (hdg : decode cc pc = .ok (.iadd, 1)) (k : W p l e R s m args below meth c H locs cells slots Q (F0 m (pc + 1) ls (.int (nI (a + b)) :: rest))) : W p l e R s m args below meth c H locs cells slots Q (F0 m pc ls (.int (nI b) :: .int (nI a) :: rest)) := lv_iadd hx hb hdg (by rw [nI_add]; exact k)
theorem lq_sub (hx : p.tables.exec = Jvm.exec) (hb : c.code = cc) {a b : Nat} (h : b ≤ a) (hdg : decode cc pc = .ok (.isub, 1)) (k : W p l e R s m args below meth c H locs cells slots Q (F0 m (pc + 1) ls (.int (nI (a - b)) :: rest))) : W p l e R s m args below meth c H locs cells slots Q (F0 m pc ls (.int (nI b) :: .int (nI a) :: rest)) := lv_isub hx hb hdg (by rw [pk_sub h]; exact k)
theorem lq_icmp_ge (hx : p.tables.exec = Jvm.exec) (hb : c.code = cc) {a b : Nat} (h1 : a < 2 ^ 31) (h2 : b < 2 ^ 31) {off : Int} {tgt : Nat} (hdg : decode cc pc = .ok (.if_icmp .ge off, 3)) (ht : (pc : Int) + off = (tgt : Int)) (kt : b ≤ a → W p l e R s m args below meth c H locs cells slots Q (F0 m tgt ls rest)) (kf : a < b → W p l e R s m args below meth c H locs cells slots Q (F0 m (pc + 3) ls rest)) : W p l e R s m args below meth c H locs cells slots Q (F0 m pc ls (.int (nI b) :: .int (nI a) :: rest)) := lv_icmp_ge hx hb hdg ht (fun q => kt ((nI_leI h2 h1).mp q)) (fun q => kf (Nat.not_le.mp (mt (nI_leI h2 h1).mpr q)))
theorem lq_icmp_gt (hx : p.tables.exec = Jvm.exec) (hb : c.code = cc) {a b : Nat} (h1 : a < 2 ^ 31) (h2 : b < 2 ^ 31) {off : Int} {tgt : Nat} (hdg : decode cc pc = .ok (.if_icmp .gt off, 3)) (ht : (pc : Int) + off = (tgt : Int)) (kt : b < a → W p l e R s m args below meth c H locs cells slots Q (F0 m tgt ls rest)) (kf : a ≤ b → W p l e R s m args below meth c H locs cells slots Q (F0 m (pc + 3) ls rest)) : W p l e R s m args below meth c H locs cells slots Q (F0 m pc ls (.int (nI b) :: .int (nI a) :: rest)) := lv_icmp_gt hx hb hdg ht (fun q => kt ((nI_ltI h2 h1).mp q)) (fun q => kf (Nat.not_lt.mp (mt (nI_ltI h2 h1).mpr q)))
theorem lq_icmp_le (hx : p.tables.exec = Jvm.exec) (hb : c.code = cc) {a b : Nat} (h1 : a < 2 ^ 31) (h2 : b < 2 ^ 31) {off : Int} {tgt : Nat} (hdg : decode cc pc = .ok (.if_icmp .le off, 3)) (ht : (pc : Int) + off = (tgt : Int)) (kt : a ≤ b → W p l e R s m args below meth c H locs cells slots Q (F0 m tgt ls rest)) (kf : b < a → W p l e R s m args below meth c H locs cells slots Q (F0 m (pc + 3) ls rest)) : W p l e R s m args below meth c H locs cells slots Q (F0 m pc ls (.int (nI b) :: .int (nI a) :: rest)) := lv_icmp_le hx hb hdg ht (fun q => kt ((nI_leI h1 h2).mp q)) (fun q => kf (Nat.not_le.mp (mt (nI_leI h1 h2).mpr q)))
theorem lq_icmp_lt (hx : p.tables.exec = Jvm.exec) (hb : c.code = cc) {a b : Nat} (h1 : a < 2 ^ 31) (h2 : b < 2 ^ 31) {off : Int} {tgt : Nat} (hdg : decode cc pc = .ok (.if_icmp .lt off, 3)) (ht : (pc : Int) + off = (tgt : Int)) (kt : a < b → W p l e R s m args below meth c H locs cells slots Q (F0 m tgt ls rest)) (kf : b ≤ a → W p l e R s m args below meth c H locs cells slots Q (F0 m (pc + 3) ls rest)) : W p l e R s m args below meth c H locs cells slots Q (F0 m pc ls (.int (nI b) :: .int (nI a) :: rest)) := lv_icmp_lt hx hb hdg ht (fun q => kt ((nI_ltI h1 h2).mp q)) (fun q => kf (Nat.not_lt.mp (mt (nI_ltI h1 h2).mpr q)))
theorem lq_icmp_eq (hx : p.tables.exec = Jvm.exec) (hb : c.code = cc) {a b : Nat} (h1 : a < 2 ^ 31) (h2 : b < 2 ^ 31) {off : Int} {tgt : Nat} (hdg : decode cc pc = .ok (.if_icmp .eq off, 3)) (ht : (pc : Int) + off = (tgt : Int)) (kt : a = b → W p l e R s m args below meth c H locs cells slots Q (F0 m tgt ls rest)) (kf : a ≠ b → W p l e R s m args below meth c H locs cells slots Q (F0 m (pc + 3) ls rest)) : W p l e R s m args below meth c H locs cells slots Q (F0 m pc ls (.int (nI b) :: .int (nI a) :: rest)) := lv_icmp_eq hx hb hdg ht (fun q => kt ((nI_eq h1 h2).mp q)) (fun q => kf (mt (nI_eq h1 h2).mpr q))
theorem lq_icmp_ne (hx : p.tables.exec = Jvm.exec) (hb : c.code = cc) {a b : Nat} (h1 : a < 2 ^ 31) (h2 : b < 2 ^ 31) {off : Int} {tgt : Nat} (hdg : decode cc pc = .ok (.if_icmp .ne off, 3)) (ht : (pc : Int) + off = (tgt : Int)) (kt : a ≠ b → W p l e R s m args below meth c H locs cells slots Q (F0 m tgt ls rest)) (kf : a = b → W p l e R s m args below meth c H locs cells slots Q (F0 m (pc + 3) ls rest)) : W p l e R s m args below meth c H locs cells slots Q (F0 m pc ls (.int (nI b) :: .int (nI a) :: rest)) := lv_icmp_ne hx hb hdg ht (fun q => kt (mt (nI_eq h1 h2).mpr q)) (fun q => kf ((nI_eq h1 h2).mp q))
theorem lq_if_lt (hx : p.tables.exec = Jvm.exec) (hb : c.code = cc) {a : Nat} (h1 : a < 2 ^ 31) {off : Int} (hdg : decode cc pc = .ok (.ifCond .lt off, 3)) {tgt : Nat} (ht : (pc : Int) + off = (tgt : Int)) (kf : W p l e R s m args below meth c H locs cells slots Q (F0 m (pc + 3) ls rest)) : W p l e R s m args below meth c H locs cells slots Q (F0 m pc ls (.int (nI a) :: rest)) := lv_if_lt hx hb hdg ht (fun q => absurd q (nI_pos h1)) (fun _ => kf)
theorem lq_if_eq (hx : p.tables.exec = Jvm.exec) (hb : c.code = cc) {a : Nat} (h1 : a < 2 ^ 31) {off : Int} (hdg : decode cc pc = .ok (.ifCond .eq off, 3)) {tgt : Nat} (ht : (pc : Int) + off = (tgt : Int)) (kt : a = 0 → W p l e R s m args below meth c H locs cells slots Q (F0 m tgt ls rest)) (kf : a ≠ 0 → W p l e R s m args below meth c H locs cells slots Q (F0 m (pc + 3) ls rest)) : W p l e R s m args below meth c H locs cells slots Q (F0 m pc ls (.int (nI a) :: rest)) := lv_if_eq hx hb hdg ht (fun q => kt ((nI_eq h1 (by decide)).mp q)) (fun q => kf (mt (nI_eq h1 (by decide)).mpr q))
theorem lq_if_ne (hx : p.tables.exec = Jvm.exec) (hb : c.code = cc) {a : Nat} (h1 : a < 2 ^ 31) {off : Int} (hdg : decode cc pc = .ok (.ifCond .ne off, 3)) {tgt : Nat} (ht : (pc : Int) + off = (tgt : Int)) (kt : a ≠ 0 → W p l e R s m args below meth c H locs cells slots Q (F0 m tgt ls rest)) (kf : a = 0 → W p l e R s m args below meth c H locs cells slots Q (F0 m (pc + 3) ls rest)) : W p l e R s m args below meth c H locs cells slots Q (F0 m pc ls (.int (nI a) :: rest)) := lv_if_ne hx hb hdg ht (fun q => kt (mt (nI_eq h1 (by decide)).mpr q)) (fun q => kf ((nI_eq h1 (by decide)).mp q))
theorem lq_if_le (hx : p.tables.exec = Jvm.exec) (hb : c.code = cc) {a : Nat} (h1 : a < 2 ^ 31) {off : Int} (hdg : decode cc pc = .ok (.ifCond .le off, 3)) {tgt : Nat} (ht : (pc : Int) + off = (tgt : Int)) (kt : a = 0 → W p l e R s m args below meth c H locs cells slots Q (F0 m tgt ls rest)) (kf : 0 < a → W p l e R s m args below meth c H locs cells slots Q (F0 m (pc + 3) ls rest)) : W p l e R s m args below meth c H locs cells slots Q (F0 m pc ls (.int (nI a) :: rest)) := lv_if_le hx hb hdg ht (fun q => kt (Nat.le_zero.mp ((nI_leI h1 (by decide)).mp q))) (fun q => kf (Nat.not_le.mp (mt (nI_leI h1 (by decide)).mpr q)))
end GR
end
section
/-! what each call asks of the tables (printed by gen03b.py) -/
theorem g_D_7 : CallT R_D 7 y_K_values b_K_values 0 (some (FieldType.array (FieldType.object "EventLineDesk$LineKind"))) 0 := ⟨⟨m_15, m_16, m_3, m_17⟩, by decide +kernel⟩
theorem g_law_13 : CallG R_law 13 R_D y_D_begin b_D_begin 2 (some FieldType.boolean) 1 := ⟨⟨m_68, m_69, m_70, m_1, m_71⟩, by decide +kernel⟩
theorem g_D_31 : CallG R_D 31 R_L y_L_begin b_L_begin 3 (some FieldType.boolean) 1 := ⟨⟨m_72, m_73, m_74, m_4, m_75⟩, by decide +kernel⟩
theorem g_L_34 : CallG R_L 34 R_L y_L_hasRoom b_L_hasRoom 2 (some FieldType.boolean) 1 := ⟨⟨m_76, m_78, s_L_hasRoom, m_4, m_79⟩, by decide +kernel⟩
theorem g_L_38 : CallG R_L 38 R_L y_L_end b_L_end 1 none 0 := ⟨⟨m_80, m_81, m_82, m_4, m_83⟩, by decide +kernel⟩
theorem g_L_46 : CallG R_L 46 R_L y_L_put b_L_put 2 none 1 := ⟨⟨m_84, m_86, s_L_put, m_4, m_87⟩, by decide +kernel⟩
theorem g_law_18 : CallG R_law 18 R_D y_D_add b_D_add 2 (some FieldType.boolean) 1 := ⟨⟨m_88, m_89, m_90, m_1, m_91⟩, by decide +kernel⟩
theorem g_D_35 : CallT R_D 35 y_D_isCharacter b_D_isCharacter 1 (some FieldType.boolean) 1 := ⟨⟨m_92, m_93, m_1, m_94⟩, by decide +kernel⟩
theorem g_D_46 : CallG R_D 46 R_L y_L_add b_L_add 4 (some FieldType.boolean) 1 := ⟨⟨m_100, m_101, m_102, m_4, m_103⟩, by decide +kernel⟩
theorem g_L_54 : CallT R_L 54 y_L_bytesOf b_L_bytesOf 1 (some FieldType.int) 1 := ⟨⟨m_104, m_105, m_4, m_106⟩, by decide +kernel⟩
theorem g_L_50 : CallT R_L 50 y_L_letter b_L_letter 1 (some FieldType.int) 1 := ⟨⟨m_107, m_108, m_4, m_109⟩, by decide +kernel⟩
theorem g_law_22 : CallG R_law 22 R_D y_D_text b_D_text 2 (some FieldType.boolean) 1 := ⟨⟨m_111, m_112, m_113, m_1, m_114⟩, by decide +kernel⟩
theorem g_D_49 : CallG R_D 49 R_L y_L_text b_L_text 3 (some FieldType.boolean) 1 := ⟨⟨m_115, m_116, m_117, m_4, m_118⟩, by decide +kernel⟩
theorem g_L_60 : CallG R_L 60 R_L y_L_add b_L_add 4 (some FieldType.boolean) 1 := ⟨⟨m_120, m_101, m_102, m_4, m_103⟩, by decide +kernel⟩
theorem g_L_63 : CallG R_L 63 R_L y_L_begin b_L_begin 3 (some FieldType.boolean) 1 := ⟨⟨m_121, m_73, m_74, m_4, m_75⟩, by decide +kernel⟩
theorem g_law_26 : CallG R_law 26 R_D y_D_end b_D_end 2 (some FieldType.int) 0 := ⟨⟨m_122, m_123, m_124, m_1, m_125⟩, by decide +kernel⟩
theorem g_D_56 : CallG R_D 56 R_L y_L_end b_L_end 1 none 0 := ⟨⟨m_132, m_81, m_82, m_4, m_83⟩, by decide +kernel⟩
theorem g_law_31 : CallG R_law 31 R_D y_D_back b_D_back 2 (some FieldType.boolean) 1 := ⟨⟨m_133, m_134, m_135, m_1, m_136⟩, by decide +kernel⟩
theorem g_D_59 : CallG R_D 59 R_L y_L_back b_L_back 5 (some FieldType.boolean) 1 := ⟨⟨m_137, m_138, m_139, m_4, m_140⟩, by decide +kernel⟩
theorem g_law_35 : CallG R_law 35 R_D y_D_mark b_D_mark 1 (some FieldType.int) 0 := ⟨⟨m_141, m_142, m_143, m_1, m_144⟩, by decide +kernel⟩
theorem g_D_62 : CallG R_D 62 R_L y_L_mark b_L_mark 1 (some FieldType.int) 0 := ⟨⟨m_145, m_146, m_147, m_4, m_148⟩, by decide +kernel⟩
theorem g_law_39 : CallG R_law 39 R_D y_D_take b_D_take 1 (some FieldType.long) 0 := ⟨⟨m_149, m_150, m_151, m_1, m_152⟩, by decide +kernel⟩
theorem g_D_65 : CallG R_D 65 R_L y_L_take b_L_take 5 (some FieldType.long) 0 := ⟨⟨m_153, m_154, m_155, m_4, m_156⟩, by decide +kernel⟩
theorem g_L_67 : CallT R_L 67 y_Ma_min b_Ma_min 2 (some FieldType.int) 2 := ⟨⟨m_157, m_158, m_6, m_159⟩, by decide +kernel⟩
theorem g_law_44 : CallG R_law 44 R_D y_D_count b_D_count 2 (some FieldType.int) 1 := ⟨⟨m_161, m_162, m_163, m_1, m_164⟩, by decide +kernel⟩
theorem g_law_17 : CallG R_law 17 R_M y_M_begin b_M_begin 2 (some FieldType.boolean) 1 := ⟨⟨m_200, m_201, m_202, m_5, m_203⟩, by decide +kernel⟩
theorem g_M_43 : CallG R_M 43 R_M y_M_start b_M_start 2 none 1 := ⟨⟨m_204, m_206, s_M_start, m_5, m_207⟩, by decide +kernel⟩
theorem g_M_36 : CallG R_M 36 R_M y_M_close b_M_close 1 none 0 := ⟨⟨m_208, m_210, s_M_close, m_5, m_211⟩, by decide +kernel⟩
theorem g_M_39 : CallG R_M 39 R_M y_M_put b_M_put 2 none 1 := ⟨⟨m_212, m_214, s_M_put, m_5, m_215⟩, by decide +kernel⟩
theorem g_law_21 : CallG R_law 21 R_M y_M_add b_M_add 3 (some FieldType.boolean) 1 := ⟨⟨m_216, m_217, m_218, m_5, m_219⟩, by decide +kernel⟩
theorem g_M_46 : CallG R_M 46 R_M y_M_code b_M_code 4 (some FieldType.boolean) 1 := ⟨⟨m_220, m_222, s_M_code, m_5, m_223⟩, by decide +kernel⟩
theorem g_law_25 : CallG R_law 25 R_M y_M_text b_M_text 4 (some FieldType.boolean) 1 := ⟨⟨m_228, m_229, m_230, m_5, m_231⟩, by decide +kernel⟩
theorem g_law_30 : CallG R_law 30 R_M y_M_end b_M_end 2 (some FieldType.int) 0 := ⟨⟨m_232, m_233, m_234, m_5, m_235⟩, by decide +kernel⟩
theorem g_law_34 : CallG R_law 34 R_M y_M_back b_M_back 4 (some FieldType.boolean) 1 := ⟨⟨m_236, m_237, m_238, m_5, m_239⟩, by decide +kernel⟩
theorem g_law_38 : CallG R_law 38 R_M y_M_mark b_M_mark 1 (some FieldType.int) 0 := ⟨⟨m_240, m_241, m_242, m_5, m_243⟩, by decide +kernel⟩
theorem g_law_43 : CallG R_law 43 R_M y_M_take b_M_take 5 (some FieldType.long) 0 := ⟨⟨m_244, m_245, m_246, m_5, m_247⟩, by decide +kernel⟩
theorem g_law_48 : CallG R_law 48 R_M y_M_count b_M_count 4 (some FieldType.int) 1 := ⟨⟨m_248, m_249, m_250, m_5, m_251⟩, by decide +kernel⟩
end
section
/-! THE PURE PICTURE: bytes as a list of numbers, how the two arrays hold them, how a character is written -/
def bI (b : Nat) : Int32 := (nI b).toInt8.toInt32
/-- the byte array holds L from its beginning -/
def RB (f : Nat → Int32) (L : List Nat) : Prop := ∀ j, j < L.length → f j = bI (L.getD j 0)
/-- the int array holds L from its beginning -/
def RI (f : Nat → Int32) (L : List Nat) : Prop := ∀ j, j < L.length → f j = nI (L.getD j 0)
theorem getD_left {L M : List Nat} {j : Nat} (h : j < L.length) : (L ++ M).getD j 0 = L.getD j 0 := by
  simp [List.getD_eq_getElem?_getD, List.getElem?_append_left h]
theorem getD_mid {L : List Nat} {b : Nat} : (L ++ [b]).getD L.length 0 = b := by
  simp [List.getD_eq_getElem?_getD]
theorem len1 (L : List Nat) (b : Nat) : (L ++ [b]).length = L.length + 1 := by simp
theorem RB.push {f : Nat → Int32} {L : List Nat} {b : Nat} {x : Int32} (hx : x = bI b) (h : RB f L) : RB (upd f L.length x) (L ++ [b]) := by
  intro j hj
  rw [len1] at hj
  by_cases e : j = L.length
  · subst e; rw [pk_us, getD_mid, hx]
  · rw [pk_un e, getD_left (by omega)]; exact h j (by omega)
theorem RI.push {f : Nat → Int32} {L : List Nat} {b : Nat} {x : Int32} (hx : x = nI b) (h : RI f L) : RI (upd f L.length x) (L ++ [b]) := by
  intro j hj
  rw [len1] at hj
  by_cases e : j = L.length
  · subst e; rw [pk_us, getD_mid, hx]
  · rw [pk_un e, getD_left (by omega)]; exact h j (by omega)
/-- the letter behind a backslash; 0: none -/
def letN (n : Nat) : Nat := if n = 92 then 92 else if n = 10 then 110 else if n = 9 then 116 else if n = 13 then 114 else 0
/-- how many bytes a character takes -/
def bofN (n : Nat) : Nat := if letN n ≠ 0 ∨ (128 ≤ n ∧ n < 2048) then 2 else if n < 128 then 1 else if n < 65536 then 3 else 4
/-- LINES' STATE: bytes, open line's kind, where it begins, taken, lines, whole -/
abbrev LSt : Type := List Nat × Option Nat × Nat × Nat × Nat × Int32
abbrev wL (h0 hB : Nat) (cB : ClassId) (ad : Nat → Nat) (u : LSt) (f : Nat → Int32) : va_W := [(h0, .inr (0, [.ref hB, va_re ad u.2.1, .int (nI u.1.length), .int (nI u.2.2.1), .int (nI u.2.2.2.1), .int (nI u.2.2.2.2.1), .int u.2.2.2.2.2])), (hB, .inl (cB, 3000, .inl f))]
abbrev MetLv (l : Launch) (dC : Nat → ClassId) (dI : Nat → Nat → Nat) (cB : ClassId) (h0 hB : Nat) (ad : Nat → Nat) (sz : Nat) (y : MethodName) (b : ByteArray) (n : Nat) (rm : Room) (As : List Value) (X : (Nat → Prop) → State → Prop) (u : LSt) (f : Nat → Int32) (post : LSt → Prop) : Prop :=
  Met l y (ww y b n none) rm (va_Pc (.ref h0 :: As) (PreW dC dI [(cB, .byte)] (wL h0 hB cB ad u f) sz X)) (va_Qv (fun z : LSt × (Nat → Int32) => post z.1 ∧ RB z.2 z.1.1) (PW dC dI (va_A (wL h0 hB cB ad u f) sz) (fun z => wL h0 hB cB ad z.1 z.2)) (va_A (wL h0 hB cB ad u f) sz)) 0 0 (va_A (wL h0 hB cB ad u f) sz)
abbrev MetLi (l : Launch) (dC : Nat → ClassId) (dI : Nat → Nat → Nat) (cB : ClassId) (h0 hB : Nat) (ad : Nat → Nat) (sz : Nat) (y : MethodName) (b : ByteArray) (n : Nat) (ty : FieldType) (rm : Room) (As : List Value) (X : (Nat → Prop) → State → Prop) (u : LSt) (f : Nat → Int32) (post : Int32 → LSt → Prop) : Prop :=
  Met l y (ww y b n (some ty)) rm (va_Pc (.ref h0 :: As) (PreW dC dI [(cB, .byte)] (wL h0 hB cB ad u f) sz X)) (va_Qi (fun r (z : LSt × (Nat → Int32)) => post r z.1 ∧ RB z.2 z.1.1) (PW dC dI (va_A (wL h0 hB cB ad u f) sz) (fun z => wL h0 hB cB ad z.1 z.2)) (va_A (wL h0 hB cB ad u f) sz)) 0 0 (va_A (wL h0 hB cB ad u f) sz)
abbrev MetLl (l : Launch) (dC : Nat → ClassId) (dI : Nat → Nat → Nat) (cB : ClassId) (h0 hB : Nat) (ad : Nat → Nat) (sz : Nat) (y : MethodName) (b : ByteArray) (n : Nat) (rm : Room) (As : List Value) (X : (Nat → Prop) → State → Prop) (u : LSt) (f : Nat → Int32) (post : Int64 → LSt → Prop) : Prop :=
  Met l y (ww y b n (some .long)) rm (va_Pc (.ref h0 :: As) (PreW dC dI [(cB, .byte)] (wL h0 hB cB ad u f) sz X)) (va_Ql (fun r (z : LSt × (Nat → Int32)) => post r z.1 ∧ RB z.2 z.1.1) (PW dC dI (va_A (wL h0 hB cB ad u f) sz) (fun z => wL h0 hB cB ad z.1 z.2)) (va_A (wL h0 hB cB ad u f) sz)) 0 0 (va_A (wL h0 hB cB ad u f) sz)
end
section
/-! LINES, the leaves (rows printed by gen05.py) -/
theorem letN_lt (n : Nat) : letN n < 2 ^ 31 := by unfold letN; repeat (first | decide | split)
set_option maxHeartbeats 4000000 in
set_option maxRecDepth 100000 in
theorem c_L_put (l : Launch) (dC : Nat → ClassId) (dI : Nat → Nat → Nat) (cB : ClassId) (h0 hB : Nat) (ad : Nat → Nat) (sz : Nat) (L : List Nat) (o : Option Nat) (fr tk lc : Nat) (wh : Int32) (f : Nat → Int32) (hf : RB f L) (b : Nat) (hn : L.length < 3000) : MetLv l dC dI cB h0 hB ad sz y_L_put b_L_put 2 ({ frames := 0, cells := 0, slots := 0, locals := 0 }) [.int (nI b)] (noX) (L, o, fr, tk, lc, wh) f (fun u => u = (L ++ [b], o, fr, tk, lc, wh)) := by
  refine enter (Qf := fun A => va_Qv (fun z : LSt × (Nat → Int32) => (fun u => u = (L ++ [b], o, fr, tk, lc, wh)) z.1 ∧ RB z.2 z.1.1) (PW dC dI A (fun z => wL h0 hB cB ad z.1 z.2)) A) (by decide) (Nat.le_of_ble_eq_true rfl) ?_
  intro p e s m below meth c A ls C0 hsz hA hK hP hD hS hX hl
  obtain ⟨hx, hb, hr, hml, hown, hlk, hnm, hts⟩ := id C0
  have hl : lv_has ls 2 [(0, .ref h0), (1, .int (nI b))] := hl
  have hP : va_P (dC, dI) classes [(h0, .inr (0, [.ref hB, va_re ad o, .int (nI L.length), .int (nI fr), .int (nI tk), .int (nI lc), .int wh])), (hB, .inl (cB, 3000, .inl f))] s.heap := hP
  have hD : va_D A [(h0, .inr (0, [.ref hB, va_re ad o, .int (nI L.length), .int (nI fr), .int (nI tk), .int (nI lc), .int wh])), (hB, .inl (cB, 3000, .inl f))] := hD
  refine lv_aload_n hx hb d_L_put_0 rfl (lv_at hl 0 rfl) ?_
  refine va_get (D := (dC, dI)) (ci := 0) (v := .ref hB) (C := R_L) (T := F_L) (N := 7) hx hb hts i_L hown hK hP 0 rfl rfl 0 (by decide) (hts _ m_34) (fun _ h9 => h9) rfl d_L_put_1 ?_
  refine lv_aload_n hx hb d_L_put_4 rfl (lv_at hl 0 rfl) ?_
  refine va_get (D := (dC, dI)) (ci := 0) (v := .int (nI L.length)) (C := R_L) (T := F_L) (N := 7) hx hb hts i_L hown hK hP 0 rfl rfl 2 (by decide) (hts _ m_37) (fun _ h9 => h9) rfl d_L_put_5 ?_
  refine lv_iload_n hx hb d_L_put_8 rfl (lv_at hl 1 rfl) ?_
  refine lv_i2b (v := (nI b).toInt8.toInt32) hx hb d_L_put_9 rfl ?_
  refine va_bast (D := (dC, dI)) hx hb hK hP hD hS 1 0 rfl rfl (vp_in_nI (by omega) (by omega)) d_L_put_10 (fun H locs hP hD hS => ?_)
  have hf2 := RB.push (x := vp_nar .byte (nI b).toInt8.toInt32) (b := b) (pk_vb (nI b)) hf
  rw [nI_clamp (show L.length < 2 ^ 31 by omega)] at hP hD
  generalize upd f L.length (vp_nar .byte (nI b).toInt8.toInt32) = f2 at hP hD hf2
  have hP : va_P (dC, dI) classes [(h0, .inr (0, [.ref hB, va_re ad o, .int (nI L.length), .int (nI fr), .int (nI tk), .int (nI lc), .int wh])), (hB, .inl (cB, 3000, .inl f2))] H := hP
  have hD : va_D A [(h0, .inr (0, [.ref hB, va_re ad o, .int (nI L.length), .int (nI fr), .int (nI tk), .int (nI lc), .int wh])), (hB, .inl (cB, 3000, .inl f2))] := hD
  refine lv_aload_n hx hb d_L_put_11 rfl (lv_at hl 0 rfl) ?_
  refine lv_dup hx hb d_L_put_12 rfl ?_
  refine va_get (D := (dC, dI)) (ci := 0) (v := .int (nI L.length)) (C := R_L) (T := F_L) (N := 7) hx hb hts i_L hown hK hP 0 rfl rfl 2 (by decide) (hts _ m_37) (fun _ h9 => h9) rfl d_L_put_13 ?_
  refine lv_iconst (v := nI 1) hx hb d_L_put_16 (by decide) ?_
  refine lq_add hx hb d_L_put_17 ?_
  refine lx_i (y := nI ((L ++ [b]).length)) (by rw [len1]) ?_
  refine va_put (D := (dC, dI)) (ci := 0) (v := .int (nI ((L ++ [b]).length))) (ty := .int) (C := R_L) (T := F_L) (N := 7) hx hb hts i_L t_L t_L_ok n_L hown hK hP hD hS 0 rfl rfl 2 (by decide) (hts _ m_37) (fun _ h9 => h9) rfl (by decide +kernel) rfl rfl (Nat.le_of_ble_eq_true rfl) d_L_put_18 (fun H locs hP hD hS => ?_)
  have hP : va_P (dC, dI) classes [(h0, .inr (0, [.ref hB, va_re ad o, .int (nI ((L ++ [b]).length)), .int (nI fr), .int (nI tk), .int (nI lc), .int wh])), (hB, .inl (cB, 3000, .inl f2))] H := hP
  have hD : va_D A [(h0, .inr (0, [.ref hB, va_re ad o, .int (nI ((L ++ [b]).length)), .int (nI fr), .int (nI tk), .int (nI lc), .int wh])), (hB, .inl (cB, 3000, .inl f2))] := hD
  exact ret_v C0 hS d_L_put_21 ((L ++ [b], o, fr, tk, lc, wh), f2) ⟨rfl, hf2⟩ hP hD
set_option maxHeartbeats 4000000 in
set_option maxRecDepth 100000 in
theorem c_L_hasRoom (l : Launch) (dC : Nat → ClassId) (dI : Nat → Nat → Nat) (cB : ClassId) (h0 hB : Nat) (ad : Nat → Nat) (sz : Nat) (L : List Nat) (o : Option Nat) (fr tk lc : Nat) (wh : Int32) (f : Nat → Int32) (hf : RB f L) (k : Nat) (hL : L.length ≤ 3000) (hk : k < 100) : MetLi l dC dI cB h0 hB ad sz y_L_hasRoom b_L_hasRoom 2 .boolean ({ frames := 0, cells := 0, slots := 0, locals := 0 }) [.int (nI k)] (noX) (L, o, fr, tk, lc, wh) f (fun r u => r = (if L.length + k + 1 ≤ 3000 then 1 else 0) ∧ u = (L, o, fr, tk, lc, wh)) := by
  refine enter (Qf := fun A => va_Qi (fun r (z : LSt × (Nat → Int32)) => (fun r u => r = (if L.length + k + 1 ≤ 3000 then 1 else 0) ∧ u = (L, o, fr, tk, lc, wh)) r z.1 ∧ RB z.2 z.1.1) (PW dC dI A (fun z => wL h0 hB cB ad z.1 z.2)) A) (by decide) (Nat.le_of_ble_eq_true rfl) ?_
  intro p e s m below meth c A ls C0 hsz hA hK hP hD hS hX hl
  obtain ⟨hx, hb, hr, hml, hown, hlk, hnm, hts⟩ := id C0
  have hl : lv_has ls 2 [(0, .ref h0), (1, .int (nI k))] := hl
  have hP : va_P (dC, dI) classes [(h0, .inr (0, [.ref hB, va_re ad o, .int (nI L.length), .int (nI fr), .int (nI tk), .int (nI lc), .int wh])), (hB, .inl (cB, 3000, .inl f))] s.heap := hP
  have hD : va_D A [(h0, .inr (0, [.ref hB, va_re ad o, .int (nI L.length), .int (nI fr), .int (nI tk), .int (nI lc), .int wh])), (hB, .inl (cB, 3000, .inl f))] := hD
  refine lv_aload_n hx hb d_L_hasRoom_0 rfl (lv_at hl 0 rfl) ?_
  refine va_get (D := (dC, dI)) (ci := 0) (v := .int (nI L.length)) (C := R_L) (T := F_L) (N := 7) hx hb hts i_L hown hK hP 0 rfl rfl 2 (by decide) (hts _ m_37) (fun _ h9 => h9) rfl d_L_hasRoom_1 ?_
  refine lv_iload_n hx hb d_L_hasRoom_4 rfl (lv_at hl 1 rfl) ?_
  refine lq_add hx hb d_L_hasRoom_5 ?_
  refine lv_iconst (v := nI 1) hx hb d_L_hasRoom_6 (by decide) ?_
  refine lq_add hx hb d_L_hasRoom_7 ?_
  refine lv_aload_n hx hb d_L_hasRoom_8 rfl (lv_at hl 0 rfl) ?_
  refine va_get (D := (dC, dI)) (ci := 0) (v := .ref hB) (C := R_L) (T := F_L) (N := 7) hx hb hts i_L hown hK hP 0 rfl rfl 0 (by decide) (hts _ m_34) (fun _ h9 => h9) rfl d_L_hasRoom_9 ?_
  refine va_alen (D := (dC, dI)) (v := nI 3000) hx hb hK hP 1 0 rfl rfl rfl d_L_hasRoom_12 ?_
  refine lq_icmp_gt hx hb (by omega) (by omega) (tgt := 20) d_L_hasRoom_13 (by decide) (fun c_1 => ?_) (fun c_1 => ?_)
  · refine lv_iconst (v := nI 0) hx hb d_L_hasRoom_20 (by decide) ?_
    exact ret_i C0 hS d_L_hasRoom_21 rfl ((L, o, fr, tk, lc, wh), f) ⟨⟨by rw [if_neg (by omega)]; rfl, rfl⟩, hf⟩ hP hD
  · refine lv_iconst (v := nI 1) hx hb d_L_hasRoom_16 (by decide) ?_
    refine lv_goto (tgt := 21) hx hb d_L_hasRoom_17 (by decide) ?_
    exact ret_i C0 hS d_L_hasRoom_21 rfl ((L, o, fr, tk, lc, wh), f) ⟨⟨by rw [if_pos (by omega)]; rfl, rfl⟩, hf⟩ hP hD
set_option maxHeartbeats 4000000 in
set_option maxRecDepth 100000 in
theorem c_L_mark (l : Launch) (dC : Nat → ClassId) (dI : Nat → Nat → Nat) (cB : ClassId) (h0 hB : Nat) (ad : Nat → Nat) (sz : Nat) (L : List Nat) (o : Option Nat) (fr tk lc : Nat) (wh : Int32) (f : Nat → Int32) (hf : RB f L)  : MetLi l dC dI cB h0 hB ad sz y_L_mark b_L_mark 1 .int ({ frames := 0, cells := 0, slots := 0, locals := 0 }) [] (noX) (L, o, fr, tk, lc, wh) f (fun r u => r = nI (tk + L.length) ∧ u = (L, o, fr, tk, lc, wh)) := by
  refine enter (Qf := fun A => va_Qi (fun r (z : LSt × (Nat → Int32)) => (fun r u => r = nI (tk + L.length) ∧ u = (L, o, fr, tk, lc, wh)) r z.1 ∧ RB z.2 z.1.1) (PW dC dI A (fun z => wL h0 hB cB ad z.1 z.2)) A) (by decide) (Nat.le_of_ble_eq_true rfl) ?_
  intro p e s m below meth c A ls C0 hsz hA hK hP hD hS hX hl
  obtain ⟨hx, hb, hr, hml, hown, hlk, hnm, hts⟩ := id C0
  have hl : lv_has ls 1 [(0, .ref h0)] := hl
  have hP : va_P (dC, dI) classes [(h0, .inr (0, [.ref hB, va_re ad o, .int (nI L.length), .int (nI fr), .int (nI tk), .int (nI lc), .int wh])), (hB, .inl (cB, 3000, .inl f))] s.heap := hP
  have hD : va_D A [(h0, .inr (0, [.ref hB, va_re ad o, .int (nI L.length), .int (nI fr), .int (nI tk), .int (nI lc), .int wh])), (hB, .inl (cB, 3000, .inl f))] := hD
  refine lv_aload_n hx hb d_L_mark_0 rfl (lv_at hl 0 rfl) ?_
  refine va_get (D := (dC, dI)) (ci := 0) (v := .int (nI tk)) (C := R_L) (T := F_L) (N := 7) hx hb hts i_L hown hK hP 0 rfl rfl 4 (by decide) (hts _ m_41) (fun _ h9 => h9) rfl d_L_mark_1 ?_
  refine lv_aload_n hx hb d_L_mark_4 rfl (lv_at hl 0 rfl) ?_
  refine va_get (D := (dC, dI)) (ci := 0) (v := .int (nI L.length)) (C := R_L) (T := F_L) (N := 7) hx hb hts i_L hown hK hP 0 rfl rfl 2 (by decide) (hts _ m_37) (fun _ h9 => h9) rfl d_L_mark_5 ?_
  refine lq_add hx hb d_L_mark_8 ?_
  exact ret_i C0 hS d_L_mark_9 rfl ((L, o, fr, tk, lc, wh), f) ⟨⟨rfl, rfl⟩, hf⟩ hP hD
def endF (u : LSt) : LSt := match u.2.1 with
  | none => u
  | some _ => (u.1 ++ [10], none, u.1.length + 1, u.2.2.2.1, u.2.2.2.2.1 + 1, u.2.2.2.2.2)
set_option maxHeartbeats 4000000 in
set_option maxRecDepth 100000 in
theorem c_L_end (l : Launch) (dC : Nat → ClassId) (dI : Nat → Nat → Nat) (cB : ClassId) (h0 hB : Nat) (ad : Nat → Nat) (sz : Nat) (L : List Nat) (o : Option Nat) (fr tk lc : Nat) (wh : Int32) (f : Nat → Int32) (hf : RB f L) (hn : o ≠ none → L.length < 3000) : MetLv l dC dI cB h0 hB ad sz y_L_end b_L_end 1 ({ frames := 1, cells := 0, slots := 0, locals := 21 }) [] (noX) (L, o, fr, tk, lc, wh) f (fun u => u = endF (L, o, fr, tk, lc, wh)) := by
  refine enter (Qf := fun A => va_Qv (fun z : LSt × (Nat → Int32) => (fun u => u = endF (L, o, fr, tk, lc, wh)) z.1 ∧ RB z.2 z.1.1) (PW dC dI A (fun z => wL h0 hB cB ad z.1 z.2)) A) (by decide) (Nat.le_of_ble_eq_true rfl) ?_
  intro p e s m below meth c A ls C0 hsz hA hK hP hD hS hX hl
  obtain ⟨hx, hb, hr, hml, hown, hlk, hnm, hts⟩ := id C0
  have hl : lv_has ls 1 [(0, .ref h0)] := hl
  have hP : va_P (dC, dI) classes [(h0, .inr (0, [.ref hB, va_re ad o, .int (nI L.length), .int (nI fr), .int (nI tk), .int (nI lc), .int wh])), (hB, .inl (cB, 3000, .inl f))] s.heap := hP
  have hD : va_D A [(h0, .inr (0, [.ref hB, va_re ad o, .int (nI L.length), .int (nI fr), .int (nI tk), .int (nI lc), .int wh])), (hB, .inl (cB, 3000, .inl f))] := hD
  cases o with
  | none =>
    have hP : va_P (dC, dI) classes [(h0, .inr (0, [.ref hB, .null, .int (nI L.length), .int (nI fr), .int (nI tk), .int (nI lc), .int wh])), (hB, .inl (cB, 3000, .inl f))] s.heap := hP
    have hD : va_D A [(h0, .inr (0, [.ref hB, .null, .int (nI L.length), .int (nI fr), .int (nI tk), .int (nI lc), .int wh])), (hB, .inl (cB, 3000, .inl f))] := hD
    refine lv_aload_n hx hb d_L_end_0 rfl (lv_at hl 0 rfl) ?_
    refine va_get (D := (dC, dI)) (ci := 0) (v := .null) (C := R_L) (T := F_L) (N := 7) hx hb hts i_L hown hK hP 0 rfl rfl 1 (by decide) (hts _ m_36) (fun _ h9 => h9) rfl d_L_end_1 ?_
    refine lv_ifnonnullN hx hb d_L_end_4 ?_
    exact ret_v C0 hS d_L_end_7 ((L, none, fr, tk, lc, wh), f) ⟨rfl, hf⟩ hP hD
  | some i =>
    have hP : va_P (dC, dI) classes [(h0, .inr (0, [.ref hB, .ref (ad i), .int (nI L.length), .int (nI fr), .int (nI tk), .int (nI lc), .int wh])), (hB, .inl (cB, 3000, .inl f))] s.heap := hP
    have hD : va_D A [(h0, .inr (0, [.ref hB, .ref (ad i), .int (nI L.length), .int (nI fr), .int (nI tk), .int (nI lc), .int wh])), (hB, .inl (cB, 3000, .inl f))] := hD
    refine lv_aload_n hx hb d_L_end_0 rfl (lv_at hl 0 rfl) ?_
    refine va_get (D := (dC, dI)) (ci := 0) (v := .ref (ad i)) (C := R_L) (T := F_L) (N := 7) hx hb hts i_L hown hK hP 0 rfl rfl 1 (by decide) (hts _ m_36) (fun _ h9 => h9) rfl d_L_end_1 ?_
    refine lv_ifnonnull (tgt := 8) hx hb d_L_end_4 (by decide) ?_
    refine lv_aload_n hx hb d_L_end_8 rfl (lv_at hl 0 rfl) ?_
    refine lv_bipush (v := nI 10) hx hb d_L_end_9 (by decide) ?_
    refine gcall_v (q0 := 0) (wr := []) (As := [.int (nI 10)]) (rest := []) C0 g_L_46 (c_L_put l dC dI cB h0 hB ad s.heap.size L (some i) fr tk lc wh f hf 10 (hn (by simp))) ⟨Nat.le_of_ble_eq_true rfl, Nat.le_of_ble_eq_true rfl⟩ ⟨rfl, rfl⟩ ⟨Nat.zero_le _, Nat.zero_le _⟩ d_L_end_11 rfl rfl (Nat.le_of_ble_eq_true rfl) hl.1 hK hP hD hS hA [0, 1] [] [0] rfl (by decide) rfl (by decide) (by decide) rfl rfl rfl (fun _ _ _ _ _ _ => trivial) (fun _ _ _ _ _ => trivial) (fun u H locs hw hP hD hS => ?_)
    obtain ⟨u, f⟩ := u
    dsimp only at hw
    obtain ⟨rfl, hf⟩ := hw
    have hP : va_P (dC, dI) classes [(h0, .inr (0, [.ref hB, .ref (ad i), .int (nI ((L ++ [10]).length)), .int (nI fr), .int (nI tk), .int (nI lc), .int wh])), (hB, .inl (cB, 3000, .inl f))] H := hP
    have hD : va_D A [(h0, .inr (0, [.ref hB, .ref (ad i), .int (nI ((L ++ [10]).length)), .int (nI fr), .int (nI tk), .int (nI lc), .int wh])), (hB, .inl (cB, 3000, .inl f))] := hD
    refine lv_aload_n hx hb d_L_end_14 rfl (lv_at hl 0 rfl) ?_
    refine lv_null hx hb d_L_end_15 ?_
    refine va_put (D := (dC, dI)) (ci := 0) (v := .null) (ty := .object "EventLineDesk$LineKind") (C := R_L) (T := F_L) (N := 7) hx hb hts i_L t_L t_L_ok n_L hown hK hP hD hS 0 rfl rfl 1 (by decide) (hts _ m_36) (fun _ h9 => h9) rfl (by decide +kernel) rfl rfl (Nat.le_of_ble_eq_true rfl) d_L_end_16 (fun H locs hP hD hS => ?_)
    have hP : va_P (dC, dI) classes [(h0, .inr (0, [.ref hB, .null, .int (nI ((L ++ [10]).length)), .int (nI fr), .int (nI tk), .int (nI lc), .int wh])), (hB, .inl (cB, 3000, .inl f))] H := hP
    have hD : va_D A [(h0, .inr (0, [.ref hB, .null, .int (nI ((L ++ [10]).length)), .int (nI fr), .int (nI tk), .int (nI lc), .int wh])), (hB, .inl (cB, 3000, .inl f))] := hD
    refine lv_aload_n hx hb d_L_end_19 rfl (lv_at hl 0 rfl) ?_
    refine lv_aload_n hx hb d_L_end_20 rfl (lv_at hl 0 rfl) ?_
    refine va_get (D := (dC, dI)) (ci := 0) (v := .int (nI ((L ++ [10]).length))) (C := R_L) (T := F_L) (N := 7) hx hb hts i_L hown hK hP 0 rfl rfl 2 (by decide) (hts _ m_37) (fun _ h9 => h9) rfl d_L_end_21 ?_
    refine lx_i (y := nI (L.length + 1)) (by rw [len1]) ?_
    refine va_put (D := (dC, dI)) (ci := 0) (v := .int (nI (L.length + 1))) (ty := .int) (C := R_L) (T := F_L) (N := 7) hx hb hts i_L t_L t_L_ok n_L hown hK hP hD hS 0 rfl rfl 3 (by decide) (hts _ m_39) (fun _ h9 => h9) rfl (by decide +kernel) rfl rfl (Nat.le_of_ble_eq_true rfl) d_L_end_24 (fun H locs hP hD hS => ?_)
    have hP : va_P (dC, dI) classes [(h0, .inr (0, [.ref hB, .null, .int (nI ((L ++ [10]).length)), .int (nI (L.length + 1)), .int (nI tk), .int (nI lc), .int wh])), (hB, .inl (cB, 3000, .inl f))] H := hP
    have hD : va_D A [(h0, .inr (0, [.ref hB, .null, .int (nI ((L ++ [10]).length)), .int (nI (L.length + 1)), .int (nI tk), .int (nI lc), .int wh])), (hB, .inl (cB, 3000, .inl f))] := hD
    refine lv_aload_n hx hb d_L_end_27 rfl (lv_at hl 0 rfl) ?_
    refine lv_dup hx hb d_L_end_28 rfl ?_
    refine va_get (D := (dC, dI)) (ci := 0) (v := .int (nI lc)) (C := R_L) (T := F_L) (N := 7) hx hb hts i_L hown hK hP 0 rfl rfl 5 (by decide) (hts _ m_42) (fun _ h9 => h9) rfl d_L_end_29 ?_
    refine lv_iconst (v := nI 1) hx hb d_L_end_32 (by decide) ?_
    refine lq_add hx hb d_L_end_33 ?_
    refine va_put (D := (dC, dI)) (ci := 0) (v := .int (nI (lc + 1))) (ty := .int) (C := R_L) (T := F_L) (N := 7) hx hb hts i_L t_L t_L_ok n_L hown hK hP hD hS 0 rfl rfl 5 (by decide) (hts _ m_42) (fun _ h9 => h9) rfl (by decide +kernel) rfl rfl (Nat.le_of_ble_eq_true rfl) d_L_end_34 (fun H locs hP hD hS => ?_)
    have hP : va_P (dC, dI) classes [(h0, .inr (0, [.ref hB, .null, .int (nI ((L ++ [10]).length)), .int (nI (L.length + 1)), .int (nI tk), .int (nI (lc + 1)), .int wh])), (hB, .inl (cB, 3000, .inl f))] H := hP
    have hD : va_D A [(h0, .inr (0, [.ref hB, .null, .int (nI ((L ++ [10]).length)), .int (nI (L.length + 1)), .int (nI tk), .int (nI (lc + 1)), .int wh])), (hB, .inl (cB, 3000, .inl f))] := hD
    exact ret_v C0 hS d_L_end_37 ((L ++ [10], none, L.length + 1, tk, lc + 1, wh), f) ⟨rfl, hf⟩ hP hD
set_option maxHeartbeats 4000000 in
set_option maxRecDepth 100000 in
theorem c_L_letter (l : Launch) (n : Nat) (hn : n < 2 ^ 31) : Met l y_L_letter (ww y_L_letter b_L_letter 1 (some .int)) ({ frames := 0, cells := 0, slots := 0, locals := 0 }) (va_Pc [.int (nI n)] (fun _ => True)) (vp_Si (fun r => r = nI (letN n))) 0 0 (fun _ => False) := by
  refine enterS (by decide) (Nat.le_of_ble_eq_true rfl) ?_
  intro p e s m below meth c ls C0 hl
  obtain ⟨hx, hb, hr, hml, hown, hlk, hnm, hts⟩ := id C0
  have hl : lv_has ls 1 [(0, .int (nI n))] := hl
  refine lv_iload_n hx hb d_L_letter_0 rfl (lv_at hl 0 rfl) ?_
  refine lv_bipush (v := nI 92) hx hb d_L_letter_1 (by decide) ?_
  refine lq_icmp_ne hx hb (by omega) (by omega) (tgt := 11) d_L_letter_3 (by decide) (fun c_1 => ?_) (fun c_1 => ?_)
  · refine lv_iload_n hx hb d_L_letter_11 rfl (lv_at hl 0 rfl) ?_
    refine lv_bipush (v := nI 10) hx hb d_L_letter_12 (by decide) ?_
    refine lq_icmp_ne hx hb (by omega) (by omega) (tgt := 22) d_L_letter_14 (by decide) (fun c_2 => ?_) (fun c_2 => ?_)
    · refine lv_iload_n hx hb d_L_letter_22 rfl (lv_at hl 0 rfl) ?_
      refine lv_bipush (v := nI 9) hx hb d_L_letter_23 (by decide) ?_
      refine lq_icmp_ne hx hb (by omega) (by omega) (tgt := 33) d_L_letter_25 (by decide) (fun c_3 => ?_) (fun c_3 => ?_)
      · refine lv_iload_n hx hb d_L_letter_33 rfl (lv_at hl 0 rfl) ?_
        refine lv_bipush (v := nI 13) hx hb d_L_letter_34 (by decide) ?_
        refine lq_icmp_ne hx hb (by omega) (by omega) (tgt := 44) d_L_letter_36 (by decide) (fun c_4 => ?_) (fun c_4 => ?_)
        · refine lv_iconst (v := nI 0) hx hb d_L_letter_44 (by decide) ?_
          exact ret_S C0 d_L_letter_45 rfl (by simp [letN, *]; try rfl)
        · refine lv_bipush (v := nI 114) hx hb d_L_letter_39 (by decide) ?_
          refine lv_goto (tgt := 45) hx hb d_L_letter_41 (by decide) ?_
          exact ret_S C0 d_L_letter_45 rfl (by simp [letN, *]; try rfl)
      · refine lv_bipush (v := nI 116) hx hb d_L_letter_28 (by decide) ?_
        refine lv_goto (tgt := 45) hx hb d_L_letter_30 (by decide) ?_
        exact ret_S C0 d_L_letter_45 rfl (by simp [letN, *]; try rfl)
    · refine lv_bipush (v := nI 110) hx hb d_L_letter_17 (by decide) ?_
      refine lv_goto (tgt := 45) hx hb d_L_letter_19 (by decide) ?_
      exact ret_S C0 d_L_letter_45 rfl (by simp [letN, *]; try rfl)
  · refine lv_bipush (v := nI 92) hx hb d_L_letter_6 (by decide) ?_
    refine lv_goto (tgt := 45) hx hb d_L_letter_8 (by decide) ?_
    exact ret_S C0 d_L_letter_45 rfl (by simp [letN, *]; try rfl)
set_option maxHeartbeats 4000000 in
set_option maxRecDepth 100000 in
theorem c_L_bytesOf (l : Launch) (n : Nat) (hn : n < 2 ^ 31) : Met l y_L_bytesOf (ww y_L_bytesOf b_L_bytesOf 1 (some .int)) ({ frames := 1, cells := 0, slots := 0, locals := 20 }) (va_Pc [.int (nI n)] (fun _ => True)) (vp_Si (fun r => r = nI (bofN n))) 0 0 (fun _ => False) := by
  refine enterS (by decide) (Nat.le_of_ble_eq_true rfl) ?_
  intro p e s m below meth c ls C0 hl
  obtain ⟨hx, hb, hr, hml, hown, hlk, hnm, hts⟩ := id C0
  have hl : lv_has ls 1 [(0, .int (nI n))] := hl
  have hln : letN n < 2 ^ 31 := letN_lt n
  refine lv_iload_n hx hb d_L_bytesOf_0 rfl (lv_at hl 0 rfl) ?_
  refine gcall_s (As := [.int (nI n)]) (rest := []) C0 g_L_50 (c_L_letter l n hn) ⟨Nat.le_of_ble_eq_true rfl, Nat.le_of_ble_eq_true rfl⟩ ⟨rfl, rfl⟩ ⟨Nat.zero_le _, Nat.zero_le _⟩ d_L_bytesOf_1 rfl rfl (Nat.le_of_ble_eq_true rfl) hl.1 ?_
  refine lq_if_ne hx hb (by omega) (tgt := 21) d_L_bytesOf_4 (by decide) (fun c_1 => ?_) (fun c_1 => ?_)
  · refine lv_iconst (v := nI 2) hx hb d_L_bytesOf_21 (by decide) ?_
    refine lv_goto (tgt := 47) hx hb d_L_bytesOf_22 (by decide) ?_
    exact ret_S C0 d_L_bytesOf_47 rfl (congrArg nI (by unfold bofN; repeat (first | rfl | omega | split)))
  · refine lv_iload_n hx hb d_L_bytesOf_7 rfl (lv_at hl 0 rfl) ?_
    refine lv_sipush (v := nI 128) hx hb d_L_bytesOf_8 (by decide) ?_
    refine lq_icmp_lt hx hb (by omega) (by omega) (tgt := 25) d_L_bytesOf_11 (by decide) (fun c_2 => ?_) (fun c_2 => ?_)
    · refine lv_iload_n hx hb d_L_bytesOf_25 rfl (lv_at hl 0 rfl) ?_
      refine lv_sipush (v := nI 128) hx hb d_L_bytesOf_26 (by decide) ?_
      refine lq_icmp_ge hx hb (by omega) (by omega) (tgt := 36) d_L_bytesOf_29 (by decide) (fun c_3 => ?_) (fun c_3 => ?_)
      · refine lv_iload_n hx hb d_L_bytesOf_36 rfl (lv_at hl 0 rfl) ?_
        refine lv_ldc (v := 65536) hx hb hown (hts _ m_110) d_L_bytesOf_37 ?_
        refine lx_i (y := nI 65536) (rfl) ?_
        refine lq_icmp_ge hx hb (by omega) (by omega) (tgt := 46) d_L_bytesOf_39 (by decide) (fun c_4 => ?_) (fun c_4 => ?_)
        · refine lv_iconst (v := nI 4) hx hb d_L_bytesOf_46 (by decide) ?_
          exact ret_S C0 d_L_bytesOf_47 rfl (congrArg nI (by unfold bofN; repeat (first | rfl | omega | split)))
        · refine lv_iconst (v := nI 3) hx hb d_L_bytesOf_42 (by decide) ?_
          refine lv_goto (tgt := 47) hx hb d_L_bytesOf_43 (by decide) ?_
          exact ret_S C0 d_L_bytesOf_47 rfl (congrArg nI (by unfold bofN; repeat (first | rfl | omega | split)))
      · refine lv_iconst (v := nI 1) hx hb d_L_bytesOf_32 (by decide) ?_
        refine lv_goto (tgt := 47) hx hb d_L_bytesOf_33 (by decide) ?_
        exact ret_S C0 d_L_bytesOf_47 rfl (congrArg nI (by unfold bofN; repeat (first | rfl | omega | split)))
    · refine lv_iload_n hx hb d_L_bytesOf_14 rfl (lv_at hl 0 rfl) ?_
      refine lv_sipush (v := nI 2048) hx hb d_L_bytesOf_15 (by decide) ?_
      refine lq_icmp_ge hx hb (by omega) (by omega) (tgt := 25) d_L_bytesOf_18 (by decide) (fun c_5 => ?_) (fun c_5 => ?_)
      · refine lv_iload_n hx hb d_L_bytesOf_25 rfl (lv_at hl 0 rfl) ?_
        refine lv_sipush (v := nI 128) hx hb d_L_bytesOf_26 (by decide) ?_
        refine lq_icmp_ge hx hb (by omega) (by omega) (tgt := 36) d_L_bytesOf_29 (by decide) (fun c_6 => ?_) (fun c_6 => ?_)
        · refine lv_iload_n hx hb d_L_bytesOf_36 rfl (lv_at hl 0 rfl) ?_
          refine lv_ldc (v := 65536) hx hb hown (hts _ m_110) d_L_bytesOf_37 ?_
          refine lx_i (y := nI 65536) (rfl) ?_
          refine lq_icmp_ge hx hb (by omega) (by omega) (tgt := 46) d_L_bytesOf_39 (by decide) (fun c_7 => ?_) (fun c_7 => ?_)
          · refine lv_iconst (v := nI 4) hx hb d_L_bytesOf_46 (by decide) ?_
            exact ret_S C0 d_L_bytesOf_47 rfl (congrArg nI (by unfold bofN; repeat (first | rfl | omega | split)))
          · refine lv_iconst (v := nI 3) hx hb d_L_bytesOf_42 (by decide) ?_
            refine lv_goto (tgt := 47) hx hb d_L_bytesOf_43 (by decide) ?_
            exact ret_S C0 d_L_bytesOf_47 rfl (congrArg nI (by unfold bofN; repeat (first | rfl | omega | split)))
        · refine lv_iconst (v := nI 1) hx hb d_L_bytesOf_32 (by decide) ?_
          refine lv_goto (tgt := 47) hx hb d_L_bytesOf_33 (by decide) ?_
          exact ret_S C0 d_L_bytesOf_47 rfl (congrArg nI (by unfold bofN; repeat (first | rfl | omega | split)))
      · refine lv_iconst (v := nI 2) hx hb d_L_bytesOf_21 (by decide) ?_
        refine lv_goto (tgt := 47) hx hb d_L_bytesOf_22 (by decide) ?_
        exact ret_S C0 d_L_bytesOf_47 rfl (congrArg nI (by unfold bofN; repeat (first | rfl | omega | split)))
end
section
/-! THE ENUM: its constants are objects from the start; what the methods must know of them, and the nest's links -/
def kN : List String := ["START", "END", "ATTRIBUTE", "INSTRUCTION", "TEXT"]
def kF : List (String × String × String × List Int32) := [("java/lang/Enum", "ordinal", "I", [0, 1, 2, 3, 4]), ("EventLineDesk$LineKind", "letter", "I", [40, 41, 65, 63, 45])]
def letK (k : Nat) : Nat := [40, 41, 65, 63, 45].getD k 0
theorem letK_ok : ∀ k, k < 5 → ([40, 41, 65, 63, 45] : List Int32).getD k 0 = nI (letK k) := by decide
theorem ordK_ok : ∀ k, k < 5 → ([0, 1, 2, 3, 4] : List Int32).getD k 0 = nI k := by decide
theorem letK_lt (k : Nat) : letK k < 128 := by
  unfold letK
  match k with
  | 0 | 1 | 2 | 3 | 4 => decide
  | k + 5 => simp
/-- what is known of the constants, and the links within the nest -/
def KX (ad : Nat → Nat) (A : Nat → Prop) (U : State) : Prop :=
  va_En "EventLineDesk$LineKind" "LEventLineDesk$LineKind;" kN kF ad A U U.heap ∧
  va_Nw (.fieldLinkNest "EventLineDesk" 39 "EventLineDesk$Lines" "open" "LEventLineDesk$LineKind;" "EventLineDesk") U ∧
  va_Nw (.fieldLinkNest "EventLineDesk" 69 "EventLineDesk$Lines" "size" "I" "EventLineDesk") U ∧
  va_Nw (.fieldLinkNest "EventLineDesk" 75 "EventLineDesk$Lines" "from" "I" "EventLineDesk") U ∧
  va_Nw (.fieldLinkNest "EventLineDesk" 73 "EventLineDesk$Lines" "lines" "I" "EventLineDesk") U ∧
  va_Nw (.fieldLinkNest "EventLineDesk$Lines" 41 "EventLineDesk$LineKind" "letter" "I" "EventLineDesk") U
theorem KX.nw35 {ad : Nat → Nat} {A : Nat → Prop} {U : State} {a : Array Value} (h : KX ad A U) : (Cond.fieldLinkNest "EventLineDesk" 39 "EventLineDesk$Lines" "open" "LEventLineDesk$LineKind;" "EventLineDesk").before a U = true := va_Nw.use rfl h.2.1
theorem KX.nw38 {ad : Nat → Nat} {A : Nat → Prop} {U : State} {a : Array Value} (h : KX ad A U) : (Cond.fieldLinkNest "EventLineDesk" 69 "EventLineDesk$Lines" "size" "I" "EventLineDesk").before a U = true := va_Nw.use rfl h.2.2.1
theorem KX.nw40 {ad : Nat → Nat} {A : Nat → Prop} {U : State} {a : Array Value} (h : KX ad A U) : (Cond.fieldLinkNest "EventLineDesk" 75 "EventLineDesk$Lines" "from" "I" "EventLineDesk").before a U = true := va_Nw.use rfl h.2.2.2.1
theorem KX.nw43 {ad : Nat → Nat} {A : Nat → Prop} {U : State} {a : Array Value} (h : KX ad A U) : (Cond.fieldLinkNest "EventLineDesk" 73 "EventLineDesk$Lines" "lines" "I" "EventLineDesk").before a U = true := va_Nw.use rfl h.2.2.2.2.1
theorem KX.nw252 {ad : Nat → Nat} {A : Nat → Prop} {U : State} {a : Array Value} (h : KX ad A U) : (Cond.fieldLinkNest "EventLineDesk$Lines" 41 "EventLineDesk$LineKind" "letter" "I" "EventLineDesk").before a U = true := va_Nw.use rfl h.2.2.2.2.2
theorem KX.blind {ad : Nat → Nat} (A1 : Nat → Prop) (U : State) (g : JFrame) (mk : MethodId) (a : Array Value) (h : KX ad A1 U) : KX ad A1 (U.calling g mk a) :=
  ⟨va_En.moved (u := U) (U := U.calling g mk a) (Vm.Alike.refl U.vm) h.1, va_Nw.same rfl rfl h.2.1, va_Nw.same rfl rfl h.2.2.1, va_Nw.same rfl rfl h.2.2.2.1, va_Nw.same rfl rfl h.2.2.2.2.1, va_Nw.same rfl rfl h.2.2.2.2.2⟩
theorem KX.call {ad : Nat → Nat} {A : Nat → Prop} {s : State} {H : Heap} {locs : List Loc} (h : KX ad A s) (hS : va_S A s.heap H locs) (A1 : Nat → Prop) (U : State) (hA : ∀ q, A1 q → A q) (hU : U.heap = H) (hW : s.WarmedH U.vm) : KX ad A1 U := by
  subst hU
  exact ⟨va_En.moved hW.alike ((h.1.kept hS.2.1).narrow hA), va_Nw.warmF hW h.2.1, va_Nw.warmF hW h.2.2.1, va_Nw.warmF hW h.2.2.2.1, va_Nw.warmF hW h.2.2.2.2.1, va_Nw.warmF hW h.2.2.2.2.2⟩
theorem KX.inj {ad : Nat → Nat} {A : Nat → Prop} {U : State} (h : KX ad A U) {i j : Nat} (hi : i < 5) (hj : j < 5) (e : ad i = ad j) : i = j := h.1.2 i j hi hj e
section EN
variable {p : Program} {l : Launch} {e : Env} {R : Room} {s : State} {m : MethodId} {args : Array Value} {below : List Frame} {meth : Method} {c : Code} {H : Heap} {locs : List Loc} {cells slots : Nat} {Q : State → Prop}
variable {cc : ByteArray} {pc nL : Nat} {ls : Array Slot} {rest : List Value} {ro : Option FieldType} {yo : MethodName} {A : Nat → Prop}
theorem va_getEN (hexec : p.tables.exec = Jvm.exec) (hb : c.code = cc) {E d own ref host : String} {nm : List String} {F : List (String × String × String × List Int32)} {ad : Nat → Nat} {index i : Nat} (hE : va_En E d nm F ad A s s.heap) (hi : i < nm.length) (hS : va_S A s.heap H locs) (hown : s.vm.findClass own = some m.cls) {q : String × String × String × List Int32} (hq : q ∈ F) (hlink : (Cond.fieldLinkNest own index ref q.2.1 q.2.2.1 host).before args s = true) (hsame : ∀ x, s.fieldFound? q.1 q.2.1 q.2.2.1 = some x → s.fieldFound? ref q.2.1 q.2.2.1 = some x) (hdg : decode cc pc = .ok (.getfield index, 3))
    (kk : W p l e R s m args below meth c H locs cells slots Q (F0 m (pc + 3) ls (.int (q.2.2.2.getD i 0) :: rest))) : W p l e R s m args below meth c H locs cells slots Q (F0 m pc ls (.ref (ad i) :: rest)) := by
  obtain ⟨cf, k, fi, f, cell, h1, h2, h3, h4, h5, h6⟩ := ((hE.1 i hi).2.2 q hq).kept hS.2.1
  exact va_Wgetf hexec hb hown hlink (hsame _ h1) h2 h3 h4 (v := .int (q.2.2.2.getD i 0)) h5 rfl rfl hdg kk
/-- TEXT, as a static -/
theorem getTEXT {ad : Nat → Nat} (C0 : Cx p s m args meth c cc nL ro yo) (hX : KX ad A s) (hS : va_S A s.heap H locs) {index : Nat} (hl : Cond.fieldLink yo.cls index "EventLineDesk$LineKind" "TEXT" "LEventLineDesk$LineKind;" ∈ gw) (hdg : decode cc pc = .ok (.getstatic index, 3))
    (kk : W p l e R s m args below meth c H locs cells slots Q (F0 m (pc + 3) ls (.ref (ad 4) :: rest))) : W p l e R s m args below meth c H locs cells slots Q (F0 m pc ls rest) :=
  va_gets C0.1 C0.2.1 (hX.1.1 4 (by decide)).1 hS C0.2.2.2.2.1 (C0.2.2.2.2.2.2.2 _ hl) (fun _ h => h) hdg kk
/-- the letter of a constant -/
theorem getLetter {ad : Nat → Nat} {k : Nat} (hk : k < 5) (C0 : Cx p s m args meth c cc nL ro yo) (hy : yo.cls = "EventLineDesk$Lines") (hX : KX ad A s) (hS : va_S A s.heap H locs) (hdg : decode cc pc = .ok (.getfield 41, 3))
    (kk : W p l e R s m args below meth c H locs cells slots Q (F0 m (pc + 3) ls (.int (nI (letK k)) :: rest))) : W p l e R s m args below meth c H locs cells slots Q (F0 m pc ls (.ref (ad k) :: rest)) := by
  have hown := C0.2.2.2.2.1
  rw [hy] at hown
  refine va_getEN (q := ("EventLineDesk$LineKind", "letter", "I", [40, 41, 65, 63, 45])) C0.1 C0.2.1 hX.1 hk hS hown (by simp [kF]) hX.nw252 (fun _ h => h) hdg ?_
  refine lx_i (letK_ok k hk) kk
end EN
/-- Enum.ordinal() of a constant -/
theorem c_E_ordinal (l : Launch) (ad : Nat → Nat) (A : Nat → Prop) (k : Nat) (hk : k < 5) : Met l y_E_ordinal (ww y_E_ordinal b_E_ordinal 1 (some .int)) ({ frames := 0, cells := 0, slots := 0, locals := 0 }) (va_Pc [.ref (ad k)] (fun U => KX ad A U)) (vp_Si (fun r => r = nI k)) 0 0 (fun _ => False) := by
  refine Met.ofW (cc := b_E_ordinal) (maxL := 1) (ret := some .int) (by decide) rfl ?_
  intro p e s m args below meth c s₁ B hml hv
  obtain ⟨rfl, hX⟩ := hv
  have hts := atoms_spec (ws := ww y_E_ordinal b_E_ordinal 1 (some .int)) B.pre
  have hown : s.vm.findClass "java/lang/Enum" = some m.cls := findClass_of_methodNamed B.named
  have hx := B.exec
  have hb := B.bytes
  have hl := lv_entry ([.ref (ad k)]) (n := 1) (Nat.le_of_ble_eq_true rfl)
  rw [lg_entry_eq]
  generalize (lg_sl ([.ref (ad k)]) ++ List.replicate (1 - (lg_sl ([.ref (ad k)])).length) Slot.unset).toArray = ls at hl ⊢
  have hl : lv_has ls 1 [(0, .ref (ad k))] := hl
  refine lv_aload_n hx hb d_E_ordinal_0 rfl (lv_at hl 0 rfl) ?_
  refine va_getE (q := ("java/lang/Enum", "ordinal", "I", [0, 1, 2, 3, 4])) hx hb hX.1 hk (va_S.rf) hown (by simp [kF]) (hts (Cond.fieldLink "java/lang/Enum" 7 "java/lang/Enum" "ordinal" "I") (List.mem_cons_of_mem _ m_253)) (fun _ h => h) d_E_ordinal_1 ?_
  refine lx_i (ordK_ok k hk) ?_
  exact W.iret hx hb B.returns (fun t ht hW => ⟨_, rfl, rfl, ht⟩) (fun q h => by cases h) d_E_ordinal_4 B.notSynchronized
end
section
/-! PURE: beginning a line, writing a character -/
def enN (o : Option Nat) : Nat := match o with
  | none => 0
  | some _ => 1
def begF (k : Nat) (u : LSt) : LSt := ((endF u).1 ++ [letK k], some k, (endF u).1.length, (endF u).2.2.2.1, (endF u).2.2.2.2.1, (endF u).2.2.2.2.2)
/-- the bytes behind a character's first one -/
def contB (n : Nat) : Nat → List Nat
  | 0 => []
  | J + 1 => (128 + n / 64 ^ J % 64) :: contB n J
theorem contB_len (n J : Nat) : (contB n J).length = J := by
  induction J with
  | zero => rfl
  | succ J ih => simp [contB, ih]
/-- a character's bytes -/
def enc (n : Nat) : List Nat :=
  if letN n ≠ 0 then [92, letN n] else if n < 128 then [n] else if n < 2048 then (192 + n / 64) :: contB n 1 else if n < 65536 then (224 + n / 4096) :: contB n 2 else (240 + n / 262144) :: contB n 3
theorem bofN_let {n : Nat} (h : letN n ≠ 0) : bofN n = 2 := by unfold bofN; rw [if_pos (Or.inl h)]
theorem letN_big {n : Nat} (h : 128 ≤ n) : letN n = 0 := by
  unfold letN
  rw [if_neg (by omega), if_neg (by omega), if_neg (by omega), if_neg (by omega)]
theorem bofN_cases (n : Nat) : (letN n ≠ 0 ∧ bofN n = 2) ∨ (letN n = 0 ∧ n < 128 ∧ bofN n = 1) ∨ (letN n = 0 ∧ 128 ≤ n ∧ n < 2048 ∧ bofN n = 2) ∨ (letN n = 0 ∧ 2048 ≤ n ∧ n < 65536 ∧ bofN n = 3) ∨ (letN n = 0 ∧ 65536 ≤ n ∧ bofN n = 4) := by
  by_cases h : letN n = 0
  · refine Or.inr ?_
    by_cases h1 : n < 128
    · exact Or.inl ⟨h, h1, by unfold bofN; rw [if_neg (by omega), if_pos h1]⟩
    · refine Or.inr ?_
      by_cases h2 : n < 2048
      · exact Or.inl ⟨h, by omega, h2, by unfold bofN; rw [if_pos (Or.inr ⟨by omega, h2⟩)]⟩
      · refine Or.inr ?_
        by_cases h3 : n < 65536
        · exact Or.inl ⟨h, by omega, h3, by unfold bofN; rw [if_neg (by omega), if_neg h1, if_pos h3]⟩
        · exact Or.inr ⟨h, by omega, by unfold bofN; rw [if_neg (by omega), if_neg h1, if_neg h3]⟩
  · exact Or.inl ⟨h, bofN_let h⟩
theorem bofN_in (n : Nat) : 1 ≤ bofN n ∧ bofN n ≤ 4 := by
  rcases bofN_cases n with h | h | h | h | h <;> omega
theorem enc_let {n : Nat} (h : letN n ≠ 0) : enc n = [92, letN n] := by unfold enc; rw [if_pos h]
theorem enc_1 {n : Nat} (h : letN n = 0) (h1 : bofN n = 1) : enc n = [n] := by
  rcases bofN_cases n with q | q | q | q | q <;> first | omega | skip
  unfold enc
  rw [if_neg (by omega), if_pos q.2.1]
theorem enc_2 {n : Nat} (h : letN n = 0) (h1 : bofN n = 2) : enc n = (192 + n / 64) :: contB n 1 ∧ n < 2048 := by
  rcases bofN_cases n with q | q | q | q | q <;> first | omega | skip
  refine ⟨?_, q.2.2.1⟩
  unfold enc
  rw [if_neg (by omega), if_neg (by omega), if_pos q.2.2.1]
theorem enc_3 {n : Nat} (h : letN n = 0) (h1 : bofN n = 3) : enc n = (224 + n / 4096) :: contB n 2 ∧ n < 65536 := by
  rcases bofN_cases n with q | q | q | q | q <;> first | omega | skip
  refine ⟨?_, q.2.2.1⟩
  unfold enc
  rw [if_neg (by omega), if_neg (by omega), if_neg (by omega), if_pos q.2.2.1]
theorem enc_4 {n : Nat} (h : letN n = 0) (h1 : bofN n = 4) : enc n = (240 + n / 262144) :: contB n 3 := by
  rcases bofN_cases n with q | q | q | q | q <;> first | omega | skip
  unfold enc
  rw [if_neg (by omega), if_neg (by omega), if_neg (by omega), if_neg (by omega)]
theorem enc_len (n : Nat) : (enc n).length = bofN n := by
  rcases bofN_cases n with q | q | q | q | q
  · rw [enc_let q.1, q.2]; rfl
  · rw [enc_1 q.1 q.2.2, q.2.2]; rfl
  · rw [(enc_2 q.1 q.2.2.2).1, q.2.2.2]; simp [contB_len]
  · rw [(enc_3 q.1 q.2.2.2).1, q.2.2.2]; simp [contB_len]
  · rw [enc_4 q.1 q.2.2, q.2.2]; simp [contB_len]
theorem or128 : ∀ m, m < 64 → nI 128 ||| nI m = nI (128 + m) := by decide +kernel
theorem or192 : ∀ m, m < 32 → nI 192 ||| nI m = nI (192 + m) := by decide +kernel
theorem or224 : ∀ m, m < 16 → nI 224 ||| nI m = nI (224 + m) := by decide +kernel
theorem or240 : ∀ m, m < 8 → nI 240 ||| nI m = nI (240 + m) := by decide +kernel
theorem shr_ok {n J : Nat} (hJ : J ≤ 3) (hn : n < 2 ^ 31) : nI n >>> ((nI 6 * nI J) &&& 31) = nI (n / 64 ^ J) := by
  match J, hJ with
  | 0, _ => exact pk_shrN hn _ 0 (by decide)
  | 1, _ => exact pk_shrN hn _ 6 (by decide)
  | 2, _ => exact pk_shrN hn _ 12 (by decide)
  | 3, _ => exact pk_shrN hn _ 18 (by decide)
  | k + 4, h => omega
theorem cont_ok {n J : Nat} (hJ : J ≤ 2) (hn : n < 2 ^ 31) : nI 128 ||| ((nI n >>> ((nI 6 * nI J) &&& 31)) &&& nI 63) = nI (128 + n / 64 ^ J % 64) := by
  rw [shr_ok (by omega) hn, pk_andN (Nat.lt_of_le_of_lt (Nat.div_le_self _ _) (by omega)) 6 (by decide)]
  exact or128 _ (Nat.mod_lt _ (by decide))
theorem lead2 {n : Nat} (hn : n < 2048) : nI 192 ||| (nI n >>> ((nI 6 * nI 1) &&& 31)) = nI (192 + n / 64) := by
  rw [shr_ok (by omega) (by omega)]
  exact or192 _ (by show n / 64 < 32; omega)
theorem lead3 {n : Nat} (hn : n < 65536) : nI 224 ||| (nI n >>> ((nI 6 * nI 2) &&& 31)) = nI (224 + n / 4096) := by
  rw [shr_ok (by omega) (by omega)]
  exact or224 _ (by show n / 4096 < 16; omega)
theorem lead4 {n : Nat} (hn : n < 1114112) : nI 240 ||| (nI n >>> ((nI 6 * nI 3) &&& 31)) = nI (240 + n / 262144) := by
  rw [shr_ok (by omega) (by omega)]
  exact or240 _ (by show n / 262144 < 8; omega)
end
section
/-! LINES: begin, add (rows printed by gen08.py) -/
set_option maxHeartbeats 4000000 in
set_option maxRecDepth 100000 in
theorem c_L_begin (l : Launch) (dC : Nat → ClassId) (dI : Nat → Nat → Nat) (cB : ClassId) (h0 hB : Nat) (ad : Nat → Nat) (sz : Nat) (L : List Nat) (o : Option Nat) (fr tk lc : Nat) (wh : Int32) (f : Nat → Int32) (hf : RB f L) (k : Nat) (hk : k < 5) (hL : L.length ≤ 3000) : MetLi l dC dI cB h0 hB ad sz y_L_begin b_L_begin 3 .boolean ({ frames := 2, cells := 0, slots := 0, locals := 41 }) [.ref (ad k)] (KX ad) (L, o, fr, tk, lc, wh) f (fun r u => if L.length + enN o + 2 ≤ 3000 then r = 1 ∧ u = begF k (L, o, fr, tk, lc, wh) else r = 0 ∧ u = (L, o, fr, tk, lc, wh)) := by
  refine enter (Qf := fun A => va_Qi (fun r (z : LSt × (Nat → Int32)) => (fun r u => if L.length + enN o + 2 ≤ 3000 then r = 1 ∧ u = begF k (L, o, fr, tk, lc, wh) else r = 0 ∧ u = (L, o, fr, tk, lc, wh)) r z.1 ∧ RB z.2 z.1.1) (PW dC dI A (fun z => wL h0 hB cB ad z.1 z.2)) A) (by decide) (Nat.le_of_ble_eq_true rfl) ?_
  intro p e s m below meth c A ls C0 hsz hA hK hP hD hS hX hl
  obtain ⟨hx, hb, hr, hml, hown, hlk, hnm, hts⟩ := id C0
  have hl : lv_has ls 3 [(0, .ref h0), (1, .ref (ad k))] := hl
  have hP : va_P (dC, dI) classes [(h0, .inr (0, [.ref hB, va_re ad o, .int (nI L.length), .int (nI fr), .int (nI tk), .int (nI lc), .int wh])), (hB, .inl (cB, 3000, .inl f))] s.heap := hP
  have hD : va_D A [(h0, .inr (0, [.ref hB, va_re ad o, .int (nI L.length), .int (nI fr), .int (nI tk), .int (nI lc), .int wh])), (hB, .inl (cB, 3000, .inl f))] := hD
  cases o with
  | none =>
    have hP : va_P (dC, dI) classes [(h0, .inr (0, [.ref hB, .null, .int (nI L.length), .int (nI fr), .int (nI tk), .int (nI lc), .int wh])), (hB, .inl (cB, 3000, .inl f))] s.heap := hP
    have hD : va_D A [(h0, .inr (0, [.ref hB, .null, .int (nI L.length), .int (nI fr), .int (nI tk), .int (nI lc), .int wh])), (hB, .inl (cB, 3000, .inl f))] := hD
    refine lv_aload_n hx hb d_L_begin_0 rfl (lv_at hl 0 rfl) ?_
    refine va_get (D := (dC, dI)) (ci := 0) (v := .null) (C := R_L) (T := F_L) (N := 7) hx hb hts i_L hown hK hP 0 rfl rfl 1 (by decide) (hts _ m_36) (fun _ h9 => h9) rfl d_L_begin_1 ?_
    refine lv_ifnonnullN hx hb d_L_begin_4 ?_
    refine lv_iconst (v := nI 0) hx hb d_L_begin_7 (by decide) ?_
    refine lv_goto (tgt := 12) hx hb d_L_begin_8 (by decide) ?_
    refine lv_istore_n (lv' := [(2, .int (nI 0)), (0, .ref h0), (1, .ref (ad k))]) hx hb d_L_begin_12 rfl hl (by decide) rfl (fun ls hl => ?_)
    refine lv_aload_n hx hb d_L_begin_13 rfl (lv_at hl 1 rfl) ?_
    refine lv_iload_n hx hb d_L_begin_14 rfl (lv_at hl 0 rfl) ?_
    refine lv_iconst (v := nI 1) hx hb d_L_begin_15 (by decide) ?_
    refine lq_add hx hb d_L_begin_16 ?_
    refine gcall_i (q0 := 0) (wr := []) (As := [.int (nI (0 + 1))]) (rest := []) C0 g_L_34 (c_L_hasRoom l dC dI cB h0 hB ad s.heap.size L none fr tk lc wh f hf (0 + 1) hL (by omega)) ⟨Nat.le_of_ble_eq_true rfl, Nat.le_of_ble_eq_true rfl⟩ ⟨rfl, rfl⟩ ⟨Nat.zero_le _, Nat.zero_le _⟩ d_L_begin_17 rfl rfl (Nat.le_of_ble_eq_true rfl) hl.1 hK hP hD hS hA [0, 1] [] [0] rfl (by decide) rfl (by decide) (by decide) rfl rfl rfl (fun _ _ _ _ _ _ => trivial) (fun _ _ _ _ _ => trivial) (fun r u H locs hw hP hD hS => ?_)
    obtain ⟨u, f⟩ := u
    dsimp only at hw
    obtain ⟨⟨er, rfl⟩, hf⟩ := hw
    have hP : va_P (dC, dI) classes [(h0, .inr (0, [.ref hB, .null, .int (nI L.length), .int (nI fr), .int (nI tk), .int (nI lc), .int wh])), (hB, .inl (cB, 3000, .inl f))] H := hP
    have hD : va_D A [(h0, .inr (0, [.ref hB, .null, .int (nI L.length), .int (nI fr), .int (nI tk), .int (nI lc), .int wh])), (hB, .inl (cB, 3000, .inl f))] := hD
    by_cases hm : L.length + (0 + 1) + 1 ≤ 3000
    · rw [if_pos hm] at er
      subst er
      refine lx_i (y := nI 1) (rfl) ?_
      refine lq_if_ne hx hb (by omega) (tgt := 25) d_L_begin_20 (by decide) (fun c_2 => ?_) (fun c_2 => ?_)
      · refine lv_aload_n hx hb d_L_begin_25 rfl (lv_at hl 1 rfl) ?_
        refine gcall_v (q0 := 0) (wr := []) (As := []) (rest := []) C0 g_L_38 (c_L_end l dC dI cB h0 hB ad H.size L none fr tk lc wh f hf (by omega)) ⟨Nat.le_of_ble_eq_true rfl, Nat.le_of_ble_eq_true rfl⟩ ⟨rfl, rfl⟩ ⟨Nat.zero_le _, Nat.zero_le _⟩ d_L_begin_26 rfl rfl (Nat.le_of_ble_eq_true rfl) hl.1 hK hP hD hS hA [0, 1] [] [0] rfl (by decide) rfl (by decide) (by decide) rfl rfl rfl (fun _ _ _ _ _ _ => trivial) (fun _ _ _ _ _ => trivial) (fun u H locs hw hP hD hS => ?_)
        obtain ⟨u, f⟩ := u
        dsimp only at hw
        obtain ⟨rfl, hf⟩ := hw
        have hf : RB f L := hf
        have hP : va_P (dC, dI) classes [(h0, .inr (0, [.ref hB, .null, .int (nI L.length), .int (nI fr), .int (nI tk), .int (nI lc), .int wh])), (hB, .inl (cB, 3000, .inl f))] H := hP
        have hD : va_D A [(h0, .inr (0, [.ref hB, .null, .int (nI L.length), .int (nI fr), .int (nI tk), .int (nI lc), .int wh])), (hB, .inl (cB, 3000, .inl f))] := hD
        refine lv_aload_n hx hb d_L_begin_29 rfl (lv_at hl 1 rfl) ?_
        refine lv_aload_n hx hb d_L_begin_30 rfl (lv_at hl 2 rfl) ?_
        refine va_put (D := (dC, dI)) (ci := 0) (v := .ref (ad k)) (ty := .object "EventLineDesk$LineKind") (C := R_L) (T := F_L) (N := 7) hx hb hts i_L t_L t_L_ok n_L hown hK hP hD hS 0 rfl rfl 1 (by decide) (hts _ m_36) (fun _ h9 => h9) rfl (by decide +kernel) rfl rfl (Nat.le_of_ble_eq_true rfl) d_L_begin_31 (fun H locs hP hD hS => ?_)
        have hP : va_P (dC, dI) classes [(h0, .inr (0, [.ref hB, .ref (ad k), .int (nI L.length), .int (nI fr), .int (nI tk), .int (nI lc), .int wh])), (hB, .inl (cB, 3000, .inl f))] H := hP
        have hD : va_D A [(h0, .inr (0, [.ref hB, .ref (ad k), .int (nI L.length), .int (nI fr), .int (nI tk), .int (nI lc), .int wh])), (hB, .inl (cB, 3000, .inl f))] := hD
        refine lv_aload_n hx hb d_L_begin_34 rfl (lv_at hl 1 rfl) ?_
        refine lv_aload_n hx hb d_L_begin_35 rfl (lv_at hl 1 rfl) ?_
        refine va_get (D := (dC, dI)) (ci := 0) (v := .int (nI L.length)) (C := R_L) (T := F_L) (N := 7) hx hb hts i_L hown hK hP 0 rfl rfl 2 (by decide) (hts _ m_37) (fun _ h9 => h9) rfl d_L_begin_36 ?_
        refine va_put (D := (dC, dI)) (ci := 0) (v := .int (nI L.length)) (ty := .int) (C := R_L) (T := F_L) (N := 7) hx hb hts i_L t_L t_L_ok n_L hown hK hP hD hS 0 rfl rfl 3 (by decide) (hts _ m_39) (fun _ h9 => h9) rfl (by decide +kernel) rfl rfl (Nat.le_of_ble_eq_true rfl) d_L_begin_39 (fun H locs hP hD hS => ?_)
        have hP : va_P (dC, dI) classes [(h0, .inr (0, [.ref hB, .ref (ad k), .int (nI L.length), .int (nI L.length), .int (nI tk), .int (nI lc), .int wh])), (hB, .inl (cB, 3000, .inl f))] H := hP
        have hD : va_D A [(h0, .inr (0, [.ref hB, .ref (ad k), .int (nI L.length), .int (nI L.length), .int (nI tk), .int (nI lc), .int wh])), (hB, .inl (cB, 3000, .inl f))] := hD
        refine lv_aload_n hx hb d_L_begin_42 rfl (lv_at hl 1 rfl) ?_
        refine lv_aload_n hx hb d_L_begin_43 rfl (lv_at hl 2 rfl) ?_
        refine getLetter hk C0 rfl hX hS d_L_begin_44 ?_
        have hlk := letK_lt k
        refine gcall_v (q0 := 0) (wr := []) (As := [.int (nI (letK k))]) (rest := []) C0 g_L_46 (c_L_put l dC dI cB h0 hB ad H.size (L) (some k) (L).length tk (lc) wh f hf (letK k) (by omega)) ⟨Nat.le_of_ble_eq_true rfl, Nat.le_of_ble_eq_true rfl⟩ ⟨rfl, rfl⟩ ⟨Nat.zero_le _, Nat.zero_le _⟩ d_L_begin_47 rfl rfl (Nat.le_of_ble_eq_true rfl) hl.1 hK hP hD hS hA [0, 1] [] [0] rfl (by decide) rfl (by decide) (by decide) rfl rfl rfl (fun _ _ _ _ _ _ => trivial) (fun _ _ _ _ _ => trivial) (fun u H locs hw hP hD hS => ?_)
        obtain ⟨u, f⟩ := u
        dsimp only at hw
        obtain ⟨rfl, hf⟩ := hw
        have hP : va_P (dC, dI) classes [(h0, .inr (0, [.ref hB, .ref (ad k), .int (nI (((L) ++ [letK k]).length)), .int (nI ((L).length)), .int (nI tk), .int (nI lc), .int wh])), (hB, .inl (cB, 3000, .inl f))] H := hP
        have hD : va_D A [(h0, .inr (0, [.ref hB, .ref (ad k), .int (nI (((L) ++ [letK k]).length)), .int (nI ((L).length)), .int (nI tk), .int (nI lc), .int wh])), (hB, .inl (cB, 3000, .inl f))] := hD
        refine lv_iconst (v := nI 1) hx hb d_L_begin_50 (by decide) ?_
        exact ret_i C0 hS d_L_begin_51 rfl ((L ++ [letK k], some k, List.length (L), tk, lc, wh), f) ⟨by dsimp only; rw [if_pos (show L.length + enN none + 2 ≤ 3000 by simp only [enN]; omega)]; exact ⟨rfl, rfl⟩, hf⟩ hP hD
      · exact absurd c_2 (by decide)
    · rw [if_neg hm] at er
      subst er
      refine lx_i (y := nI 0) (rfl) ?_
      refine lq_if_ne hx hb (by omega) (tgt := 25) d_L_begin_20 (by decide) (fun c_3 => ?_) (fun c_3 => ?_)
      · exact absurd rfl c_3
      · refine lv_iconst (v := nI 0) hx hb d_L_begin_23 (by decide) ?_
        exact ret_i C0 hS d_L_begin_24 rfl ((L, none, fr, tk, lc, wh), f) ⟨by dsimp only; rw [if_neg (show ¬ L.length + enN none + 2 ≤ 3000 by simp only [enN]; omega)]; exact ⟨rfl, rfl⟩, hf⟩ hP hD
  | some i =>
    have hP : va_P (dC, dI) classes [(h0, .inr (0, [.ref hB, .ref (ad i), .int (nI L.length), .int (nI fr), .int (nI tk), .int (nI lc), .int wh])), (hB, .inl (cB, 3000, .inl f))] s.heap := hP
    have hD : va_D A [(h0, .inr (0, [.ref hB, .ref (ad i), .int (nI L.length), .int (nI fr), .int (nI tk), .int (nI lc), .int wh])), (hB, .inl (cB, 3000, .inl f))] := hD
    refine lv_aload_n hx hb d_L_begin_0 rfl (lv_at hl 0 rfl) ?_
    refine va_get (D := (dC, dI)) (ci := 0) (v := .ref (ad i)) (C := R_L) (T := F_L) (N := 7) hx hb hts i_L hown hK hP 0 rfl rfl 1 (by decide) (hts _ m_36) (fun _ h9 => h9) rfl d_L_begin_1 ?_
    refine lv_ifnonnull (tgt := 11) hx hb d_L_begin_4 (by decide) ?_
    refine lv_iconst (v := nI 1) hx hb d_L_begin_11 (by decide) ?_
    refine lv_istore_n (lv' := [(2, .int (nI 1)), (0, .ref h0), (1, .ref (ad k))]) hx hb d_L_begin_12 rfl hl (by decide) rfl (fun ls hl => ?_)
    refine lv_aload_n hx hb d_L_begin_13 rfl (lv_at hl 1 rfl) ?_
    refine lv_iload_n hx hb d_L_begin_14 rfl (lv_at hl 0 rfl) ?_
    refine lv_iconst (v := nI 1) hx hb d_L_begin_15 (by decide) ?_
    refine lq_add hx hb d_L_begin_16 ?_
    refine gcall_i (q0 := 0) (wr := []) (As := [.int (nI (1 + 1))]) (rest := []) C0 g_L_34 (c_L_hasRoom l dC dI cB h0 hB ad s.heap.size L (some i) fr tk lc wh f hf (1 + 1) hL (by omega)) ⟨Nat.le_of_ble_eq_true rfl, Nat.le_of_ble_eq_true rfl⟩ ⟨rfl, rfl⟩ ⟨Nat.zero_le _, Nat.zero_le _⟩ d_L_begin_17 rfl rfl (Nat.le_of_ble_eq_true rfl) hl.1 hK hP hD hS hA [0, 1] [] [0] rfl (by decide) rfl (by decide) (by decide) rfl rfl rfl (fun _ _ _ _ _ _ => trivial) (fun _ _ _ _ _ => trivial) (fun r u H locs hw hP hD hS => ?_)
    obtain ⟨u, f⟩ := u
    dsimp only at hw
    obtain ⟨⟨er, rfl⟩, hf⟩ := hw
    have hP : va_P (dC, dI) classes [(h0, .inr (0, [.ref hB, .ref (ad i), .int (nI L.length), .int (nI fr), .int (nI tk), .int (nI lc), .int wh])), (hB, .inl (cB, 3000, .inl f))] H := hP
    have hD : va_D A [(h0, .inr (0, [.ref hB, .ref (ad i), .int (nI L.length), .int (nI fr), .int (nI tk), .int (nI lc), .int wh])), (hB, .inl (cB, 3000, .inl f))] := hD
    by_cases hm : L.length + (1 + 1) + 1 ≤ 3000
    · rw [if_pos hm] at er
      subst er
      refine lx_i (y := nI 1) (rfl) ?_
      refine lq_if_ne hx hb (by omega) (tgt := 25) d_L_begin_20 (by decide) (fun c_5 => ?_) (fun c_5 => ?_)
      · refine lv_aload_n hx hb d_L_begin_25 rfl (lv_at hl 1 rfl) ?_
        refine gcall_v (q0 := 0) (wr := []) (As := []) (rest := []) C0 g_L_38 (c_L_end l dC dI cB h0 hB ad H.size L (some i) fr tk lc wh f hf (by omega)) ⟨Nat.le_of_ble_eq_true rfl, Nat.le_of_ble_eq_true rfl⟩ ⟨rfl, rfl⟩ ⟨Nat.zero_le _, Nat.zero_le _⟩ d_L_begin_26 rfl rfl (Nat.le_of_ble_eq_true rfl) hl.1 hK hP hD hS hA [0, 1] [] [0] rfl (by decide) rfl (by decide) (by decide) rfl rfl rfl (fun _ _ _ _ _ _ => trivial) (fun _ _ _ _ _ => trivial) (fun u H locs hw hP hD hS => ?_)
        obtain ⟨u, f⟩ := u
        dsimp only at hw
        obtain ⟨rfl, hf⟩ := hw
        have hf : RB f (L ++ [10]) := hf
        have hP : va_P (dC, dI) classes [(h0, .inr (0, [.ref hB, .null, .int (nI ((L ++ [10]).length)), .int (nI (L.length + 1)), .int (nI tk), .int (nI (lc + 1)), .int wh])), (hB, .inl (cB, 3000, .inl f))] H := hP
        have hD : va_D A [(h0, .inr (0, [.ref hB, .null, .int (nI ((L ++ [10]).length)), .int (nI (L.length + 1)), .int (nI tk), .int (nI (lc + 1)), .int wh])), (hB, .inl (cB, 3000, .inl f))] := hD
        have hq : (L ++ [10]).length = L.length + 1 := len1 L 10
        refine lv_aload_n hx hb d_L_begin_29 rfl (lv_at hl 1 rfl) ?_
        refine lv_aload_n hx hb d_L_begin_30 rfl (lv_at hl 2 rfl) ?_
        refine va_put (D := (dC, dI)) (ci := 0) (v := .ref (ad k)) (ty := .object "EventLineDesk$LineKind") (C := R_L) (T := F_L) (N := 7) hx hb hts i_L t_L t_L_ok n_L hown hK hP hD hS 0 rfl rfl 1 (by decide) (hts _ m_36) (fun _ h9 => h9) rfl (by decide +kernel) rfl rfl (Nat.le_of_ble_eq_true rfl) d_L_begin_31 (fun H locs hP hD hS => ?_)
        have hP : va_P (dC, dI) classes [(h0, .inr (0, [.ref hB, .ref (ad k), .int (nI ((L ++ [10]).length)), .int (nI (L.length + 1)), .int (nI tk), .int (nI (lc + 1)), .int wh])), (hB, .inl (cB, 3000, .inl f))] H := hP
        have hD : va_D A [(h0, .inr (0, [.ref hB, .ref (ad k), .int (nI ((L ++ [10]).length)), .int (nI (L.length + 1)), .int (nI tk), .int (nI (lc + 1)), .int wh])), (hB, .inl (cB, 3000, .inl f))] := hD
        refine lv_aload_n hx hb d_L_begin_34 rfl (lv_at hl 1 rfl) ?_
        refine lv_aload_n hx hb d_L_begin_35 rfl (lv_at hl 1 rfl) ?_
        refine va_get (D := (dC, dI)) (ci := 0) (v := .int (nI ((L ++ [10]).length))) (C := R_L) (T := F_L) (N := 7) hx hb hts i_L hown hK hP 0 rfl rfl 2 (by decide) (hts _ m_37) (fun _ h9 => h9) rfl d_L_begin_36 ?_
        refine va_put (D := (dC, dI)) (ci := 0) (v := .int (nI ((L ++ [10]).length))) (ty := .int) (C := R_L) (T := F_L) (N := 7) hx hb hts i_L t_L t_L_ok n_L hown hK hP hD hS 0 rfl rfl 3 (by decide) (hts _ m_39) (fun _ h9 => h9) rfl (by decide +kernel) rfl rfl (Nat.le_of_ble_eq_true rfl) d_L_begin_39 (fun H locs hP hD hS => ?_)
        have hP : va_P (dC, dI) classes [(h0, .inr (0, [.ref hB, .ref (ad k), .int (nI ((L ++ [10]).length)), .int (nI ((L ++ [10]).length)), .int (nI tk), .int (nI (lc + 1)), .int wh])), (hB, .inl (cB, 3000, .inl f))] H := hP
        have hD : va_D A [(h0, .inr (0, [.ref hB, .ref (ad k), .int (nI ((L ++ [10]).length)), .int (nI ((L ++ [10]).length)), .int (nI tk), .int (nI (lc + 1)), .int wh])), (hB, .inl (cB, 3000, .inl f))] := hD
        refine lv_aload_n hx hb d_L_begin_42 rfl (lv_at hl 1 rfl) ?_
        refine lv_aload_n hx hb d_L_begin_43 rfl (lv_at hl 2 rfl) ?_
        refine getLetter hk C0 rfl hX hS d_L_begin_44 ?_
        have hlk := letK_lt k
        refine gcall_v (q0 := 0) (wr := []) (As := [.int (nI (letK k))]) (rest := []) C0 g_L_46 (c_L_put l dC dI cB h0 hB ad H.size (L ++ [10]) (some k) (L ++ [10]).length tk (lc + 1) wh f hf (letK k) (by omega)) ⟨Nat.le_of_ble_eq_true rfl, Nat.le_of_ble_eq_true rfl⟩ ⟨rfl, rfl⟩ ⟨Nat.zero_le _, Nat.zero_le _⟩ d_L_begin_47 rfl rfl (Nat.le_of_ble_eq_true rfl) hl.1 hK hP hD hS hA [0, 1] [] [0] rfl (by decide) rfl (by decide) (by decide) rfl rfl rfl (fun _ _ _ _ _ _ => trivial) (fun _ _ _ _ _ => trivial) (fun u H locs hw hP hD hS => ?_)
        obtain ⟨u, f⟩ := u
        dsimp only at hw
        obtain ⟨rfl, hf⟩ := hw
        have hP : va_P (dC, dI) classes [(h0, .inr (0, [.ref hB, .ref (ad k), .int (nI (((L ++ [10]) ++ [letK k]).length)), .int (nI ((L ++ [10]).length)), .int (nI tk), .int (nI (lc + 1)), .int wh])), (hB, .inl (cB, 3000, .inl f))] H := hP
        have hD : va_D A [(h0, .inr (0, [.ref hB, .ref (ad k), .int (nI (((L ++ [10]) ++ [letK k]).length)), .int (nI ((L ++ [10]).length)), .int (nI tk), .int (nI (lc + 1)), .int wh])), (hB, .inl (cB, 3000, .inl f))] := hD
        refine lv_iconst (v := nI 1) hx hb d_L_begin_50 (by decide) ?_
        exact ret_i C0 hS d_L_begin_51 rfl (((L ++ [10]) ++ [letK k], some k, List.length (L ++ [10]), tk, lc + 1, wh), f) ⟨by dsimp only; rw [if_pos (show L.length + enN (some i) + 2 ≤ 3000 by simp only [enN]; omega)]; exact ⟨rfl, rfl⟩, hf⟩ hP hD
      · exact absurd c_5 (by decide)
    · rw [if_neg hm] at er
      subst er
      refine lx_i (y := nI 0) (rfl) ?_
      refine lq_if_ne hx hb (by omega) (tgt := 25) d_L_begin_20 (by decide) (fun c_6 => ?_) (fun c_6 => ?_)
      · exact absurd rfl c_6
      · refine lv_iconst (v := nI 0) hx hb d_L_begin_23 (by decide) ?_
        exact ret_i C0 hS d_L_begin_24 rfl ((L, (some i), fr, tk, lc, wh), f) ⟨by dsimp only; rw [if_neg (show ¬ L.length + enN (some i) + 2 ≤ 3000 by simp only [enN]; omega)]; exact ⟨rfl, rfl⟩, hf⟩ hP hD
set_option maxHeartbeats 4000000 in
set_option maxRecDepth 100000 in
theorem L_add_loop {p : Program} {l : Launch} {e : Env} {s : State} {m : MethodId} {args : Array Value} {below : List Frame} {meth : Method} {c : Code} {Q : State → Prop} {dC : Nat → ClassId} {dI : Nat → Nat → Nat} {cB : ClassId} {h0 hB : Nat} {ad : Nat → Nat} {A : Nat → Prop} (C0 : Cx p s m args meth c b_L_add 4 (some .boolean) y_L_add) (hA : ∀ q, s.heap.size ≤ q → A q) (hK : va_K (dC, dI) classes [(cB, .byte)] s) (n : Nat) (hn : n < 2 ^ 31) (o : Option Nat) (fr tk lc : Nat) (wh : Int32) (M : List Nat)
    (kk : ∀ (f : Nat → Int32) (H : Heap) (locs : List Loc) (ls : Array Slot), RB f M → va_P (dC, dI) classes [(h0, .inr (0, [.ref hB, va_re ad o, .int (nI M.length), .int (nI fr), .int (nI tk), .int (nI lc), .int wh])), (hB, .inl (cB, 3000, .inl f))] H → va_D A [(h0, .inr (0, [.ref hB, va_re ad o, .int (nI M.length), .int (nI fr), .int (nI tk), .int (nI lc), .int wh])), (hB, .inl (cB, 3000, .inl f))] → va_S A s.heap H locs → lv_has ls 4 [] → W p l e ({ frames := 2, cells := 0, slots := 0, locals := 40 }) s m args below meth c H locs 0 0 Q (F0 m 121 ls [])) :
    ∀ (J : Nat) (L : List Nat) (f : Nat → Int32) (x3 : Int32) (H : Heap) (locs : List Loc) (ls : Array Slot), J ≤ 3 → L ++ contB n J = M → RB f L → L.length + J ≤ 3000 → x3 = nI J - 1 → va_P (dC, dI) classes [(h0, .inr (0, [.ref hB, va_re ad o, .int (nI L.length), .int (nI fr), .int (nI tk), .int (nI lc), .int wh])), (hB, .inl (cB, 3000, .inl f))] H → va_D A [(h0, .inr (0, [.ref hB, va_re ad o, .int (nI L.length), .int (nI fr), .int (nI tk), .int (nI lc), .int wh])), (hB, .inl (cB, 3000, .inl f))] → va_S A s.heap H locs → lv_has ls 4 [(0, .ref h0), (1, .int (nI n)), (3, .int x3)] → W p l e ({ frames := 2, cells := 0, slots := 0, locals := 40 }) s m args below meth c H locs 0 0 Q (F0 m 94 ls []) := by
  obtain ⟨hx, hb, hr, hml, hown, hlk, hnm, hts⟩ := id C0
  intro J
  induction J with
  | zero =>
    intro L f x3 H locs ls hJ hM hf hlen ex hP hD hS hl
    subst ex
    refine lv_iload_n hx hb d_L_add_94 rfl (lv_at hl 2 rfl) ?_
    refine lv_if_lt (tgt := 121) hx hb d_L_add_95 (by decide) (fun c_1 => ?_) (fun c_1 => ?_)
    · rw [contB, List.append_nil] at hM
      subst hM
      exact kk f H locs ls hf hP hD hS (lv_sub hl [] rfl)
    · exact absurd (by decide) c_1
  | succ J ih =>
    intro L f x3 H locs ls hJ hM hf hlen ex hP hD hS hl
    rw [nI_pred] at ex
    subst ex
    refine lv_iload_n hx hb d_L_add_94 rfl (lv_at hl 2 rfl) ?_
    refine lq_if_lt hx hb (by omega) (tgt := 121) d_L_add_95 (by decide) ?_
    refine lv_aload_n hx hb d_L_add_98 rfl (lv_at hl 0 rfl) ?_
    refine lv_sipush (v := nI 128) hx hb d_L_add_99 (by decide) ?_
    refine lv_iload_n hx hb d_L_add_102 rfl (lv_at hl 1 rfl) ?_
    refine lv_bipush (v := nI 6) hx hb d_L_add_103 (by decide) ?_
    refine lv_iload_n hx hb d_L_add_105 rfl (lv_at hl 2 rfl) ?_
    refine lv_imul hx hb d_L_add_106 ?_
    refine lv_ishr hx hb d_L_add_107 ?_
    refine lv_bipush (v := nI 63) hx hb d_L_add_108 (by decide) ?_
    refine lv_iand hx hb d_L_add_110 ?_
    refine lv_ior hx hb d_L_add_111 ?_
    refine lx_i (y := nI (128 + n / 64 ^ J % 64)) (cont_ok (by omega) hn) ?_
    refine gcall_v (q0 := 0) (wr := []) (As := [.int (nI (128 + n / 64 ^ J % 64))]) (rest := []) C0 g_L_46 (c_L_put l dC dI cB h0 hB ad H.size L o fr tk lc wh f hf (128 + n / 64 ^ J % 64) (by omega)) ⟨Nat.le_of_ble_eq_true rfl, Nat.le_of_ble_eq_true rfl⟩ ⟨rfl, rfl⟩ ⟨Nat.zero_le _, Nat.zero_le _⟩ d_L_add_112 rfl rfl (Nat.le_of_ble_eq_true rfl) hl.1 hK hP hD hS hA [0, 1] [] [0] rfl (by decide) rfl (by decide) (by decide) rfl rfl rfl (fun _ _ _ _ _ _ => trivial) (fun _ _ _ _ _ => trivial) (fun u H locs hw hP hD hS => ?_)
    obtain ⟨u, f⟩ := u
    dsimp only at hw
    obtain ⟨rfl, hf⟩ := hw
    have hP : va_P (dC, dI) classes [(h0, .inr (0, [.ref hB, va_re ad o, .int (nI ((L ++ [128 + n / 64 ^ J % 64]).length)), .int (nI fr), .int (nI tk), .int (nI lc), .int wh])), (hB, .inl (cB, 3000, .inl f))] H := hP
    have hD : va_D A [(h0, .inr (0, [.ref hB, va_re ad o, .int (nI ((L ++ [128 + n / 64 ^ J % 64]).length)), .int (nI fr), .int (nI tk), .int (nI lc), .int wh])), (hB, .inl (cB, 3000, .inl f))] := hD
    refine lv_iinc (v := nI J - 1) (lv' := [(3, .int (nI J - 1)), (0, .ref h0), (1, .int (nI n))]) hx hb d_L_add_115 hl (k := 2) rfl (by rw [Int32.sub_eq_add_neg]; rfl) (by decide) rfl (fun ls hl => ?_)
    refine lv_goto (tgt := 94) hx hb d_L_add_118 (by decide) ?_
    exact ih _ f _ H locs ls (by omega) (by rw [List.append_assoc]; exact hM) hf (by rw [len1]; omega) rfl hP hD hS (lv_sub hl [1, 2, 0] rfl)
set_option maxHeartbeats 4000000 in
set_option maxRecDepth 100000 in
theorem c_L_add (l : Launch) (dC : Nat → ClassId) (dI : Nat → Nat → Nat) (cB : ClassId) (h0 hB : Nat) (ad : Nat → Nat) (sz : Nat) (L : List Nat) (o : Option Nat) (fr tk lc : Nat) (wh : Int32) (f : Nat → Int32) (hf : RB f L) (n : Nat) (hn : n < 1114112) (hL : L.length ≤ 3000) : MetLi l dC dI cB h0 hB ad sz y_L_add b_L_add 4 .boolean ({ frames := 2, cells := 0, slots := 0, locals := 40 }) [.int (nI n)] (noX) (L, o, fr, tk, lc, wh) f (fun r u => if L.length + bofN n + 1 ≤ 3000 then r = 1 ∧ u = (L ++ enc n, o, fr, tk, lc, wh) else r = 0 ∧ u = (L, o, fr, tk, lc, wh)) := by
  refine enter (Qf := fun A => va_Qi (fun r (z : LSt × (Nat → Int32)) => (fun r u => if L.length + bofN n + 1 ≤ 3000 then r = 1 ∧ u = (L ++ enc n, o, fr, tk, lc, wh) else r = 0 ∧ u = (L, o, fr, tk, lc, wh)) r z.1 ∧ RB z.2 z.1.1) (PW dC dI A (fun z => wL h0 hB cB ad z.1 z.2)) A) (by decide) (Nat.le_of_ble_eq_true rfl) ?_
  intro p e s m below meth c A ls C0 hsz hA hK hP hD hS hX hl
  obtain ⟨hx, hb, hr, hml, hown, hlk, hnm, hts⟩ := id C0
  have hl : lv_has ls 4 [(0, .ref h0), (1, .int (nI n))] := hl
  have hP : va_P (dC, dI) classes [(h0, .inr (0, [.ref hB, va_re ad o, .int (nI L.length), .int (nI fr), .int (nI tk), .int (nI lc), .int wh])), (hB, .inl (cB, 3000, .inl f))] s.heap := hP
  have hD : va_D A [(h0, .inr (0, [.ref hB, va_re ad o, .int (nI L.length), .int (nI fr), .int (nI tk), .int (nI lc), .int wh])), (hB, .inl (cB, 3000, .inl f))] := hD
  have hbo := bofN_in n
  have hln := letN_lt n
  refine lv_iload_n hx hb d_L_add_0 rfl (lv_at hl 1 rfl) ?_
  refine gcall_s (As := [.int (nI n)]) (rest := []) C0 g_L_54 (c_L_bytesOf l n (by omega)) ⟨Nat.le_of_ble_eq_true rfl, Nat.le_of_ble_eq_true rfl⟩ ⟨rfl, rfl⟩ ⟨Nat.zero_le _, Nat.zero_le _⟩ d_L_add_1 rfl rfl (Nat.le_of_ble_eq_true rfl) hl.1 ?_
  refine lv_istore_n (lv' := [(2, .int (nI (bofN n))), (0, .ref h0), (1, .int (nI n))]) hx hb d_L_add_4 rfl hl (by decide) rfl (fun ls hl => ?_)
  refine lv_aload_n hx hb d_L_add_5 rfl (lv_at hl 1 rfl) ?_
  refine lv_iload_n hx hb d_L_add_6 rfl (lv_at hl 0 rfl) ?_
  refine gcall_i (q0 := 0) (wr := []) (As := [.int (nI (bofN n))]) (rest := []) C0 g_L_34 (c_L_hasRoom l dC dI cB h0 hB ad s.heap.size L o fr tk lc wh f hf (bofN n) hL (by omega)) ⟨Nat.le_of_ble_eq_true rfl, Nat.le_of_ble_eq_true rfl⟩ ⟨rfl, rfl⟩ ⟨Nat.zero_le _, Nat.zero_le _⟩ d_L_add_7 rfl rfl (Nat.le_of_ble_eq_true rfl) hl.1 hK hP hD hS hA [0, 1] [] [0] rfl (by decide) rfl (by decide) (by decide) rfl rfl rfl (fun _ _ _ _ _ _ => trivial) (fun _ _ _ _ _ => trivial) (fun r u H locs hw hP hD hS => ?_)
  obtain ⟨u, f⟩ := u
  dsimp only at hw
  obtain ⟨⟨er, rfl⟩, hf⟩ := hw
  have hP : va_P (dC, dI) classes [(h0, .inr (0, [.ref hB, va_re ad o, .int (nI L.length), .int (nI fr), .int (nI tk), .int (nI lc), .int wh])), (hB, .inl (cB, 3000, .inl f))] H := hP
  have hD : va_D A [(h0, .inr (0, [.ref hB, va_re ad o, .int (nI L.length), .int (nI fr), .int (nI tk), .int (nI lc), .int wh])), (hB, .inl (cB, 3000, .inl f))] := hD
  by_cases hm : L.length + bofN n + 1 ≤ 3000
  · rw [if_pos hm] at er
    subst er
    refine lx_i (y := nI 1) (rfl) ?_
    refine lq_if_ne hx hb (by omega) (tgt := 15) d_L_add_10 (by decide) (fun c_1 => ?_) (fun c_1 => ?_)
    · refine lv_iload_n hx hb d_L_add_15 rfl (lv_at hl 2 rfl) ?_
      refine gcall_s (As := [.int (nI n)]) (rest := []) C0 g_L_50 (c_L_letter l n (by omega)) ⟨Nat.le_of_ble_eq_true rfl, Nat.le_of_ble_eq_true rfl⟩ ⟨rfl, rfl⟩ ⟨Nat.zero_le _, Nat.zero_le _⟩ d_L_add_16 rfl rfl (Nat.le_of_ble_eq_true rfl) hl.1 ?_
      refine lq_if_eq hx hb (by omega) (tgt := 39) d_L_add_19 (by decide) (fun c_2 => ?_) (fun c_2 => ?_)
      · refine lv_iload_n hx hb d_L_add_39 rfl (lv_at hl 0 rfl) ?_
        refine lv_iconst (v := nI 1) hx hb d_L_add_40 (by decide) ?_
        refine lq_icmp_ne hx hb (by omega) (by omega) (tgt := 52) d_L_add_41 (by decide) (fun c_3 => ?_) (fun c_3 => ?_)
        · refine lv_aload_n hx hb d_L_add_52 rfl (lv_at hl 1 rfl) ?_
          refine lv_iload_n hx hb d_L_add_53 rfl (lv_at hl 0 rfl) ?_
          refine lv_iconst (v := nI 2) hx hb d_L_add_54 (by decide) ?_
          refine lq_icmp_ne hx hb (by omega) (by omega) (tgt := 64) d_L_add_55 (by decide) (fun c_4 => ?_) (fun c_4 => ?_)
          · refine lv_iload_n hx hb d_L_add_64 rfl (lv_at hl 0 rfl) ?_
            refine lv_iconst (v := nI 3) hx hb d_L_add_65 (by decide) ?_
            refine lq_icmp_ne hx hb (by omega) (by omega) (tgt := 75) d_L_add_66 (by decide) (fun c_5 => ?_) (fun c_5 => ?_)
            · have hbof : bofN n = 4 := by omega
              refine lv_sipush (v := nI 240) hx hb d_L_add_75 (by decide) ?_
              refine lv_iload_n hx hb d_L_add_78 rfl (lv_at hl 2 rfl) ?_
              refine lv_bipush (v := nI 6) hx hb d_L_add_79 (by decide) ?_
              refine lv_iload_n hx hb d_L_add_81 rfl (lv_at hl 0 rfl) ?_
              refine lv_iconst (v := nI 1) hx hb d_L_add_82 (by decide) ?_
              refine lq_sub hx hb (by omega) d_L_add_83 ?_
              refine lv_imul hx hb d_L_add_84 ?_
              refine lv_ishr hx hb d_L_add_85 ?_
              refine lv_ior hx hb d_L_add_86 ?_
              refine lx_i (y := nI (240 + n / 262144)) (by rw [hbof]; exact lead4 hn) ?_
              refine gcall_v (q0 := 0) (wr := []) (As := [.int (nI (240 + n / 262144))]) (rest := []) C0 g_L_46 (c_L_put l dC dI cB h0 hB ad H.size L o fr tk lc wh f hf (240 + n / 262144) (by omega)) ⟨Nat.le_of_ble_eq_true rfl, Nat.le_of_ble_eq_true rfl⟩ ⟨rfl, rfl⟩ ⟨Nat.zero_le _, Nat.zero_le _⟩ d_L_add_87 rfl rfl (Nat.le_of_ble_eq_true rfl) hl.1 hK hP hD hS hA [0, 1] [] [0] rfl (by decide) rfl (by decide) (by decide) rfl rfl rfl (fun _ _ _ _ _ _ => trivial) (fun _ _ _ _ _ => trivial) (fun u H locs hw hP hD hS => ?_)
              obtain ⟨u, f⟩ := u
              dsimp only at hw
              obtain ⟨rfl, hf⟩ := hw
              have hP : va_P (dC, dI) classes [(h0, .inr (0, [.ref hB, va_re ad o, .int (nI ((L ++ [240 + n / 262144]).length)), .int (nI fr), .int (nI tk), .int (nI lc), .int wh])), (hB, .inl (cB, 3000, .inl f))] H := hP
              have hD : va_D A [(h0, .inr (0, [.ref hB, va_re ad o, .int (nI ((L ++ [240 + n / 262144]).length)), .int (nI fr), .int (nI tk), .int (nI lc), .int wh])), (hB, .inl (cB, 3000, .inl f))] := hD
              refine lv_iload_n hx hb d_L_add_90 rfl (lv_at hl 0 rfl) ?_
              refine lv_iconst (v := nI 2) hx hb d_L_add_91 (by decide) ?_
              refine lq_sub hx hb (by omega) d_L_add_92 ?_
              refine lx_i (y := nI (4 - 1 + 0) - 1) (by rw [hbof]; rfl) ?_
              refine lv_istore_n (lv' := [(3, .int (nI (4 - 1 + 0) - 1)), (2, .int (nI (bofN n))), (0, .ref h0), (1, .int (nI n))]) hx hb d_L_add_93 rfl hl (by decide) rfl (fun ls hl => ?_)
              refine L_add_loop C0 hA hK n (by omega) o fr tk lc wh (L ++ enc n) (fun f H locs ls hf hP hD hS hl => ?_) 3 (L ++ [240 + n / 262144]) f _ H locs ls (by omega) (by rw [enc_4 c_2 hbof, List.append_assoc]; rfl) hf (by rw [len1]; omega) rfl hP hD hS (lv_sub hl [2, 3, 0] rfl)
              refine lv_iconst (v := nI 1) hx hb d_L_add_121 (by decide) ?_
              exact ret_i C0 hS d_L_add_122 rfl ((L ++ enc n, o, fr, tk, lc, wh), f) ⟨by dsimp only; rw [if_pos hm]; exact ⟨rfl, rfl⟩, hf⟩ hP hD
            · have hbof : bofN n = 3 := c_5
              refine lv_sipush (v := nI 224) hx hb d_L_add_69 (by decide) ?_
              refine lv_goto (tgt := 78) hx hb d_L_add_72 (by decide) ?_
              refine lv_iload_n hx hb d_L_add_78 rfl (lv_at hl 2 rfl) ?_
              refine lv_bipush (v := nI 6) hx hb d_L_add_79 (by decide) ?_
              refine lv_iload_n hx hb d_L_add_81 rfl (lv_at hl 0 rfl) ?_
              refine lv_iconst (v := nI 1) hx hb d_L_add_82 (by decide) ?_
              refine lq_sub hx hb (by omega) d_L_add_83 ?_
              refine lv_imul hx hb d_L_add_84 ?_
              refine lv_ishr hx hb d_L_add_85 ?_
              refine lv_ior hx hb d_L_add_86 ?_
              refine lx_i (y := nI (224 + n / 4096)) (by rw [hbof]; exact lead3 (enc_3 c_2 hbof).2) ?_
              refine gcall_v (q0 := 0) (wr := []) (As := [.int (nI (224 + n / 4096))]) (rest := []) C0 g_L_46 (c_L_put l dC dI cB h0 hB ad H.size L o fr tk lc wh f hf (224 + n / 4096) (by omega)) ⟨Nat.le_of_ble_eq_true rfl, Nat.le_of_ble_eq_true rfl⟩ ⟨rfl, rfl⟩ ⟨Nat.zero_le _, Nat.zero_le _⟩ d_L_add_87 rfl rfl (Nat.le_of_ble_eq_true rfl) hl.1 hK hP hD hS hA [0, 1] [] [0] rfl (by decide) rfl (by decide) (by decide) rfl rfl rfl (fun _ _ _ _ _ _ => trivial) (fun _ _ _ _ _ => trivial) (fun u H locs hw hP hD hS => ?_)
              obtain ⟨u, f⟩ := u
              dsimp only at hw
              obtain ⟨rfl, hf⟩ := hw
              have hP : va_P (dC, dI) classes [(h0, .inr (0, [.ref hB, va_re ad o, .int (nI ((L ++ [224 + n / 4096]).length)), .int (nI fr), .int (nI tk), .int (nI lc), .int wh])), (hB, .inl (cB, 3000, .inl f))] H := hP
              have hD : va_D A [(h0, .inr (0, [.ref hB, va_re ad o, .int (nI ((L ++ [224 + n / 4096]).length)), .int (nI fr), .int (nI tk), .int (nI lc), .int wh])), (hB, .inl (cB, 3000, .inl f))] := hD
              refine lv_iload_n hx hb d_L_add_90 rfl (lv_at hl 0 rfl) ?_
              refine lv_iconst (v := nI 2) hx hb d_L_add_91 (by decide) ?_
              refine lq_sub hx hb (by omega) d_L_add_92 ?_
              refine lx_i (y := nI (3 - 1 + 0) - 1) (by rw [hbof]; rfl) ?_
              refine lv_istore_n (lv' := [(3, .int (nI (3 - 1 + 0) - 1)), (2, .int (nI (bofN n))), (0, .ref h0), (1, .int (nI n))]) hx hb d_L_add_93 rfl hl (by decide) rfl (fun ls hl => ?_)
              refine L_add_loop C0 hA hK n (by omega) o fr tk lc wh (L ++ enc n) (fun f H locs ls hf hP hD hS hl => ?_) 2 (L ++ [224 + n / 4096]) f _ H locs ls (by omega) (by rw [(enc_3 c_2 hbof).1, List.append_assoc]; rfl) hf (by rw [len1]; omega) rfl hP hD hS (lv_sub hl [2, 3, 0] rfl)
              refine lv_iconst (v := nI 1) hx hb d_L_add_121 (by decide) ?_
              exact ret_i C0 hS d_L_add_122 rfl ((L ++ enc n, o, fr, tk, lc, wh), f) ⟨by dsimp only; rw [if_pos hm]; exact ⟨rfl, rfl⟩, hf⟩ hP hD
          · have hbof : bofN n = 2 := c_4
            refine lv_sipush (v := nI 192) hx hb d_L_add_58 (by decide) ?_
            refine lv_goto (tgt := 78) hx hb d_L_add_61 (by decide) ?_
            refine lv_iload_n hx hb d_L_add_78 rfl (lv_at hl 2 rfl) ?_
            refine lv_bipush (v := nI 6) hx hb d_L_add_79 (by decide) ?_
            refine lv_iload_n hx hb d_L_add_81 rfl (lv_at hl 0 rfl) ?_
            refine lv_iconst (v := nI 1) hx hb d_L_add_82 (by decide) ?_
            refine lq_sub hx hb (by omega) d_L_add_83 ?_
            refine lv_imul hx hb d_L_add_84 ?_
            refine lv_ishr hx hb d_L_add_85 ?_
            refine lv_ior hx hb d_L_add_86 ?_
            refine lx_i (y := nI (192 + n / 64)) (by rw [hbof]; exact lead2 (enc_2 c_2 hbof).2) ?_
            refine gcall_v (q0 := 0) (wr := []) (As := [.int (nI (192 + n / 64))]) (rest := []) C0 g_L_46 (c_L_put l dC dI cB h0 hB ad H.size L o fr tk lc wh f hf (192 + n / 64) (by omega)) ⟨Nat.le_of_ble_eq_true rfl, Nat.le_of_ble_eq_true rfl⟩ ⟨rfl, rfl⟩ ⟨Nat.zero_le _, Nat.zero_le _⟩ d_L_add_87 rfl rfl (Nat.le_of_ble_eq_true rfl) hl.1 hK hP hD hS hA [0, 1] [] [0] rfl (by decide) rfl (by decide) (by decide) rfl rfl rfl (fun _ _ _ _ _ _ => trivial) (fun _ _ _ _ _ => trivial) (fun u H locs hw hP hD hS => ?_)
            obtain ⟨u, f⟩ := u
            dsimp only at hw
            obtain ⟨rfl, hf⟩ := hw
            have hP : va_P (dC, dI) classes [(h0, .inr (0, [.ref hB, va_re ad o, .int (nI ((L ++ [192 + n / 64]).length)), .int (nI fr), .int (nI tk), .int (nI lc), .int wh])), (hB, .inl (cB, 3000, .inl f))] H := hP
            have hD : va_D A [(h0, .inr (0, [.ref hB, va_re ad o, .int (nI ((L ++ [192 + n / 64]).length)), .int (nI fr), .int (nI tk), .int (nI lc), .int wh])), (hB, .inl (cB, 3000, .inl f))] := hD
            refine lv_iload_n hx hb d_L_add_90 rfl (lv_at hl 0 rfl) ?_
            refine lv_iconst (v := nI 2) hx hb d_L_add_91 (by decide) ?_
            refine lq_sub hx hb (by omega) d_L_add_92 ?_
            refine lx_i (y := nI (2 - 1 + 0) - 1) (by rw [hbof]; rfl) ?_
            refine lv_istore_n (lv' := [(3, .int (nI (2 - 1 + 0) - 1)), (2, .int (nI (bofN n))), (0, .ref h0), (1, .int (nI n))]) hx hb d_L_add_93 rfl hl (by decide) rfl (fun ls hl => ?_)
            refine L_add_loop C0 hA hK n (by omega) o fr tk lc wh (L ++ enc n) (fun f H locs ls hf hP hD hS hl => ?_) 1 (L ++ [192 + n / 64]) f _ H locs ls (by omega) (by rw [(enc_2 c_2 hbof).1, List.append_assoc]; rfl) hf (by rw [len1]; omega) rfl hP hD hS (lv_sub hl [2, 3, 0] rfl)
            refine lv_iconst (v := nI 1) hx hb d_L_add_121 (by decide) ?_
            exact ret_i C0 hS d_L_add_122 rfl ((L ++ enc n, o, fr, tk, lc, wh), f) ⟨by dsimp only; rw [if_pos hm]; exact ⟨rfl, rfl⟩, hf⟩ hP hD
        · refine lv_aload_n hx hb d_L_add_44 rfl (lv_at hl 1 rfl) ?_
          refine lv_iload_n hx hb d_L_add_45 rfl (lv_at hl 2 rfl) ?_
          refine gcall_v (q0 := 0) (wr := []) (As := [.int (nI n)]) (rest := []) C0 g_L_46 (c_L_put l dC dI cB h0 hB ad H.size L o fr tk lc wh f hf n (by omega)) ⟨Nat.le_of_ble_eq_true rfl, Nat.le_of_ble_eq_true rfl⟩ ⟨rfl, rfl⟩ ⟨Nat.zero_le _, Nat.zero_le _⟩ d_L_add_46 rfl rfl (Nat.le_of_ble_eq_true rfl) hl.1 hK hP hD hS hA [0, 1] [] [0] rfl (by decide) rfl (by decide) (by decide) rfl rfl rfl (fun _ _ _ _ _ _ => trivial) (fun _ _ _ _ _ => trivial) (fun u H locs hw hP hD hS => ?_)
          obtain ⟨u, f⟩ := u
          dsimp only at hw
          obtain ⟨rfl, hf⟩ := hw
          have hP : va_P (dC, dI) classes [(h0, .inr (0, [.ref hB, va_re ad o, .int (nI ((L ++ [n]).length)), .int (nI fr), .int (nI tk), .int (nI lc), .int wh])), (hB, .inl (cB, 3000, .inl f))] H := hP
          have hD : va_D A [(h0, .inr (0, [.ref hB, va_re ad o, .int (nI ((L ++ [n]).length)), .int (nI fr), .int (nI tk), .int (nI lc), .int wh])), (hB, .inl (cB, 3000, .inl f))] := hD
          refine lv_goto (tgt := 121) hx hb d_L_add_49 (by decide) ?_
          refine lv_iconst (v := nI 1) hx hb d_L_add_121 (by decide) ?_
          exact ret_i C0 hS d_L_add_122 rfl ((L ++ [n], o, fr, tk, lc, wh), f) ⟨by dsimp only; rw [if_pos hm]; exact ⟨rfl, by rw [enc_1 c_2 c_3]⟩, hf⟩ hP hD
      · have hbof := bofN_let c_2
        refine lv_aload_n hx hb d_L_add_22 rfl (lv_at hl 1 rfl) ?_
        refine lv_bipush (v := nI 92) hx hb d_L_add_23 (by decide) ?_
        refine gcall_v (q0 := 0) (wr := []) (As := [.int (nI 92)]) (rest := []) C0 g_L_46 (c_L_put l dC dI cB h0 hB ad H.size L o fr tk lc wh f hf 92 (by omega)) ⟨Nat.le_of_ble_eq_true rfl, Nat.le_of_ble_eq_true rfl⟩ ⟨rfl, rfl⟩ ⟨Nat.zero_le _, Nat.zero_le _⟩ d_L_add_25 rfl rfl (Nat.le_of_ble_eq_true rfl) hl.1 hK hP hD hS hA [0, 1] [] [0] rfl (by decide) rfl (by decide) (by decide) rfl rfl rfl (fun _ _ _ _ _ _ => trivial) (fun _ _ _ _ _ => trivial) (fun u H locs hw hP hD hS => ?_)
        obtain ⟨u, f⟩ := u
        dsimp only at hw
        obtain ⟨rfl, hf⟩ := hw
        have hP : va_P (dC, dI) classes [(h0, .inr (0, [.ref hB, va_re ad o, .int (nI ((L ++ [92]).length)), .int (nI fr), .int (nI tk), .int (nI lc), .int wh])), (hB, .inl (cB, 3000, .inl f))] H := hP
        have hD : va_D A [(h0, .inr (0, [.ref hB, va_re ad o, .int (nI ((L ++ [92]).length)), .int (nI fr), .int (nI tk), .int (nI lc), .int wh])), (hB, .inl (cB, 3000, .inl f))] := hD
        refine lv_aload_n hx hb d_L_add_28 rfl (lv_at hl 1 rfl) ?_
        refine lv_iload_n hx hb d_L_add_29 rfl (lv_at hl 2 rfl) ?_
        refine gcall_s (As := [.int (nI n)]) (rest := [.ref h0]) C0 g_L_50 (c_L_letter l n (by omega)) ⟨Nat.le_of_ble_eq_true rfl, Nat.le_of_ble_eq_true rfl⟩ ⟨rfl, rfl⟩ ⟨Nat.zero_le _, Nat.zero_le _⟩ d_L_add_30 rfl rfl (Nat.le_of_ble_eq_true rfl) hl.1 ?_
        refine gcall_v (q0 := 0) (wr := []) (As := [.int (nI (letN n))]) (rest := []) C0 g_L_46 (c_L_put l dC dI cB h0 hB ad H.size (L ++ [92]) o fr tk lc wh f hf (letN n) (by rw [len1]; omega)) ⟨Nat.le_of_ble_eq_true rfl, Nat.le_of_ble_eq_true rfl⟩ ⟨rfl, rfl⟩ ⟨Nat.zero_le _, Nat.zero_le _⟩ d_L_add_33 rfl rfl (Nat.le_of_ble_eq_true rfl) hl.1 hK hP hD hS hA [0, 1] [] [0] rfl (by decide) rfl (by decide) (by decide) rfl rfl rfl (fun _ _ _ _ _ _ => trivial) (fun _ _ _ _ _ => trivial) (fun u H locs hw hP hD hS => ?_)
        obtain ⟨u, f⟩ := u
        dsimp only at hw
        obtain ⟨rfl, hf⟩ := hw
        have hP : va_P (dC, dI) classes [(h0, .inr (0, [.ref hB, va_re ad o, .int (nI (((L ++ [92]) ++ [letN n]).length)), .int (nI fr), .int (nI tk), .int (nI lc), .int wh])), (hB, .inl (cB, 3000, .inl f))] H := hP
        have hD : va_D A [(h0, .inr (0, [.ref hB, va_re ad o, .int (nI (((L ++ [92]) ++ [letN n]).length)), .int (nI fr), .int (nI tk), .int (nI lc), .int wh])), (hB, .inl (cB, 3000, .inl f))] := hD
        refine lv_goto (tgt := 121) hx hb d_L_add_36 (by decide) ?_
        refine lv_iconst (v := nI 1) hx hb d_L_add_121 (by decide) ?_
        exact ret_i C0 hS d_L_add_122 rfl (((L ++ [92]) ++ [letN n], o, fr, tk, lc, wh), f) ⟨by dsimp only; rw [if_pos hm]; exact ⟨rfl, by rw [enc_let c_2, List.append_assoc, List.singleton_append]⟩, hf⟩ hP hD
    · exact absurd c_1 (by decide)
  · rw [if_neg hm] at er
    subst er
    refine lx_i (y := nI 0) (rfl) ?_
    refine lq_if_ne hx hb (by omega) (tgt := 15) d_L_add_10 (by decide) (fun c_6 => ?_) (fun c_6 => ?_)
    · exact absurd rfl c_6
    · refine lv_iconst (v := nI 0) hx hb d_L_add_13 (by decide) ?_
      exact ret_i C0 hS d_L_add_14 rfl ((L, o, fr, tk, lc, wh), f) ⟨by dsimp only; rw [if_neg hm]; exact ⟨rfl, rfl⟩, hf⟩ hP hD
end
section
/-! PURE: counting lines, cutting lists -/
def addF (n : Nat) (u : LSt) : LSt := (u.1 ++ enc n, u.2)
/-- all are bytes -/
def B8 (L : List Nat) : Prop := ∀ j, j < L.length → L.getD j 0 < 256
theorem bI10 : ∀ b, b < 256 → (bI b = nI 10 ↔ b = 10) := by decide +kernel
theorem take_len {L : List Nat} {n : Nat} (h : n ≤ L.length) : (L.take n).length = n := by rw [List.length_take]; omega
theorem take_getD {L : List Nat} {n j : Nat} (h : j < n) : (L.take n).getD j 0 = L.getD j 0 := by
  simp [List.getD_eq_getElem?_getD, List.getElem?_take, h]
theorem drop_getD {L : List Nat} {n j : Nat} : (L.drop n).getD j 0 = L.getD (n + j) 0 := by
  simp [List.getD_eq_getElem?_getD, List.getElem?_drop]
theorem RB.take {f : Nat → Int32} {L : List Nat} {n : Nat} (h : RB f L) (hn : n ≤ L.length) : RB f (L.take n) := by
  intro j hj
  rw [take_len hn] at hj
  rw [take_getD hj]
  exact h j (by omega)
theorem RI.take {f : Nat → Int32} {L : List Nat} {n : Nat} (h : RI f L) (hn : n ≤ L.length) : RI f (L.take n) := by
  intro j hj
  rw [take_len hn] at hj
  rw [take_getD hj]
  exact h j (by omega)
/-- the ends of lines in a list -/
abbrev c10 (L : List Nat) : Nat := List.count 10 L
theorem cutl_step {L : List Nat} {fr k : Nat} (h : k < fr) (hf : fr ≤ L.length) : (L.take fr).drop k = L.getD k 0 :: (L.take fr).drop (k + 1) := by
  have hk : k < (L.take fr).length := by rw [take_len hf]; exact h
  rw [List.drop_eq_getElem_cons hk]
  congr 1
  rw [List.getElem_take]
  simp [List.getD_eq_getElem?_getD, List.getElem?_eq_getElem (show k < L.length by omega)]
theorem cut_10 {L : List Nat} {fr k : Nat} (h : k < fr) (hf : fr ≤ L.length) (e : L.getD k 0 = 10) : c10 ((L.take fr).drop k) = c10 ((L.take fr).drop (k + 1)) + 1 := by
  rw [cutl_step h hf, e]; simp [c10]
theorem cut_n10 {L : List Nat} {fr k : Nat} (h : k < fr) (hf : fr ≤ L.length) (e : ¬ L.getD k 0 = 10) : c10 ((L.take fr).drop k) = c10 ((L.take fr).drop (k + 1)) := by
  rw [cutl_step h hf]; unfold c10; rw [List.count_cons_of_ne e]
theorem cut_end {L : List Nat} {fr k : Nat} (h : fr ≤ k) : c10 ((L.take fr).drop k) = 0 := by
  rw [List.drop_eq_nil_of_le (by rw [List.length_take]; omega)]; rfl
end
section
/-! LINES: text, back (rows printed by gen10.py) -/
set_option maxHeartbeats 4000000 in
set_option maxRecDepth 100000 in
theorem c_L_text (l : Launch) (dC : Nat → ClassId) (dI : Nat → Nat → Nat) (cB : ClassId) (h0 hB : Nat) (ad : Nat → Nat) (sz : Nat) (L : List Nat) (o : Option Nat) (fr tk lc : Nat) (wh : Int32) (f : Nat → Int32) (hf : RB f L) (n : Nat) (hn : n < 1114112) (hL : L.length ≤ 3000) (ho : ∀ i, o = some i → i < 5) : MetLi l dC dI cB h0 hB ad sz y_L_text b_L_text 3 .boolean ({ frames := 3, cells := 0, slots := 0, locals := 63 }) [.int (nI n)] (KX ad) (L, o, fr, tk, lc, wh) f (fun r u => if o = some 4 then (if L.length + bofN n + 1 ≤ 3000 then r = 1 ∧ u = addF n (L, o, fr, tk, lc, wh) else r = 0 ∧ u = (L, o, fr, tk, lc, wh)) else (if L.length + (enN o + 1 + bofN n) + 1 ≤ 3000 then r = 1 ∧ u = addF n (begF 4 (L, o, fr, tk, lc, wh)) else r = 0 ∧ u = (L, o, fr, tk, lc, wh))) := by
  refine enter (Qf := fun A => va_Qi (fun r (z : LSt × (Nat → Int32)) => (fun r u => if o = some 4 then (if L.length + bofN n + 1 ≤ 3000 then r = 1 ∧ u = addF n (L, o, fr, tk, lc, wh) else r = 0 ∧ u = (L, o, fr, tk, lc, wh)) else (if L.length + (enN o + 1 + bofN n) + 1 ≤ 3000 then r = 1 ∧ u = addF n (begF 4 (L, o, fr, tk, lc, wh)) else r = 0 ∧ u = (L, o, fr, tk, lc, wh))) r z.1 ∧ RB z.2 z.1.1) (PW dC dI A (fun z => wL h0 hB cB ad z.1 z.2)) A) (by decide) (Nat.le_of_ble_eq_true rfl) ?_
  intro p e s m below meth c A ls C0 hsz hA hK hP hD hS hX hl
  obtain ⟨hx, hb, hr, hml, hown, hlk, hnm, hts⟩ := id C0
  have hl : lv_has ls 3 [(0, .ref h0), (1, .int (nI n))] := hl
  have hP : va_P (dC, dI) classes [(h0, .inr (0, [.ref hB, va_re ad o, .int (nI L.length), .int (nI fr), .int (nI tk), .int (nI lc), .int wh])), (hB, .inl (cB, 3000, .inl f))] s.heap := hP
  have hD : va_D A [(h0, .inr (0, [.ref hB, va_re ad o, .int (nI L.length), .int (nI fr), .int (nI tk), .int (nI lc), .int wh])), (hB, .inl (cB, 3000, .inl f))] := hD
  have hbo := bofN_in n
  cases o with
  | none =>
    have hP : va_P (dC, dI) classes [(h0, .inr (0, [.ref hB, .null, .int (nI L.length), .int (nI fr), .int (nI tk), .int (nI lc), .int wh])), (hB, .inl (cB, 3000, .inl f))] s.heap := hP
    have hD : va_D A [(h0, .inr (0, [.ref hB, .null, .int (nI L.length), .int (nI fr), .int (nI tk), .int (nI lc), .int wh])), (hB, .inl (cB, 3000, .inl f))] := hD
    have hne : ¬ (none : Option Nat) = some 4 := by simp
    refine lv_aload_n hx hb d_L_text_0 rfl (lv_at hl 0 rfl) ?_
    refine va_get (D := (dC, dI)) (ci := 0) (v := .null) (C := R_L) (T := F_L) (N := 7) hx hb hts i_L hown hK hP 0 rfl rfl 1 (by decide) (hts _ m_36) (fun _ h9 => h9) rfl d_L_text_1 ?_
    refine getTEXT C0 hX hS m_119 d_L_text_4 ?_
    refine lv_acmp_ne (rx := none) (ry := some (ad 4)) (tgt := 16) hx hb d_L_text_7 (by decide) (fun c_1 => ?_) (fun c_1 => ?_)
    · refine lv_aload_n hx hb d_L_text_16 rfl (lv_at hl 0 rfl) ?_
      refine va_get (D := (dC, dI)) (ci := 0) (v := .null) (C := R_L) (T := F_L) (N := 7) hx hb hts i_L hown hK hP 0 rfl rfl 1 (by decide) (hts _ m_36) (fun _ h9 => h9) rfl d_L_text_17 ?_
      refine lv_ifnonnullN hx hb d_L_text_20 ?_
      refine lv_iconst (v := nI 0) hx hb d_L_text_23 (by decide) ?_
      refine lv_goto (tgt := 28) hx hb d_L_text_24 (by decide) ?_
      refine lv_istore_n (lv' := [(2, .int (nI 0)), (0, .ref h0), (1, .int (nI n))]) hx hb d_L_text_28 rfl hl (by decide) rfl (fun ls hl => ?_)
      refine lv_aload_n hx hb d_L_text_29 rfl (lv_at hl 1 rfl) ?_
      refine lv_iload_n hx hb d_L_text_30 rfl (lv_at hl 0 rfl) ?_
      refine lv_iconst (v := nI 1) hx hb d_L_text_31 (by decide) ?_
      refine lq_add hx hb d_L_text_32 ?_
      refine lv_iload_n hx hb d_L_text_33 rfl (lv_at hl 2 rfl) ?_
      refine gcall_s (As := [.int (nI n)]) (rest := [.int (nI (0 + 1)), .ref h0]) C0 g_L_54 (c_L_bytesOf l n (by omega)) ⟨Nat.le_of_ble_eq_true rfl, Nat.le_of_ble_eq_true rfl⟩ ⟨rfl, rfl⟩ ⟨Nat.zero_le _, Nat.zero_le _⟩ d_L_text_34 rfl rfl (Nat.le_of_ble_eq_true rfl) hl.1 ?_
      refine lq_add hx hb d_L_text_37 ?_
      refine gcall_i (q0 := 0) (wr := []) (As := [.int (nI ((0 + 1) + (bofN n)))]) (rest := []) C0 g_L_34 (c_L_hasRoom l dC dI cB h0 hB ad s.heap.size L none fr tk lc wh f hf (0 + 1 + bofN n) hL (by omega)) ⟨Nat.le_of_ble_eq_true rfl, Nat.le_of_ble_eq_true rfl⟩ ⟨rfl, rfl⟩ ⟨Nat.zero_le _, Nat.zero_le _⟩ d_L_text_38 rfl rfl (Nat.le_of_ble_eq_true rfl) hl.1 hK hP hD hS hA [0, 1] [] [0] rfl (by decide) rfl (by decide) (by decide) rfl rfl rfl (fun _ _ _ _ _ _ => trivial) (fun _ _ _ _ _ => trivial) (fun r u H locs hw hP hD hS => ?_)
      obtain ⟨u, f⟩ := u
      dsimp only at hw
      obtain ⟨⟨er, rfl⟩, hf⟩ := hw
      have hP : va_P (dC, dI) classes [(h0, .inr (0, [.ref hB, .null, .int (nI L.length), .int (nI fr), .int (nI tk), .int (nI lc), .int wh])), (hB, .inl (cB, 3000, .inl f))] H := hP
      have hD : va_D A [(h0, .inr (0, [.ref hB, .null, .int (nI L.length), .int (nI fr), .int (nI tk), .int (nI lc), .int wh])), (hB, .inl (cB, 3000, .inl f))] := hD
      by_cases hm : L.length + (0 + 1 + bofN n) + 1 ≤ 3000
      · rw [if_pos hm] at er
        subst er
        refine lx_i (y := nI 1) (rfl) ?_
        refine lq_if_eq hx hb (by omega) (tgt := 66) d_L_text_41 (by decide) (fun c_3 => ?_) (fun c_3 => ?_)
        · exact absurd c_3 (by decide)
        · refine lv_aload_n hx hb d_L_text_44 rfl (lv_at hl 1 rfl) ?_
          refine getTEXT C0 hX hS m_119 d_L_text_45 ?_
          refine gcall_i (q0 := 0) (wr := []) (As := [.ref (ad 4)]) (rest := []) C0 g_L_63 (c_L_begin l dC dI cB h0 hB ad H.size L none fr tk lc wh f hf 4 (by decide) hL) ⟨Nat.le_of_ble_eq_true rfl, Nat.le_of_ble_eq_true rfl⟩ ⟨rfl, rfl⟩ ⟨Nat.zero_le _, Nat.zero_le _⟩ d_L_text_48 rfl rfl (Nat.le_of_ble_eq_true rfl) hl.1 hK hP hD hS hA [0, 1] [] [0] rfl (by decide) rfl (by decide) (by decide) rfl rfl rfl KX.blind (KX.call hX hS) (fun r u H locs hw hP hD hS => ?_)
          obtain ⟨u, f⟩ := u
          dsimp only at hw
          obtain ⟨hw, hf⟩ := hw
          rw [if_pos (show L.length + enN none + 2 ≤ 3000 by simp only [enN]; omega)] at hw
          obtain ⟨rfl, rfl⟩ := hw
          have hf : RB f (L ++ [letK 4]) := hf
          have hq1 : List.length (L ++ [letK 4]) = L.length + 1 := by simp
          have hP : va_P (dC, dI) classes [(h0, .inr (0, [.ref hB, .ref (ad 4), .int (nI ((L ++ [letK 4]).length)), .int (nI (List.length (L))), .int (nI tk), .int (nI lc), .int wh])), (hB, .inl (cB, 3000, .inl f))] H := hP
          have hD : va_D A [(h0, .inr (0, [.ref hB, .ref (ad 4), .int (nI ((L ++ [letK 4]).length)), .int (nI (List.length (L))), .int (nI tk), .int (nI lc), .int wh])), (hB, .inl (cB, 3000, .inl f))] := hD
          refine lx_i (y := nI 1) (rfl) ?_
          refine lq_if_eq hx hb (by omega) (tgt := 66) d_L_text_51 (by decide) (fun c_4 => ?_) (fun c_4 => ?_)
          · exact absurd c_4 (by decide)
          · refine lv_aload_n hx hb d_L_text_54 rfl (lv_at hl 1 rfl) ?_
            refine lv_iload_n hx hb d_L_text_55 rfl (lv_at hl 2 rfl) ?_
            refine gcall_i (q0 := 0) (wr := []) (As := [.int (nI n)]) (rest := []) C0 g_L_60 (c_L_add l dC dI cB h0 hB ad H.size (L ++ [letK 4]) (some 4) (List.length (L)) tk (lc) wh f hf n hn (by omega)) ⟨Nat.le_of_ble_eq_true rfl, Nat.le_of_ble_eq_true rfl⟩ ⟨rfl, rfl⟩ ⟨Nat.zero_le _, Nat.zero_le _⟩ d_L_text_56 rfl rfl (Nat.le_of_ble_eq_true rfl) hl.1 hK hP hD hS hA [0, 1] [] [0] rfl (by decide) rfl (by decide) (by decide) rfl rfl rfl (fun _ _ _ _ _ _ => trivial) (fun _ _ _ _ _ => trivial) (fun r u H locs hw hP hD hS => ?_)
            obtain ⟨u, f⟩ := u
            dsimp only at hw
            obtain ⟨hw, hf⟩ := hw
            rw [if_pos (show List.length (L ++ [letK 4]) + bofN n + 1 ≤ 3000 by omega)] at hw
            obtain ⟨rfl, rfl⟩ := hw
            have hP : va_P (dC, dI) classes [(h0, .inr (0, [.ref hB, .ref (ad 4), .int (nI (((L ++ [letK 4]) ++ enc n).length)), .int (nI (List.length (L))), .int (nI tk), .int (nI lc), .int wh])), (hB, .inl (cB, 3000, .inl f))] H := hP
            have hD : va_D A [(h0, .inr (0, [.ref hB, .ref (ad 4), .int (nI (((L ++ [letK 4]) ++ enc n).length)), .int (nI (List.length (L))), .int (nI tk), .int (nI lc), .int wh])), (hB, .inl (cB, 3000, .inl f))] := hD
            refine lx_i (y := nI 1) (rfl) ?_
            refine lq_if_eq hx hb (by omega) (tgt := 66) d_L_text_59 (by decide) (fun c_5 => ?_) (fun c_5 => ?_)
            · exact absurd c_5 (by decide)
            · refine lv_iconst (v := nI 1) hx hb d_L_text_62 (by decide) ?_
              refine lv_goto (tgt := 67) hx hb d_L_text_63 (by decide) ?_
              exact ret_i C0 hS d_L_text_67 rfl (((L ++ [letK 4]) ++ enc n, some 4, List.length (L), tk, lc, wh), f) ⟨by dsimp only; rw [if_neg hne, if_pos (show L.length + (enN none + 1 + bofN n) + 1 ≤ 3000 by simp only [enN]; omega)]; exact ⟨rfl, rfl⟩, hf⟩ hP hD
      · rw [if_neg hm] at er
        subst er
        refine lx_i (y := nI 0) (rfl) ?_
        refine lq_if_eq hx hb (by omega) (tgt := 66) d_L_text_41 (by decide) (fun c_6 => ?_) (fun c_6 => ?_)
        · refine lv_iconst (v := nI 0) hx hb d_L_text_66 (by decide) ?_
          exact ret_i C0 hS d_L_text_67 rfl ((L, none, fr, tk, lc, wh), f) ⟨by dsimp only; rw [if_neg hne, if_neg (show ¬ L.length + (enN none + 1 + bofN n) + 1 ≤ 3000 by simp only [enN]; omega)]; exact ⟨rfl, rfl⟩, hf⟩ hP hD
        · exact absurd rfl c_6
    · exact absurd c_1 (by simp)
  | some i =>
    have hP : va_P (dC, dI) classes [(h0, .inr (0, [.ref hB, .ref (ad i), .int (nI L.length), .int (nI fr), .int (nI tk), .int (nI lc), .int wh])), (hB, .inl (cB, 3000, .inl f))] s.heap := hP
    have hD : va_D A [(h0, .inr (0, [.ref hB, .ref (ad i), .int (nI L.length), .int (nI fr), .int (nI tk), .int (nI lc), .int wh])), (hB, .inl (cB, 3000, .inl f))] := hD
    have hi := ho i rfl
    by_cases h4 : i = 4
    · subst h4
      refine lv_aload_n hx hb d_L_text_0 rfl (lv_at hl 0 rfl) ?_
      refine va_get (D := (dC, dI)) (ci := 0) (v := .ref (ad 4)) (C := R_L) (T := F_L) (N := 7) hx hb hts i_L hown hK hP 0 rfl rfl 1 (by decide) (hts _ m_36) (fun _ h9 => h9) rfl d_L_text_1 ?_
      refine getTEXT C0 hX hS m_119 d_L_text_4 ?_
      refine lv_acmp_ne (rx := some (ad 4)) (ry := some (ad 4)) (tgt := 16) hx hb d_L_text_7 (by decide) (fun c_7 => ?_) (fun c_7 => ?_)
      · exact absurd rfl c_7
      · refine lv_aload_n hx hb d_L_text_10 rfl (lv_at hl 0 rfl) ?_
        refine lv_iload_n hx hb d_L_text_11 rfl (lv_at hl 1 rfl) ?_
        refine gcall_i (q0 := 0) (wr := []) (As := [.int (nI n)]) (rest := []) C0 g_L_60 (c_L_add l dC dI cB h0 hB ad s.heap.size L (some 4) fr tk lc wh f hf n hn hL) ⟨Nat.le_of_ble_eq_true rfl, Nat.le_of_ble_eq_true rfl⟩ ⟨rfl, rfl⟩ ⟨Nat.zero_le _, Nat.zero_le _⟩ d_L_text_12 rfl rfl (Nat.le_of_ble_eq_true rfl) hl.1 hK hP hD hS hA [0, 1] [] [0] rfl (by decide) rfl (by decide) (by decide) rfl rfl rfl (fun _ _ _ _ _ _ => trivial) (fun _ _ _ _ _ => trivial) (fun r u H locs hw hP hD hS => ?_)
        obtain ⟨u, f⟩ := u
        dsimp only at hw
        obtain ⟨hw, hf⟩ := hw
        by_cases hm : L.length + bofN n + 1 ≤ 3000
        · rw [if_pos hm] at hw
          obtain ⟨rfl, rfl⟩ := hw
          have hP : va_P (dC, dI) classes [(h0, .inr (0, [.ref hB, .ref (ad 4), .int (nI ((L ++ enc n).length)), .int (nI fr), .int (nI tk), .int (nI lc), .int wh])), (hB, .inl (cB, 3000, .inl f))] H := hP
          have hD : va_D A [(h0, .inr (0, [.ref hB, .ref (ad 4), .int (nI ((L ++ enc n).length)), .int (nI fr), .int (nI tk), .int (nI lc), .int wh])), (hB, .inl (cB, 3000, .inl f))] := hD
          exact ret_i C0 hS d_L_text_15 rfl ((L ++ enc n, some 4, fr, tk, lc, wh), f) ⟨by dsimp only; rw [if_pos rfl, if_pos hm]; exact ⟨rfl, rfl⟩, hf⟩ hP hD
        · rw [if_neg hm] at hw
          obtain ⟨rfl, rfl⟩ := hw
          have hP : va_P (dC, dI) classes [(h0, .inr (0, [.ref hB, .ref (ad 4), .int (nI L.length), .int (nI fr), .int (nI tk), .int (nI lc), .int wh])), (hB, .inl (cB, 3000, .inl f))] H := hP
          have hD : va_D A [(h0, .inr (0, [.ref hB, .ref (ad 4), .int (nI L.length), .int (nI fr), .int (nI tk), .int (nI lc), .int wh])), (hB, .inl (cB, 3000, .inl f))] := hD
          exact ret_i C0 hS d_L_text_15 rfl ((L, some 4, fr, tk, lc, wh), f) ⟨by dsimp only; rw [if_pos rfl, if_neg hm]; exact ⟨rfl, rfl⟩, hf⟩ hP hD
    · have hne : ¬ (some i : Option Nat) = some 4 := fun q => h4 (Option.some.inj q)
      refine lv_aload_n hx hb d_L_text_0 rfl (lv_at hl 0 rfl) ?_
      refine va_get (D := (dC, dI)) (ci := 0) (v := .ref (ad i)) (C := R_L) (T := F_L) (N := 7) hx hb hts i_L hown hK hP 0 rfl rfl 1 (by decide) (hts _ m_36) (fun _ h9 => h9) rfl d_L_text_1 ?_
      refine getTEXT C0 hX hS m_119 d_L_text_4 ?_
      refine lv_acmp_ne (rx := some (ad i)) (ry := some (ad 4)) (tgt := 16) hx hb d_L_text_7 (by decide) (fun c_8 => ?_) (fun c_8 => ?_)
      · refine lv_aload_n hx hb d_L_text_16 rfl (lv_at hl 0 rfl) ?_
        refine va_get (D := (dC, dI)) (ci := 0) (v := .ref (ad i)) (C := R_L) (T := F_L) (N := 7) hx hb hts i_L hown hK hP 0 rfl rfl 1 (by decide) (hts _ m_36) (fun _ h9 => h9) rfl d_L_text_17 ?_
        refine lv_ifnonnull (tgt := 27) hx hb d_L_text_20 (by decide) ?_
        refine lv_iconst (v := nI 1) hx hb d_L_text_27 (by decide) ?_
        refine lv_istore_n (lv' := [(2, .int (nI 1)), (0, .ref h0), (1, .int (nI n))]) hx hb d_L_text_28 rfl hl (by decide) rfl (fun ls hl => ?_)
        refine lv_aload_n hx hb d_L_text_29 rfl (lv_at hl 1 rfl) ?_
        refine lv_iload_n hx hb d_L_text_30 rfl (lv_at hl 0 rfl) ?_
        refine lv_iconst (v := nI 1) hx hb d_L_text_31 (by decide) ?_
        refine lq_add hx hb d_L_text_32 ?_
        refine lv_iload_n hx hb d_L_text_33 rfl (lv_at hl 2 rfl) ?_
        refine gcall_s (As := [.int (nI n)]) (rest := [.int (nI (1 + 1)), .ref h0]) C0 g_L_54 (c_L_bytesOf l n (by omega)) ⟨Nat.le_of_ble_eq_true rfl, Nat.le_of_ble_eq_true rfl⟩ ⟨rfl, rfl⟩ ⟨Nat.zero_le _, Nat.zero_le _⟩ d_L_text_34 rfl rfl (Nat.le_of_ble_eq_true rfl) hl.1 ?_
        refine lq_add hx hb d_L_text_37 ?_
        refine gcall_i (q0 := 0) (wr := []) (As := [.int (nI ((1 + 1) + (bofN n)))]) (rest := []) C0 g_L_34 (c_L_hasRoom l dC dI cB h0 hB ad s.heap.size L (some i) fr tk lc wh f hf (1 + 1 + bofN n) hL (by omega)) ⟨Nat.le_of_ble_eq_true rfl, Nat.le_of_ble_eq_true rfl⟩ ⟨rfl, rfl⟩ ⟨Nat.zero_le _, Nat.zero_le _⟩ d_L_text_38 rfl rfl (Nat.le_of_ble_eq_true rfl) hl.1 hK hP hD hS hA [0, 1] [] [0] rfl (by decide) rfl (by decide) (by decide) rfl rfl rfl (fun _ _ _ _ _ _ => trivial) (fun _ _ _ _ _ => trivial) (fun r u H locs hw hP hD hS => ?_)
        obtain ⟨u, f⟩ := u
        dsimp only at hw
        obtain ⟨⟨er, rfl⟩, hf⟩ := hw
        have hP : va_P (dC, dI) classes [(h0, .inr (0, [.ref hB, .ref (ad i), .int (nI L.length), .int (nI fr), .int (nI tk), .int (nI lc), .int wh])), (hB, .inl (cB, 3000, .inl f))] H := hP
        have hD : va_D A [(h0, .inr (0, [.ref hB, .ref (ad i), .int (nI L.length), .int (nI fr), .int (nI tk), .int (nI lc), .int wh])), (hB, .inl (cB, 3000, .inl f))] := hD
        by_cases hm : L.length + (1 + 1 + bofN n) + 1 ≤ 3000
        · rw [if_pos hm] at er
          subst er
          refine lx_i (y := nI 1) (rfl) ?_
          refine lq_if_eq hx hb (by omega) (tgt := 66) d_L_text_41 (by decide) (fun c_10 => ?_) (fun c_10 => ?_)
          · exact absurd c_10 (by decide)
          · refine lv_aload_n hx hb d_L_text_44 rfl (lv_at hl 1 rfl) ?_
            refine getTEXT C0 hX hS m_119 d_L_text_45 ?_
            refine gcall_i (q0 := 0) (wr := []) (As := [.ref (ad 4)]) (rest := []) C0 g_L_63 (c_L_begin l dC dI cB h0 hB ad H.size L (some i) fr tk lc wh f hf 4 (by decide) hL) ⟨Nat.le_of_ble_eq_true rfl, Nat.le_of_ble_eq_true rfl⟩ ⟨rfl, rfl⟩ ⟨Nat.zero_le _, Nat.zero_le _⟩ d_L_text_48 rfl rfl (Nat.le_of_ble_eq_true rfl) hl.1 hK hP hD hS hA [0, 1] [] [0] rfl (by decide) rfl (by decide) (by decide) rfl rfl rfl KX.blind (KX.call hX hS) (fun r u H locs hw hP hD hS => ?_)
            obtain ⟨u, f⟩ := u
            dsimp only at hw
            obtain ⟨hw, hf⟩ := hw
            rw [if_pos (show L.length + enN (some i) + 2 ≤ 3000 by simp only [enN]; omega)] at hw
            obtain ⟨rfl, rfl⟩ := hw
            have hf : RB f ((L ++ [10]) ++ [letK 4]) := hf
            have hq1 : List.length ((L ++ [10]) ++ [letK 4]) = L.length + 2 := by simp
            have hP : va_P (dC, dI) classes [(h0, .inr (0, [.ref hB, .ref (ad 4), .int (nI (((L ++ [10]) ++ [letK 4]).length)), .int (nI (List.length (L ++ [10]))), .int (nI tk), .int (nI (lc + 1)), .int wh])), (hB, .inl (cB, 3000, .inl f))] H := hP
            have hD : va_D A [(h0, .inr (0, [.ref hB, .ref (ad 4), .int (nI (((L ++ [10]) ++ [letK 4]).length)), .int (nI (List.length (L ++ [10]))), .int (nI tk), .int (nI (lc + 1)), .int wh])), (hB, .inl (cB, 3000, .inl f))] := hD
            refine lx_i (y := nI 1) (rfl) ?_
            refine lq_if_eq hx hb (by omega) (tgt := 66) d_L_text_51 (by decide) (fun c_11 => ?_) (fun c_11 => ?_)
            · exact absurd c_11 (by decide)
            · refine lv_aload_n hx hb d_L_text_54 rfl (lv_at hl 1 rfl) ?_
              refine lv_iload_n hx hb d_L_text_55 rfl (lv_at hl 2 rfl) ?_
              refine gcall_i (q0 := 0) (wr := []) (As := [.int (nI n)]) (rest := []) C0 g_L_60 (c_L_add l dC dI cB h0 hB ad H.size ((L ++ [10]) ++ [letK 4]) (some 4) (List.length (L ++ [10])) tk (lc + 1) wh f hf n hn (by omega)) ⟨Nat.le_of_ble_eq_true rfl, Nat.le_of_ble_eq_true rfl⟩ ⟨rfl, rfl⟩ ⟨Nat.zero_le _, Nat.zero_le _⟩ d_L_text_56 rfl rfl (Nat.le_of_ble_eq_true rfl) hl.1 hK hP hD hS hA [0, 1] [] [0] rfl (by decide) rfl (by decide) (by decide) rfl rfl rfl (fun _ _ _ _ _ _ => trivial) (fun _ _ _ _ _ => trivial) (fun r u H locs hw hP hD hS => ?_)
              obtain ⟨u, f⟩ := u
              dsimp only at hw
              obtain ⟨hw, hf⟩ := hw
              rw [if_pos (show List.length ((L ++ [10]) ++ [letK 4]) + bofN n + 1 ≤ 3000 by omega)] at hw
              obtain ⟨rfl, rfl⟩ := hw
              have hP : va_P (dC, dI) classes [(h0, .inr (0, [.ref hB, .ref (ad 4), .int (nI ((((L ++ [10]) ++ [letK 4]) ++ enc n).length)), .int (nI (List.length (L ++ [10]))), .int (nI tk), .int (nI (lc + 1)), .int wh])), (hB, .inl (cB, 3000, .inl f))] H := hP
              have hD : va_D A [(h0, .inr (0, [.ref hB, .ref (ad 4), .int (nI ((((L ++ [10]) ++ [letK 4]) ++ enc n).length)), .int (nI (List.length (L ++ [10]))), .int (nI tk), .int (nI (lc + 1)), .int wh])), (hB, .inl (cB, 3000, .inl f))] := hD
              refine lx_i (y := nI 1) (rfl) ?_
              refine lq_if_eq hx hb (by omega) (tgt := 66) d_L_text_59 (by decide) (fun c_12 => ?_) (fun c_12 => ?_)
              · exact absurd c_12 (by decide)
              · refine lv_iconst (v := nI 1) hx hb d_L_text_62 (by decide) ?_
                refine lv_goto (tgt := 67) hx hb d_L_text_63 (by decide) ?_
                exact ret_i C0 hS d_L_text_67 rfl ((((L ++ [10]) ++ [letK 4]) ++ enc n, some 4, List.length (L ++ [10]), tk, lc + 1, wh), f) ⟨by dsimp only; rw [if_neg hne, if_pos (show L.length + (enN (some i) + 1 + bofN n) + 1 ≤ 3000 by simp only [enN]; omega)]; exact ⟨rfl, rfl⟩, hf⟩ hP hD
        · rw [if_neg hm] at er
          subst er
          refine lx_i (y := nI 0) (rfl) ?_
          refine lq_if_eq hx hb (by omega) (tgt := 66) d_L_text_41 (by decide) (fun c_13 => ?_) (fun c_13 => ?_)
          · refine lv_iconst (v := nI 0) hx hb d_L_text_66 (by decide) ?_
            exact ret_i C0 hS d_L_text_67 rfl ((L, (some i), fr, tk, lc, wh), f) ⟨by dsimp only; rw [if_neg hne, if_neg (show ¬ L.length + (enN (some i) + 1 + bofN n) + 1 ≤ 3000 by simp only [enN]; omega)]; exact ⟨rfl, rfl⟩, hf⟩ hP hD
          · exact absurd rfl c_13
      · exact absurd (KX.inj hX hi (by decide) (Option.some.inj c_8)) h4
set_option maxHeartbeats 4000000 in
set_option maxRecDepth 100000 in
theorem c_L_backOut (l : Launch) (dC : Nat → ClassId) (dI : Nat → Nat → Nat) (cB : ClassId) (h0 hB : Nat) (ad : Nat → Nat) (sz : Nat) (L : List Nat) (o : Option Nat) (fr tk lc : Nat) (wh : Int32) (f : Nat → Int32) (hf : RB f L) (x : Int32) (hx1 : x < nI tk ∨ nI (tk + L.length) < x) : MetLi l dC dI cB h0 hB ad sz y_L_back b_L_back 5 .boolean ({ frames := 0, cells := 0, slots := 0, locals := 0 }) [.int x] (noX) (L, o, fr, tk, lc, wh) f (fun r u => r = 0 ∧ u = (L, o, fr, tk, lc, wh)) := by
  refine enter (Qf := fun A => va_Qi (fun r (z : LSt × (Nat → Int32)) => (fun r u => r = 0 ∧ u = (L, o, fr, tk, lc, wh)) r z.1 ∧ RB z.2 z.1.1) (PW dC dI A (fun z => wL h0 hB cB ad z.1 z.2)) A) (by decide) (Nat.le_of_ble_eq_true rfl) ?_
  intro p e s m below meth c A ls C0 hsz hA hK hP hD hS hX hl
  obtain ⟨hx, hb, hr, hml, hown, hlk, hnm, hts⟩ := id C0
  have hl : lv_has ls 5 [(0, .ref h0), (1, .int x)] := hl
  have hP : va_P (dC, dI) classes [(h0, .inr (0, [.ref hB, va_re ad o, .int (nI L.length), .int (nI fr), .int (nI tk), .int (nI lc), .int wh])), (hB, .inl (cB, 3000, .inl f))] s.heap := hP
  have hD : va_D A [(h0, .inr (0, [.ref hB, va_re ad o, .int (nI L.length), .int (nI fr), .int (nI tk), .int (nI lc), .int wh])), (hB, .inl (cB, 3000, .inl f))] := hD
  refine lv_iload_n hx hb d_L_back_0 rfl (lv_at hl 1 rfl) ?_
  refine lv_aload_n hx hb d_L_back_1 rfl (lv_at hl 0 rfl) ?_
  refine va_get (D := (dC, dI)) (ci := 0) (v := .int (nI tk)) (C := R_L) (T := F_L) (N := 7) hx hb hts i_L hown hK hP 0 rfl rfl 4 (by decide) (hts _ m_41) (fun _ h9 => h9) rfl d_L_back_2 ?_
  refine lv_icmp_lt (tgt := 21) hx hb d_L_back_5 (by decide) (fun c_1 => ?_) (fun c_1 => ?_)
  · refine lv_iconst (v := nI 0) hx hb d_L_back_21 (by decide) ?_
    exact ret_i C0 hS d_L_back_22 rfl ((L, o, fr, tk, lc, wh), f) ⟨⟨rfl, rfl⟩, hf⟩ hP hD
  · refine lv_iload_n hx hb d_L_back_8 rfl (lv_at hl 1 rfl) ?_
    refine lv_aload_n hx hb d_L_back_9 rfl (lv_at hl 0 rfl) ?_
    refine va_get (D := (dC, dI)) (ci := 0) (v := .int (nI tk)) (C := R_L) (T := F_L) (N := 7) hx hb hts i_L hown hK hP 0 rfl rfl 4 (by decide) (hts _ m_41) (fun _ h9 => h9) rfl d_L_back_10 ?_
    refine lv_aload_n hx hb d_L_back_13 rfl (lv_at hl 0 rfl) ?_
    refine va_get (D := (dC, dI)) (ci := 0) (v := .int (nI L.length)) (C := R_L) (T := F_L) (N := 7) hx hb hts i_L hown hK hP 0 rfl rfl 2 (by decide) (hts _ m_37) (fun _ h9 => h9) rfl d_L_back_14 ?_
    refine lq_add hx hb d_L_back_17 ?_
    refine lv_icmp_le (tgt := 23) hx hb d_L_back_18 (by decide) (fun c_2 => ?_) (fun c_2 => ?_)
    · exact absurd c_2 (by rcases hx1 with q | q; exact absurd q c_1; exact Int32.not_le.mpr q)
    · refine lv_iconst (v := nI 0) hx hb d_L_back_21 (by decide) ?_
      exact ret_i C0 hS d_L_back_22 rfl ((L, o, fr, tk, lc, wh), f) ⟨⟨rfl, rfl⟩, hf⟩ hP hD
set_option maxHeartbeats 4000000 in
set_option maxRecDepth 100000 in
theorem L_back_loop {p : Program} {l : Launch} {e : Env} {s : State} {m : MethodId} {args : Array Value} {below : List Frame} {meth : Method} {c : Code} {Q : State → Prop} {dC : Nat → ClassId} {dI : Nat → Nat → Nat} {cB : ClassId} {h0 hB : Nat} {ad : Nat → Nat} {A : Nat → Prop} {R : Room} (C0 : Cx p s m args meth c b_L_back 5 (some .boolean) y_L_back) (hA : ∀ q, s.heap.size ≤ q → A q) (hK : va_K (dC, dI) classes [(cB, .byte)] s) (L : List Nat) (o : Option Nat) (fr tk to : Nat) (wh : Int32) (f : Nat → Int32) (hf : RB f L) (h8 : B8 L) (hL : L.length ≤ 3000) (hfr : fr ≤ L.length) (lcF : Nat)
    (kk : ∀ (H : Heap) (locs : List Loc) (ls : Array Slot), va_P (dC, dI) classes [(h0, .inr (0, [.ref hB, va_re ad o, .int (nI L.length), .int (nI fr), .int (nI tk), .int (nI lcF), .int wh])), (hB, .inl (cB, 3000, .inl f))] H → va_D A [(h0, .inr (0, [.ref hB, va_re ad o, .int (nI L.length), .int (nI fr), .int (nI tk), .int (nI lcF), .int wh])), (hB, .inl (cB, 3000, .inl f))] → va_S A s.heap H locs → lv_has ls 5 [(0, .ref h0), (2, .int (nI to))] → W p l e R s m args below meth c H locs 0 0 Q (F0 m 110 ls [])) :
    ∀ (d k lc : Nat) (H : Heap) (locs : List Loc) (ls : Array Slot), fr ≤ k + d → k ≤ 3000 → lc = lcF + c10 ((L.take fr).drop k) → va_P (dC, dI) classes [(h0, .inr (0, [.ref hB, va_re ad o, .int (nI L.length), .int (nI fr), .int (nI tk), .int (nI lc), .int wh])), (hB, .inl (cB, 3000, .inl f))] H → va_D A [(h0, .inr (0, [.ref hB, va_re ad o, .int (nI L.length), .int (nI fr), .int (nI tk), .int (nI lc), .int wh])), (hB, .inl (cB, 3000, .inl f))] → va_S A s.heap H locs → lv_has ls 5 [(4, .int (nI k)), (0, .ref h0), (2, .int (nI to))] → W p l e R s m args below meth c H locs 0 0 Q (F0 m 69 ls []) := by
  obtain ⟨hx, hb, hr, hml, hown, hlk, hnm, hts⟩ := id C0
  intro d
  induction d with
  | zero =>
    intro k lc H locs ls hd hk hlc hP hD hS hl
    refine lv_iload hx hb d_L_back_69 (lv_at hl 0 rfl) ?_
    refine lv_aload_n hx hb d_L_back_71 rfl (lv_at hl 1 rfl) ?_
    refine va_get (D := (dC, dI)) (ci := 0) (v := .int (nI fr)) (C := R_L) (T := F_L) (N := 7) hx hb hts i_L hown hK hP 0 rfl rfl 3 (by decide) (hts _ m_39) (fun _ h9 => h9) rfl d_L_back_72 ?_
    refine lq_icmp_ge hx hb (by omega) (by omega) (tgt := 110) d_L_back_75 (by decide) (fun c_1 => ?_) (fun c_1 => ?_)
    · rw [cut_end (by omega), Nat.add_zero] at hlc
      subst hlc
      exact kk H locs ls hP hD hS (lv_sub hl [1, 2] rfl)
    · exact absurd c_1 (by omega)
  | succ d ih =>
    intro k lc H locs ls hd hk hlc hP hD hS hl
    refine lv_iload hx hb d_L_back_69 (lv_at hl 0 rfl) ?_
    refine lv_aload_n hx hb d_L_back_71 rfl (lv_at hl 1 rfl) ?_
    refine va_get (D := (dC, dI)) (ci := 0) (v := .int (nI fr)) (C := R_L) (T := F_L) (N := 7) hx hb hts i_L hown hK hP 0 rfl rfl 3 (by decide) (hts _ m_39) (fun _ h9 => h9) rfl d_L_back_72 ?_
    refine lq_icmp_ge hx hb (by omega) (by omega) (tgt := 110) d_L_back_75 (by decide) (fun c_2 => ?_) (fun c_2 => ?_)
    · rw [cut_end (by omega), Nat.add_zero] at hlc
      subst hlc
      exact kk H locs ls hP hD hS (lv_sub hl [1, 2] rfl)
    · have hb8 := h8 k (by omega)
      refine lv_aload_n hx hb d_L_back_78 rfl (lv_at hl 1 rfl) ?_
      refine lv_dup hx hb d_L_back_79 rfl ?_
      refine va_get (D := (dC, dI)) (ci := 0) (v := .int (nI lc)) (C := R_L) (T := F_L) (N := 7) hx hb hts i_L hown hK hP 0 rfl rfl 5 (by decide) (hts _ m_42) (fun _ h9 => h9) rfl d_L_back_80 ?_
      refine lv_aload_n hx hb d_L_back_83 rfl (lv_at hl 1 rfl) ?_
      refine va_get (D := (dC, dI)) (ci := 0) (v := .ref hB) (C := R_L) (T := F_L) (N := 7) hx hb hts i_L hown hK hP 0 rfl rfl 0 (by decide) (hts _ m_34) (fun _ h9 => h9) rfl d_L_back_84 ?_
      refine lv_iload hx hb d_L_back_87 (lv_at hl 0 rfl) ?_
      refine va_bald (D := (dC, dI)) hx hb hK hP 1 0 rfl rfl (vp_in_nI (by omega) (by omega)) d_L_back_89 ?_
      refine lx_i (y := bI (L.getD k 0)) (by rw [nI_clamp (by omega)]; exact hf _ (by omega)) ?_
      refine lv_bipush (v := nI 10) hx hb d_L_back_90 (by decide) ?_
      refine lv_icmp_ne (tgt := 99) hx hb d_L_back_92 (by decide) (fun c_3 => ?_) (fun c_3 => ?_)
      · have hcut := cut_n10 c_2 hfr (fun q => c_3 ((bI10 _ hb8).mpr q))
        refine lv_iconst (v := nI 0) hx hb d_L_back_99 (by decide) ?_
        refine lq_sub hx hb (by omega) d_L_back_100 ?_
        refine va_put (D := (dC, dI)) (ci := 0) (v := .int (nI (lc - 0))) (ty := .int) (C := R_L) (T := F_L) (N := 7) hx hb hts i_L t_L t_L_ok n_L hown hK hP hD hS 0 rfl rfl 5 (by decide) (hts _ m_42) (fun _ h9 => h9) rfl (by decide +kernel) rfl rfl (Nat.le_of_ble_eq_true rfl) d_L_back_101 (fun H locs hP hD hS => ?_)
        have hP : va_P (dC, dI) classes [(h0, .inr (0, [.ref hB, va_re ad o, .int (nI L.length), .int (nI fr), .int (nI tk), .int (nI (lc - 0)), .int wh])), (hB, .inl (cB, 3000, .inl f))] H := hP
        have hD : va_D A [(h0, .inr (0, [.ref hB, va_re ad o, .int (nI L.length), .int (nI fr), .int (nI tk), .int (nI (lc - 0)), .int wh])), (hB, .inl (cB, 3000, .inl f))] := hD
        refine lv_iinc (v := nI (k + 1)) (lv' := [(4, .int (nI (k + 1))), (0, .ref h0), (2, .int (nI to))]) hx hb d_L_back_104 hl (k := 0) rfl (nI_add k 1) (by decide) rfl (fun ls hl => ?_)
        refine lv_goto (tgt := 69) hx hb d_L_back_107 (by decide) ?_
        exact ih (k + 1) _ H locs ls (by omega) (by omega) (by omega) hP hD hS hl
      · have hcut := cut_10 c_2 hfr ((bI10 _ hb8).mp c_3)
        refine lv_iconst (v := nI 1) hx hb d_L_back_95 (by decide) ?_
        refine lv_goto (tgt := 100) hx hb d_L_back_96 (by decide) ?_
        refine lq_sub hx hb (by omega) d_L_back_100 ?_
        refine va_put (D := (dC, dI)) (ci := 0) (v := .int (nI (lc - 1))) (ty := .int) (C := R_L) (T := F_L) (N := 7) hx hb hts i_L t_L t_L_ok n_L hown hK hP hD hS 0 rfl rfl 5 (by decide) (hts _ m_42) (fun _ h9 => h9) rfl (by decide +kernel) rfl rfl (Nat.le_of_ble_eq_true rfl) d_L_back_101 (fun H locs hP hD hS => ?_)
        have hP : va_P (dC, dI) classes [(h0, .inr (0, [.ref hB, va_re ad o, .int (nI L.length), .int (nI fr), .int (nI tk), .int (nI (lc - 1)), .int wh])), (hB, .inl (cB, 3000, .inl f))] H := hP
        have hD : va_D A [(h0, .inr (0, [.ref hB, va_re ad o, .int (nI L.length), .int (nI fr), .int (nI tk), .int (nI (lc - 1)), .int wh])), (hB, .inl (cB, 3000, .inl f))] := hD
        refine lv_iinc (v := nI (k + 1)) (lv' := [(4, .int (nI (k + 1))), (0, .ref h0), (2, .int (nI to))]) hx hb d_L_back_104 hl (k := 0) rfl (nI_add k 1) (by decide) rfl (fun ls hl => ?_)
        refine lv_goto (tgt := 69) hx hb d_L_back_107 (by decide) ?_
        exact ih (k + 1) _ H locs ls (by omega) (by omega) (by omega) hP hD hS hl
set_option maxHeartbeats 4000000 in
set_option maxRecDepth 100000 in
theorem c_L_backIn (l : Launch) (dC : Nat → ClassId) (dI : Nat → Nat → Nat) (cB : ClassId) (h0 hB : Nat) (ad : Nat → Nat) (sz : Nat) (L : List Nat) (o : Option Nat) (fr tk lc : Nat) (wh : Int32) (f : Nat → Int32) (hf : RB f L) (to : Nat) (hto : to ≤ L.length) (hL : L.length ≤ 3000) (htk : tk < 1000000) (h8 : B8 L) (hfr : fr ≤ L.length) (hlc : c10 ((L.take fr).drop to) ≤ lc) : MetLi l dC dI cB h0 hB ad sz y_L_back b_L_back 5 .boolean ({ frames := 0, cells := 0, slots := 0, locals := 0 }) [.int (nI (tk + to))] (noX) (L, o, fr, tk, lc, wh) f (fun r u => if (to = 0 ∧ ¬ wh = 0) ∨ (¬ to = 0 ∧ L.getD (to - 1) 0 = 10) then r = 1 ∧ u = (L.take to, none, to, tk, lc - c10 ((L.take fr).drop to), wh) else r = 0 ∧ u = (L, o, fr, tk, lc, wh)) := by
  refine enter (Qf := fun A => va_Qi (fun r (z : LSt × (Nat → Int32)) => (fun r u => if (to = 0 ∧ ¬ wh = 0) ∨ (¬ to = 0 ∧ L.getD (to - 1) 0 = 10) then r = 1 ∧ u = (L.take to, none, to, tk, lc - c10 ((L.take fr).drop to), wh) else r = 0 ∧ u = (L, o, fr, tk, lc, wh)) r z.1 ∧ RB z.2 z.1.1) (PW dC dI A (fun z => wL h0 hB cB ad z.1 z.2)) A) (by decide) (Nat.le_of_ble_eq_true rfl) ?_
  intro p e s m below meth c A ls C0 hsz hA hK hP hD hS hX hl
  obtain ⟨hx, hb, hr, hml, hown, hlk, hnm, hts⟩ := id C0
  have hl : lv_has ls 5 [(0, .ref h0), (1, .int (nI (tk + to)))] := hl
  have hP : va_P (dC, dI) classes [(h0, .inr (0, [.ref hB, va_re ad o, .int (nI L.length), .int (nI fr), .int (nI tk), .int (nI lc), .int wh])), (hB, .inl (cB, 3000, .inl f))] s.heap := hP
  have hD : va_D A [(h0, .inr (0, [.ref hB, va_re ad o, .int (nI L.length), .int (nI fr), .int (nI tk), .int (nI lc), .int wh])), (hB, .inl (cB, 3000, .inl f))] := hD
  refine lv_iload_n hx hb d_L_back_0 rfl (lv_at hl 1 rfl) ?_
  refine lv_aload_n hx hb d_L_back_1 rfl (lv_at hl 0 rfl) ?_
  refine va_get (D := (dC, dI)) (ci := 0) (v := .int (nI tk)) (C := R_L) (T := F_L) (N := 7) hx hb hts i_L hown hK hP 0 rfl rfl 4 (by decide) (hts _ m_41) (fun _ h9 => h9) rfl d_L_back_2 ?_
  refine lq_icmp_lt hx hb (by omega) (by omega) (tgt := 21) d_L_back_5 (by decide) (fun c_1 => ?_) (fun c_1 => ?_)
  · exact absurd c_1 (by omega)
  · refine lv_iload_n hx hb d_L_back_8 rfl (lv_at hl 1 rfl) ?_
    refine lv_aload_n hx hb d_L_back_9 rfl (lv_at hl 0 rfl) ?_
    refine va_get (D := (dC, dI)) (ci := 0) (v := .int (nI tk)) (C := R_L) (T := F_L) (N := 7) hx hb hts i_L hown hK hP 0 rfl rfl 4 (by decide) (hts _ m_41) (fun _ h9 => h9) rfl d_L_back_10 ?_
    refine lv_aload_n hx hb d_L_back_13 rfl (lv_at hl 0 rfl) ?_
    refine va_get (D := (dC, dI)) (ci := 0) (v := .int (nI L.length)) (C := R_L) (T := F_L) (N := 7) hx hb hts i_L hown hK hP 0 rfl rfl 2 (by decide) (hts _ m_37) (fun _ h9 => h9) rfl d_L_back_14 ?_
    refine lq_add hx hb d_L_back_17 ?_
    refine lq_icmp_le hx hb (by omega) (by omega) (tgt := 23) d_L_back_18 (by decide) (fun c_2 => ?_) (fun c_2 => ?_)
    · refine lv_iload_n hx hb d_L_back_23 rfl (lv_at hl 1 rfl) ?_
      refine lv_aload_n hx hb d_L_back_24 rfl (lv_at hl 0 rfl) ?_
      refine va_get (D := (dC, dI)) (ci := 0) (v := .int (nI tk)) (C := R_L) (T := F_L) (N := 7) hx hb hts i_L hown hK hP 0 rfl rfl 4 (by decide) (hts _ m_41) (fun _ h9 => h9) rfl d_L_back_25 ?_
      refine lq_sub hx hb (by omega) d_L_back_28 ?_
      refine lx_i (y := nI to) (congrArg nI (by omega)) ?_
      refine lv_istore_n (lv' := [(2, .int (nI to)), (0, .ref h0), (1, .int (nI (tk + to)))]) hx hb d_L_back_29 rfl hl (by decide) rfl (fun ls hl => ?_)
      refine lv_iload_n hx hb d_L_back_30 rfl (lv_at hl 0 rfl) ?_
      refine lq_if_ne hx hb (by omega) (tgt := 41) d_L_back_31 (by decide) (fun c_3 => ?_) (fun c_3 => ?_)
      · have hb8 := h8 (to - 1) (by omega)
        refine lv_aload_n hx hb d_L_back_41 rfl (lv_at hl 1 rfl) ?_
        refine va_get (D := (dC, dI)) (ci := 0) (v := .ref hB) (C := R_L) (T := F_L) (N := 7) hx hb hts i_L hown hK hP 0 rfl rfl 0 (by decide) (hts _ m_34) (fun _ h9 => h9) rfl d_L_back_42 ?_
        refine lv_iload_n hx hb d_L_back_45 rfl (lv_at hl 0 rfl) ?_
        refine lv_iconst (v := nI 1) hx hb d_L_back_46 (by decide) ?_
        refine lq_sub hx hb (by omega) d_L_back_47 ?_
        refine va_bald (D := (dC, dI)) hx hb hK hP 1 0 rfl rfl (vp_in_nI (by omega) (by omega)) d_L_back_48 ?_
        refine lx_i (y := bI (L.getD (to - 1) 0)) (by rw [nI_clamp (by omega)]; exact hf _ (by omega)) ?_
        refine lv_bipush (v := nI 10) hx hb d_L_back_49 (by decide) ?_
        refine lv_icmp_ne (tgt := 58) hx hb d_L_back_51 (by decide) (fun c_4 => ?_) (fun c_4 => ?_)
        · refine lv_iconst (v := nI 0) hx hb d_L_back_58 (by decide) ?_
          refine lv_istore_n (lv' := [(3, .int (nI 0)), (2, .int (nI to)), (0, .ref h0), (1, .int (nI (tk + to)))]) hx hb d_L_back_59 rfl hl (by decide) rfl (fun ls hl => ?_)
          refine lv_iload_n hx hb d_L_back_60 rfl (lv_at hl 0 rfl) ?_
          refine lq_if_ne hx hb (by omega) (tgt := 66) d_L_back_61 (by decide) (fun c_5 => ?_) (fun c_5 => ?_)
          · exact absurd rfl c_5
          · refine lv_iconst (v := nI 0) hx hb d_L_back_64 (by decide) ?_
            exact ret_i C0 hS d_L_back_65 rfl ((L, o, fr, tk, lc, wh), f) ⟨by dsimp only; rw [if_neg (by rintro (q | q); exact c_3 q.1; exact c_4 ((bI10 _ hb8).mpr q.2))]; exact ⟨rfl, rfl⟩, hf⟩ hP hD
        · refine lv_iconst (v := nI 1) hx hb d_L_back_54 (by decide) ?_
          refine lv_goto (tgt := 59) hx hb d_L_back_55 (by decide) ?_
          refine lv_istore_n (lv' := [(3, .int (nI 1)), (2, .int (nI to)), (0, .ref h0), (1, .int (nI (tk + to)))]) hx hb d_L_back_59 rfl hl (by decide) rfl (fun ls hl => ?_)
          refine lv_iload_n hx hb d_L_back_60 rfl (lv_at hl 0 rfl) ?_
          refine lq_if_ne hx hb (by omega) (tgt := 66) d_L_back_61 (by decide) (fun c_6 => ?_) (fun c_6 => ?_)
          · refine lv_iload_n hx hb d_L_back_66 rfl (lv_at hl 1 rfl) ?_
            refine lv_istore (lv' := [(4, .int (nI to)), (3, .int (nI 1)), (2, .int (nI to)), (0, .ref h0), (1, .int (nI (tk + to)))]) hx hb d_L_back_67 hl (by decide) rfl (fun ls hl => ?_)
            refine L_back_loop C0 hA hK L o fr tk to wh f hf h8 hL hfr (lc - c10 ((L.take fr).drop to)) (fun H locs ls hP hD hS hl => ?_) fr to lc s.heap _ ls (by omega) (by omega) (by omega) hP hD hS (lv_sub hl [0, 3, 2] rfl)
            refine lv_aload_n hx hb d_L_back_110 rfl (lv_at hl 0 rfl) ?_
            refine lv_iload_n hx hb d_L_back_111 rfl (lv_at hl 1 rfl) ?_
            refine lx_i (y := nI ((L.take to).length)) (by rw [take_len hto]) ?_
            refine va_put (D := (dC, dI)) (ci := 0) (v := .int (nI ((L.take to).length))) (ty := .int) (C := R_L) (T := F_L) (N := 7) hx hb hts i_L t_L t_L_ok n_L hown hK hP hD hS 0 rfl rfl 2 (by decide) (hts _ m_37) (fun _ h9 => h9) rfl (by decide +kernel) rfl rfl (Nat.le_of_ble_eq_true rfl) d_L_back_112 (fun H locs hP hD hS => ?_)
            have hP : va_P (dC, dI) classes [(h0, .inr (0, [.ref hB, va_re ad o, .int (nI ((L.take to).length)), .int (nI fr), .int (nI tk), .int (nI (lc - c10 ((L.take fr).drop to))), .int wh])), (hB, .inl (cB, 3000, .inl f))] H := hP
            have hD : va_D A [(h0, .inr (0, [.ref hB, va_re ad o, .int (nI ((L.take to).length)), .int (nI fr), .int (nI tk), .int (nI (lc - c10 ((L.take fr).drop to))), .int wh])), (hB, .inl (cB, 3000, .inl f))] := hD
            refine lv_aload_n hx hb d_L_back_115 rfl (lv_at hl 0 rfl) ?_
            refine lv_iload_n hx hb d_L_back_116 rfl (lv_at hl 1 rfl) ?_
            refine va_put (D := (dC, dI)) (ci := 0) (v := .int (nI to)) (ty := .int) (C := R_L) (T := F_L) (N := 7) hx hb hts i_L t_L t_L_ok n_L hown hK hP hD hS 0 rfl rfl 3 (by decide) (hts _ m_39) (fun _ h9 => h9) rfl (by decide +kernel) rfl rfl (Nat.le_of_ble_eq_true rfl) d_L_back_117 (fun H locs hP hD hS => ?_)
            have hP : va_P (dC, dI) classes [(h0, .inr (0, [.ref hB, va_re ad o, .int (nI ((L.take to).length)), .int (nI to), .int (nI tk), .int (nI (lc - c10 ((L.take fr).drop to))), .int wh])), (hB, .inl (cB, 3000, .inl f))] H := hP
            have hD : va_D A [(h0, .inr (0, [.ref hB, va_re ad o, .int (nI ((L.take to).length)), .int (nI to), .int (nI tk), .int (nI (lc - c10 ((L.take fr).drop to))), .int wh])), (hB, .inl (cB, 3000, .inl f))] := hD
            refine lv_aload_n hx hb d_L_back_120 rfl (lv_at hl 0 rfl) ?_
            refine lv_null hx hb d_L_back_121 ?_
            refine va_put (D := (dC, dI)) (ci := 0) (v := .null) (ty := .object "EventLineDesk$LineKind") (C := R_L) (T := F_L) (N := 7) hx hb hts i_L t_L t_L_ok n_L hown hK hP hD hS 0 rfl rfl 1 (by decide) (hts _ m_36) (fun _ h9 => h9) rfl (by decide +kernel) rfl rfl (Nat.le_of_ble_eq_true rfl) d_L_back_122 (fun H locs hP hD hS => ?_)
            have hP : va_P (dC, dI) classes [(h0, .inr (0, [.ref hB, .null, .int (nI ((L.take to).length)), .int (nI to), .int (nI tk), .int (nI (lc - c10 ((L.take fr).drop to))), .int wh])), (hB, .inl (cB, 3000, .inl f))] H := hP
            have hD : va_D A [(h0, .inr (0, [.ref hB, .null, .int (nI ((L.take to).length)), .int (nI to), .int (nI tk), .int (nI (lc - c10 ((L.take fr).drop to))), .int wh])), (hB, .inl (cB, 3000, .inl f))] := hD
            refine lv_iconst (v := nI 1) hx hb d_L_back_125 (by decide) ?_
            exact ret_i C0 hS d_L_back_126 rfl ((L.take to, none, to, tk, lc - c10 ((L.take fr).drop to), wh), f) ⟨by dsimp only; rw [if_pos (by exact Or.inr ⟨c_3, (bI10 _ hb8).mp c_4⟩)]; exact ⟨rfl, rfl⟩, hf.take hto⟩ hP hD
          · exact absurd c_6 (by decide)
      · refine lv_aload_n hx hb d_L_back_34 rfl (lv_at hl 1 rfl) ?_
        refine va_get (D := (dC, dI)) (ci := 0) (v := .int wh) (C := R_L) (T := F_L) (N := 7) hx hb hts i_L hown hK hP 0 rfl rfl 6 (by decide) (hts _ m_44) (fun _ h9 => h9) rfl d_L_back_35 ?_
        refine lv_goto (tgt := 59) hx hb d_L_back_38 (by decide) ?_
        refine lv_istore_n (lv' := [(3, .int wh), (2, .int (nI to)), (0, .ref h0), (1, .int (nI (tk + to)))]) hx hb d_L_back_59 rfl hl (by decide) rfl (fun ls hl => ?_)
        refine lv_iload_n hx hb d_L_back_60 rfl (lv_at hl 0 rfl) ?_
        refine lv_if_ne (tgt := 66) hx hb d_L_back_61 (by decide) (fun c_7 => ?_) (fun c_7 => ?_)
        · refine lv_iload_n hx hb d_L_back_66 rfl (lv_at hl 1 rfl) ?_
          refine lv_istore (lv' := [(4, .int (nI to)), (3, .int wh), (2, .int (nI to)), (0, .ref h0), (1, .int (nI (tk + to)))]) hx hb d_L_back_67 hl (by decide) rfl (fun ls hl => ?_)
          refine L_back_loop C0 hA hK L o fr tk to wh f hf h8 hL hfr (lc - c10 ((L.take fr).drop to)) (fun H locs ls hP hD hS hl => ?_) fr to lc s.heap _ ls (by omega) (by omega) (by omega) hP hD hS (lv_sub hl [0, 3, 2] rfl)
          refine lv_aload_n hx hb d_L_back_110 rfl (lv_at hl 0 rfl) ?_
          refine lv_iload_n hx hb d_L_back_111 rfl (lv_at hl 1 rfl) ?_
          refine lx_i (y := nI ((L.take to).length)) (by rw [take_len hto]) ?_
          refine va_put (D := (dC, dI)) (ci := 0) (v := .int (nI ((L.take to).length))) (ty := .int) (C := R_L) (T := F_L) (N := 7) hx hb hts i_L t_L t_L_ok n_L hown hK hP hD hS 0 rfl rfl 2 (by decide) (hts _ m_37) (fun _ h9 => h9) rfl (by decide +kernel) rfl rfl (Nat.le_of_ble_eq_true rfl) d_L_back_112 (fun H locs hP hD hS => ?_)
          have hP : va_P (dC, dI) classes [(h0, .inr (0, [.ref hB, va_re ad o, .int (nI ((L.take to).length)), .int (nI fr), .int (nI tk), .int (nI (lc - c10 ((L.take fr).drop to))), .int wh])), (hB, .inl (cB, 3000, .inl f))] H := hP
          have hD : va_D A [(h0, .inr (0, [.ref hB, va_re ad o, .int (nI ((L.take to).length)), .int (nI fr), .int (nI tk), .int (nI (lc - c10 ((L.take fr).drop to))), .int wh])), (hB, .inl (cB, 3000, .inl f))] := hD
          refine lv_aload_n hx hb d_L_back_115 rfl (lv_at hl 0 rfl) ?_
          refine lv_iload_n hx hb d_L_back_116 rfl (lv_at hl 1 rfl) ?_
          refine va_put (D := (dC, dI)) (ci := 0) (v := .int (nI to)) (ty := .int) (C := R_L) (T := F_L) (N := 7) hx hb hts i_L t_L t_L_ok n_L hown hK hP hD hS 0 rfl rfl 3 (by decide) (hts _ m_39) (fun _ h9 => h9) rfl (by decide +kernel) rfl rfl (Nat.le_of_ble_eq_true rfl) d_L_back_117 (fun H locs hP hD hS => ?_)
          have hP : va_P (dC, dI) classes [(h0, .inr (0, [.ref hB, va_re ad o, .int (nI ((L.take to).length)), .int (nI to), .int (nI tk), .int (nI (lc - c10 ((L.take fr).drop to))), .int wh])), (hB, .inl (cB, 3000, .inl f))] H := hP
          have hD : va_D A [(h0, .inr (0, [.ref hB, va_re ad o, .int (nI ((L.take to).length)), .int (nI to), .int (nI tk), .int (nI (lc - c10 ((L.take fr).drop to))), .int wh])), (hB, .inl (cB, 3000, .inl f))] := hD
          refine lv_aload_n hx hb d_L_back_120 rfl (lv_at hl 0 rfl) ?_
          refine lv_null hx hb d_L_back_121 ?_
          refine va_put (D := (dC, dI)) (ci := 0) (v := .null) (ty := .object "EventLineDesk$LineKind") (C := R_L) (T := F_L) (N := 7) hx hb hts i_L t_L t_L_ok n_L hown hK hP hD hS 0 rfl rfl 1 (by decide) (hts _ m_36) (fun _ h9 => h9) rfl (by decide +kernel) rfl rfl (Nat.le_of_ble_eq_true rfl) d_L_back_122 (fun H locs hP hD hS => ?_)
          have hP : va_P (dC, dI) classes [(h0, .inr (0, [.ref hB, .null, .int (nI ((L.take to).length)), .int (nI to), .int (nI tk), .int (nI (lc - c10 ((L.take fr).drop to))), .int wh])), (hB, .inl (cB, 3000, .inl f))] H := hP
          have hD : va_D A [(h0, .inr (0, [.ref hB, .null, .int (nI ((L.take to).length)), .int (nI to), .int (nI tk), .int (nI (lc - c10 ((L.take fr).drop to))), .int wh])), (hB, .inl (cB, 3000, .inl f))] := hD
          refine lv_iconst (v := nI 1) hx hb d_L_back_125 (by decide) ?_
          exact ret_i C0 hS d_L_back_126 rfl ((L.take to, none, to, tk, lc - c10 ((L.take fr).drop to), wh), f) ⟨by dsimp only; rw [if_pos (by exact Or.inl ⟨c_3, c_7⟩)]; exact ⟨rfl, rfl⟩, hf.take hto⟩ hP hD
        · refine lv_iconst (v := nI 0) hx hb d_L_back_64 (by decide) ?_
          exact ret_i C0 hS d_L_back_65 rfl ((L, o, fr, tk, lc, wh), f) ⟨by dsimp only; rw [if_neg (by rintro (q | q); exact q.2 c_7; exact q.1 c_3)]; exact ⟨rfl, rfl⟩, hf⟩ hP hD
    · exact absurd c_2 (by omega)
end
section
/-! PURE: taking -/
theorem bI_l : ∀ b, b < 256 → (bI b).toInt64 &&& 255 = lN b := by decide +kernel
theorem nI_l8 {b : Nat} (h : b < 256) : (nI b).toInt64 = lN b := nI_l (by omega)
/-- the long that is answered, byte by byte -/
def outR (L : List Nat) (n : Nat) : Nat → Int64
  | 0 => (nI n).toInt64 <<< ((nI 56).toInt64 &&& 63)
  | k + 1 => outR L n k ||| (lN (L.getD k 0) <<< ((nI 48 - nI 8 * nI k).toInt64 &&& 63))
def takeR (L : List Nat) (n : Nat) : Int64 := if n = 0 then 0 else outR L n n
def takeW (L : List Nat) (n : Nat) (wh : Int32) : Int32 := if n = 0 then wh else if L.getD (n - 1) 0 = 10 then 1 else 0
/-- moving down by n: the places below k are done -/
def Sh (f0 f : Nat → Int32) (n k : Nat) : Prop := (∀ j, j + n < k → f j = f0 (j + n)) ∧ ∀ j, k ≤ j + n → f j = f0 j
theorem Sh.rf (f0 : Nat → Int32) (n : Nat) : Sh f0 f0 n n := ⟨fun j h => by omega, fun _ _ => rfl⟩
theorem Sh.step {f0 f : Nat → Int32} {n k : Nat} {x : Int32} (h : Sh f0 f n k) (hk : n ≤ k) (hx : x = f0 k) : Sh f0 (upd f (k - n) x) n (k + 1) := by
  refine ⟨fun j hj => ?_, fun j hj => ?_⟩
  · by_cases e : j = k - n
    · subst e; rw [pk_us, hx, Nat.sub_add_cancel hk]
    · rw [pk_un e]; exact h.1 j (by omega)
  · rw [pk_un (by omega)]; exact h.2 j (by omega)
theorem Sh.rb {f0 f : Nat → Int32} {n : Nat} {L : List Nat} (h : Sh f0 f n L.length) (hf : RB f0 L) : RB f (L.drop n) := by
  intro j hj
  rw [List.length_drop] at hj
  rw [drop_getD, h.1 j (by omega), hf _ (by omega), Nat.add_comm]
theorem Sh.ri {f0 f : Nat → Int32} {n : Nat} {L : List Nat} (h : Sh f0 f n L.length) (hf : RI f0 L) : RI f (L.drop n) := by
  intro j hj
  rw [List.length_drop] at hj
  rw [drop_getD, h.1 j (by omega), hf _ (by omega), Nat.add_comm]
end
section
/-! Math.min; LINES: take (rows printed by gen12.py) -/
theorem min_ok {a b : Nat} (ha : a < 2 ^ 31) (hb : b < 2 ^ 31) : (if nI b < nI a then nI b else nI a) = nI (min a b) := by
  by_cases h : b < a
  · rw [if_pos ((nI_ltI hb ha).mpr h), Nat.min_eq_right (by omega)]
  · rw [if_neg (mt (nI_ltI hb ha).mp h), Nat.min_eq_left (by omega)]
set_option maxHeartbeats 4000000 in
set_option maxRecDepth 100000 in
theorem L_take_loop1 {p : Program} {l : Launch} {e : Env} {s : State} {m : MethodId} {args : Array Value} {below : List Frame} {meth : Method} {c : Code} {Q : State → Prop} {dC : Nat → ClassId} {dI : Nat → Nat → Nat} {cB : ClassId} {h0 hB : Nat} {ad : Nat → Nat} {A : Nat → Prop} {R : Room} (C0 : Cx p s m args meth c b_L_take 5 (some .long) y_L_take) (hK : va_K (dC, dI) classes [(cB, .byte)] s) (L : List Nat) (o : Option Nat) (fr tk lc n : Nat) (wh : Int32) (f : Nat → Int32) (hf : RB f L) (h8 : B8 L) (hL : L.length ≤ 3000) (hn : n ≤ L.length) (hn7 : n ≤ 7) (H : Heap) (locs : List Loc) (hP : va_P (dC, dI) classes [(h0, .inr (0, [.ref hB, va_re ad o, .int (nI L.length), .int (nI fr), .int (nI tk), .int (nI lc), .int wh])), (hB, .inl (cB, 3000, .inl f))] H)
    (kk : ∀ (ls : Array Slot), lv_has ls 5 [(0, .ref h0), (1, .int (nI n)), (2, .long (outR L n n))] → W p l e R s m args below meth c H locs 0 0 Q (F0 m 55 ls [])) :
    ∀ (d k : Nat) (ls : Array Slot), n ≤ k + d → k ≤ n → lv_has ls 5 [(4, .int (nI k)), (2, .long (outR L n k)), (0, .ref h0), (1, .int (nI n))] → W p l e R s m args below meth c H locs 0 0 Q (F0 m 19 ls []) := by
  obtain ⟨hx, hb, hr, hml, hown, hlk, hnm, hts⟩ := id C0
  intro d
  induction d with
  | zero =>
    intro k ls hd hk hl
    refine lv_iload hx hb d_L_take_19 (lv_at hl 0 rfl) ?_
    refine lv_iload_n hx hb d_L_take_21 rfl (lv_at hl 3 rfl) ?_
    refine lq_icmp_ge hx hb (by omega) (by omega) (tgt := 55) d_L_take_22 (by decide) (fun c_1 => ?_) (fun c_1 => ?_)
    · have hkn : k = n := by omega
      subst hkn
      exact kk ls (lv_sub hl [2, 3, 1] rfl)
    · exact absurd c_1 (by omega)
  | succ d ih =>
    intro k ls hd hk hl
    refine lv_iload hx hb d_L_take_19 (lv_at hl 0 rfl) ?_
    refine lv_iload_n hx hb d_L_take_21 rfl (lv_at hl 3 rfl) ?_
    refine lq_icmp_ge hx hb (by omega) (by omega) (tgt := 55) d_L_take_22 (by decide) (fun c_2 => ?_) (fun c_2 => ?_)
    · have hkn : k = n := by omega
      subst hkn
      exact kk ls (lv_sub hl [2, 3, 1] rfl)
    · have hb8 := h8 k (by omega)
      refine lv_lload_n hx hb d_L_take_25 rfl (lv_at hl 1 rfl) ?_
      refine lv_aload_n hx hb d_L_take_26 rfl (lv_at hl 2 rfl) ?_
      refine va_get (D := (dC, dI)) (ci := 0) (v := .ref hB) (C := R_L) (T := F_L) (N := 7) hx hb hts i_L hown hK hP 0 rfl rfl 0 (by decide) (hts _ m_34) (fun _ h9 => h9) rfl d_L_take_27 ?_
      refine lv_iload hx hb d_L_take_30 (lv_at hl 0 rfl) ?_
      refine va_bald (D := (dC, dI)) hx hb hK hP 1 0 rfl rfl (vp_in_nI (by omega) (by omega)) d_L_take_32 ?_
      refine lx_i (y := bI (L.getD k 0)) (by rw [nI_clamp (by omega)]; exact hf _ (by omega)) ?_
      refine lv_i2l (v := (bI (L.getD k 0)).toInt64) hx hb d_L_take_33 rfl ?_
      refine lv_ldc2 (v := 255) hx hb hown (hts _ m_160) d_L_take_34 ?_
      refine lv_land hx hb d_L_take_37 ?_
      refine lx_l (y := lN (L.getD k 0)) (bI_l _ hb8) ?_
      refine lv_bipush (v := nI 48) hx hb d_L_take_38 (by decide) ?_
      refine lv_bipush (v := nI 8) hx hb d_L_take_40 (by decide) ?_
      refine lv_iload hx hb d_L_take_42 (lv_at hl 0 rfl) ?_
      refine lv_imul hx hb d_L_take_44 ?_
      refine lv_isub hx hb d_L_take_45 ?_
      refine lv_lshl (v := (lN (L.getD k 0)) <<< (((nI 48) - ((nI 8) * (nI k))).toInt64 &&& 63)) hx hb d_L_take_46 rfl ?_
      refine lv_lor hx hb d_L_take_47 ?_
      refine lx_l (y := outR L n (k + 1)) (rfl) ?_
      refine lv_lstore_n (lv' := [(2, .long (outR L n (k + 1))), (4, .int (nI k)), (0, .ref h0), (1, .int (nI n))]) hx hb d_L_take_48 rfl hl (by decide) rfl (fun ls hl => ?_)
      refine lv_iinc (v := nI (k + 1)) (lv' := [(4, .int (nI (k + 1))), (2, .long (outR L n (k + 1))), (0, .ref h0), (1, .int (nI n))]) hx hb d_L_take_49 hl (k := 1) rfl (nI_add k 1) (by decide) rfl (fun ls hl => ?_)
      refine lv_goto (tgt := 19) hx hb d_L_take_52 (by decide) ?_
      exact ih (k + 1) ls (by omega) (by omega) (lv_sub hl [0, 1, 2, 3] rfl)
set_option maxHeartbeats 4000000 in
set_option maxRecDepth 100000 in
theorem L_take_loop2 {p : Program} {l : Launch} {e : Env} {s : State} {m : MethodId} {args : Array Value} {below : List Frame} {meth : Method} {c : Code} {Q : State → Prop} {dC : Nat → ClassId} {dI : Nat → Nat → Nat} {cB : ClassId} {h0 hB : Nat} {ad : Nat → Nat} {A : Nat → Prop} {R : Room} (C0 : Cx p s m args meth c b_L_take 5 (some .long) y_L_take) (hK : va_K (dC, dI) classes [(cB, .byte)] s) (L : List Nat) (o : Option Nat) (fr tk lc n : Nat) (wh : Int32) (z : Int64) (f0 : Nat → Int32) (hf : RB f0 L) (hL : L.length ≤ 3000) (hn : n ≤ L.length)
    (kk : ∀ (f : Nat → Int32) (H : Heap) (locs : List Loc) (ls : Array Slot), Sh f0 f n L.length → va_P (dC, dI) classes [(h0, .inr (0, [.ref hB, va_re ad o, .int (nI L.length), .int (nI fr), .int (nI tk), .int (nI lc), .int wh])), (hB, .inl (cB, 3000, .inl f))] H → va_D A [(h0, .inr (0, [.ref hB, va_re ad o, .int (nI L.length), .int (nI fr), .int (nI tk), .int (nI lc), .int wh])), (hB, .inl (cB, 3000, .inl f))] → va_S A s.heap H locs → lv_has ls 5 [(0, .ref h0), (1, .int (nI n)), (2, .long z)] → W p l e R s m args below meth c H locs 0 0 Q (F0 m 115 ls [])) :
    ∀ (d k : Nat) (f : Nat → Int32) (H : Heap) (locs : List Loc) (ls : Array Slot), L.length ≤ k + d → n ≤ k → k ≤ L.length → Sh f0 f n k → va_P (dC, dI) classes [(h0, .inr (0, [.ref hB, va_re ad o, .int (nI L.length), .int (nI fr), .int (nI tk), .int (nI lc), .int wh])), (hB, .inl (cB, 3000, .inl f))] H → va_D A [(h0, .inr (0, [.ref hB, va_re ad o, .int (nI L.length), .int (nI fr), .int (nI tk), .int (nI lc), .int wh])), (hB, .inl (cB, 3000, .inl f))] → va_S A s.heap H locs → lv_has ls 5 [(4, .int (nI k)), (0, .ref h0), (1, .int (nI n)), (2, .long z)] → W p l e R s m args below meth c H locs 0 0 Q (F0 m 84 ls []) := by
  obtain ⟨hx, hb, hr, hml, hown, hlk, hnm, hts⟩ := id C0
  intro d
  induction d with
  | zero =>
    intro k f H locs ls hd hnk hk hsh hP hD hS hl
    refine lv_iload hx hb d_L_take_84 (lv_at hl 0 rfl) ?_
    refine lv_aload_n hx hb d_L_take_86 rfl (lv_at hl 1 rfl) ?_
    refine va_get (D := (dC, dI)) (ci := 0) (v := .int (nI L.length)) (C := R_L) (T := F_L) (N := 7) hx hb hts i_L hown hK hP 0 rfl rfl 2 (by decide) (hts _ m_37) (fun _ h9 => h9) rfl d_L_take_87 ?_
    refine lq_icmp_ge hx hb (by omega) (by omega) (tgt := 115) d_L_take_90 (by decide) (fun c_1 => ?_) (fun c_1 => ?_)
    · have hkn : k = L.length := by omega
      subst hkn
      exact kk f H locs ls hsh hP hD hS (lv_sub hl [1, 2, 3] rfl)
    · exact absurd c_1 (by omega)
  | succ d ih =>
    intro k f H locs ls hd hnk hk hsh hP hD hS hl
    refine lv_iload hx hb d_L_take_84 (lv_at hl 0 rfl) ?_
    refine lv_aload_n hx hb d_L_take_86 rfl (lv_at hl 1 rfl) ?_
    refine va_get (D := (dC, dI)) (ci := 0) (v := .int (nI L.length)) (C := R_L) (T := F_L) (N := 7) hx hb hts i_L hown hK hP 0 rfl rfl 2 (by decide) (hts _ m_37) (fun _ h9 => h9) rfl d_L_take_87 ?_
    refine lq_icmp_ge hx hb (by omega) (by omega) (tgt := 115) d_L_take_90 (by decide) (fun c_2 => ?_) (fun c_2 => ?_)
    · have hkn : k = L.length := by omega
      subst hkn
      exact kk f H locs ls hsh hP hD hS (lv_sub hl [1, 2, 3] rfl)
    · refine lv_aload_n hx hb d_L_take_93 rfl (lv_at hl 1 rfl) ?_
      refine va_get (D := (dC, dI)) (ci := 0) (v := .ref hB) (C := R_L) (T := F_L) (N := 7) hx hb hts i_L hown hK hP 0 rfl rfl 0 (by decide) (hts _ m_34) (fun _ h9 => h9) rfl d_L_take_94 ?_
      refine lv_iload hx hb d_L_take_97 (lv_at hl 0 rfl) ?_
      refine lv_iload_n hx hb d_L_take_99 rfl (lv_at hl 2 rfl) ?_
      refine lq_sub hx hb (by omega) d_L_take_100 ?_
      refine lv_aload_n hx hb d_L_take_101 rfl (lv_at hl 1 rfl) ?_
      refine va_get (D := (dC, dI)) (ci := 0) (v := .ref hB) (C := R_L) (T := F_L) (N := 7) hx hb hts i_L hown hK hP 0 rfl rfl 0 (by decide) (hts _ m_34) (fun _ h9 => h9) rfl d_L_take_102 ?_
      refine lv_iload hx hb d_L_take_105 (lv_at hl 0 rfl) ?_
      refine va_bald (D := (dC, dI)) hx hb hK hP 1 0 rfl rfl (vp_in_nI (by omega) (by omega)) d_L_take_107 ?_
      refine lx_i (y := bI (L.getD k 0)) (by rw [nI_clamp (by omega), hsh.2 k (by omega)]; exact hf k (by omega)) ?_
      refine va_bast (D := (dC, dI)) hx hb hK hP hD hS 1 0 rfl rfl (vp_in_nI (by omega) (by omega)) d_L_take_108 (fun H locs hP hD hS => ?_)
      have hs2 := hsh.step (x := vp_nar .byte (bI (L.getD k 0))) (by omega) ((pk_vb _).trans (hf k (by omega)).symm)
      rw [nI_clamp (show k - n < 2 ^ 31 by omega)] at hP hD
      generalize upd f (k - n) (vp_nar .byte (bI (L.getD k 0))) = f2 at hP hD hs2
      have hP : va_P (dC, dI) classes [(h0, .inr (0, [.ref hB, va_re ad o, .int (nI L.length), .int (nI fr), .int (nI tk), .int (nI lc), .int wh])), (hB, .inl (cB, 3000, .inl f2))] H := hP
      have hD : va_D A [(h0, .inr (0, [.ref hB, va_re ad o, .int (nI L.length), .int (nI fr), .int (nI tk), .int (nI lc), .int wh])), (hB, .inl (cB, 3000, .inl f2))] := hD
      refine lv_iinc (v := nI (k + 1)) (lv' := [(4, .int (nI (k + 1))), (0, .ref h0), (1, .int (nI n)), (2, .long z)]) hx hb d_L_take_109 hl (k := 0) rfl (nI_add k 1) (by decide) rfl (fun ls hl => ?_)
      refine lv_goto (tgt := 84) hx hb d_L_take_112 (by decide) ?_
      exact ih (k + 1) f2 H _ ls (by omega) (by omega) (by omega) hs2 hP hD hS hl
set_option maxHeartbeats 4000000 in
set_option maxRecDepth 100000 in
theorem c_L_take (l : Launch) (dC : Nat → ClassId) (dI : Nat → Nat → Nat) (cB : ClassId) (h0 hB : Nat) (ad : Nat → Nat) (sz : Nat) (L : List Nat) (o : Option Nat) (fr tk lc : Nat) (wh : Int32) (f : Nat → Int32) (hf : RB f L) (n : Nat) (hn : n = min 7 fr) (hL : L.length ≤ 3000) (hfr : fr ≤ L.length) (h8 : B8 L) : MetLl l dC dI cB h0 hB ad sz y_L_take b_L_take 5 ({ frames := 1, cells := 0, slots := 0, locals := 21 }) [] (noX) (L, o, fr, tk, lc, wh) f (fun r u => r = takeR L n ∧ u = (L.drop n, o, fr - n, tk + n, lc, takeW L n wh)) := by
  refine enter (Qf := fun A => va_Ql (fun r (z : LSt × (Nat → Int32)) => (fun r u => r = takeR L n ∧ u = (L.drop n, o, fr - n, tk + n, lc, takeW L n wh)) r z.1 ∧ RB z.2 z.1.1) (PW dC dI A (fun z => wL h0 hB cB ad z.1 z.2)) A) (by decide) (Nat.le_of_ble_eq_true rfl) ?_
  intro p e s m below meth c A ls C0 hsz hA hK hP hD hS hX hl
  obtain ⟨hx, hb, hr, hml, hown, hlk, hnm, hts⟩ := id C0
  have hl : lv_has ls 5 [(0, .ref h0)] := hl
  have hP : va_P (dC, dI) classes [(h0, .inr (0, [.ref hB, va_re ad o, .int (nI L.length), .int (nI fr), .int (nI tk), .int (nI lc), .int wh])), (hB, .inl (cB, 3000, .inl f))] s.heap := hP
  have hD : va_D A [(h0, .inr (0, [.ref hB, va_re ad o, .int (nI L.length), .int (nI fr), .int (nI tk), .int (nI lc), .int wh])), (hB, .inl (cB, 3000, .inl f))] := hD
  refine lv_bipush (v := nI 7) hx hb d_L_take_0 (by decide) ?_
  refine lv_aload_n hx hb d_L_take_2 rfl (lv_at hl 0 rfl) ?_
  refine va_get (D := (dC, dI)) (ci := 0) (v := .int (nI fr)) (C := R_L) (T := F_L) (N := 7) hx hb hts i_L hown hK hP 0 rfl rfl 3 (by decide) (hts _ m_39) (fun _ h9 => h9) rfl d_L_take_3 ?_
  refine va_mmin hx hb (by rw [hml]; exact hl.1.symm) hown (hts _ m_157) (hts _ m_158) (hts _ m_6) (hts _ m_159) (Nat.le_of_ble_eq_true rfl) (Nat.le_of_ble_eq_true rfl) (Nat.zero_le _) (Nat.zero_le _) d_L_take_6 ?_
  refine lx_i (y := nI n) (by rw [hn]; exact min_ok (by omega) (by omega)) ?_
  have hn7 : n ≤ 7 := by omega
  have hnl : n ≤ L.length := by omega
  have hnf : n ≤ fr := by omega
  refine lv_istore_n (lv' := [(1, .int (nI n)), (0, .ref h0)]) hx hb d_L_take_9 rfl hl (by decide) rfl (fun ls hl => ?_)
  refine lv_iload_n hx hb d_L_take_10 rfl (lv_at hl 0 rfl) ?_
  refine lv_i2l (v := (nI n).toInt64) hx hb d_L_take_11 rfl ?_
  refine lv_bipush (v := nI 56) hx hb d_L_take_12 (by decide) ?_
  refine lv_lshl (v := ((nI n).toInt64) <<< ((nI 56).toInt64 &&& 63)) hx hb d_L_take_14 rfl ?_
  refine lx_l (y := outR L n 0) (rfl) ?_
  refine lv_lstore_n (lv' := [(2, .long (outR L n 0)), (1, .int (nI n)), (0, .ref h0)]) hx hb d_L_take_15 rfl hl (by decide) rfl (fun ls hl => ?_)
  refine lv_iconst (v := nI 0) hx hb d_L_take_16 (by decide) ?_
  refine lv_istore (lv' := [(4, .int (nI 0)), (2, .long (outR L n 0)), (1, .int (nI n)), (0, .ref h0)]) hx hb d_L_take_17 hl (by decide) rfl (fun ls hl => ?_)
  refine L_take_loop1 (A := A) C0 hK L o fr tk lc n wh f hf h8 hL hnl hn7 s.heap [] hP (fun ls hl => ?_) n 0 ls (by omega) (by omega) (lv_sub hl [0, 1, 3, 2] rfl)
  refine lv_iload_n hx hb d_L_take_55 rfl (lv_at hl 1 rfl) ?_
  refine lq_if_le hx hb (by omega) (tgt := 81) d_L_take_56 (by decide) (fun c_1 => ?_) (fun c_1 => ?_)
  · have hw9 : takeW L n wh = wh := by unfold takeW; rw [if_pos c_1]
    refine lv_iload_n hx hb d_L_take_81 rfl (lv_at hl 1 rfl) ?_
    refine lv_istore (lv' := [(4, .int (nI n)), (0, .ref h0), (1, .int (nI n)), (2, .long (outR L n n))]) hx hb d_L_take_82 hl (by decide) rfl (fun ls hl => ?_)
    refine L_take_loop2 C0 hK L o fr tk lc n wh (outR L n n) f hf hL hnl (fun f2 H locs ls hsh hP hD hS hl => ?_) L.length n f s.heap _ ls (by omega) (by omega) (by omega) (Sh.rf f n) hP hD hS (lv_sub hl [0, 1, 2, 3] rfl)
    have hf2 := hsh.rb hf
    refine lv_aload_n hx hb d_L_take_115 rfl (lv_at hl 0 rfl) ?_
    refine lv_dup hx hb d_L_take_116 rfl ?_
    refine va_get (D := (dC, dI)) (ci := 0) (v := .int (nI L.length)) (C := R_L) (T := F_L) (N := 7) hx hb hts i_L hown hK hP 0 rfl rfl 2 (by decide) (hts _ m_37) (fun _ h9 => h9) rfl d_L_take_117 ?_
    refine lv_iload_n hx hb d_L_take_120 rfl (lv_at hl 1 rfl) ?_
    refine lq_sub hx hb (by omega) d_L_take_121 ?_
    refine lx_i (y := nI ((L.drop n).length)) (by rw [List.length_drop]) ?_
    refine va_put (D := (dC, dI)) (ci := 0) (v := .int (nI ((L.drop n).length))) (ty := .int) (C := R_L) (T := F_L) (N := 7) hx hb hts i_L t_L t_L_ok n_L hown hK hP hD hS 0 rfl rfl 2 (by decide) (hts _ m_37) (fun _ h9 => h9) rfl (by decide +kernel) rfl rfl (Nat.le_of_ble_eq_true rfl) d_L_take_122 (fun H locs hP hD hS => ?_)
    have hP : va_P (dC, dI) classes [(h0, .inr (0, [.ref hB, va_re ad o, .int (nI ((L.drop n).length)), .int (nI fr), .int (nI tk), .int (nI lc), .int wh])), (hB, .inl (cB, 3000, .inl f2))] H := hP
    have hD : va_D A [(h0, .inr (0, [.ref hB, va_re ad o, .int (nI ((L.drop n).length)), .int (nI fr), .int (nI tk), .int (nI lc), .int wh])), (hB, .inl (cB, 3000, .inl f2))] := hD
    refine lv_aload_n hx hb d_L_take_125 rfl (lv_at hl 0 rfl) ?_
    refine lv_dup hx hb d_L_take_126 rfl ?_
    refine va_get (D := (dC, dI)) (ci := 0) (v := .int (nI fr)) (C := R_L) (T := F_L) (N := 7) hx hb hts i_L hown hK hP 0 rfl rfl 3 (by decide) (hts _ m_39) (fun _ h9 => h9) rfl d_L_take_127 ?_
    refine lv_iload_n hx hb d_L_take_130 rfl (lv_at hl 1 rfl) ?_
    refine lq_sub hx hb (by omega) d_L_take_131 ?_
    refine va_put (D := (dC, dI)) (ci := 0) (v := .int (nI (fr - n))) (ty := .int) (C := R_L) (T := F_L) (N := 7) hx hb hts i_L t_L t_L_ok n_L hown hK hP hD hS 0 rfl rfl 3 (by decide) (hts _ m_39) (fun _ h9 => h9) rfl (by decide +kernel) rfl rfl (Nat.le_of_ble_eq_true rfl) d_L_take_132 (fun H locs hP hD hS => ?_)
    have hP : va_P (dC, dI) classes [(h0, .inr (0, [.ref hB, va_re ad o, .int (nI ((L.drop n).length)), .int (nI (fr - n)), .int (nI tk), .int (nI lc), .int wh])), (hB, .inl (cB, 3000, .inl f2))] H := hP
    have hD : va_D A [(h0, .inr (0, [.ref hB, va_re ad o, .int (nI ((L.drop n).length)), .int (nI (fr - n)), .int (nI tk), .int (nI lc), .int wh])), (hB, .inl (cB, 3000, .inl f2))] := hD
    refine lv_aload_n hx hb d_L_take_135 rfl (lv_at hl 0 rfl) ?_
    refine lv_dup hx hb d_L_take_136 rfl ?_
    refine va_get (D := (dC, dI)) (ci := 0) (v := .int (nI tk)) (C := R_L) (T := F_L) (N := 7) hx hb hts i_L hown hK hP 0 rfl rfl 4 (by decide) (hts _ m_41) (fun _ h9 => h9) rfl d_L_take_137 ?_
    refine lv_iload_n hx hb d_L_take_140 rfl (lv_at hl 1 rfl) ?_
    refine lq_add hx hb d_L_take_141 ?_
    refine va_put (D := (dC, dI)) (ci := 0) (v := .int (nI (tk + n))) (ty := .int) (C := R_L) (T := F_L) (N := 7) hx hb hts i_L t_L t_L_ok n_L hown hK hP hD hS 0 rfl rfl 4 (by decide) (hts _ m_41) (fun _ h9 => h9) rfl (by decide +kernel) rfl rfl (Nat.le_of_ble_eq_true rfl) d_L_take_142 (fun H locs hP hD hS => ?_)
    have hP : va_P (dC, dI) classes [(h0, .inr (0, [.ref hB, va_re ad o, .int (nI ((L.drop n).length)), .int (nI (fr - n)), .int (nI (tk + n)), .int (nI lc), .int wh])), (hB, .inl (cB, 3000, .inl f2))] H := hP
    have hD : va_D A [(h0, .inr (0, [.ref hB, va_re ad o, .int (nI ((L.drop n).length)), .int (nI (fr - n)), .int (nI (tk + n)), .int (nI lc), .int wh])), (hB, .inl (cB, 3000, .inl f2))] := hD
    refine lv_iload_n hx hb d_L_take_145 rfl (lv_at hl 1 rfl) ?_
    refine lq_if_ne hx hb (by omega) (tgt := 153) d_L_take_146 (by decide) (fun c_2 => ?_) (fun c_2 => ?_)
    · refine lv_lload_n hx hb d_L_take_153 rfl (lv_at hl 2 rfl) ?_
      exact ret_l C0 hS d_L_take_154 ((L.drop n, o, fr - n, tk + n, lc, wh), f2) ⟨⟨by unfold takeR; rw [if_neg c_2], by rw [hw9]⟩, hf2⟩ hP hD
    · refine lv_lconst (v := 0) hx hb d_L_take_149 (by decide) ?_
      refine lv_goto (tgt := 154) hx hb d_L_take_150 (by decide) ?_
      exact ret_l C0 hS d_L_take_154 ((L.drop n, o, fr - n, tk + n, lc, wh), f2) ⟨⟨by unfold takeR; rw [if_pos c_2], by rw [hw9]⟩, hf2⟩ hP hD
  · have hb8 := h8 (n - 1) (by omega)
    refine lv_aload_n hx hb d_L_take_59 rfl (lv_at hl 0 rfl) ?_
    refine lv_aload_n hx hb d_L_take_60 rfl (lv_at hl 0 rfl) ?_
    refine va_get (D := (dC, dI)) (ci := 0) (v := .ref hB) (C := R_L) (T := F_L) (N := 7) hx hb hts i_L hown hK hP 0 rfl rfl 0 (by decide) (hts _ m_34) (fun _ h9 => h9) rfl d_L_take_61 ?_
    refine lv_iload_n hx hb d_L_take_64 rfl (lv_at hl 1 rfl) ?_
    refine lv_iconst (v := nI 1) hx hb d_L_take_65 (by decide) ?_
    refine lq_sub hx hb (by omega) d_L_take_66 ?_
    refine va_bald (D := (dC, dI)) hx hb hK hP 1 0 rfl rfl (vp_in_nI (by omega) (by omega)) d_L_take_67 ?_
    refine lx_i (y := bI (L.getD (n - 1) 0)) (by rw [nI_clamp (by omega)]; exact hf _ (by omega)) ?_
    refine lv_bipush (v := nI 10) hx hb d_L_take_68 (by decide) ?_
    refine lv_icmp_ne (tgt := 77) hx hb d_L_take_70 (by decide) (fun c_3 => ?_) (fun c_3 => ?_)
    · have hw9 : takeW L n wh = nI 0 := by unfold takeW; rw [if_neg (by omega), if_neg (fun q => c_3 ((bI10 _ hb8).mpr q))]; rfl
      refine lv_iconst (v := nI 0) hx hb d_L_take_77 (by decide) ?_
      refine va_put (D := (dC, dI)) (ci := 0) (v := .int (nI 0)) (ty := .boolean) (C := R_L) (T := F_L) (N := 7) hx hb hts i_L t_L t_L_ok n_L hown hK hP hD hS 0 rfl rfl 6 (by decide) (hts _ m_44) (fun _ h9 => h9) rfl (by decide +kernel) rfl rfl (Nat.le_of_ble_eq_true rfl) d_L_take_78 (fun H locs hP hD hS => ?_)
      have hP : va_P (dC, dI) classes [(h0, .inr (0, [.ref hB, va_re ad o, .int (nI L.length), .int (nI fr), .int (nI tk), .int (nI lc), .int (nI 0)])), (hB, .inl (cB, 3000, .inl f))] H := hP
      have hD : va_D A [(h0, .inr (0, [.ref hB, va_re ad o, .int (nI L.length), .int (nI fr), .int (nI tk), .int (nI lc), .int (nI 0)])), (hB, .inl (cB, 3000, .inl f))] := hD
      refine lv_iload_n hx hb d_L_take_81 rfl (lv_at hl 1 rfl) ?_
      refine lv_istore (lv' := [(4, .int (nI n)), (0, .ref h0), (1, .int (nI n)), (2, .long (outR L n n))]) hx hb d_L_take_82 hl (by decide) rfl (fun ls hl => ?_)
      refine L_take_loop2 C0 hK L o fr tk lc n (nI 0) (outR L n n) f hf hL hnl (fun f2 H locs ls hsh hP hD hS hl => ?_) L.length n f H _ ls (by omega) (by omega) (by omega) (Sh.rf f n) hP hD hS (lv_sub hl [0, 1, 2, 3] rfl)
      have hf2 := hsh.rb hf
      refine lv_aload_n hx hb d_L_take_115 rfl (lv_at hl 0 rfl) ?_
      refine lv_dup hx hb d_L_take_116 rfl ?_
      refine va_get (D := (dC, dI)) (ci := 0) (v := .int (nI L.length)) (C := R_L) (T := F_L) (N := 7) hx hb hts i_L hown hK hP 0 rfl rfl 2 (by decide) (hts _ m_37) (fun _ h9 => h9) rfl d_L_take_117 ?_
      refine lv_iload_n hx hb d_L_take_120 rfl (lv_at hl 1 rfl) ?_
      refine lq_sub hx hb (by omega) d_L_take_121 ?_
      refine lx_i (y := nI ((L.drop n).length)) (by rw [List.length_drop]) ?_
      refine va_put (D := (dC, dI)) (ci := 0) (v := .int (nI ((L.drop n).length))) (ty := .int) (C := R_L) (T := F_L) (N := 7) hx hb hts i_L t_L t_L_ok n_L hown hK hP hD hS 0 rfl rfl 2 (by decide) (hts _ m_37) (fun _ h9 => h9) rfl (by decide +kernel) rfl rfl (Nat.le_of_ble_eq_true rfl) d_L_take_122 (fun H locs hP hD hS => ?_)
      have hP : va_P (dC, dI) classes [(h0, .inr (0, [.ref hB, va_re ad o, .int (nI ((L.drop n).length)), .int (nI fr), .int (nI tk), .int (nI lc), .int (nI 0)])), (hB, .inl (cB, 3000, .inl f2))] H := hP
      have hD : va_D A [(h0, .inr (0, [.ref hB, va_re ad o, .int (nI ((L.drop n).length)), .int (nI fr), .int (nI tk), .int (nI lc), .int (nI 0)])), (hB, .inl (cB, 3000, .inl f2))] := hD
      refine lv_aload_n hx hb d_L_take_125 rfl (lv_at hl 0 rfl) ?_
      refine lv_dup hx hb d_L_take_126 rfl ?_
      refine va_get (D := (dC, dI)) (ci := 0) (v := .int (nI fr)) (C := R_L) (T := F_L) (N := 7) hx hb hts i_L hown hK hP 0 rfl rfl 3 (by decide) (hts _ m_39) (fun _ h9 => h9) rfl d_L_take_127 ?_
      refine lv_iload_n hx hb d_L_take_130 rfl (lv_at hl 1 rfl) ?_
      refine lq_sub hx hb (by omega) d_L_take_131 ?_
      refine va_put (D := (dC, dI)) (ci := 0) (v := .int (nI (fr - n))) (ty := .int) (C := R_L) (T := F_L) (N := 7) hx hb hts i_L t_L t_L_ok n_L hown hK hP hD hS 0 rfl rfl 3 (by decide) (hts _ m_39) (fun _ h9 => h9) rfl (by decide +kernel) rfl rfl (Nat.le_of_ble_eq_true rfl) d_L_take_132 (fun H locs hP hD hS => ?_)
      have hP : va_P (dC, dI) classes [(h0, .inr (0, [.ref hB, va_re ad o, .int (nI ((L.drop n).length)), .int (nI (fr - n)), .int (nI tk), .int (nI lc), .int (nI 0)])), (hB, .inl (cB, 3000, .inl f2))] H := hP
      have hD : va_D A [(h0, .inr (0, [.ref hB, va_re ad o, .int (nI ((L.drop n).length)), .int (nI (fr - n)), .int (nI tk), .int (nI lc), .int (nI 0)])), (hB, .inl (cB, 3000, .inl f2))] := hD
      refine lv_aload_n hx hb d_L_take_135 rfl (lv_at hl 0 rfl) ?_
      refine lv_dup hx hb d_L_take_136 rfl ?_
      refine va_get (D := (dC, dI)) (ci := 0) (v := .int (nI tk)) (C := R_L) (T := F_L) (N := 7) hx hb hts i_L hown hK hP 0 rfl rfl 4 (by decide) (hts _ m_41) (fun _ h9 => h9) rfl d_L_take_137 ?_
      refine lv_iload_n hx hb d_L_take_140 rfl (lv_at hl 1 rfl) ?_
      refine lq_add hx hb d_L_take_141 ?_
      refine va_put (D := (dC, dI)) (ci := 0) (v := .int (nI (tk + n))) (ty := .int) (C := R_L) (T := F_L) (N := 7) hx hb hts i_L t_L t_L_ok n_L hown hK hP hD hS 0 rfl rfl 4 (by decide) (hts _ m_41) (fun _ h9 => h9) rfl (by decide +kernel) rfl rfl (Nat.le_of_ble_eq_true rfl) d_L_take_142 (fun H locs hP hD hS => ?_)
      have hP : va_P (dC, dI) classes [(h0, .inr (0, [.ref hB, va_re ad o, .int (nI ((L.drop n).length)), .int (nI (fr - n)), .int (nI (tk + n)), .int (nI lc), .int (nI 0)])), (hB, .inl (cB, 3000, .inl f2))] H := hP
      have hD : va_D A [(h0, .inr (0, [.ref hB, va_re ad o, .int (nI ((L.drop n).length)), .int (nI (fr - n)), .int (nI (tk + n)), .int (nI lc), .int (nI 0)])), (hB, .inl (cB, 3000, .inl f2))] := hD
      refine lv_iload_n hx hb d_L_take_145 rfl (lv_at hl 1 rfl) ?_
      refine lq_if_ne hx hb (by omega) (tgt := 153) d_L_take_146 (by decide) (fun c_4 => ?_) (fun c_4 => ?_)
      · refine lv_lload_n hx hb d_L_take_153 rfl (lv_at hl 2 rfl) ?_
        exact ret_l C0 hS d_L_take_154 ((L.drop n, o, fr - n, tk + n, lc, nI 0), f2) ⟨⟨by unfold takeR; rw [if_neg c_4], by rw [hw9]⟩, hf2⟩ hP hD
      · refine lv_lconst (v := 0) hx hb d_L_take_149 (by decide) ?_
        refine lv_goto (tgt := 154) hx hb d_L_take_150 (by decide) ?_
        exact ret_l C0 hS d_L_take_154 ((L.drop n, o, fr - n, tk + n, lc, nI 0), f2) ⟨⟨by unfold takeR; rw [if_pos c_4], by rw [hw9]⟩, hf2⟩ hP hD
    · have hw9 : takeW L n wh = nI 1 := by unfold takeW; rw [if_neg (by omega), if_pos ((bI10 _ hb8).mp c_3)]; rfl
      refine lv_iconst (v := nI 1) hx hb d_L_take_73 (by decide) ?_
      refine lv_goto (tgt := 78) hx hb d_L_take_74 (by decide) ?_
      refine va_put (D := (dC, dI)) (ci := 0) (v := .int (nI 1)) (ty := .boolean) (C := R_L) (T := F_L) (N := 7) hx hb hts i_L t_L t_L_ok n_L hown hK hP hD hS 0 rfl rfl 6 (by decide) (hts _ m_44) (fun _ h9 => h9) rfl (by decide +kernel) rfl rfl (Nat.le_of_ble_eq_true rfl) d_L_take_78 (fun H locs hP hD hS => ?_)
      have hP : va_P (dC, dI) classes [(h0, .inr (0, [.ref hB, va_re ad o, .int (nI L.length), .int (nI fr), .int (nI tk), .int (nI lc), .int (nI 1)])), (hB, .inl (cB, 3000, .inl f))] H := hP
      have hD : va_D A [(h0, .inr (0, [.ref hB, va_re ad o, .int (nI L.length), .int (nI fr), .int (nI tk), .int (nI lc), .int (nI 1)])), (hB, .inl (cB, 3000, .inl f))] := hD
      refine lv_iload_n hx hb d_L_take_81 rfl (lv_at hl 1 rfl) ?_
      refine lv_istore (lv' := [(4, .int (nI n)), (0, .ref h0), (1, .int (nI n)), (2, .long (outR L n n))]) hx hb d_L_take_82 hl (by decide) rfl (fun ls hl => ?_)
      refine L_take_loop2 C0 hK L o fr tk lc n (nI 1) (outR L n n) f hf hL hnl (fun f2 H locs ls hsh hP hD hS hl => ?_) L.length n f H _ ls (by omega) (by omega) (by omega) (Sh.rf f n) hP hD hS (lv_sub hl [0, 1, 2, 3] rfl)
      have hf2 := hsh.rb hf
      refine lv_aload_n hx hb d_L_take_115 rfl (lv_at hl 0 rfl) ?_
      refine lv_dup hx hb d_L_take_116 rfl ?_
      refine va_get (D := (dC, dI)) (ci := 0) (v := .int (nI L.length)) (C := R_L) (T := F_L) (N := 7) hx hb hts i_L hown hK hP 0 rfl rfl 2 (by decide) (hts _ m_37) (fun _ h9 => h9) rfl d_L_take_117 ?_
      refine lv_iload_n hx hb d_L_take_120 rfl (lv_at hl 1 rfl) ?_
      refine lq_sub hx hb (by omega) d_L_take_121 ?_
      refine lx_i (y := nI ((L.drop n).length)) (by rw [List.length_drop]) ?_
      refine va_put (D := (dC, dI)) (ci := 0) (v := .int (nI ((L.drop n).length))) (ty := .int) (C := R_L) (T := F_L) (N := 7) hx hb hts i_L t_L t_L_ok n_L hown hK hP hD hS 0 rfl rfl 2 (by decide) (hts _ m_37) (fun _ h9 => h9) rfl (by decide +kernel) rfl rfl (Nat.le_of_ble_eq_true rfl) d_L_take_122 (fun H locs hP hD hS => ?_)
      have hP : va_P (dC, dI) classes [(h0, .inr (0, [.ref hB, va_re ad o, .int (nI ((L.drop n).length)), .int (nI fr), .int (nI tk), .int (nI lc), .int (nI 1)])), (hB, .inl (cB, 3000, .inl f2))] H := hP
      have hD : va_D A [(h0, .inr (0, [.ref hB, va_re ad o, .int (nI ((L.drop n).length)), .int (nI fr), .int (nI tk), .int (nI lc), .int (nI 1)])), (hB, .inl (cB, 3000, .inl f2))] := hD
      refine lv_aload_n hx hb d_L_take_125 rfl (lv_at hl 0 rfl) ?_
      refine lv_dup hx hb d_L_take_126 rfl ?_
      refine va_get (D := (dC, dI)) (ci := 0) (v := .int (nI fr)) (C := R_L) (T := F_L) (N := 7) hx hb hts i_L hown hK hP 0 rfl rfl 3 (by decide) (hts _ m_39) (fun _ h9 => h9) rfl d_L_take_127 ?_
      refine lv_iload_n hx hb d_L_take_130 rfl (lv_at hl 1 rfl) ?_
      refine lq_sub hx hb (by omega) d_L_take_131 ?_
      refine va_put (D := (dC, dI)) (ci := 0) (v := .int (nI (fr - n))) (ty := .int) (C := R_L) (T := F_L) (N := 7) hx hb hts i_L t_L t_L_ok n_L hown hK hP hD hS 0 rfl rfl 3 (by decide) (hts _ m_39) (fun _ h9 => h9) rfl (by decide +kernel) rfl rfl (Nat.le_of_ble_eq_true rfl) d_L_take_132 (fun H locs hP hD hS => ?_)
      have hP : va_P (dC, dI) classes [(h0, .inr (0, [.ref hB, va_re ad o, .int (nI ((L.drop n).length)), .int (nI (fr - n)), .int (nI tk), .int (nI lc), .int (nI 1)])), (hB, .inl (cB, 3000, .inl f2))] H := hP
      have hD : va_D A [(h0, .inr (0, [.ref hB, va_re ad o, .int (nI ((L.drop n).length)), .int (nI (fr - n)), .int (nI tk), .int (nI lc), .int (nI 1)])), (hB, .inl (cB, 3000, .inl f2))] := hD
      refine lv_aload_n hx hb d_L_take_135 rfl (lv_at hl 0 rfl) ?_
      refine lv_dup hx hb d_L_take_136 rfl ?_
      refine va_get (D := (dC, dI)) (ci := 0) (v := .int (nI tk)) (C := R_L) (T := F_L) (N := 7) hx hb hts i_L hown hK hP 0 rfl rfl 4 (by decide) (hts _ m_41) (fun _ h9 => h9) rfl d_L_take_137 ?_
      refine lv_iload_n hx hb d_L_take_140 rfl (lv_at hl 1 rfl) ?_
      refine lq_add hx hb d_L_take_141 ?_
      refine va_put (D := (dC, dI)) (ci := 0) (v := .int (nI (tk + n))) (ty := .int) (C := R_L) (T := F_L) (N := 7) hx hb hts i_L t_L t_L_ok n_L hown hK hP hD hS 0 rfl rfl 4 (by decide) (hts _ m_41) (fun _ h9 => h9) rfl (by decide +kernel) rfl rfl (Nat.le_of_ble_eq_true rfl) d_L_take_142 (fun H locs hP hD hS => ?_)
      have hP : va_P (dC, dI) classes [(h0, .inr (0, [.ref hB, va_re ad o, .int (nI ((L.drop n).length)), .int (nI (fr - n)), .int (nI (tk + n)), .int (nI lc), .int (nI 1)])), (hB, .inl (cB, 3000, .inl f2))] H := hP
      have hD : va_D A [(h0, .inr (0, [.ref hB, va_re ad o, .int (nI ((L.drop n).length)), .int (nI (fr - n)), .int (nI (tk + n)), .int (nI lc), .int (nI 1)])), (hB, .inl (cB, 3000, .inl f2))] := hD
      refine lv_iload_n hx hb d_L_take_145 rfl (lv_at hl 1 rfl) ?_
      refine lq_if_ne hx hb (by omega) (tgt := 153) d_L_take_146 (by decide) (fun c_5 => ?_) (fun c_5 => ?_)
      · refine lv_lload_n hx hb d_L_take_153 rfl (lv_at hl 2 rfl) ?_
        exact ret_l C0 hS d_L_take_154 ((L.drop n, o, fr - n, tk + n, lc, nI 1), f2) ⟨⟨by unfold takeR; rw [if_neg c_5], by rw [hw9]⟩, hf2⟩ hP hD
      · refine lv_lconst (v := 0) hx hb d_L_take_149 (by decide) ?_
        refine lv_goto (tgt := 154) hx hb d_L_take_150 (by decide) ?_
        exact ret_l C0 hS d_L_take_154 ((L.drop n, o, fr - n, tk + n, lc, nI 1), f2) ⟨⟨by unfold takeR; rw [if_pos c_5], by rw [hw9]⟩, hf2⟩ hP hD
end
section
/-! THE REFERENCE'S STATE: bytes, how many are of the open line, its kind, taken, the last one taken, lines that were taken -/
abbrev MSt : Type := List Nat × Nat × Option Nat × Nat × Nat × Nat
def kI (o : Option Nat) : Int32 := match o with
  | none => -1
  | some k => nI k
abbrev wM (m0 hR hG : Nat) (cR cG : ClassId) (u : MSt) (f g : Nat → Int32) (mn : Int32) : va_W := [(m0, .inr (2, [.ref hR, .int (nI u.1.length), .int (nI u.2.1), .int (kI u.2.2.1), .int (nI u.2.2.2.1), .int (nI u.2.2.2.2.1), .int (nI u.2.2.2.2.2), .ref hG, .int mn])), (hR, .inl (cR, 3000, .inl f)), (hG, .inl (cG, 4, .inl g))]
/-- the reference with its scratch: row, a character's bytes, how many -/
abbrev MZ : Type := MSt × (Nat → Int32) × (Nat → Int32) × Int32
abbrev MetMv (l : Launch) (dC : Nat → ClassId) (dI : Nat → Nat → Nat) (cR cG : ClassId) (m0 hR hG : Nat) (sz : Nat) (y : MethodName) (b : ByteArray) (n : Nat) (rm : Room) (As : List Value) (u : MSt) (f g : Nat → Int32) (mn : Int32) (post : MZ → Prop) : Prop :=
  Met l y (ww y b n none) rm (va_Pc (.ref m0 :: As) (PreW dC dI [(cR, .int), (cG, .int)] (wM m0 hR hG cR cG u f g mn) sz noX)) (va_Qv (fun z : MZ => post z ∧ RI z.2.1 z.1.1) (PW dC dI (va_A (wM m0 hR hG cR cG u f g mn) sz) (fun z => wM m0 hR hG cR cG z.1 z.2.1 z.2.2.1 z.2.2.2)) (va_A (wM m0 hR hG cR cG u f g mn) sz)) 0 0 (va_A (wM m0 hR hG cR cG u f g mn) sz)
abbrev MetMi (l : Launch) (dC : Nat → ClassId) (dI : Nat → Nat → Nat) (cR cG : ClassId) (m0 hR hG : Nat) (sz : Nat) (y : MethodName) (b : ByteArray) (n : Nat) (ty : FieldType) (rm : Room) (As : List Value) (u : MSt) (f g : Nat → Int32) (mn : Int32) (post : Int32 → MZ → Prop) : Prop :=
  Met l y (ww y b n (some ty)) rm (va_Pc (.ref m0 :: As) (PreW dC dI [(cR, .int), (cG, .int)] (wM m0 hR hG cR cG u f g mn) sz noX)) (va_Qi (fun r (z : MZ) => post r z ∧ RI z.2.1 z.1.1) (PW dC dI (va_A (wM m0 hR hG cR cG u f g mn) sz) (fun z => wM m0 hR hG cR cG z.1 z.2.1 z.2.2.1 z.2.2.2)) (va_A (wM m0 hR hG cR cG u f g mn) sz)) 0 0 (va_A (wM m0 hR hG cR cG u f g mn) sz)
abbrev MetMl (l : Launch) (dC : Nat → ClassId) (dI : Nat → Nat → Nat) (cR cG : ClassId) (m0 hR hG : Nat) (sz : Nat) (y : MethodName) (b : ByteArray) (n : Nat) (rm : Room) (As : List Value) (u : MSt) (f g : Nat → Int32) (mn : Int32) (post : Int64 → MZ → Prop) : Prop :=
  Met l y (ww y b n (some .long)) rm (va_Pc (.ref m0 :: As) (PreW dC dI [(cR, .int), (cG, .int)] (wM m0 hR hG cR cG u f g mn) sz noX)) (va_Ql (fun r (z : MZ) => post r z ∧ RI z.2.1 z.1.1) (PW dC dI (va_A (wM m0 hR hG cR cG u f g mn) sz) (fun z => wM m0 hR hG cR cG z.1 z.2.1 z.2.2.1 z.2.2.2)) (va_A (wM m0 hR hG cR cG u f g mn) sz)) 0 0 (va_A (wM m0 hR hG cR cG u f g mn) sz)
/-- the open line ends -/
def clF (u : MSt) : MSt := match u.2.2.1 with
  | none => u
  | some _ => (u.1 ++ [10], 0, none, u.2.2.2)
/-- a line begins -/
def stF (k : Nat) (u : MSt) : MSt := ((clF u).1 ++ [letK k], (clF u).2.1 + 1, some k, (clF u).2.2.2)
/-- bytes come to the open line -/
def adF (n : Nat) (u : MSt) : MSt := (u.1 ++ enc n, u.2.1 + bofN n, u.2.2)
theorem take_snoc {E : List Nat} {k : Nat} (h : k < E.length) : E.take (k + 1) = E.take k ++ [E.getD k 0] := by
  rw [List.take_succ, List.getD_eq_getElem?_getD, List.getElem?_eq_getElem h]
  rfl
theorem cnt_snoc {E : List Nat} {k : Nat} (h : k < E.length) : c10 (E.take (k + 1)) = c10 (E.take k) + (if E.getD k 0 = 10 then 1 else 0) := by
  rw [take_snoc h]
  unfold c10
  rw [List.count_append]
  by_cases e : E.getD k 0 = 10
  · rw [if_pos e, e]; rfl
  · rw [if_neg e, List.count_cons_of_ne e]; rfl
/-- a mark outside of what is held -/
theorem out_sub {x : Int32} {tk n : Nat} (htk : tk < 1000000) (hn : n ≤ 3000) (h : x < nI tk ∨ nI (tk + n) < x) : x - nI tk < 0 ∨ nI n < x - nI tk := by
  have h1 : (nI tk).toInt = tk := nI_toInt (by omega)
  have h2 : (nI (tk + n)).toInt = (tk + n : Nat) := nI_toInt (by omega)
  have h3 : (nI n).toInt = n := nI_toInt (by omega)
  have h4 : (0 : Int32).toInt = 0 := rfl
  have h5 := Int32.toInt_sub x (nI tk)
  have h6 := x.toInt_lt
  have h7 := x.le_toInt
  rw [Int32.lt_iff_toInt_lt, Int32.lt_iff_toInt_lt, h1, h2] at h
  rw [Int32.lt_iff_toInt_lt, Int32.lt_iff_toInt_lt, h3, h4, h5, h1, Int.bmod_def]
  simp only [Int.reducePow] at *
  split <;> omega
/-- c is a character -/
def isCh (c : Int32) : Prop := ¬ c < 0 ∧ c ≤ 1114111 ∧ (c < 55296 ∨ 57343 < c)
end
section
/-! PURE: the reference's way of writing a character -/
def utf (n : Nat) : List Nat := if n < 128 then [n] else if n < 2048 then [192 + n / 64, 128 + n % 64] else if n < 65536 then [224 + n / 64 / 64, 128 + n / 64 % 64, 128 + n % 64] else [240 + n / 64 / 64 / 64, 128 + n / 64 / 64 % 64, 128 + n / 64 % 64, 128 + n % 64]
theorem enc_utf {n : Nat} (h : letN n = 0) : enc n = utf n := by
  have e1 : n / 64 / 64 = n / 4096 := by omega
  have e2 : n / 64 / 64 / 64 = n / 262144 := by omega
  unfold enc utf
  rw [if_neg (by omega), e2, e1]
  simp [contB]
theorem utf_len {n : Nat} (h : letN n = 0) : (utf n).length = bofN n := by rw [← enc_utf h, enc_len]
theorem cl0 : (nI 0).toNatClampNeg = 0 := by decide
theorem cl1 : (nI 1).toNatClampNeg = 1 := by decide
theorem cl2 : (nI 2).toNatClampNeg = 2 := by decide
theorem cl3 : (nI 3).toNatClampNeg = 3 := by decide
theorem ri1 (g : Nat → Int32) (a : Nat) : RI (upd g (nI 0).toNatClampNeg (nI a)) [a] := by
  intro j hj
  have h : j = 0 := by simp at hj; omega
  subst h
  simp [upd, cl0]
theorem ri2 (g : Nat → Int32) (a b : Nat) : RI (upd (upd g (nI 1).toNatClampNeg (nI b)) (nI 0).toNatClampNeg (nI a)) [a, b] := by
  intro j hj
  have h : j = 0 ∨ j = 1 := by simp at hj; omega
  rcases h with rfl | rfl <;> simp [upd, cl0, cl1]
theorem ri3 (g : Nat → Int32) (a b c : Nat) : RI (upd (upd (upd g (nI 2).toNatClampNeg (nI c)) (nI 1).toNatClampNeg (nI b)) (nI 0).toNatClampNeg (nI a)) [a, b, c] := by
  intro j hj
  have h : j = 0 ∨ j = 1 ∨ j = 2 := by simp at hj; omega
  rcases h with rfl | rfl | rfl <;> simp [upd, cl0, cl1, cl2]
theorem ri4 (g : Nat → Int32) (a b c d : Nat) : RI (upd (upd (upd (upd g (nI 3).toNatClampNeg (nI d)) (nI 2).toNatClampNeg (nI c)) (nI 1).toNatClampNeg (nI b)) (nI 0).toNatClampNeg (nI a)) [a, b, c, d] := by
  intro j hj
  have h : j = 0 ∨ j = 1 ∨ j = 2 ∨ j = 3 := by simp at hj; omega
  rcases h with rfl | rfl | rfl | rfl <;> simp [upd, cl0, cl1, cl2, cl3]
theorem riE (g : Nat → Int32) (a b : Nat) : RI (upd (upd g (nI 0).toNatClampNeg (nI a)) (nI 1).toNatClampNeg (nI b)) [a, b] := by
  intro j hj
  have h : j = 0 ∨ j = 1 := by simp at hj; omega
  rcases h with rfl | rfl <;> simp [upd, cl0, cl1]
theorem isCh_nat {c : Int32} (h : isCh c) : ∃ n : Nat, c = nI n ∧ n < 1114112 ∧ (n < 55296 ∨ 57343 < n) := by
  obtain ⟨h1, h2, h3⟩ := h
  obtain ⟨n, hn, rfl⟩ := nI_of2 (M := 1114111) (n := 1114111) (by decide) h1 h2
  refine ⟨n, rfl, by omega, ?_⟩
  rcases h3 with h | h
  · exact Or.inl ((nI_ltI (b := 55296) (by omega) (by decide)).mp h)
  · exact Or.inr ((nI_ltI (a := 57343) (by decide) (by omega)).mp h)
end
section
/-! THE REFERENCE: put, close, start, begin, end, mark (rows printed by gen15.py) -/
set_option maxHeartbeats 4000000 in
set_option maxRecDepth 100000 in
theorem c_M_put (l : Launch) (dC : Nat → ClassId) (dI : Nat → Nat → Nat) (cR cG : ClassId) (m0 hR hG : Nat) (sz : Nat) (L : List Nat) (op : Nat) (o : Option Nat) (tk lst ln : Nat) (f g : Nat → Int32) (mn : Int32) (hf : RI f L) (b : Nat) (hn : L.length < 3000) : MetMv l dC dI cR cG m0 hR hG sz y_M_put b_M_put 2 ({ frames := 0, cells := 0, slots := 0, locals := 0 }) [.int (nI b)] (L, op, o, tk, lst, ln) f g mn (fun (z : MZ) => z.1 = (L ++ [b], op + 1, o, tk, lst, ln) ∧ z.2.2 = (g, mn)) := by
  refine enter (Qf := fun A => va_Qv (fun z : MZ => (fun (z : MZ) => z.1 = (L ++ [b], op + 1, o, tk, lst, ln) ∧ z.2.2 = (g, mn)) z ∧ RI z.2.1 z.1.1) (PW dC dI A (fun z => wM m0 hR hG cR cG z.1 z.2.1 z.2.2.1 z.2.2.2)) A) (by decide) (Nat.le_of_ble_eq_true rfl) ?_
  intro p e s m below meth c A ls C0 hsz hA hK hP hD hS hX hl
  obtain ⟨hx, hb, hr, hml, hown, hlk, hnm, hts⟩ := id C0
  have hl : lv_has ls 2 [(0, .ref m0), (1, .int (nI b))] := hl
  have hP : va_P (dC, dI) classes [(m0, .inr (2, [.ref hR, .int (nI L.length), .int (nI op), .int (kI o), .int (nI tk), .int (nI lst), .int (nI ln), .ref hG, .int mn])), (hR, .inl (cR, 3000, .inl f)), (hG, .inl (cG, 4, .inl g))] s.heap := hP
  have hD : va_D A [(m0, .inr (2, [.ref hR, .int (nI L.length), .int (nI op), .int (kI o), .int (nI tk), .int (nI lst), .int (nI ln), .ref hG, .int mn])), (hR, .inl (cR, 3000, .inl f)), (hG, .inl (cG, 4, .inl g))] := hD
  refine lv_aload_n hx hb d_M_put_0 rfl (lv_at hl 0 rfl) ?_
  refine va_get (D := (dC, dI)) (ci := 2) (v := .ref hR) (C := R_M) (T := F_M) (N := 9) hx hb hts i_M hown hK hP 0 rfl rfl 0 (by decide) (hts _ m_171) (fun _ h9 => h9) rfl d_M_put_1 ?_
  refine lv_aload_n hx hb d_M_put_4 rfl (lv_at hl 0 rfl) ?_
  refine va_get (D := (dC, dI)) (ci := 2) (v := .int (nI L.length)) (C := R_M) (T := F_M) (N := 9) hx hb hts i_M hown hK hP 0 rfl rfl 1 (by decide) (hts _ m_172) (fun _ h9 => h9) rfl d_M_put_5 ?_
  refine lv_iload_n hx hb d_M_put_8 rfl (lv_at hl 1 rfl) ?_
  refine va_iast (D := (dC, dI)) hx hb hK hP hD hS 1 0 rfl rfl (vp_in_nI (by omega) (by omega)) d_M_put_9 (fun H locs hP hD hS => ?_)
  have hf2 := RI.push (x := nI b) (b := b) rfl hf
  rw [nI_clamp (show L.length < 2 ^ 31 by omega)] at hP hD
  generalize upd f L.length (nI b) = f2 at hP hD hf2
  have hP : va_P (dC, dI) classes [(m0, .inr (2, [.ref hR, .int (nI L.length), .int (nI op), .int (kI o), .int (nI tk), .int (nI lst), .int (nI ln), .ref hG, .int mn])), (hR, .inl (cR, 3000, .inl f2)), (hG, .inl (cG, 4, .inl g))] H := hP
  have hD : va_D A [(m0, .inr (2, [.ref hR, .int (nI L.length), .int (nI op), .int (kI o), .int (nI tk), .int (nI lst), .int (nI ln), .ref hG, .int mn])), (hR, .inl (cR, 3000, .inl f2)), (hG, .inl (cG, 4, .inl g))] := hD
  refine lv_aload_n hx hb d_M_put_10 rfl (lv_at hl 0 rfl) ?_
  refine lv_aload_n hx hb d_M_put_11 rfl (lv_at hl 0 rfl) ?_
  refine va_get (D := (dC, dI)) (ci := 2) (v := .int (nI L.length)) (C := R_M) (T := F_M) (N := 9) hx hb hts i_M hown hK hP 0 rfl rfl 1 (by decide) (hts _ m_172) (fun _ h9 => h9) rfl d_M_put_12 ?_
  refine lv_iconst (v := nI 1) hx hb d_M_put_15 (by decide) ?_
  refine lq_add hx hb d_M_put_16 ?_
  refine lx_i (y := nI ((L ++ [b]).length)) (by rw [len1]) ?_
  refine va_put (D := (dC, dI)) (ci := 2) (v := .int (nI ((L ++ [b]).length))) (ty := .int) (C := R_M) (T := F_M) (N := 9) hx hb hts i_M t_M t_M_ok n_M hown hK hP hD hS 0 rfl rfl 1 (by decide) (hts _ m_172) (fun _ h9 => h9) rfl (by decide +kernel) rfl rfl (Nat.le_of_ble_eq_true rfl) d_M_put_17 (fun H locs hP hD hS => ?_)
  have hP : va_P (dC, dI) classes [(m0, .inr (2, [.ref hR, .int (nI ((L ++ [b]).length)), .int (nI op), .int (kI o), .int (nI tk), .int (nI lst), .int (nI ln), .ref hG, .int mn])), (hR, .inl (cR, 3000, .inl f2)), (hG, .inl (cG, 4, .inl g))] H := hP
  have hD : va_D A [(m0, .inr (2, [.ref hR, .int (nI ((L ++ [b]).length)), .int (nI op), .int (kI o), .int (nI tk), .int (nI lst), .int (nI ln), .ref hG, .int mn])), (hR, .inl (cR, 3000, .inl f2)), (hG, .inl (cG, 4, .inl g))] := hD
  refine lv_aload_n hx hb d_M_put_20 rfl (lv_at hl 0 rfl) ?_
  refine lv_aload_n hx hb d_M_put_21 rfl (lv_at hl 0 rfl) ?_
  refine va_get (D := (dC, dI)) (ci := 2) (v := .int (nI op)) (C := R_M) (T := F_M) (N := 9) hx hb hts i_M hown hK hP 0 rfl rfl 2 (by decide) (hts _ m_173) (fun _ h9 => h9) rfl d_M_put_22 ?_
  refine lv_iconst (v := nI 1) hx hb d_M_put_25 (by decide) ?_
  refine lq_add hx hb d_M_put_26 ?_
  refine va_put (D := (dC, dI)) (ci := 2) (v := .int (nI (op + 1))) (ty := .int) (C := R_M) (T := F_M) (N := 9) hx hb hts i_M t_M t_M_ok n_M hown hK hP hD hS 0 rfl rfl 2 (by decide) (hts _ m_173) (fun _ h9 => h9) rfl (by decide +kernel) rfl rfl (Nat.le_of_ble_eq_true rfl) d_M_put_27 (fun H locs hP hD hS => ?_)
  have hP : va_P (dC, dI) classes [(m0, .inr (2, [.ref hR, .int (nI ((L ++ [b]).length)), .int (nI (op + 1)), .int (kI o), .int (nI tk), .int (nI lst), .int (nI ln), .ref hG, .int mn])), (hR, .inl (cR, 3000, .inl f2)), (hG, .inl (cG, 4, .inl g))] H := hP
  have hD : va_D A [(m0, .inr (2, [.ref hR, .int (nI ((L ++ [b]).length)), .int (nI (op + 1)), .int (kI o), .int (nI tk), .int (nI lst), .int (nI ln), .ref hG, .int mn])), (hR, .inl (cR, 3000, .inl f2)), (hG, .inl (cG, 4, .inl g))] := hD
  exact ret_v C0 hS d_M_put_30 ((L ++ [b], op + 1, o, tk, lst, ln), f2, g, mn) ⟨⟨rfl, rfl⟩, hf2⟩ hP hD
set_option maxHeartbeats 4000000 in
set_option maxRecDepth 100000 in
theorem c_M_close (l : Launch) (dC : Nat → ClassId) (dI : Nat → Nat → Nat) (cR cG : ClassId) (m0 hR hG : Nat) (sz : Nat) (L : List Nat) (op : Nat) (o : Option Nat) (tk lst ln : Nat) (f g : Nat → Int32) (mn : Int32) (hf : RI f L) (hn : L.length < 3000) : MetMv l dC dI cR cG m0 hR hG sz y_M_close b_M_close 1 ({ frames := 0, cells := 0, slots := 0, locals := 0 }) [] (L, op, o, tk, lst, ln) f g mn (fun (z : MZ) => z.1 = (L ++ [10], 0, none, tk, lst, ln) ∧ z.2.2 = (g, mn)) := by
  refine enter (Qf := fun A => va_Qv (fun z : MZ => (fun (z : MZ) => z.1 = (L ++ [10], 0, none, tk, lst, ln) ∧ z.2.2 = (g, mn)) z ∧ RI z.2.1 z.1.1) (PW dC dI A (fun z => wM m0 hR hG cR cG z.1 z.2.1 z.2.2.1 z.2.2.2)) A) (by decide) (Nat.le_of_ble_eq_true rfl) ?_
  intro p e s m below meth c A ls C0 hsz hA hK hP hD hS hX hl
  obtain ⟨hx, hb, hr, hml, hown, hlk, hnm, hts⟩ := id C0
  have hl : lv_has ls 1 [(0, .ref m0)] := hl
  have hP : va_P (dC, dI) classes [(m0, .inr (2, [.ref hR, .int (nI L.length), .int (nI op), .int (kI o), .int (nI tk), .int (nI lst), .int (nI ln), .ref hG, .int mn])), (hR, .inl (cR, 3000, .inl f)), (hG, .inl (cG, 4, .inl g))] s.heap := hP
  have hD : va_D A [(m0, .inr (2, [.ref hR, .int (nI L.length), .int (nI op), .int (kI o), .int (nI tk), .int (nI lst), .int (nI ln), .ref hG, .int mn])), (hR, .inl (cR, 3000, .inl f)), (hG, .inl (cG, 4, .inl g))] := hD
  refine lv_aload_n hx hb d_M_close_0 rfl (lv_at hl 0 rfl) ?_
  refine va_get (D := (dC, dI)) (ci := 2) (v := .ref hR) (C := R_M) (T := F_M) (N := 9) hx hb hts i_M hown hK hP 0 rfl rfl 0 (by decide) (hts _ m_171) (fun _ h9 => h9) rfl d_M_close_1 ?_
  refine lv_aload_n hx hb d_M_close_4 rfl (lv_at hl 0 rfl) ?_
  refine va_get (D := (dC, dI)) (ci := 2) (v := .int (nI L.length)) (C := R_M) (T := F_M) (N := 9) hx hb hts i_M hown hK hP 0 rfl rfl 1 (by decide) (hts _ m_172) (fun _ h9 => h9) rfl d_M_close_5 ?_
  refine lv_bipush (v := nI 10) hx hb d_M_close_8 (by decide) ?_
  refine va_iast (D := (dC, dI)) hx hb hK hP hD hS 1 0 rfl rfl (vp_in_nI (by omega) (by omega)) d_M_close_10 (fun H locs hP hD hS => ?_)
  have hf2 := RI.push (x := nI 10) (b := 10) rfl hf
  rw [nI_clamp (show L.length < 2 ^ 31 by omega)] at hP hD
  generalize upd f L.length (nI 10) = f2 at hP hD hf2
  have hP : va_P (dC, dI) classes [(m0, .inr (2, [.ref hR, .int (nI L.length), .int (nI op), .int (kI o), .int (nI tk), .int (nI lst), .int (nI ln), .ref hG, .int mn])), (hR, .inl (cR, 3000, .inl f2)), (hG, .inl (cG, 4, .inl g))] H := hP
  have hD : va_D A [(m0, .inr (2, [.ref hR, .int (nI L.length), .int (nI op), .int (kI o), .int (nI tk), .int (nI lst), .int (nI ln), .ref hG, .int mn])), (hR, .inl (cR, 3000, .inl f2)), (hG, .inl (cG, 4, .inl g))] := hD
  refine lv_aload_n hx hb d_M_close_11 rfl (lv_at hl 0 rfl) ?_
  refine lv_aload_n hx hb d_M_close_12 rfl (lv_at hl 0 rfl) ?_
  refine va_get (D := (dC, dI)) (ci := 2) (v := .int (nI L.length)) (C := R_M) (T := F_M) (N := 9) hx hb hts i_M hown hK hP 0 rfl rfl 1 (by decide) (hts _ m_172) (fun _ h9 => h9) rfl d_M_close_13 ?_
  refine lv_iconst (v := nI 1) hx hb d_M_close_16 (by decide) ?_
  refine lq_add hx hb d_M_close_17 ?_
  refine lx_i (y := nI ((L ++ [10]).length)) (by rw [len1]) ?_
  refine va_put (D := (dC, dI)) (ci := 2) (v := .int (nI ((L ++ [10]).length))) (ty := .int) (C := R_M) (T := F_M) (N := 9) hx hb hts i_M t_M t_M_ok n_M hown hK hP hD hS 0 rfl rfl 1 (by decide) (hts _ m_172) (fun _ h9 => h9) rfl (by decide +kernel) rfl rfl (Nat.le_of_ble_eq_true rfl) d_M_close_18 (fun H locs hP hD hS => ?_)
  have hP : va_P (dC, dI) classes [(m0, .inr (2, [.ref hR, .int (nI ((L ++ [10]).length)), .int (nI op), .int (kI o), .int (nI tk), .int (nI lst), .int (nI ln), .ref hG, .int mn])), (hR, .inl (cR, 3000, .inl f2)), (hG, .inl (cG, 4, .inl g))] H := hP
  have hD : va_D A [(m0, .inr (2, [.ref hR, .int (nI ((L ++ [10]).length)), .int (nI op), .int (kI o), .int (nI tk), .int (nI lst), .int (nI ln), .ref hG, .int mn])), (hR, .inl (cR, 3000, .inl f2)), (hG, .inl (cG, 4, .inl g))] := hD
  refine lv_aload_n hx hb d_M_close_21 rfl (lv_at hl 0 rfl) ?_
  refine lv_iconst (v := nI 0) hx hb d_M_close_22 (by decide) ?_
  refine va_put (D := (dC, dI)) (ci := 2) (v := .int (nI 0)) (ty := .int) (C := R_M) (T := F_M) (N := 9) hx hb hts i_M t_M t_M_ok n_M hown hK hP hD hS 0 rfl rfl 2 (by decide) (hts _ m_173) (fun _ h9 => h9) rfl (by decide +kernel) rfl rfl (Nat.le_of_ble_eq_true rfl) d_M_close_23 (fun H locs hP hD hS => ?_)
  have hP : va_P (dC, dI) classes [(m0, .inr (2, [.ref hR, .int (nI ((L ++ [10]).length)), .int (nI 0), .int (kI o), .int (nI tk), .int (nI lst), .int (nI ln), .ref hG, .int mn])), (hR, .inl (cR, 3000, .inl f2)), (hG, .inl (cG, 4, .inl g))] H := hP
  have hD : va_D A [(m0, .inr (2, [.ref hR, .int (nI ((L ++ [10]).length)), .int (nI 0), .int (kI o), .int (nI tk), .int (nI lst), .int (nI ln), .ref hG, .int mn])), (hR, .inl (cR, 3000, .inl f2)), (hG, .inl (cG, 4, .inl g))] := hD
  refine lv_aload_n hx hb d_M_close_26 rfl (lv_at hl 0 rfl) ?_
  refine lv_iconst (v := -1) hx hb d_M_close_27 (by decide) ?_
  refine va_put (D := (dC, dI)) (ci := 2) (v := .int (-1)) (ty := .int) (C := R_M) (T := F_M) (N := 9) hx hb hts i_M t_M t_M_ok n_M hown hK hP hD hS 0 rfl rfl 3 (by decide) (hts _ m_174) (fun _ h9 => h9) rfl (by decide +kernel) rfl rfl (Nat.le_of_ble_eq_true rfl) d_M_close_28 (fun H locs hP hD hS => ?_)
  have hP : va_P (dC, dI) classes [(m0, .inr (2, [.ref hR, .int (nI ((L ++ [10]).length)), .int (nI 0), .int (-1), .int (nI tk), .int (nI lst), .int (nI ln), .ref hG, .int mn])), (hR, .inl (cR, 3000, .inl f2)), (hG, .inl (cG, 4, .inl g))] H := hP
  have hD : va_D A [(m0, .inr (2, [.ref hR, .int (nI ((L ++ [10]).length)), .int (nI 0), .int (-1), .int (nI tk), .int (nI lst), .int (nI ln), .ref hG, .int mn])), (hR, .inl (cR, 3000, .inl f2)), (hG, .inl (cG, 4, .inl g))] := hD
  exact ret_v C0 hS d_M_close_31 ((L ++ [10], 0, none, tk, lst, ln), f2, g, mn) ⟨⟨rfl, rfl⟩, hf2⟩ hP hD
set_option maxHeartbeats 4000000 in
set_option maxRecDepth 100000 in
theorem c_M_start (l : Launch) (dC : Nat → ClassId) (dI : Nat → Nat → Nat) (cR cG : ClassId) (m0 hR hG : Nat) (sz : Nat) (L : List Nat) (op : Nat) (o : Option Nat) (tk lst ln : Nat) (f g : Nat → Int32) (mn : Int32) (hf : RI f L) (k : Nat) (hk : k < 5) (hn : L.length + enN o < 3000) (ho : ∀ i, o = some i → i < 5) : MetMv l dC dI cR cG m0 hR hG sz y_M_start b_M_start 2 ({ frames := 1, cells := 0, slots := 0, locals := 21 }) [.int (nI k)] (L, op, o, tk, lst, ln) f g mn (fun (z : MZ) => z.1 = stF k (L, op, o, tk, lst, ln) ∧ z.2.2 = (g, mn)) := by
  refine enter (Qf := fun A => va_Qv (fun z : MZ => (fun (z : MZ) => z.1 = stF k (L, op, o, tk, lst, ln) ∧ z.2.2 = (g, mn)) z ∧ RI z.2.1 z.1.1) (PW dC dI A (fun z => wM m0 hR hG cR cG z.1 z.2.1 z.2.2.1 z.2.2.2)) A) (by decide) (Nat.le_of_ble_eq_true rfl) ?_
  intro p e s m below meth c A ls C0 hsz hA hK hP hD hS hX hl
  obtain ⟨hx, hb, hr, hml, hown, hlk, hnm, hts⟩ := id C0
  have hl : lv_has ls 2 [(0, .ref m0), (1, .int (nI k))] := hl
  have hP : va_P (dC, dI) classes [(m0, .inr (2, [.ref hR, .int (nI L.length), .int (nI op), .int (kI o), .int (nI tk), .int (nI lst), .int (nI ln), .ref hG, .int mn])), (hR, .inl (cR, 3000, .inl f)), (hG, .inl (cG, 4, .inl g))] s.heap := hP
  have hD : va_D A [(m0, .inr (2, [.ref hR, .int (nI L.length), .int (nI op), .int (kI o), .int (nI tk), .int (nI lst), .int (nI ln), .ref hG, .int mn])), (hR, .inl (cR, 3000, .inl f)), (hG, .inl (cG, 4, .inl g))] := hD
  cases o with
  | none =>
    have hP : va_P (dC, dI) classes [(m0, .inr (2, [.ref hR, .int (nI L.length), .int (nI op), .int (-1), .int (nI tk), .int (nI lst), .int (nI ln), .ref hG, .int mn])), (hR, .inl (cR, 3000, .inl f)), (hG, .inl (cG, 4, .inl g))] s.heap := hP
    have hD : va_D A [(m0, .inr (2, [.ref hR, .int (nI L.length), .int (nI op), .int (-1), .int (nI tk), .int (nI lst), .int (nI ln), .ref hG, .int mn])), (hR, .inl (cR, 3000, .inl f)), (hG, .inl (cG, 4, .inl g))] := hD
    simp only [enN] at hn
    refine lv_aload_n hx hb d_M_start_0 rfl (lv_at hl 0 rfl) ?_
    refine va_get (D := (dC, dI)) (ci := 2) (v := .int (-1)) (C := R_M) (T := F_M) (N := 9) hx hb hts i_M hown hK hP 0 rfl rfl 3 (by decide) (hts _ m_174) (fun _ h9 => h9) rfl d_M_start_1 ?_
    refine lv_if_lt (tgt := 11) hx hb d_M_start_4 (by decide) (fun c_1 => ?_) (fun c_1 => ?_)
    · refine lv_aload_n hx hb d_M_start_11 rfl (lv_at hl 0 rfl) ?_
      refine lv_iload_n hx hb d_M_start_12 rfl (lv_at hl 1 rfl) ?_
      refine va_put (D := (dC, dI)) (ci := 2) (v := .int (nI k)) (ty := .int) (C := R_M) (T := F_M) (N := 9) hx hb hts i_M t_M t_M_ok n_M hown hK hP hD hS 0 rfl rfl 3 (by decide) (hts _ m_174) (fun _ h9 => h9) rfl (by decide +kernel) rfl rfl (Nat.le_of_ble_eq_true rfl) d_M_start_13 (fun H locs hP hD hS => ?_)
      have hP : va_P (dC, dI) classes [(m0, .inr (2, [.ref hR, .int (nI L.length), .int (nI op), .int (nI k), .int (nI tk), .int (nI lst), .int (nI ln), .ref hG, .int mn])), (hR, .inl (cR, 3000, .inl f)), (hG, .inl (cG, 4, .inl g))] H := hP
      have hD : va_D A [(m0, .inr (2, [.ref hR, .int (nI L.length), .int (nI op), .int (nI k), .int (nI tk), .int (nI lst), .int (nI ln), .ref hG, .int mn])), (hR, .inl (cR, 3000, .inl f)), (hG, .inl (cG, 4, .inl g))] := hD
      refine lv_aload_n hx hb d_M_start_16 rfl (lv_at hl 0 rfl) ?_
      refine lv_iload_n hx hb d_M_start_17 rfl (lv_at hl 1 rfl) ?_
      refine lq_if_ne hx hb (by omega) (tgt := 26) d_M_start_18 (by decide) (fun c_2 => ?_) (fun c_2 => ?_)
      · refine lv_iload_n hx hb d_M_start_26 rfl (lv_at hl 1 rfl) ?_
        refine lv_iconst (v := nI 1) hx hb d_M_start_27 (by decide) ?_
        refine lq_icmp_ne hx hb (by omega) (by omega) (tgt := 36) d_M_start_28 (by decide) (fun c_3 => ?_) (fun c_3 => ?_)
        · refine lv_iload_n hx hb d_M_start_36 rfl (lv_at hl 1 rfl) ?_
          refine lv_iconst (v := nI 2) hx hb d_M_start_37 (by decide) ?_
          refine lq_icmp_ne hx hb (by omega) (by omega) (tgt := 46) d_M_start_38 (by decide) (fun c_4 => ?_) (fun c_4 => ?_)
          · refine lv_iload_n hx hb d_M_start_46 rfl (lv_at hl 1 rfl) ?_
            refine lv_iconst (v := nI 3) hx hb d_M_start_47 (by decide) ?_
            refine lq_icmp_ne hx hb (by omega) (by omega) (tgt := 56) d_M_start_48 (by decide) (fun c_5 => ?_) (fun c_5 => ?_)
            · refine lv_bipush (v := nI 45) hx hb d_M_start_56 (by decide) ?_
              refine lx_i (y := nI (letK k)) (by rw [show k = 4 by omega]; rfl) ?_
              refine gcall_v (q0 := 0) (wr := []) (As := [.int (nI (letK k))]) (rest := []) C0 g_M_39 (c_M_put l dC dI cR cG m0 hR hG H.size L op (some k) tk lst ln f g mn hf (letK k) (by first | omega | (rw [len1]; omega))) ⟨Nat.le_of_ble_eq_true rfl, Nat.le_of_ble_eq_true rfl⟩ ⟨rfl, rfl⟩ ⟨Nat.zero_le _, Nat.zero_le _⟩ d_M_start_58 rfl rfl (Nat.le_of_ble_eq_true rfl) hl.1 hK hP hD hS hA [0, 1, 2] [] [0, 1] rfl (by decide) rfl (by decide) (by decide) rfl rfl rfl (fun _ _ _ _ _ _ => trivial) (fun _ _ _ _ _ => trivial) (fun u H locs hw hP hD hS => ?_)
              obtain ⟨u, f, g, mn⟩ := u
              dsimp only at hw
              obtain ⟨⟨rfl, hs⟩, hf⟩ := hw
              obtain ⟨rfl, rfl⟩ := Prod.mk.inj hs.symm
              have hP : va_P (dC, dI) classes [(m0, .inr (2, [.ref hR, .int (nI ((L ++ [letK k]).length)), .int (nI (op + 1)), .int (nI k), .int (nI tk), .int (nI lst), .int (nI ln), .ref hG, .int mn])), (hR, .inl (cR, 3000, .inl f)), (hG, .inl (cG, 4, .inl g))] H := hP
              have hD : va_D A [(m0, .inr (2, [.ref hR, .int (nI ((L ++ [letK k]).length)), .int (nI (op + 1)), .int (nI k), .int (nI tk), .int (nI lst), .int (nI ln), .ref hG, .int mn])), (hR, .inl (cR, 3000, .inl f)), (hG, .inl (cG, 4, .inl g))] := hD
              exact ret_v C0 hS d_M_start_61 ((L ++ [letK k], op + 1, some k, tk, lst, ln), f, g, mn) ⟨⟨rfl, rfl⟩, hf⟩ hP hD
            · refine lv_bipush (v := nI 63) hx hb d_M_start_51 (by decide) ?_
              refine lv_goto (tgt := 58) hx hb d_M_start_53 (by decide) ?_
              refine lx_i (y := nI (letK k)) (by rw [c_5]; rfl) ?_
              refine gcall_v (q0 := 0) (wr := []) (As := [.int (nI (letK k))]) (rest := []) C0 g_M_39 (c_M_put l dC dI cR cG m0 hR hG H.size L op (some k) tk lst ln f g mn hf (letK k) (by first | omega | (rw [len1]; omega))) ⟨Nat.le_of_ble_eq_true rfl, Nat.le_of_ble_eq_true rfl⟩ ⟨rfl, rfl⟩ ⟨Nat.zero_le _, Nat.zero_le _⟩ d_M_start_58 rfl rfl (Nat.le_of_ble_eq_true rfl) hl.1 hK hP hD hS hA [0, 1, 2] [] [0, 1] rfl (by decide) rfl (by decide) (by decide) rfl rfl rfl (fun _ _ _ _ _ _ => trivial) (fun _ _ _ _ _ => trivial) (fun u H locs hw hP hD hS => ?_)
              obtain ⟨u, f, g, mn⟩ := u
              dsimp only at hw
              obtain ⟨⟨rfl, hs⟩, hf⟩ := hw
              obtain ⟨rfl, rfl⟩ := Prod.mk.inj hs.symm
              have hP : va_P (dC, dI) classes [(m0, .inr (2, [.ref hR, .int (nI ((L ++ [letK k]).length)), .int (nI (op + 1)), .int (nI k), .int (nI tk), .int (nI lst), .int (nI ln), .ref hG, .int mn])), (hR, .inl (cR, 3000, .inl f)), (hG, .inl (cG, 4, .inl g))] H := hP
              have hD : va_D A [(m0, .inr (2, [.ref hR, .int (nI ((L ++ [letK k]).length)), .int (nI (op + 1)), .int (nI k), .int (nI tk), .int (nI lst), .int (nI ln), .ref hG, .int mn])), (hR, .inl (cR, 3000, .inl f)), (hG, .inl (cG, 4, .inl g))] := hD
              exact ret_v C0 hS d_M_start_61 ((L ++ [letK k], op + 1, some k, tk, lst, ln), f, g, mn) ⟨⟨rfl, rfl⟩, hf⟩ hP hD
          · refine lv_bipush (v := nI 65) hx hb d_M_start_41 (by decide) ?_
            refine lv_goto (tgt := 58) hx hb d_M_start_43 (by decide) ?_
            refine lx_i (y := nI (letK k)) (by rw [c_4]; rfl) ?_
            refine gcall_v (q0 := 0) (wr := []) (As := [.int (nI (letK k))]) (rest := []) C0 g_M_39 (c_M_put l dC dI cR cG m0 hR hG H.size L op (some k) tk lst ln f g mn hf (letK k) (by first | omega | (rw [len1]; omega))) ⟨Nat.le_of_ble_eq_true rfl, Nat.le_of_ble_eq_true rfl⟩ ⟨rfl, rfl⟩ ⟨Nat.zero_le _, Nat.zero_le _⟩ d_M_start_58 rfl rfl (Nat.le_of_ble_eq_true rfl) hl.1 hK hP hD hS hA [0, 1, 2] [] [0, 1] rfl (by decide) rfl (by decide) (by decide) rfl rfl rfl (fun _ _ _ _ _ _ => trivial) (fun _ _ _ _ _ => trivial) (fun u H locs hw hP hD hS => ?_)
            obtain ⟨u, f, g, mn⟩ := u
            dsimp only at hw
            obtain ⟨⟨rfl, hs⟩, hf⟩ := hw
            obtain ⟨rfl, rfl⟩ := Prod.mk.inj hs.symm
            have hP : va_P (dC, dI) classes [(m0, .inr (2, [.ref hR, .int (nI ((L ++ [letK k]).length)), .int (nI (op + 1)), .int (nI k), .int (nI tk), .int (nI lst), .int (nI ln), .ref hG, .int mn])), (hR, .inl (cR, 3000, .inl f)), (hG, .inl (cG, 4, .inl g))] H := hP
            have hD : va_D A [(m0, .inr (2, [.ref hR, .int (nI ((L ++ [letK k]).length)), .int (nI (op + 1)), .int (nI k), .int (nI tk), .int (nI lst), .int (nI ln), .ref hG, .int mn])), (hR, .inl (cR, 3000, .inl f)), (hG, .inl (cG, 4, .inl g))] := hD
            exact ret_v C0 hS d_M_start_61 ((L ++ [letK k], op + 1, some k, tk, lst, ln), f, g, mn) ⟨⟨rfl, rfl⟩, hf⟩ hP hD
        · refine lv_bipush (v := nI 41) hx hb d_M_start_31 (by decide) ?_
          refine lv_goto (tgt := 58) hx hb d_M_start_33 (by decide) ?_
          refine lx_i (y := nI (letK k)) (by rw [c_3]; rfl) ?_
          refine gcall_v (q0 := 0) (wr := []) (As := [.int (nI (letK k))]) (rest := []) C0 g_M_39 (c_M_put l dC dI cR cG m0 hR hG H.size L op (some k) tk lst ln f g mn hf (letK k) (by first | omega | (rw [len1]; omega))) ⟨Nat.le_of_ble_eq_true rfl, Nat.le_of_ble_eq_true rfl⟩ ⟨rfl, rfl⟩ ⟨Nat.zero_le _, Nat.zero_le _⟩ d_M_start_58 rfl rfl (Nat.le_of_ble_eq_true rfl) hl.1 hK hP hD hS hA [0, 1, 2] [] [0, 1] rfl (by decide) rfl (by decide) (by decide) rfl rfl rfl (fun _ _ _ _ _ _ => trivial) (fun _ _ _ _ _ => trivial) (fun u H locs hw hP hD hS => ?_)
          obtain ⟨u, f, g, mn⟩ := u
          dsimp only at hw
          obtain ⟨⟨rfl, hs⟩, hf⟩ := hw
          obtain ⟨rfl, rfl⟩ := Prod.mk.inj hs.symm
          have hP : va_P (dC, dI) classes [(m0, .inr (2, [.ref hR, .int (nI ((L ++ [letK k]).length)), .int (nI (op + 1)), .int (nI k), .int (nI tk), .int (nI lst), .int (nI ln), .ref hG, .int mn])), (hR, .inl (cR, 3000, .inl f)), (hG, .inl (cG, 4, .inl g))] H := hP
          have hD : va_D A [(m0, .inr (2, [.ref hR, .int (nI ((L ++ [letK k]).length)), .int (nI (op + 1)), .int (nI k), .int (nI tk), .int (nI lst), .int (nI ln), .ref hG, .int mn])), (hR, .inl (cR, 3000, .inl f)), (hG, .inl (cG, 4, .inl g))] := hD
          exact ret_v C0 hS d_M_start_61 ((L ++ [letK k], op + 1, some k, tk, lst, ln), f, g, mn) ⟨⟨rfl, rfl⟩, hf⟩ hP hD
      · refine lv_bipush (v := nI 40) hx hb d_M_start_21 (by decide) ?_
        refine lv_goto (tgt := 58) hx hb d_M_start_23 (by decide) ?_
        refine lx_i (y := nI (letK k)) (by rw [c_2]; rfl) ?_
        refine gcall_v (q0 := 0) (wr := []) (As := [.int (nI (letK k))]) (rest := []) C0 g_M_39 (c_M_put l dC dI cR cG m0 hR hG H.size L op (some k) tk lst ln f g mn hf (letK k) (by first | omega | (rw [len1]; omega))) ⟨Nat.le_of_ble_eq_true rfl, Nat.le_of_ble_eq_true rfl⟩ ⟨rfl, rfl⟩ ⟨Nat.zero_le _, Nat.zero_le _⟩ d_M_start_58 rfl rfl (Nat.le_of_ble_eq_true rfl) hl.1 hK hP hD hS hA [0, 1, 2] [] [0, 1] rfl (by decide) rfl (by decide) (by decide) rfl rfl rfl (fun _ _ _ _ _ _ => trivial) (fun _ _ _ _ _ => trivial) (fun u H locs hw hP hD hS => ?_)
        obtain ⟨u, f, g, mn⟩ := u
        dsimp only at hw
        obtain ⟨⟨rfl, hs⟩, hf⟩ := hw
        obtain ⟨rfl, rfl⟩ := Prod.mk.inj hs.symm
        have hP : va_P (dC, dI) classes [(m0, .inr (2, [.ref hR, .int (nI ((L ++ [letK k]).length)), .int (nI (op + 1)), .int (nI k), .int (nI tk), .int (nI lst), .int (nI ln), .ref hG, .int mn])), (hR, .inl (cR, 3000, .inl f)), (hG, .inl (cG, 4, .inl g))] H := hP
        have hD : va_D A [(m0, .inr (2, [.ref hR, .int (nI ((L ++ [letK k]).length)), .int (nI (op + 1)), .int (nI k), .int (nI tk), .int (nI lst), .int (nI ln), .ref hG, .int mn])), (hR, .inl (cR, 3000, .inl f)), (hG, .inl (cG, 4, .inl g))] := hD
        exact ret_v C0 hS d_M_start_61 ((L ++ [letK k], op + 1, some k, tk, lst, ln), f, g, mn) ⟨⟨rfl, rfl⟩, hf⟩ hP hD
    · exact absurd (by decide) c_1
  | some i =>
    have hi := ho i rfl
    have hP : va_P (dC, dI) classes [(m0, .inr (2, [.ref hR, .int (nI L.length), .int (nI op), .int (nI i), .int (nI tk), .int (nI lst), .int (nI ln), .ref hG, .int mn])), (hR, .inl (cR, 3000, .inl f)), (hG, .inl (cG, 4, .inl g))] s.heap := hP
    have hD : va_D A [(m0, .inr (2, [.ref hR, .int (nI L.length), .int (nI op), .int (nI i), .int (nI tk), .int (nI lst), .int (nI ln), .ref hG, .int mn])), (hR, .inl (cR, 3000, .inl f)), (hG, .inl (cG, 4, .inl g))] := hD
    simp only [enN] at hn
    refine lv_aload_n hx hb d_M_start_0 rfl (lv_at hl 0 rfl) ?_
    refine va_get (D := (dC, dI)) (ci := 2) (v := .int (nI i)) (C := R_M) (T := F_M) (N := 9) hx hb hts i_M hown hK hP 0 rfl rfl 3 (by decide) (hts _ m_174) (fun _ h9 => h9) rfl d_M_start_1 ?_
    refine lq_if_lt hx hb (by omega) (tgt := 11) d_M_start_4 (by decide) ?_
    refine lv_aload_n hx hb d_M_start_7 rfl (lv_at hl 0 rfl) ?_
    refine gcall_v (q0 := 0) (wr := []) (As := []) (rest := []) C0 g_M_36 (c_M_close l dC dI cR cG m0 hR hG s.heap.size L op (some i) tk lst ln f g mn hf (by omega)) ⟨Nat.le_of_ble_eq_true rfl, Nat.le_of_ble_eq_true rfl⟩ ⟨rfl, rfl⟩ ⟨Nat.zero_le _, Nat.zero_le _⟩ d_M_start_8 rfl rfl (Nat.le_of_ble_eq_true rfl) hl.1 hK hP hD hS hA [0, 1, 2] [] [0, 1] rfl (by decide) rfl (by decide) (by decide) rfl rfl rfl (fun _ _ _ _ _ _ => trivial) (fun _ _ _ _ _ => trivial) (fun u H locs hw hP hD hS => ?_)
    obtain ⟨u, f, g, mn⟩ := u
    dsimp only at hw
    obtain ⟨⟨rfl, hs⟩, hf⟩ := hw
    obtain ⟨rfl, rfl⟩ := Prod.mk.inj hs.symm
    have hf : RI f (L ++ [10]) := hf
    have hP : va_P (dC, dI) classes [(m0, .inr (2, [.ref hR, .int (nI ((L ++ [10]).length)), .int (nI 0), .int (-1), .int (nI tk), .int (nI lst), .int (nI ln), .ref hG, .int mn])), (hR, .inl (cR, 3000, .inl f)), (hG, .inl (cG, 4, .inl g))] H := hP
    have hD : va_D A [(m0, .inr (2, [.ref hR, .int (nI ((L ++ [10]).length)), .int (nI 0), .int (-1), .int (nI tk), .int (nI lst), .int (nI ln), .ref hG, .int mn])), (hR, .inl (cR, 3000, .inl f)), (hG, .inl (cG, 4, .inl g))] := hD
    refine lv_aload_n hx hb d_M_start_11 rfl (lv_at hl 0 rfl) ?_
    refine lv_iload_n hx hb d_M_start_12 rfl (lv_at hl 1 rfl) ?_
    refine va_put (D := (dC, dI)) (ci := 2) (v := .int (nI k)) (ty := .int) (C := R_M) (T := F_M) (N := 9) hx hb hts i_M t_M t_M_ok n_M hown hK hP hD hS 0 rfl rfl 3 (by decide) (hts _ m_174) (fun _ h9 => h9) rfl (by decide +kernel) rfl rfl (Nat.le_of_ble_eq_true rfl) d_M_start_13 (fun H locs hP hD hS => ?_)
    have hP : va_P (dC, dI) classes [(m0, .inr (2, [.ref hR, .int (nI ((L ++ [10]).length)), .int (nI 0), .int (nI k), .int (nI tk), .int (nI lst), .int (nI ln), .ref hG, .int mn])), (hR, .inl (cR, 3000, .inl f)), (hG, .inl (cG, 4, .inl g))] H := hP
    have hD : va_D A [(m0, .inr (2, [.ref hR, .int (nI ((L ++ [10]).length)), .int (nI 0), .int (nI k), .int (nI tk), .int (nI lst), .int (nI ln), .ref hG, .int mn])), (hR, .inl (cR, 3000, .inl f)), (hG, .inl (cG, 4, .inl g))] := hD
    refine lv_aload_n hx hb d_M_start_16 rfl (lv_at hl 0 rfl) ?_
    refine lv_iload_n hx hb d_M_start_17 rfl (lv_at hl 1 rfl) ?_
    refine lq_if_ne hx hb (by omega) (tgt := 26) d_M_start_18 (by decide) (fun c_7 => ?_) (fun c_7 => ?_)
    · refine lv_iload_n hx hb d_M_start_26 rfl (lv_at hl 1 rfl) ?_
      refine lv_iconst (v := nI 1) hx hb d_M_start_27 (by decide) ?_
      refine lq_icmp_ne hx hb (by omega) (by omega) (tgt := 36) d_M_start_28 (by decide) (fun c_8 => ?_) (fun c_8 => ?_)
      · refine lv_iload_n hx hb d_M_start_36 rfl (lv_at hl 1 rfl) ?_
        refine lv_iconst (v := nI 2) hx hb d_M_start_37 (by decide) ?_
        refine lq_icmp_ne hx hb (by omega) (by omega) (tgt := 46) d_M_start_38 (by decide) (fun c_9 => ?_) (fun c_9 => ?_)
        · refine lv_iload_n hx hb d_M_start_46 rfl (lv_at hl 1 rfl) ?_
          refine lv_iconst (v := nI 3) hx hb d_M_start_47 (by decide) ?_
          refine lq_icmp_ne hx hb (by omega) (by omega) (tgt := 56) d_M_start_48 (by decide) (fun c_10 => ?_) (fun c_10 => ?_)
          · refine lv_bipush (v := nI 45) hx hb d_M_start_56 (by decide) ?_
            refine lx_i (y := nI (letK k)) (by rw [show k = 4 by omega]; rfl) ?_
            refine gcall_v (q0 := 0) (wr := []) (As := [.int (nI (letK k))]) (rest := []) C0 g_M_39 (c_M_put l dC dI cR cG m0 hR hG H.size (L ++ [10]) 0 (some k) tk lst ln f g mn hf (letK k) (by first | omega | (rw [len1]; omega))) ⟨Nat.le_of_ble_eq_true rfl, Nat.le_of_ble_eq_true rfl⟩ ⟨rfl, rfl⟩ ⟨Nat.zero_le _, Nat.zero_le _⟩ d_M_start_58 rfl rfl (Nat.le_of_ble_eq_true rfl) hl.1 hK hP hD hS hA [0, 1, 2] [] [0, 1] rfl (by decide) rfl (by decide) (by decide) rfl rfl rfl (fun _ _ _ _ _ _ => trivial) (fun _ _ _ _ _ => trivial) (fun u H locs hw hP hD hS => ?_)
            obtain ⟨u, f, g, mn⟩ := u
            dsimp only at hw
            obtain ⟨⟨rfl, hs⟩, hf⟩ := hw
            obtain ⟨rfl, rfl⟩ := Prod.mk.inj hs.symm
            have hP : va_P (dC, dI) classes [(m0, .inr (2, [.ref hR, .int (nI (((L ++ [10]) ++ [letK k]).length)), .int (nI (0 + 1)), .int (nI k), .int (nI tk), .int (nI lst), .int (nI ln), .ref hG, .int mn])), (hR, .inl (cR, 3000, .inl f)), (hG, .inl (cG, 4, .inl g))] H := hP
            have hD : va_D A [(m0, .inr (2, [.ref hR, .int (nI (((L ++ [10]) ++ [letK k]).length)), .int (nI (0 + 1)), .int (nI k), .int (nI tk), .int (nI lst), .int (nI ln), .ref hG, .int mn])), (hR, .inl (cR, 3000, .inl f)), (hG, .inl (cG, 4, .inl g))] := hD
            exact ret_v C0 hS d_M_start_61 (((L ++ [10]) ++ [letK k], 0 + 1, some k, tk, lst, ln), f, g, mn) ⟨⟨rfl, rfl⟩, hf⟩ hP hD
          · refine lv_bipush (v := nI 63) hx hb d_M_start_51 (by decide) ?_
            refine lv_goto (tgt := 58) hx hb d_M_start_53 (by decide) ?_
            refine lx_i (y := nI (letK k)) (by rw [c_10]; rfl) ?_
            refine gcall_v (q0 := 0) (wr := []) (As := [.int (nI (letK k))]) (rest := []) C0 g_M_39 (c_M_put l dC dI cR cG m0 hR hG H.size (L ++ [10]) 0 (some k) tk lst ln f g mn hf (letK k) (by first | omega | (rw [len1]; omega))) ⟨Nat.le_of_ble_eq_true rfl, Nat.le_of_ble_eq_true rfl⟩ ⟨rfl, rfl⟩ ⟨Nat.zero_le _, Nat.zero_le _⟩ d_M_start_58 rfl rfl (Nat.le_of_ble_eq_true rfl) hl.1 hK hP hD hS hA [0, 1, 2] [] [0, 1] rfl (by decide) rfl (by decide) (by decide) rfl rfl rfl (fun _ _ _ _ _ _ => trivial) (fun _ _ _ _ _ => trivial) (fun u H locs hw hP hD hS => ?_)
            obtain ⟨u, f, g, mn⟩ := u
            dsimp only at hw
            obtain ⟨⟨rfl, hs⟩, hf⟩ := hw
            obtain ⟨rfl, rfl⟩ := Prod.mk.inj hs.symm
            have hP : va_P (dC, dI) classes [(m0, .inr (2, [.ref hR, .int (nI (((L ++ [10]) ++ [letK k]).length)), .int (nI (0 + 1)), .int (nI k), .int (nI tk), .int (nI lst), .int (nI ln), .ref hG, .int mn])), (hR, .inl (cR, 3000, .inl f)), (hG, .inl (cG, 4, .inl g))] H := hP
            have hD : va_D A [(m0, .inr (2, [.ref hR, .int (nI (((L ++ [10]) ++ [letK k]).length)), .int (nI (0 + 1)), .int (nI k), .int (nI tk), .int (nI lst), .int (nI ln), .ref hG, .int mn])), (hR, .inl (cR, 3000, .inl f)), (hG, .inl (cG, 4, .inl g))] := hD
            exact ret_v C0 hS d_M_start_61 (((L ++ [10]) ++ [letK k], 0 + 1, some k, tk, lst, ln), f, g, mn) ⟨⟨rfl, rfl⟩, hf⟩ hP hD
        · refine lv_bipush (v := nI 65) hx hb d_M_start_41 (by decide) ?_
          refine lv_goto (tgt := 58) hx hb d_M_start_43 (by decide) ?_
          refine lx_i (y := nI (letK k)) (by rw [c_9]; rfl) ?_
          refine gcall_v (q0 := 0) (wr := []) (As := [.int (nI (letK k))]) (rest := []) C0 g_M_39 (c_M_put l dC dI cR cG m0 hR hG H.size (L ++ [10]) 0 (some k) tk lst ln f g mn hf (letK k) (by first | omega | (rw [len1]; omega))) ⟨Nat.le_of_ble_eq_true rfl, Nat.le_of_ble_eq_true rfl⟩ ⟨rfl, rfl⟩ ⟨Nat.zero_le _, Nat.zero_le _⟩ d_M_start_58 rfl rfl (Nat.le_of_ble_eq_true rfl) hl.1 hK hP hD hS hA [0, 1, 2] [] [0, 1] rfl (by decide) rfl (by decide) (by decide) rfl rfl rfl (fun _ _ _ _ _ _ => trivial) (fun _ _ _ _ _ => trivial) (fun u H locs hw hP hD hS => ?_)
          obtain ⟨u, f, g, mn⟩ := u
          dsimp only at hw
          obtain ⟨⟨rfl, hs⟩, hf⟩ := hw
          obtain ⟨rfl, rfl⟩ := Prod.mk.inj hs.symm
          have hP : va_P (dC, dI) classes [(m0, .inr (2, [.ref hR, .int (nI (((L ++ [10]) ++ [letK k]).length)), .int (nI (0 + 1)), .int (nI k), .int (nI tk), .int (nI lst), .int (nI ln), .ref hG, .int mn])), (hR, .inl (cR, 3000, .inl f)), (hG, .inl (cG, 4, .inl g))] H := hP
          have hD : va_D A [(m0, .inr (2, [.ref hR, .int (nI (((L ++ [10]) ++ [letK k]).length)), .int (nI (0 + 1)), .int (nI k), .int (nI tk), .int (nI lst), .int (nI ln), .ref hG, .int mn])), (hR, .inl (cR, 3000, .inl f)), (hG, .inl (cG, 4, .inl g))] := hD
          exact ret_v C0 hS d_M_start_61 (((L ++ [10]) ++ [letK k], 0 + 1, some k, tk, lst, ln), f, g, mn) ⟨⟨rfl, rfl⟩, hf⟩ hP hD
      · refine lv_bipush (v := nI 41) hx hb d_M_start_31 (by decide) ?_
        refine lv_goto (tgt := 58) hx hb d_M_start_33 (by decide) ?_
        refine lx_i (y := nI (letK k)) (by rw [c_8]; rfl) ?_
        refine gcall_v (q0 := 0) (wr := []) (As := [.int (nI (letK k))]) (rest := []) C0 g_M_39 (c_M_put l dC dI cR cG m0 hR hG H.size (L ++ [10]) 0 (some k) tk lst ln f g mn hf (letK k) (by first | omega | (rw [len1]; omega))) ⟨Nat.le_of_ble_eq_true rfl, Nat.le_of_ble_eq_true rfl⟩ ⟨rfl, rfl⟩ ⟨Nat.zero_le _, Nat.zero_le _⟩ d_M_start_58 rfl rfl (Nat.le_of_ble_eq_true rfl) hl.1 hK hP hD hS hA [0, 1, 2] [] [0, 1] rfl (by decide) rfl (by decide) (by decide) rfl rfl rfl (fun _ _ _ _ _ _ => trivial) (fun _ _ _ _ _ => trivial) (fun u H locs hw hP hD hS => ?_)
        obtain ⟨u, f, g, mn⟩ := u
        dsimp only at hw
        obtain ⟨⟨rfl, hs⟩, hf⟩ := hw
        obtain ⟨rfl, rfl⟩ := Prod.mk.inj hs.symm
        have hP : va_P (dC, dI) classes [(m0, .inr (2, [.ref hR, .int (nI (((L ++ [10]) ++ [letK k]).length)), .int (nI (0 + 1)), .int (nI k), .int (nI tk), .int (nI lst), .int (nI ln), .ref hG, .int mn])), (hR, .inl (cR, 3000, .inl f)), (hG, .inl (cG, 4, .inl g))] H := hP
        have hD : va_D A [(m0, .inr (2, [.ref hR, .int (nI (((L ++ [10]) ++ [letK k]).length)), .int (nI (0 + 1)), .int (nI k), .int (nI tk), .int (nI lst), .int (nI ln), .ref hG, .int mn])), (hR, .inl (cR, 3000, .inl f)), (hG, .inl (cG, 4, .inl g))] := hD
        exact ret_v C0 hS d_M_start_61 (((L ++ [10]) ++ [letK k], 0 + 1, some k, tk, lst, ln), f, g, mn) ⟨⟨rfl, rfl⟩, hf⟩ hP hD
    · refine lv_bipush (v := nI 40) hx hb d_M_start_21 (by decide) ?_
      refine lv_goto (tgt := 58) hx hb d_M_start_23 (by decide) ?_
      refine lx_i (y := nI (letK k)) (by rw [c_7]; rfl) ?_
      refine gcall_v (q0 := 0) (wr := []) (As := [.int (nI (letK k))]) (rest := []) C0 g_M_39 (c_M_put l dC dI cR cG m0 hR hG H.size (L ++ [10]) 0 (some k) tk lst ln f g mn hf (letK k) (by first | omega | (rw [len1]; omega))) ⟨Nat.le_of_ble_eq_true rfl, Nat.le_of_ble_eq_true rfl⟩ ⟨rfl, rfl⟩ ⟨Nat.zero_le _, Nat.zero_le _⟩ d_M_start_58 rfl rfl (Nat.le_of_ble_eq_true rfl) hl.1 hK hP hD hS hA [0, 1, 2] [] [0, 1] rfl (by decide) rfl (by decide) (by decide) rfl rfl rfl (fun _ _ _ _ _ _ => trivial) (fun _ _ _ _ _ => trivial) (fun u H locs hw hP hD hS => ?_)
      obtain ⟨u, f, g, mn⟩ := u
      dsimp only at hw
      obtain ⟨⟨rfl, hs⟩, hf⟩ := hw
      obtain ⟨rfl, rfl⟩ := Prod.mk.inj hs.symm
      have hP : va_P (dC, dI) classes [(m0, .inr (2, [.ref hR, .int (nI (((L ++ [10]) ++ [letK k]).length)), .int (nI (0 + 1)), .int (nI k), .int (nI tk), .int (nI lst), .int (nI ln), .ref hG, .int mn])), (hR, .inl (cR, 3000, .inl f)), (hG, .inl (cG, 4, .inl g))] H := hP
      have hD : va_D A [(m0, .inr (2, [.ref hR, .int (nI (((L ++ [10]) ++ [letK k]).length)), .int (nI (0 + 1)), .int (nI k), .int (nI tk), .int (nI lst), .int (nI ln), .ref hG, .int mn])), (hR, .inl (cR, 3000, .inl f)), (hG, .inl (cG, 4, .inl g))] := hD
      exact ret_v C0 hS d_M_start_61 (((L ++ [10]) ++ [letK k], 0 + 1, some k, tk, lst, ln), f, g, mn) ⟨⟨rfl, rfl⟩, hf⟩ hP hD
set_option maxHeartbeats 4000000 in
set_option maxRecDepth 100000 in
theorem c_M_beginOut (l : Launch) (dC : Nat → ClassId) (dI : Nat → Nat → Nat) (cR cG : ClassId) (m0 hR hG : Nat) (sz : Nat) (L : List Nat) (op : Nat) (o : Option Nat) (tk lst ln : Nat) (f g : Nat → Int32) (mn : Int32) (hf : RI f L) (x : Int32) (hx1 : x < 0 ∨ 3 < x) : MetMi l dC dI cR cG m0 hR hG sz y_M_begin b_M_begin 2 .boolean ({ frames := 2, cells := 0, slots := 0, locals := 42 }) [.int x] (L, op, o, tk, lst, ln) f g mn (fun r (z : MZ) => r = 0 ∧ z.1 = (L, op, o, tk, lst, ln)) := by
  refine enter (Qf := fun A => va_Qi (fun r (z : MZ) => (fun r (z : MZ) => r = 0 ∧ z.1 = (L, op, o, tk, lst, ln)) r z ∧ RI z.2.1 z.1.1) (PW dC dI A (fun z => wM m0 hR hG cR cG z.1 z.2.1 z.2.2.1 z.2.2.2)) A) (by decide) (Nat.le_of_ble_eq_true rfl) ?_
  intro p e s m below meth c A ls C0 hsz hA hK hP hD hS hX hl
  obtain ⟨hx, hb, hr, hml, hown, hlk, hnm, hts⟩ := id C0
  have hl : lv_has ls 2 [(0, .ref m0), (1, .int x)] := hl
  have hP : va_P (dC, dI) classes [(m0, .inr (2, [.ref hR, .int (nI L.length), .int (nI op), .int (kI o), .int (nI tk), .int (nI lst), .int (nI ln), .ref hG, .int mn])), (hR, .inl (cR, 3000, .inl f)), (hG, .inl (cG, 4, .inl g))] s.heap := hP
  have hD : va_D A [(m0, .inr (2, [.ref hR, .int (nI L.length), .int (nI op), .int (kI o), .int (nI tk), .int (nI lst), .int (nI ln), .ref hG, .int mn])), (hR, .inl (cR, 3000, .inl f)), (hG, .inl (cG, 4, .inl g))] := hD
  refine lv_iload_n hx hb d_M_begin_0 rfl (lv_at hl 1 rfl) ?_
  refine lv_if_lt (tgt := 34) hx hb d_M_begin_1 (by decide) (fun c_1 => ?_) (fun c_1 => ?_)
  · refine lv_iconst (v := nI 0) hx hb d_M_begin_34 (by decide) ?_
    exact ret_i C0 hS d_M_begin_35 rfl ((L, op, o, tk, lst, ln), f, g, mn) ⟨⟨rfl, rfl⟩, hf⟩ hP hD
  · refine lv_iload_n hx hb d_M_begin_4 rfl (lv_at hl 1 rfl) ?_
    refine lv_iconst (v := nI 3) hx hb d_M_begin_5 (by decide) ?_
    refine lv_icmp_gt (tgt := 34) hx hb d_M_begin_6 (by decide) (fun c_2 => ?_) (fun c_2 => ?_)
    · refine lv_iconst (v := nI 0) hx hb d_M_begin_34 (by decide) ?_
      exact ret_i C0 hS d_M_begin_35 rfl ((L, op, o, tk, lst, ln), f, g, mn) ⟨⟨rfl, rfl⟩, hf⟩ hP hD
    · exact absurd (by rcases hx1 with q | q; exact absurd q c_1; exact q) c_2
set_option maxHeartbeats 4000000 in
set_option maxRecDepth 100000 in
theorem c_M_beginIn (l : Launch) (dC : Nat → ClassId) (dI : Nat → Nat → Nat) (cR cG : ClassId) (m0 hR hG : Nat) (sz : Nat) (L : List Nat) (op : Nat) (o : Option Nat) (tk lst ln : Nat) (f g : Nat → Int32) (mn : Int32) (hf : RI f L) (k : Nat) (hk : k < 4) (hL : L.length ≤ 3000) (ho : ∀ i, o = some i → i < 5) : MetMi l dC dI cR cG m0 hR hG sz y_M_begin b_M_begin 2 .boolean ({ frames := 2, cells := 0, slots := 0, locals := 42 }) [.int (nI k)] (L, op, o, tk, lst, ln) f g mn (fun r (z : MZ) => if L.length + enN o + 2 ≤ 3000 then r = 1 ∧ z.1 = stF k (L, op, o, tk, lst, ln) else r = 0 ∧ z.1 = (L, op, o, tk, lst, ln)) := by
  refine enter (Qf := fun A => va_Qi (fun r (z : MZ) => (fun r (z : MZ) => if L.length + enN o + 2 ≤ 3000 then r = 1 ∧ z.1 = stF k (L, op, o, tk, lst, ln) else r = 0 ∧ z.1 = (L, op, o, tk, lst, ln)) r z ∧ RI z.2.1 z.1.1) (PW dC dI A (fun z => wM m0 hR hG cR cG z.1 z.2.1 z.2.2.1 z.2.2.2)) A) (by decide) (Nat.le_of_ble_eq_true rfl) ?_
  intro p e s m below meth c A ls C0 hsz hA hK hP hD hS hX hl
  obtain ⟨hx, hb, hr, hml, hown, hlk, hnm, hts⟩ := id C0
  have hl : lv_has ls 2 [(0, .ref m0), (1, .int (nI k))] := hl
  have hP : va_P (dC, dI) classes [(m0, .inr (2, [.ref hR, .int (nI L.length), .int (nI op), .int (kI o), .int (nI tk), .int (nI lst), .int (nI ln), .ref hG, .int mn])), (hR, .inl (cR, 3000, .inl f)), (hG, .inl (cG, 4, .inl g))] s.heap := hP
  have hD : va_D A [(m0, .inr (2, [.ref hR, .int (nI L.length), .int (nI op), .int (kI o), .int (nI tk), .int (nI lst), .int (nI ln), .ref hG, .int mn])), (hR, .inl (cR, 3000, .inl f)), (hG, .inl (cG, 4, .inl g))] := hD
  cases o with
  | none =>
    have hP : va_P (dC, dI) classes [(m0, .inr (2, [.ref hR, .int (nI L.length), .int (nI op), .int (-1), .int (nI tk), .int (nI lst), .int (nI ln), .ref hG, .int mn])), (hR, .inl (cR, 3000, .inl f)), (hG, .inl (cG, 4, .inl g))] s.heap := hP
    have hD : va_D A [(m0, .inr (2, [.ref hR, .int (nI L.length), .int (nI op), .int (-1), .int (nI tk), .int (nI lst), .int (nI ln), .ref hG, .int mn])), (hR, .inl (cR, 3000, .inl f)), (hG, .inl (cG, 4, .inl g))] := hD
    refine lv_iload_n hx hb d_M_begin_0 rfl (lv_at hl 1 rfl) ?_
    refine lq_if_lt hx hb (by omega) (tgt := 34) d_M_begin_1 (by decide) ?_
    refine lv_iload_n hx hb d_M_begin_4 rfl (lv_at hl 1 rfl) ?_
    refine lv_iconst (v := nI 3) hx hb d_M_begin_5 (by decide) ?_
    refine lq_icmp_gt hx hb (by omega) (by omega) (tgt := 34) d_M_begin_6 (by decide) (fun c_2 => ?_) (fun c_2 => ?_)
    · exact absurd c_2 (by omega)
    · refine lv_aload_n hx hb d_M_begin_9 rfl (lv_at hl 0 rfl) ?_
      refine va_get (D := (dC, dI)) (ci := 2) (v := .int (nI L.length)) (C := R_M) (T := F_M) (N := 9) hx hb hts i_M hown hK hP 0 rfl rfl 1 (by decide) (hts _ m_172) (fun _ h9 => h9) rfl d_M_begin_10 ?_
      refine lv_aload_n hx hb d_M_begin_13 rfl (lv_at hl 0 rfl) ?_
      refine va_get (D := (dC, dI)) (ci := 2) (v := .int (-1)) (C := R_M) (T := F_M) (N := 9) hx hb hts i_M hown hK hP 0 rfl rfl 3 (by decide) (hts _ m_174) (fun _ h9 => h9) rfl d_M_begin_14 ?_
      refine lv_if_lt (tgt := 24) hx hb d_M_begin_17 (by decide) (fun c_3 => ?_) (fun c_3 => ?_)
      · refine lv_iconst (v := nI 0) hx hb d_M_begin_24 (by decide) ?_
        refine lq_add hx hb d_M_begin_25 ?_
        refine lv_iconst (v := nI 2) hx hb d_M_begin_26 (by decide) ?_
        refine lq_add hx hb d_M_begin_27 ?_
        refine lv_sipush (v := nI 3000) hx hb d_M_begin_28 (by decide) ?_
        refine lq_icmp_le hx hb (by omega) (by omega) (tgt := 36) d_M_begin_31 (by decide) (fun c_4 => ?_) (fun c_4 => ?_)
        · refine lv_aload_n hx hb d_M_begin_36 rfl (lv_at hl 0 rfl) ?_
          refine lv_iload_n hx hb d_M_begin_37 rfl (lv_at hl 1 rfl) ?_
          refine gcall_v (q0 := 0) (wr := []) (As := [.int (nI k)]) (rest := []) C0 g_M_43 (c_M_start l dC dI cR cG m0 hR hG s.heap.size L op none tk lst ln f g mn hf k (by omega) (by simp only [enN]; omega) ho) ⟨Nat.le_of_ble_eq_true rfl, Nat.le_of_ble_eq_true rfl⟩ ⟨rfl, rfl⟩ ⟨Nat.zero_le _, Nat.zero_le _⟩ d_M_begin_38 rfl rfl (Nat.le_of_ble_eq_true rfl) hl.1 hK hP hD hS hA [0, 1, 2] [] [0, 1] rfl (by decide) rfl (by decide) (by decide) rfl rfl rfl (fun _ _ _ _ _ _ => trivial) (fun _ _ _ _ _ => trivial) (fun u H locs hw hP hD hS => ?_)
          obtain ⟨u, f, g, mn⟩ := u
          dsimp only at hw
          obtain ⟨⟨rfl, hs⟩, hf⟩ := hw
          obtain ⟨rfl, rfl⟩ := Prod.mk.inj hs.symm
          refine lv_iconst (v := nI 1) hx hb d_M_begin_41 (by decide) ?_
          exact ret_i C0 hS d_M_begin_42 rfl (stF k (L, op, none, tk, lst, ln), f, g, mn) ⟨by dsimp only; rw [if_pos (show L.length + enN none + 2 ≤ 3000 by simp only [enN]; omega)]; exact ⟨rfl, rfl⟩, hf⟩ hP hD
        · refine lv_iconst (v := nI 0) hx hb d_M_begin_34 (by decide) ?_
          exact ret_i C0 hS d_M_begin_35 rfl ((L, op, none, tk, lst, ln), f, g, mn) ⟨by dsimp only; rw [if_neg (show ¬ L.length + enN none + 2 ≤ 3000 by simp only [enN]; omega)]; exact ⟨rfl, rfl⟩, hf⟩ hP hD
      · exact absurd (by decide) c_3
  | some i =>
    have hi := ho i rfl
    have hP : va_P (dC, dI) classes [(m0, .inr (2, [.ref hR, .int (nI L.length), .int (nI op), .int (nI i), .int (nI tk), .int (nI lst), .int (nI ln), .ref hG, .int mn])), (hR, .inl (cR, 3000, .inl f)), (hG, .inl (cG, 4, .inl g))] s.heap := hP
    have hD : va_D A [(m0, .inr (2, [.ref hR, .int (nI L.length), .int (nI op), .int (nI i), .int (nI tk), .int (nI lst), .int (nI ln), .ref hG, .int mn])), (hR, .inl (cR, 3000, .inl f)), (hG, .inl (cG, 4, .inl g))] := hD
    refine lv_iload_n hx hb d_M_begin_0 rfl (lv_at hl 1 rfl) ?_
    refine lq_if_lt hx hb (by omega) (tgt := 34) d_M_begin_1 (by decide) ?_
    refine lv_iload_n hx hb d_M_begin_4 rfl (lv_at hl 1 rfl) ?_
    refine lv_iconst (v := nI 3) hx hb d_M_begin_5 (by decide) ?_
    refine lq_icmp_gt hx hb (by omega) (by omega) (tgt := 34) d_M_begin_6 (by decide) (fun c_6 => ?_) (fun c_6 => ?_)
    · exact absurd c_6 (by omega)
    · refine lv_aload_n hx hb d_M_begin_9 rfl (lv_at hl 0 rfl) ?_
      refine va_get (D := (dC, dI)) (ci := 2) (v := .int (nI L.length)) (C := R_M) (T := F_M) (N := 9) hx hb hts i_M hown hK hP 0 rfl rfl 1 (by decide) (hts _ m_172) (fun _ h9 => h9) rfl d_M_begin_10 ?_
      refine lv_aload_n hx hb d_M_begin_13 rfl (lv_at hl 0 rfl) ?_
      refine va_get (D := (dC, dI)) (ci := 2) (v := .int (nI i)) (C := R_M) (T := F_M) (N := 9) hx hb hts i_M hown hK hP 0 rfl rfl 3 (by decide) (hts _ m_174) (fun _ h9 => h9) rfl d_M_begin_14 ?_
      refine lq_if_lt hx hb (by omega) (tgt := 24) d_M_begin_17 (by decide) ?_
      refine lv_iconst (v := nI 1) hx hb d_M_begin_20 (by decide) ?_
      refine lv_goto (tgt := 25) hx hb d_M_begin_21 (by decide) ?_
      refine lq_add hx hb d_M_begin_25 ?_
      refine lv_iconst (v := nI 2) hx hb d_M_begin_26 (by decide) ?_
      refine lq_add hx hb d_M_begin_27 ?_
      refine lv_sipush (v := nI 3000) hx hb d_M_begin_28 (by decide) ?_
      refine lq_icmp_le hx hb (by omega) (by omega) (tgt := 36) d_M_begin_31 (by decide) (fun c_8 => ?_) (fun c_8 => ?_)
      · refine lv_aload_n hx hb d_M_begin_36 rfl (lv_at hl 0 rfl) ?_
        refine lv_iload_n hx hb d_M_begin_37 rfl (lv_at hl 1 rfl) ?_
        refine gcall_v (q0 := 0) (wr := []) (As := [.int (nI k)]) (rest := []) C0 g_M_43 (c_M_start l dC dI cR cG m0 hR hG s.heap.size L op (some i) tk lst ln f g mn hf k (by omega) (by simp only [enN]; omega) ho) ⟨Nat.le_of_ble_eq_true rfl, Nat.le_of_ble_eq_true rfl⟩ ⟨rfl, rfl⟩ ⟨Nat.zero_le _, Nat.zero_le _⟩ d_M_begin_38 rfl rfl (Nat.le_of_ble_eq_true rfl) hl.1 hK hP hD hS hA [0, 1, 2] [] [0, 1] rfl (by decide) rfl (by decide) (by decide) rfl rfl rfl (fun _ _ _ _ _ _ => trivial) (fun _ _ _ _ _ => trivial) (fun u H locs hw hP hD hS => ?_)
        obtain ⟨u, f, g, mn⟩ := u
        dsimp only at hw
        obtain ⟨⟨rfl, hs⟩, hf⟩ := hw
        obtain ⟨rfl, rfl⟩ := Prod.mk.inj hs.symm
        refine lv_iconst (v := nI 1) hx hb d_M_begin_41 (by decide) ?_
        exact ret_i C0 hS d_M_begin_42 rfl (stF k (L, op, (some i), tk, lst, ln), f, g, mn) ⟨by dsimp only; rw [if_pos (show L.length + enN (some i) + 2 ≤ 3000 by simp only [enN]; omega)]; exact ⟨rfl, rfl⟩, hf⟩ hP hD
      · refine lv_iconst (v := nI 0) hx hb d_M_begin_34 (by decide) ?_
        exact ret_i C0 hS d_M_begin_35 rfl ((L, op, (some i), tk, lst, ln), f, g, mn) ⟨by dsimp only; rw [if_neg (show ¬ L.length + enN (some i) + 2 ≤ 3000 by simp only [enN]; omega)]; exact ⟨rfl, rfl⟩, hf⟩ hP hD
set_option maxHeartbeats 4000000 in
set_option maxRecDepth 100000 in
theorem c_M_end (l : Launch) (dC : Nat → ClassId) (dI : Nat → Nat → Nat) (cR cG : ClassId) (m0 hR hG : Nat) (sz : Nat) (L : List Nat) (op : Nat) (o : Option Nat) (tk lst ln : Nat) (f g : Nat → Int32) (mn : Int32) (hf : RI f L) (hn : o ≠ none → L.length < 3000) (ho : ∀ i, o = some i → i < 5) : MetMi l dC dI cR cG m0 hR hG sz y_M_end b_M_end 2 .int ({ frames := 1, cells := 0, slots := 0, locals := 21 }) [] (L, op, o, tk, lst, ln) f g mn (fun r (z : MZ) => r = kI o ∧ z.1 = clF (L, op, o, tk, lst, ln)) := by
  refine enter (Qf := fun A => va_Qi (fun r (z : MZ) => (fun r (z : MZ) => r = kI o ∧ z.1 = clF (L, op, o, tk, lst, ln)) r z ∧ RI z.2.1 z.1.1) (PW dC dI A (fun z => wM m0 hR hG cR cG z.1 z.2.1 z.2.2.1 z.2.2.2)) A) (by decide) (Nat.le_of_ble_eq_true rfl) ?_
  intro p e s m below meth c A ls C0 hsz hA hK hP hD hS hX hl
  obtain ⟨hx, hb, hr, hml, hown, hlk, hnm, hts⟩ := id C0
  have hl : lv_has ls 2 [(0, .ref m0)] := hl
  have hP : va_P (dC, dI) classes [(m0, .inr (2, [.ref hR, .int (nI L.length), .int (nI op), .int (kI o), .int (nI tk), .int (nI lst), .int (nI ln), .ref hG, .int mn])), (hR, .inl (cR, 3000, .inl f)), (hG, .inl (cG, 4, .inl g))] s.heap := hP
  have hD : va_D A [(m0, .inr (2, [.ref hR, .int (nI L.length), .int (nI op), .int (kI o), .int (nI tk), .int (nI lst), .int (nI ln), .ref hG, .int mn])), (hR, .inl (cR, 3000, .inl f)), (hG, .inl (cG, 4, .inl g))] := hD
  cases o with
  | none =>
    have hP : va_P (dC, dI) classes [(m0, .inr (2, [.ref hR, .int (nI L.length), .int (nI op), .int (-1), .int (nI tk), .int (nI lst), .int (nI ln), .ref hG, .int mn])), (hR, .inl (cR, 3000, .inl f)), (hG, .inl (cG, 4, .inl g))] s.heap := hP
    have hD : va_D A [(m0, .inr (2, [.ref hR, .int (nI L.length), .int (nI op), .int (-1), .int (nI tk), .int (nI lst), .int (nI ln), .ref hG, .int mn])), (hR, .inl (cR, 3000, .inl f)), (hG, .inl (cG, 4, .inl g))] := hD
    refine lv_aload_n hx hb d_M_end_0 rfl (lv_at hl 0 rfl) ?_
    refine va_get (D := (dC, dI)) (ci := 2) (v := .int (-1)) (C := R_M) (T := F_M) (N := 9) hx hb hts i_M hown hK hP 0 rfl rfl 3 (by decide) (hts _ m_174) (fun _ h9 => h9) rfl d_M_end_1 ?_
    refine lv_istore_n (lv' := [(1, .int (-1)), (0, .ref m0)]) hx hb d_M_end_4 rfl hl (by decide) rfl (fun ls hl => ?_)
    refine lv_aload_n hx hb d_M_end_5 rfl (lv_at hl 1 rfl) ?_
    refine va_get (D := (dC, dI)) (ci := 2) (v := .int (-1)) (C := R_M) (T := F_M) (N := 9) hx hb hts i_M hown hK hP 0 rfl rfl 3 (by decide) (hts _ m_174) (fun _ h9 => h9) rfl d_M_end_6 ?_
    refine lv_if_lt (tgt := 16) hx hb d_M_end_9 (by decide) (fun c_1 => ?_) (fun c_1 => ?_)
    · refine lv_iload_n hx hb d_M_end_16 rfl (lv_at hl 0 rfl) ?_
      exact ret_i C0 hS d_M_end_17 rfl ((L, op, none, tk, lst, ln), f, g, mn) ⟨⟨rfl, rfl⟩, hf⟩ hP hD
    · exact absurd (by decide) c_1
  | some i =>
    have hi := ho i rfl
    have hP : va_P (dC, dI) classes [(m0, .inr (2, [.ref hR, .int (nI L.length), .int (nI op), .int (nI i), .int (nI tk), .int (nI lst), .int (nI ln), .ref hG, .int mn])), (hR, .inl (cR, 3000, .inl f)), (hG, .inl (cG, 4, .inl g))] s.heap := hP
    have hD : va_D A [(m0, .inr (2, [.ref hR, .int (nI L.length), .int (nI op), .int (nI i), .int (nI tk), .int (nI lst), .int (nI ln), .ref hG, .int mn])), (hR, .inl (cR, 3000, .inl f)), (hG, .inl (cG, 4, .inl g))] := hD
    refine lv_aload_n hx hb d_M_end_0 rfl (lv_at hl 0 rfl) ?_
    refine va_get (D := (dC, dI)) (ci := 2) (v := .int (nI i)) (C := R_M) (T := F_M) (N := 9) hx hb hts i_M hown hK hP 0 rfl rfl 3 (by decide) (hts _ m_174) (fun _ h9 => h9) rfl d_M_end_1 ?_
    refine lv_istore_n (lv' := [(1, .int (nI i)), (0, .ref m0)]) hx hb d_M_end_4 rfl hl (by decide) rfl (fun ls hl => ?_)
    refine lv_aload_n hx hb d_M_end_5 rfl (lv_at hl 1 rfl) ?_
    refine va_get (D := (dC, dI)) (ci := 2) (v := .int (nI i)) (C := R_M) (T := F_M) (N := 9) hx hb hts i_M hown hK hP 0 rfl rfl 3 (by decide) (hts _ m_174) (fun _ h9 => h9) rfl d_M_end_6 ?_
    refine lq_if_lt hx hb (by omega) (tgt := 16) d_M_end_9 (by decide) ?_
    refine lv_aload_n hx hb d_M_end_12 rfl (lv_at hl 1 rfl) ?_
    refine gcall_v (q0 := 0) (wr := []) (As := []) (rest := []) C0 g_M_36 (c_M_close l dC dI cR cG m0 hR hG s.heap.size L op (some i) tk lst ln f g mn hf (hn (by simp))) ⟨Nat.le_of_ble_eq_true rfl, Nat.le_of_ble_eq_true rfl⟩ ⟨rfl, rfl⟩ ⟨Nat.zero_le _, Nat.zero_le _⟩ d_M_end_13 rfl rfl (Nat.le_of_ble_eq_true rfl) hl.1 hK hP hD hS hA [0, 1, 2] [] [0, 1] rfl (by decide) rfl (by decide) (by decide) rfl rfl rfl (fun _ _ _ _ _ _ => trivial) (fun _ _ _ _ _ => trivial) (fun u H locs hw hP hD hS => ?_)
    obtain ⟨u, f, g, mn⟩ := u
    dsimp only at hw
    obtain ⟨⟨rfl, hs⟩, hf⟩ := hw
    obtain ⟨rfl, rfl⟩ := Prod.mk.inj hs.symm
    have hP : va_P (dC, dI) classes [(m0, .inr (2, [.ref hR, .int (nI ((L ++ [10]).length)), .int (nI 0), .int (-1), .int (nI tk), .int (nI lst), .int (nI ln), .ref hG, .int mn])), (hR, .inl (cR, 3000, .inl f)), (hG, .inl (cG, 4, .inl g))] H := hP
    have hD : va_D A [(m0, .inr (2, [.ref hR, .int (nI ((L ++ [10]).length)), .int (nI 0), .int (-1), .int (nI tk), .int (nI lst), .int (nI ln), .ref hG, .int mn])), (hR, .inl (cR, 3000, .inl f)), (hG, .inl (cG, 4, .inl g))] := hD
    refine lv_iload_n hx hb d_M_end_16 rfl (lv_at hl 0 rfl) ?_
    exact ret_i C0 hS d_M_end_17 rfl ((L ++ [10], 0, none, tk, lst, ln), f, g, mn) ⟨⟨rfl, rfl⟩, hf⟩ hP hD
set_option maxHeartbeats 4000000 in
set_option maxRecDepth 100000 in
theorem c_M_mark (l : Launch) (dC : Nat → ClassId) (dI : Nat → Nat → Nat) (cR cG : ClassId) (m0 hR hG : Nat) (sz : Nat) (L : List Nat) (op : Nat) (o : Option Nat) (tk lst ln : Nat) (f g : Nat → Int32) (mn : Int32) (hf : RI f L) (ho : ∀ i, o = some i → i < 5) : MetMi l dC dI cR cG m0 hR hG sz y_M_mark b_M_mark 1 .int ({ frames := 0, cells := 0, slots := 0, locals := 0 }) [] (L, op, o, tk, lst, ln) f g mn (fun r (z : MZ) => r = (if o = none then nI (tk + L.length) else -1) ∧ z.1 = (L, op, o, tk, lst, ln)) := by
  refine enter (Qf := fun A => va_Qi (fun r (z : MZ) => (fun r (z : MZ) => r = (if o = none then nI (tk + L.length) else -1) ∧ z.1 = (L, op, o, tk, lst, ln)) r z ∧ RI z.2.1 z.1.1) (PW dC dI A (fun z => wM m0 hR hG cR cG z.1 z.2.1 z.2.2.1 z.2.2.2)) A) (by decide) (Nat.le_of_ble_eq_true rfl) ?_
  intro p e s m below meth c A ls C0 hsz hA hK hP hD hS hX hl
  obtain ⟨hx, hb, hr, hml, hown, hlk, hnm, hts⟩ := id C0
  have hl : lv_has ls 1 [(0, .ref m0)] := hl
  have hP : va_P (dC, dI) classes [(m0, .inr (2, [.ref hR, .int (nI L.length), .int (nI op), .int (kI o), .int (nI tk), .int (nI lst), .int (nI ln), .ref hG, .int mn])), (hR, .inl (cR, 3000, .inl f)), (hG, .inl (cG, 4, .inl g))] s.heap := hP
  have hD : va_D A [(m0, .inr (2, [.ref hR, .int (nI L.length), .int (nI op), .int (kI o), .int (nI tk), .int (nI lst), .int (nI ln), .ref hG, .int mn])), (hR, .inl (cR, 3000, .inl f)), (hG, .inl (cG, 4, .inl g))] := hD
  cases o with
  | none =>
    have hP : va_P (dC, dI) classes [(m0, .inr (2, [.ref hR, .int (nI L.length), .int (nI op), .int (-1), .int (nI tk), .int (nI lst), .int (nI ln), .ref hG, .int mn])), (hR, .inl (cR, 3000, .inl f)), (hG, .inl (cG, 4, .inl g))] s.heap := hP
    have hD : va_D A [(m0, .inr (2, [.ref hR, .int (nI L.length), .int (nI op), .int (-1), .int (nI tk), .int (nI lst), .int (nI ln), .ref hG, .int mn])), (hR, .inl (cR, 3000, .inl f)), (hG, .inl (cG, 4, .inl g))] := hD
    refine lv_aload_n hx hb d_M_mark_0 rfl (lv_at hl 0 rfl) ?_
    refine va_get (D := (dC, dI)) (ci := 2) (v := .int (-1)) (C := R_M) (T := F_M) (N := 9) hx hb hts i_M hown hK hP 0 rfl rfl 3 (by decide) (hts _ m_174) (fun _ h9 => h9) rfl d_M_mark_1 ?_
    refine lv_if_lt (tgt := 11) hx hb d_M_mark_4 (by decide) (fun c_1 => ?_) (fun c_1 => ?_)
    · refine lv_aload_n hx hb d_M_mark_11 rfl (lv_at hl 0 rfl) ?_
      refine va_get (D := (dC, dI)) (ci := 2) (v := .int (nI tk)) (C := R_M) (T := F_M) (N := 9) hx hb hts i_M hown hK hP 0 rfl rfl 4 (by decide) (hts _ m_175) (fun _ h9 => h9) rfl d_M_mark_12 ?_
      refine lv_aload_n hx hb d_M_mark_15 rfl (lv_at hl 0 rfl) ?_
      refine va_get (D := (dC, dI)) (ci := 2) (v := .int (nI L.length)) (C := R_M) (T := F_M) (N := 9) hx hb hts i_M hown hK hP 0 rfl rfl 1 (by decide) (hts _ m_172) (fun _ h9 => h9) rfl d_M_mark_16 ?_
      refine lq_add hx hb d_M_mark_19 ?_
      exact ret_i C0 hS d_M_mark_20 rfl ((L, op, none, tk, lst, ln), f, g, mn) ⟨⟨by rw [if_pos rfl], rfl⟩, hf⟩ hP hD
    · exact absurd (by decide) c_1
  | some i =>
    have hi := ho i rfl
    have hP : va_P (dC, dI) classes [(m0, .inr (2, [.ref hR, .int (nI L.length), .int (nI op), .int (nI i), .int (nI tk), .int (nI lst), .int (nI ln), .ref hG, .int mn])), (hR, .inl (cR, 3000, .inl f)), (hG, .inl (cG, 4, .inl g))] s.heap := hP
    have hD : va_D A [(m0, .inr (2, [.ref hR, .int (nI L.length), .int (nI op), .int (nI i), .int (nI tk), .int (nI lst), .int (nI ln), .ref hG, .int mn])), (hR, .inl (cR, 3000, .inl f)), (hG, .inl (cG, 4, .inl g))] := hD
    refine lv_aload_n hx hb d_M_mark_0 rfl (lv_at hl 0 rfl) ?_
    refine va_get (D := (dC, dI)) (ci := 2) (v := .int (nI i)) (C := R_M) (T := F_M) (N := 9) hx hb hts i_M hown hK hP 0 rfl rfl 3 (by decide) (hts _ m_174) (fun _ h9 => h9) rfl d_M_mark_1 ?_
    refine lq_if_lt hx hb (by omega) (tgt := 11) d_M_mark_4 (by decide) ?_
    refine lv_iconst (v := -1) hx hb d_M_mark_7 (by decide) ?_
    refine lv_goto (tgt := 20) hx hb d_M_mark_8 (by decide) ?_
    exact ret_i C0 hS d_M_mark_20 rfl ((L, op, some i, tk, lst, ln), f, g, mn) ⟨⟨by rw [if_neg (by simp)], rfl⟩, hf⟩ hP hD
end
section
/-! THE REFERENCE: code, add, text (rows printed by gen16.py) -/
set_option maxHeartbeats 4000000 in
set_option maxRecDepth 100000 in
theorem c_M_codeOut (l : Launch) (dC : Nat → ClassId) (dI : Nat → Nat → Nat) (cR cG : ClassId) (m0 hR hG : Nat) (sz : Nat) (L : List Nat) (op : Nat) (o : Option Nat) (tk lst ln : Nat) (f g : Nat → Int32) (mn : Int32) (hf : RI f L) (x : Int32) (hx1 : ¬ isCh x) : MetMi l dC dI cR cG m0 hR hG sz y_M_code b_M_code 4 .boolean ({ frames := 0, cells := 0, slots := 0, locals := 0 }) [.int x] (L, op, o, tk, lst, ln) f g mn (fun r (z : MZ) => r = 0 ∧ z.1 = (L, op, o, tk, lst, ln)) := by
  refine enter (Qf := fun A => va_Qi (fun r (z : MZ) => (fun r (z : MZ) => r = 0 ∧ z.1 = (L, op, o, tk, lst, ln)) r z ∧ RI z.2.1 z.1.1) (PW dC dI A (fun z => wM m0 hR hG cR cG z.1 z.2.1 z.2.2.1 z.2.2.2)) A) (by decide) (Nat.le_of_ble_eq_true rfl) ?_
  intro p e s m below meth c A ls C0 hsz hA hK hP hD hS hX hl
  obtain ⟨hx, hb, hr, hml, hown, hlk, hnm, hts⟩ := id C0
  have hl : lv_has ls 4 [(0, .ref m0), (1, .int x)] := hl
  have hP : va_P (dC, dI) classes [(m0, .inr (2, [.ref hR, .int (nI L.length), .int (nI op), .int (kI o), .int (nI tk), .int (nI lst), .int (nI ln), .ref hG, .int mn])), (hR, .inl (cR, 3000, .inl f)), (hG, .inl (cG, 4, .inl g))] s.heap := hP
  have hD : va_D A [(m0, .inr (2, [.ref hR, .int (nI L.length), .int (nI op), .int (kI o), .int (nI tk), .int (nI lst), .int (nI ln), .ref hG, .int mn])), (hR, .inl (cR, 3000, .inl f)), (hG, .inl (cG, 4, .inl g))] := hD
  refine lv_iload_n hx hb d_M_code_0 rfl (lv_at hl 1 rfl) ?_
  refine lv_if_lt (tgt := 22) hx hb d_M_code_1 (by decide) (fun c_1 => ?_) (fun c_1 => ?_)
  · refine lv_iconst (v := nI 0) hx hb d_M_code_22 (by decide) ?_
    exact ret_i C0 hS d_M_code_23 rfl ((L, op, o, tk, lst, ln), f, g, mn) ⟨⟨rfl, rfl⟩, hf⟩ hP hD
  · refine lv_iload_n hx hb d_M_code_4 rfl (lv_at hl 1 rfl) ?_
    refine lv_ldc (v := 1114111) hx hb hown (hts _ m_224) d_M_code_5 ?_
    refine lv_icmp_gt (tgt := 22) hx hb d_M_code_7 (by decide) (fun c_2 => ?_) (fun c_2 => ?_)
    · refine lv_iconst (v := nI 0) hx hb d_M_code_22 (by decide) ?_
      exact ret_i C0 hS d_M_code_23 rfl ((L, op, o, tk, lst, ln), f, g, mn) ⟨⟨rfl, rfl⟩, hf⟩ hP hD
    · refine lv_iload_n hx hb d_M_code_10 rfl (lv_at hl 1 rfl) ?_
      refine lv_ldc (v := 55296) hx hb hown (hts _ m_225) d_M_code_11 ?_
      refine lv_icmp_lt (tgt := 24) hx hb d_M_code_13 (by decide) (fun c_3 => ?_) (fun c_3 => ?_)
      · exact absurd ⟨c_1, Int32.not_lt.mp c_2, Or.inl c_3⟩ hx1
      · refine lv_iload_n hx hb d_M_code_16 rfl (lv_at hl 1 rfl) ?_
        refine lv_ldc (v := 57344) hx hb hown (hts _ m_226) d_M_code_17 ?_
        refine lv_icmp_ge (tgt := 24) hx hb d_M_code_19 (by decide) (fun c_4 => ?_) (fun c_4 => ?_)
        · exact absurd ⟨c_1, Int32.not_lt.mp c_2, Or.inr (by rw [Int32.lt_iff_toInt_lt]; rw [Int32.le_iff_toInt_le] at c_4; have e1 : (57343 : Int32).toInt = 57343 := rfl; have e2 : (57344 : Int32).toInt = 57344 := rfl; omega)⟩ hx1
        · refine lv_iconst (v := nI 0) hx hb d_M_code_22 (by decide) ?_
          exact ret_i C0 hS d_M_code_23 rfl ((L, op, o, tk, lst, ln), f, g, mn) ⟨⟨rfl, rfl⟩, hf⟩ hP hD
set_option maxHeartbeats 4000000 in
set_option maxRecDepth 100000 in
theorem M_code_154 {p : Program} {l : Launch} {e : Env} {s : State} {m : MethodId} {args : Array Value} {below : List Frame} {meth : Method} {c : Code} {Q : State → Prop} {dC : Nat → ClassId} {dI : Nat → Nat → Nat} {cR cG : ClassId} {m0 hR hG : Nat} {A : Nat → Prop} {R : Room} (C0 : Cx p s m args meth c b_M_code 4 (some .boolean) y_M_code) (hK : va_K (dC, dI) classes [(cR, .int), (cG, .int)] s) (L : List Nat) (op : Nat) (o : Option Nat) (tk lst ln : Nat) (f : Nat → Int32) (n : Nat) (hn : n < 1114112) (kk : ∀ (g : Nat → Int32) (H : Heap) (locs : List Loc) (ls : Array Slot), RI g (enc n) → va_P (dC, dI) classes [(m0, .inr (2, [.ref hR, .int (nI L.length), .int (nI op), .int (kI o), .int (nI tk), .int (nI lst), .int (nI ln), .ref hG, .int (nI (bofN n))])), (hR, .inl (cR, 3000, .inl f)), (hG, .inl (cG, 4, .inl g))] H → va_D A [(m0, .inr (2, [.ref hR, .int (nI L.length), .int (nI op), .int (kI o), .int (nI tk), .int (nI lst), .int (nI ln), .ref hG, .int (nI (bofN n))])), (hR, .inl (cR, 3000, .inl f)), (hG, .inl (cG, 4, .inl g))] → va_S A s.heap H locs → lv_has ls 4 [] → W p l e R s m args below meth c H locs 0 0 Q (F0 m 224 ls []))
    (g : Nat → Int32) (M : Nat) (x2 x3 : Int32) (H : Heap) (locs : List Loc) (ls : Array Slot) (hg : letN n = 0 → RI g (utf n) ∧ M = bofN n) (hP : va_P (dC, dI) classes [(m0, .inr (2, [.ref hR, .int (nI L.length), .int (nI op), .int (kI o), .int (nI tk), .int (nI lst), .int (nI ln), .ref hG, .int (nI M)])), (hR, .inl (cR, 3000, .inl f)), (hG, .inl (cG, 4, .inl g))] H) (hD : va_D A [(m0, .inr (2, [.ref hR, .int (nI L.length), .int (nI op), .int (kI o), .int (nI tk), .int (nI lst), .int (nI ln), .ref hG, .int (nI M)])), (hR, .inl (cR, 3000, .inl f)), (hG, .inl (cG, 4, .inl g))]) (hS : va_S A s.heap H locs) (hl : lv_has ls 4 [(3, .int x3), (2, .int x2), (0, .ref m0), (1, .int (nI n))]) : W p l e R s m args below meth c H locs 0 0 Q (F0 m 154 ls []) := by
  obtain ⟨hx, hb, hr, hml, hown, hlk, hnm, hts⟩ := id C0
  refine lv_iload_n hx hb d_M_code_154 rfl (lv_at hl 3 rfl) ?_
  refine lv_bipush (v := nI 92) hx hb d_M_code_155 (by decide) ?_
  refine lq_icmp_ne hx hb (by omega) (by omega) (tgt := 165) d_M_code_157 (by decide) (fun c_1 => ?_) (fun c_1 => ?_)
  · refine lv_iload_n hx hb d_M_code_165 rfl (lv_at hl 3 rfl) ?_
    refine lv_bipush (v := nI 10) hx hb d_M_code_166 (by decide) ?_
    refine lq_icmp_ne hx hb (by omega) (by omega) (tgt := 176) d_M_code_168 (by decide) (fun c_2 => ?_) (fun c_2 => ?_)
    · refine lv_iload_n hx hb d_M_code_176 rfl (lv_at hl 3 rfl) ?_
      refine lv_bipush (v := nI 9) hx hb d_M_code_177 (by decide) ?_
      refine lq_icmp_ne hx hb (by omega) (by omega) (tgt := 187) d_M_code_179 (by decide) (fun c_3 => ?_) (fun c_3 => ?_)
      · refine lv_iload_n hx hb d_M_code_187 rfl (lv_at hl 3 rfl) ?_
        refine lv_bipush (v := nI 13) hx hb d_M_code_188 (by decide) ?_
        refine lq_icmp_ne hx hb (by omega) (by omega) (tgt := 198) d_M_code_190 (by decide) (fun c_4 => ?_) (fun c_4 => ?_)
        · have hlt : letN n = 0 := by unfold letN; rw [if_neg c_1, if_neg c_2, if_neg c_3, if_neg c_4]
          obtain ⟨hg1, rfl⟩ := hg hlt
          refine lv_iconst (v := nI 0) hx hb d_M_code_198 (by decide) ?_
          refine lv_istore_n (lv' := [(3, .int (nI 0)), (2, .int x2), (0, .ref m0), (1, .int (nI n))]) hx hb d_M_code_199 rfl hl (by decide) rfl (fun ls hl => ?_)
          refine lv_iload_n hx hb d_M_code_200 rfl (lv_at hl 0 rfl) ?_
          refine lq_if_le hx hb (by omega) (tgt := 224) d_M_code_201 (by decide) (fun c_5 => ?_) (fun c_5 => ?_)
          · exact kk g H locs ls (by rw [enc_utf hlt]; exact hg1) hP hD hS (lv_sub hl [] rfl)
          · exact absurd c_5 (by decide)
        · have hlt : letN n = 114 := by rw [c_4]; rfl
          refine lv_bipush (v := nI 114) hx hb d_M_code_193 (by decide) ?_
          refine lv_goto (tgt := 199) hx hb d_M_code_195 (by decide) ?_
          refine lv_istore_n (lv' := [(3, .int (nI 114)), (2, .int x2), (0, .ref m0), (1, .int (nI n))]) hx hb d_M_code_199 rfl hl (by decide) rfl (fun ls hl => ?_)
          refine lv_iload_n hx hb d_M_code_200 rfl (lv_at hl 0 rfl) ?_
          refine lq_if_le hx hb (by omega) (tgt := 224) d_M_code_201 (by decide) (fun c_6 => ?_) (fun c_6 => ?_)
          · exact absurd c_6 (by decide)
          · refine lv_aload_n hx hb d_M_code_204 rfl (lv_at hl 2 rfl) ?_
            refine lv_iconst (v := nI 2) hx hb d_M_code_205 (by decide) ?_
            refine va_put (D := (dC, dI)) (ci := 2) (v := .int (nI 2)) (ty := .int) (C := R_M) (T := F_M) (N := 9) hx hb hts i_M t_M t_M_ok n_M hown hK hP hD hS 0 rfl rfl 8 (by decide) (hts _ m_179) (fun _ h9 => h9) rfl (by decide +kernel) rfl rfl (Nat.le_of_ble_eq_true rfl) d_M_code_206 (fun H locs hP hD hS => ?_)
            have hP : va_P (dC, dI) classes [(m0, .inr (2, [.ref hR, .int (nI L.length), .int (nI op), .int (kI o), .int (nI tk), .int (nI lst), .int (nI ln), .ref hG, .int (nI 2)])), (hR, .inl (cR, 3000, .inl f)), (hG, .inl (cG, 4, .inl g))] H := hP
            have hD : va_D A [(m0, .inr (2, [.ref hR, .int (nI L.length), .int (nI op), .int (kI o), .int (nI tk), .int (nI lst), .int (nI ln), .ref hG, .int (nI 2)])), (hR, .inl (cR, 3000, .inl f)), (hG, .inl (cG, 4, .inl g))] := hD
            refine lv_aload_n hx hb d_M_code_209 rfl (lv_at hl 2 rfl) ?_
            refine va_get (D := (dC, dI)) (ci := 2) (v := .ref hG) (C := R_M) (T := F_M) (N := 9) hx hb hts i_M hown hK hP 0 rfl rfl 7 (by decide) (hts _ m_178) (fun _ h9 => h9) rfl d_M_code_210 ?_
            refine lv_iconst (v := nI 0) hx hb d_M_code_213 (by decide) ?_
            refine lv_bipush (v := nI 92) hx hb d_M_code_214 (by decide) ?_
            refine va_iast (D := (dC, dI)) hx hb hK hP hD hS 2 1 rfl rfl (vp_in_nI (by omega) (by omega)) d_M_code_216 (fun H locs hP hD hS => ?_)
            have hP : va_P (dC, dI) classes [(m0, .inr (2, [.ref hR, .int (nI L.length), .int (nI op), .int (kI o), .int (nI tk), .int (nI lst), .int (nI ln), .ref hG, .int (nI 2)])), (hR, .inl (cR, 3000, .inl f)), (hG, .inl (cG, 4, .inl (upd g (nI 0).toNatClampNeg (nI 92))))] H := hP
            have hD : va_D A [(m0, .inr (2, [.ref hR, .int (nI L.length), .int (nI op), .int (kI o), .int (nI tk), .int (nI lst), .int (nI ln), .ref hG, .int (nI 2)])), (hR, .inl (cR, 3000, .inl f)), (hG, .inl (cG, 4, .inl (upd g (nI 0).toNatClampNeg (nI 92))))] := hD
            refine lv_aload_n hx hb d_M_code_217 rfl (lv_at hl 2 rfl) ?_
            refine va_get (D := (dC, dI)) (ci := 2) (v := .ref hG) (C := R_M) (T := F_M) (N := 9) hx hb hts i_M hown hK hP 0 rfl rfl 7 (by decide) (hts _ m_178) (fun _ h9 => h9) rfl d_M_code_218 ?_
            refine lv_iconst (v := nI 1) hx hb d_M_code_221 (by decide) ?_
            refine lv_iload_n hx hb d_M_code_222 rfl (lv_at hl 0 rfl) ?_
            refine va_iast (D := (dC, dI)) hx hb hK hP hD hS 2 1 rfl rfl (vp_in_nI (by omega) (by omega)) d_M_code_223 (fun H locs hP hD hS => ?_)
            have hP : va_P (dC, dI) classes [(m0, .inr (2, [.ref hR, .int (nI L.length), .int (nI op), .int (kI o), .int (nI tk), .int (nI lst), .int (nI ln), .ref hG, .int (nI 2)])), (hR, .inl (cR, 3000, .inl f)), (hG, .inl (cG, 4, .inl (upd (upd g (nI 0).toNatClampNeg (nI 92)) (nI 1).toNatClampNeg (nI 114))))] H := hP
            have hD : va_D A [(m0, .inr (2, [.ref hR, .int (nI L.length), .int (nI op), .int (kI o), .int (nI tk), .int (nI lst), .int (nI ln), .ref hG, .int (nI 2)])), (hR, .inl (cR, 3000, .inl f)), (hG, .inl (cG, 4, .inl (upd (upd g (nI 0).toNatClampNeg (nI 92)) (nI 1).toNatClampNeg (nI 114))))] := hD
            exact kk _ H locs ls (by rw [enc_let (by rw [hlt]; decide), hlt]; exact riE g 92 114) (by rw [bofN_let (by rw [hlt]; decide)]; exact hP) (by rw [bofN_let (by rw [hlt]; decide)]; exact hD) hS (lv_sub hl [] rfl)
      · have hlt : letN n = 116 := by rw [c_3]; rfl
        refine lv_bipush (v := nI 116) hx hb d_M_code_182 (by decide) ?_
        refine lv_goto (tgt := 199) hx hb d_M_code_184 (by decide) ?_
        refine lv_istore_n (lv' := [(3, .int (nI 116)), (2, .int x2), (0, .ref m0), (1, .int (nI n))]) hx hb d_M_code_199 rfl hl (by decide) rfl (fun ls hl => ?_)
        refine lv_iload_n hx hb d_M_code_200 rfl (lv_at hl 0 rfl) ?_
        refine lq_if_le hx hb (by omega) (tgt := 224) d_M_code_201 (by decide) (fun c_7 => ?_) (fun c_7 => ?_)
        · exact absurd c_7 (by decide)
        · refine lv_aload_n hx hb d_M_code_204 rfl (lv_at hl 2 rfl) ?_
          refine lv_iconst (v := nI 2) hx hb d_M_code_205 (by decide) ?_
          refine va_put (D := (dC, dI)) (ci := 2) (v := .int (nI 2)) (ty := .int) (C := R_M) (T := F_M) (N := 9) hx hb hts i_M t_M t_M_ok n_M hown hK hP hD hS 0 rfl rfl 8 (by decide) (hts _ m_179) (fun _ h9 => h9) rfl (by decide +kernel) rfl rfl (Nat.le_of_ble_eq_true rfl) d_M_code_206 (fun H locs hP hD hS => ?_)
          have hP : va_P (dC, dI) classes [(m0, .inr (2, [.ref hR, .int (nI L.length), .int (nI op), .int (kI o), .int (nI tk), .int (nI lst), .int (nI ln), .ref hG, .int (nI 2)])), (hR, .inl (cR, 3000, .inl f)), (hG, .inl (cG, 4, .inl g))] H := hP
          have hD : va_D A [(m0, .inr (2, [.ref hR, .int (nI L.length), .int (nI op), .int (kI o), .int (nI tk), .int (nI lst), .int (nI ln), .ref hG, .int (nI 2)])), (hR, .inl (cR, 3000, .inl f)), (hG, .inl (cG, 4, .inl g))] := hD
          refine lv_aload_n hx hb d_M_code_209 rfl (lv_at hl 2 rfl) ?_
          refine va_get (D := (dC, dI)) (ci := 2) (v := .ref hG) (C := R_M) (T := F_M) (N := 9) hx hb hts i_M hown hK hP 0 rfl rfl 7 (by decide) (hts _ m_178) (fun _ h9 => h9) rfl d_M_code_210 ?_
          refine lv_iconst (v := nI 0) hx hb d_M_code_213 (by decide) ?_
          refine lv_bipush (v := nI 92) hx hb d_M_code_214 (by decide) ?_
          refine va_iast (D := (dC, dI)) hx hb hK hP hD hS 2 1 rfl rfl (vp_in_nI (by omega) (by omega)) d_M_code_216 (fun H locs hP hD hS => ?_)
          have hP : va_P (dC, dI) classes [(m0, .inr (2, [.ref hR, .int (nI L.length), .int (nI op), .int (kI o), .int (nI tk), .int (nI lst), .int (nI ln), .ref hG, .int (nI 2)])), (hR, .inl (cR, 3000, .inl f)), (hG, .inl (cG, 4, .inl (upd g (nI 0).toNatClampNeg (nI 92))))] H := hP
          have hD : va_D A [(m0, .inr (2, [.ref hR, .int (nI L.length), .int (nI op), .int (kI o), .int (nI tk), .int (nI lst), .int (nI ln), .ref hG, .int (nI 2)])), (hR, .inl (cR, 3000, .inl f)), (hG, .inl (cG, 4, .inl (upd g (nI 0).toNatClampNeg (nI 92))))] := hD
          refine lv_aload_n hx hb d_M_code_217 rfl (lv_at hl 2 rfl) ?_
          refine va_get (D := (dC, dI)) (ci := 2) (v := .ref hG) (C := R_M) (T := F_M) (N := 9) hx hb hts i_M hown hK hP 0 rfl rfl 7 (by decide) (hts _ m_178) (fun _ h9 => h9) rfl d_M_code_218 ?_
          refine lv_iconst (v := nI 1) hx hb d_M_code_221 (by decide) ?_
          refine lv_iload_n hx hb d_M_code_222 rfl (lv_at hl 0 rfl) ?_
          refine va_iast (D := (dC, dI)) hx hb hK hP hD hS 2 1 rfl rfl (vp_in_nI (by omega) (by omega)) d_M_code_223 (fun H locs hP hD hS => ?_)
          have hP : va_P (dC, dI) classes [(m0, .inr (2, [.ref hR, .int (nI L.length), .int (nI op), .int (kI o), .int (nI tk), .int (nI lst), .int (nI ln), .ref hG, .int (nI 2)])), (hR, .inl (cR, 3000, .inl f)), (hG, .inl (cG, 4, .inl (upd (upd g (nI 0).toNatClampNeg (nI 92)) (nI 1).toNatClampNeg (nI 116))))] H := hP
          have hD : va_D A [(m0, .inr (2, [.ref hR, .int (nI L.length), .int (nI op), .int (kI o), .int (nI tk), .int (nI lst), .int (nI ln), .ref hG, .int (nI 2)])), (hR, .inl (cR, 3000, .inl f)), (hG, .inl (cG, 4, .inl (upd (upd g (nI 0).toNatClampNeg (nI 92)) (nI 1).toNatClampNeg (nI 116))))] := hD
          exact kk _ H locs ls (by rw [enc_let (by rw [hlt]; decide), hlt]; exact riE g 92 116) (by rw [bofN_let (by rw [hlt]; decide)]; exact hP) (by rw [bofN_let (by rw [hlt]; decide)]; exact hD) hS (lv_sub hl [] rfl)
    · have hlt : letN n = 110 := by rw [c_2]; rfl
      refine lv_bipush (v := nI 110) hx hb d_M_code_171 (by decide) ?_
      refine lv_goto (tgt := 199) hx hb d_M_code_173 (by decide) ?_
      refine lv_istore_n (lv' := [(3, .int (nI 110)), (2, .int x2), (0, .ref m0), (1, .int (nI n))]) hx hb d_M_code_199 rfl hl (by decide) rfl (fun ls hl => ?_)
      refine lv_iload_n hx hb d_M_code_200 rfl (lv_at hl 0 rfl) ?_
      refine lq_if_le hx hb (by omega) (tgt := 224) d_M_code_201 (by decide) (fun c_8 => ?_) (fun c_8 => ?_)
      · exact absurd c_8 (by decide)
      · refine lv_aload_n hx hb d_M_code_204 rfl (lv_at hl 2 rfl) ?_
        refine lv_iconst (v := nI 2) hx hb d_M_code_205 (by decide) ?_
        refine va_put (D := (dC, dI)) (ci := 2) (v := .int (nI 2)) (ty := .int) (C := R_M) (T := F_M) (N := 9) hx hb hts i_M t_M t_M_ok n_M hown hK hP hD hS 0 rfl rfl 8 (by decide) (hts _ m_179) (fun _ h9 => h9) rfl (by decide +kernel) rfl rfl (Nat.le_of_ble_eq_true rfl) d_M_code_206 (fun H locs hP hD hS => ?_)
        have hP : va_P (dC, dI) classes [(m0, .inr (2, [.ref hR, .int (nI L.length), .int (nI op), .int (kI o), .int (nI tk), .int (nI lst), .int (nI ln), .ref hG, .int (nI 2)])), (hR, .inl (cR, 3000, .inl f)), (hG, .inl (cG, 4, .inl g))] H := hP
        have hD : va_D A [(m0, .inr (2, [.ref hR, .int (nI L.length), .int (nI op), .int (kI o), .int (nI tk), .int (nI lst), .int (nI ln), .ref hG, .int (nI 2)])), (hR, .inl (cR, 3000, .inl f)), (hG, .inl (cG, 4, .inl g))] := hD
        refine lv_aload_n hx hb d_M_code_209 rfl (lv_at hl 2 rfl) ?_
        refine va_get (D := (dC, dI)) (ci := 2) (v := .ref hG) (C := R_M) (T := F_M) (N := 9) hx hb hts i_M hown hK hP 0 rfl rfl 7 (by decide) (hts _ m_178) (fun _ h9 => h9) rfl d_M_code_210 ?_
        refine lv_iconst (v := nI 0) hx hb d_M_code_213 (by decide) ?_
        refine lv_bipush (v := nI 92) hx hb d_M_code_214 (by decide) ?_
        refine va_iast (D := (dC, dI)) hx hb hK hP hD hS 2 1 rfl rfl (vp_in_nI (by omega) (by omega)) d_M_code_216 (fun H locs hP hD hS => ?_)
        have hP : va_P (dC, dI) classes [(m0, .inr (2, [.ref hR, .int (nI L.length), .int (nI op), .int (kI o), .int (nI tk), .int (nI lst), .int (nI ln), .ref hG, .int (nI 2)])), (hR, .inl (cR, 3000, .inl f)), (hG, .inl (cG, 4, .inl (upd g (nI 0).toNatClampNeg (nI 92))))] H := hP
        have hD : va_D A [(m0, .inr (2, [.ref hR, .int (nI L.length), .int (nI op), .int (kI o), .int (nI tk), .int (nI lst), .int (nI ln), .ref hG, .int (nI 2)])), (hR, .inl (cR, 3000, .inl f)), (hG, .inl (cG, 4, .inl (upd g (nI 0).toNatClampNeg (nI 92))))] := hD
        refine lv_aload_n hx hb d_M_code_217 rfl (lv_at hl 2 rfl) ?_
        refine va_get (D := (dC, dI)) (ci := 2) (v := .ref hG) (C := R_M) (T := F_M) (N := 9) hx hb hts i_M hown hK hP 0 rfl rfl 7 (by decide) (hts _ m_178) (fun _ h9 => h9) rfl d_M_code_218 ?_
        refine lv_iconst (v := nI 1) hx hb d_M_code_221 (by decide) ?_
        refine lv_iload_n hx hb d_M_code_222 rfl (lv_at hl 0 rfl) ?_
        refine va_iast (D := (dC, dI)) hx hb hK hP hD hS 2 1 rfl rfl (vp_in_nI (by omega) (by omega)) d_M_code_223 (fun H locs hP hD hS => ?_)
        have hP : va_P (dC, dI) classes [(m0, .inr (2, [.ref hR, .int (nI L.length), .int (nI op), .int (kI o), .int (nI tk), .int (nI lst), .int (nI ln), .ref hG, .int (nI 2)])), (hR, .inl (cR, 3000, .inl f)), (hG, .inl (cG, 4, .inl (upd (upd g (nI 0).toNatClampNeg (nI 92)) (nI 1).toNatClampNeg (nI 110))))] H := hP
        have hD : va_D A [(m0, .inr (2, [.ref hR, .int (nI L.length), .int (nI op), .int (kI o), .int (nI tk), .int (nI lst), .int (nI ln), .ref hG, .int (nI 2)])), (hR, .inl (cR, 3000, .inl f)), (hG, .inl (cG, 4, .inl (upd (upd g (nI 0).toNatClampNeg (nI 92)) (nI 1).toNatClampNeg (nI 110))))] := hD
        exact kk _ H locs ls (by rw [enc_let (by rw [hlt]; decide), hlt]; exact riE g 92 110) (by rw [bofN_let (by rw [hlt]; decide)]; exact hP) (by rw [bofN_let (by rw [hlt]; decide)]; exact hD) hS (lv_sub hl [] rfl)
  · have hlt : letN n = 92 := by rw [c_1]; rfl
    refine lv_bipush (v := nI 92) hx hb d_M_code_160 (by decide) ?_
    refine lv_goto (tgt := 199) hx hb d_M_code_162 (by decide) ?_
    refine lv_istore_n (lv' := [(3, .int (nI 92)), (2, .int x2), (0, .ref m0), (1, .int (nI n))]) hx hb d_M_code_199 rfl hl (by decide) rfl (fun ls hl => ?_)
    refine lv_iload_n hx hb d_M_code_200 rfl (lv_at hl 0 rfl) ?_
    refine lq_if_le hx hb (by omega) (tgt := 224) d_M_code_201 (by decide) (fun c_9 => ?_) (fun c_9 => ?_)
    · exact absurd c_9 (by decide)
    · refine lv_aload_n hx hb d_M_code_204 rfl (lv_at hl 2 rfl) ?_
      refine lv_iconst (v := nI 2) hx hb d_M_code_205 (by decide) ?_
      refine va_put (D := (dC, dI)) (ci := 2) (v := .int (nI 2)) (ty := .int) (C := R_M) (T := F_M) (N := 9) hx hb hts i_M t_M t_M_ok n_M hown hK hP hD hS 0 rfl rfl 8 (by decide) (hts _ m_179) (fun _ h9 => h9) rfl (by decide +kernel) rfl rfl (Nat.le_of_ble_eq_true rfl) d_M_code_206 (fun H locs hP hD hS => ?_)
      have hP : va_P (dC, dI) classes [(m0, .inr (2, [.ref hR, .int (nI L.length), .int (nI op), .int (kI o), .int (nI tk), .int (nI lst), .int (nI ln), .ref hG, .int (nI 2)])), (hR, .inl (cR, 3000, .inl f)), (hG, .inl (cG, 4, .inl g))] H := hP
      have hD : va_D A [(m0, .inr (2, [.ref hR, .int (nI L.length), .int (nI op), .int (kI o), .int (nI tk), .int (nI lst), .int (nI ln), .ref hG, .int (nI 2)])), (hR, .inl (cR, 3000, .inl f)), (hG, .inl (cG, 4, .inl g))] := hD
      refine lv_aload_n hx hb d_M_code_209 rfl (lv_at hl 2 rfl) ?_
      refine va_get (D := (dC, dI)) (ci := 2) (v := .ref hG) (C := R_M) (T := F_M) (N := 9) hx hb hts i_M hown hK hP 0 rfl rfl 7 (by decide) (hts _ m_178) (fun _ h9 => h9) rfl d_M_code_210 ?_
      refine lv_iconst (v := nI 0) hx hb d_M_code_213 (by decide) ?_
      refine lv_bipush (v := nI 92) hx hb d_M_code_214 (by decide) ?_
      refine va_iast (D := (dC, dI)) hx hb hK hP hD hS 2 1 rfl rfl (vp_in_nI (by omega) (by omega)) d_M_code_216 (fun H locs hP hD hS => ?_)
      have hP : va_P (dC, dI) classes [(m0, .inr (2, [.ref hR, .int (nI L.length), .int (nI op), .int (kI o), .int (nI tk), .int (nI lst), .int (nI ln), .ref hG, .int (nI 2)])), (hR, .inl (cR, 3000, .inl f)), (hG, .inl (cG, 4, .inl (upd g (nI 0).toNatClampNeg (nI 92))))] H := hP
      have hD : va_D A [(m0, .inr (2, [.ref hR, .int (nI L.length), .int (nI op), .int (kI o), .int (nI tk), .int (nI lst), .int (nI ln), .ref hG, .int (nI 2)])), (hR, .inl (cR, 3000, .inl f)), (hG, .inl (cG, 4, .inl (upd g (nI 0).toNatClampNeg (nI 92))))] := hD
      refine lv_aload_n hx hb d_M_code_217 rfl (lv_at hl 2 rfl) ?_
      refine va_get (D := (dC, dI)) (ci := 2) (v := .ref hG) (C := R_M) (T := F_M) (N := 9) hx hb hts i_M hown hK hP 0 rfl rfl 7 (by decide) (hts _ m_178) (fun _ h9 => h9) rfl d_M_code_218 ?_
      refine lv_iconst (v := nI 1) hx hb d_M_code_221 (by decide) ?_
      refine lv_iload_n hx hb d_M_code_222 rfl (lv_at hl 0 rfl) ?_
      refine va_iast (D := (dC, dI)) hx hb hK hP hD hS 2 1 rfl rfl (vp_in_nI (by omega) (by omega)) d_M_code_223 (fun H locs hP hD hS => ?_)
      have hP : va_P (dC, dI) classes [(m0, .inr (2, [.ref hR, .int (nI L.length), .int (nI op), .int (kI o), .int (nI tk), .int (nI lst), .int (nI ln), .ref hG, .int (nI 2)])), (hR, .inl (cR, 3000, .inl f)), (hG, .inl (cG, 4, .inl (upd (upd g (nI 0).toNatClampNeg (nI 92)) (nI 1).toNatClampNeg (nI 92))))] H := hP
      have hD : va_D A [(m0, .inr (2, [.ref hR, .int (nI L.length), .int (nI op), .int (kI o), .int (nI tk), .int (nI lst), .int (nI ln), .ref hG, .int (nI 2)])), (hR, .inl (cR, 3000, .inl f)), (hG, .inl (cG, 4, .inl (upd (upd g (nI 0).toNatClampNeg (nI 92)) (nI 1).toNatClampNeg (nI 92))))] := hD
      exact kk _ H locs ls (by rw [enc_let (by rw [hlt]; decide), hlt]; exact riE g 92 92) (by rw [bofN_let (by rw [hlt]; decide)]; exact hP) (by rw [bofN_let (by rw [hlt]; decide)]; exact hD) hS (lv_sub hl [] rfl)
set_option maxHeartbeats 4000000 in
set_option maxRecDepth 100000 in
theorem M_code_24 {p : Program} {l : Launch} {e : Env} {s : State} {m : MethodId} {args : Array Value} {below : List Frame} {meth : Method} {c : Code} {Q : State → Prop} {dC : Nat → ClassId} {dI : Nat → Nat → Nat} {cR cG : ClassId} {m0 hR hG : Nat} {A : Nat → Prop} {R : Room} (C0 : Cx p s m args meth c b_M_code 4 (some .boolean) y_M_code) (hK : va_K (dC, dI) classes [(cR, .int), (cG, .int)] s) (L : List Nat) (op : Nat) (o : Option Nat) (tk lst ln : Nat) (f : Nat → Int32) (n : Nat) (hn : n < 1114112) (kk : ∀ (g : Nat → Int32) (H : Heap) (locs : List Loc) (ls : Array Slot), RI g (enc n) → va_P (dC, dI) classes [(m0, .inr (2, [.ref hR, .int (nI L.length), .int (nI op), .int (kI o), .int (nI tk), .int (nI lst), .int (nI ln), .ref hG, .int (nI (bofN n))])), (hR, .inl (cR, 3000, .inl f)), (hG, .inl (cG, 4, .inl g))] H → va_D A [(m0, .inr (2, [.ref hR, .int (nI L.length), .int (nI op), .int (kI o), .int (nI tk), .int (nI lst), .int (nI ln), .ref hG, .int (nI (bofN n))])), (hR, .inl (cR, 3000, .inl f)), (hG, .inl (cG, 4, .inl g))] → va_S A s.heap H locs → lv_has ls 4 [] → W p l e R s m args below meth c H locs 0 0 Q (F0 m 224 ls []))
    (g : Nat → Int32) (mn : Int32) (H : Heap) (locs : List Loc) (ls : Array Slot) (hP : va_P (dC, dI) classes [(m0, .inr (2, [.ref hR, .int (nI L.length), .int (nI op), .int (kI o), .int (nI tk), .int (nI lst), .int (nI ln), .ref hG, .int mn])), (hR, .inl (cR, 3000, .inl f)), (hG, .inl (cG, 4, .inl g))] H) (hD : va_D A [(m0, .inr (2, [.ref hR, .int (nI L.length), .int (nI op), .int (kI o), .int (nI tk), .int (nI lst), .int (nI ln), .ref hG, .int mn])), (hR, .inl (cR, 3000, .inl f)), (hG, .inl (cG, 4, .inl g))]) (hS : va_S A s.heap H locs) (hl : lv_has ls 4 [(0, .ref m0), (1, .int (nI n))]) : W p l e R s m args below meth c H locs 0 0 Q (F0 m 24 ls []) := by
  obtain ⟨hx, hb, hr, hml, hown, hlk, hnm, hts⟩ := id C0
  refine lv_aload_n hx hb d_M_code_24 rfl (lv_at hl 0 rfl) ?_
  refine lv_iload_n hx hb d_M_code_25 rfl (lv_at hl 1 rfl) ?_
  refine lv_sipush (v := nI 128) hx hb d_M_code_26 (by decide) ?_
  refine lq_icmp_ge hx hb (by omega) (by omega) (tgt := 36) d_M_code_29 (by decide) (fun c_1 => ?_) (fun c_1 => ?_)
  · refine lv_iload_n hx hb d_M_code_36 rfl (lv_at hl 1 rfl) ?_
    refine lv_sipush (v := nI 2048) hx hb d_M_code_37 (by decide) ?_
    refine lq_icmp_ge hx hb (by omega) (by omega) (tgt := 47) d_M_code_40 (by decide) (fun c_2 => ?_) (fun c_2 => ?_)
    · refine lv_iload_n hx hb d_M_code_47 rfl (lv_at hl 1 rfl) ?_
      refine lv_ldc (v := 65536) hx hb hown (hts _ m_227) d_M_code_48 ?_
      refine lx_i (y := nI 65536) (rfl) ?_
      refine lq_icmp_ge hx hb (by omega) (by omega) (tgt := 57) d_M_code_50 (by decide) (fun c_3 => ?_) (fun c_3 => ?_)
      · have hut : utf n = [240 + n / 64 / 64 / 64, 128 + n / 64 / 64 % 64, 128 + n / 64 % 64, 128 + n % 64] := by unfold utf; rw [if_neg (by omega), if_neg (by omega), if_neg (by omega)]
        refine lv_iconst (v := nI 4) hx hb d_M_code_57 (by decide) ?_
        refine va_put (D := (dC, dI)) (ci := 2) (v := .int (nI 4)) (ty := .int) (C := R_M) (T := F_M) (N := 9) hx hb hts i_M t_M t_M_ok n_M hown hK hP hD hS 0 rfl rfl 8 (by decide) (hts _ m_179) (fun _ h9 => h9) rfl (by decide +kernel) rfl rfl (Nat.le_of_ble_eq_true rfl) d_M_code_58 (fun H locs hP hD hS => ?_)
        have hP : va_P (dC, dI) classes [(m0, .inr (2, [.ref hR, .int (nI L.length), .int (nI op), .int (kI o), .int (nI tk), .int (nI lst), .int (nI ln), .ref hG, .int (nI 4)])), (hR, .inl (cR, 3000, .inl f)), (hG, .inl (cG, 4, .inl g))] H := hP
        have hD : va_D A [(m0, .inr (2, [.ref hR, .int (nI L.length), .int (nI op), .int (kI o), .int (nI tk), .int (nI lst), .int (nI ln), .ref hG, .int (nI 4)])), (hR, .inl (cR, 3000, .inl f)), (hG, .inl (cG, 4, .inl g))] := hD
        refine lv_iload_n hx hb d_M_code_61 rfl (lv_at hl 1 rfl) ?_
        refine lv_istore_n (lv' := [(2, .int (nI n)), (0, .ref m0), (1, .int (nI n))]) hx hb d_M_code_62 rfl hl (by decide) rfl (fun ls hl => ?_)
        refine lv_aload_n hx hb d_M_code_63 rfl (lv_at hl 1 rfl) ?_
        refine va_get (D := (dC, dI)) (ci := 2) (v := .int (nI 4)) (C := R_M) (T := F_M) (N := 9) hx hb hts i_M hown hK hP 0 rfl rfl 8 (by decide) (hts _ m_179) (fun _ h9 => h9) rfl d_M_code_64 ?_
        refine lv_iconst (v := nI 1) hx hb d_M_code_67 (by decide) ?_
        refine lq_sub hx hb (by omega) d_M_code_68 ?_
        refine lx_i (y := nI 3) (rfl) ?_
        refine lv_istore_n (lv' := [(3, .int (nI 3)), (2, .int (nI n)), (0, .ref m0), (1, .int (nI n))]) hx hb d_M_code_69 rfl hl (by decide) rfl (fun ls hl => ?_)
        refine lv_iload_n hx hb d_M_code_70 rfl (lv_at hl 0 rfl) ?_
        refine lq_if_le hx hb (by omega) (tgt := 99) d_M_code_71 (by decide) (fun c_4 => ?_) (fun c_4 => ?_)
        · exact absurd c_4 (by decide)
        · refine lv_aload_n hx hb d_M_code_74 rfl (lv_at hl 2 rfl) ?_
          refine va_get (D := (dC, dI)) (ci := 2) (v := .ref hG) (C := R_M) (T := F_M) (N := 9) hx hb hts i_M hown hK hP 0 rfl rfl 7 (by decide) (hts _ m_178) (fun _ h9 => h9) rfl d_M_code_75 ?_
          refine lv_iload_n hx hb d_M_code_78 rfl (lv_at hl 0 rfl) ?_
          refine lv_sipush (v := nI 128) hx hb d_M_code_79 (by decide) ?_
          refine lv_iload_n hx hb d_M_code_82 rfl (lv_at hl 1 rfl) ?_
          refine lv_bipush (v := nI 64) hx hb d_M_code_83 (by decide) ?_
          refine lv_irem hx hb d_M_code_85 (by decide) ?_
          refine lx_i (y := nI (n % 64)) (pk_rem (by omega) (by decide) (by decide)) ?_
          refine lq_add hx hb d_M_code_86 ?_
          refine va_iast (D := (dC, dI)) hx hb hK hP hD hS 2 1 rfl rfl (vp_in_nI (by omega) (by omega)) d_M_code_87 (fun H locs hP hD hS => ?_)
          have hP : va_P (dC, dI) classes [(m0, .inr (2, [.ref hR, .int (nI L.length), .int (nI op), .int (kI o), .int (nI tk), .int (nI lst), .int (nI ln), .ref hG, .int (nI 4)])), (hR, .inl (cR, 3000, .inl f)), (hG, .inl (cG, 4, .inl (upd g (nI 3).toNatClampNeg (nI (128 + (n % 64))))))] H := hP
          have hD : va_D A [(m0, .inr (2, [.ref hR, .int (nI L.length), .int (nI op), .int (kI o), .int (nI tk), .int (nI lst), .int (nI ln), .ref hG, .int (nI 4)])), (hR, .inl (cR, 3000, .inl f)), (hG, .inl (cG, 4, .inl (upd g (nI 3).toNatClampNeg (nI (128 + (n % 64))))))] := hD
          refine lv_iload_n hx hb d_M_code_88 rfl (lv_at hl 1 rfl) ?_
          refine lv_bipush (v := nI 64) hx hb d_M_code_89 (by decide) ?_
          refine lv_idiv hx hb d_M_code_91 (by decide) ?_
          refine lx_i (y := nI (n / 64)) (pk_div (by omega) (by decide) (by decide)) ?_
          refine lv_istore_n (lv' := [(2, .int (nI (n / 64))), (3, .int (nI 3)), (0, .ref m0), (1, .int (nI n))]) hx hb d_M_code_92 rfl hl (by decide) rfl (fun ls hl => ?_)
          refine lv_iinc (v := nI 2) (lv' := [(3, .int (nI 2)), (2, .int (nI (n / 64))), (0, .ref m0), (1, .int (nI n))]) hx hb d_M_code_93 hl (k := 1) rfl (by decide) (by decide) rfl (fun ls hl => ?_)
          refine lv_goto (tgt := 70) hx hb d_M_code_96 (by decide) ?_
          refine lv_iload_n hx hb d_M_code_70 rfl (lv_at hl 0 rfl) ?_
          refine lq_if_le hx hb (by omega) (tgt := 99) d_M_code_71 (by decide) (fun c_5 => ?_) (fun c_5 => ?_)
          · exact absurd c_5 (by decide)
          · refine lv_aload_n hx hb d_M_code_74 rfl (lv_at hl 2 rfl) ?_
            refine va_get (D := (dC, dI)) (ci := 2) (v := .ref hG) (C := R_M) (T := F_M) (N := 9) hx hb hts i_M hown hK hP 0 rfl rfl 7 (by decide) (hts _ m_178) (fun _ h9 => h9) rfl d_M_code_75 ?_
            refine lv_iload_n hx hb d_M_code_78 rfl (lv_at hl 0 rfl) ?_
            refine lv_sipush (v := nI 128) hx hb d_M_code_79 (by decide) ?_
            refine lv_iload_n hx hb d_M_code_82 rfl (lv_at hl 1 rfl) ?_
            refine lv_bipush (v := nI 64) hx hb d_M_code_83 (by decide) ?_
            refine lv_irem hx hb d_M_code_85 (by decide) ?_
            refine lx_i (y := nI ((n / 64) % 64)) (pk_rem (by omega) (by decide) (by decide)) ?_
            refine lq_add hx hb d_M_code_86 ?_
            refine va_iast (D := (dC, dI)) hx hb hK hP hD hS 2 1 rfl rfl (vp_in_nI (by omega) (by omega)) d_M_code_87 (fun H locs hP hD hS => ?_)
            have hP : va_P (dC, dI) classes [(m0, .inr (2, [.ref hR, .int (nI L.length), .int (nI op), .int (kI o), .int (nI tk), .int (nI lst), .int (nI ln), .ref hG, .int (nI 4)])), (hR, .inl (cR, 3000, .inl f)), (hG, .inl (cG, 4, .inl (upd (upd g (nI 3).toNatClampNeg (nI (128 + (n % 64)))) (nI 2).toNatClampNeg (nI (128 + ((n / 64) % 64))))))] H := hP
            have hD : va_D A [(m0, .inr (2, [.ref hR, .int (nI L.length), .int (nI op), .int (kI o), .int (nI tk), .int (nI lst), .int (nI ln), .ref hG, .int (nI 4)])), (hR, .inl (cR, 3000, .inl f)), (hG, .inl (cG, 4, .inl (upd (upd g (nI 3).toNatClampNeg (nI (128 + (n % 64)))) (nI 2).toNatClampNeg (nI (128 + ((n / 64) % 64))))))] := hD
            refine lv_iload_n hx hb d_M_code_88 rfl (lv_at hl 1 rfl) ?_
            refine lv_bipush (v := nI 64) hx hb d_M_code_89 (by decide) ?_
            refine lv_idiv hx hb d_M_code_91 (by decide) ?_
            refine lx_i (y := nI ((n / 64) / 64)) (pk_div (by omega) (by decide) (by decide)) ?_
            refine lv_istore_n (lv' := [(2, .int (nI ((n / 64) / 64))), (3, .int (nI 2)), (0, .ref m0), (1, .int (nI n))]) hx hb d_M_code_92 rfl hl (by decide) rfl (fun ls hl => ?_)
            refine lv_iinc (v := nI 1) (lv' := [(3, .int (nI 1)), (2, .int (nI ((n / 64) / 64))), (0, .ref m0), (1, .int (nI n))]) hx hb d_M_code_93 hl (k := 1) rfl (by decide) (by decide) rfl (fun ls hl => ?_)
            refine lv_goto (tgt := 70) hx hb d_M_code_96 (by decide) ?_
            refine lv_iload_n hx hb d_M_code_70 rfl (lv_at hl 0 rfl) ?_
            refine lq_if_le hx hb (by omega) (tgt := 99) d_M_code_71 (by decide) (fun c_6 => ?_) (fun c_6 => ?_)
            · exact absurd c_6 (by decide)
            · refine lv_aload_n hx hb d_M_code_74 rfl (lv_at hl 2 rfl) ?_
              refine va_get (D := (dC, dI)) (ci := 2) (v := .ref hG) (C := R_M) (T := F_M) (N := 9) hx hb hts i_M hown hK hP 0 rfl rfl 7 (by decide) (hts _ m_178) (fun _ h9 => h9) rfl d_M_code_75 ?_
              refine lv_iload_n hx hb d_M_code_78 rfl (lv_at hl 0 rfl) ?_
              refine lv_sipush (v := nI 128) hx hb d_M_code_79 (by decide) ?_
              refine lv_iload_n hx hb d_M_code_82 rfl (lv_at hl 1 rfl) ?_
              refine lv_bipush (v := nI 64) hx hb d_M_code_83 (by decide) ?_
              refine lv_irem hx hb d_M_code_85 (by decide) ?_
              refine lx_i (y := nI (((n / 64) / 64) % 64)) (pk_rem (by omega) (by decide) (by decide)) ?_
              refine lq_add hx hb d_M_code_86 ?_
              refine va_iast (D := (dC, dI)) hx hb hK hP hD hS 2 1 rfl rfl (vp_in_nI (by omega) (by omega)) d_M_code_87 (fun H locs hP hD hS => ?_)
              have hP : va_P (dC, dI) classes [(m0, .inr (2, [.ref hR, .int (nI L.length), .int (nI op), .int (kI o), .int (nI tk), .int (nI lst), .int (nI ln), .ref hG, .int (nI 4)])), (hR, .inl (cR, 3000, .inl f)), (hG, .inl (cG, 4, .inl (upd (upd (upd g (nI 3).toNatClampNeg (nI (128 + (n % 64)))) (nI 2).toNatClampNeg (nI (128 + ((n / 64) % 64)))) (nI 1).toNatClampNeg (nI (128 + (((n / 64) / 64) % 64))))))] H := hP
              have hD : va_D A [(m0, .inr (2, [.ref hR, .int (nI L.length), .int (nI op), .int (kI o), .int (nI tk), .int (nI lst), .int (nI ln), .ref hG, .int (nI 4)])), (hR, .inl (cR, 3000, .inl f)), (hG, .inl (cG, 4, .inl (upd (upd (upd g (nI 3).toNatClampNeg (nI (128 + (n % 64)))) (nI 2).toNatClampNeg (nI (128 + ((n / 64) % 64)))) (nI 1).toNatClampNeg (nI (128 + (((n / 64) / 64) % 64))))))] := hD
              refine lv_iload_n hx hb d_M_code_88 rfl (lv_at hl 1 rfl) ?_
              refine lv_bipush (v := nI 64) hx hb d_M_code_89 (by decide) ?_
              refine lv_idiv hx hb d_M_code_91 (by decide) ?_
              refine lx_i (y := nI (((n / 64) / 64) / 64)) (pk_div (by omega) (by decide) (by decide)) ?_
              refine lv_istore_n (lv' := [(2, .int (nI (((n / 64) / 64) / 64))), (3, .int (nI 1)), (0, .ref m0), (1, .int (nI n))]) hx hb d_M_code_92 rfl hl (by decide) rfl (fun ls hl => ?_)
              refine lv_iinc (v := nI 0) (lv' := [(3, .int (nI 0)), (2, .int (nI (((n / 64) / 64) / 64))), (0, .ref m0), (1, .int (nI n))]) hx hb d_M_code_93 hl (k := 1) rfl (by decide) (by decide) rfl (fun ls hl => ?_)
              refine lv_goto (tgt := 70) hx hb d_M_code_96 (by decide) ?_
              refine lv_iload_n hx hb d_M_code_70 rfl (lv_at hl 0 rfl) ?_
              refine lq_if_le hx hb (by omega) (tgt := 99) d_M_code_71 (by decide) (fun c_7 => ?_) (fun c_7 => ?_)
              · refine lv_aload_n hx hb d_M_code_99 rfl (lv_at hl 2 rfl) ?_
                refine va_get (D := (dC, dI)) (ci := 2) (v := .ref hG) (C := R_M) (T := F_M) (N := 9) hx hb hts i_M hown hK hP 0 rfl rfl 7 (by decide) (hts _ m_178) (fun _ h9 => h9) rfl d_M_code_100 ?_
                refine lv_iconst (v := nI 0) hx hb d_M_code_103 (by decide) ?_
                refine lv_aload_n hx hb d_M_code_104 rfl (lv_at hl 2 rfl) ?_
                refine va_get (D := (dC, dI)) (ci := 2) (v := .int (nI 4)) (C := R_M) (T := F_M) (N := 9) hx hb hts i_M hown hK hP 0 rfl rfl 8 (by decide) (hts _ m_179) (fun _ h9 => h9) rfl d_M_code_105 ?_
                refine lv_iconst (v := nI 1) hx hb d_M_code_108 (by decide) ?_
                refine lq_icmp_ne hx hb (by omega) (by omega) (tgt := 116) d_M_code_109 (by decide) (fun c_8 => ?_) (fun c_8 => ?_)
                · refine lv_aload_n hx hb d_M_code_116 rfl (lv_at hl 2 rfl) ?_
                  refine va_get (D := (dC, dI)) (ci := 2) (v := .int (nI 4)) (C := R_M) (T := F_M) (N := 9) hx hb hts i_M hown hK hP 0 rfl rfl 8 (by decide) (hts _ m_179) (fun _ h9 => h9) rfl d_M_code_117 ?_
                  refine lv_iconst (v := nI 2) hx hb d_M_code_120 (by decide) ?_
                  refine lq_icmp_ne hx hb (by omega) (by omega) (tgt := 132) d_M_code_121 (by decide) (fun c_9 => ?_) (fun c_9 => ?_)
                  · refine lv_aload_n hx hb d_M_code_132 rfl (lv_at hl 2 rfl) ?_
                    refine va_get (D := (dC, dI)) (ci := 2) (v := .int (nI 4)) (C := R_M) (T := F_M) (N := 9) hx hb hts i_M hown hK hP 0 rfl rfl 8 (by decide) (hts _ m_179) (fun _ h9 => h9) rfl d_M_code_133 ?_
                    refine lv_iconst (v := nI 3) hx hb d_M_code_136 (by decide) ?_
                    refine lq_icmp_ne hx hb (by omega) (by omega) (tgt := 148) d_M_code_137 (by decide) (fun c_10 => ?_) (fun c_10 => ?_)
                    · refine lv_sipush (v := nI 240) hx hb d_M_code_148 (by decide) ?_
                      refine lv_iload_n hx hb d_M_code_151 rfl (lv_at hl 1 rfl) ?_
                      refine lq_add hx hb d_M_code_152 ?_
                      refine va_iast (D := (dC, dI)) hx hb hK hP hD hS 2 1 rfl rfl (vp_in_nI (by omega) (by omega)) d_M_code_153 (fun H locs hP hD hS => ?_)
                      have hP : va_P (dC, dI) classes [(m0, .inr (2, [.ref hR, .int (nI L.length), .int (nI op), .int (kI o), .int (nI tk), .int (nI lst), .int (nI ln), .ref hG, .int (nI 4)])), (hR, .inl (cR, 3000, .inl f)), (hG, .inl (cG, 4, .inl (upd (upd (upd (upd g (nI 3).toNatClampNeg (nI (128 + (n % 64)))) (nI 2).toNatClampNeg (nI (128 + ((n / 64) % 64)))) (nI 1).toNatClampNeg (nI (128 + (((n / 64) / 64) % 64)))) (nI 0).toNatClampNeg (nI (240 + (((n / 64) / 64) / 64))))))] H := hP
                      have hD : va_D A [(m0, .inr (2, [.ref hR, .int (nI L.length), .int (nI op), .int (kI o), .int (nI tk), .int (nI lst), .int (nI ln), .ref hG, .int (nI 4)])), (hR, .inl (cR, 3000, .inl f)), (hG, .inl (cG, 4, .inl (upd (upd (upd (upd g (nI 3).toNatClampNeg (nI (128 + (n % 64)))) (nI 2).toNatClampNeg (nI (128 + ((n / 64) % 64)))) (nI 1).toNatClampNeg (nI (128 + (((n / 64) / 64) % 64)))) (nI 0).toNatClampNeg (nI (240 + (((n / 64) / 64) / 64))))))] := hD
                      exact M_code_154 C0 hK L op o tk lst ln f n hn kk _ 4 _ _ H locs ls (fun hlt => ⟨by rw [hut]; exact ri4 g _ _ _ _, by rw [← utf_len hlt, hut]; rfl⟩) hP hD hS (lv_sub hl [0, 1, 2, 3] rfl)
                    · exact absurd c_10 (by decide)
                  · exact absurd c_9 (by decide)
                · exact absurd c_8 (by decide)
              · exact absurd c_7 (by decide)
      · have hut : utf n = [224 + n / 64 / 64, 128 + n / 64 % 64, 128 + n % 64] := by unfold utf; rw [if_neg (by omega), if_neg (by omega), if_pos (by omega)]
        refine lv_iconst (v := nI 3) hx hb d_M_code_53 (by decide) ?_
        refine lv_goto (tgt := 58) hx hb d_M_code_54 (by decide) ?_
        refine va_put (D := (dC, dI)) (ci := 2) (v := .int (nI 3)) (ty := .int) (C := R_M) (T := F_M) (N := 9) hx hb hts i_M t_M t_M_ok n_M hown hK hP hD hS 0 rfl rfl 8 (by decide) (hts _ m_179) (fun _ h9 => h9) rfl (by decide +kernel) rfl rfl (Nat.le_of_ble_eq_true rfl) d_M_code_58 (fun H locs hP hD hS => ?_)
        have hP : va_P (dC, dI) classes [(m0, .inr (2, [.ref hR, .int (nI L.length), .int (nI op), .int (kI o), .int (nI tk), .int (nI lst), .int (nI ln), .ref hG, .int (nI 3)])), (hR, .inl (cR, 3000, .inl f)), (hG, .inl (cG, 4, .inl g))] H := hP
        have hD : va_D A [(m0, .inr (2, [.ref hR, .int (nI L.length), .int (nI op), .int (kI o), .int (nI tk), .int (nI lst), .int (nI ln), .ref hG, .int (nI 3)])), (hR, .inl (cR, 3000, .inl f)), (hG, .inl (cG, 4, .inl g))] := hD
        refine lv_iload_n hx hb d_M_code_61 rfl (lv_at hl 1 rfl) ?_
        refine lv_istore_n (lv' := [(2, .int (nI n)), (0, .ref m0), (1, .int (nI n))]) hx hb d_M_code_62 rfl hl (by decide) rfl (fun ls hl => ?_)
        refine lv_aload_n hx hb d_M_code_63 rfl (lv_at hl 1 rfl) ?_
        refine va_get (D := (dC, dI)) (ci := 2) (v := .int (nI 3)) (C := R_M) (T := F_M) (N := 9) hx hb hts i_M hown hK hP 0 rfl rfl 8 (by decide) (hts _ m_179) (fun _ h9 => h9) rfl d_M_code_64 ?_
        refine lv_iconst (v := nI 1) hx hb d_M_code_67 (by decide) ?_
        refine lq_sub hx hb (by omega) d_M_code_68 ?_
        refine lx_i (y := nI 2) (rfl) ?_
        refine lv_istore_n (lv' := [(3, .int (nI 2)), (2, .int (nI n)), (0, .ref m0), (1, .int (nI n))]) hx hb d_M_code_69 rfl hl (by decide) rfl (fun ls hl => ?_)
        refine lv_iload_n hx hb d_M_code_70 rfl (lv_at hl 0 rfl) ?_
        refine lq_if_le hx hb (by omega) (tgt := 99) d_M_code_71 (by decide) (fun c_11 => ?_) (fun c_11 => ?_)
        · exact absurd c_11 (by decide)
        · refine lv_aload_n hx hb d_M_code_74 rfl (lv_at hl 2 rfl) ?_
          refine va_get (D := (dC, dI)) (ci := 2) (v := .ref hG) (C := R_M) (T := F_M) (N := 9) hx hb hts i_M hown hK hP 0 rfl rfl 7 (by decide) (hts _ m_178) (fun _ h9 => h9) rfl d_M_code_75 ?_
          refine lv_iload_n hx hb d_M_code_78 rfl (lv_at hl 0 rfl) ?_
          refine lv_sipush (v := nI 128) hx hb d_M_code_79 (by decide) ?_
          refine lv_iload_n hx hb d_M_code_82 rfl (lv_at hl 1 rfl) ?_
          refine lv_bipush (v := nI 64) hx hb d_M_code_83 (by decide) ?_
          refine lv_irem hx hb d_M_code_85 (by decide) ?_
          refine lx_i (y := nI (n % 64)) (pk_rem (by omega) (by decide) (by decide)) ?_
          refine lq_add hx hb d_M_code_86 ?_
          refine va_iast (D := (dC, dI)) hx hb hK hP hD hS 2 1 rfl rfl (vp_in_nI (by omega) (by omega)) d_M_code_87 (fun H locs hP hD hS => ?_)
          have hP : va_P (dC, dI) classes [(m0, .inr (2, [.ref hR, .int (nI L.length), .int (nI op), .int (kI o), .int (nI tk), .int (nI lst), .int (nI ln), .ref hG, .int (nI 3)])), (hR, .inl (cR, 3000, .inl f)), (hG, .inl (cG, 4, .inl (upd g (nI 2).toNatClampNeg (nI (128 + (n % 64))))))] H := hP
          have hD : va_D A [(m0, .inr (2, [.ref hR, .int (nI L.length), .int (nI op), .int (kI o), .int (nI tk), .int (nI lst), .int (nI ln), .ref hG, .int (nI 3)])), (hR, .inl (cR, 3000, .inl f)), (hG, .inl (cG, 4, .inl (upd g (nI 2).toNatClampNeg (nI (128 + (n % 64))))))] := hD
          refine lv_iload_n hx hb d_M_code_88 rfl (lv_at hl 1 rfl) ?_
          refine lv_bipush (v := nI 64) hx hb d_M_code_89 (by decide) ?_
          refine lv_idiv hx hb d_M_code_91 (by decide) ?_
          refine lx_i (y := nI (n / 64)) (pk_div (by omega) (by decide) (by decide)) ?_
          refine lv_istore_n (lv' := [(2, .int (nI (n / 64))), (3, .int (nI 2)), (0, .ref m0), (1, .int (nI n))]) hx hb d_M_code_92 rfl hl (by decide) rfl (fun ls hl => ?_)
          refine lv_iinc (v := nI 1) (lv' := [(3, .int (nI 1)), (2, .int (nI (n / 64))), (0, .ref m0), (1, .int (nI n))]) hx hb d_M_code_93 hl (k := 1) rfl (by decide) (by decide) rfl (fun ls hl => ?_)
          refine lv_goto (tgt := 70) hx hb d_M_code_96 (by decide) ?_
          refine lv_iload_n hx hb d_M_code_70 rfl (lv_at hl 0 rfl) ?_
          refine lq_if_le hx hb (by omega) (tgt := 99) d_M_code_71 (by decide) (fun c_12 => ?_) (fun c_12 => ?_)
          · exact absurd c_12 (by decide)
          · refine lv_aload_n hx hb d_M_code_74 rfl (lv_at hl 2 rfl) ?_
            refine va_get (D := (dC, dI)) (ci := 2) (v := .ref hG) (C := R_M) (T := F_M) (N := 9) hx hb hts i_M hown hK hP 0 rfl rfl 7 (by decide) (hts _ m_178) (fun _ h9 => h9) rfl d_M_code_75 ?_
            refine lv_iload_n hx hb d_M_code_78 rfl (lv_at hl 0 rfl) ?_
            refine lv_sipush (v := nI 128) hx hb d_M_code_79 (by decide) ?_
            refine lv_iload_n hx hb d_M_code_82 rfl (lv_at hl 1 rfl) ?_
            refine lv_bipush (v := nI 64) hx hb d_M_code_83 (by decide) ?_
            refine lv_irem hx hb d_M_code_85 (by decide) ?_
            refine lx_i (y := nI ((n / 64) % 64)) (pk_rem (by omega) (by decide) (by decide)) ?_
            refine lq_add hx hb d_M_code_86 ?_
            refine va_iast (D := (dC, dI)) hx hb hK hP hD hS 2 1 rfl rfl (vp_in_nI (by omega) (by omega)) d_M_code_87 (fun H locs hP hD hS => ?_)
            have hP : va_P (dC, dI) classes [(m0, .inr (2, [.ref hR, .int (nI L.length), .int (nI op), .int (kI o), .int (nI tk), .int (nI lst), .int (nI ln), .ref hG, .int (nI 3)])), (hR, .inl (cR, 3000, .inl f)), (hG, .inl (cG, 4, .inl (upd (upd g (nI 2).toNatClampNeg (nI (128 + (n % 64)))) (nI 1).toNatClampNeg (nI (128 + ((n / 64) % 64))))))] H := hP
            have hD : va_D A [(m0, .inr (2, [.ref hR, .int (nI L.length), .int (nI op), .int (kI o), .int (nI tk), .int (nI lst), .int (nI ln), .ref hG, .int (nI 3)])), (hR, .inl (cR, 3000, .inl f)), (hG, .inl (cG, 4, .inl (upd (upd g (nI 2).toNatClampNeg (nI (128 + (n % 64)))) (nI 1).toNatClampNeg (nI (128 + ((n / 64) % 64))))))] := hD
            refine lv_iload_n hx hb d_M_code_88 rfl (lv_at hl 1 rfl) ?_
            refine lv_bipush (v := nI 64) hx hb d_M_code_89 (by decide) ?_
            refine lv_idiv hx hb d_M_code_91 (by decide) ?_
            refine lx_i (y := nI ((n / 64) / 64)) (pk_div (by omega) (by decide) (by decide)) ?_
            refine lv_istore_n (lv' := [(2, .int (nI ((n / 64) / 64))), (3, .int (nI 1)), (0, .ref m0), (1, .int (nI n))]) hx hb d_M_code_92 rfl hl (by decide) rfl (fun ls hl => ?_)
            refine lv_iinc (v := nI 0) (lv' := [(3, .int (nI 0)), (2, .int (nI ((n / 64) / 64))), (0, .ref m0), (1, .int (nI n))]) hx hb d_M_code_93 hl (k := 1) rfl (by decide) (by decide) rfl (fun ls hl => ?_)
            refine lv_goto (tgt := 70) hx hb d_M_code_96 (by decide) ?_
            refine lv_iload_n hx hb d_M_code_70 rfl (lv_at hl 0 rfl) ?_
            refine lq_if_le hx hb (by omega) (tgt := 99) d_M_code_71 (by decide) (fun c_13 => ?_) (fun c_13 => ?_)
            · refine lv_aload_n hx hb d_M_code_99 rfl (lv_at hl 2 rfl) ?_
              refine va_get (D := (dC, dI)) (ci := 2) (v := .ref hG) (C := R_M) (T := F_M) (N := 9) hx hb hts i_M hown hK hP 0 rfl rfl 7 (by decide) (hts _ m_178) (fun _ h9 => h9) rfl d_M_code_100 ?_
              refine lv_iconst (v := nI 0) hx hb d_M_code_103 (by decide) ?_
              refine lv_aload_n hx hb d_M_code_104 rfl (lv_at hl 2 rfl) ?_
              refine va_get (D := (dC, dI)) (ci := 2) (v := .int (nI 3)) (C := R_M) (T := F_M) (N := 9) hx hb hts i_M hown hK hP 0 rfl rfl 8 (by decide) (hts _ m_179) (fun _ h9 => h9) rfl d_M_code_105 ?_
              refine lv_iconst (v := nI 1) hx hb d_M_code_108 (by decide) ?_
              refine lq_icmp_ne hx hb (by omega) (by omega) (tgt := 116) d_M_code_109 (by decide) (fun c_14 => ?_) (fun c_14 => ?_)
              · refine lv_aload_n hx hb d_M_code_116 rfl (lv_at hl 2 rfl) ?_
                refine va_get (D := (dC, dI)) (ci := 2) (v := .int (nI 3)) (C := R_M) (T := F_M) (N := 9) hx hb hts i_M hown hK hP 0 rfl rfl 8 (by decide) (hts _ m_179) (fun _ h9 => h9) rfl d_M_code_117 ?_
                refine lv_iconst (v := nI 2) hx hb d_M_code_120 (by decide) ?_
                refine lq_icmp_ne hx hb (by omega) (by omega) (tgt := 132) d_M_code_121 (by decide) (fun c_15 => ?_) (fun c_15 => ?_)
                · refine lv_aload_n hx hb d_M_code_132 rfl (lv_at hl 2 rfl) ?_
                  refine va_get (D := (dC, dI)) (ci := 2) (v := .int (nI 3)) (C := R_M) (T := F_M) (N := 9) hx hb hts i_M hown hK hP 0 rfl rfl 8 (by decide) (hts _ m_179) (fun _ h9 => h9) rfl d_M_code_133 ?_
                  refine lv_iconst (v := nI 3) hx hb d_M_code_136 (by decide) ?_
                  refine lq_icmp_ne hx hb (by omega) (by omega) (tgt := 148) d_M_code_137 (by decide) (fun c_16 => ?_) (fun c_16 => ?_)
                  · exact absurd rfl c_16
                  · refine lv_sipush (v := nI 224) hx hb d_M_code_140 (by decide) ?_
                    refine lv_iload_n hx hb d_M_code_143 rfl (lv_at hl 1 rfl) ?_
                    refine lq_add hx hb d_M_code_144 ?_
                    refine lv_goto (tgt := 153) hx hb d_M_code_145 (by decide) ?_
                    refine va_iast (D := (dC, dI)) hx hb hK hP hD hS 2 1 rfl rfl (vp_in_nI (by omega) (by omega)) d_M_code_153 (fun H locs hP hD hS => ?_)
                    have hP : va_P (dC, dI) classes [(m0, .inr (2, [.ref hR, .int (nI L.length), .int (nI op), .int (kI o), .int (nI tk), .int (nI lst), .int (nI ln), .ref hG, .int (nI 3)])), (hR, .inl (cR, 3000, .inl f)), (hG, .inl (cG, 4, .inl (upd (upd (upd g (nI 2).toNatClampNeg (nI (128 + (n % 64)))) (nI 1).toNatClampNeg (nI (128 + ((n / 64) % 64)))) (nI 0).toNatClampNeg (nI (224 + ((n / 64) / 64))))))] H := hP
                    have hD : va_D A [(m0, .inr (2, [.ref hR, .int (nI L.length), .int (nI op), .int (kI o), .int (nI tk), .int (nI lst), .int (nI ln), .ref hG, .int (nI 3)])), (hR, .inl (cR, 3000, .inl f)), (hG, .inl (cG, 4, .inl (upd (upd (upd g (nI 2).toNatClampNeg (nI (128 + (n % 64)))) (nI 1).toNatClampNeg (nI (128 + ((n / 64) % 64)))) (nI 0).toNatClampNeg (nI (224 + ((n / 64) / 64))))))] := hD
                    exact M_code_154 C0 hK L op o tk lst ln f n hn kk _ 3 _ _ H locs ls (fun hlt => ⟨by rw [hut]; exact ri3 g _ _ _, by rw [← utf_len hlt, hut]; rfl⟩) hP hD hS (lv_sub hl [0, 1, 2, 3] rfl)
                · exact absurd c_15 (by decide)
              · exact absurd c_14 (by decide)
            · exact absurd c_13 (by decide)
    · have hut : utf n = [192 + n / 64, 128 + n % 64] := by unfold utf; rw [if_neg (by omega), if_pos (by omega)]
      refine lv_iconst (v := nI 2) hx hb d_M_code_43 (by decide) ?_
      refine lv_goto (tgt := 58) hx hb d_M_code_44 (by decide) ?_
      refine va_put (D := (dC, dI)) (ci := 2) (v := .int (nI 2)) (ty := .int) (C := R_M) (T := F_M) (N := 9) hx hb hts i_M t_M t_M_ok n_M hown hK hP hD hS 0 rfl rfl 8 (by decide) (hts _ m_179) (fun _ h9 => h9) rfl (by decide +kernel) rfl rfl (Nat.le_of_ble_eq_true rfl) d_M_code_58 (fun H locs hP hD hS => ?_)
      have hP : va_P (dC, dI) classes [(m0, .inr (2, [.ref hR, .int (nI L.length), .int (nI op), .int (kI o), .int (nI tk), .int (nI lst), .int (nI ln), .ref hG, .int (nI 2)])), (hR, .inl (cR, 3000, .inl f)), (hG, .inl (cG, 4, .inl g))] H := hP
      have hD : va_D A [(m0, .inr (2, [.ref hR, .int (nI L.length), .int (nI op), .int (kI o), .int (nI tk), .int (nI lst), .int (nI ln), .ref hG, .int (nI 2)])), (hR, .inl (cR, 3000, .inl f)), (hG, .inl (cG, 4, .inl g))] := hD
      refine lv_iload_n hx hb d_M_code_61 rfl (lv_at hl 1 rfl) ?_
      refine lv_istore_n (lv' := [(2, .int (nI n)), (0, .ref m0), (1, .int (nI n))]) hx hb d_M_code_62 rfl hl (by decide) rfl (fun ls hl => ?_)
      refine lv_aload_n hx hb d_M_code_63 rfl (lv_at hl 1 rfl) ?_
      refine va_get (D := (dC, dI)) (ci := 2) (v := .int (nI 2)) (C := R_M) (T := F_M) (N := 9) hx hb hts i_M hown hK hP 0 rfl rfl 8 (by decide) (hts _ m_179) (fun _ h9 => h9) rfl d_M_code_64 ?_
      refine lv_iconst (v := nI 1) hx hb d_M_code_67 (by decide) ?_
      refine lq_sub hx hb (by omega) d_M_code_68 ?_
      refine lx_i (y := nI 1) (rfl) ?_
      refine lv_istore_n (lv' := [(3, .int (nI 1)), (2, .int (nI n)), (0, .ref m0), (1, .int (nI n))]) hx hb d_M_code_69 rfl hl (by decide) rfl (fun ls hl => ?_)
      refine lv_iload_n hx hb d_M_code_70 rfl (lv_at hl 0 rfl) ?_
      refine lq_if_le hx hb (by omega) (tgt := 99) d_M_code_71 (by decide) (fun c_17 => ?_) (fun c_17 => ?_)
      · exact absurd c_17 (by decide)
      · refine lv_aload_n hx hb d_M_code_74 rfl (lv_at hl 2 rfl) ?_
        refine va_get (D := (dC, dI)) (ci := 2) (v := .ref hG) (C := R_M) (T := F_M) (N := 9) hx hb hts i_M hown hK hP 0 rfl rfl 7 (by decide) (hts _ m_178) (fun _ h9 => h9) rfl d_M_code_75 ?_
        refine lv_iload_n hx hb d_M_code_78 rfl (lv_at hl 0 rfl) ?_
        refine lv_sipush (v := nI 128) hx hb d_M_code_79 (by decide) ?_
        refine lv_iload_n hx hb d_M_code_82 rfl (lv_at hl 1 rfl) ?_
        refine lv_bipush (v := nI 64) hx hb d_M_code_83 (by decide) ?_
        refine lv_irem hx hb d_M_code_85 (by decide) ?_
        refine lx_i (y := nI (n % 64)) (pk_rem (by omega) (by decide) (by decide)) ?_
        refine lq_add hx hb d_M_code_86 ?_
        refine va_iast (D := (dC, dI)) hx hb hK hP hD hS 2 1 rfl rfl (vp_in_nI (by omega) (by omega)) d_M_code_87 (fun H locs hP hD hS => ?_)
        have hP : va_P (dC, dI) classes [(m0, .inr (2, [.ref hR, .int (nI L.length), .int (nI op), .int (kI o), .int (nI tk), .int (nI lst), .int (nI ln), .ref hG, .int (nI 2)])), (hR, .inl (cR, 3000, .inl f)), (hG, .inl (cG, 4, .inl (upd g (nI 1).toNatClampNeg (nI (128 + (n % 64))))))] H := hP
        have hD : va_D A [(m0, .inr (2, [.ref hR, .int (nI L.length), .int (nI op), .int (kI o), .int (nI tk), .int (nI lst), .int (nI ln), .ref hG, .int (nI 2)])), (hR, .inl (cR, 3000, .inl f)), (hG, .inl (cG, 4, .inl (upd g (nI 1).toNatClampNeg (nI (128 + (n % 64))))))] := hD
        refine lv_iload_n hx hb d_M_code_88 rfl (lv_at hl 1 rfl) ?_
        refine lv_bipush (v := nI 64) hx hb d_M_code_89 (by decide) ?_
        refine lv_idiv hx hb d_M_code_91 (by decide) ?_
        refine lx_i (y := nI (n / 64)) (pk_div (by omega) (by decide) (by decide)) ?_
        refine lv_istore_n (lv' := [(2, .int (nI (n / 64))), (3, .int (nI 1)), (0, .ref m0), (1, .int (nI n))]) hx hb d_M_code_92 rfl hl (by decide) rfl (fun ls hl => ?_)
        refine lv_iinc (v := nI 0) (lv' := [(3, .int (nI 0)), (2, .int (nI (n / 64))), (0, .ref m0), (1, .int (nI n))]) hx hb d_M_code_93 hl (k := 1) rfl (by decide) (by decide) rfl (fun ls hl => ?_)
        refine lv_goto (tgt := 70) hx hb d_M_code_96 (by decide) ?_
        refine lv_iload_n hx hb d_M_code_70 rfl (lv_at hl 0 rfl) ?_
        refine lq_if_le hx hb (by omega) (tgt := 99) d_M_code_71 (by decide) (fun c_18 => ?_) (fun c_18 => ?_)
        · refine lv_aload_n hx hb d_M_code_99 rfl (lv_at hl 2 rfl) ?_
          refine va_get (D := (dC, dI)) (ci := 2) (v := .ref hG) (C := R_M) (T := F_M) (N := 9) hx hb hts i_M hown hK hP 0 rfl rfl 7 (by decide) (hts _ m_178) (fun _ h9 => h9) rfl d_M_code_100 ?_
          refine lv_iconst (v := nI 0) hx hb d_M_code_103 (by decide) ?_
          refine lv_aload_n hx hb d_M_code_104 rfl (lv_at hl 2 rfl) ?_
          refine va_get (D := (dC, dI)) (ci := 2) (v := .int (nI 2)) (C := R_M) (T := F_M) (N := 9) hx hb hts i_M hown hK hP 0 rfl rfl 8 (by decide) (hts _ m_179) (fun _ h9 => h9) rfl d_M_code_105 ?_
          refine lv_iconst (v := nI 1) hx hb d_M_code_108 (by decide) ?_
          refine lq_icmp_ne hx hb (by omega) (by omega) (tgt := 116) d_M_code_109 (by decide) (fun c_19 => ?_) (fun c_19 => ?_)
          · refine lv_aload_n hx hb d_M_code_116 rfl (lv_at hl 2 rfl) ?_
            refine va_get (D := (dC, dI)) (ci := 2) (v := .int (nI 2)) (C := R_M) (T := F_M) (N := 9) hx hb hts i_M hown hK hP 0 rfl rfl 8 (by decide) (hts _ m_179) (fun _ h9 => h9) rfl d_M_code_117 ?_
            refine lv_iconst (v := nI 2) hx hb d_M_code_120 (by decide) ?_
            refine lq_icmp_ne hx hb (by omega) (by omega) (tgt := 132) d_M_code_121 (by decide) (fun c_20 => ?_) (fun c_20 => ?_)
            · exact absurd rfl c_20
            · refine lv_sipush (v := nI 192) hx hb d_M_code_124 (by decide) ?_
              refine lv_iload_n hx hb d_M_code_127 rfl (lv_at hl 1 rfl) ?_
              refine lq_add hx hb d_M_code_128 ?_
              refine lv_goto (tgt := 153) hx hb d_M_code_129 (by decide) ?_
              refine va_iast (D := (dC, dI)) hx hb hK hP hD hS 2 1 rfl rfl (vp_in_nI (by omega) (by omega)) d_M_code_153 (fun H locs hP hD hS => ?_)
              have hP : va_P (dC, dI) classes [(m0, .inr (2, [.ref hR, .int (nI L.length), .int (nI op), .int (kI o), .int (nI tk), .int (nI lst), .int (nI ln), .ref hG, .int (nI 2)])), (hR, .inl (cR, 3000, .inl f)), (hG, .inl (cG, 4, .inl (upd (upd g (nI 1).toNatClampNeg (nI (128 + (n % 64)))) (nI 0).toNatClampNeg (nI (192 + (n / 64))))))] H := hP
              have hD : va_D A [(m0, .inr (2, [.ref hR, .int (nI L.length), .int (nI op), .int (kI o), .int (nI tk), .int (nI lst), .int (nI ln), .ref hG, .int (nI 2)])), (hR, .inl (cR, 3000, .inl f)), (hG, .inl (cG, 4, .inl (upd (upd g (nI 1).toNatClampNeg (nI (128 + (n % 64)))) (nI 0).toNatClampNeg (nI (192 + (n / 64))))))] := hD
              exact M_code_154 C0 hK L op o tk lst ln f n hn kk _ 2 _ _ H locs ls (fun hlt => ⟨by rw [hut]; exact ri2 g _ _, by rw [← utf_len hlt, hut]; rfl⟩) hP hD hS (lv_sub hl [0, 1, 2, 3] rfl)
          · exact absurd c_19 (by decide)
        · exact absurd c_18 (by decide)
  · have hut : utf n = [n] := by unfold utf; rw [if_pos (by omega)]
    refine lv_iconst (v := nI 1) hx hb d_M_code_32 (by decide) ?_
    refine lv_goto (tgt := 58) hx hb d_M_code_33 (by decide) ?_
    refine va_put (D := (dC, dI)) (ci := 2) (v := .int (nI 1)) (ty := .int) (C := R_M) (T := F_M) (N := 9) hx hb hts i_M t_M t_M_ok n_M hown hK hP hD hS 0 rfl rfl 8 (by decide) (hts _ m_179) (fun _ h9 => h9) rfl (by decide +kernel) rfl rfl (Nat.le_of_ble_eq_true rfl) d_M_code_58 (fun H locs hP hD hS => ?_)
    have hP : va_P (dC, dI) classes [(m0, .inr (2, [.ref hR, .int (nI L.length), .int (nI op), .int (kI o), .int (nI tk), .int (nI lst), .int (nI ln), .ref hG, .int (nI 1)])), (hR, .inl (cR, 3000, .inl f)), (hG, .inl (cG, 4, .inl g))] H := hP
    have hD : va_D A [(m0, .inr (2, [.ref hR, .int (nI L.length), .int (nI op), .int (kI o), .int (nI tk), .int (nI lst), .int (nI ln), .ref hG, .int (nI 1)])), (hR, .inl (cR, 3000, .inl f)), (hG, .inl (cG, 4, .inl g))] := hD
    refine lv_iload_n hx hb d_M_code_61 rfl (lv_at hl 1 rfl) ?_
    refine lv_istore_n (lv' := [(2, .int (nI n)), (0, .ref m0), (1, .int (nI n))]) hx hb d_M_code_62 rfl hl (by decide) rfl (fun ls hl => ?_)
    refine lv_aload_n hx hb d_M_code_63 rfl (lv_at hl 1 rfl) ?_
    refine va_get (D := (dC, dI)) (ci := 2) (v := .int (nI 1)) (C := R_M) (T := F_M) (N := 9) hx hb hts i_M hown hK hP 0 rfl rfl 8 (by decide) (hts _ m_179) (fun _ h9 => h9) rfl d_M_code_64 ?_
    refine lv_iconst (v := nI 1) hx hb d_M_code_67 (by decide) ?_
    refine lq_sub hx hb (by omega) d_M_code_68 ?_
    refine lx_i (y := nI 0) (rfl) ?_
    refine lv_istore_n (lv' := [(3, .int (nI 0)), (2, .int (nI n)), (0, .ref m0), (1, .int (nI n))]) hx hb d_M_code_69 rfl hl (by decide) rfl (fun ls hl => ?_)
    refine lv_iload_n hx hb d_M_code_70 rfl (lv_at hl 0 rfl) ?_
    refine lq_if_le hx hb (by omega) (tgt := 99) d_M_code_71 (by decide) (fun c_21 => ?_) (fun c_21 => ?_)
    · refine lv_aload_n hx hb d_M_code_99 rfl (lv_at hl 2 rfl) ?_
      refine va_get (D := (dC, dI)) (ci := 2) (v := .ref hG) (C := R_M) (T := F_M) (N := 9) hx hb hts i_M hown hK hP 0 rfl rfl 7 (by decide) (hts _ m_178) (fun _ h9 => h9) rfl d_M_code_100 ?_
      refine lv_iconst (v := nI 0) hx hb d_M_code_103 (by decide) ?_
      refine lv_aload_n hx hb d_M_code_104 rfl (lv_at hl 2 rfl) ?_
      refine va_get (D := (dC, dI)) (ci := 2) (v := .int (nI 1)) (C := R_M) (T := F_M) (N := 9) hx hb hts i_M hown hK hP 0 rfl rfl 8 (by decide) (hts _ m_179) (fun _ h9 => h9) rfl d_M_code_105 ?_
      refine lv_iconst (v := nI 1) hx hb d_M_code_108 (by decide) ?_
      refine lq_icmp_ne hx hb (by omega) (by omega) (tgt := 116) d_M_code_109 (by decide) (fun c_22 => ?_) (fun c_22 => ?_)
      · exact absurd rfl c_22
      · refine lv_iload_n hx hb d_M_code_112 rfl (lv_at hl 1 rfl) ?_
        refine lv_goto (tgt := 153) hx hb d_M_code_113 (by decide) ?_
        refine va_iast (D := (dC, dI)) hx hb hK hP hD hS 2 1 rfl rfl (vp_in_nI (by omega) (by omega)) d_M_code_153 (fun H locs hP hD hS => ?_)
        have hP : va_P (dC, dI) classes [(m0, .inr (2, [.ref hR, .int (nI L.length), .int (nI op), .int (kI o), .int (nI tk), .int (nI lst), .int (nI ln), .ref hG, .int (nI 1)])), (hR, .inl (cR, 3000, .inl f)), (hG, .inl (cG, 4, .inl (upd g (nI 0).toNatClampNeg (nI n))))] H := hP
        have hD : va_D A [(m0, .inr (2, [.ref hR, .int (nI L.length), .int (nI op), .int (kI o), .int (nI tk), .int (nI lst), .int (nI ln), .ref hG, .int (nI 1)])), (hR, .inl (cR, 3000, .inl f)), (hG, .inl (cG, 4, .inl (upd g (nI 0).toNatClampNeg (nI n))))] := hD
        exact M_code_154 C0 hK L op o tk lst ln f n hn kk _ 1 _ _ H locs ls (fun hlt => ⟨by rw [hut]; exact ri1 g _, by rw [← utf_len hlt, hut]; rfl⟩) hP hD hS (lv_sub hl [0, 1, 2, 3] rfl)
    · exact absurd c_21 (by decide)
set_option maxHeartbeats 4000000 in
set_option maxRecDepth 100000 in
theorem c_M_codeIn (l : Launch) (dC : Nat → ClassId) (dI : Nat → Nat → Nat) (cR cG : ClassId) (m0 hR hG : Nat) (sz : Nat) (L : List Nat) (op : Nat) (o : Option Nat) (tk lst ln : Nat) (f g : Nat → Int32) (mn : Int32) (hf : RI f L) (n : Nat) (hn : n < 1114112) (hs : n < 55296 ∨ 57343 < n) : MetMi l dC dI cR cG m0 hR hG sz y_M_code b_M_code 4 .boolean ({ frames := 0, cells := 0, slots := 0, locals := 0 }) [.int (nI n)] (L, op, o, tk, lst, ln) f g mn (fun r (z : MZ) => r = 1 ∧ z.1 = (L, op, o, tk, lst, ln) ∧ RI z.2.2.1 (enc n) ∧ z.2.2.2 = nI (bofN n)) := by
  refine enter (Qf := fun A => va_Qi (fun r (z : MZ) => (fun r (z : MZ) => r = 1 ∧ z.1 = (L, op, o, tk, lst, ln) ∧ RI z.2.2.1 (enc n) ∧ z.2.2.2 = nI (bofN n)) r z ∧ RI z.2.1 z.1.1) (PW dC dI A (fun z => wM m0 hR hG cR cG z.1 z.2.1 z.2.2.1 z.2.2.2)) A) (by decide) (Nat.le_of_ble_eq_true rfl) ?_
  intro p e s m below meth c A ls C0 hsz hA hK hP hD hS hX hl
  obtain ⟨hx, hb, hr, hml, hown, hlk, hnm, hts⟩ := id C0
  have hl : lv_has ls 4 [(0, .ref m0), (1, .int (nI n))] := hl
  have hP : va_P (dC, dI) classes [(m0, .inr (2, [.ref hR, .int (nI L.length), .int (nI op), .int (kI o), .int (nI tk), .int (nI lst), .int (nI ln), .ref hG, .int mn])), (hR, .inl (cR, 3000, .inl f)), (hG, .inl (cG, 4, .inl g))] s.heap := hP
  have hD : va_D A [(m0, .inr (2, [.ref hR, .int (nI L.length), .int (nI op), .int (kI o), .int (nI tk), .int (nI lst), .int (nI ln), .ref hG, .int mn])), (hR, .inl (cR, 3000, .inl f)), (hG, .inl (cG, 4, .inl g))] := hD
  refine lv_iload_n hx hb d_M_code_0 rfl (lv_at hl 1 rfl) ?_
  refine lq_if_lt hx hb (by omega) (tgt := 22) d_M_code_1 (by decide) ?_
  refine lv_iload_n hx hb d_M_code_4 rfl (lv_at hl 1 rfl) ?_
  refine lv_ldc (v := 1114111) hx hb hown (hts _ m_224) d_M_code_5 ?_
  refine lx_i (y := nI 1114111) (rfl) ?_
  refine lq_icmp_gt hx hb (by omega) (by omega) (tgt := 22) d_M_code_7 (by decide) (fun c_2 => ?_) (fun c_2 => ?_)
  · exact absurd c_2 (by omega)
  · refine lv_iload_n hx hb d_M_code_10 rfl (lv_at hl 1 rfl) ?_
    refine lv_ldc (v := 55296) hx hb hown (hts _ m_225) d_M_code_11 ?_
    refine lx_i (y := nI 55296) (rfl) ?_
    refine lq_icmp_lt hx hb (by omega) (by omega) (tgt := 24) d_M_code_13 (by decide) (fun c_3 => ?_) (fun c_3 => ?_)
    · refine M_code_24 C0 hK L op o tk lst ln f n hn (fun g H locs ls hg hP hD hS hl => ?_) g mn s.heap _ ls hP hD hS hl
      refine lv_iconst (v := nI 1) hx hb d_M_code_224 (by decide) ?_
      exact ret_i C0 hS d_M_code_225 rfl ((L, op, o, tk, lst, ln), f, g, nI (bofN n)) ⟨⟨rfl, rfl, hg, rfl⟩, hf⟩ hP hD
    · refine lv_iload_n hx hb d_M_code_16 rfl (lv_at hl 1 rfl) ?_
      refine lv_ldc (v := 57344) hx hb hown (hts _ m_226) d_M_code_17 ?_
      refine lx_i (y := nI 57344) (rfl) ?_
      refine lq_icmp_ge hx hb (by omega) (by omega) (tgt := 24) d_M_code_19 (by decide) (fun c_4 => ?_) (fun c_4 => ?_)
      · refine M_code_24 C0 hK L op o tk lst ln f n hn (fun g H locs ls hg hP hD hS hl => ?_) g mn s.heap _ ls hP hD hS hl
        refine lv_iconst (v := nI 1) hx hb d_M_code_224 (by decide) ?_
        exact ret_i C0 hS d_M_code_225 rfl ((L, op, o, tk, lst, ln), f, g, nI (bofN n)) ⟨⟨rfl, rfl, hg, rfl⟩, hf⟩ hP hD
      · exact absurd c_4 (by omega)
set_option maxHeartbeats 4000000 in
set_option maxRecDepth 100000 in
theorem M_add_loop {p : Program} {l : Launch} {e : Env} {s : State} {m : MethodId} {args : Array Value} {below : List Frame} {meth : Method} {c : Code} {Q : State → Prop} {dC : Nat → ClassId} {dI : Nat → Nat → Nat} {cR cG : ClassId} {m0 hR hG : Nat} {A : Nat → Prop} (C0 : Cx p s m args meth c b_M_add 3 (some .boolean) y_M_add) (hA : ∀ q, s.heap.size ≤ q → A q) (hK : va_K (dC, dI) classes [(cR, .int), (cG, .int)] s) (L : List Nat) (op : Nat) (o : Option Nat) (tk lst ln n : Nat) (g : Nat → Int32) (hg : RI g (enc n)) (hL : L.length + bofN n ≤ 3000)
    (kk : ∀ (f : Nat → Int32) (H : Heap) (locs : List Loc) (ls : Array Slot), RI f (L ++ enc n) → va_P (dC, dI) classes [(m0, .inr (2, [.ref hR, .int (nI ((L ++ enc n).length)), .int (nI (op + bofN n)), .int (kI o), .int (nI tk), .int (nI lst), .int (nI ln), .ref hG, .int (nI (bofN n))])), (hR, .inl (cR, 3000, .inl f)), (hG, .inl (cG, 4, .inl g))] H → va_D A [(m0, .inr (2, [.ref hR, .int (nI ((L ++ enc n).length)), .int (nI (op + bofN n)), .int (kI o), .int (nI tk), .int (nI lst), .int (nI ln), .ref hG, .int (nI (bofN n))])), (hR, .inl (cR, 3000, .inl f)), (hG, .inl (cG, 4, .inl g))] → va_S A s.heap H locs → lv_has ls 3 [] → W p l e ({ frames := 1, cells := 0, slots := 0, locals := 23 }) s m args below meth c H locs 0 0 Q (F0 m 68 ls [])) :
    ∀ (d k : Nat) (f : Nat → Int32) (H : Heap) (locs : List Loc) (ls : Array Slot), bofN n ≤ k + d → k ≤ bofN n → RI f (L ++ (enc n).take k) → va_P (dC, dI) classes [(m0, .inr (2, [.ref hR, .int (nI ((L ++ (enc n).take k).length)), .int (nI (op + k)), .int (kI o), .int (nI tk), .int (nI lst), .int (nI ln), .ref hG, .int (nI (bofN n))])), (hR, .inl (cR, 3000, .inl f)), (hG, .inl (cG, 4, .inl g))] H → va_D A [(m0, .inr (2, [.ref hR, .int (nI ((L ++ (enc n).take k).length)), .int (nI (op + k)), .int (kI o), .int (nI tk), .int (nI lst), .int (nI ln), .ref hG, .int (nI (bofN n))])), (hR, .inl (cR, 3000, .inl f)), (hG, .inl (cG, 4, .inl g))] → va_S A s.heap H locs → lv_has ls 3 [(2, .int (nI k)), (0, .ref m0)] → W p l e ({ frames := 1, cells := 0, slots := 0, locals := 23 }) s m args below meth c H locs 0 0 Q (F0 m 44 ls []) := by
  obtain ⟨hx, hb, hr, hml, hown, hlk, hnm, hts⟩ := id C0
  have hbo := bofN_in n
  have hel := enc_len n
  intro d
  induction d with
  | zero =>
    intro k f H locs ls hd hk hf hP hD hS hl
    refine lv_iload_n hx hb d_M_add_44 rfl (lv_at hl 0 rfl) ?_
    refine lv_aload_n hx hb d_M_add_45 rfl (lv_at hl 1 rfl) ?_
    refine va_get (D := (dC, dI)) (ci := 2) (v := .int (nI (bofN n))) (C := R_M) (T := F_M) (N := 9) hx hb hts i_M hown hK hP 0 rfl rfl 8 (by decide) (hts _ m_179) (fun _ h9 => h9) rfl d_M_add_46 ?_
    refine lq_icmp_ge hx hb (by omega) (by omega) (tgt := 68) d_M_add_49 (by decide) (fun c_1 => ?_) (fun c_1 => ?_)
    · have hkn : k = bofN n := by omega
      subst hkn
      rw [List.take_of_length_le (by omega)] at hf hP hD
      exact kk f H locs ls hf hP hD hS (lv_sub hl [] rfl)
    · exact absurd c_1 (by omega)
  | succ d ih =>
    intro k f H locs ls hd hk hf hP hD hS hl
    refine lv_iload_n hx hb d_M_add_44 rfl (lv_at hl 0 rfl) ?_
    refine lv_aload_n hx hb d_M_add_45 rfl (lv_at hl 1 rfl) ?_
    refine va_get (D := (dC, dI)) (ci := 2) (v := .int (nI (bofN n))) (C := R_M) (T := F_M) (N := 9) hx hb hts i_M hown hK hP 0 rfl rfl 8 (by decide) (hts _ m_179) (fun _ h9 => h9) rfl d_M_add_46 ?_
    refine lq_icmp_ge hx hb (by omega) (by omega) (tgt := 68) d_M_add_49 (by decide) (fun c_2 => ?_) (fun c_2 => ?_)
    · have hkn : k = bofN n := by omega
      subst hkn
      rw [List.take_of_length_le (by omega)] at hf hP hD
      exact kk f H locs ls hf hP hD hS (lv_sub hl [] rfl)
    · have hlk : (L ++ (enc n).take k).length = L.length + k := by rw [List.length_append, take_len (by omega)]
      refine lv_aload_n hx hb d_M_add_52 rfl (lv_at hl 1 rfl) ?_
      refine lv_aload_n hx hb d_M_add_53 rfl (lv_at hl 1 rfl) ?_
      refine va_get (D := (dC, dI)) (ci := 2) (v := .ref hG) (C := R_M) (T := F_M) (N := 9) hx hb hts i_M hown hK hP 0 rfl rfl 7 (by decide) (hts _ m_178) (fun _ h9 => h9) rfl d_M_add_54 ?_
      refine lv_iload_n hx hb d_M_add_57 rfl (lv_at hl 0 rfl) ?_
      refine va_iald (D := (dC, dI)) hx hb hK hP 2 1 rfl rfl (vp_in_nI (by omega) (by omega)) d_M_add_58 ?_
      refine lx_i (y := nI ((enc n).getD k 0)) (by rw [nI_clamp (by omega)]; exact hg _ (by omega)) ?_
      refine gcall_v (q0 := 0) (wr := []) (As := [.int (nI ((enc n).getD k 0))]) (rest := []) C0 g_M_39 (c_M_put l dC dI cR cG m0 hR hG H.size (L ++ (enc n).take k) (op + k) o tk lst ln f g (nI (bofN n)) hf ((enc n).getD k 0) (by omega)) ⟨Nat.le_of_ble_eq_true rfl, Nat.le_of_ble_eq_true rfl⟩ ⟨rfl, rfl⟩ ⟨Nat.zero_le _, Nat.zero_le _⟩ d_M_add_59 rfl rfl (Nat.le_of_ble_eq_true rfl) hl.1 hK hP hD hS hA [0, 1, 2] [] [0, 1] rfl (by decide) rfl (by decide) (by decide) rfl rfl rfl (fun _ _ _ _ _ _ => trivial) (fun _ _ _ _ _ => trivial) (fun u H locs hw hP hD hS => ?_)
      obtain ⟨u, f, g, mn⟩ := u
      dsimp only at hw
      obtain ⟨⟨rfl, hs⟩, hf⟩ := hw
      obtain ⟨e1, rfl⟩ := Prod.mk.inj hs.symm
      subst e1
      have hP : va_P (dC, dI) classes [(m0, .inr (2, [.ref hR, .int (nI (((L ++ (enc n).take k) ++ [(enc n).getD k 0]).length)), .int (nI (op + k + 1)), .int (kI o), .int (nI tk), .int (nI lst), .int (nI ln), .ref hG, .int (nI (bofN n))])), (hR, .inl (cR, 3000, .inl f)), (hG, .inl (cG, 4, .inl g))] H := hP
      have hD : va_D A [(m0, .inr (2, [.ref hR, .int (nI (((L ++ (enc n).take k) ++ [(enc n).getD k 0]).length)), .int (nI (op + k + 1)), .int (kI o), .int (nI tk), .int (nI lst), .int (nI ln), .ref hG, .int (nI (bofN n))])), (hR, .inl (cR, 3000, .inl f)), (hG, .inl (cG, 4, .inl g))] := hD
      have hsn : (L ++ (enc n).take k) ++ [(enc n).getD k 0] = L ++ (enc n).take (k + 1) := by rw [take_snoc (by omega), List.append_assoc]
      have hf : RI f ((L ++ (enc n).take k) ++ [(enc n).getD k 0]) := hf
      rw [hsn] at hP hD hf
      refine lv_iinc (v := nI (k + 1)) (lv' := [(2, .int (nI (k + 1))), (0, .ref m0)]) hx hb d_M_add_62 hl (k := 0) rfl (nI_add k 1) (by decide) rfl (fun ls hl => ?_)
      refine lv_goto (tgt := 44) hx hb d_M_add_65 (by decide) ?_
      exact ih (k + 1) f H locs ls (by omega) (by omega) hf hP hD hS hl
set_option maxHeartbeats 4000000 in
set_option maxRecDepth 100000 in
theorem M_text_loop {p : Program} {l : Launch} {e : Env} {s : State} {m : MethodId} {args : Array Value} {below : List Frame} {meth : Method} {c : Code} {Q : State → Prop} {dC : Nat → ClassId} {dI : Nat → Nat → Nat} {cR cG : ClassId} {m0 hR hG : Nat} {A : Nat → Prop} (C0 : Cx p s m args meth c b_M_text 4 (some .boolean) y_M_text) (hA : ∀ q, s.heap.size ≤ q → A q) (hK : va_K (dC, dI) classes [(cR, .int), (cG, .int)] s) (L : List Nat) (op : Nat) (o : Option Nat) (tk lst ln n : Nat) (g : Nat → Int32) (hg : RI g (enc n)) (hL : L.length + bofN n ≤ 3000)
    (kk : ∀ (f : Nat → Int32) (H : Heap) (locs : List Loc) (ls : Array Slot), RI f (L ++ enc n) → va_P (dC, dI) classes [(m0, .inr (2, [.ref hR, .int (nI ((L ++ enc n).length)), .int (nI (op + bofN n)), .int (kI o), .int (nI tk), .int (nI lst), .int (nI ln), .ref hG, .int (nI (bofN n))])), (hR, .inl (cR, 3000, .inl f)), (hG, .inl (cG, 4, .inl g))] H → va_D A [(m0, .inr (2, [.ref hR, .int (nI ((L ++ enc n).length)), .int (nI (op + bofN n)), .int (kI o), .int (nI tk), .int (nI lst), .int (nI ln), .ref hG, .int (nI (bofN n))])), (hR, .inl (cR, 3000, .inl f)), (hG, .inl (cG, 4, .inl g))] → va_S A s.heap H locs → lv_has ls 4 [] → W p l e ({ frames := 2, cells := 0, slots := 0, locals := 42 }) s m args below meth c H locs 0 0 Q (F0 m 95 ls [])) :
    ∀ (d k : Nat) (f : Nat → Int32) (H : Heap) (locs : List Loc) (ls : Array Slot), bofN n ≤ k + d → k ≤ bofN n → RI f (L ++ (enc n).take k) → va_P (dC, dI) classes [(m0, .inr (2, [.ref hR, .int (nI ((L ++ (enc n).take k).length)), .int (nI (op + k)), .int (kI o), .int (nI tk), .int (nI lst), .int (nI ln), .ref hG, .int (nI (bofN n))])), (hR, .inl (cR, 3000, .inl f)), (hG, .inl (cG, 4, .inl g))] H → va_D A [(m0, .inr (2, [.ref hR, .int (nI ((L ++ (enc n).take k).length)), .int (nI (op + k)), .int (kI o), .int (nI tk), .int (nI lst), .int (nI ln), .ref hG, .int (nI (bofN n))])), (hR, .inl (cR, 3000, .inl f)), (hG, .inl (cG, 4, .inl g))] → va_S A s.heap H locs → lv_has ls 4 [(3, .int (nI k)), (0, .ref m0)] → W p l e ({ frames := 2, cells := 0, slots := 0, locals := 42 }) s m args below meth c H locs 0 0 Q (F0 m 71 ls []) := by
  obtain ⟨hx, hb, hr, hml, hown, hlk, hnm, hts⟩ := id C0
  have hbo := bofN_in n
  have hel := enc_len n
  intro d
  induction d with
  | zero =>
    intro k f H locs ls hd hk hf hP hD hS hl
    refine lv_iload_n hx hb d_M_text_71 rfl (lv_at hl 0 rfl) ?_
    refine lv_aload_n hx hb d_M_text_72 rfl (lv_at hl 1 rfl) ?_
    refine va_get (D := (dC, dI)) (ci := 2) (v := .int (nI (bofN n))) (C := R_M) (T := F_M) (N := 9) hx hb hts i_M hown hK hP 0 rfl rfl 8 (by decide) (hts _ m_179) (fun _ h9 => h9) rfl d_M_text_73 ?_
    refine lq_icmp_ge hx hb (by omega) (by omega) (tgt := 95) d_M_text_76 (by decide) (fun c_1 => ?_) (fun c_1 => ?_)
    · have hkn : k = bofN n := by omega
      subst hkn
      rw [List.take_of_length_le (by omega)] at hf hP hD
      exact kk f H locs ls hf hP hD hS (lv_sub hl [] rfl)
    · exact absurd c_1 (by omega)
  | succ d ih =>
    intro k f H locs ls hd hk hf hP hD hS hl
    refine lv_iload_n hx hb d_M_text_71 rfl (lv_at hl 0 rfl) ?_
    refine lv_aload_n hx hb d_M_text_72 rfl (lv_at hl 1 rfl) ?_
    refine va_get (D := (dC, dI)) (ci := 2) (v := .int (nI (bofN n))) (C := R_M) (T := F_M) (N := 9) hx hb hts i_M hown hK hP 0 rfl rfl 8 (by decide) (hts _ m_179) (fun _ h9 => h9) rfl d_M_text_73 ?_
    refine lq_icmp_ge hx hb (by omega) (by omega) (tgt := 95) d_M_text_76 (by decide) (fun c_2 => ?_) (fun c_2 => ?_)
    · have hkn : k = bofN n := by omega
      subst hkn
      rw [List.take_of_length_le (by omega)] at hf hP hD
      exact kk f H locs ls hf hP hD hS (lv_sub hl [] rfl)
    · have hlk : (L ++ (enc n).take k).length = L.length + k := by rw [List.length_append, take_len (by omega)]
      refine lv_aload_n hx hb d_M_text_79 rfl (lv_at hl 1 rfl) ?_
      refine lv_aload_n hx hb d_M_text_80 rfl (lv_at hl 1 rfl) ?_
      refine va_get (D := (dC, dI)) (ci := 2) (v := .ref hG) (C := R_M) (T := F_M) (N := 9) hx hb hts i_M hown hK hP 0 rfl rfl 7 (by decide) (hts _ m_178) (fun _ h9 => h9) rfl d_M_text_81 ?_
      refine lv_iload_n hx hb d_M_text_84 rfl (lv_at hl 0 rfl) ?_
      refine va_iald (D := (dC, dI)) hx hb hK hP 2 1 rfl rfl (vp_in_nI (by omega) (by omega)) d_M_text_85 ?_
      refine lx_i (y := nI ((enc n).getD k 0)) (by rw [nI_clamp (by omega)]; exact hg _ (by omega)) ?_
      refine gcall_v (q0 := 0) (wr := []) (As := [.int (nI ((enc n).getD k 0))]) (rest := []) C0 g_M_39 (c_M_put l dC dI cR cG m0 hR hG H.size (L ++ (enc n).take k) (op + k) o tk lst ln f g (nI (bofN n)) hf ((enc n).getD k 0) (by omega)) ⟨Nat.le_of_ble_eq_true rfl, Nat.le_of_ble_eq_true rfl⟩ ⟨rfl, rfl⟩ ⟨Nat.zero_le _, Nat.zero_le _⟩ d_M_text_86 rfl rfl (Nat.le_of_ble_eq_true rfl) hl.1 hK hP hD hS hA [0, 1, 2] [] [0, 1] rfl (by decide) rfl (by decide) (by decide) rfl rfl rfl (fun _ _ _ _ _ _ => trivial) (fun _ _ _ _ _ => trivial) (fun u H locs hw hP hD hS => ?_)
      obtain ⟨u, f, g, mn⟩ := u
      dsimp only at hw
      obtain ⟨⟨rfl, hs⟩, hf⟩ := hw
      obtain ⟨e1, rfl⟩ := Prod.mk.inj hs.symm
      subst e1
      have hP : va_P (dC, dI) classes [(m0, .inr (2, [.ref hR, .int (nI (((L ++ (enc n).take k) ++ [(enc n).getD k 0]).length)), .int (nI (op + k + 1)), .int (kI o), .int (nI tk), .int (nI lst), .int (nI ln), .ref hG, .int (nI (bofN n))])), (hR, .inl (cR, 3000, .inl f)), (hG, .inl (cG, 4, .inl g))] H := hP
      have hD : va_D A [(m0, .inr (2, [.ref hR, .int (nI (((L ++ (enc n).take k) ++ [(enc n).getD k 0]).length)), .int (nI (op + k + 1)), .int (kI o), .int (nI tk), .int (nI lst), .int (nI ln), .ref hG, .int (nI (bofN n))])), (hR, .inl (cR, 3000, .inl f)), (hG, .inl (cG, 4, .inl g))] := hD
      have hsn : (L ++ (enc n).take k) ++ [(enc n).getD k 0] = L ++ (enc n).take (k + 1) := by rw [take_snoc (by omega), List.append_assoc]
      have hf : RI f ((L ++ (enc n).take k) ++ [(enc n).getD k 0]) := hf
      rw [hsn] at hP hD hf
      refine lv_iinc (v := nI (k + 1)) (lv' := [(3, .int (nI (k + 1))), (0, .ref m0)]) hx hb d_M_text_89 hl (k := 0) rfl (nI_add k 1) (by decide) rfl (fun ls hl => ?_)
      refine lv_goto (tgt := 71) hx hb d_M_text_92 (by decide) ?_
      exact ih (k + 1) f H locs ls (by omega) (by omega) hf hP hD hS hl
set_option maxHeartbeats 4000000 in
set_option maxRecDepth 100000 in
theorem c_M_addOut (l : Launch) (dC : Nat → ClassId) (dI : Nat → Nat → Nat) (cR cG : ClassId) (m0 hR hG : Nat) (sz : Nat) (L : List Nat) (op : Nat) (o : Option Nat) (tk lst ln : Nat) (f g : Nat → Int32) (mn : Int32) (hf : RI f L) (x : Int32) (hx1 : ¬ isCh x) (ho : ∀ i, o = some i → i < 5) : MetMi l dC dI cR cG m0 hR hG sz y_M_add b_M_add 3 .boolean ({ frames := 1, cells := 0, slots := 0, locals := 23 }) [.int x] (L, op, o, tk, lst, ln) f g mn (fun r (z : MZ) => r = 0 ∧ z.1 = (L, op, o, tk, lst, ln)) := by
  refine enter (Qf := fun A => va_Qi (fun r (z : MZ) => (fun r (z : MZ) => r = 0 ∧ z.1 = (L, op, o, tk, lst, ln)) r z ∧ RI z.2.1 z.1.1) (PW dC dI A (fun z => wM m0 hR hG cR cG z.1 z.2.1 z.2.2.1 z.2.2.2)) A) (by decide) (Nat.le_of_ble_eq_true rfl) ?_
  intro p e s m below meth c A ls C0 hsz hA hK hP hD hS hX hl
  obtain ⟨hx, hb, hr, hml, hown, hlk, hnm, hts⟩ := id C0
  have hl : lv_has ls 3 [(0, .ref m0), (1, .int x)] := hl
  have hP : va_P (dC, dI) classes [(m0, .inr (2, [.ref hR, .int (nI L.length), .int (nI op), .int (kI o), .int (nI tk), .int (nI lst), .int (nI ln), .ref hG, .int mn])), (hR, .inl (cR, 3000, .inl f)), (hG, .inl (cG, 4, .inl g))] s.heap := hP
  have hD : va_D A [(m0, .inr (2, [.ref hR, .int (nI L.length), .int (nI op), .int (kI o), .int (nI tk), .int (nI lst), .int (nI ln), .ref hG, .int mn])), (hR, .inl (cR, 3000, .inl f)), (hG, .inl (cG, 4, .inl g))] := hD
  cases o with
  | none =>
    have hP : va_P (dC, dI) classes [(m0, .inr (2, [.ref hR, .int (nI L.length), .int (nI op), .int (-1), .int (nI tk), .int (nI lst), .int (nI ln), .ref hG, .int mn])), (hR, .inl (cR, 3000, .inl f)), (hG, .inl (cG, 4, .inl g))] s.heap := hP
    have hD : va_D A [(m0, .inr (2, [.ref hR, .int (nI L.length), .int (nI op), .int (-1), .int (nI tk), .int (nI lst), .int (nI ln), .ref hG, .int mn])), (hR, .inl (cR, 3000, .inl f)), (hG, .inl (cG, 4, .inl g))] := hD
    refine lv_aload_n hx hb d_M_add_0 rfl (lv_at hl 0 rfl) ?_
    refine va_get (D := (dC, dI)) (ci := 2) (v := .int (-1)) (C := R_M) (T := F_M) (N := 9) hx hb hts i_M hown hK hP 0 rfl rfl 3 (by decide) (hts _ m_174) (fun _ h9 => h9) rfl d_M_add_1 ?_
    refine lv_if_lt (tgt := 40) hx hb d_M_add_4 (by decide) (fun c_1 => ?_) (fun c_1 => ?_)
    · refine lv_iconst (v := nI 0) hx hb d_M_add_40 (by decide) ?_
      exact ret_i C0 hS d_M_add_41 rfl ((L, op, none, tk, lst, ln), f, g, mn) ⟨⟨rfl, rfl⟩, hf⟩ hP hD
    · exact absurd (by decide) c_1
  | some i =>
    have hi := ho i rfl
    have hP : va_P (dC, dI) classes [(m0, .inr (2, [.ref hR, .int (nI L.length), .int (nI op), .int (nI i), .int (nI tk), .int (nI lst), .int (nI ln), .ref hG, .int mn])), (hR, .inl (cR, 3000, .inl f)), (hG, .inl (cG, 4, .inl g))] s.heap := hP
    have hD : va_D A [(m0, .inr (2, [.ref hR, .int (nI L.length), .int (nI op), .int (nI i), .int (nI tk), .int (nI lst), .int (nI ln), .ref hG, .int mn])), (hR, .inl (cR, 3000, .inl f)), (hG, .inl (cG, 4, .inl g))] := hD
    refine lv_aload_n hx hb d_M_add_0 rfl (lv_at hl 0 rfl) ?_
    refine va_get (D := (dC, dI)) (ci := 2) (v := .int (nI i)) (C := R_M) (T := F_M) (N := 9) hx hb hts i_M hown hK hP 0 rfl rfl 3 (by decide) (hts _ m_174) (fun _ h9 => h9) rfl d_M_add_1 ?_
    refine lq_if_lt hx hb (by omega) (tgt := 40) d_M_add_4 (by decide) ?_
    refine lv_aload_n hx hb d_M_add_7 rfl (lv_at hl 0 rfl) ?_
    refine va_get (D := (dC, dI)) (ci := 2) (v := .int (nI i)) (C := R_M) (T := F_M) (N := 9) hx hb hts i_M hown hK hP 0 rfl rfl 3 (by decide) (hts _ m_174) (fun _ h9 => h9) rfl d_M_add_8 ?_
    refine lv_iconst (v := nI 4) hx hb d_M_add_11 (by decide) ?_
    refine lq_icmp_eq hx hb (by omega) (by omega) (tgt := 40) d_M_add_12 (by decide) (fun c_3 => ?_) (fun c_3 => ?_)
    · refine lv_iconst (v := nI 0) hx hb d_M_add_40 (by decide) ?_
      exact ret_i C0 hS d_M_add_41 rfl ((L, op, some i, tk, lst, ln), f, g, mn) ⟨⟨rfl, rfl⟩, hf⟩ hP hD
    · refine lv_aload_n hx hb d_M_add_15 rfl (lv_at hl 0 rfl) ?_
      refine lv_iload_n hx hb d_M_add_16 rfl (lv_at hl 1 rfl) ?_
      refine gcall_i (q0 := 0) (wr := []) (As := [.int x]) (rest := []) C0 g_M_46 (c_M_codeOut l dC dI cR cG m0 hR hG s.heap.size L op (some i) tk lst ln f g mn hf x hx1) ⟨Nat.le_of_ble_eq_true rfl, Nat.le_of_ble_eq_true rfl⟩ ⟨rfl, rfl⟩ ⟨Nat.zero_le _, Nat.zero_le _⟩ d_M_add_17 rfl rfl (Nat.le_of_ble_eq_true rfl) hl.1 hK hP hD hS hA [0, 1, 2] [] [0, 1] rfl (by decide) rfl (by decide) (by decide) rfl rfl rfl (fun _ _ _ _ _ _ => trivial) (fun _ _ _ _ _ => trivial) (fun r u H locs hw hP hD hS => ?_)
      obtain ⟨u, f, g, mn⟩ := u
      dsimp only at hw
      obtain ⟨⟨rfl, rfl⟩, hf⟩ := hw
      have hP : va_P (dC, dI) classes [(m0, .inr (2, [.ref hR, .int (nI L.length), .int (nI op), .int (nI i), .int (nI tk), .int (nI lst), .int (nI ln), .ref hG, .int mn])), (hR, .inl (cR, 3000, .inl f)), (hG, .inl (cG, 4, .inl g))] H := hP
      have hD : va_D A [(m0, .inr (2, [.ref hR, .int (nI L.length), .int (nI op), .int (nI i), .int (nI tk), .int (nI lst), .int (nI ln), .ref hG, .int mn])), (hR, .inl (cR, 3000, .inl f)), (hG, .inl (cG, 4, .inl g))] := hD
      refine lx_i (y := nI 0) (rfl) ?_
      refine lq_if_eq hx hb (by omega) (tgt := 40) d_M_add_20 (by decide) (fun c_4 => ?_) (fun c_4 => ?_)
      · refine lv_iconst (v := nI 0) hx hb d_M_add_40 (by decide) ?_
        exact ret_i C0 hS d_M_add_41 rfl ((L, op, some i, tk, lst, ln), f, g, mn) ⟨⟨rfl, rfl⟩, hf⟩ hP hD
      · exact absurd rfl c_4
set_option maxHeartbeats 4000000 in
set_option maxRecDepth 100000 in
theorem c_M_addIn (l : Launch) (dC : Nat → ClassId) (dI : Nat → Nat → Nat) (cR cG : ClassId) (m0 hR hG : Nat) (sz : Nat) (L : List Nat) (op : Nat) (o : Option Nat) (tk lst ln : Nat) (f g : Nat → Int32) (mn : Int32) (hf : RI f L) (n : Nat) (hn : n < 1114112) (hs : n < 55296 ∨ 57343 < n) (hL : L.length ≤ 3000) (ho : ∀ i, o = some i → i < 5) : MetMi l dC dI cR cG m0 hR hG sz y_M_add b_M_add 3 .boolean ({ frames := 1, cells := 0, slots := 0, locals := 23 }) [.int (nI n)] (L, op, o, tk, lst, ln) f g mn (fun r (z : MZ) => if o = none ∨ o = some 4 then (r = 0 ∧ z.1 = (L, op, o, tk, lst, ln)) else if L.length + bofN n + 1 ≤ 3000 then r = 1 ∧ z.1 = adF n (L, op, o, tk, lst, ln) else r = 0 ∧ z.1 = (L, op, o, tk, lst, ln)) := by
  refine enter (Qf := fun A => va_Qi (fun r (z : MZ) => (fun r (z : MZ) => if o = none ∨ o = some 4 then (r = 0 ∧ z.1 = (L, op, o, tk, lst, ln)) else if L.length + bofN n + 1 ≤ 3000 then r = 1 ∧ z.1 = adF n (L, op, o, tk, lst, ln) else r = 0 ∧ z.1 = (L, op, o, tk, lst, ln)) r z ∧ RI z.2.1 z.1.1) (PW dC dI A (fun z => wM m0 hR hG cR cG z.1 z.2.1 z.2.2.1 z.2.2.2)) A) (by decide) (Nat.le_of_ble_eq_true rfl) ?_
  intro p e s m below meth c A ls C0 hsz hA hK hP hD hS hX hl
  obtain ⟨hx, hb, hr, hml, hown, hlk, hnm, hts⟩ := id C0
  have hl : lv_has ls 3 [(0, .ref m0), (1, .int (nI n))] := hl
  have hP : va_P (dC, dI) classes [(m0, .inr (2, [.ref hR, .int (nI L.length), .int (nI op), .int (kI o), .int (nI tk), .int (nI lst), .int (nI ln), .ref hG, .int mn])), (hR, .inl (cR, 3000, .inl f)), (hG, .inl (cG, 4, .inl g))] s.heap := hP
  have hD : va_D A [(m0, .inr (2, [.ref hR, .int (nI L.length), .int (nI op), .int (kI o), .int (nI tk), .int (nI lst), .int (nI ln), .ref hG, .int mn])), (hR, .inl (cR, 3000, .inl f)), (hG, .inl (cG, 4, .inl g))] := hD
  have hbo := bofN_in n
  cases o with
  | none =>
    have hP : va_P (dC, dI) classes [(m0, .inr (2, [.ref hR, .int (nI L.length), .int (nI op), .int (-1), .int (nI tk), .int (nI lst), .int (nI ln), .ref hG, .int mn])), (hR, .inl (cR, 3000, .inl f)), (hG, .inl (cG, 4, .inl g))] s.heap := hP
    have hD : va_D A [(m0, .inr (2, [.ref hR, .int (nI L.length), .int (nI op), .int (-1), .int (nI tk), .int (nI lst), .int (nI ln), .ref hG, .int mn])), (hR, .inl (cR, 3000, .inl f)), (hG, .inl (cG, 4, .inl g))] := hD
    refine lv_aload_n hx hb d_M_add_0 rfl (lv_at hl 0 rfl) ?_
    refine va_get (D := (dC, dI)) (ci := 2) (v := .int (-1)) (C := R_M) (T := F_M) (N := 9) hx hb hts i_M hown hK hP 0 rfl rfl 3 (by decide) (hts _ m_174) (fun _ h9 => h9) rfl d_M_add_1 ?_
    refine lv_if_lt (tgt := 40) hx hb d_M_add_4 (by decide) (fun c_1 => ?_) (fun c_1 => ?_)
    · refine lv_iconst (v := nI 0) hx hb d_M_add_40 (by decide) ?_
      exact ret_i C0 hS d_M_add_41 rfl ((L, op, none, tk, lst, ln), f, g, mn) ⟨by dsimp only; rw [if_pos (Or.inl rfl)]; exact ⟨rfl, rfl⟩, hf⟩ hP hD
    · exact absurd (by decide) c_1
  | some i =>
    have hi := ho i rfl
    have hP : va_P (dC, dI) classes [(m0, .inr (2, [.ref hR, .int (nI L.length), .int (nI op), .int (nI i), .int (nI tk), .int (nI lst), .int (nI ln), .ref hG, .int mn])), (hR, .inl (cR, 3000, .inl f)), (hG, .inl (cG, 4, .inl g))] s.heap := hP
    have hD : va_D A [(m0, .inr (2, [.ref hR, .int (nI L.length), .int (nI op), .int (nI i), .int (nI tk), .int (nI lst), .int (nI ln), .ref hG, .int mn])), (hR, .inl (cR, 3000, .inl f)), (hG, .inl (cG, 4, .inl g))] := hD
    refine lv_aload_n hx hb d_M_add_0 rfl (lv_at hl 0 rfl) ?_
    refine va_get (D := (dC, dI)) (ci := 2) (v := .int (nI i)) (C := R_M) (T := F_M) (N := 9) hx hb hts i_M hown hK hP 0 rfl rfl 3 (by decide) (hts _ m_174) (fun _ h9 => h9) rfl d_M_add_1 ?_
    refine lq_if_lt hx hb (by omega) (tgt := 40) d_M_add_4 (by decide) ?_
    refine lv_aload_n hx hb d_M_add_7 rfl (lv_at hl 0 rfl) ?_
    refine va_get (D := (dC, dI)) (ci := 2) (v := .int (nI i)) (C := R_M) (T := F_M) (N := 9) hx hb hts i_M hown hK hP 0 rfl rfl 3 (by decide) (hts _ m_174) (fun _ h9 => h9) rfl d_M_add_8 ?_
    refine lv_iconst (v := nI 4) hx hb d_M_add_11 (by decide) ?_
    refine lq_icmp_eq hx hb (by omega) (by omega) (tgt := 40) d_M_add_12 (by decide) (fun c_3 => ?_) (fun c_3 => ?_)
    · refine lv_iconst (v := nI 0) hx hb d_M_add_40 (by decide) ?_
      exact ret_i C0 hS d_M_add_41 rfl ((L, op, some i, tk, lst, ln), f, g, mn) ⟨by dsimp only; rw [if_pos (Or.inr (by rw [c_3]))]; exact ⟨rfl, rfl⟩, hf⟩ hP hD
    · have hne : ¬ ((some i : Option Nat) = none ∨ (some i : Option Nat) = some 4) := by rintro (q | q); exact absurd q (by simp); exact c_3 (Option.some.inj q)
      refine lv_aload_n hx hb d_M_add_15 rfl (lv_at hl 0 rfl) ?_
      refine lv_iload_n hx hb d_M_add_16 rfl (lv_at hl 1 rfl) ?_
      refine gcall_i (q0 := 0) (wr := []) (As := [.int (nI n)]) (rest := []) C0 g_M_46 (c_M_codeIn l dC dI cR cG m0 hR hG s.heap.size L op (some i) tk lst ln f g mn hf n hn hs) ⟨Nat.le_of_ble_eq_true rfl, Nat.le_of_ble_eq_true rfl⟩ ⟨rfl, rfl⟩ ⟨Nat.zero_le _, Nat.zero_le _⟩ d_M_add_17 rfl rfl (Nat.le_of_ble_eq_true rfl) hl.1 hK hP hD hS hA [0, 1, 2] [] [0, 1] rfl (by decide) rfl (by decide) (by decide) rfl rfl rfl (fun _ _ _ _ _ _ => trivial) (fun _ _ _ _ _ => trivial) (fun r u H locs hw hP hD hS => ?_)
      obtain ⟨u, f, g, mn⟩ := u
      dsimp only at hw
      obtain ⟨⟨rfl, rfl, hg, rfl⟩, hf⟩ := hw
      have hf : RI f L := hf
      have hP : va_P (dC, dI) classes [(m0, .inr (2, [.ref hR, .int (nI L.length), .int (nI op), .int (nI i), .int (nI tk), .int (nI lst), .int (nI ln), .ref hG, .int (nI (bofN n))])), (hR, .inl (cR, 3000, .inl f)), (hG, .inl (cG, 4, .inl g))] H := hP
      have hD : va_D A [(m0, .inr (2, [.ref hR, .int (nI L.length), .int (nI op), .int (nI i), .int (nI tk), .int (nI lst), .int (nI ln), .ref hG, .int (nI (bofN n))])), (hR, .inl (cR, 3000, .inl f)), (hG, .inl (cG, 4, .inl g))] := hD
      refine lx_i (y := nI 1) (rfl) ?_
      refine lq_if_eq hx hb (by omega) (tgt := 40) d_M_add_20 (by decide) (fun c_4 => ?_) (fun c_4 => ?_)
      · exact absurd c_4 (by decide)
      · refine lv_aload_n hx hb d_M_add_23 rfl (lv_at hl 0 rfl) ?_
        refine va_get (D := (dC, dI)) (ci := 2) (v := .int (nI L.length)) (C := R_M) (T := F_M) (N := 9) hx hb hts i_M hown hK hP 0 rfl rfl 1 (by decide) (hts _ m_172) (fun _ h9 => h9) rfl d_M_add_24 ?_
        refine lv_aload_n hx hb d_M_add_27 rfl (lv_at hl 0 rfl) ?_
        refine va_get (D := (dC, dI)) (ci := 2) (v := .int (nI (bofN n))) (C := R_M) (T := F_M) (N := 9) hx hb hts i_M hown hK hP 0 rfl rfl 8 (by decide) (hts _ m_179) (fun _ h9 => h9) rfl d_M_add_28 ?_
        refine lq_add hx hb d_M_add_31 ?_
        refine lv_iconst (v := nI 1) hx hb d_M_add_32 (by decide) ?_
        refine lq_add hx hb d_M_add_33 ?_
        refine lv_sipush (v := nI 3000) hx hb d_M_add_34 (by decide) ?_
        refine lq_icmp_le hx hb (by omega) (by omega) (tgt := 42) d_M_add_37 (by decide) (fun c_5 => ?_) (fun c_5 => ?_)
        · refine lv_iconst (v := nI 0) hx hb d_M_add_42 (by decide) ?_
          refine lv_istore_n (lv' := [(2, .int (nI 0)), (0, .ref m0), (1, .int (nI n))]) hx hb d_M_add_43 rfl hl (by decide) rfl (fun ls hl => ?_)
          refine M_add_loop C0 hA hK L op (some i) tk lst ln n g hg (by omega) (fun f H locs ls hf hP hD hS hl => ?_) (bofN n) 0 f H _ ls (by omega) (by omega) (by rw [List.take_zero, List.append_nil]; exact hf) (by rw [List.take_zero, List.append_nil]; exact hP) (by rw [List.take_zero, List.append_nil]; exact hD) hS (lv_sub hl [0, 1] rfl)
          refine lv_iconst (v := nI 1) hx hb d_M_add_68 (by decide) ?_
          exact ret_i C0 hS d_M_add_69 rfl (adF n (L, op, some i, tk, lst, ln), f, g, nI (bofN n)) ⟨by dsimp only; rw [if_neg hne, if_pos (by omega)]; exact ⟨rfl, rfl⟩, hf⟩ hP hD
        · refine lv_iconst (v := nI 0) hx hb d_M_add_40 (by decide) ?_
          exact ret_i C0 hS d_M_add_41 rfl ((L, op, some i, tk, lst, ln), f, g, nI (bofN n)) ⟨by dsimp only; rw [if_neg hne, if_neg (by omega)]; exact ⟨rfl, rfl⟩, hf⟩ hP hD
set_option maxHeartbeats 4000000 in
set_option maxRecDepth 100000 in
theorem c_M_textOut (l : Launch) (dC : Nat → ClassId) (dI : Nat → Nat → Nat) (cR cG : ClassId) (m0 hR hG : Nat) (sz : Nat) (L : List Nat) (op : Nat) (o : Option Nat) (tk lst ln : Nat) (f g : Nat → Int32) (mn : Int32) (hf : RI f L) (x : Int32) (hx1 : ¬ isCh x) : MetMi l dC dI cR cG m0 hR hG sz y_M_text b_M_text 4 .boolean ({ frames := 2, cells := 0, slots := 0, locals := 42 }) [.int x] (L, op, o, tk, lst, ln) f g mn (fun r (z : MZ) => r = 0 ∧ z.1 = (L, op, o, tk, lst, ln)) := by
  refine enter (Qf := fun A => va_Qi (fun r (z : MZ) => (fun r (z : MZ) => r = 0 ∧ z.1 = (L, op, o, tk, lst, ln)) r z ∧ RI z.2.1 z.1.1) (PW dC dI A (fun z => wM m0 hR hG cR cG z.1 z.2.1 z.2.2.1 z.2.2.2)) A) (by decide) (Nat.le_of_ble_eq_true rfl) ?_
  intro p e s m below meth c A ls C0 hsz hA hK hP hD hS hX hl
  obtain ⟨hx, hb, hr, hml, hown, hlk, hnm, hts⟩ := id C0
  have hl : lv_has ls 4 [(0, .ref m0), (1, .int x)] := hl
  have hP : va_P (dC, dI) classes [(m0, .inr (2, [.ref hR, .int (nI L.length), .int (nI op), .int (kI o), .int (nI tk), .int (nI lst), .int (nI ln), .ref hG, .int mn])), (hR, .inl (cR, 3000, .inl f)), (hG, .inl (cG, 4, .inl g))] s.heap := hP
  have hD : va_D A [(m0, .inr (2, [.ref hR, .int (nI L.length), .int (nI op), .int (kI o), .int (nI tk), .int (nI lst), .int (nI ln), .ref hG, .int mn])), (hR, .inl (cR, 3000, .inl f)), (hG, .inl (cG, 4, .inl g))] := hD
  refine lv_aload_n hx hb d_M_text_0 rfl (lv_at hl 0 rfl) ?_
  refine lv_iload_n hx hb d_M_text_1 rfl (lv_at hl 1 rfl) ?_
  refine gcall_i (q0 := 0) (wr := []) (As := [.int x]) (rest := []) C0 g_M_46 (c_M_codeOut l dC dI cR cG m0 hR hG s.heap.size L op o tk lst ln f g mn hf x hx1) ⟨Nat.le_of_ble_eq_true rfl, Nat.le_of_ble_eq_true rfl⟩ ⟨rfl, rfl⟩ ⟨Nat.zero_le _, Nat.zero_le _⟩ d_M_text_2 rfl rfl (Nat.le_of_ble_eq_true rfl) hl.1 hK hP hD hS hA [0, 1, 2] [] [0, 1] rfl (by decide) rfl (by decide) (by decide) rfl rfl rfl (fun _ _ _ _ _ _ => trivial) (fun _ _ _ _ _ => trivial) (fun r u H locs hw hP hD hS => ?_)
  obtain ⟨u, f, g, mn⟩ := u
  dsimp only at hw
  obtain ⟨⟨rfl, rfl⟩, hf⟩ := hw
  have hP : va_P (dC, dI) classes [(m0, .inr (2, [.ref hR, .int (nI L.length), .int (nI op), .int (kI o), .int (nI tk), .int (nI lst), .int (nI ln), .ref hG, .int mn])), (hR, .inl (cR, 3000, .inl f)), (hG, .inl (cG, 4, .inl g))] H := hP
  have hD : va_D A [(m0, .inr (2, [.ref hR, .int (nI L.length), .int (nI op), .int (kI o), .int (nI tk), .int (nI lst), .int (nI ln), .ref hG, .int mn])), (hR, .inl (cR, 3000, .inl f)), (hG, .inl (cG, 4, .inl g))] := hD
  refine lx_i (y := nI 0) (rfl) ?_
  refine lq_if_ne hx hb (by omega) (tgt := 10) d_M_text_5 (by decide) (fun c_1 => ?_) (fun c_1 => ?_)
  · exact absurd rfl c_1
  · refine lv_iconst (v := nI 0) hx hb d_M_text_8 (by decide) ?_
    exact ret_i C0 hS d_M_text_9 rfl ((L, op, o, tk, lst, ln), f, g, mn) ⟨⟨rfl, rfl⟩, hf⟩ hP hD
set_option maxHeartbeats 4000000 in
set_option maxRecDepth 100000 in
theorem c_M_textIn (l : Launch) (dC : Nat → ClassId) (dI : Nat → Nat → Nat) (cR cG : ClassId) (m0 hR hG : Nat) (sz : Nat) (L : List Nat) (op : Nat) (o : Option Nat) (tk lst ln : Nat) (f g : Nat → Int32) (mn : Int32) (hf : RI f L) (n : Nat) (hn : n < 1114112) (hs : n < 55296 ∨ 57343 < n) (hL : L.length ≤ 3000) (ho : ∀ i, o = some i → i < 5) : MetMi l dC dI cR cG m0 hR hG sz y_M_text b_M_text 4 .boolean ({ frames := 2, cells := 0, slots := 0, locals := 42 }) [.int (nI n)] (L, op, o, tk, lst, ln) f g mn (fun r (z : MZ) => if o = some 4 then (if L.length + bofN n + 1 ≤ 3000 then r = 1 ∧ z.1 = adF n (L, op, o, tk, lst, ln) else r = 0 ∧ z.1 = (L, op, o, tk, lst, ln)) else if L.length + (enN o + 1 + bofN n) + 1 ≤ 3000 then r = 1 ∧ z.1 = adF n (stF 4 (L, op, o, tk, lst, ln)) else r = 0 ∧ z.1 = (L, op, o, tk, lst, ln)) := by
  refine enter (Qf := fun A => va_Qi (fun r (z : MZ) => (fun r (z : MZ) => if o = some 4 then (if L.length + bofN n + 1 ≤ 3000 then r = 1 ∧ z.1 = adF n (L, op, o, tk, lst, ln) else r = 0 ∧ z.1 = (L, op, o, tk, lst, ln)) else if L.length + (enN o + 1 + bofN n) + 1 ≤ 3000 then r = 1 ∧ z.1 = adF n (stF 4 (L, op, o, tk, lst, ln)) else r = 0 ∧ z.1 = (L, op, o, tk, lst, ln)) r z ∧ RI z.2.1 z.1.1) (PW dC dI A (fun z => wM m0 hR hG cR cG z.1 z.2.1 z.2.2.1 z.2.2.2)) A) (by decide) (Nat.le_of_ble_eq_true rfl) ?_
  intro p e s m below meth c A ls C0 hsz hA hK hP hD hS hX hl
  obtain ⟨hx, hb, hr, hml, hown, hlk, hnm, hts⟩ := id C0
  have hl : lv_has ls 4 [(0, .ref m0), (1, .int (nI n))] := hl
  have hP : va_P (dC, dI) classes [(m0, .inr (2, [.ref hR, .int (nI L.length), .int (nI op), .int (kI o), .int (nI tk), .int (nI lst), .int (nI ln), .ref hG, .int mn])), (hR, .inl (cR, 3000, .inl f)), (hG, .inl (cG, 4, .inl g))] s.heap := hP
  have hD : va_D A [(m0, .inr (2, [.ref hR, .int (nI L.length), .int (nI op), .int (kI o), .int (nI tk), .int (nI lst), .int (nI ln), .ref hG, .int mn])), (hR, .inl (cR, 3000, .inl f)), (hG, .inl (cG, 4, .inl g))] := hD
  have hbo := bofN_in n
  refine lv_aload_n hx hb d_M_text_0 rfl (lv_at hl 0 rfl) ?_
  refine lv_iload_n hx hb d_M_text_1 rfl (lv_at hl 1 rfl) ?_
  refine gcall_i (q0 := 0) (wr := []) (As := [.int (nI n)]) (rest := []) C0 g_M_46 (c_M_codeIn l dC dI cR cG m0 hR hG s.heap.size L op o tk lst ln f g mn hf n hn hs) ⟨Nat.le_of_ble_eq_true rfl, Nat.le_of_ble_eq_true rfl⟩ ⟨rfl, rfl⟩ ⟨Nat.zero_le _, Nat.zero_le _⟩ d_M_text_2 rfl rfl (Nat.le_of_ble_eq_true rfl) hl.1 hK hP hD hS hA [0, 1, 2] [] [0, 1] rfl (by decide) rfl (by decide) (by decide) rfl rfl rfl (fun _ _ _ _ _ _ => trivial) (fun _ _ _ _ _ => trivial) (fun r u H locs hw hP hD hS => ?_)
  obtain ⟨u, f, g, mn⟩ := u
  dsimp only at hw
  obtain ⟨⟨rfl, rfl, hg, rfl⟩, hf⟩ := hw
  have hf : RI f L := hf
  have hP : va_P (dC, dI) classes [(m0, .inr (2, [.ref hR, .int (nI L.length), .int (nI op), .int (kI o), .int (nI tk), .int (nI lst), .int (nI ln), .ref hG, .int (nI (bofN n))])), (hR, .inl (cR, 3000, .inl f)), (hG, .inl (cG, 4, .inl g))] H := hP
  have hD : va_D A [(m0, .inr (2, [.ref hR, .int (nI L.length), .int (nI op), .int (kI o), .int (nI tk), .int (nI lst), .int (nI ln), .ref hG, .int (nI (bofN n))])), (hR, .inl (cR, 3000, .inl f)), (hG, .inl (cG, 4, .inl g))] := hD
  refine lx_i (y := nI 1) (rfl) ?_
  refine lq_if_ne hx hb (by omega) (tgt := 10) d_M_text_5 (by decide) (fun c_1 => ?_) (fun c_1 => ?_)
  · cases o with
    | none =>
      have hne : ¬ (none : Option Nat) = some 4 := by simp
      have hP : va_P (dC, dI) classes [(m0, .inr (2, [.ref hR, .int (nI L.length), .int (nI op), .int (-1), .int (nI tk), .int (nI lst), .int (nI ln), .ref hG, .int (nI (bofN n))])), (hR, .inl (cR, 3000, .inl f)), (hG, .inl (cG, 4, .inl g))] H := hP
      have hD : va_D A [(m0, .inr (2, [.ref hR, .int (nI L.length), .int (nI op), .int (-1), .int (nI tk), .int (nI lst), .int (nI ln), .ref hG, .int (nI (bofN n))])), (hR, .inl (cR, 3000, .inl f)), (hG, .inl (cG, 4, .inl g))] := hD
      refine lv_aload_n hx hb d_M_text_10 rfl (lv_at hl 0 rfl) ?_
      refine va_get (D := (dC, dI)) (ci := 2) (v := .int (-1)) (C := R_M) (T := F_M) (N := 9) hx hb hts i_M hown hK hP 0 rfl rfl 3 (by decide) (hts _ m_174) (fun _ h9 => h9) rfl d_M_text_11 ?_
      refine lv_iconst (v := nI 4) hx hb d_M_text_14 (by decide) ?_
      refine lv_icmp_ne (tgt := 22) hx hb d_M_text_15 (by decide) (fun c_2 => ?_) (fun c_2 => ?_)
      · refine lv_aload_n hx hb d_M_text_22 rfl (lv_at hl 0 rfl) ?_
        refine va_get (D := (dC, dI)) (ci := 2) (v := .int (-1)) (C := R_M) (T := F_M) (N := 9) hx hb hts i_M hown hK hP 0 rfl rfl 3 (by decide) (hts _ m_174) (fun _ h9 => h9) rfl d_M_text_23 ?_
        refine lv_if_lt (tgt := 33) hx hb d_M_text_26 (by decide) (fun c_3 => ?_) (fun c_3 => ?_)
        · refine lv_iconst (v := nI 1) hx hb d_M_text_33 (by decide) ?_
          refine lv_istore_n (lv' := [(2, .int (nI 1)), (0, .ref m0), (1, .int (nI n))]) hx hb d_M_text_34 rfl hl (by decide) rfl (fun ls hl => ?_)
          refine lv_aload_n hx hb d_M_text_35 rfl (lv_at hl 1 rfl) ?_
          refine va_get (D := (dC, dI)) (ci := 2) (v := .int (nI L.length)) (C := R_M) (T := F_M) (N := 9) hx hb hts i_M hown hK hP 0 rfl rfl 1 (by decide) (hts _ m_172) (fun _ h9 => h9) rfl d_M_text_36 ?_
          refine lv_iload_n hx hb d_M_text_39 rfl (lv_at hl 0 rfl) ?_
          refine lq_add hx hb d_M_text_40 ?_
          refine lv_aload_n hx hb d_M_text_41 rfl (lv_at hl 1 rfl) ?_
          refine va_get (D := (dC, dI)) (ci := 2) (v := .int (nI (bofN n))) (C := R_M) (T := F_M) (N := 9) hx hb hts i_M hown hK hP 0 rfl rfl 8 (by decide) (hts _ m_179) (fun _ h9 => h9) rfl d_M_text_42 ?_
          refine lq_add hx hb d_M_text_45 ?_
          refine lv_iconst (v := nI 1) hx hb d_M_text_46 (by decide) ?_
          refine lq_add hx hb d_M_text_47 ?_
          refine lv_sipush (v := nI 3000) hx hb d_M_text_48 (by decide) ?_
          refine lq_icmp_le hx hb (by omega) (by omega) (tgt := 56) d_M_text_51 (by decide) (fun c_4 => ?_) (fun c_4 => ?_)
          · refine lv_aload_n hx hb d_M_text_56 rfl (lv_at hl 1 rfl) ?_
            refine va_get (D := (dC, dI)) (ci := 2) (v := .int (-1)) (C := R_M) (T := F_M) (N := 9) hx hb hts i_M hown hK hP 0 rfl rfl 3 (by decide) (hts _ m_174) (fun _ h9 => h9) rfl d_M_text_57 ?_
            refine lv_iconst (v := nI 4) hx hb d_M_text_60 (by decide) ?_
            refine lv_icmp_eq (tgt := 69) hx hb d_M_text_61 (by decide) (fun c_5 => ?_) (fun c_5 => ?_)
            · exact absurd c_5 (by decide)
            · refine lv_aload_n hx hb d_M_text_64 rfl (lv_at hl 1 rfl) ?_
              refine lv_iconst (v := nI 4) hx hb d_M_text_65 (by decide) ?_
              refine gcall_v (q0 := 0) (wr := []) (As := [.int (nI 4)]) (rest := []) C0 g_M_43 (c_M_start l dC dI cR cG m0 hR hG H.size L op none tk lst ln f g (nI (bofN n)) hf 4 (by decide) (by simp only [enN]; omega) ho) ⟨Nat.le_of_ble_eq_true rfl, Nat.le_of_ble_eq_true rfl⟩ ⟨rfl, rfl⟩ ⟨Nat.zero_le _, Nat.zero_le _⟩ d_M_text_66 rfl rfl (Nat.le_of_ble_eq_true rfl) hl.1 hK hP hD hS hA [0, 1, 2] [] [0, 1] rfl (by decide) rfl (by decide) (by decide) rfl rfl rfl (fun _ _ _ _ _ _ => trivial) (fun _ _ _ _ _ => trivial) (fun u H locs hw hP hD hS => ?_)
              obtain ⟨u, f, g, mn⟩ := u
              dsimp only at hw
              obtain ⟨⟨rfl, hs⟩, hf⟩ := hw
              obtain ⟨e1, rfl⟩ := Prod.mk.inj hs.symm
              subst e1
              have hf : RI f (L ++ [letK 4]) := hf
              have hP : va_P (dC, dI) classes [(m0, .inr (2, [.ref hR, .int (nI ((L ++ [letK 4]).length)), .int (nI (op + 1)), .int (nI 4), .int (nI tk), .int (nI lst), .int (nI ln), .ref hG, .int (nI (bofN n))])), (hR, .inl (cR, 3000, .inl f)), (hG, .inl (cG, 4, .inl g))] H := hP
              have hD : va_D A [(m0, .inr (2, [.ref hR, .int (nI ((L ++ [letK 4]).length)), .int (nI (op + 1)), .int (nI 4), .int (nI tk), .int (nI lst), .int (nI ln), .ref hG, .int (nI (bofN n))])), (hR, .inl (cR, 3000, .inl f)), (hG, .inl (cG, 4, .inl g))] := hD
              refine lv_iconst (v := nI 0) hx hb d_M_text_69 (by decide) ?_
              refine lv_istore_n (lv' := [(3, .int (nI 0)), (2, .int (nI 1)), (0, .ref m0), (1, .int (nI n))]) hx hb d_M_text_70 rfl hl (by decide) rfl (fun ls hl => ?_)
              refine M_text_loop C0 hA hK (L ++ [letK 4]) (op + 1) (some 4) tk lst ln n g hg (by first | omega | (simp only [List.length_append, List.length_cons, List.length_nil]; omega)) (fun f H locs ls hf hP hD hS hl => ?_) (bofN n) 0 f H _ ls (by omega) (by omega) (by rw [List.take_zero, List.append_nil]; exact hf) (by rw [List.take_zero, List.append_nil]; exact hP) (by rw [List.take_zero, List.append_nil]; exact hD) hS (lv_sub hl [0, 2] rfl)
              refine lv_iconst (v := nI 1) hx hb d_M_text_95 (by decide) ?_
              exact ret_i C0 hS d_M_text_96 rfl (adF n (stF 4 (L, op, none, tk, lst, ln)), f, g, nI (bofN n)) ⟨by dsimp only; rw [if_neg hne, if_pos (show L.length + (enN none + 1 + bofN n) + 1 ≤ 3000 by simp only [enN]; omega)]; exact ⟨rfl, rfl⟩, hf⟩ hP hD
          · refine lv_iconst (v := nI 0) hx hb d_M_text_54 (by decide) ?_
            exact ret_i C0 hS d_M_text_55 rfl ((L, op, none, tk, lst, ln), f, g, nI (bofN n)) ⟨by dsimp only; rw [if_neg hne, if_neg (show ¬ L.length + (enN none + 1 + bofN n) + 1 ≤ 3000 by simp only [enN]; omega)]; exact ⟨rfl, rfl⟩, hf⟩ hP hD
        · exact absurd (by decide) c_3
      · exact absurd c_2 (by decide)
    | some i =>
      have hi := ho i rfl
      have hP : va_P (dC, dI) classes [(m0, .inr (2, [.ref hR, .int (nI L.length), .int (nI op), .int (nI i), .int (nI tk), .int (nI lst), .int (nI ln), .ref hG, .int (nI (bofN n))])), (hR, .inl (cR, 3000, .inl f)), (hG, .inl (cG, 4, .inl g))] H := hP
      have hD : va_D A [(m0, .inr (2, [.ref hR, .int (nI L.length), .int (nI op), .int (nI i), .int (nI tk), .int (nI lst), .int (nI ln), .ref hG, .int (nI (bofN n))])), (hR, .inl (cR, 3000, .inl f)), (hG, .inl (cG, 4, .inl g))] := hD
      by_cases h4 : i = 4
      · subst h4
        refine lv_aload_n hx hb d_M_text_10 rfl (lv_at hl 0 rfl) ?_
        refine va_get (D := (dC, dI)) (ci := 2) (v := .int (nI 4)) (C := R_M) (T := F_M) (N := 9) hx hb hts i_M hown hK hP 0 rfl rfl 3 (by decide) (hts _ m_174) (fun _ h9 => h9) rfl d_M_text_11 ?_
        refine lv_iconst (v := nI 4) hx hb d_M_text_14 (by decide) ?_
        refine lq_icmp_ne hx hb (by omega) (by omega) (tgt := 22) d_M_text_15 (by decide) (fun c_6 => ?_) (fun c_6 => ?_)
        · exact absurd rfl c_6
        · refine lv_iconst (v := nI 0) hx hb d_M_text_18 (by decide) ?_
          refine lv_goto (tgt := 34) hx hb d_M_text_19 (by decide) ?_
          refine lv_istore_n (lv' := [(2, .int (nI 0)), (0, .ref m0), (1, .int (nI n))]) hx hb d_M_text_34 rfl hl (by decide) rfl (fun ls hl => ?_)
          refine lv_aload_n hx hb d_M_text_35 rfl (lv_at hl 1 rfl) ?_
          refine va_get (D := (dC, dI)) (ci := 2) (v := .int (nI L.length)) (C := R_M) (T := F_M) (N := 9) hx hb hts i_M hown hK hP 0 rfl rfl 1 (by decide) (hts _ m_172) (fun _ h9 => h9) rfl d_M_text_36 ?_
          refine lv_iload_n hx hb d_M_text_39 rfl (lv_at hl 0 rfl) ?_
          refine lq_add hx hb d_M_text_40 ?_
          refine lv_aload_n hx hb d_M_text_41 rfl (lv_at hl 1 rfl) ?_
          refine va_get (D := (dC, dI)) (ci := 2) (v := .int (nI (bofN n))) (C := R_M) (T := F_M) (N := 9) hx hb hts i_M hown hK hP 0 rfl rfl 8 (by decide) (hts _ m_179) (fun _ h9 => h9) rfl d_M_text_42 ?_
          refine lq_add hx hb d_M_text_45 ?_
          refine lv_iconst (v := nI 1) hx hb d_M_text_46 (by decide) ?_
          refine lq_add hx hb d_M_text_47 ?_
          refine lv_sipush (v := nI 3000) hx hb d_M_text_48 (by decide) ?_
          refine lq_icmp_le hx hb (by omega) (by omega) (tgt := 56) d_M_text_51 (by decide) (fun c_7 => ?_) (fun c_7 => ?_)
          · refine lv_aload_n hx hb d_M_text_56 rfl (lv_at hl 1 rfl) ?_
            refine va_get (D := (dC, dI)) (ci := 2) (v := .int (nI 4)) (C := R_M) (T := F_M) (N := 9) hx hb hts i_M hown hK hP 0 rfl rfl 3 (by decide) (hts _ m_174) (fun _ h9 => h9) rfl d_M_text_57 ?_
            refine lv_iconst (v := nI 4) hx hb d_M_text_60 (by decide) ?_
            refine lq_icmp_eq hx hb (by omega) (by omega) (tgt := 69) d_M_text_61 (by decide) (fun c_8 => ?_) (fun c_8 => ?_)
            · refine lv_iconst (v := nI 0) hx hb d_M_text_69 (by decide) ?_
              refine lv_istore_n (lv' := [(3, .int (nI 0)), (2, .int (nI 0)), (0, .ref m0), (1, .int (nI n))]) hx hb d_M_text_70 rfl hl (by decide) rfl (fun ls hl => ?_)
              refine M_text_loop C0 hA hK L op (some 4) tk lst ln n g hg (by first | omega | (simp only [List.length_append, List.length_cons, List.length_nil]; omega)) (fun f H locs ls hf hP hD hS hl => ?_) (bofN n) 0 f H _ ls (by omega) (by omega) (by rw [List.take_zero, List.append_nil]; exact hf) (by rw [List.take_zero, List.append_nil]; exact hP) (by rw [List.take_zero, List.append_nil]; exact hD) hS (lv_sub hl [0, 2] rfl)
              refine lv_iconst (v := nI 1) hx hb d_M_text_95 (by decide) ?_
              exact ret_i C0 hS d_M_text_96 rfl (adF n (L, op, some 4, tk, lst, ln), f, g, nI (bofN n)) ⟨by dsimp only; rw [if_pos rfl, if_pos (by omega)]; exact ⟨rfl, rfl⟩, hf⟩ hP hD
            · exact absurd rfl c_8
          · refine lv_iconst (v := nI 0) hx hb d_M_text_54 (by decide) ?_
            exact ret_i C0 hS d_M_text_55 rfl ((L, op, some 4, tk, lst, ln), f, g, nI (bofN n)) ⟨by dsimp only; rw [if_pos rfl, if_neg (by omega)]; exact ⟨rfl, rfl⟩, hf⟩ hP hD
      · have hne : ¬ (some i : Option Nat) = some 4 := fun q => h4 (Option.some.inj q)
        refine lv_aload_n hx hb d_M_text_10 rfl (lv_at hl 0 rfl) ?_
        refine va_get (D := (dC, dI)) (ci := 2) (v := .int (nI i)) (C := R_M) (T := F_M) (N := 9) hx hb hts i_M hown hK hP 0 rfl rfl 3 (by decide) (hts _ m_174) (fun _ h9 => h9) rfl d_M_text_11 ?_
        refine lv_iconst (v := nI 4) hx hb d_M_text_14 (by decide) ?_
        refine lq_icmp_ne hx hb (by omega) (by omega) (tgt := 22) d_M_text_15 (by decide) (fun c_9 => ?_) (fun c_9 => ?_)
        · refine lv_aload_n hx hb d_M_text_22 rfl (lv_at hl 0 rfl) ?_
          refine va_get (D := (dC, dI)) (ci := 2) (v := .int (nI i)) (C := R_M) (T := F_M) (N := 9) hx hb hts i_M hown hK hP 0 rfl rfl 3 (by decide) (hts _ m_174) (fun _ h9 => h9) rfl d_M_text_23 ?_
          refine lq_if_lt hx hb (by omega) (tgt := 33) d_M_text_26 (by decide) ?_
          refine lv_iconst (v := nI 2) hx hb d_M_text_29 (by decide) ?_
          refine lv_goto (tgt := 34) hx hb d_M_text_30 (by decide) ?_
          refine lv_istore_n (lv' := [(2, .int (nI 2)), (0, .ref m0), (1, .int (nI n))]) hx hb d_M_text_34 rfl hl (by decide) rfl (fun ls hl => ?_)
          refine lv_aload_n hx hb d_M_text_35 rfl (lv_at hl 1 rfl) ?_
          refine va_get (D := (dC, dI)) (ci := 2) (v := .int (nI L.length)) (C := R_M) (T := F_M) (N := 9) hx hb hts i_M hown hK hP 0 rfl rfl 1 (by decide) (hts _ m_172) (fun _ h9 => h9) rfl d_M_text_36 ?_
          refine lv_iload_n hx hb d_M_text_39 rfl (lv_at hl 0 rfl) ?_
          refine lq_add hx hb d_M_text_40 ?_
          refine lv_aload_n hx hb d_M_text_41 rfl (lv_at hl 1 rfl) ?_
          refine va_get (D := (dC, dI)) (ci := 2) (v := .int (nI (bofN n))) (C := R_M) (T := F_M) (N := 9) hx hb hts i_M hown hK hP 0 rfl rfl 8 (by decide) (hts _ m_179) (fun _ h9 => h9) rfl d_M_text_42 ?_
          refine lq_add hx hb d_M_text_45 ?_
          refine lv_iconst (v := nI 1) hx hb d_M_text_46 (by decide) ?_
          refine lq_add hx hb d_M_text_47 ?_
          refine lv_sipush (v := nI 3000) hx hb d_M_text_48 (by decide) ?_
          refine lq_icmp_le hx hb (by omega) (by omega) (tgt := 56) d_M_text_51 (by decide) (fun c_11 => ?_) (fun c_11 => ?_)
          · refine lv_aload_n hx hb d_M_text_56 rfl (lv_at hl 1 rfl) ?_
            refine va_get (D := (dC, dI)) (ci := 2) (v := .int (nI i)) (C := R_M) (T := F_M) (N := 9) hx hb hts i_M hown hK hP 0 rfl rfl 3 (by decide) (hts _ m_174) (fun _ h9 => h9) rfl d_M_text_57 ?_
            refine lv_iconst (v := nI 4) hx hb d_M_text_60 (by decide) ?_
            refine lq_icmp_eq hx hb (by omega) (by omega) (tgt := 69) d_M_text_61 (by decide) (fun c_12 => ?_) (fun c_12 => ?_)
            · exact absurd c_12 h4
            · refine lv_aload_n hx hb d_M_text_64 rfl (lv_at hl 1 rfl) ?_
              refine lv_iconst (v := nI 4) hx hb d_M_text_65 (by decide) ?_
              refine gcall_v (q0 := 0) (wr := []) (As := [.int (nI 4)]) (rest := []) C0 g_M_43 (c_M_start l dC dI cR cG m0 hR hG H.size L op (some i) tk lst ln f g (nI (bofN n)) hf 4 (by decide) (by simp only [enN]; omega) ho) ⟨Nat.le_of_ble_eq_true rfl, Nat.le_of_ble_eq_true rfl⟩ ⟨rfl, rfl⟩ ⟨Nat.zero_le _, Nat.zero_le _⟩ d_M_text_66 rfl rfl (Nat.le_of_ble_eq_true rfl) hl.1 hK hP hD hS hA [0, 1, 2] [] [0, 1] rfl (by decide) rfl (by decide) (by decide) rfl rfl rfl (fun _ _ _ _ _ _ => trivial) (fun _ _ _ _ _ => trivial) (fun u H locs hw hP hD hS => ?_)
              obtain ⟨u, f, g, mn⟩ := u
              dsimp only at hw
              obtain ⟨⟨rfl, hs⟩, hf⟩ := hw
              obtain ⟨e1, rfl⟩ := Prod.mk.inj hs.symm
              subst e1
              have hf : RI f ((L ++ [10]) ++ [letK 4]) := hf
              have hP : va_P (dC, dI) classes [(m0, .inr (2, [.ref hR, .int (nI (((L ++ [10]) ++ [letK 4]).length)), .int (nI (0 + 1)), .int (nI 4), .int (nI tk), .int (nI lst), .int (nI ln), .ref hG, .int (nI (bofN n))])), (hR, .inl (cR, 3000, .inl f)), (hG, .inl (cG, 4, .inl g))] H := hP
              have hD : va_D A [(m0, .inr (2, [.ref hR, .int (nI (((L ++ [10]) ++ [letK 4]).length)), .int (nI (0 + 1)), .int (nI 4), .int (nI tk), .int (nI lst), .int (nI ln), .ref hG, .int (nI (bofN n))])), (hR, .inl (cR, 3000, .inl f)), (hG, .inl (cG, 4, .inl g))] := hD
              refine lv_iconst (v := nI 0) hx hb d_M_text_69 (by decide) ?_
              refine lv_istore_n (lv' := [(3, .int (nI 0)), (2, .int (nI 2)), (0, .ref m0), (1, .int (nI n))]) hx hb d_M_text_70 rfl hl (by decide) rfl (fun ls hl => ?_)
              refine M_text_loop C0 hA hK ((L ++ [10]) ++ [letK 4]) (0 + 1) (some 4) tk lst ln n g hg (by first | omega | (simp only [List.length_append, List.length_cons, List.length_nil]; omega)) (fun f H locs ls hf hP hD hS hl => ?_) (bofN n) 0 f H _ ls (by omega) (by omega) (by rw [List.take_zero, List.append_nil]; exact hf) (by rw [List.take_zero, List.append_nil]; exact hP) (by rw [List.take_zero, List.append_nil]; exact hD) hS (lv_sub hl [0, 2] rfl)
              refine lv_iconst (v := nI 1) hx hb d_M_text_95 (by decide) ?_
              exact ret_i C0 hS d_M_text_96 rfl (adF n (stF 4 (L, op, (some i), tk, lst, ln)), f, g, nI (bofN n)) ⟨by dsimp only; rw [if_neg hne, if_pos (show L.length + (enN (some i) + 1 + bofN n) + 1 ≤ 3000 by simp only [enN]; omega)]; exact ⟨rfl, rfl⟩, hf⟩ hP hD
          · refine lv_iconst (v := nI 0) hx hb d_M_text_54 (by decide) ?_
            exact ret_i C0 hS d_M_text_55 rfl ((L, op, (some i), tk, lst, ln), f, g, nI (bofN n)) ⟨by dsimp only; rw [if_neg hne, if_neg (show ¬ L.length + (enN (some i) + 1 + bofN n) + 1 ≤ 3000 by simp only [enN]; omega)]; exact ⟨rfl, rfl⟩, hf⟩ hP hD
        · exact absurd c_9 h4
  · exact absurd c_1 (by decide)
end
section
/-! THE REFERENCE: back, take, count (rows printed by gen17.py) -/
def cntM (x : Int32) (L : List Nat) (op : Nat) (o : Option Nat) (ln : Nat) : Int32 := if x = 0 then nI L.length else if x = 1 then nI (ln + c10 L) else if x = 2 then kI o else if x = 3 then nI op else -1
set_option maxHeartbeats 4000000 in
set_option maxRecDepth 100000 in
theorem c_M_backOut (l : Launch) (dC : Nat → ClassId) (dI : Nat → Nat → Nat) (cR cG : ClassId) (m0 hR hG : Nat) (sz : Nat) (L : List Nat) (op : Nat) (o : Option Nat) (tk lst ln : Nat) (f g : Nat → Int32) (mn : Int32) (hf : RI f L) (x : Int32) (htk : tk < 1000000) (hL : L.length ≤ 3000) (hx1 : x < nI tk ∨ nI (tk + L.length) < x) : MetMi l dC dI cR cG m0 hR hG sz y_M_back b_M_back 4 .boolean ({ frames := 0, cells := 0, slots := 0, locals := 0 }) [.int x] (L, op, o, tk, lst, ln) f g mn (fun r (z : MZ) => r = 0 ∧ z.1 = (L, op, o, tk, lst, ln)) := by
  refine enter (Qf := fun A => va_Qi (fun r (z : MZ) => (fun r (z : MZ) => r = 0 ∧ z.1 = (L, op, o, tk, lst, ln)) r z ∧ RI z.2.1 z.1.1) (PW dC dI A (fun z => wM m0 hR hG cR cG z.1 z.2.1 z.2.2.1 z.2.2.2)) A) (by decide) (Nat.le_of_ble_eq_true rfl) ?_
  intro p e s m below meth c A ls C0 hsz hA hK hP hD hS hX hl
  obtain ⟨hx, hb, hr, hml, hown, hlk, hnm, hts⟩ := id C0
  have hl : lv_has ls 4 [(0, .ref m0), (1, .int x)] := hl
  have hP : va_P (dC, dI) classes [(m0, .inr (2, [.ref hR, .int (nI L.length), .int (nI op), .int (kI o), .int (nI tk), .int (nI lst), .int (nI ln), .ref hG, .int mn])), (hR, .inl (cR, 3000, .inl f)), (hG, .inl (cG, 4, .inl g))] s.heap := hP
  have hD : va_D A [(m0, .inr (2, [.ref hR, .int (nI L.length), .int (nI op), .int (kI o), .int (nI tk), .int (nI lst), .int (nI ln), .ref hG, .int mn])), (hR, .inl (cR, 3000, .inl f)), (hG, .inl (cG, 4, .inl g))] := hD
  have ho := out_sub htk hL hx1
  refine lv_iload_n hx hb d_M_back_0 rfl (lv_at hl 1 rfl) ?_
  refine lv_aload_n hx hb d_M_back_1 rfl (lv_at hl 0 rfl) ?_
  refine va_get (D := (dC, dI)) (ci := 2) (v := .int (nI tk)) (C := R_M) (T := F_M) (N := 9) hx hb hts i_M hown hK hP 0 rfl rfl 4 (by decide) (hts _ m_175) (fun _ h9 => h9) rfl d_M_back_2 ?_
  refine lv_isub hx hb d_M_back_5 ?_
  refine lv_istore_n (lv' := [(2, .int (x - (nI tk))), (0, .ref m0), (1, .int x)]) hx hb d_M_back_6 rfl hl (by decide) rfl (fun ls hl => ?_)
  refine lv_iload_n hx hb d_M_back_7 rfl (lv_at hl 0 rfl) ?_
  refine lv_if_lt (tgt := 19) hx hb d_M_back_8 (by decide) (fun c_1 => ?_) (fun c_1 => ?_)
  · refine lv_iconst (v := nI 0) hx hb d_M_back_19 (by decide) ?_
    exact ret_i C0 hS d_M_back_20 rfl ((L, op, o, tk, lst, ln), f, g, mn) ⟨⟨rfl, rfl⟩, hf⟩ hP hD
  · refine lv_iload_n hx hb d_M_back_11 rfl (lv_at hl 0 rfl) ?_
    refine lv_aload_n hx hb d_M_back_12 rfl (lv_at hl 1 rfl) ?_
    refine va_get (D := (dC, dI)) (ci := 2) (v := .int (nI L.length)) (C := R_M) (T := F_M) (N := 9) hx hb hts i_M hown hK hP 0 rfl rfl 1 (by decide) (hts _ m_172) (fun _ h9 => h9) rfl d_M_back_13 ?_
    refine lv_icmp_le (tgt := 21) hx hb d_M_back_16 (by decide) (fun c_2 => ?_) (fun c_2 => ?_)
    · exact absurd c_2 (by rcases ho with q | q; exact absurd q c_1; exact Int32.not_le.mpr q)
    · refine lv_iconst (v := nI 0) hx hb d_M_back_19 (by decide) ?_
      exact ret_i C0 hS d_M_back_20 rfl ((L, op, o, tk, lst, ln), f, g, mn) ⟨⟨rfl, rfl⟩, hf⟩ hP hD
set_option maxHeartbeats 4000000 in
set_option maxRecDepth 100000 in
theorem c_M_backIn (l : Launch) (dC : Nat → ClassId) (dI : Nat → Nat → Nat) (cR cG : ClassId) (m0 hR hG : Nat) (sz : Nat) (L : List Nat) (op : Nat) (o : Option Nat) (tk lst ln : Nat) (f g : Nat → Int32) (mn : Int32) (hf : RI f L) (to : Nat) (hto : to ≤ L.length) (hL : L.length ≤ 3000) (htk : tk < 1000000) (h8 : B8 L) (hlst : lst < 256) : MetMi l dC dI cR cG m0 hR hG sz y_M_back b_M_back 4 .boolean ({ frames := 0, cells := 0, slots := 0, locals := 0 }) [.int (nI (tk + to))] (L, op, o, tk, lst, ln) f g mn (fun r (z : MZ) => if (to = 0 ∧ lst = 10) ∨ (¬ to = 0 ∧ L.getD (to - 1) 0 = 10) then r = 1 ∧ z.1 = (L.take to, 0, none, tk, lst, ln) else r = 0 ∧ z.1 = (L, op, o, tk, lst, ln)) := by
  refine enter (Qf := fun A => va_Qi (fun r (z : MZ) => (fun r (z : MZ) => if (to = 0 ∧ lst = 10) ∨ (¬ to = 0 ∧ L.getD (to - 1) 0 = 10) then r = 1 ∧ z.1 = (L.take to, 0, none, tk, lst, ln) else r = 0 ∧ z.1 = (L, op, o, tk, lst, ln)) r z ∧ RI z.2.1 z.1.1) (PW dC dI A (fun z => wM m0 hR hG cR cG z.1 z.2.1 z.2.2.1 z.2.2.2)) A) (by decide) (Nat.le_of_ble_eq_true rfl) ?_
  intro p e s m below meth c A ls C0 hsz hA hK hP hD hS hX hl
  obtain ⟨hx, hb, hr, hml, hown, hlk, hnm, hts⟩ := id C0
  have hl : lv_has ls 4 [(0, .ref m0), (1, .int (nI (tk + to)))] := hl
  have hP : va_P (dC, dI) classes [(m0, .inr (2, [.ref hR, .int (nI L.length), .int (nI op), .int (kI o), .int (nI tk), .int (nI lst), .int (nI ln), .ref hG, .int mn])), (hR, .inl (cR, 3000, .inl f)), (hG, .inl (cG, 4, .inl g))] s.heap := hP
  have hD : va_D A [(m0, .inr (2, [.ref hR, .int (nI L.length), .int (nI op), .int (kI o), .int (nI tk), .int (nI lst), .int (nI ln), .ref hG, .int mn])), (hR, .inl (cR, 3000, .inl f)), (hG, .inl (cG, 4, .inl g))] := hD
  refine lv_iload_n hx hb d_M_back_0 rfl (lv_at hl 1 rfl) ?_
  refine lv_aload_n hx hb d_M_back_1 rfl (lv_at hl 0 rfl) ?_
  refine va_get (D := (dC, dI)) (ci := 2) (v := .int (nI tk)) (C := R_M) (T := F_M) (N := 9) hx hb hts i_M hown hK hP 0 rfl rfl 4 (by decide) (hts _ m_175) (fun _ h9 => h9) rfl d_M_back_2 ?_
  refine lq_sub hx hb (by omega) d_M_back_5 ?_
  refine lx_i (y := nI to) (congrArg nI (by omega)) ?_
  refine lv_istore_n (lv' := [(2, .int (nI to)), (0, .ref m0), (1, .int (nI (tk + to)))]) hx hb d_M_back_6 rfl hl (by decide) rfl (fun ls hl => ?_)
  refine lv_iload_n hx hb d_M_back_7 rfl (lv_at hl 0 rfl) ?_
  refine lq_if_lt hx hb (by omega) (tgt := 19) d_M_back_8 (by decide) ?_
  refine lv_iload_n hx hb d_M_back_11 rfl (lv_at hl 0 rfl) ?_
  refine lv_aload_n hx hb d_M_back_12 rfl (lv_at hl 1 rfl) ?_
  refine va_get (D := (dC, dI)) (ci := 2) (v := .int (nI L.length)) (C := R_M) (T := F_M) (N := 9) hx hb hts i_M hown hK hP 0 rfl rfl 1 (by decide) (hts _ m_172) (fun _ h9 => h9) rfl d_M_back_13 ?_
  refine lq_icmp_le hx hb (by omega) (by omega) (tgt := 21) d_M_back_16 (by decide) (fun c_2 => ?_) (fun c_2 => ?_)
  · refine lv_iload_n hx hb d_M_back_21 rfl (lv_at hl 0 rfl) ?_
    refine lq_if_le hx hb (by omega) (tgt := 36) d_M_back_22 (by decide) (fun c_3 => ?_) (fun c_3 => ?_)
    · refine lv_aload_n hx hb d_M_back_36 rfl (lv_at hl 1 rfl) ?_
      refine va_get (D := (dC, dI)) (ci := 2) (v := .int (nI lst)) (C := R_M) (T := F_M) (N := 9) hx hb hts i_M hown hK hP 0 rfl rfl 5 (by decide) (hts _ m_176) (fun _ h9 => h9) rfl d_M_back_37 ?_
      refine lv_istore_n (lv' := [(3, .int (nI lst)), (2, .int (nI to)), (0, .ref m0), (1, .int (nI (tk + to)))]) hx hb d_M_back_40 rfl hl (by decide) rfl (fun ls hl => ?_)
      refine lv_iload_n hx hb d_M_back_41 rfl (lv_at hl 0 rfl) ?_
      refine lv_bipush (v := nI 10) hx hb d_M_back_42 (by decide) ?_
      refine lq_icmp_eq hx hb (by omega) (by omega) (tgt := 49) d_M_back_44 (by decide) (fun c_4 => ?_) (fun c_4 => ?_)
      · refine lv_aload_n hx hb d_M_back_49 rfl (lv_at hl 2 rfl) ?_
        refine lv_iload_n hx hb d_M_back_50 rfl (lv_at hl 1 rfl) ?_
        refine lx_i (y := nI ((L.take to).length)) (by rw [take_len hto]) ?_
        refine va_put (D := (dC, dI)) (ci := 2) (v := .int (nI ((L.take to).length))) (ty := .int) (C := R_M) (T := F_M) (N := 9) hx hb hts i_M t_M t_M_ok n_M hown hK hP hD hS 0 rfl rfl 1 (by decide) (hts _ m_172) (fun _ h9 => h9) rfl (by decide +kernel) rfl rfl (Nat.le_of_ble_eq_true rfl) d_M_back_51 (fun H locs hP hD hS => ?_)
        have hP : va_P (dC, dI) classes [(m0, .inr (2, [.ref hR, .int (nI ((L.take to).length)), .int (nI op), .int (kI o), .int (nI tk), .int (nI lst), .int (nI ln), .ref hG, .int mn])), (hR, .inl (cR, 3000, .inl f)), (hG, .inl (cG, 4, .inl g))] H := hP
        have hD : va_D A [(m0, .inr (2, [.ref hR, .int (nI ((L.take to).length)), .int (nI op), .int (kI o), .int (nI tk), .int (nI lst), .int (nI ln), .ref hG, .int mn])), (hR, .inl (cR, 3000, .inl f)), (hG, .inl (cG, 4, .inl g))] := hD
        refine lv_aload_n hx hb d_M_back_54 rfl (lv_at hl 2 rfl) ?_
        refine lv_iconst (v := nI 0) hx hb d_M_back_55 (by decide) ?_
        refine va_put (D := (dC, dI)) (ci := 2) (v := .int (nI 0)) (ty := .int) (C := R_M) (T := F_M) (N := 9) hx hb hts i_M t_M t_M_ok n_M hown hK hP hD hS 0 rfl rfl 2 (by decide) (hts _ m_173) (fun _ h9 => h9) rfl (by decide +kernel) rfl rfl (Nat.le_of_ble_eq_true rfl) d_M_back_56 (fun H locs hP hD hS => ?_)
        have hP : va_P (dC, dI) classes [(m0, .inr (2, [.ref hR, .int (nI ((L.take to).length)), .int (nI 0), .int (kI o), .int (nI tk), .int (nI lst), .int (nI ln), .ref hG, .int mn])), (hR, .inl (cR, 3000, .inl f)), (hG, .inl (cG, 4, .inl g))] H := hP
        have hD : va_D A [(m0, .inr (2, [.ref hR, .int (nI ((L.take to).length)), .int (nI 0), .int (kI o), .int (nI tk), .int (nI lst), .int (nI ln), .ref hG, .int mn])), (hR, .inl (cR, 3000, .inl f)), (hG, .inl (cG, 4, .inl g))] := hD
        refine lv_aload_n hx hb d_M_back_59 rfl (lv_at hl 2 rfl) ?_
        refine lv_iconst (v := -1) hx hb d_M_back_60 (by decide) ?_
        refine va_put (D := (dC, dI)) (ci := 2) (v := .int (-1)) (ty := .int) (C := R_M) (T := F_M) (N := 9) hx hb hts i_M t_M t_M_ok n_M hown hK hP hD hS 0 rfl rfl 3 (by decide) (hts _ m_174) (fun _ h9 => h9) rfl (by decide +kernel) rfl rfl (Nat.le_of_ble_eq_true rfl) d_M_back_61 (fun H locs hP hD hS => ?_)
        have hP : va_P (dC, dI) classes [(m0, .inr (2, [.ref hR, .int (nI ((L.take to).length)), .int (nI 0), .int (-1), .int (nI tk), .int (nI lst), .int (nI ln), .ref hG, .int mn])), (hR, .inl (cR, 3000, .inl f)), (hG, .inl (cG, 4, .inl g))] H := hP
        have hD : va_D A [(m0, .inr (2, [.ref hR, .int (nI ((L.take to).length)), .int (nI 0), .int (-1), .int (nI tk), .int (nI lst), .int (nI ln), .ref hG, .int mn])), (hR, .inl (cR, 3000, .inl f)), (hG, .inl (cG, 4, .inl g))] := hD
        refine lv_iconst (v := nI 1) hx hb d_M_back_64 (by decide) ?_
        exact ret_i C0 hS d_M_back_65 rfl ((L.take to, 0, none, tk, lst, ln), f, g, mn) ⟨by dsimp only; rw [if_pos (by exact Or.inl ⟨c_3, c_4⟩)]; exact ⟨rfl, rfl⟩, hf.take hto⟩ hP hD
      · refine lv_iconst (v := nI 0) hx hb d_M_back_47 (by decide) ?_
        exact ret_i C0 hS d_M_back_48 rfl ((L, op, o, tk, lst, ln), f, g, mn) ⟨by dsimp only; rw [if_neg (by rintro (q | q); exact c_4 q.2; exact q.1 c_3)]; exact ⟨rfl, rfl⟩, hf⟩ hP hD
    · have hb8 := h8 (to - 1) (by omega)
      refine lv_aload_n hx hb d_M_back_25 rfl (lv_at hl 1 rfl) ?_
      refine va_get (D := (dC, dI)) (ci := 2) (v := .ref hR) (C := R_M) (T := F_M) (N := 9) hx hb hts i_M hown hK hP 0 rfl rfl 0 (by decide) (hts _ m_171) (fun _ h9 => h9) rfl d_M_back_26 ?_
      refine lv_iload_n hx hb d_M_back_29 rfl (lv_at hl 0 rfl) ?_
      refine lv_iconst (v := nI 1) hx hb d_M_back_30 (by decide) ?_
      refine lq_sub hx hb (by omega) d_M_back_31 ?_
      refine va_iald (D := (dC, dI)) hx hb hK hP 1 0 rfl rfl (vp_in_nI (by omega) (by omega)) d_M_back_32 ?_
      refine lx_i (y := nI (L.getD (to - 1) 0)) (by rw [nI_clamp (by omega)]; exact hf _ (by omega)) ?_
      refine lv_goto (tgt := 40) hx hb d_M_back_33 (by decide) ?_
      refine lv_istore_n (lv' := [(3, .int (nI (L.getD (to - 1) 0))), (2, .int (nI to)), (0, .ref m0), (1, .int (nI (tk + to)))]) hx hb d_M_back_40 rfl hl (by decide) rfl (fun ls hl => ?_)
      refine lv_iload_n hx hb d_M_back_41 rfl (lv_at hl 0 rfl) ?_
      refine lv_bipush (v := nI 10) hx hb d_M_back_42 (by decide) ?_
      refine lq_icmp_eq hx hb (by omega) (by omega) (tgt := 49) d_M_back_44 (by decide) (fun c_5 => ?_) (fun c_5 => ?_)
      · refine lv_aload_n hx hb d_M_back_49 rfl (lv_at hl 2 rfl) ?_
        refine lv_iload_n hx hb d_M_back_50 rfl (lv_at hl 1 rfl) ?_
        refine lx_i (y := nI ((L.take to).length)) (by rw [take_len hto]) ?_
        refine va_put (D := (dC, dI)) (ci := 2) (v := .int (nI ((L.take to).length))) (ty := .int) (C := R_M) (T := F_M) (N := 9) hx hb hts i_M t_M t_M_ok n_M hown hK hP hD hS 0 rfl rfl 1 (by decide) (hts _ m_172) (fun _ h9 => h9) rfl (by decide +kernel) rfl rfl (Nat.le_of_ble_eq_true rfl) d_M_back_51 (fun H locs hP hD hS => ?_)
        have hP : va_P (dC, dI) classes [(m0, .inr (2, [.ref hR, .int (nI ((L.take to).length)), .int (nI op), .int (kI o), .int (nI tk), .int (nI lst), .int (nI ln), .ref hG, .int mn])), (hR, .inl (cR, 3000, .inl f)), (hG, .inl (cG, 4, .inl g))] H := hP
        have hD : va_D A [(m0, .inr (2, [.ref hR, .int (nI ((L.take to).length)), .int (nI op), .int (kI o), .int (nI tk), .int (nI lst), .int (nI ln), .ref hG, .int mn])), (hR, .inl (cR, 3000, .inl f)), (hG, .inl (cG, 4, .inl g))] := hD
        refine lv_aload_n hx hb d_M_back_54 rfl (lv_at hl 2 rfl) ?_
        refine lv_iconst (v := nI 0) hx hb d_M_back_55 (by decide) ?_
        refine va_put (D := (dC, dI)) (ci := 2) (v := .int (nI 0)) (ty := .int) (C := R_M) (T := F_M) (N := 9) hx hb hts i_M t_M t_M_ok n_M hown hK hP hD hS 0 rfl rfl 2 (by decide) (hts _ m_173) (fun _ h9 => h9) rfl (by decide +kernel) rfl rfl (Nat.le_of_ble_eq_true rfl) d_M_back_56 (fun H locs hP hD hS => ?_)
        have hP : va_P (dC, dI) classes [(m0, .inr (2, [.ref hR, .int (nI ((L.take to).length)), .int (nI 0), .int (kI o), .int (nI tk), .int (nI lst), .int (nI ln), .ref hG, .int mn])), (hR, .inl (cR, 3000, .inl f)), (hG, .inl (cG, 4, .inl g))] H := hP
        have hD : va_D A [(m0, .inr (2, [.ref hR, .int (nI ((L.take to).length)), .int (nI 0), .int (kI o), .int (nI tk), .int (nI lst), .int (nI ln), .ref hG, .int mn])), (hR, .inl (cR, 3000, .inl f)), (hG, .inl (cG, 4, .inl g))] := hD
        refine lv_aload_n hx hb d_M_back_59 rfl (lv_at hl 2 rfl) ?_
        refine lv_iconst (v := -1) hx hb d_M_back_60 (by decide) ?_
        refine va_put (D := (dC, dI)) (ci := 2) (v := .int (-1)) (ty := .int) (C := R_M) (T := F_M) (N := 9) hx hb hts i_M t_M t_M_ok n_M hown hK hP hD hS 0 rfl rfl 3 (by decide) (hts _ m_174) (fun _ h9 => h9) rfl (by decide +kernel) rfl rfl (Nat.le_of_ble_eq_true rfl) d_M_back_61 (fun H locs hP hD hS => ?_)
        have hP : va_P (dC, dI) classes [(m0, .inr (2, [.ref hR, .int (nI ((L.take to).length)), .int (nI 0), .int (-1), .int (nI tk), .int (nI lst), .int (nI ln), .ref hG, .int mn])), (hR, .inl (cR, 3000, .inl f)), (hG, .inl (cG, 4, .inl g))] H := hP
        have hD : va_D A [(m0, .inr (2, [.ref hR, .int (nI ((L.take to).length)), .int (nI 0), .int (-1), .int (nI tk), .int (nI lst), .int (nI ln), .ref hG, .int mn])), (hR, .inl (cR, 3000, .inl f)), (hG, .inl (cG, 4, .inl g))] := hD
        refine lv_iconst (v := nI 1) hx hb d_M_back_64 (by decide) ?_
        exact ret_i C0 hS d_M_back_65 rfl ((L.take to, 0, none, tk, lst, ln), f, g, mn) ⟨by dsimp only; rw [if_pos (by exact Or.inr ⟨by omega, c_5⟩)]; exact ⟨rfl, rfl⟩, hf.take hto⟩ hP hD
      · refine lv_iconst (v := nI 0) hx hb d_M_back_47 (by decide) ?_
        exact ret_i C0 hS d_M_back_48 rfl ((L, op, o, tk, lst, ln), f, g, mn) ⟨by dsimp only; rw [if_neg (by rintro (q | q); omega; exact c_5 q.2)]; exact ⟨rfl, rfl⟩, hf⟩ hP hD
  · exact absurd c_2 (by omega)
set_option maxHeartbeats 4000000 in
set_option maxRecDepth 100000 in
theorem M_take_loop1 {p : Program} {l : Launch} {e : Env} {s : State} {m : MethodId} {args : Array Value} {below : List Frame} {meth : Method} {c : Code} {Q : State → Prop} {dC : Nat → ClassId} {dI : Nat → Nat → Nat} {cR cG : ClassId} {m0 hR hG : Nat} {A : Nat → Prop} {R : Room} (C0 : Cx p s m args meth c b_M_take 5 (some .long) y_M_take) (hK : va_K (dC, dI) classes [(cR, .int), (cG, .int)] s) (L : List Nat) (op : Nat) (o : Option Nat) (tk lst ln n : Nat) (f g : Nat → Int32) (mn : Int32) (hf : RI f L) (h8 : B8 L) (hL : L.length ≤ 3000) (hn : n ≤ L.length) (hn7 : n ≤ 7)
    (kk : ∀ (H : Heap) (locs : List Loc) (ls : Array Slot), va_P (dC, dI) classes [(m0, .inr (2, [.ref hR, .int (nI L.length), .int (nI op), .int (kI o), .int (nI tk), .int (nI lst), .int (nI (ln + c10 (L.take n))), .ref hG, .int mn])), (hR, .inl (cR, 3000, .inl f)), (hG, .inl (cG, 4, .inl g))] H → va_D A [(m0, .inr (2, [.ref hR, .int (nI L.length), .int (nI op), .int (kI o), .int (nI tk), .int (nI lst), .int (nI (ln + c10 (L.take n))), .ref hG, .int mn])), (hR, .inl (cR, 3000, .inl f)), (hG, .inl (cG, 4, .inl g))] → va_S A s.heap H locs → lv_has ls 5 [(0, .ref m0), (1, .int (nI n)), (2, .long (outR L n n))] → W p l e R s m args below meth c H locs 0 0 Q (F0 m 102 ls [])) :
    ∀ (d k : Nat) (H : Heap) (locs : List Loc) (ls : Array Slot), n ≤ k + d → k ≤ n → va_P (dC, dI) classes [(m0, .inr (2, [.ref hR, .int (nI L.length), .int (nI op), .int (kI o), .int (nI tk), .int (nI lst), .int (nI (ln + c10 (L.take k))), .ref hG, .int mn])), (hR, .inl (cR, 3000, .inl f)), (hG, .inl (cG, 4, .inl g))] H → va_D A [(m0, .inr (2, [.ref hR, .int (nI L.length), .int (nI op), .int (kI o), .int (nI tk), .int (nI lst), .int (nI (ln + c10 (L.take k))), .ref hG, .int mn])), (hR, .inl (cR, 3000, .inl f)), (hG, .inl (cG, 4, .inl g))] → va_S A s.heap H locs → lv_has ls 5 [(4, .int (nI k)), (2, .long (outR L n k)), (0, .ref m0), (1, .int (nI n))] → W p l e R s m args below meth c H locs 0 0 Q (F0 m 44 ls []) := by
  obtain ⟨hx, hb, hr, hml, hown, hlk, hnm, hts⟩ := id C0
  intro d
  induction d with
  | zero =>
    intro k H locs ls hd hk hP hD hS hl
    refine lv_iload hx hb d_M_take_44 (lv_at hl 0 rfl) ?_
    refine lv_iload_n hx hb d_M_take_46 rfl (lv_at hl 3 rfl) ?_
    refine lq_icmp_ge hx hb (by omega) (by omega) (tgt := 102) d_M_take_47 (by decide) (fun c_1 => ?_) (fun c_1 => ?_)
    · have hkn : k = n := by omega
      subst hkn
      exact kk H locs ls hP hD hS (lv_sub hl [2, 3, 1] rfl)
    · exact absurd c_1 (by omega)
  | succ d ih =>
    intro k H locs ls hd hk hP hD hS hl
    refine lv_iload hx hb d_M_take_44 (lv_at hl 0 rfl) ?_
    refine lv_iload_n hx hb d_M_take_46 rfl (lv_at hl 3 rfl) ?_
    refine lq_icmp_ge hx hb (by omega) (by omega) (tgt := 102) d_M_take_47 (by decide) (fun c_2 => ?_) (fun c_2 => ?_)
    · have hkn : k = n := by omega
      subst hkn
      exact kk H locs ls hP hD hS (lv_sub hl [2, 3, 1] rfl)
    · have hb8 := h8 k (by omega)
      have hcs := cnt_snoc (E := L) (k := k) (by omega)
      refine lv_lload_n hx hb d_M_take_50 rfl (lv_at hl 1 rfl) ?_
      refine lv_aload_n hx hb d_M_take_51 rfl (lv_at hl 2 rfl) ?_
      refine va_get (D := (dC, dI)) (ci := 2) (v := .ref hR) (C := R_M) (T := F_M) (N := 9) hx hb hts i_M hown hK hP 0 rfl rfl 0 (by decide) (hts _ m_171) (fun _ h9 => h9) rfl d_M_take_52 ?_
      refine lv_iload hx hb d_M_take_55 (lv_at hl 0 rfl) ?_
      refine va_iald (D := (dC, dI)) hx hb hK hP 1 0 rfl rfl (vp_in_nI (by omega) (by omega)) d_M_take_57 ?_
      refine lx_i (y := nI (L.getD k 0)) (by rw [nI_clamp (by omega)]; exact hf _ (by omega)) ?_
      refine lv_i2l (v := (nI (L.getD k 0)).toInt64) hx hb d_M_take_58 rfl ?_
      refine lx_l (y := lN (L.getD k 0)) (nI_l8 hb8) ?_
      refine lv_bipush (v := nI 48) hx hb d_M_take_59 (by decide) ?_
      refine lv_bipush (v := nI 8) hx hb d_M_take_61 (by decide) ?_
      refine lv_iload hx hb d_M_take_63 (lv_at hl 0 rfl) ?_
      refine lv_imul hx hb d_M_take_65 ?_
      refine lv_isub hx hb d_M_take_66 ?_
      refine lv_lshl (v := (lN (L.getD k 0)) <<< (((nI 48) - ((nI 8) * (nI k))).toInt64 &&& 63)) hx hb d_M_take_67 rfl ?_
      refine lv_lor hx hb d_M_take_68 ?_
      refine lx_l (y := outR L n (k + 1)) (rfl) ?_
      refine lv_lstore_n (lv' := [(2, .long (outR L n (k + 1))), (4, .int (nI k)), (0, .ref m0), (1, .int (nI n))]) hx hb d_M_take_69 rfl hl (by decide) rfl (fun ls hl => ?_)
      refine lv_aload_n hx hb d_M_take_70 rfl (lv_at hl 2 rfl) ?_
      refine lv_aload_n hx hb d_M_take_71 rfl (lv_at hl 2 rfl) ?_
      refine va_get (D := (dC, dI)) (ci := 2) (v := .int (nI (ln + c10 (L.take k)))) (C := R_M) (T := F_M) (N := 9) hx hb hts i_M hown hK hP 0 rfl rfl 6 (by decide) (hts _ m_177) (fun _ h9 => h9) rfl d_M_take_72 ?_
      refine lv_aload_n hx hb d_M_take_75 rfl (lv_at hl 2 rfl) ?_
      refine va_get (D := (dC, dI)) (ci := 2) (v := .ref hR) (C := R_M) (T := F_M) (N := 9) hx hb hts i_M hown hK hP 0 rfl rfl 0 (by decide) (hts _ m_171) (fun _ h9 => h9) rfl d_M_take_76 ?_
      refine lv_iload hx hb d_M_take_79 (lv_at hl 1 rfl) ?_
      refine va_iald (D := (dC, dI)) hx hb hK hP 1 0 rfl rfl (vp_in_nI (by omega) (by omega)) d_M_take_81 ?_
      refine lx_i (y := nI (L.getD k 0)) (by rw [nI_clamp (by omega)]; exact hf _ (by omega)) ?_
      refine lv_bipush (v := nI 10) hx hb d_M_take_82 (by decide) ?_
      refine lq_icmp_ne hx hb (by omega) (by omega) (tgt := 91) d_M_take_84 (by decide) (fun c_3 => ?_) (fun c_3 => ?_)
      · refine lv_iconst (v := nI 0) hx hb d_M_take_91 (by decide) ?_
        refine lq_add hx hb d_M_take_92 ?_
        refine lx_i (y := nI (ln + c10 (L.take (k + 1)))) (congrArg nI (by rw [hcs, if_neg c_3]; omega)) ?_
        refine va_put (D := (dC, dI)) (ci := 2) (v := .int (nI (ln + c10 (L.take (k + 1))))) (ty := .int) (C := R_M) (T := F_M) (N := 9) hx hb hts i_M t_M t_M_ok n_M hown hK hP hD hS 0 rfl rfl 6 (by decide) (hts _ m_177) (fun _ h9 => h9) rfl (by decide +kernel) rfl rfl (Nat.le_of_ble_eq_true rfl) d_M_take_93 (fun H locs hP hD hS => ?_)
        have hP : va_P (dC, dI) classes [(m0, .inr (2, [.ref hR, .int (nI L.length), .int (nI op), .int (kI o), .int (nI tk), .int (nI lst), .int (nI (ln + c10 (L.take (k + 1)))), .ref hG, .int mn])), (hR, .inl (cR, 3000, .inl f)), (hG, .inl (cG, 4, .inl g))] H := hP
        have hD : va_D A [(m0, .inr (2, [.ref hR, .int (nI L.length), .int (nI op), .int (kI o), .int (nI tk), .int (nI lst), .int (nI (ln + c10 (L.take (k + 1)))), .ref hG, .int mn])), (hR, .inl (cR, 3000, .inl f)), (hG, .inl (cG, 4, .inl g))] := hD
        refine lv_iinc (v := nI (k + 1)) (lv' := [(4, .int (nI (k + 1))), (2, .long (outR L n (k + 1))), (0, .ref m0), (1, .int (nI n))]) hx hb d_M_take_96 hl (k := 1) rfl (nI_add k 1) (by decide) rfl (fun ls hl => ?_)
        refine lv_goto (tgt := 44) hx hb d_M_take_99 (by decide) ?_
        exact ih (k + 1) H _ ls (by omega) (by omega) hP hD hS (lv_sub hl [0, 1, 2, 3] rfl)
      · refine lv_iconst (v := nI 1) hx hb d_M_take_87 (by decide) ?_
        refine lv_goto (tgt := 92) hx hb d_M_take_88 (by decide) ?_
        refine lq_add hx hb d_M_take_92 ?_
        refine lx_i (y := nI (ln + c10 (L.take (k + 1)))) (congrArg nI (by rw [hcs, if_pos c_3]; omega)) ?_
        refine va_put (D := (dC, dI)) (ci := 2) (v := .int (nI (ln + c10 (L.take (k + 1))))) (ty := .int) (C := R_M) (T := F_M) (N := 9) hx hb hts i_M t_M t_M_ok n_M hown hK hP hD hS 0 rfl rfl 6 (by decide) (hts _ m_177) (fun _ h9 => h9) rfl (by decide +kernel) rfl rfl (Nat.le_of_ble_eq_true rfl) d_M_take_93 (fun H locs hP hD hS => ?_)
        have hP : va_P (dC, dI) classes [(m0, .inr (2, [.ref hR, .int (nI L.length), .int (nI op), .int (kI o), .int (nI tk), .int (nI lst), .int (nI (ln + c10 (L.take (k + 1)))), .ref hG, .int mn])), (hR, .inl (cR, 3000, .inl f)), (hG, .inl (cG, 4, .inl g))] H := hP
        have hD : va_D A [(m0, .inr (2, [.ref hR, .int (nI L.length), .int (nI op), .int (kI o), .int (nI tk), .int (nI lst), .int (nI (ln + c10 (L.take (k + 1)))), .ref hG, .int mn])), (hR, .inl (cR, 3000, .inl f)), (hG, .inl (cG, 4, .inl g))] := hD
        refine lv_iinc (v := nI (k + 1)) (lv' := [(4, .int (nI (k + 1))), (2, .long (outR L n (k + 1))), (0, .ref m0), (1, .int (nI n))]) hx hb d_M_take_96 hl (k := 1) rfl (nI_add k 1) (by decide) rfl (fun ls hl => ?_)
        refine lv_goto (tgt := 44) hx hb d_M_take_99 (by decide) ?_
        exact ih (k + 1) H _ ls (by omega) (by omega) hP hD hS (lv_sub hl [0, 1, 2, 3] rfl)
set_option maxHeartbeats 4000000 in
set_option maxRecDepth 100000 in
theorem M_take_loop2 {p : Program} {l : Launch} {e : Env} {s : State} {m : MethodId} {args : Array Value} {below : List Frame} {meth : Method} {c : Code} {Q : State → Prop} {dC : Nat → ClassId} {dI : Nat → Nat → Nat} {cR cG : ClassId} {m0 hR hG : Nat} {A : Nat → Prop} {R : Room} (C0 : Cx p s m args meth c b_M_take 5 (some .long) y_M_take) (hK : va_K (dC, dI) classes [(cR, .int), (cG, .int)] s) (L : List Nat) (op : Nat) (o : Option Nat) (tk lst ln n : Nat) (z : Int64) (f0 g : Nat → Int32) (mn : Int32) (hf : RI f0 L) (hL : L.length ≤ 3000) (hn : n ≤ L.length)
    (kk : ∀ (f : Nat → Int32) (H : Heap) (locs : List Loc) (ls : Array Slot), Sh f0 f n L.length → va_P (dC, dI) classes [(m0, .inr (2, [.ref hR, .int (nI L.length), .int (nI op), .int (kI o), .int (nI tk), .int (nI lst), .int (nI ln), .ref hG, .int mn])), (hR, .inl (cR, 3000, .inl f)), (hG, .inl (cG, 4, .inl g))] H → va_D A [(m0, .inr (2, [.ref hR, .int (nI L.length), .int (nI op), .int (kI o), .int (nI tk), .int (nI lst), .int (nI ln), .ref hG, .int mn])), (hR, .inl (cR, 3000, .inl f)), (hG, .inl (cG, 4, .inl g))] → va_S A s.heap H locs → lv_has ls 5 [(0, .ref m0), (1, .int (nI n)), (2, .long z)] → W p l e R s m args below meth c H locs 0 0 Q (F0 m 148 ls [])) :
    ∀ (d k : Nat) (f : Nat → Int32) (H : Heap) (locs : List Loc) (ls : Array Slot), L.length ≤ k + d → n ≤ k → k ≤ L.length → Sh f0 f n k → va_P (dC, dI) classes [(m0, .inr (2, [.ref hR, .int (nI L.length), .int (nI op), .int (kI o), .int (nI tk), .int (nI lst), .int (nI ln), .ref hG, .int mn])), (hR, .inl (cR, 3000, .inl f)), (hG, .inl (cG, 4, .inl g))] H → va_D A [(m0, .inr (2, [.ref hR, .int (nI L.length), .int (nI op), .int (kI o), .int (nI tk), .int (nI lst), .int (nI ln), .ref hG, .int mn])), (hR, .inl (cR, 3000, .inl f)), (hG, .inl (cG, 4, .inl g))] → va_S A s.heap H locs → lv_has ls 5 [(4, .int (nI k)), (0, .ref m0), (1, .int (nI n)), (2, .long z)] → W p l e R s m args below meth c H locs 0 0 Q (F0 m 117 ls []) := by
  obtain ⟨hx, hb, hr, hml, hown, hlk, hnm, hts⟩ := id C0
  intro d
  induction d with
  | zero =>
    intro k f H locs ls hd hnk hk hsh hP hD hS hl
    refine lv_iload hx hb d_M_take_117 (lv_at hl 0 rfl) ?_
    refine lv_aload_n hx hb d_M_take_119 rfl (lv_at hl 1 rfl) ?_
    refine va_get (D := (dC, dI)) (ci := 2) (v := .int (nI L.length)) (C := R_M) (T := F_M) (N := 9) hx hb hts i_M hown hK hP 0 rfl rfl 1 (by decide) (hts _ m_172) (fun _ h9 => h9) rfl d_M_take_120 ?_
    refine lq_icmp_ge hx hb (by omega) (by omega) (tgt := 148) d_M_take_123 (by decide) (fun c_1 => ?_) (fun c_1 => ?_)
    · have hkn : k = L.length := by omega
      subst hkn
      exact kk f H locs ls hsh hP hD hS (lv_sub hl [1, 2, 3] rfl)
    · exact absurd c_1 (by omega)
  | succ d ih =>
    intro k f H locs ls hd hnk hk hsh hP hD hS hl
    refine lv_iload hx hb d_M_take_117 (lv_at hl 0 rfl) ?_
    refine lv_aload_n hx hb d_M_take_119 rfl (lv_at hl 1 rfl) ?_
    refine va_get (D := (dC, dI)) (ci := 2) (v := .int (nI L.length)) (C := R_M) (T := F_M) (N := 9) hx hb hts i_M hown hK hP 0 rfl rfl 1 (by decide) (hts _ m_172) (fun _ h9 => h9) rfl d_M_take_120 ?_
    refine lq_icmp_ge hx hb (by omega) (by omega) (tgt := 148) d_M_take_123 (by decide) (fun c_2 => ?_) (fun c_2 => ?_)
    · have hkn : k = L.length := by omega
      subst hkn
      exact kk f H locs ls hsh hP hD hS (lv_sub hl [1, 2, 3] rfl)
    · refine lv_aload_n hx hb d_M_take_126 rfl (lv_at hl 1 rfl) ?_
      refine va_get (D := (dC, dI)) (ci := 2) (v := .ref hR) (C := R_M) (T := F_M) (N := 9) hx hb hts i_M hown hK hP 0 rfl rfl 0 (by decide) (hts _ m_171) (fun _ h9 => h9) rfl d_M_take_127 ?_
      refine lv_iload hx hb d_M_take_130 (lv_at hl 0 rfl) ?_
      refine lv_iload_n hx hb d_M_take_132 rfl (lv_at hl 2 rfl) ?_
      refine lq_sub hx hb (by omega) d_M_take_133 ?_
      refine lv_aload_n hx hb d_M_take_134 rfl (lv_at hl 1 rfl) ?_
      refine va_get (D := (dC, dI)) (ci := 2) (v := .ref hR) (C := R_M) (T := F_M) (N := 9) hx hb hts i_M hown hK hP 0 rfl rfl 0 (by decide) (hts _ m_171) (fun _ h9 => h9) rfl d_M_take_135 ?_
      refine lv_iload hx hb d_M_take_138 (lv_at hl 0 rfl) ?_
      refine va_iald (D := (dC, dI)) hx hb hK hP 1 0 rfl rfl (vp_in_nI (by omega) (by omega)) d_M_take_140 ?_
      refine lx_i (y := nI (L.getD k 0)) (by rw [nI_clamp (by omega), hsh.2 k (by omega)]; exact hf k (by omega)) ?_
      refine va_iast (D := (dC, dI)) hx hb hK hP hD hS 1 0 rfl rfl (vp_in_nI (by omega) (by omega)) d_M_take_141 (fun H locs hP hD hS => ?_)
      have hs2 := hsh.step (x := nI (L.getD k 0)) (by omega) (hf k (by omega)).symm
      rw [nI_clamp (show k - n < 2 ^ 31 by omega)] at hP hD
      generalize upd f (k - n) (nI (L.getD k 0)) = f2 at hP hD hs2
      have hP : va_P (dC, dI) classes [(m0, .inr (2, [.ref hR, .int (nI L.length), .int (nI op), .int (kI o), .int (nI tk), .int (nI lst), .int (nI ln), .ref hG, .int mn])), (hR, .inl (cR, 3000, .inl f2)), (hG, .inl (cG, 4, .inl g))] H := hP
      have hD : va_D A [(m0, .inr (2, [.ref hR, .int (nI L.length), .int (nI op), .int (kI o), .int (nI tk), .int (nI lst), .int (nI ln), .ref hG, .int mn])), (hR, .inl (cR, 3000, .inl f2)), (hG, .inl (cG, 4, .inl g))] := hD
      refine lv_iinc (v := nI (k + 1)) (lv' := [(4, .int (nI (k + 1))), (0, .ref m0), (1, .int (nI n)), (2, .long z)]) hx hb d_M_take_142 hl (k := 0) rfl (nI_add k 1) (by decide) rfl (fun ls hl => ?_)
      refine lv_goto (tgt := 117) hx hb d_M_take_145 (by decide) ?_
      exact ih (k + 1) f2 H _ ls (by omega) (by omega) (by omega) hs2 hP hD hS hl
set_option maxHeartbeats 4000000 in
set_option maxRecDepth 100000 in
theorem c_M_take (l : Launch) (dC : Nat → ClassId) (dI : Nat → Nat → Nat) (cR cG : ClassId) (m0 hR hG : Nat) (sz : Nat) (L : List Nat) (op : Nat) (o : Option Nat) (tk lst ln : Nat) (f g : Nat → Int32) (mn : Int32) (hf : RI f L) (n : Nat) (hop : op ≤ L.length) (hn : n = min 7 (L.length - op)) (hL : L.length ≤ 3000) (h8 : B8 L) : MetMl l dC dI cR cG m0 hR hG sz y_M_take b_M_take 5 ({ frames := 0, cells := 0, slots := 0, locals := 0 }) [] (L, op, o, tk, lst, ln) f g mn (fun r (z : MZ) => r = takeR L n ∧ z.1 = (L.drop n, op, o, tk + n, if n = 0 then lst else L.getD (n - 1) 0, ln + c10 (L.take n))) := by
  refine enter (Qf := fun A => va_Ql (fun r (z : MZ) => (fun r (z : MZ) => r = takeR L n ∧ z.1 = (L.drop n, op, o, tk + n, if n = 0 then lst else L.getD (n - 1) 0, ln + c10 (L.take n))) r z ∧ RI z.2.1 z.1.1) (PW dC dI A (fun z => wM m0 hR hG cR cG z.1 z.2.1 z.2.2.1 z.2.2.2)) A) (by decide) (Nat.le_of_ble_eq_true rfl) ?_
  intro p e s m below meth c A ls C0 hsz hA hK hP hD hS hX hl
  obtain ⟨hx, hb, hr, hml, hown, hlk, hnm, hts⟩ := id C0
  have hl : lv_has ls 5 [(0, .ref m0)] := hl
  have hP : va_P (dC, dI) classes [(m0, .inr (2, [.ref hR, .int (nI L.length), .int (nI op), .int (kI o), .int (nI tk), .int (nI lst), .int (nI ln), .ref hG, .int mn])), (hR, .inl (cR, 3000, .inl f)), (hG, .inl (cG, 4, .inl g))] s.heap := hP
  have hD : va_D A [(m0, .inr (2, [.ref hR, .int (nI L.length), .int (nI op), .int (kI o), .int (nI tk), .int (nI lst), .int (nI ln), .ref hG, .int mn])), (hR, .inl (cR, 3000, .inl f)), (hG, .inl (cG, 4, .inl g))] := hD
  have hn7 : n ≤ 7 := by omega
  have hnl : n ≤ L.length := by omega
  refine lv_aload_n hx hb d_M_take_0 rfl (lv_at hl 0 rfl) ?_
  refine va_get (D := (dC, dI)) (ci := 2) (v := .int (nI L.length)) (C := R_M) (T := F_M) (N := 9) hx hb hts i_M hown hK hP 0 rfl rfl 1 (by decide) (hts _ m_172) (fun _ h9 => h9) rfl d_M_take_1 ?_
  refine lv_aload_n hx hb d_M_take_4 rfl (lv_at hl 0 rfl) ?_
  refine va_get (D := (dC, dI)) (ci := 2) (v := .int (nI op)) (C := R_M) (T := F_M) (N := 9) hx hb hts i_M hown hK hP 0 rfl rfl 2 (by decide) (hts _ m_173) (fun _ h9 => h9) rfl d_M_take_5 ?_
  refine lq_sub hx hb (by omega) d_M_take_8 ?_
  refine lv_bipush (v := nI 7) hx hb d_M_take_9 (by decide) ?_
  refine lq_icmp_ge hx hb (by omega) (by omega) (tgt := 26) d_M_take_11 (by decide) (fun c_1 => ?_) (fun c_1 => ?_)
  · refine lv_bipush (v := nI 7) hx hb d_M_take_26 (by decide) ?_
    refine lx_i (y := nI n) (congrArg nI (by omega)) ?_
    refine lv_istore_n (lv' := [(1, .int (nI n)), (0, .ref m0)]) hx hb d_M_take_28 rfl hl (by decide) rfl (fun ls hl => ?_)
    refine lv_iload_n hx hb d_M_take_29 rfl (lv_at hl 0 rfl) ?_
    refine lq_if_ne hx hb (by omega) (tgt := 35) d_M_take_30 (by decide) (fun c_2 => ?_) (fun c_2 => ?_)
    · refine lv_iload_n hx hb d_M_take_35 rfl (lv_at hl 0 rfl) ?_
      refine lv_i2l (v := (nI n).toInt64) hx hb d_M_take_36 rfl ?_
      refine lv_bipush (v := nI 56) hx hb d_M_take_37 (by decide) ?_
      refine lv_lshl (v := ((nI n).toInt64) <<< ((nI 56).toInt64 &&& 63)) hx hb d_M_take_39 rfl ?_
      refine lx_l (y := outR L n 0) (rfl) ?_
      refine lv_lstore_n (lv' := [(2, .long (outR L n 0)), (1, .int (nI n)), (0, .ref m0)]) hx hb d_M_take_40 rfl hl (by decide) rfl (fun ls hl => ?_)
      refine lv_iconst (v := nI 0) hx hb d_M_take_41 (by decide) ?_
      refine lv_istore (lv' := [(4, .int (nI 0)), (2, .long (outR L n 0)), (1, .int (nI n)), (0, .ref m0)]) hx hb d_M_take_42 hl (by decide) rfl (fun ls hl => ?_)
      refine M_take_loop1 C0 hK L op o tk lst ln n f g mn hf h8 hL hnl hn7 (fun H locs ls hP hD hS hl => ?_) n 0 s.heap _ ls (by omega) (by omega) hP hD hS (lv_sub hl [0, 1, 3, 2] rfl)
      refine lv_aload_n hx hb d_M_take_102 rfl (lv_at hl 0 rfl) ?_
      refine lv_aload_n hx hb d_M_take_103 rfl (lv_at hl 0 rfl) ?_
      refine va_get (D := (dC, dI)) (ci := 2) (v := .ref hR) (C := R_M) (T := F_M) (N := 9) hx hb hts i_M hown hK hP 0 rfl rfl 0 (by decide) (hts _ m_171) (fun _ h9 => h9) rfl d_M_take_104 ?_
      refine lv_iload_n hx hb d_M_take_107 rfl (lv_at hl 1 rfl) ?_
      refine lv_iconst (v := nI 1) hx hb d_M_take_108 (by decide) ?_
      refine lq_sub hx hb (by omega) d_M_take_109 ?_
      refine va_iald (D := (dC, dI)) hx hb hK hP 1 0 rfl rfl (vp_in_nI (by omega) (by omega)) d_M_take_110 ?_
      refine lx_i (y := nI (L.getD (n - 1) 0)) (by rw [nI_clamp (by omega)]; exact hf _ (by omega)) ?_
      refine va_put (D := (dC, dI)) (ci := 2) (v := .int (nI (L.getD (n - 1) 0))) (ty := .int) (C := R_M) (T := F_M) (N := 9) hx hb hts i_M t_M t_M_ok n_M hown hK hP hD hS 0 rfl rfl 5 (by decide) (hts _ m_176) (fun _ h9 => h9) rfl (by decide +kernel) rfl rfl (Nat.le_of_ble_eq_true rfl) d_M_take_111 (fun H locs hP hD hS => ?_)
      have hP : va_P (dC, dI) classes [(m0, .inr (2, [.ref hR, .int (nI L.length), .int (nI op), .int (kI o), .int (nI tk), .int (nI (L.getD (n - 1) 0)), .int (nI (ln + c10 (L.take n))), .ref hG, .int mn])), (hR, .inl (cR, 3000, .inl f)), (hG, .inl (cG, 4, .inl g))] H := hP
      have hD : va_D A [(m0, .inr (2, [.ref hR, .int (nI L.length), .int (nI op), .int (kI o), .int (nI tk), .int (nI (L.getD (n - 1) 0)), .int (nI (ln + c10 (L.take n))), .ref hG, .int mn])), (hR, .inl (cR, 3000, .inl f)), (hG, .inl (cG, 4, .inl g))] := hD
      refine lv_iload_n hx hb d_M_take_114 rfl (lv_at hl 1 rfl) ?_
      refine lv_istore (lv' := [(4, .int (nI n)), (0, .ref m0), (1, .int (nI n)), (2, .long (outR L n n))]) hx hb d_M_take_115 hl (by decide) rfl (fun ls hl => ?_)
      refine M_take_loop2 C0 hK L op o tk (L.getD (n - 1) 0) (ln + c10 (L.take n)) n (outR L n n) f g mn hf hL hnl (fun f2 H locs ls hsh hP hD hS hl => ?_) L.length n f H _ ls (by omega) (by omega) (by omega) (Sh.rf f n) hP hD hS (lv_sub hl [0, 1, 2, 3] rfl)
      have hf2 := hsh.ri hf
      refine lv_aload_n hx hb d_M_take_148 rfl (lv_at hl 0 rfl) ?_
      refine lv_aload_n hx hb d_M_take_149 rfl (lv_at hl 0 rfl) ?_
      refine va_get (D := (dC, dI)) (ci := 2) (v := .int (nI L.length)) (C := R_M) (T := F_M) (N := 9) hx hb hts i_M hown hK hP 0 rfl rfl 1 (by decide) (hts _ m_172) (fun _ h9 => h9) rfl d_M_take_150 ?_
      refine lv_iload_n hx hb d_M_take_153 rfl (lv_at hl 1 rfl) ?_
      refine lq_sub hx hb (by omega) d_M_take_154 ?_
      refine lx_i (y := nI ((L.drop n).length)) (by rw [List.length_drop]) ?_
      refine va_put (D := (dC, dI)) (ci := 2) (v := .int (nI ((L.drop n).length))) (ty := .int) (C := R_M) (T := F_M) (N := 9) hx hb hts i_M t_M t_M_ok n_M hown hK hP hD hS 0 rfl rfl 1 (by decide) (hts _ m_172) (fun _ h9 => h9) rfl (by decide +kernel) rfl rfl (Nat.le_of_ble_eq_true rfl) d_M_take_155 (fun H locs hP hD hS => ?_)
      have hP : va_P (dC, dI) classes [(m0, .inr (2, [.ref hR, .int (nI ((L.drop n).length)), .int (nI op), .int (kI o), .int (nI tk), .int (nI (L.getD (n - 1) 0)), .int (nI (ln + c10 (L.take n))), .ref hG, .int mn])), (hR, .inl (cR, 3000, .inl f2)), (hG, .inl (cG, 4, .inl g))] H := hP
      have hD : va_D A [(m0, .inr (2, [.ref hR, .int (nI ((L.drop n).length)), .int (nI op), .int (kI o), .int (nI tk), .int (nI (L.getD (n - 1) 0)), .int (nI (ln + c10 (L.take n))), .ref hG, .int mn])), (hR, .inl (cR, 3000, .inl f2)), (hG, .inl (cG, 4, .inl g))] := hD
      refine lv_aload_n hx hb d_M_take_158 rfl (lv_at hl 0 rfl) ?_
      refine lv_aload_n hx hb d_M_take_159 rfl (lv_at hl 0 rfl) ?_
      refine va_get (D := (dC, dI)) (ci := 2) (v := .int (nI tk)) (C := R_M) (T := F_M) (N := 9) hx hb hts i_M hown hK hP 0 rfl rfl 4 (by decide) (hts _ m_175) (fun _ h9 => h9) rfl d_M_take_160 ?_
      refine lv_iload_n hx hb d_M_take_163 rfl (lv_at hl 1 rfl) ?_
      refine lq_add hx hb d_M_take_164 ?_
      refine va_put (D := (dC, dI)) (ci := 2) (v := .int (nI (tk + n))) (ty := .int) (C := R_M) (T := F_M) (N := 9) hx hb hts i_M t_M t_M_ok n_M hown hK hP hD hS 0 rfl rfl 4 (by decide) (hts _ m_175) (fun _ h9 => h9) rfl (by decide +kernel) rfl rfl (Nat.le_of_ble_eq_true rfl) d_M_take_165 (fun H locs hP hD hS => ?_)
      have hP : va_P (dC, dI) classes [(m0, .inr (2, [.ref hR, .int (nI ((L.drop n).length)), .int (nI op), .int (kI o), .int (nI (tk + n)), .int (nI (L.getD (n - 1) 0)), .int (nI (ln + c10 (L.take n))), .ref hG, .int mn])), (hR, .inl (cR, 3000, .inl f2)), (hG, .inl (cG, 4, .inl g))] H := hP
      have hD : va_D A [(m0, .inr (2, [.ref hR, .int (nI ((L.drop n).length)), .int (nI op), .int (kI o), .int (nI (tk + n)), .int (nI (L.getD (n - 1) 0)), .int (nI (ln + c10 (L.take n))), .ref hG, .int mn])), (hR, .inl (cR, 3000, .inl f2)), (hG, .inl (cG, 4, .inl g))] := hD
      refine lv_lload_n hx hb d_M_take_168 rfl (lv_at hl 2 rfl) ?_
      exact ret_l C0 hS d_M_take_169 ((L.drop n, op, o, tk + n, L.getD (n - 1) 0, ln + c10 (L.take n)), f2, g, mn) ⟨⟨by unfold takeR; rw [if_neg c_2], by rw [if_neg c_2]⟩, hf2⟩ hP hD
    · subst c_2
      refine lv_lconst (v := 0) hx hb d_M_take_33 (by decide) ?_
      exact ret_l C0 hS d_M_take_34 ((L, op, o, tk, lst, ln), f, g, mn) ⟨⟨rfl, rfl⟩, hf⟩ hP hD
  · refine lv_aload_n hx hb d_M_take_14 rfl (lv_at hl 0 rfl) ?_
    refine va_get (D := (dC, dI)) (ci := 2) (v := .int (nI L.length)) (C := R_M) (T := F_M) (N := 9) hx hb hts i_M hown hK hP 0 rfl rfl 1 (by decide) (hts _ m_172) (fun _ h9 => h9) rfl d_M_take_15 ?_
    refine lv_aload_n hx hb d_M_take_18 rfl (lv_at hl 0 rfl) ?_
    refine va_get (D := (dC, dI)) (ci := 2) (v := .int (nI op)) (C := R_M) (T := F_M) (N := 9) hx hb hts i_M hown hK hP 0 rfl rfl 2 (by decide) (hts _ m_173) (fun _ h9 => h9) rfl d_M_take_19 ?_
    refine lq_sub hx hb (by omega) d_M_take_22 ?_
    refine lv_goto (tgt := 28) hx hb d_M_take_23 (by decide) ?_
    refine lx_i (y := nI n) (congrArg nI (by omega)) ?_
    refine lv_istore_n (lv' := [(1, .int (nI n)), (0, .ref m0)]) hx hb d_M_take_28 rfl hl (by decide) rfl (fun ls hl => ?_)
    refine lv_iload_n hx hb d_M_take_29 rfl (lv_at hl 0 rfl) ?_
    refine lq_if_ne hx hb (by omega) (tgt := 35) d_M_take_30 (by decide) (fun c_3 => ?_) (fun c_3 => ?_)
    · refine lv_iload_n hx hb d_M_take_35 rfl (lv_at hl 0 rfl) ?_
      refine lv_i2l (v := (nI n).toInt64) hx hb d_M_take_36 rfl ?_
      refine lv_bipush (v := nI 56) hx hb d_M_take_37 (by decide) ?_
      refine lv_lshl (v := ((nI n).toInt64) <<< ((nI 56).toInt64 &&& 63)) hx hb d_M_take_39 rfl ?_
      refine lx_l (y := outR L n 0) (rfl) ?_
      refine lv_lstore_n (lv' := [(2, .long (outR L n 0)), (1, .int (nI n)), (0, .ref m0)]) hx hb d_M_take_40 rfl hl (by decide) rfl (fun ls hl => ?_)
      refine lv_iconst (v := nI 0) hx hb d_M_take_41 (by decide) ?_
      refine lv_istore (lv' := [(4, .int (nI 0)), (2, .long (outR L n 0)), (1, .int (nI n)), (0, .ref m0)]) hx hb d_M_take_42 hl (by decide) rfl (fun ls hl => ?_)
      refine M_take_loop1 C0 hK L op o tk lst ln n f g mn hf h8 hL hnl hn7 (fun H locs ls hP hD hS hl => ?_) n 0 s.heap _ ls (by omega) (by omega) hP hD hS (lv_sub hl [0, 1, 3, 2] rfl)
      refine lv_aload_n hx hb d_M_take_102 rfl (lv_at hl 0 rfl) ?_
      refine lv_aload_n hx hb d_M_take_103 rfl (lv_at hl 0 rfl) ?_
      refine va_get (D := (dC, dI)) (ci := 2) (v := .ref hR) (C := R_M) (T := F_M) (N := 9) hx hb hts i_M hown hK hP 0 rfl rfl 0 (by decide) (hts _ m_171) (fun _ h9 => h9) rfl d_M_take_104 ?_
      refine lv_iload_n hx hb d_M_take_107 rfl (lv_at hl 1 rfl) ?_
      refine lv_iconst (v := nI 1) hx hb d_M_take_108 (by decide) ?_
      refine lq_sub hx hb (by omega) d_M_take_109 ?_
      refine va_iald (D := (dC, dI)) hx hb hK hP 1 0 rfl rfl (vp_in_nI (by omega) (by omega)) d_M_take_110 ?_
      refine lx_i (y := nI (L.getD (n - 1) 0)) (by rw [nI_clamp (by omega)]; exact hf _ (by omega)) ?_
      refine va_put (D := (dC, dI)) (ci := 2) (v := .int (nI (L.getD (n - 1) 0))) (ty := .int) (C := R_M) (T := F_M) (N := 9) hx hb hts i_M t_M t_M_ok n_M hown hK hP hD hS 0 rfl rfl 5 (by decide) (hts _ m_176) (fun _ h9 => h9) rfl (by decide +kernel) rfl rfl (Nat.le_of_ble_eq_true rfl) d_M_take_111 (fun H locs hP hD hS => ?_)
      have hP : va_P (dC, dI) classes [(m0, .inr (2, [.ref hR, .int (nI L.length), .int (nI op), .int (kI o), .int (nI tk), .int (nI (L.getD (n - 1) 0)), .int (nI (ln + c10 (L.take n))), .ref hG, .int mn])), (hR, .inl (cR, 3000, .inl f)), (hG, .inl (cG, 4, .inl g))] H := hP
      have hD : va_D A [(m0, .inr (2, [.ref hR, .int (nI L.length), .int (nI op), .int (kI o), .int (nI tk), .int (nI (L.getD (n - 1) 0)), .int (nI (ln + c10 (L.take n))), .ref hG, .int mn])), (hR, .inl (cR, 3000, .inl f)), (hG, .inl (cG, 4, .inl g))] := hD
      refine lv_iload_n hx hb d_M_take_114 rfl (lv_at hl 1 rfl) ?_
      refine lv_istore (lv' := [(4, .int (nI n)), (0, .ref m0), (1, .int (nI n)), (2, .long (outR L n n))]) hx hb d_M_take_115 hl (by decide) rfl (fun ls hl => ?_)
      refine M_take_loop2 C0 hK L op o tk (L.getD (n - 1) 0) (ln + c10 (L.take n)) n (outR L n n) f g mn hf hL hnl (fun f2 H locs ls hsh hP hD hS hl => ?_) L.length n f H _ ls (by omega) (by omega) (by omega) (Sh.rf f n) hP hD hS (lv_sub hl [0, 1, 2, 3] rfl)
      have hf2 := hsh.ri hf
      refine lv_aload_n hx hb d_M_take_148 rfl (lv_at hl 0 rfl) ?_
      refine lv_aload_n hx hb d_M_take_149 rfl (lv_at hl 0 rfl) ?_
      refine va_get (D := (dC, dI)) (ci := 2) (v := .int (nI L.length)) (C := R_M) (T := F_M) (N := 9) hx hb hts i_M hown hK hP 0 rfl rfl 1 (by decide) (hts _ m_172) (fun _ h9 => h9) rfl d_M_take_150 ?_
      refine lv_iload_n hx hb d_M_take_153 rfl (lv_at hl 1 rfl) ?_
      refine lq_sub hx hb (by omega) d_M_take_154 ?_
      refine lx_i (y := nI ((L.drop n).length)) (by rw [List.length_drop]) ?_
      refine va_put (D := (dC, dI)) (ci := 2) (v := .int (nI ((L.drop n).length))) (ty := .int) (C := R_M) (T := F_M) (N := 9) hx hb hts i_M t_M t_M_ok n_M hown hK hP hD hS 0 rfl rfl 1 (by decide) (hts _ m_172) (fun _ h9 => h9) rfl (by decide +kernel) rfl rfl (Nat.le_of_ble_eq_true rfl) d_M_take_155 (fun H locs hP hD hS => ?_)
      have hP : va_P (dC, dI) classes [(m0, .inr (2, [.ref hR, .int (nI ((L.drop n).length)), .int (nI op), .int (kI o), .int (nI tk), .int (nI (L.getD (n - 1) 0)), .int (nI (ln + c10 (L.take n))), .ref hG, .int mn])), (hR, .inl (cR, 3000, .inl f2)), (hG, .inl (cG, 4, .inl g))] H := hP
      have hD : va_D A [(m0, .inr (2, [.ref hR, .int (nI ((L.drop n).length)), .int (nI op), .int (kI o), .int (nI tk), .int (nI (L.getD (n - 1) 0)), .int (nI (ln + c10 (L.take n))), .ref hG, .int mn])), (hR, .inl (cR, 3000, .inl f2)), (hG, .inl (cG, 4, .inl g))] := hD
      refine lv_aload_n hx hb d_M_take_158 rfl (lv_at hl 0 rfl) ?_
      refine lv_aload_n hx hb d_M_take_159 rfl (lv_at hl 0 rfl) ?_
      refine va_get (D := (dC, dI)) (ci := 2) (v := .int (nI tk)) (C := R_M) (T := F_M) (N := 9) hx hb hts i_M hown hK hP 0 rfl rfl 4 (by decide) (hts _ m_175) (fun _ h9 => h9) rfl d_M_take_160 ?_
      refine lv_iload_n hx hb d_M_take_163 rfl (lv_at hl 1 rfl) ?_
      refine lq_add hx hb d_M_take_164 ?_
      refine va_put (D := (dC, dI)) (ci := 2) (v := .int (nI (tk + n))) (ty := .int) (C := R_M) (T := F_M) (N := 9) hx hb hts i_M t_M t_M_ok n_M hown hK hP hD hS 0 rfl rfl 4 (by decide) (hts _ m_175) (fun _ h9 => h9) rfl (by decide +kernel) rfl rfl (Nat.le_of_ble_eq_true rfl) d_M_take_165 (fun H locs hP hD hS => ?_)
      have hP : va_P (dC, dI) classes [(m0, .inr (2, [.ref hR, .int (nI ((L.drop n).length)), .int (nI op), .int (kI o), .int (nI (tk + n)), .int (nI (L.getD (n - 1) 0)), .int (nI (ln + c10 (L.take n))), .ref hG, .int mn])), (hR, .inl (cR, 3000, .inl f2)), (hG, .inl (cG, 4, .inl g))] H := hP
      have hD : va_D A [(m0, .inr (2, [.ref hR, .int (nI ((L.drop n).length)), .int (nI op), .int (kI o), .int (nI (tk + n)), .int (nI (L.getD (n - 1) 0)), .int (nI (ln + c10 (L.take n))), .ref hG, .int mn])), (hR, .inl (cR, 3000, .inl f2)), (hG, .inl (cG, 4, .inl g))] := hD
      refine lv_lload_n hx hb d_M_take_168 rfl (lv_at hl 2 rfl) ?_
      exact ret_l C0 hS d_M_take_169 ((L.drop n, op, o, tk + n, L.getD (n - 1) 0, ln + c10 (L.take n)), f2, g, mn) ⟨⟨by unfold takeR; rw [if_neg c_3], by rw [if_neg c_3]⟩, hf2⟩ hP hD
    · subst c_3
      refine lv_lconst (v := 0) hx hb d_M_take_33 (by decide) ?_
      exact ret_l C0 hS d_M_take_34 ((L, op, o, tk, lst, ln), f, g, mn) ⟨⟨rfl, rfl⟩, hf⟩ hP hD
set_option maxHeartbeats 4000000 in
set_option maxRecDepth 100000 in
theorem M_count_loop {p : Program} {l : Launch} {e : Env} {s : State} {m : MethodId} {args : Array Value} {below : List Frame} {meth : Method} {c : Code} {Q : State → Prop} {dC : Nat → ClassId} {dI : Nat → Nat → Nat} {cR cG : ClassId} {m0 hR hG : Nat} {A : Nat → Prop} {R : Room} (C0 : Cx p s m args meth c b_M_count 4 (some .int) y_M_count) (hK : va_K (dC, dI) classes [(cR, .int), (cG, .int)] s) (L : List Nat) (op : Nat) (o : Option Nat) (tk lst ln : Nat) (f g : Nat → Int32) (mn : Int32) (hf : RI f L) (h8 : B8 L) (hL : L.length ≤ 3000) (H : Heap) (locs : List Loc) (hP : va_P (dC, dI) classes [(m0, .inr (2, [.ref hR, .int (nI L.length), .int (nI op), .int (kI o), .int (nI tk), .int (nI lst), .int (nI ln), .ref hG, .int mn])), (hR, .inl (cR, 3000, .inl f)), (hG, .inl (cG, 4, .inl g))] H)
    (kk : ∀ (ls : Array Slot), lv_has ls 4 [(2, .int (nI (ln + c10 L)))] → W p l e R s m args below meth c H locs 0 0 Q (F0 m 92 ls [])) :
    ∀ (d k : Nat) (ls : Array Slot), L.length ≤ k + d → k ≤ L.length → lv_has ls 4 [(3, .int (nI k)), (2, .int (nI (ln + c10 (L.take k)))), (0, .ref m0)] → W p l e R s m args below meth c H locs 0 0 Q (F0 m 59 ls []) := by
  obtain ⟨hx, hb, hr, hml, hown, hlk, hnm, hts⟩ := id C0
  intro d
  induction d with
  | zero =>
    intro k ls hd hk hl
    refine lv_iload_n hx hb d_M_count_59 rfl (lv_at hl 0 rfl) ?_
    refine lv_aload_n hx hb d_M_count_60 rfl (lv_at hl 2 rfl) ?_
    refine va_get (D := (dC, dI)) (ci := 2) (v := .int (nI L.length)) (C := R_M) (T := F_M) (N := 9) hx hb hts i_M hown hK hP 0 rfl rfl 1 (by decide) (hts _ m_172) (fun _ h9 => h9) rfl d_M_count_61 ?_
    refine lq_icmp_ge hx hb (by omega) (by omega) (tgt := 92) d_M_count_64 (by decide) (fun c_1 => ?_) (fun c_1 => ?_)
    · have hkn : k = L.length := by omega
      subst hkn
      rw [List.take_length] at hl
      exact kk ls (lv_sub hl [1] rfl)
    · exact absurd c_1 (by omega)
  | succ d ih =>
    intro k ls hd hk hl
    refine lv_iload_n hx hb d_M_count_59 rfl (lv_at hl 0 rfl) ?_
    refine lv_aload_n hx hb d_M_count_60 rfl (lv_at hl 2 rfl) ?_
    refine va_get (D := (dC, dI)) (ci := 2) (v := .int (nI L.length)) (C := R_M) (T := F_M) (N := 9) hx hb hts i_M hown hK hP 0 rfl rfl 1 (by decide) (hts _ m_172) (fun _ h9 => h9) rfl d_M_count_61 ?_
    refine lq_icmp_ge hx hb (by omega) (by omega) (tgt := 92) d_M_count_64 (by decide) (fun c_2 => ?_) (fun c_2 => ?_)
    · have hkn : k = L.length := by omega
      subst hkn
      rw [List.take_length] at hl
      exact kk ls (lv_sub hl [1] rfl)
    · have hb8 := h8 k (by omega)
      have hcs := cnt_snoc (E := L) (k := k) (by omega)
      refine lv_iload_n hx hb d_M_count_67 rfl (lv_at hl 1 rfl) ?_
      refine lv_aload_n hx hb d_M_count_68 rfl (lv_at hl 2 rfl) ?_
      refine va_get (D := (dC, dI)) (ci := 2) (v := .ref hR) (C := R_M) (T := F_M) (N := 9) hx hb hts i_M hown hK hP 0 rfl rfl 0 (by decide) (hts _ m_171) (fun _ h9 => h9) rfl d_M_count_69 ?_
      refine lv_iload_n hx hb d_M_count_72 rfl (lv_at hl 0 rfl) ?_
      refine va_iald (D := (dC, dI)) hx hb hK hP 1 0 rfl rfl (vp_in_nI (by omega) (by omega)) d_M_count_73 ?_
      refine lx_i (y := nI (L.getD k 0)) (by rw [nI_clamp (by omega)]; exact hf _ (by omega)) ?_
      refine lv_bipush (v := nI 10) hx hb d_M_count_74 (by decide) ?_
      refine lq_icmp_ne hx hb (by omega) (by omega) (tgt := 83) d_M_count_76 (by decide) (fun c_3 => ?_) (fun c_3 => ?_)
      · refine lv_iconst (v := nI 0) hx hb d_M_count_83 (by decide) ?_
        refine lq_add hx hb d_M_count_84 ?_
        refine lx_i (y := nI (ln + c10 (L.take (k + 1)))) (congrArg nI (by rw [hcs, if_neg c_3]; omega)) ?_
        refine lv_istore_n (lv' := [(2, .int (nI (ln + c10 (L.take (k + 1))))), (3, .int (nI k)), (0, .ref m0)]) hx hb d_M_count_85 rfl hl (by decide) rfl (fun ls hl => ?_)
        refine lv_iinc (v := nI (k + 1)) (lv' := [(3, .int (nI (k + 1))), (2, .int (nI (ln + c10 (L.take (k + 1))))), (0, .ref m0)]) hx hb d_M_count_86 hl (k := 1) rfl (nI_add k 1) (by decide) rfl (fun ls hl => ?_)
        refine lv_goto (tgt := 59) hx hb d_M_count_89 (by decide) ?_
        exact ih (k + 1) ls (by omega) (by omega) (lv_sub hl [0, 1, 2] rfl)
      · refine lv_iconst (v := nI 1) hx hb d_M_count_79 (by decide) ?_
        refine lv_goto (tgt := 84) hx hb d_M_count_80 (by decide) ?_
        refine lq_add hx hb d_M_count_84 ?_
        refine lx_i (y := nI (ln + c10 (L.take (k + 1)))) (congrArg nI (by rw [hcs, if_pos c_3]; omega)) ?_
        refine lv_istore_n (lv' := [(2, .int (nI (ln + c10 (L.take (k + 1))))), (3, .int (nI k)), (0, .ref m0)]) hx hb d_M_count_85 rfl hl (by decide) rfl (fun ls hl => ?_)
        refine lv_iinc (v := nI (k + 1)) (lv' := [(3, .int (nI (k + 1))), (2, .int (nI (ln + c10 (L.take (k + 1))))), (0, .ref m0)]) hx hb d_M_count_86 hl (k := 1) rfl (nI_add k 1) (by decide) rfl (fun ls hl => ?_)
        refine lv_goto (tgt := 59) hx hb d_M_count_89 (by decide) ?_
        exact ih (k + 1) ls (by omega) (by omega) (lv_sub hl [0, 1, 2] rfl)
set_option maxHeartbeats 4000000 in
set_option maxRecDepth 100000 in
theorem c_M_count (l : Launch) (dC : Nat → ClassId) (dI : Nat → Nat → Nat) (cR cG : ClassId) (m0 hR hG : Nat) (sz : Nat) (L : List Nat) (op : Nat) (o : Option Nat) (tk lst ln : Nat) (f g : Nat → Int32) (mn : Int32) (hf : RI f L) (x : Int32) (hL : L.length ≤ 3000) (h8 : B8 L) : MetMi l dC dI cR cG m0 hR hG sz y_M_count b_M_count 4 .int ({ frames := 0, cells := 0, slots := 0, locals := 0 }) [.int x] (L, op, o, tk, lst, ln) f g mn (fun r (z : MZ) => r = cntM x L op o ln ∧ z.1 = (L, op, o, tk, lst, ln)) := by
  refine enter (Qf := fun A => va_Qi (fun r (z : MZ) => (fun r (z : MZ) => r = cntM x L op o ln ∧ z.1 = (L, op, o, tk, lst, ln)) r z ∧ RI z.2.1 z.1.1) (PW dC dI A (fun z => wM m0 hR hG cR cG z.1 z.2.1 z.2.2.1 z.2.2.2)) A) (by decide) (Nat.le_of_ble_eq_true rfl) ?_
  intro p e s m below meth c A ls C0 hsz hA hK hP hD hS hX hl
  obtain ⟨hx, hb, hr, hml, hown, hlk, hnm, hts⟩ := id C0
  have hl : lv_has ls 4 [(0, .ref m0), (1, .int x)] := hl
  have hP : va_P (dC, dI) classes [(m0, .inr (2, [.ref hR, .int (nI L.length), .int (nI op), .int (kI o), .int (nI tk), .int (nI lst), .int (nI ln), .ref hG, .int mn])), (hR, .inl (cR, 3000, .inl f)), (hG, .inl (cG, 4, .inl g))] s.heap := hP
  have hD : va_D A [(m0, .inr (2, [.ref hR, .int (nI L.length), .int (nI op), .int (kI o), .int (nI tk), .int (nI lst), .int (nI ln), .ref hG, .int mn])), (hR, .inl (cR, 3000, .inl f)), (hG, .inl (cG, 4, .inl g))] := hD
  refine lv_iload_n hx hb d_M_count_0 rfl (lv_at hl 1 rfl) ?_
  by_cases q0 : x = 0
  · subst q0
    refine lv_tableIn (off := 31) (tgt := 32) hx hb d_M_count_1 (by decide) (by decide) (by decide) (by decide) ?_
    refine lv_aload_n hx hb d_M_count_32 rfl (lv_at hl 0 rfl) ?_
    refine va_get (D := (dC, dI)) (ci := 2) (v := .int (nI L.length)) (C := R_M) (T := F_M) (N := 9) hx hb hts i_M hown hK hP 0 rfl rfl 1 (by decide) (hts _ m_172) (fun _ h9 => h9) rfl d_M_count_33 ?_
    exact ret_i C0 hS d_M_count_36 rfl ((L, op, o, tk, lst, ln), f, g, mn) ⟨⟨by unfold cntM; rw [if_pos rfl], rfl⟩, hf⟩ hP hD
  · by_cases q1 : x = 1
    · subst q1
      refine lv_tableIn (off := 36) (tgt := 37) hx hb d_M_count_1 (by decide) (by decide) (by decide) (by decide) ?_
      refine lv_goto (tgt := 52) hx hb d_M_count_37 (by decide) ?_
      refine lv_aload_n hx hb d_M_count_52 rfl (lv_at hl 0 rfl) ?_
      refine va_get (D := (dC, dI)) (ci := 2) (v := .int (nI ln)) (C := R_M) (T := F_M) (N := 9) hx hb hts i_M hown hK hP 0 rfl rfl 6 (by decide) (hts _ m_177) (fun _ h9 => h9) rfl d_M_count_53 ?_
      refine lx_i (y := nI (ln + c10 (L.take 0))) (rfl) ?_
      refine lv_istore_n (lv' := [(2, .int (nI (ln + c10 (L.take 0)))), (0, .ref m0), (1, .int 1)]) hx hb d_M_count_56 rfl hl (by decide) rfl (fun ls hl => ?_)
      refine lv_iconst (v := nI 0) hx hb d_M_count_57 (by decide) ?_
      refine lv_istore_n (lv' := [(3, .int (nI 0)), (2, .int (nI (ln + c10 (L.take 0)))), (0, .ref m0), (1, .int 1)]) hx hb d_M_count_58 rfl hl (by decide) rfl (fun ls hl => ?_)
      refine M_count_loop (A := A) C0 hK L op o tk lst ln f g mn hf h8 hL s.heap [] hP (fun ls hl => ?_) L.length 0 ls (by omega) (by omega) (lv_sub hl [0, 1, 2] rfl)
      refine lv_iload_n hx hb d_M_count_92 rfl (lv_at hl 0 rfl) ?_
      exact ret_i C0 hS d_M_count_93 rfl ((L, op, o, tk, lst, ln), f, g, mn) ⟨⟨by unfold cntM; rw [if_neg (by decide), if_pos rfl], rfl⟩, hf⟩ hP hD
    · by_cases q2 : x = 2
      · subst q2
        refine lv_tableIn (off := 39) (tgt := 40) hx hb d_M_count_1 (by decide) (by decide) (by decide) (by decide) ?_
        refine lv_aload_n hx hb d_M_count_40 rfl (lv_at hl 0 rfl) ?_
        refine va_get (D := (dC, dI)) (ci := 2) (v := .int (kI o)) (C := R_M) (T := F_M) (N := 9) hx hb hts i_M hown hK hP 0 rfl rfl 3 (by decide) (hts _ m_174) (fun _ h9 => h9) rfl d_M_count_41 ?_
        exact ret_i C0 hS d_M_count_44 rfl ((L, op, o, tk, lst, ln), f, g, mn) ⟨⟨by unfold cntM; rw [if_neg (by decide), if_neg (by decide), if_pos rfl], rfl⟩, hf⟩ hP hD
      · by_cases q3 : x = 3
        · subst q3
          refine lv_tableIn (off := 44) (tgt := 45) hx hb d_M_count_1 (by decide) (by decide) (by decide) (by decide) ?_
          refine lv_aload_n hx hb d_M_count_45 rfl (lv_at hl 0 rfl) ?_
          refine va_get (D := (dC, dI)) (ci := 2) (v := .int (nI op)) (C := R_M) (T := F_M) (N := 9) hx hb hts i_M hown hK hP 0 rfl rfl 2 (by decide) (hts _ m_173) (fun _ h9 => h9) rfl d_M_count_46 ?_
          exact ret_i C0 hS d_M_count_49 rfl ((L, op, o, tk, lst, ln), f, g, mn) ⟨⟨by unfold cntM; rw [if_neg (by decide), if_neg (by decide), if_neg (by decide), if_pos rfl], rfl⟩, hf⟩ hP hD
        · refine lv_tableOut (tgt := 50) hx hb d_M_count_1 (by have a0 := lv_neT (a := 0) q0 rfl; have a1 := lv_neT (a := 1) q1 rfl; have a2 := lv_neT (a := 2) q2 rfl; have a3 := lv_neT (a := 3) q3 rfl; omega) (by decide) ?_
          refine lv_iconst (v := -1) hx hb d_M_count_50 (by decide) ?_
          exact ret_i C0 hS d_M_count_51 rfl ((L, op, o, tk, lst, ln), f, g, mn) ⟨⟨by unfold cntM; rw [if_neg q0, if_neg q1, if_neg q2, if_neg q3], rfl⟩, hf⟩ hP hD
end
section
/-! THE DESK: its world, ordinal's call -/
abbrev kf (ad : Nat → Nat) : Nat → Option Nat := fun i => some (ad i)
abbrev tyD (cB cK : ClassId) : List (ClassId × FieldType) := [(cB, .byte), (cK, .object "EventLineDesk$LineKind")]
abbrev wD (d0 hk h0 hB : Nat) (cB cK : ClassId) (ad : Nat → Nat) (u : LSt) (f : Nat → Int32) : va_W := [(d0, .inr (1, [.ref hk, .ref h0])), (hk, .inl (cK, 5, .inr (.inr (.inr (.inr (kf ad)))))), (h0, .inr (0, [.ref hB, va_re ad u.2.1, .int (nI u.1.length), .int (nI u.2.2.1), .int (nI u.2.2.2.1), .int (nI u.2.2.2.2.1), .int u.2.2.2.2.2])), (hB, .inl (cB, 3000, .inl f))]
abbrev MetDi (l : Launch) (dC : Nat → ClassId) (dI : Nat → Nat → Nat) (cB cK : ClassId) (d0 hk h0 hB : Nat) (ad : Nat → Nat) (sz : Nat) (y : MethodName) (b : ByteArray) (n : Nat) (ty : FieldType) (rm : Room) (As : List Value) (u : LSt) (f : Nat → Int32) (post : Int32 → LSt → Prop) : Prop :=
  Met l y (ww y b n (some ty)) rm (va_Pc (.ref d0 :: As) (PreW dC dI (tyD cB cK) (wD d0 hk h0 hB cB cK ad u f) sz (KX ad))) (va_Qi (fun r (z : LSt × (Nat → Int32)) => post r z.1 ∧ RB z.2 z.1.1) (PW dC dI (va_A (wD d0 hk h0 hB cB cK ad u f) sz) (fun z => wD d0 hk h0 hB cB cK ad z.1 z.2)) (va_A (wD d0 hk h0 hB cB cK ad u f) sz)) 0 0 (va_A (wD d0 hk h0 hB cB cK ad u f) sz)
abbrev MetDl (l : Launch) (dC : Nat → ClassId) (dI : Nat → Nat → Nat) (cB cK : ClassId) (d0 hk h0 hB : Nat) (ad : Nat → Nat) (sz : Nat) (y : MethodName) (b : ByteArray) (n : Nat) (rm : Room) (As : List Value) (u : LSt) (f : Nat → Int32) (post : Int64 → LSt → Prop) : Prop :=
  Met l y (ww y b n (some .long)) rm (va_Pc (.ref d0 :: As) (PreW dC dI (tyD cB cK) (wD d0 hk h0 hB cB cK ad u f) sz (KX ad))) (va_Ql (fun r (z : LSt × (Nat → Int32)) => post r z.1 ∧ RB z.2 z.1.1) (PW dC dI (va_A (wD d0 hk h0 hB cB cK ad u f) sz) (fun z => wD d0 hk h0 hB cB cK ad z.1 z.2)) (va_A (wD d0 hk h0 hB cB cK ad u f) sz)) 0 0 (va_A (wD d0 hk h0 hB cB cK ad u f) sz)
def cntD (x : Int32) (L : List Nat) (o : Option Nat) (fr lc : Nat) : Int32 := if x = 0 then nI L.length else if x = 1 then nI lc else if x = 2 then kI o else if x = 3 then nI (L.length - fr) else -1
theorem lt34 {x : Int32} (h : 3 < x) : 4 ≤ x := by
  rw [Int32.lt_iff_toInt_lt] at h
  rw [Int32.le_iff_toInt_le]
  have e1 : (3 : Int32).toInt = 3 := rfl
  have e2 : (4 : Int32).toInt = 4 := rfl
  omega
section OR
variable {p : Program} {l : Launch} {e : Env} {R : Room} {s : State} {m : MethodId} {args : Array Value} {below : List Frame} {meth : Method} {c : Code} {H : Heap} {locs : List Loc} {cells slots : Nat} {Q : State → Prop}
variable {cc : ByteArray} {pc nL : Nat} {ls : Array Slot} {rest : List Value} {ro : Option FieldType} {yo : MethodName} {A : Nat → Prop}
theorem lx_v {x y : Value} (h : x = y) (k : W p l e R s m args below meth c H locs cells slots Q (F0 m pc ls (y :: rest))) : W p l e R s m args below meth c H locs cells slots Q (F0 m pc ls (x :: rest)) := by rw [h]; exact k
theorem ord_good : GoodIn gw (va_wsU "EventLineDesk" 52 "EventLineDesk$LineKind" "java/lang/Enum" ⟨"EventLineDesk$LineKind", "ordinal", "()I"⟩ y_E_ordinal (ww y_E_ordinal b_E_ordinal 1 (some .int))) := by
  intro w hw
  unfold va_wsU at hw
  simp only [List.cons_append, List.nil_append, List.mem_cons] at hw
  rcases hw with rfl | rfl | rfl | rfl | rfl | rfl | hw
  · exact gw_good _ m_126
  · exact gw_good _ m_127
  · exact gw_good _ m_129
  · exact gw_good _ m_130
  · exact gw_good _ m_2
  · exact gw_good _ m_131
  · exact gw_good _ hw
theorem callOrd {ad : Nat → Nat} {k : Nat} (hk : k < 5) (C0 : Cx p s m args meth c cc nL ro yo) (hy : yo.cls = "EventLineDesk") (hX : KX ad A s) (hS : va_S A s.heap H locs) (hR : 1 ≤ R.frames ∧ 20 ≤ R.locals) (hcs : cells ≤ R.cells ∧ slots ≤ R.slots) (hdg : decode cc pc = .ok (.invokevirtual 52, 3)) (hroom : (rest.map fun v => v.category).sum ≤ 8) (hls : ls.size = nL)
    (kk : W p l e R s m args below meth c H locs cells slots Q (F0 m (pc + 3) ls (.int (nI k) :: rest))) : W p l e R s m args below meth c H locs cells slots Q (F0 m pc ls (.ref (ad k) :: rest)) := by
  have hown := C0.2.2.2.2.1
  rw [hy] at hown
  exact vp_callSi (va_Run.run (va_runU (As := []) (rest := rest) (b := ad k) (n := 0) ⟨C0.1, C0.2.1, C0.2.2.2.1, hown, C0.2.2.2.2.2.2.2⟩ (c_E_ordinal l ad A k hk) (va_cwU 0 C0.2.2.2.2.2.2.2 ord_good rfl rfl rfl rfl ⟨by decide, by decide, by decide +kernel⟩ hR) ⟨fun a U g mk q => ⟨q.1, KX.blind A U g mk a q.2⟩, va_recvE hX.1 hk hS, fun U hU hW => ⟨rfl, KX.call hX hS A U (fun _ h => h) hU hW⟩⟩ rfl rfl hls rfl (lv_room hroom) hdg ⟨hcs.1, hcs.2⟩)) (fun r hr => by rw [hr]; exact kk)
end OR
end
section
/-! THE DESK: its methods (rows printed by gen19.py) -/
set_option maxHeartbeats 4000000 in
set_option maxRecDepth 100000 in
theorem c_D_isChT (l : Launch) (x : Int32) (hc : isCh x) : Met l y_D_isCharacter (ww y_D_isCharacter b_D_isCharacter 1 (some .boolean)) ({ frames := 0, cells := 0, slots := 0, locals := 0 }) (va_Pc [.int x] (fun _ => True)) (vp_Si (fun r => r = nI 1)) 0 0 (fun _ => False) := by
  refine enterS (by decide) (Nat.le_of_ble_eq_true rfl) ?_
  intro p e s m below meth c ls C0 hl
  obtain ⟨hx, hb, hr, hml, hown, hlk, hnm, hts⟩ := id C0
  have hl : lv_has ls 1 [(0, .int x)] := hl
  refine lv_iload_n hx hb d_D_isCharacter_0 rfl (lv_at hl 0 rfl) ?_
  refine lv_if_lt (tgt := 26) hx hb d_D_isCharacter_1 (by decide) (fun c_1 => ?_) (fun c_1 => ?_)
  · exact absurd hc (fun q => q.1 c_1)
  · refine lv_iload_n hx hb d_D_isCharacter_4 rfl (lv_at hl 0 rfl) ?_
    refine lv_ldc (v := 1114111) hx hb hown (hts _ m_95) d_D_isCharacter_5 ?_
    refine lv_icmp_gt (tgt := 26) hx hb d_D_isCharacter_7 (by decide) (fun c_2 => ?_) (fun c_2 => ?_)
    · exact absurd hc (fun q => Int32.not_lt.mpr q.2.1 c_2)
    · refine lv_iload_n hx hb d_D_isCharacter_10 rfl (lv_at hl 0 rfl) ?_
      refine lv_ldc (v := 55296) hx hb hown (hts _ m_96) d_D_isCharacter_11 ?_
      refine lv_icmp_lt (tgt := 22) hx hb d_D_isCharacter_13 (by decide) (fun c_3 => ?_) (fun c_3 => ?_)
      · refine lv_iconst (v := nI 1) hx hb d_D_isCharacter_22 (by decide) ?_
        refine lv_goto (tgt := 27) hx hb d_D_isCharacter_23 (by decide) ?_
        exact ret_S C0 d_D_isCharacter_27 rfl rfl
      · refine lv_iload_n hx hb d_D_isCharacter_16 rfl (lv_at hl 0 rfl) ?_
        refine lv_ldc (v := 57343) hx hb hown (hts _ m_97) d_D_isCharacter_17 ?_
        refine lv_icmp_le (tgt := 26) hx hb d_D_isCharacter_19 (by decide) (fun c_4 => ?_) (fun c_4 => ?_)
        · exact absurd hc (fun q => by rcases q.2.2 with z | z; exact c_3 z; exact Int32.not_le.mpr z c_4)
        · refine lv_iconst (v := nI 1) hx hb d_D_isCharacter_22 (by decide) ?_
          refine lv_goto (tgt := 27) hx hb d_D_isCharacter_23 (by decide) ?_
          exact ret_S C0 d_D_isCharacter_27 rfl rfl
set_option maxHeartbeats 4000000 in
set_option maxRecDepth 100000 in
theorem c_D_isChF (l : Launch) (x : Int32) (hc : ¬ isCh x) : Met l y_D_isCharacter (ww y_D_isCharacter b_D_isCharacter 1 (some .boolean)) ({ frames := 0, cells := 0, slots := 0, locals := 0 }) (va_Pc [.int x] (fun _ => True)) (vp_Si (fun r => r = nI 0)) 0 0 (fun _ => False) := by
  refine enterS (by decide) (Nat.le_of_ble_eq_true rfl) ?_
  intro p e s m below meth c ls C0 hl
  obtain ⟨hx, hb, hr, hml, hown, hlk, hnm, hts⟩ := id C0
  have hl : lv_has ls 1 [(0, .int x)] := hl
  refine lv_iload_n hx hb d_D_isCharacter_0 rfl (lv_at hl 0 rfl) ?_
  refine lv_if_lt (tgt := 26) hx hb d_D_isCharacter_1 (by decide) (fun c_1 => ?_) (fun c_1 => ?_)
  · refine lv_iconst (v := nI 0) hx hb d_D_isCharacter_26 (by decide) ?_
    exact ret_S C0 d_D_isCharacter_27 rfl rfl
  · refine lv_iload_n hx hb d_D_isCharacter_4 rfl (lv_at hl 0 rfl) ?_
    refine lv_ldc (v := 1114111) hx hb hown (hts _ m_95) d_D_isCharacter_5 ?_
    refine lv_icmp_gt (tgt := 26) hx hb d_D_isCharacter_7 (by decide) (fun c_2 => ?_) (fun c_2 => ?_)
    · refine lv_iconst (v := nI 0) hx hb d_D_isCharacter_26 (by decide) ?_
      exact ret_S C0 d_D_isCharacter_27 rfl rfl
    · refine lv_iload_n hx hb d_D_isCharacter_10 rfl (lv_at hl 0 rfl) ?_
      refine lv_ldc (v := 55296) hx hb hown (hts _ m_96) d_D_isCharacter_11 ?_
      refine lv_icmp_lt (tgt := 22) hx hb d_D_isCharacter_13 (by decide) (fun c_3 => ?_) (fun c_3 => ?_)
      · exact absurd ⟨c_1, Int32.not_lt.mp c_2, Or.inl c_3⟩ hc
      · refine lv_iload_n hx hb d_D_isCharacter_16 rfl (lv_at hl 0 rfl) ?_
        refine lv_ldc (v := 57343) hx hb hown (hts _ m_97) d_D_isCharacter_17 ?_
        refine lv_icmp_le (tgt := 26) hx hb d_D_isCharacter_19 (by decide) (fun c_4 => ?_) (fun c_4 => ?_)
        · refine lv_iconst (v := nI 0) hx hb d_D_isCharacter_26 (by decide) ?_
          exact ret_S C0 d_D_isCharacter_27 rfl rfl
        · exact absurd ⟨c_1, Int32.not_lt.mp c_2, Or.inr (Int32.not_le.mp c_4)⟩ hc
set_option maxHeartbeats 4000000 in
set_option maxRecDepth 100000 in
theorem c_D_beginOut (l : Launch) (dC : Nat → ClassId) (dI : Nat → Nat → Nat) (cB cK : ClassId) (d0 hk h0 hB : Nat) (ad : Nat → Nat) (sz : Nat) (L : List Nat) (o : Option Nat) (fr tk lc : Nat) (wh : Int32) (f : Nat → Int32) (hf : RB f L) (x : Int32) (hx1 : x < 0 ∨ 3 < x) : MetDi l dC dI cB cK d0 hk h0 hB ad sz y_D_begin b_D_begin 2 .boolean ({ frames := 3, cells := 0, slots := 0, locals := 63 }) [.int x] (L, o, fr, tk, lc, wh) f (fun r u => r = 0 ∧ u = (L, o, fr, tk, lc, wh)) := by
  refine enter (Qf := fun A => va_Qi (fun r (z : LSt × (Nat → Int32)) => (fun r u => r = 0 ∧ u = (L, o, fr, tk, lc, wh)) r z.1 ∧ RB z.2 z.1.1) (PW dC dI A (fun z => wD d0 hk h0 hB cB cK ad z.1 z.2)) A) (by decide) (Nat.le_of_ble_eq_true rfl) ?_
  intro p e s m below meth c A ls C0 hsz hA hK hP hD hS hX hl
  obtain ⟨hx, hb, hr, hml, hown, hlk, hnm, hts⟩ := id C0
  have hl : lv_has ls 2 [(0, .ref d0), (1, .int x)] := hl
  have hP : va_P (dC, dI) classes [(d0, .inr (1, [.ref hk, .ref h0])), (hk, .inl (cK, 5, .inr (.inr (.inr (.inr (kf ad)))))), (h0, .inr (0, [.ref hB, va_re ad o, .int (nI L.length), .int (nI fr), .int (nI tk), .int (nI lc), .int wh])), (hB, .inl (cB, 3000, .inl f))] s.heap := hP
  have hD : va_D A [(d0, .inr (1, [.ref hk, .ref h0])), (hk, .inl (cK, 5, .inr (.inr (.inr (.inr (kf ad)))))), (h0, .inr (0, [.ref hB, va_re ad o, .int (nI L.length), .int (nI fr), .int (nI tk), .int (nI lc), .int wh])), (hB, .inl (cB, 3000, .inl f))] := hD
  refine lv_iload_n hx hb d_D_begin_0 rfl (lv_at hl 1 rfl) ?_
  refine lv_if_lt (tgt := 29) hx hb d_D_begin_1 (by decide) (fun c_1 => ?_) (fun c_1 => ?_)
  · refine lv_iconst (v := nI 0) hx hb d_D_begin_29 (by decide) ?_
    exact ret_i C0 hS d_D_begin_30 rfl ((L, o, fr, tk, lc, wh), f) ⟨⟨rfl, rfl⟩, hf⟩ hP hD
  · refine lv_iload_n hx hb d_D_begin_4 rfl (lv_at hl 1 rfl) ?_
    refine lv_iconst (v := nI 4) hx hb d_D_begin_5 (by decide) ?_
    refine lv_icmp_ge (tgt := 29) hx hb d_D_begin_6 (by decide) (fun c_2 => ?_) (fun c_2 => ?_)
    · refine lv_iconst (v := nI 0) hx hb d_D_begin_29 (by decide) ?_
      exact ret_i C0 hS d_D_begin_30 rfl ((L, o, fr, tk, lc, wh), f) ⟨⟨rfl, rfl⟩, hf⟩ hP hD
    · exact absurd (by rcases hx1 with q | q; exact absurd q c_1; exact lt34 q) c_2
set_option maxHeartbeats 4000000 in
set_option maxRecDepth 100000 in
theorem c_D_beginIn (l : Launch) (dC : Nat → ClassId) (dI : Nat → Nat → Nat) (cB cK : ClassId) (d0 hk h0 hB : Nat) (ad : Nat → Nat) (sz : Nat) (L : List Nat) (o : Option Nat) (fr tk lc : Nat) (wh : Int32) (f : Nat → Int32) (hf : RB f L) (k : Nat) (hk4 : k < 4) (hL : L.length ≤ 3000) : MetDi l dC dI cB cK d0 hk h0 hB ad sz y_D_begin b_D_begin 2 .boolean ({ frames := 3, cells := 0, slots := 0, locals := 63 }) [.int (nI k)] (L, o, fr, tk, lc, wh) f (fun r u => if L.length + enN o + 2 ≤ 3000 then r = 1 ∧ u = begF k (L, o, fr, tk, lc, wh) else r = 0 ∧ u = (L, o, fr, tk, lc, wh)) := by
  refine enter (Qf := fun A => va_Qi (fun r (z : LSt × (Nat → Int32)) => (fun r u => if L.length + enN o + 2 ≤ 3000 then r = 1 ∧ u = begF k (L, o, fr, tk, lc, wh) else r = 0 ∧ u = (L, o, fr, tk, lc, wh)) r z.1 ∧ RB z.2 z.1.1) (PW dC dI A (fun z => wD d0 hk h0 hB cB cK ad z.1 z.2)) A) (by decide) (Nat.le_of_ble_eq_true rfl) ?_
  intro p e s m below meth c A ls C0 hsz hA hK hP hD hS hX hl
  obtain ⟨hx, hb, hr, hml, hown, hlk, hnm, hts⟩ := id C0
  have hl : lv_has ls 2 [(0, .ref d0), (1, .int (nI k))] := hl
  have hP : va_P (dC, dI) classes [(d0, .inr (1, [.ref hk, .ref h0])), (hk, .inl (cK, 5, .inr (.inr (.inr (.inr (kf ad)))))), (h0, .inr (0, [.ref hB, va_re ad o, .int (nI L.length), .int (nI fr), .int (nI tk), .int (nI lc), .int wh])), (hB, .inl (cB, 3000, .inl f))] s.heap := hP
  have hD : va_D A [(d0, .inr (1, [.ref hk, .ref h0])), (hk, .inl (cK, 5, .inr (.inr (.inr (.inr (kf ad)))))), (h0, .inr (0, [.ref hB, va_re ad o, .int (nI L.length), .int (nI fr), .int (nI tk), .int (nI lc), .int wh])), (hB, .inl (cB, 3000, .inl f))] := hD
  refine lv_iload_n hx hb d_D_begin_0 rfl (lv_at hl 1 rfl) ?_
  refine lq_if_lt hx hb (by omega) (tgt := 29) d_D_begin_1 (by decide) ?_
  refine lv_iload_n hx hb d_D_begin_4 rfl (lv_at hl 1 rfl) ?_
  refine lv_iconst (v := nI 4) hx hb d_D_begin_5 (by decide) ?_
  refine lq_icmp_ge hx hb (by omega) (by omega) (tgt := 29) d_D_begin_6 (by decide) (fun c_2 => ?_) (fun c_2 => ?_)
  · exact absurd c_2 (by omega)
  · refine lv_aload_n hx hb d_D_begin_9 rfl (lv_at hl 0 rfl) ?_
    refine va_get (D := (dC, dI)) (ci := 1) (v := .ref h0) (C := R_D) (T := F_D) (N := 2) hx hb hts i_D hown hK hP 0 rfl rfl 1 (by decide) (hts _ m_62) (fun _ h9 => h9) rfl d_D_begin_10 ?_
    refine lv_aload_n hx hb d_D_begin_13 rfl (lv_at hl 0 rfl) ?_
    refine va_get (D := (dC, dI)) (ci := 1) (v := .ref hk) (C := R_D) (T := F_D) (N := 2) hx hb hts i_D hown hK hP 0 rfl rfl 0 (by decide) (hts _ m_61) (fun _ h9 => h9) rfl d_D_begin_14 ?_
    refine lv_iload_n hx hb d_D_begin_17 rfl (lv_at hl 1 rfl) ?_
    refine va_aldq (D := (dC, dI)) hx hb hK hP 1 1 rfl rfl (vp_in_nI (by omega) (by omega)) d_D_begin_18 ?_
    refine lx_v (y := .ref (ad k)) (by rw [nI_clamp (by omega)]; rfl) ?_
    refine gcall_i (q0 := 0) (wr := [(d0, .inr (1, [.ref hk, .ref h0])), (hk, .inl (cK, 5, .inr (.inr (.inr (.inr (kf ad))))))]) (As := [.ref (ad k)]) (rest := []) C0 g_D_31 (c_L_begin l dC dI cB h0 hB ad s.heap.size L o fr tk lc wh f hf k (by omega) hL) ⟨Nat.le_of_ble_eq_true rfl, Nat.le_of_ble_eq_true rfl⟩ ⟨rfl, rfl⟩ ⟨Nat.zero_le _, Nat.zero_le _⟩ d_D_begin_19 rfl rfl (Nat.le_of_ble_eq_true rfl) hl.1 hK hP hD hS hA [2, 3] [0, 1] [0] rfl (by decide) rfl (by decide) (by decide) rfl rfl rfl KX.blind (KX.call hX hS) (fun r u H locs hw hP hD hS => ?_)
    obtain ⟨u, f⟩ := u
    dsimp only at hw
    obtain ⟨hw, hf⟩ := hw
    by_cases hm : L.length + enN o + 2 ≤ 3000
    · rw [if_pos hm] at hw
      obtain ⟨rfl, rfl⟩ := hw
      refine lx_i (y := nI 1) (rfl) ?_
      refine lq_if_eq hx hb (by omega) (tgt := 29) d_D_begin_22 (by decide) (fun c_3 => ?_) (fun c_3 => ?_)
      · exact absurd c_3 (by decide)
      · refine lv_iconst (v := nI 1) hx hb d_D_begin_25 (by decide) ?_
        refine lv_goto (tgt := 30) hx hb d_D_begin_26 (by decide) ?_
        exact ret_i C0 hS d_D_begin_30 rfl (begF k (L, o, fr, tk, lc, wh), f) ⟨by dsimp only; rw [if_pos hm]; exact ⟨rfl, rfl⟩, hf⟩ hP hD
    · rw [if_neg hm] at hw
      obtain ⟨rfl, rfl⟩ := hw
      refine lx_i (y := nI 0) (rfl) ?_
      refine lq_if_eq hx hb (by omega) (tgt := 29) d_D_begin_22 (by decide) (fun c_4 => ?_) (fun c_4 => ?_)
      · refine lv_iconst (v := nI 0) hx hb d_D_begin_29 (by decide) ?_
        exact ret_i C0 hS d_D_begin_30 rfl ((L, o, fr, tk, lc, wh), f) ⟨by dsimp only; rw [if_neg hm]; exact ⟨rfl, rfl⟩, hf⟩ hP hD
      · exact absurd rfl c_4
set_option maxHeartbeats 4000000 in
set_option maxRecDepth 100000 in
theorem c_D_addOut (l : Launch) (dC : Nat → ClassId) (dI : Nat → Nat → Nat) (cB cK : ClassId) (d0 hk h0 hB : Nat) (ad : Nat → Nat) (sz : Nat) (L : List Nat) (o : Option Nat) (fr tk lc : Nat) (wh : Int32) (f : Nat → Int32) (hf : RB f L) (x : Int32) (hx1 : ¬ isCh x) : MetDi l dC dI cB cK d0 hk h0 hB ad sz y_D_add b_D_add 2 .boolean ({ frames := 3, cells := 0, slots := 0, locals := 63 }) [.int x] (L, o, fr, tk, lc, wh) f (fun r u => r = 0 ∧ u = (L, o, fr, tk, lc, wh)) := by
  refine enter (Qf := fun A => va_Qi (fun r (z : LSt × (Nat → Int32)) => (fun r u => r = 0 ∧ u = (L, o, fr, tk, lc, wh)) r z.1 ∧ RB z.2 z.1.1) (PW dC dI A (fun z => wD d0 hk h0 hB cB cK ad z.1 z.2)) A) (by decide) (Nat.le_of_ble_eq_true rfl) ?_
  intro p e s m below meth c A ls C0 hsz hA hK hP hD hS hX hl
  obtain ⟨hx, hb, hr, hml, hown, hlk, hnm, hts⟩ := id C0
  have hl : lv_has ls 2 [(0, .ref d0), (1, .int x)] := hl
  have hP : va_P (dC, dI) classes [(d0, .inr (1, [.ref hk, .ref h0])), (hk, .inl (cK, 5, .inr (.inr (.inr (.inr (kf ad)))))), (h0, .inr (0, [.ref hB, va_re ad o, .int (nI L.length), .int (nI fr), .int (nI tk), .int (nI lc), .int wh])), (hB, .inl (cB, 3000, .inl f))] s.heap := hP
  have hD : va_D A [(d0, .inr (1, [.ref hk, .ref h0])), (hk, .inl (cK, 5, .inr (.inr (.inr (.inr (kf ad)))))), (h0, .inr (0, [.ref hB, va_re ad o, .int (nI L.length), .int (nI fr), .int (nI tk), .int (nI lc), .int wh])), (hB, .inl (cB, 3000, .inl f))] := hD
  refine lv_iload_n hx hb d_D_add_0 rfl (lv_at hl 1 rfl) ?_
  refine gcall_s (As := [.int x]) (rest := []) C0 g_D_35 (c_D_isChF l x hx1) ⟨Nat.le_of_ble_eq_true rfl, Nat.le_of_ble_eq_true rfl⟩ ⟨rfl, rfl⟩ ⟨Nat.zero_le _, Nat.zero_le _⟩ d_D_add_1 rfl rfl (Nat.le_of_ble_eq_true rfl) hl.1 ?_
  refine lq_if_eq hx hb (by omega) (tgt := 45) d_D_add_4 (by decide) (fun c_1 => ?_) (fun c_1 => ?_)
  · refine lv_iconst (v := nI 0) hx hb d_D_add_45 (by decide) ?_
    exact ret_i C0 hS d_D_add_46 rfl ((L, o, fr, tk, lc, wh), f) ⟨⟨rfl, rfl⟩, hf⟩ hP hD
  · exact absurd rfl c_1
set_option maxHeartbeats 4000000 in
set_option maxRecDepth 100000 in
theorem c_D_addIn (l : Launch) (dC : Nat → ClassId) (dI : Nat → Nat → Nat) (cB cK : ClassId) (d0 hk h0 hB : Nat) (ad : Nat → Nat) (sz : Nat) (L : List Nat) (o : Option Nat) (fr tk lc : Nat) (wh : Int32) (f : Nat → Int32) (hf : RB f L) (n : Nat) (hc : isCh (nI n)) (hn : n < 1114112) (hL : L.length ≤ 3000) (ho : ∀ i, o = some i → i < 5) : MetDi l dC dI cB cK d0 hk h0 hB ad sz y_D_add b_D_add 2 .boolean ({ frames := 3, cells := 0, slots := 0, locals := 63 }) [.int (nI n)] (L, o, fr, tk, lc, wh) f (fun r u => if o = none ∨ o = some 4 then (r = 0 ∧ u = (L, o, fr, tk, lc, wh)) else if L.length + bofN n + 1 ≤ 3000 then r = 1 ∧ u = addF n (L, o, fr, tk, lc, wh) else r = 0 ∧ u = (L, o, fr, tk, lc, wh)) := by
  refine enter (Qf := fun A => va_Qi (fun r (z : LSt × (Nat → Int32)) => (fun r u => if o = none ∨ o = some 4 then (r = 0 ∧ u = (L, o, fr, tk, lc, wh)) else if L.length + bofN n + 1 ≤ 3000 then r = 1 ∧ u = addF n (L, o, fr, tk, lc, wh) else r = 0 ∧ u = (L, o, fr, tk, lc, wh)) r z.1 ∧ RB z.2 z.1.1) (PW dC dI A (fun z => wD d0 hk h0 hB cB cK ad z.1 z.2)) A) (by decide) (Nat.le_of_ble_eq_true rfl) ?_
  intro p e s m below meth c A ls C0 hsz hA hK hP hD hS hX hl
  obtain ⟨hx, hb, hr, hml, hown, hlk, hnm, hts⟩ := id C0
  have hl : lv_has ls 2 [(0, .ref d0), (1, .int (nI n))] := hl
  have hP : va_P (dC, dI) classes [(d0, .inr (1, [.ref hk, .ref h0])), (hk, .inl (cK, 5, .inr (.inr (.inr (.inr (kf ad)))))), (h0, .inr (0, [.ref hB, va_re ad o, .int (nI L.length), .int (nI fr), .int (nI tk), .int (nI lc), .int wh])), (hB, .inl (cB, 3000, .inl f))] s.heap := hP
  have hD : va_D A [(d0, .inr (1, [.ref hk, .ref h0])), (hk, .inl (cK, 5, .inr (.inr (.inr (.inr (kf ad)))))), (h0, .inr (0, [.ref hB, va_re ad o, .int (nI L.length), .int (nI fr), .int (nI tk), .int (nI lc), .int wh])), (hB, .inl (cB, 3000, .inl f))] := hD
  refine lv_iload_n hx hb d_D_add_0 rfl (lv_at hl 1 rfl) ?_
  refine gcall_s (As := [.int (nI n)]) (rest := []) C0 g_D_35 (c_D_isChT l (nI n) hc) ⟨Nat.le_of_ble_eq_true rfl, Nat.le_of_ble_eq_true rfl⟩ ⟨rfl, rfl⟩ ⟨Nat.zero_le _, Nat.zero_le _⟩ d_D_add_1 rfl rfl (Nat.le_of_ble_eq_true rfl) hl.1 ?_
  refine lq_if_eq hx hb (by omega) (tgt := 45) d_D_add_4 (by decide) (fun c_1 => ?_) (fun c_1 => ?_)
  · exact absurd c_1 (by decide)
  · cases o with
    | none =>
      have hP : va_P (dC, dI) classes [(d0, .inr (1, [.ref hk, .ref h0])), (hk, .inl (cK, 5, .inr (.inr (.inr (.inr (kf ad)))))), (h0, .inr (0, [.ref hB, .null, .int (nI L.length), .int (nI fr), .int (nI tk), .int (nI lc), .int wh])), (hB, .inl (cB, 3000, .inl f))] s.heap := hP
      have hD : va_D A [(d0, .inr (1, [.ref hk, .ref h0])), (hk, .inl (cK, 5, .inr (.inr (.inr (.inr (kf ad)))))), (h0, .inr (0, [.ref hB, .null, .int (nI L.length), .int (nI fr), .int (nI tk), .int (nI lc), .int wh])), (hB, .inl (cB, 3000, .inl f))] := hD
      refine lv_aload_n hx hb d_D_add_7 rfl (lv_at hl 0 rfl) ?_
      refine va_get (D := (dC, dI)) (ci := 1) (v := .ref h0) (C := R_D) (T := F_D) (N := 2) hx hb hts i_D hown hK hP 0 rfl rfl 1 (by decide) (hts _ m_62) (fun _ h9 => h9) rfl d_D_add_8 ?_
      refine va_getN (D := (dC, dI)) (ci := 0) (v := .null) (C := R_L) (T := F_L) (N := 7) hx hb hts i_L hown hK hP 2 rfl rfl 1 (by decide) (KX.nw35 hX) (fun _ h9 => h9) rfl d_D_add_11 ?_
      refine lv_ifnullN (tgt := 45) hx hb d_D_add_14 (by decide) ?_
      refine lv_iconst (v := nI 0) hx hb d_D_add_45 (by decide) ?_
      exact ret_i C0 hS d_D_add_46 rfl ((L, none, fr, tk, lc, wh), f) ⟨by dsimp only; rw [if_pos (Or.inl rfl)]; exact ⟨rfl, rfl⟩, hf⟩ hP hD
    | some i =>
      have hi := ho i rfl
      have hP : va_P (dC, dI) classes [(d0, .inr (1, [.ref hk, .ref h0])), (hk, .inl (cK, 5, .inr (.inr (.inr (.inr (kf ad)))))), (h0, .inr (0, [.ref hB, .ref (ad i), .int (nI L.length), .int (nI fr), .int (nI tk), .int (nI lc), .int wh])), (hB, .inl (cB, 3000, .inl f))] s.heap := hP
      have hD : va_D A [(d0, .inr (1, [.ref hk, .ref h0])), (hk, .inl (cK, 5, .inr (.inr (.inr (.inr (kf ad)))))), (h0, .inr (0, [.ref hB, .ref (ad i), .int (nI L.length), .int (nI fr), .int (nI tk), .int (nI lc), .int wh])), (hB, .inl (cB, 3000, .inl f))] := hD
      refine lv_aload_n hx hb d_D_add_7 rfl (lv_at hl 0 rfl) ?_
      refine va_get (D := (dC, dI)) (ci := 1) (v := .ref h0) (C := R_D) (T := F_D) (N := 2) hx hb hts i_D hown hK hP 0 rfl rfl 1 (by decide) (hts _ m_62) (fun _ h9 => h9) rfl d_D_add_8 ?_
      refine va_getN (D := (dC, dI)) (ci := 0) (v := .ref (ad i)) (C := R_L) (T := F_L) (N := 7) hx hb hts i_L hown hK hP 2 rfl rfl 1 (by decide) (KX.nw35 hX) (fun _ h9 => h9) rfl d_D_add_11 ?_
      refine lv_ifnull hx hb d_D_add_14 ?_
      refine lv_aload_n hx hb d_D_add_17 rfl (lv_at hl 0 rfl) ?_
      refine va_get (D := (dC, dI)) (ci := 1) (v := .ref h0) (C := R_D) (T := F_D) (N := 2) hx hb hts i_D hown hK hP 0 rfl rfl 1 (by decide) (hts _ m_62) (fun _ h9 => h9) rfl d_D_add_18 ?_
      refine va_getN (D := (dC, dI)) (ci := 0) (v := .ref (ad i)) (C := R_L) (T := F_L) (N := 7) hx hb hts i_L hown hK hP 2 rfl rfl 1 (by decide) (KX.nw35 hX) (fun _ h9 => h9) rfl d_D_add_21 ?_
      refine getTEXT C0 hX hS m_98 d_D_add_24 ?_
      refine lv_acmp_eq (rx := some (ad i)) (ry := some (ad 4)) (tgt := 45) hx hb d_D_add_27 (by decide) (fun c_4 => ?_) (fun c_4 => ?_)
      · have h4 := KX.inj hX hi (by decide) (Option.some.inj c_4)
        refine lv_iconst (v := nI 0) hx hb d_D_add_45 (by decide) ?_
        exact ret_i C0 hS d_D_add_46 rfl ((L, some i, fr, tk, lc, wh), f) ⟨by dsimp only; rw [if_pos (Or.inr (by rw [h4]))]; exact ⟨rfl, rfl⟩, hf⟩ hP hD
      · have hne : ¬ ((some i : Option Nat) = none ∨ (some i : Option Nat) = some 4) := by rintro (q | q); exact absurd q (by simp); exact c_4 (by rw [Option.some.inj q])
        refine lv_aload_n hx hb d_D_add_30 rfl (lv_at hl 0 rfl) ?_
        refine va_get (D := (dC, dI)) (ci := 1) (v := .ref h0) (C := R_D) (T := F_D) (N := 2) hx hb hts i_D hown hK hP 0 rfl rfl 1 (by decide) (hts _ m_62) (fun _ h9 => h9) rfl d_D_add_31 ?_
        refine lv_iload_n hx hb d_D_add_34 rfl (lv_at hl 1 rfl) ?_
        refine gcall_i (q0 := 0) (wr := [(d0, .inr (1, [.ref hk, .ref h0])), (hk, .inl (cK, 5, .inr (.inr (.inr (.inr (kf ad))))))]) (As := [.int (nI n)]) (rest := []) C0 g_D_46 (c_L_add l dC dI cB h0 hB ad s.heap.size L (some i) fr tk lc wh f hf n hn hL) ⟨Nat.le_of_ble_eq_true rfl, Nat.le_of_ble_eq_true rfl⟩ ⟨rfl, rfl⟩ ⟨Nat.zero_le _, Nat.zero_le _⟩ d_D_add_35 rfl rfl (Nat.le_of_ble_eq_true rfl) hl.1 hK hP hD hS hA [2, 3] [0, 1] [0] rfl (by decide) rfl (by decide) (by decide) rfl rfl rfl (fun _ _ _ _ _ _ => trivial) (fun _ _ _ _ _ => trivial) (fun r u H locs hw hP hD hS => ?_)
        obtain ⟨u, f⟩ := u
        dsimp only at hw
        obtain ⟨hw, hf⟩ := hw
        by_cases hm : L.length + bofN n + 1 ≤ 3000
        · rw [if_pos hm] at hw
          obtain ⟨rfl, rfl⟩ := hw
          refine lx_i (y := nI 1) (rfl) ?_
          refine lq_if_eq hx hb (by omega) (tgt := 45) d_D_add_38 (by decide) (fun c_5 => ?_) (fun c_5 => ?_)
          · exact absurd c_5 (by decide)
          · refine lv_iconst (v := nI 1) hx hb d_D_add_41 (by decide) ?_
            refine lv_goto (tgt := 46) hx hb d_D_add_42 (by decide) ?_
            exact ret_i C0 hS d_D_add_46 rfl ((L ++ enc n, some i, fr, tk, lc, wh), f) ⟨by dsimp only; rw [if_neg hne, if_pos hm]; exact ⟨rfl, rfl⟩, hf⟩ hP hD
        · rw [if_neg hm] at hw
          obtain ⟨rfl, rfl⟩ := hw
          refine lx_i (y := nI 0) (rfl) ?_
          refine lq_if_eq hx hb (by omega) (tgt := 45) d_D_add_38 (by decide) (fun c_6 => ?_) (fun c_6 => ?_)
          · refine lv_iconst (v := nI 0) hx hb d_D_add_45 (by decide) ?_
            exact ret_i C0 hS d_D_add_46 rfl ((L, some i, fr, tk, lc, wh), f) ⟨by dsimp only; rw [if_neg hne, if_neg hm]; exact ⟨rfl, rfl⟩, hf⟩ hP hD
          · exact absurd rfl c_6
set_option maxHeartbeats 4000000 in
set_option maxRecDepth 100000 in
theorem c_D_textOut (l : Launch) (dC : Nat → ClassId) (dI : Nat → Nat → Nat) (cB cK : ClassId) (d0 hk h0 hB : Nat) (ad : Nat → Nat) (sz : Nat) (L : List Nat) (o : Option Nat) (fr tk lc : Nat) (wh : Int32) (f : Nat → Int32) (hf : RB f L) (x : Int32) (hx1 : ¬ isCh x) : MetDi l dC dI cB cK d0 hk h0 hB ad sz y_D_text b_D_text 2 .boolean ({ frames := 4, cells := 0, slots := 0, locals := 85 }) [.int x] (L, o, fr, tk, lc, wh) f (fun r u => r = 0 ∧ u = (L, o, fr, tk, lc, wh)) := by
  refine enter (Qf := fun A => va_Qi (fun r (z : LSt × (Nat → Int32)) => (fun r u => r = 0 ∧ u = (L, o, fr, tk, lc, wh)) r z.1 ∧ RB z.2 z.1.1) (PW dC dI A (fun z => wD d0 hk h0 hB cB cK ad z.1 z.2)) A) (by decide) (Nat.le_of_ble_eq_true rfl) ?_
  intro p e s m below meth c A ls C0 hsz hA hK hP hD hS hX hl
  obtain ⟨hx, hb, hr, hml, hown, hlk, hnm, hts⟩ := id C0
  have hl : lv_has ls 2 [(0, .ref d0), (1, .int x)] := hl
  have hP : va_P (dC, dI) classes [(d0, .inr (1, [.ref hk, .ref h0])), (hk, .inl (cK, 5, .inr (.inr (.inr (.inr (kf ad)))))), (h0, .inr (0, [.ref hB, va_re ad o, .int (nI L.length), .int (nI fr), .int (nI tk), .int (nI lc), .int wh])), (hB, .inl (cB, 3000, .inl f))] s.heap := hP
  have hD : va_D A [(d0, .inr (1, [.ref hk, .ref h0])), (hk, .inl (cK, 5, .inr (.inr (.inr (.inr (kf ad)))))), (h0, .inr (0, [.ref hB, va_re ad o, .int (nI L.length), .int (nI fr), .int (nI tk), .int (nI lc), .int wh])), (hB, .inl (cB, 3000, .inl f))] := hD
  refine lv_iload_n hx hb d_D_text_0 rfl (lv_at hl 1 rfl) ?_
  refine gcall_s (As := [.int x]) (rest := []) C0 g_D_35 (c_D_isChF l x hx1) ⟨Nat.le_of_ble_eq_true rfl, Nat.le_of_ble_eq_true rfl⟩ ⟨rfl, rfl⟩ ⟨Nat.zero_le _, Nat.zero_le _⟩ d_D_text_1 rfl rfl (Nat.le_of_ble_eq_true rfl) hl.1 ?_
  refine lq_if_eq hx hb (by omega) (tgt := 22) d_D_text_4 (by decide) (fun c_1 => ?_) (fun c_1 => ?_)
  · refine lv_iconst (v := nI 0) hx hb d_D_text_22 (by decide) ?_
    exact ret_i C0 hS d_D_text_23 rfl ((L, o, fr, tk, lc, wh), f) ⟨⟨rfl, rfl⟩, hf⟩ hP hD
  · exact absurd rfl c_1
set_option maxHeartbeats 4000000 in
set_option maxRecDepth 100000 in
theorem c_D_textIn (l : Launch) (dC : Nat → ClassId) (dI : Nat → Nat → Nat) (cB cK : ClassId) (d0 hk h0 hB : Nat) (ad : Nat → Nat) (sz : Nat) (L : List Nat) (o : Option Nat) (fr tk lc : Nat) (wh : Int32) (f : Nat → Int32) (hf : RB f L) (n : Nat) (hc : isCh (nI n)) (hn : n < 1114112) (hL : L.length ≤ 3000) (ho : ∀ i, o = some i → i < 5) : MetDi l dC dI cB cK d0 hk h0 hB ad sz y_D_text b_D_text 2 .boolean ({ frames := 4, cells := 0, slots := 0, locals := 85 }) [.int (nI n)] (L, o, fr, tk, lc, wh) f (fun r u => if o = some 4 then (if L.length + bofN n + 1 ≤ 3000 then r = 1 ∧ u = addF n (L, o, fr, tk, lc, wh) else r = 0 ∧ u = (L, o, fr, tk, lc, wh)) else (if L.length + (enN o + 1 + bofN n) + 1 ≤ 3000 then r = 1 ∧ u = addF n (begF 4 (L, o, fr, tk, lc, wh)) else r = 0 ∧ u = (L, o, fr, tk, lc, wh))) := by
  refine enter (Qf := fun A => va_Qi (fun r (z : LSt × (Nat → Int32)) => (fun r u => if o = some 4 then (if L.length + bofN n + 1 ≤ 3000 then r = 1 ∧ u = addF n (L, o, fr, tk, lc, wh) else r = 0 ∧ u = (L, o, fr, tk, lc, wh)) else (if L.length + (enN o + 1 + bofN n) + 1 ≤ 3000 then r = 1 ∧ u = addF n (begF 4 (L, o, fr, tk, lc, wh)) else r = 0 ∧ u = (L, o, fr, tk, lc, wh))) r z.1 ∧ RB z.2 z.1.1) (PW dC dI A (fun z => wD d0 hk h0 hB cB cK ad z.1 z.2)) A) (by decide) (Nat.le_of_ble_eq_true rfl) ?_
  intro p e s m below meth c A ls C0 hsz hA hK hP hD hS hX hl
  obtain ⟨hx, hb, hr, hml, hown, hlk, hnm, hts⟩ := id C0
  have hl : lv_has ls 2 [(0, .ref d0), (1, .int (nI n))] := hl
  have hP : va_P (dC, dI) classes [(d0, .inr (1, [.ref hk, .ref h0])), (hk, .inl (cK, 5, .inr (.inr (.inr (.inr (kf ad)))))), (h0, .inr (0, [.ref hB, va_re ad o, .int (nI L.length), .int (nI fr), .int (nI tk), .int (nI lc), .int wh])), (hB, .inl (cB, 3000, .inl f))] s.heap := hP
  have hD : va_D A [(d0, .inr (1, [.ref hk, .ref h0])), (hk, .inl (cK, 5, .inr (.inr (.inr (.inr (kf ad)))))), (h0, .inr (0, [.ref hB, va_re ad o, .int (nI L.length), .int (nI fr), .int (nI tk), .int (nI lc), .int wh])), (hB, .inl (cB, 3000, .inl f))] := hD
  refine lv_iload_n hx hb d_D_text_0 rfl (lv_at hl 1 rfl) ?_
  refine gcall_s (As := [.int (nI n)]) (rest := []) C0 g_D_35 (c_D_isChT l (nI n) hc) ⟨Nat.le_of_ble_eq_true rfl, Nat.le_of_ble_eq_true rfl⟩ ⟨rfl, rfl⟩ ⟨Nat.zero_le _, Nat.zero_le _⟩ d_D_text_1 rfl rfl (Nat.le_of_ble_eq_true rfl) hl.1 ?_
  refine lq_if_eq hx hb (by omega) (tgt := 22) d_D_text_4 (by decide) (fun c_1 => ?_) (fun c_1 => ?_)
  · exact absurd c_1 (by decide)
  · refine lv_aload_n hx hb d_D_text_7 rfl (lv_at hl 0 rfl) ?_
    refine va_get (D := (dC, dI)) (ci := 1) (v := .ref h0) (C := R_D) (T := F_D) (N := 2) hx hb hts i_D hown hK hP 0 rfl rfl 1 (by decide) (hts _ m_62) (fun _ h9 => h9) rfl d_D_text_8 ?_
    refine lv_iload_n hx hb d_D_text_11 rfl (lv_at hl 1 rfl) ?_
    refine gcall_i (q0 := 0) (wr := [(d0, .inr (1, [.ref hk, .ref h0])), (hk, .inl (cK, 5, .inr (.inr (.inr (.inr (kf ad))))))]) (As := [.int (nI n)]) (rest := []) C0 g_D_49 (c_L_text l dC dI cB h0 hB ad s.heap.size L o fr tk lc wh f hf n hn hL ho) ⟨Nat.le_of_ble_eq_true rfl, Nat.le_of_ble_eq_true rfl⟩ ⟨rfl, rfl⟩ ⟨Nat.zero_le _, Nat.zero_le _⟩ d_D_text_12 rfl rfl (Nat.le_of_ble_eq_true rfl) hl.1 hK hP hD hS hA [2, 3] [0, 1] [0] rfl (by decide) rfl (by decide) (by decide) rfl rfl rfl KX.blind (KX.call hX hS) (fun r u H locs hw hP hD hS => ?_)
    obtain ⟨u, f⟩ := u
    dsimp only at hw
    obtain ⟨hw, hf⟩ := hw
    have hr9 : (r = 1 ∨ r = 0) := by split at hw <;> split at hw <;> first | exact Or.inl hw.1 | exact Or.inr hw.1
    rcases hr9 with rfl | rfl
    · refine lx_i (y := nI 1) (rfl) ?_
      refine lq_if_eq hx hb (by omega) (tgt := 22) d_D_text_15 (by decide) (fun c_2 => ?_) (fun c_2 => ?_)
      · exact absurd c_2 (by decide)
      · refine lv_iconst (v := nI 1) hx hb d_D_text_18 (by decide) ?_
        refine lv_goto (tgt := 23) hx hb d_D_text_19 (by decide) ?_
        exact ret_i C0 hS d_D_text_23 rfl (u, f) ⟨hw, hf⟩ hP hD
    · refine lx_i (y := nI 0) (rfl) ?_
      refine lq_if_eq hx hb (by omega) (tgt := 22) d_D_text_15 (by decide) (fun c_3 => ?_) (fun c_3 => ?_)
      · refine lv_iconst (v := nI 0) hx hb d_D_text_22 (by decide) ?_
        exact ret_i C0 hS d_D_text_23 rfl (u, f) ⟨hw, hf⟩ hP hD
      · exact absurd rfl c_3
set_option maxHeartbeats 4000000 in
set_option maxRecDepth 100000 in
theorem c_D_end (l : Launch) (dC : Nat → ClassId) (dI : Nat → Nat → Nat) (cB cK : ClassId) (d0 hk h0 hB : Nat) (ad : Nat → Nat) (sz : Nat) (L : List Nat) (o : Option Nat) (fr tk lc : Nat) (wh : Int32) (f : Nat → Int32) (hf : RB f L) (hn : o ≠ none → L.length < 3000) (ho : ∀ i, o = some i → i < 5) : MetDi l dC dI cB cK d0 hk h0 hB ad sz y_D_end b_D_end 2 .int ({ frames := 2, cells := 0, slots := 0, locals := 41 }) [] (L, o, fr, tk, lc, wh) f (fun r u => r = kI o ∧ u = endF (L, o, fr, tk, lc, wh)) := by
  refine enter (Qf := fun A => va_Qi (fun r (z : LSt × (Nat → Int32)) => (fun r u => r = kI o ∧ u = endF (L, o, fr, tk, lc, wh)) r z.1 ∧ RB z.2 z.1.1) (PW dC dI A (fun z => wD d0 hk h0 hB cB cK ad z.1 z.2)) A) (by decide) (Nat.le_of_ble_eq_true rfl) ?_
  intro p e s m below meth c A ls C0 hsz hA hK hP hD hS hX hl
  obtain ⟨hx, hb, hr, hml, hown, hlk, hnm, hts⟩ := id C0
  have hl : lv_has ls 2 [(0, .ref d0)] := hl
  have hP : va_P (dC, dI) classes [(d0, .inr (1, [.ref hk, .ref h0])), (hk, .inl (cK, 5, .inr (.inr (.inr (.inr (kf ad)))))), (h0, .inr (0, [.ref hB, va_re ad o, .int (nI L.length), .int (nI fr), .int (nI tk), .int (nI lc), .int wh])), (hB, .inl (cB, 3000, .inl f))] s.heap := hP
  have hD : va_D A [(d0, .inr (1, [.ref hk, .ref h0])), (hk, .inl (cK, 5, .inr (.inr (.inr (.inr (kf ad)))))), (h0, .inr (0, [.ref hB, va_re ad o, .int (nI L.length), .int (nI fr), .int (nI tk), .int (nI lc), .int wh])), (hB, .inl (cB, 3000, .inl f))] := hD
  cases o with
  | none =>
    have hP : va_P (dC, dI) classes [(d0, .inr (1, [.ref hk, .ref h0])), (hk, .inl (cK, 5, .inr (.inr (.inr (.inr (kf ad)))))), (h0, .inr (0, [.ref hB, .null, .int (nI L.length), .int (nI fr), .int (nI tk), .int (nI lc), .int wh])), (hB, .inl (cB, 3000, .inl f))] s.heap := hP
    have hD : va_D A [(d0, .inr (1, [.ref hk, .ref h0])), (hk, .inl (cK, 5, .inr (.inr (.inr (.inr (kf ad)))))), (h0, .inr (0, [.ref hB, .null, .int (nI L.length), .int (nI fr), .int (nI tk), .int (nI lc), .int wh])), (hB, .inl (cB, 3000, .inl f))] := hD
    refine lv_aload_n hx hb d_D_end_0 rfl (lv_at hl 0 rfl) ?_
    refine va_get (D := (dC, dI)) (ci := 1) (v := .ref h0) (C := R_D) (T := F_D) (N := 2) hx hb hts i_D hown hK hP 0 rfl rfl 1 (by decide) (hts _ m_62) (fun _ h9 => h9) rfl d_D_end_1 ?_
    refine va_getN (D := (dC, dI)) (ci := 0) (v := .null) (C := R_L) (T := F_L) (N := 7) hx hb hts i_L hown hK hP 2 rfl rfl 1 (by decide) (KX.nw35 hX) (fun _ h9 => h9) rfl d_D_end_4 ?_
    refine lv_ifnonnullN hx hb d_D_end_7 ?_
    refine lv_iconst (v := -1) hx hb d_D_end_10 (by decide) ?_
    exact ret_i C0 hS d_D_end_11 rfl ((L, none, fr, tk, lc, wh), f) ⟨⟨rfl, rfl⟩, hf⟩ hP hD
  | some i =>
    have hi := ho i rfl
    have hP : va_P (dC, dI) classes [(d0, .inr (1, [.ref hk, .ref h0])), (hk, .inl (cK, 5, .inr (.inr (.inr (.inr (kf ad)))))), (h0, .inr (0, [.ref hB, .ref (ad i), .int (nI L.length), .int (nI fr), .int (nI tk), .int (nI lc), .int wh])), (hB, .inl (cB, 3000, .inl f))] s.heap := hP
    have hD : va_D A [(d0, .inr (1, [.ref hk, .ref h0])), (hk, .inl (cK, 5, .inr (.inr (.inr (.inr (kf ad)))))), (h0, .inr (0, [.ref hB, .ref (ad i), .int (nI L.length), .int (nI fr), .int (nI tk), .int (nI lc), .int wh])), (hB, .inl (cB, 3000, .inl f))] := hD
    refine lv_aload_n hx hb d_D_end_0 rfl (lv_at hl 0 rfl) ?_
    refine va_get (D := (dC, dI)) (ci := 1) (v := .ref h0) (C := R_D) (T := F_D) (N := 2) hx hb hts i_D hown hK hP 0 rfl rfl 1 (by decide) (hts _ m_62) (fun _ h9 => h9) rfl d_D_end_1 ?_
    refine va_getN (D := (dC, dI)) (ci := 0) (v := .ref (ad i)) (C := R_L) (T := F_L) (N := 7) hx hb hts i_L hown hK hP 2 rfl rfl 1 (by decide) (KX.nw35 hX) (fun _ h9 => h9) rfl d_D_end_4 ?_
    refine lv_ifnonnull (tgt := 12) hx hb d_D_end_7 (by decide) ?_
    refine lv_aload_n hx hb d_D_end_12 rfl (lv_at hl 0 rfl) ?_
    refine va_get (D := (dC, dI)) (ci := 1) (v := .ref h0) (C := R_D) (T := F_D) (N := 2) hx hb hts i_D hown hK hP 0 rfl rfl 1 (by decide) (hts _ m_62) (fun _ h9 => h9) rfl d_D_end_13 ?_
    refine va_getN (D := (dC, dI)) (ci := 0) (v := .ref (ad i)) (C := R_L) (T := F_L) (N := 7) hx hb hts i_L hown hK hP 2 rfl rfl 1 (by decide) (KX.nw35 hX) (fun _ h9 => h9) rfl d_D_end_16 ?_
    refine callOrd hi C0 rfl hX hS ⟨Nat.le_of_ble_eq_true rfl, Nat.le_of_ble_eq_true rfl⟩ ⟨Nat.zero_le _, Nat.zero_le _⟩ d_D_end_19 (Nat.le_of_ble_eq_true rfl) hl.1 ?_
    refine lv_istore_n (lv' := [(1, .int (nI i)), (0, .ref d0)]) hx hb d_D_end_22 rfl hl (by decide) rfl (fun ls hl => ?_)
    refine lv_aload_n hx hb d_D_end_23 rfl (lv_at hl 1 rfl) ?_
    refine va_get (D := (dC, dI)) (ci := 1) (v := .ref h0) (C := R_D) (T := F_D) (N := 2) hx hb hts i_D hown hK hP 0 rfl rfl 1 (by decide) (hts _ m_62) (fun _ h9 => h9) rfl d_D_end_24 ?_
    refine gcall_v (q0 := 0) (wr := [(d0, .inr (1, [.ref hk, .ref h0])), (hk, .inl (cK, 5, .inr (.inr (.inr (.inr (kf ad))))))]) (As := []) (rest := []) C0 g_D_56 (c_L_end l dC dI cB h0 hB ad s.heap.size L (some i) fr tk lc wh f hf hn) ⟨Nat.le_of_ble_eq_true rfl, Nat.le_of_ble_eq_true rfl⟩ ⟨rfl, rfl⟩ ⟨Nat.zero_le _, Nat.zero_le _⟩ d_D_end_27 rfl rfl (Nat.le_of_ble_eq_true rfl) hl.1 hK hP hD hS hA [2, 3] [0, 1] [0] rfl (by decide) rfl (by decide) (by decide) rfl rfl rfl (fun _ _ _ _ _ _ => trivial) (fun _ _ _ _ _ => trivial) (fun u H locs hw hP hD hS => ?_)
    obtain ⟨u, f⟩ := u
    dsimp only at hw
    obtain ⟨rfl, hf⟩ := hw
    refine lv_iload_n hx hb d_D_end_30 rfl (lv_at hl 0 rfl) ?_
    exact ret_i C0 hS d_D_end_31 rfl (endF (L, some i, fr, tk, lc, wh), f) ⟨⟨rfl, rfl⟩, hf⟩ hP hD
set_option maxHeartbeats 4000000 in
set_option maxRecDepth 100000 in
theorem c_D_backOut (l : Launch) (dC : Nat → ClassId) (dI : Nat → Nat → Nat) (cB cK : ClassId) (d0 hk h0 hB : Nat) (ad : Nat → Nat) (sz : Nat) (L : List Nat) (o : Option Nat) (fr tk lc : Nat) (wh : Int32) (f : Nat → Int32) (hf : RB f L) (x : Int32) (hx1 : x < nI tk ∨ nI (tk + L.length) < x) : MetDi l dC dI cB cK d0 hk h0 hB ad sz y_D_back b_D_back 2 .boolean ({ frames := 1, cells := 0, slots := 0, locals := 24 }) [.int x] (L, o, fr, tk, lc, wh) f (fun r u => r = 0 ∧ u = (L, o, fr, tk, lc, wh)) := by
  refine enter (Qf := fun A => va_Qi (fun r (z : LSt × (Nat → Int32)) => (fun r u => r = 0 ∧ u = (L, o, fr, tk, lc, wh)) r z.1 ∧ RB z.2 z.1.1) (PW dC dI A (fun z => wD d0 hk h0 hB cB cK ad z.1 z.2)) A) (by decide) (Nat.le_of_ble_eq_true rfl) ?_
  intro p e s m below meth c A ls C0 hsz hA hK hP hD hS hX hl
  obtain ⟨hx, hb, hr, hml, hown, hlk, hnm, hts⟩ := id C0
  have hl : lv_has ls 2 [(0, .ref d0), (1, .int x)] := hl
  have hP : va_P (dC, dI) classes [(d0, .inr (1, [.ref hk, .ref h0])), (hk, .inl (cK, 5, .inr (.inr (.inr (.inr (kf ad)))))), (h0, .inr (0, [.ref hB, va_re ad o, .int (nI L.length), .int (nI fr), .int (nI tk), .int (nI lc), .int wh])), (hB, .inl (cB, 3000, .inl f))] s.heap := hP
  have hD : va_D A [(d0, .inr (1, [.ref hk, .ref h0])), (hk, .inl (cK, 5, .inr (.inr (.inr (.inr (kf ad)))))), (h0, .inr (0, [.ref hB, va_re ad o, .int (nI L.length), .int (nI fr), .int (nI tk), .int (nI lc), .int wh])), (hB, .inl (cB, 3000, .inl f))] := hD
  refine lv_aload_n hx hb d_D_back_0 rfl (lv_at hl 0 rfl) ?_
  refine va_get (D := (dC, dI)) (ci := 1) (v := .ref h0) (C := R_D) (T := F_D) (N := 2) hx hb hts i_D hown hK hP 0 rfl rfl 1 (by decide) (hts _ m_62) (fun _ h9 => h9) rfl d_D_back_1 ?_
  refine lv_iload_n hx hb d_D_back_4 rfl (lv_at hl 1 rfl) ?_
  refine gcall_i (q0 := 0) (wr := [(d0, .inr (1, [.ref hk, .ref h0])), (hk, .inl (cK, 5, .inr (.inr (.inr (.inr (kf ad))))))]) (As := [.int x]) (rest := []) C0 g_D_59 (c_L_backOut l dC dI cB h0 hB ad s.heap.size L o fr tk lc wh f hf x hx1) ⟨Nat.le_of_ble_eq_true rfl, Nat.le_of_ble_eq_true rfl⟩ ⟨rfl, rfl⟩ ⟨Nat.zero_le _, Nat.zero_le _⟩ d_D_back_5 rfl rfl (Nat.le_of_ble_eq_true rfl) hl.1 hK hP hD hS hA [2, 3] [0, 1] [0] rfl (by decide) rfl (by decide) (by decide) rfl rfl rfl (fun _ _ _ _ _ _ => trivial) (fun _ _ _ _ _ => trivial) (fun r u H locs hw hP hD hS => ?_)
  obtain ⟨u, f⟩ := u
  dsimp only at hw
  obtain ⟨⟨rfl, rfl⟩, hf⟩ := hw
  exact ret_i C0 hS d_D_back_8 rfl ((L, o, fr, tk, lc, wh), f) ⟨⟨rfl, rfl⟩, hf⟩ hP hD
set_option maxHeartbeats 4000000 in
set_option maxRecDepth 100000 in
theorem c_D_backIn (l : Launch) (dC : Nat → ClassId) (dI : Nat → Nat → Nat) (cB cK : ClassId) (d0 hk h0 hB : Nat) (ad : Nat → Nat) (sz : Nat) (L : List Nat) (o : Option Nat) (fr tk lc : Nat) (wh : Int32) (f : Nat → Int32) (hf : RB f L) (to : Nat) (hto : to ≤ L.length) (hL : L.length ≤ 3000) (htk : tk < 1000000) (h8 : B8 L) (hfr : fr ≤ L.length) (hlc : c10 ((L.take fr).drop to) ≤ lc) : MetDi l dC dI cB cK d0 hk h0 hB ad sz y_D_back b_D_back 2 .boolean ({ frames := 1, cells := 0, slots := 0, locals := 24 }) [.int (nI (tk + to))] (L, o, fr, tk, lc, wh) f (fun r u => if (to = 0 ∧ ¬ wh = 0) ∨ (¬ to = 0 ∧ L.getD (to - 1) 0 = 10) then r = 1 ∧ u = (L.take to, none, to, tk, lc - c10 ((L.take fr).drop to), wh) else r = 0 ∧ u = (L, o, fr, tk, lc, wh)) := by
  refine enter (Qf := fun A => va_Qi (fun r (z : LSt × (Nat → Int32)) => (fun r u => if (to = 0 ∧ ¬ wh = 0) ∨ (¬ to = 0 ∧ L.getD (to - 1) 0 = 10) then r = 1 ∧ u = (L.take to, none, to, tk, lc - c10 ((L.take fr).drop to), wh) else r = 0 ∧ u = (L, o, fr, tk, lc, wh)) r z.1 ∧ RB z.2 z.1.1) (PW dC dI A (fun z => wD d0 hk h0 hB cB cK ad z.1 z.2)) A) (by decide) (Nat.le_of_ble_eq_true rfl) ?_
  intro p e s m below meth c A ls C0 hsz hA hK hP hD hS hX hl
  obtain ⟨hx, hb, hr, hml, hown, hlk, hnm, hts⟩ := id C0
  have hl : lv_has ls 2 [(0, .ref d0), (1, .int (nI (tk + to)))] := hl
  have hP : va_P (dC, dI) classes [(d0, .inr (1, [.ref hk, .ref h0])), (hk, .inl (cK, 5, .inr (.inr (.inr (.inr (kf ad)))))), (h0, .inr (0, [.ref hB, va_re ad o, .int (nI L.length), .int (nI fr), .int (nI tk), .int (nI lc), .int wh])), (hB, .inl (cB, 3000, .inl f))] s.heap := hP
  have hD : va_D A [(d0, .inr (1, [.ref hk, .ref h0])), (hk, .inl (cK, 5, .inr (.inr (.inr (.inr (kf ad)))))), (h0, .inr (0, [.ref hB, va_re ad o, .int (nI L.length), .int (nI fr), .int (nI tk), .int (nI lc), .int wh])), (hB, .inl (cB, 3000, .inl f))] := hD
  refine lv_aload_n hx hb d_D_back_0 rfl (lv_at hl 0 rfl) ?_
  refine va_get (D := (dC, dI)) (ci := 1) (v := .ref h0) (C := R_D) (T := F_D) (N := 2) hx hb hts i_D hown hK hP 0 rfl rfl 1 (by decide) (hts _ m_62) (fun _ h9 => h9) rfl d_D_back_1 ?_
  refine lv_iload_n hx hb d_D_back_4 rfl (lv_at hl 1 rfl) ?_
  refine gcall_i (q0 := 0) (wr := [(d0, .inr (1, [.ref hk, .ref h0])), (hk, .inl (cK, 5, .inr (.inr (.inr (.inr (kf ad))))))]) (As := [.int (nI (tk + to))]) (rest := []) C0 g_D_59 (c_L_backIn l dC dI cB h0 hB ad s.heap.size L o fr tk lc wh f hf to hto hL htk h8 hfr hlc) ⟨Nat.le_of_ble_eq_true rfl, Nat.le_of_ble_eq_true rfl⟩ ⟨rfl, rfl⟩ ⟨Nat.zero_le _, Nat.zero_le _⟩ d_D_back_5 rfl rfl (Nat.le_of_ble_eq_true rfl) hl.1 hK hP hD hS hA [2, 3] [0, 1] [0] rfl (by decide) rfl (by decide) (by decide) rfl rfl rfl (fun _ _ _ _ _ _ => trivial) (fun _ _ _ _ _ => trivial) (fun r u H locs hw hP hD hS => ?_)
  obtain ⟨u, f⟩ := u
  dsimp only at hw
  obtain ⟨hw, hf⟩ := hw
  have hr9 : (r = 1 ∨ r = 0) := by split at hw; exact Or.inl hw.1; exact Or.inr hw.1
  rcases hr9 with rfl | rfl
  · exact ret_i C0 hS d_D_back_8 rfl (u, f) ⟨hw, hf⟩ hP hD
  · exact ret_i C0 hS d_D_back_8 rfl (u, f) ⟨hw, hf⟩ hP hD
set_option maxHeartbeats 4000000 in
set_option maxRecDepth 100000 in
theorem c_D_mark (l : Launch) (dC : Nat → ClassId) (dI : Nat → Nat → Nat) (cB cK : ClassId) (d0 hk h0 hB : Nat) (ad : Nat → Nat) (sz : Nat) (L : List Nat) (o : Option Nat) (fr tk lc : Nat) (wh : Int32) (f : Nat → Int32) (hf : RB f L)  : MetDi l dC dI cB cK d0 hk h0 hB ad sz y_D_mark b_D_mark 1 .int ({ frames := 1, cells := 0, slots := 0, locals := 20 }) [] (L, o, fr, tk, lc, wh) f (fun r u => r = (if o = none then nI (tk + L.length) else -1) ∧ u = (L, o, fr, tk, lc, wh)) := by
  refine enter (Qf := fun A => va_Qi (fun r (z : LSt × (Nat → Int32)) => (fun r u => r = (if o = none then nI (tk + L.length) else -1) ∧ u = (L, o, fr, tk, lc, wh)) r z.1 ∧ RB z.2 z.1.1) (PW dC dI A (fun z => wD d0 hk h0 hB cB cK ad z.1 z.2)) A) (by decide) (Nat.le_of_ble_eq_true rfl) ?_
  intro p e s m below meth c A ls C0 hsz hA hK hP hD hS hX hl
  obtain ⟨hx, hb, hr, hml, hown, hlk, hnm, hts⟩ := id C0
  have hl : lv_has ls 1 [(0, .ref d0)] := hl
  have hP : va_P (dC, dI) classes [(d0, .inr (1, [.ref hk, .ref h0])), (hk, .inl (cK, 5, .inr (.inr (.inr (.inr (kf ad)))))), (h0, .inr (0, [.ref hB, va_re ad o, .int (nI L.length), .int (nI fr), .int (nI tk), .int (nI lc), .int wh])), (hB, .inl (cB, 3000, .inl f))] s.heap := hP
  have hD : va_D A [(d0, .inr (1, [.ref hk, .ref h0])), (hk, .inl (cK, 5, .inr (.inr (.inr (.inr (kf ad)))))), (h0, .inr (0, [.ref hB, va_re ad o, .int (nI L.length), .int (nI fr), .int (nI tk), .int (nI lc), .int wh])), (hB, .inl (cB, 3000, .inl f))] := hD
  cases o with
  | none =>
    have hP : va_P (dC, dI) classes [(d0, .inr (1, [.ref hk, .ref h0])), (hk, .inl (cK, 5, .inr (.inr (.inr (.inr (kf ad)))))), (h0, .inr (0, [.ref hB, .null, .int (nI L.length), .int (nI fr), .int (nI tk), .int (nI lc), .int wh])), (hB, .inl (cB, 3000, .inl f))] s.heap := hP
    have hD : va_D A [(d0, .inr (1, [.ref hk, .ref h0])), (hk, .inl (cK, 5, .inr (.inr (.inr (.inr (kf ad)))))), (h0, .inr (0, [.ref hB, .null, .int (nI L.length), .int (nI fr), .int (nI tk), .int (nI lc), .int wh])), (hB, .inl (cB, 3000, .inl f))] := hD
    refine lv_aload_n hx hb d_D_mark_0 rfl (lv_at hl 0 rfl) ?_
    refine va_get (D := (dC, dI)) (ci := 1) (v := .ref h0) (C := R_D) (T := F_D) (N := 2) hx hb hts i_D hown hK hP 0 rfl rfl 1 (by decide) (hts _ m_62) (fun _ h9 => h9) rfl d_D_mark_1 ?_
    refine va_getN (D := (dC, dI)) (ci := 0) (v := .null) (C := R_L) (T := F_L) (N := 7) hx hb hts i_L hown hK hP 2 rfl rfl 1 (by decide) (KX.nw35 hX) (fun _ h9 => h9) rfl d_D_mark_4 ?_
    refine lv_ifnonnullN hx hb d_D_mark_7 ?_
    refine lv_aload_n hx hb d_D_mark_10 rfl (lv_at hl 0 rfl) ?_
    refine va_get (D := (dC, dI)) (ci := 1) (v := .ref h0) (C := R_D) (T := F_D) (N := 2) hx hb hts i_D hown hK hP 0 rfl rfl 1 (by decide) (hts _ m_62) (fun _ h9 => h9) rfl d_D_mark_11 ?_
    refine gcall_i (q0 := 0) (wr := [(d0, .inr (1, [.ref hk, .ref h0])), (hk, .inl (cK, 5, .inr (.inr (.inr (.inr (kf ad))))))]) (As := []) (rest := []) C0 g_D_62 (c_L_mark l dC dI cB h0 hB ad s.heap.size L none fr tk lc wh f hf) ⟨Nat.le_of_ble_eq_true rfl, Nat.le_of_ble_eq_true rfl⟩ ⟨rfl, rfl⟩ ⟨Nat.zero_le _, Nat.zero_le _⟩ d_D_mark_14 rfl rfl (Nat.le_of_ble_eq_true rfl) hl.1 hK hP hD hS hA [2, 3] [0, 1] [0] rfl (by decide) rfl (by decide) (by decide) rfl rfl rfl (fun _ _ _ _ _ _ => trivial) (fun _ _ _ _ _ => trivial) (fun r u H locs hw hP hD hS => ?_)
    obtain ⟨u, f⟩ := u
    dsimp only at hw
    obtain ⟨⟨rfl, rfl⟩, hf⟩ := hw
    refine lv_goto (tgt := 21) hx hb d_D_mark_17 (by decide) ?_
    exact ret_i C0 hS d_D_mark_21 rfl ((L, none, fr, tk, lc, wh), f) ⟨⟨by rw [if_pos rfl], rfl⟩, hf⟩ hP hD
  | some i =>
    have hP : va_P (dC, dI) classes [(d0, .inr (1, [.ref hk, .ref h0])), (hk, .inl (cK, 5, .inr (.inr (.inr (.inr (kf ad)))))), (h0, .inr (0, [.ref hB, .ref (ad i), .int (nI L.length), .int (nI fr), .int (nI tk), .int (nI lc), .int wh])), (hB, .inl (cB, 3000, .inl f))] s.heap := hP
    have hD : va_D A [(d0, .inr (1, [.ref hk, .ref h0])), (hk, .inl (cK, 5, .inr (.inr (.inr (.inr (kf ad)))))), (h0, .inr (0, [.ref hB, .ref (ad i), .int (nI L.length), .int (nI fr), .int (nI tk), .int (nI lc), .int wh])), (hB, .inl (cB, 3000, .inl f))] := hD
    refine lv_aload_n hx hb d_D_mark_0 rfl (lv_at hl 0 rfl) ?_
    refine va_get (D := (dC, dI)) (ci := 1) (v := .ref h0) (C := R_D) (T := F_D) (N := 2) hx hb hts i_D hown hK hP 0 rfl rfl 1 (by decide) (hts _ m_62) (fun _ h9 => h9) rfl d_D_mark_1 ?_
    refine va_getN (D := (dC, dI)) (ci := 0) (v := .ref (ad i)) (C := R_L) (T := F_L) (N := 7) hx hb hts i_L hown hK hP 2 rfl rfl 1 (by decide) (KX.nw35 hX) (fun _ h9 => h9) rfl d_D_mark_4 ?_
    refine lv_ifnonnull (tgt := 20) hx hb d_D_mark_7 (by decide) ?_
    refine lv_iconst (v := -1) hx hb d_D_mark_20 (by decide) ?_
    exact ret_i C0 hS d_D_mark_21 rfl ((L, some i, fr, tk, lc, wh), f) ⟨⟨by rw [if_neg (by simp)], rfl⟩, hf⟩ hP hD
set_option maxHeartbeats 4000000 in
set_option maxRecDepth 100000 in
theorem c_D_take (l : Launch) (dC : Nat → ClassId) (dI : Nat → Nat → Nat) (cB cK : ClassId) (d0 hk h0 hB : Nat) (ad : Nat → Nat) (sz : Nat) (L : List Nat) (o : Option Nat) (fr tk lc : Nat) (wh : Int32) (f : Nat → Int32) (hf : RB f L) (n : Nat) (hn : n = min 7 fr) (hL : L.length ≤ 3000) (hfr : fr ≤ L.length) (h8 : B8 L) : MetDl l dC dI cB cK d0 hk h0 hB ad sz y_D_take b_D_take 1 ({ frames := 2, cells := 0, slots := 0, locals := 45 }) [] (L, o, fr, tk, lc, wh) f (fun r u => r = takeR L n ∧ u = (L.drop n, o, fr - n, tk + n, lc, takeW L n wh)) := by
  refine enter (Qf := fun A => va_Ql (fun r (z : LSt × (Nat → Int32)) => (fun r u => r = takeR L n ∧ u = (L.drop n, o, fr - n, tk + n, lc, takeW L n wh)) r z.1 ∧ RB z.2 z.1.1) (PW dC dI A (fun z => wD d0 hk h0 hB cB cK ad z.1 z.2)) A) (by decide) (Nat.le_of_ble_eq_true rfl) ?_
  intro p e s m below meth c A ls C0 hsz hA hK hP hD hS hX hl
  obtain ⟨hx, hb, hr, hml, hown, hlk, hnm, hts⟩ := id C0
  have hl : lv_has ls 1 [(0, .ref d0)] := hl
  have hP : va_P (dC, dI) classes [(d0, .inr (1, [.ref hk, .ref h0])), (hk, .inl (cK, 5, .inr (.inr (.inr (.inr (kf ad)))))), (h0, .inr (0, [.ref hB, va_re ad o, .int (nI L.length), .int (nI fr), .int (nI tk), .int (nI lc), .int wh])), (hB, .inl (cB, 3000, .inl f))] s.heap := hP
  have hD : va_D A [(d0, .inr (1, [.ref hk, .ref h0])), (hk, .inl (cK, 5, .inr (.inr (.inr (.inr (kf ad)))))), (h0, .inr (0, [.ref hB, va_re ad o, .int (nI L.length), .int (nI fr), .int (nI tk), .int (nI lc), .int wh])), (hB, .inl (cB, 3000, .inl f))] := hD
  refine lv_aload_n hx hb d_D_take_0 rfl (lv_at hl 0 rfl) ?_
  refine va_get (D := (dC, dI)) (ci := 1) (v := .ref h0) (C := R_D) (T := F_D) (N := 2) hx hb hts i_D hown hK hP 0 rfl rfl 1 (by decide) (hts _ m_62) (fun _ h9 => h9) rfl d_D_take_1 ?_
  refine gcall_l (q0 := 0) (wr := [(d0, .inr (1, [.ref hk, .ref h0])), (hk, .inl (cK, 5, .inr (.inr (.inr (.inr (kf ad))))))]) (As := []) (rest := []) C0 g_D_65 (c_L_take l dC dI cB h0 hB ad s.heap.size L o fr tk lc wh f hf n hn hL hfr h8) ⟨Nat.le_of_ble_eq_true rfl, Nat.le_of_ble_eq_true rfl⟩ ⟨rfl, rfl⟩ ⟨Nat.zero_le _, Nat.zero_le _⟩ d_D_take_4 rfl rfl (Nat.le_of_ble_eq_true rfl) hl.1 hK hP hD hS hA [2, 3] [0, 1] [0] rfl (by decide) rfl (by decide) (by decide) rfl rfl rfl (fun _ _ _ _ _ _ => trivial) (fun _ _ _ _ _ => trivial) (fun r u H locs hw hP hD hS => ?_)
  obtain ⟨u, f⟩ := u
  dsimp only at hw
  obtain ⟨⟨rfl, rfl⟩, hf⟩ := hw
  exact ret_l C0 hS d_D_take_7 ((L.drop n, o, fr - n, tk + n, lc, takeW L n wh), f) ⟨⟨rfl, rfl⟩, hf⟩ hP hD
set_option maxHeartbeats 4000000 in
set_option maxRecDepth 100000 in
theorem c_D_count (l : Launch) (dC : Nat → ClassId) (dI : Nat → Nat → Nat) (cB cK : ClassId) (d0 hk h0 hB : Nat) (ad : Nat → Nat) (sz : Nat) (L : List Nat) (o : Option Nat) (fr tk lc : Nat) (wh : Int32) (f : Nat → Int32) (hf : RB f L) (x : Int32) (hfr : fr ≤ L.length) (ho : ∀ i, o = some i → i < 5) : MetDi l dC dI cB cK d0 hk h0 hB ad sz y_D_count b_D_count 2 .int ({ frames := 1, cells := 0, slots := 0, locals := 20 }) [.int x] (L, o, fr, tk, lc, wh) f (fun r u => r = cntD x L o fr lc ∧ u = (L, o, fr, tk, lc, wh)) := by
  refine enter (Qf := fun A => va_Qi (fun r (z : LSt × (Nat → Int32)) => (fun r u => r = cntD x L o fr lc ∧ u = (L, o, fr, tk, lc, wh)) r z.1 ∧ RB z.2 z.1.1) (PW dC dI A (fun z => wD d0 hk h0 hB cB cK ad z.1 z.2)) A) (by decide) (Nat.le_of_ble_eq_true rfl) ?_
  intro p e s m below meth c A ls C0 hsz hA hK hP hD hS hX hl
  obtain ⟨hx, hb, hr, hml, hown, hlk, hnm, hts⟩ := id C0
  have hl : lv_has ls 2 [(0, .ref d0), (1, .int x)] := hl
  have hP : va_P (dC, dI) classes [(d0, .inr (1, [.ref hk, .ref h0])), (hk, .inl (cK, 5, .inr (.inr (.inr (.inr (kf ad)))))), (h0, .inr (0, [.ref hB, va_re ad o, .int (nI L.length), .int (nI fr), .int (nI tk), .int (nI lc), .int wh])), (hB, .inl (cB, 3000, .inl f))] s.heap := hP
  have hD : va_D A [(d0, .inr (1, [.ref hk, .ref h0])), (hk, .inl (cK, 5, .inr (.inr (.inr (.inr (kf ad)))))), (h0, .inr (0, [.ref hB, va_re ad o, .int (nI L.length), .int (nI fr), .int (nI tk), .int (nI lc), .int wh])), (hB, .inl (cB, 3000, .inl f))] := hD
  refine lv_iload_n hx hb d_D_count_0 rfl (lv_at hl 1 rfl) ?_
  by_cases q0 : x = 0
  · subst q0
    refine lv_tableIn (off := 31) (tgt := 32) hx hb d_D_count_1 (by decide) (by decide) (by decide) (by decide) ?_
    refine lv_aload_n hx hb d_D_count_32 rfl (lv_at hl 0 rfl) ?_
    refine va_get (D := (dC, dI)) (ci := 1) (v := .ref h0) (C := R_D) (T := F_D) (N := 2) hx hb hts i_D hown hK hP 0 rfl rfl 1 (by decide) (hts _ m_62) (fun _ h9 => h9) rfl d_D_count_33 ?_
    refine va_getN (D := (dC, dI)) (ci := 0) (v := .int (nI L.length)) (C := R_L) (T := F_L) (N := 7) hx hb hts i_L hown hK hP 2 rfl rfl 2 (by decide) (KX.nw38 hX) (fun _ h9 => h9) rfl d_D_count_36 ?_
    exact ret_i C0 hS d_D_count_39 rfl ((L, o, fr, tk, lc, wh), f) ⟨⟨by unfold cntD; rw [if_pos rfl], rfl⟩, hf⟩ hP hD
  · by_cases q1 : x = 1
    · subst q1
      refine lv_tableIn (off := 39) (tgt := 40) hx hb d_D_count_1 (by decide) (by decide) (by decide) (by decide) ?_
      refine lv_aload_n hx hb d_D_count_40 rfl (lv_at hl 0 rfl) ?_
      refine va_get (D := (dC, dI)) (ci := 1) (v := .ref h0) (C := R_D) (T := F_D) (N := 2) hx hb hts i_D hown hK hP 0 rfl rfl 1 (by decide) (hts _ m_62) (fun _ h9 => h9) rfl d_D_count_41 ?_
      refine va_getN (D := (dC, dI)) (ci := 0) (v := .int (nI lc)) (C := R_L) (T := F_L) (N := 7) hx hb hts i_L hown hK hP 2 rfl rfl 5 (by decide) (KX.nw43 hX) (fun _ h9 => h9) rfl d_D_count_44 ?_
      exact ret_i C0 hS d_D_count_47 rfl ((L, o, fr, tk, lc, wh), f) ⟨⟨by unfold cntD; rw [if_neg (by decide), if_pos rfl], rfl⟩, hf⟩ hP hD
    · by_cases q2 : x = 2
      · subst q2
        refine lv_tableIn (off := 47) (tgt := 48) hx hb d_D_count_1 (by decide) (by decide) (by decide) (by decide) ?_
        cases o with
        | none =>
          have hP : va_P (dC, dI) classes [(d0, .inr (1, [.ref hk, .ref h0])), (hk, .inl (cK, 5, .inr (.inr (.inr (.inr (kf ad)))))), (h0, .inr (0, [.ref hB, .null, .int (nI L.length), .int (nI fr), .int (nI tk), .int (nI lc), .int wh])), (hB, .inl (cB, 3000, .inl f))] s.heap := hP
          have hD : va_D A [(d0, .inr (1, [.ref hk, .ref h0])), (hk, .inl (cK, 5, .inr (.inr (.inr (.inr (kf ad)))))), (h0, .inr (0, [.ref hB, .null, .int (nI L.length), .int (nI fr), .int (nI tk), .int (nI lc), .int wh])), (hB, .inl (cB, 3000, .inl f))] := hD
          refine lv_aload_n hx hb d_D_count_48 rfl (lv_at hl 0 rfl) ?_
          refine va_get (D := (dC, dI)) (ci := 1) (v := .ref h0) (C := R_D) (T := F_D) (N := 2) hx hb hts i_D hown hK hP 0 rfl rfl 1 (by decide) (hts _ m_62) (fun _ h9 => h9) rfl d_D_count_49 ?_
          refine va_getN (D := (dC, dI)) (ci := 0) (v := .null) (C := R_L) (T := F_L) (N := 7) hx hb hts i_L hown hK hP 2 rfl rfl 1 (by decide) (KX.nw35 hX) (fun _ h9 => h9) rfl d_D_count_52 ?_
          refine lv_ifnonnullN hx hb d_D_count_55 ?_
          refine lv_iconst (v := -1) hx hb d_D_count_58 (by decide) ?_
          refine lv_goto (tgt := 72) hx hb d_D_count_59 (by decide) ?_
          exact ret_i C0 hS d_D_count_72 rfl ((L, none, fr, tk, lc, wh), f) ⟨⟨by unfold cntD; rw [if_neg (by decide), if_neg (by decide), if_pos rfl]; rfl, rfl⟩, hf⟩ hP hD
        | some i =>
          have hi := ho i rfl
          have hP : va_P (dC, dI) classes [(d0, .inr (1, [.ref hk, .ref h0])), (hk, .inl (cK, 5, .inr (.inr (.inr (.inr (kf ad)))))), (h0, .inr (0, [.ref hB, .ref (ad i), .int (nI L.length), .int (nI fr), .int (nI tk), .int (nI lc), .int wh])), (hB, .inl (cB, 3000, .inl f))] s.heap := hP
          have hD : va_D A [(d0, .inr (1, [.ref hk, .ref h0])), (hk, .inl (cK, 5, .inr (.inr (.inr (.inr (kf ad)))))), (h0, .inr (0, [.ref hB, .ref (ad i), .int (nI L.length), .int (nI fr), .int (nI tk), .int (nI lc), .int wh])), (hB, .inl (cB, 3000, .inl f))] := hD
          refine lv_aload_n hx hb d_D_count_48 rfl (lv_at hl 0 rfl) ?_
          refine va_get (D := (dC, dI)) (ci := 1) (v := .ref h0) (C := R_D) (T := F_D) (N := 2) hx hb hts i_D hown hK hP 0 rfl rfl 1 (by decide) (hts _ m_62) (fun _ h9 => h9) rfl d_D_count_49 ?_
          refine va_getN (D := (dC, dI)) (ci := 0) (v := .ref (ad i)) (C := R_L) (T := F_L) (N := 7) hx hb hts i_L hown hK hP 2 rfl rfl 1 (by decide) (KX.nw35 hX) (fun _ h9 => h9) rfl d_D_count_52 ?_
          refine lv_ifnonnull (tgt := 62) hx hb d_D_count_55 (by decide) ?_
          refine lv_aload_n hx hb d_D_count_62 rfl (lv_at hl 0 rfl) ?_
          refine va_get (D := (dC, dI)) (ci := 1) (v := .ref h0) (C := R_D) (T := F_D) (N := 2) hx hb hts i_D hown hK hP 0 rfl rfl 1 (by decide) (hts _ m_62) (fun _ h9 => h9) rfl d_D_count_63 ?_
          refine va_getN (D := (dC, dI)) (ci := 0) (v := .ref (ad i)) (C := R_L) (T := F_L) (N := 7) hx hb hts i_L hown hK hP 2 rfl rfl 1 (by decide) (KX.nw35 hX) (fun _ h9 => h9) rfl d_D_count_66 ?_
          refine callOrd hi C0 rfl hX hS ⟨Nat.le_of_ble_eq_true rfl, Nat.le_of_ble_eq_true rfl⟩ ⟨Nat.zero_le _, Nat.zero_le _⟩ d_D_count_69 (Nat.le_of_ble_eq_true rfl) hl.1 ?_
          exact ret_i C0 hS d_D_count_72 rfl ((L, some i, fr, tk, lc, wh), f) ⟨⟨by unfold cntD; rw [if_neg (by decide), if_neg (by decide), if_pos rfl]; rfl, rfl⟩, hf⟩ hP hD
      · by_cases q3 : x = 3
        · subst q3
          refine lv_tableIn (off := 72) (tgt := 73) hx hb d_D_count_1 (by decide) (by decide) (by decide) (by decide) ?_
          refine lv_aload_n hx hb d_D_count_73 rfl (lv_at hl 0 rfl) ?_
          refine va_get (D := (dC, dI)) (ci := 1) (v := .ref h0) (C := R_D) (T := F_D) (N := 2) hx hb hts i_D hown hK hP 0 rfl rfl 1 (by decide) (hts _ m_62) (fun _ h9 => h9) rfl d_D_count_74 ?_
          refine va_getN (D := (dC, dI)) (ci := 0) (v := .int (nI L.length)) (C := R_L) (T := F_L) (N := 7) hx hb hts i_L hown hK hP 2 rfl rfl 2 (by decide) (KX.nw38 hX) (fun _ h9 => h9) rfl d_D_count_77 ?_
          refine lv_aload_n hx hb d_D_count_80 rfl (lv_at hl 0 rfl) ?_
          refine va_get (D := (dC, dI)) (ci := 1) (v := .ref h0) (C := R_D) (T := F_D) (N := 2) hx hb hts i_D hown hK hP 0 rfl rfl 1 (by decide) (hts _ m_62) (fun _ h9 => h9) rfl d_D_count_81 ?_
          refine va_getN (D := (dC, dI)) (ci := 0) (v := .int (nI fr)) (C := R_L) (T := F_L) (N := 7) hx hb hts i_L hown hK hP 2 rfl rfl 3 (by decide) (KX.nw40 hX) (fun _ h9 => h9) rfl d_D_count_84 ?_
          refine lq_sub hx hb (by omega) d_D_count_87 ?_
          exact ret_i C0 hS d_D_count_88 rfl ((L, o, fr, tk, lc, wh), f) ⟨⟨by unfold cntD; rw [if_neg (by decide), if_neg (by decide), if_neg (by decide), if_pos rfl], rfl⟩, hf⟩ hP hD
        · refine lv_tableOut (tgt := 89) hx hb d_D_count_1 (by have a0 := lv_neT (a := 0) q0 rfl; have a1 := lv_neT (a := 1) q1 rfl; have a2 := lv_neT (a := 2) q2 rfl; have a3 := lv_neT (a := 3) q3 rfl; omega) (by decide) ?_
          refine lv_iconst (v := -1) hx hb d_D_count_89 (by decide) ?_
          exact ret_i C0 hS d_D_count_90 rfl ((L, o, fr, tk, lc, wh), f) ⟨⟨by unfold cntD; rw [if_neg q0, if_neg q1, if_neg q2, if_neg q3], rfl⟩, hf⟩ hP hD
end
section
/-! LineKind.values(): the clone of a table that nobody writes -/
abbrev eK (cK : ClassId) (ad : Nat → Nat) : va_E := .inl (cK, 5, .inr (.inr (.inr (.inr (kf ad)))))
def KV (ad : Nat → Nat) (cK : ClassId) (tV : Nat) (A : Nat → Prop) (U : State) : Prop :=
  va_Z "EventLineDesk$LineKind" "$VALUES" "[LEventLineDesk$LineKind;" (.ref tV) A U U.heap ∧
  (∃ cell : Cell, U.heap[tV]? = some cell ∧ (∀ k, cell.vm ≠ .statics k) ∧ cell.vm ≠ .unknown ∧ cell.cls = cK ∧ cell.slots = (arrV cK 5 (fun j => va_rf (kf ad j))).slots) ∧ ¬ A tV ∧
  va_Nw (.castable "[LEventLineDesk$LineKind;" "java/lang/Cloneable") U ∧ U.vm.findClass "[LEventLineDesk$LineKind;" = some cK ∧ ArrOfT U cK (.object "EventLineDesk$LineKind") ∧ va_RA U cK (.object "EventLineDesk$LineKind")
theorem KV.blind {ad : Nat → Nat} {cK : ClassId} {tV : Nat} (A1 : Nat → Prop) (U : State) (g : JFrame) (mk : MethodId) (a : Array Value) (h : KV ad cK tV A1 U) : KV ad cK tV A1 (U.calling g mk a) :=
  ⟨va_Z.moved (u := U) (U := U.calling g mk a) (Vm.Alike.refl U.vm) h.1, h.2.1, h.2.2.1, va_Nw.same rfl rfl h.2.2.2.1, h.2.2.2.2.1, arrOfT_moved (u := U) (E := U.calling g mk a) (Vm.Alike.refl U.vm) h.2.2.2.2.2.1, va_RA.moved (u := U) (U := U.calling g mk a) (Vm.Alike.refl U.vm) h.2.2.2.2.2.2⟩
theorem KV.call {ad : Nat → Nat} {cK : ClassId} {tV : Nat} {A : Nat → Prop} {s : State} {H : Heap} {locs : List Loc} (h : KV ad cK tV A s) (hS : va_S A s.heap H locs) (A1 : Nat → Prop) (U : State) (hA : ∀ q, A1 q → A q) (hU : U.heap = H) (hW : s.WarmedH U.vm) : KV ad cK tV A1 U := by
  subst hU
  obtain ⟨h1, ⟨cell, c1, c2, c3, c4, c5⟩, h3, h4, h5, h6, h7⟩ := h
  exact ⟨va_Z.moved hW.alike ((h1.kept hS.2.1).narrow hA), ⟨cell, by rw [hS.2.1 tV (Array.getElem?_eq_some_iff.mp c1).1 h3]; exact c1, c2, c3, c4, c5⟩, fun z => h3 (hA _ z), va_Nw.warmC hW h4, by rw [hW.alike.findClass]; exact h5, arrOfT_moved hW.alike h6, va_RA.moved hW.alike h7⟩
section CT
variable {p : Program} {l : Launch} {e : Env} {R : Room} {s : State} {m : MethodId} {args : Array Value} {below : List Frame} {meth : Method} {c : Code} {H : Heap} {locs : List Loc} {cells slots : Nat} {Q : State → Prop}
variable {cc : ByteArray} {pc nL : Nat} {ls : Array Slot} {rest : List Value} {ro : Option FieldType} {yo : MethodName} {A : Nat → Prop} {dC : Nat → ClassId} {dI : Nat → Nat → Nat} {ws : va_W}
theorem cloneT {ad : Nat → Nat} {cK : ClassId} {tV : Nat} (C0 : Cx p s m args meth c cc nL ro yo) (hy : yo.cls = "EventLineDesk$LineKind") (hV : KV ad cK tV A s) (hS : va_S A s.heap H locs) (hA : ∀ q, s.heap.size ≤ q → A q) (hP : va_P (dC, dI) classes ws H) (hD : va_D A ws)
    (hframes : 1 ≤ R.frames) (hlocals : (rest.map fun v => v.category).sum + 14 ≤ R.locals) (hcells : cells + 1 ≤ R.cells) (hslots : slots + 5 ≤ R.slots) (hdg : decode cc pc = .ok (.invokevirtual 23, 3)) (hls : ls.size = nL)
    (kk : ∀ (q : Nat) (H1 : Heap), va_P (dC, dI) classes (ws ++ [(q, eK cK ad)]) H1 → va_D A (ws ++ [(q, eK cK ad)]) → va_S A s.heap H1 locs → W p l e R s m args below meth c H1 locs (cells + 1) (slots + 5) Q (F0 m (pc + 3) ls (.ref q :: rest))) :
    W p l e R s m args below meth c H locs cells slots Q (F0 m pc ls (.ref tV :: rest)) := by
  have hown := C0.2.2.2.2.1
  rw [hy] at hown
  have hts := C0.2.2.2.2.2.2.2
  have hb := C0.2.1
  have hml := C0.2.2.2.1
  obtain ⟨-, ⟨cell, c1, c2, c3, c4, c5⟩, h3, h4, h5, h6, h7⟩ := hV
  have hsz : cell.slots.size = 5 := by rw [c5]; exact arrV_size _ _ _
  have hcellE : ({ cls := cell.cls, slots := cell.slots } : Cell) = vp_cell cK (5, .inr (.inr (.inr (.inr (kf ad))))) := by rw [c4, c5]; rfl
  obtain ⟨c0, t0', f1, f2, f3⟩ := Cond.castable_spec (va_Nw.use (A := args) rfl h4)
  cases h5.symm.trans f1
  subst c4
  intro T hT X
  have hcellH : H[tV]? = some cell := by rw [hS.2.1 tV (Array.getElem?_eq_some_iff.mp c1).1 h3]; exact c1
  have hcellT : T.heap[tV]? = some cell := by rw [hT]; exact hcellH
  obtain ⟨-, kA, hkA, comp, hkind⟩ := State.isArrayOf_alike X.warmed.alike (h6 0 (fun _ => .null))
  obtain ⟨-, kS, hkS, compS, hkindS⟩ := h6 0 (fun _ => .null)
  obtain ⟨vm', X', st⟩ := X.cloneArray C0.1 hown (hts _ m_20) (hts _ m_21) (hts _ m_22) (hts _ m_23) (hts _ m_24) (a := tV) (cell := cell) hcellT c2 c3 h5 f2 f3
    (fun i v hv => by
      have hk' : T.vm.classes[cell.cls]? = some kA := hkA
      have hft : fits (.object "EventLineDesk$LineKind") v = true := va_fit (cA := cell.cls) (n := 5) (F := fun j => va_rf (kf ad j)) (fun i _ => rfl) i v (by rw [← c5]; exact hv)
      simpa [State.fitsSlot, State.slotType?, hk', hkind] using hft)
    (g := F0 m pc ls (.ref tV :: rest)) rfl (by rw [hml]; exact hls) rfl (by rw [hb]; exact hdg) hframes (by show 2 * 0 + _ + 14 ≤ _; omega) hcells (by rw [hsz]; exact hslots) (hloader := Vm.clonesLoader_of_array hkS hkindS)
  rw [hcellE, hsz] at X'
  generalize hH1 : H.push (vp_cell cell.cls (5, .inr (.inr (.inr (.inr (kf ad)))))) = H1
  have z1 : H1.size = H.size + 1 := by rw [← hH1, Array.size_push]
  have e1 : H1[H.size]? = some (vp_cell cell.cls (5, .inr (.inr (.inr (.inr (kf ad)))))) := by rw [← hH1, Array.getElem?_push_size]
  have o1 : ∀ q : Nat, q < H.size → H1[q]? = H[q]? := fun q hq => by rw [← hH1, Array.getElem?_push, if_neg (Nat.ne_of_lt hq)]
  have hk : ∀ (k : Nat) (y : Nat × va_E), ws[k]? = some y → H1[y.1]? = H[y.1]? := fun k y hy => o1 y.1 ((hP k y hy).lt)
  obtain ⟨t, b1, b2⟩ := kk H.size H1 ((hP.kept hk).app (fun k y hy => by
      have hz : k < 1 := (List.getElem?_eq_some_iff.mp hy).1
      rw [show k = 0 by omega] at hy
      cases hy
      exact e1)) (hD.push hP rfl (hA _ hS.1)) ⟨Nat.le_trans hS.1 (by omega), fun y h1 h2 => (o1 y (Nat.lt_of_lt_of_le h1 hS.1)).trans (hS.2.1 y h1 h2), hS.2.2⟩
    ((T.setVm vm').pushCell (vp_cell cell.cls (5, .inr (.inr (.inr (.inr (kf ad))))))) (by rw [← hH1, ← hT]; rfl) X'
  refine ⟨t, st t ?_, b2⟩
  rw [hcellE, hT]
  exact b1
end CT
set_option maxHeartbeats 4000000 in
set_option maxRecDepth 100000 in
/-- LineKind.values(): a new array of the five constants -/
theorem c_K_values (l : Launch) (dC : Nat → ClassId) (dI : Nat → Nat → Nat) (ad : Nat → Nat) (cK : ClassId) (tV sz : Nat) : Met l y_K_values (ww y_K_values b_K_values 0 (some (.array (.object "EventLineDesk$LineKind")))) ({ frames := 1, cells := 1, slots := 5, locals := 14 }) (va_Pc [] (PreW dC dI [] [] sz (KV ad cK tV))) (va_Qr (fun _ : Unit => True) (fun _ q t => va_P (dC, dI) classes [(q, eK cK ad)] t.heap ∧ va_D (va_A [] sz) [(q, eK cK ad)]) (va_A [] sz)) 1 5 (va_A [] sz) := by
  refine enter (Qf := fun A => va_Qr (fun _ : Unit => True) (fun _ q t => va_P (dC, dI) classes [(q, eK cK ad)] t.heap ∧ va_D A [(q, eK cK ad)]) A) (by decide) (Nat.le_of_ble_eq_true rfl) ?_
  intro p e s m below meth c A ls C0 hsz hA hK hP hD hS hX hl
  obtain ⟨hx, hb, hr, hml, hown, hlk, hnm, hts⟩ := id C0
  refine va_gets hx hb hX.1 hS hown (hts _ m_18) (fun _ h => h) d_K_values_0 ?_
  refine cloneT C0 rfl hX hS hA hP hD (Nat.le_of_ble_eq_true rfl) (Nat.le_of_ble_eq_true rfl) (Nat.le_of_ble_eq_true rfl) (Nat.le_of_ble_eq_true rfl) d_K_values_3 hl.1 (fun q H hP hD hS => ?_)
  have hP : va_P (dC, dI) classes [(q, eK cK ad)] H := hP
  have hD : va_D A [(q, eK cK ad)] := hD
  refine va_castA hx hb hown (hts _ m_27) hP 0 rfl hX.2.2.2.2.1 d_K_values_6 ?_
  exact W.aret hx hb hr (Or.inr ⟨_, rfl⟩) (Or.inr ⟨_, rfl⟩) (fun t ht hW => ⟨⟨(), q, rfl, trivial, by rw [ht]; exact hP, hD⟩, hS.F ht⟩) hS.2.2 d_K_values_9 hlk
end
section
/-! THE CONSTRUCTORS (rows printed by gen21.py) -/
theorem li_good : GoodIn gw (ww y_L_init b_L_init 2 none) := by
  intro w hw
  rcases List.mem_cons.mp hw with rfl | hw
  · exact gw_good _ m_32
  · exact gw_good _ hw
theorem mi_good : GoodIn gw (ww y_M_init b_M_init 1 none) := by
  intro w hw
  rcases List.mem_cons.mp hw with rfl | hw
  · exact gw_good _ m_169
  · exact gw_good _ hw
theorem di_good : GoodIn gw (ww y_D_init b_D_init 1 none) := by
  intro w hw
  rcases List.mem_cons.mp hw with rfl | hw
  · exact gw_good _ m_11
  · exact gw_good _ hw
theorem va_Kof {D : va_G} {cl : List vw_C} {tys : List (ClassId × FieldType)} {U : State} {cA : ClassId} {ty : FieldType} (h : va_K D cl tys U) (h1 : ArrOfT U cA ty) (h2 : va_RA U cA ty) : va_K D cl [(cA, ty)] U := ⟨h.1, fun k q hq => by
  have hz : k < 1 := (List.getElem?_eq_some_iff.mp hq).1
  rw [show k = 0 by omega] at hq
  cases hq
  exact ⟨h1, h2⟩⟩
set_option maxHeartbeats 1000000 in
set_option maxRecDepth 100000 in
/-- Lines(3000): a new byte array -/
theorem c_L_init (l : Launch) (dC : Nat → ClassId) (dI : Nat → Nat → Nat) (h0 : Nat) (ad : Nat → Nat) (sz : Nat) : Met l y_L_init (ww y_L_init b_L_init 2 none) ({ frames := 1, cells := 1, slots := 3000, locals := 12 }) (va_Pc [.ref h0, .int (nI 3000)] (PreW dC dI [] [(h0, .inr (0, [.null, .null, .int 0, .int 0, .int 0, .int 0, .int 0]))] sz noX)) (va_Qv (fun _ : Nat × ClassId × (Nat → Int32) => True) (fun u t => va_P (dC, dI) classes (wL h0 u.1 u.2.1 ad ([], none, 0, 0, 0, 1) u.2.2) t.heap ∧ va_K (dC, dI) classes [(u.2.1, .byte)] t ∧ va_D (va_A [(h0, .inr (0, [.null, .null, .int 0, .int 0, .int 0, .int 0, .int 0]))] sz) (wL h0 u.1 u.2.1 ad ([], none, 0, 0, 0, 1) u.2.2)) (va_A [(h0, .inr (0, [.null, .null, .int 0, .int 0, .int 0, .int 0, .int 0]))] sz)) 1 3000 (va_A [(h0, .inr (0, [.null, .null, .int 0, .int 0, .int 0, .int 0, .int 0]))] sz) := by
  refine enter (Qf := fun A => va_Qv (fun _ : Nat × ClassId × (Nat → Int32) => True) (fun u t => va_P (dC, dI) classes (wL h0 u.1 u.2.1 ad ([], none, 0, 0, 0, 1) u.2.2) t.heap ∧ va_K (dC, dI) classes [(u.2.1, .byte)] t ∧ va_D A (wL h0 u.1 u.2.1 ad ([], none, 0, 0, 0, 1) u.2.2)) A) (by decide) (Nat.le_of_ble_eq_true rfl) ?_
  intro p e s m below meth c A ls C0 hsz hA hK hP hD hS hX hl
  obtain ⟨hx, hb, hr, hml, hown, hlk, hnm, hts⟩ := id C0
  have hl : lv_has ls 2 [(0, .ref h0), (1, .int (nI 3000))] := hl
  have hP : va_P (dC, dI) classes [(h0, .inr (0, [.null, .null, .int 0, .int 0, .int 0, .int 0, .int 0]))] s.heap := hP
  have hD : va_D A [(h0, .inr (0, [.null, .null, .int 0, .int 0, .int 0, .int 0, .int 0]))] := hD
  refine lv_aload_n hx hb d_L_init_0 rfl (lv_at hl 0 rfl) ?_
  refine W.objInit hx hb hown (hts _ m_33) (hts _ m_13) (hts _ m_14) rfl (by rw [hml]; exact hl.1) rfl d_L_init_1 (Nat.le_of_ble_eq_true rfl) (Nat.le_of_ble_eq_true rfl) ?_
  refine W.eq (g2 := F0 m 4 ls []) rfl ?_
  refine lv_aload_n hx hb d_L_init_4 rfl (lv_at hl 0 rfl) ?_
  refine lv_iconst (v := nI 1) hx hb d_L_init_5 (by decide) ?_
  refine va_put (D := (dC, dI)) (ci := 0) (v := .int (nI 1)) (ty := .boolean) (C := R_L) (T := F_L) (N := 7) hx hb hts i_L t_L t_L_ok n_L hown hK hP hD hS 0 rfl rfl 6 (by decide) (hts _ m_44) (fun _ h9 => h9) rfl (by decide +kernel) rfl rfl (Nat.le_of_ble_eq_true rfl) d_L_init_6 (fun H locs hP hD hS => ?_)
  have hP : va_P (dC, dI) classes [(h0, .inr (0, [.null, .null, .int 0, .int 0, .int 0, .int 0, .int (nI 1)]))] H := hP
  have hD : va_D A [(h0, .inr (0, [.null, .null, .int 0, .int 0, .int 0, .int 0, .int (nI 1)]))] := hD
  refine lv_aload_n hx hb d_L_init_9 rfl (lv_at hl 0 rfl) ?_
  refine lv_iload_n hx hb d_L_init_10 rfl (lv_at hl 1 rfl) ?_
  refine va_newa (atype := .byte) (ty := .byte) (a0 := (3000, .inl (fun _ => 0))) (N' := 3000) hx hb (hts _ m_60) rfl hK hP hD hS hA (fun _ => rfl) (nI_pos (by decide)) (nI_clamp (by decide)) (Nat.le_of_ble_eq_true rfl) (Nat.le_of_ble_eq_true rfl) (Nat.le_of_ble_eq_true rfl) d_L_init_11 (fun hB cB H hK hP hD hS => ?_)
  have hK : va_K (dC, dI) classes [(cB, .byte)] s := hK
  have hP : va_P (dC, dI) classes [(h0, .inr (0, [.null, .null, .int 0, .int 0, .int 0, .int 0, .int (nI 1)])), (hB, .inl (cB, 3000, .inl (fun _ => 0)))] H := hP
  have hD : va_D A [(h0, .inr (0, [.null, .null, .int 0, .int 0, .int 0, .int 0, .int (nI 1)])), (hB, .inl (cB, 3000, .inl (fun _ => 0)))] := hD
  refine va_putF (D := (dC, dI)) (ci := 0) (v := .ref hB) (ty := .array .byte) (C := R_L) (T := F_L) (N := 7) hx hb hts i_L t_L t_L_ok n_L hown hK hP hD hS 0 rfl rfl 0 (by decide) (hts _ m_34) (fun _ h9 => h9) rfl hnm rfl (by decide +kernel) rfl rfl (Nat.le_of_ble_eq_true rfl) d_L_init_13 (fun H locs hP hD hS => ?_)
  have hP : va_P (dC, dI) classes [(h0, .inr (0, [.ref hB, .null, .int 0, .int 0, .int 0, .int 0, .int (nI 1)])), (hB, .inl (cB, 3000, .inl (fun _ => 0)))] H := hP
  have hD : va_D A [(h0, .inr (0, [.ref hB, .null, .int 0, .int 0, .int 0, .int 0, .int (nI 1)])), (hB, .inl (cB, 3000, .inl (fun _ => 0)))] := hD
  exact W.vret hx hb hr (fun t ht hW => ⟨⟨(hB, cB, fun _ => 0), rfl, trivial, by rw [ht]; exact hP, va_K.moved hW.alike hK, hD⟩, hS.F ht⟩) hS.2.2 d_L_init_16 hlk
set_option maxHeartbeats 1000000 in
set_option maxRecDepth 100000 in
/-- the reference: two new int arrays -/
theorem c_M_init (l : Launch) (dC : Nat → ClassId) (dI : Nat → Nat → Nat) (m0 : Nat) (sz : Nat) : Met l y_M_init (ww y_M_init b_M_init 1 none) ({ frames := 1, cells := 2, slots := 3004, locals := 13 }) (va_Pc [.ref m0] (PreW dC dI [] [(m0, .inr (2, [.null, .int 0, .int 0, .int 0, .int 0, .int 0, .int 0, .null, .int 0]))] sz noX)) (va_Qv (fun _ : Nat × ClassId × Nat × ClassId × (Nat → Int32) × (Nat → Int32) => True) (fun u t => va_P (dC, dI) classes (wM m0 u.1 u.2.2.1 u.2.1 u.2.2.2.1 ([], 0, none, 0, 10, 0) u.2.2.2.2.1 u.2.2.2.2.2 0) t.heap ∧ va_K (dC, dI) classes [(u.2.1, .int), (u.2.2.2.1, .int)] t ∧ va_D (va_A [(m0, .inr (2, [.null, .int 0, .int 0, .int 0, .int 0, .int 0, .int 0, .null, .int 0]))] sz) (wM m0 u.1 u.2.2.1 u.2.1 u.2.2.2.1 ([], 0, none, 0, 10, 0) u.2.2.2.2.1 u.2.2.2.2.2 0)) (va_A [(m0, .inr (2, [.null, .int 0, .int 0, .int 0, .int 0, .int 0, .int 0, .null, .int 0]))] sz)) 2 3004 (va_A [(m0, .inr (2, [.null, .int 0, .int 0, .int 0, .int 0, .int 0, .int 0, .null, .int 0]))] sz) := by
  refine enter (Qf := fun A => va_Qv (fun _ : Nat × ClassId × Nat × ClassId × (Nat → Int32) × (Nat → Int32) => True) (fun u t => va_P (dC, dI) classes (wM m0 u.1 u.2.2.1 u.2.1 u.2.2.2.1 ([], 0, none, 0, 10, 0) u.2.2.2.2.1 u.2.2.2.2.2 0) t.heap ∧ va_K (dC, dI) classes [(u.2.1, .int), (u.2.2.2.1, .int)] t ∧ va_D A (wM m0 u.1 u.2.2.1 u.2.1 u.2.2.2.1 ([], 0, none, 0, 10, 0) u.2.2.2.2.1 u.2.2.2.2.2 0)) A) (by decide) (Nat.le_of_ble_eq_true rfl) ?_
  intro p e s m below meth c A ls C0 hsz hA hK hP hD hS hX hl
  obtain ⟨hx, hb, hr, hml, hown, hlk, hnm, hts⟩ := id C0
  have hl : lv_has ls 1 [(0, .ref m0)] := hl
  have hP : va_P (dC, dI) classes [(m0, .inr (2, [.null, .int 0, .int 0, .int 0, .int 0, .int 0, .int 0, .null, .int 0]))] s.heap := hP
  have hD : va_D A [(m0, .inr (2, [.null, .int 0, .int 0, .int 0, .int 0, .int 0, .int 0, .null, .int 0]))] := hD
  refine lv_aload_n hx hb d_M_init_0 rfl (lv_at hl 0 rfl) ?_
  refine W.objInit hx hb hown (hts _ m_170) (hts _ m_13) (hts _ m_14) rfl (by rw [hml]; exact hl.1) rfl d_M_init_1 (Nat.le_of_ble_eq_true rfl) (Nat.le_of_ble_eq_true rfl) ?_
  refine W.eq (g2 := F0 m 4 ls []) rfl ?_
  refine lv_aload_n hx hb d_M_init_4 rfl (lv_at hl 0 rfl) ?_
  refine lv_sipush (v := nI 3000) hx hb d_M_init_5 (by decide) ?_
  refine va_newa (atype := .int) (ty := .int) (a0 := (3000, .inl (fun _ => 0))) (N' := 3000) hx hb (hts _ m_199) rfl hK hP hD hS hA (fun _ => rfl) (nI_pos (by decide)) (nI_clamp (by decide)) (Nat.le_of_ble_eq_true rfl) (Nat.le_of_ble_eq_true rfl) (Nat.le_of_ble_eq_true rfl) d_M_init_8 (fun hR cR H hK hP hD hS => ?_)
  have hK : va_K (dC, dI) classes [(cR, .int)] s := hK
  have hP : va_P (dC, dI) classes [(m0, .inr (2, [.null, .int 0, .int 0, .int 0, .int 0, .int 0, .int 0, .null, .int 0])), (hR, .inl (cR, 3000, .inl (fun _ => 0)))] H := hP
  have hD : va_D A [(m0, .inr (2, [.null, .int 0, .int 0, .int 0, .int 0, .int 0, .int 0, .null, .int 0])), (hR, .inl (cR, 3000, .inl (fun _ => 0)))] := hD
  refine va_putF (D := (dC, dI)) (ci := 2) (v := .ref hR) (ty := .array .int) (C := R_M) (T := F_M) (N := 9) hx hb hts i_M t_M t_M_ok n_M hown hK hP hD hS 0 rfl rfl 0 (by decide) (hts _ m_171) (fun _ h9 => h9) rfl hnm rfl (by decide +kernel) rfl rfl (Nat.le_of_ble_eq_true rfl) d_M_init_10 (fun H locs hP hD hS => ?_)
  have hP : va_P (dC, dI) classes [(m0, .inr (2, [.ref hR, .int 0, .int 0, .int 0, .int 0, .int 0, .int 0, .null, .int 0])), (hR, .inl (cR, 3000, .inl (fun _ => 0)))] H := hP
  have hD : va_D A [(m0, .inr (2, [.ref hR, .int 0, .int 0, .int 0, .int 0, .int 0, .int 0, .null, .int 0])), (hR, .inl (cR, 3000, .inl (fun _ => 0)))] := hD
  refine lv_aload_n hx hb d_M_init_13 rfl (lv_at hl 0 rfl) ?_
  refine lv_iconst (v := -1) hx hb d_M_init_14 (by decide) ?_
  refine va_put (D := (dC, dI)) (ci := 2) (v := .int (-1)) (ty := .int) (C := R_M) (T := F_M) (N := 9) hx hb hts i_M t_M t_M_ok n_M hown hK hP hD hS 0 rfl rfl 3 (by decide) (hts _ m_174) (fun _ h9 => h9) rfl (by decide +kernel) rfl rfl (Nat.le_of_ble_eq_true rfl) d_M_init_15 (fun H locs hP hD hS => ?_)
  have hP : va_P (dC, dI) classes [(m0, .inr (2, [.ref hR, .int 0, .int 0, .int (-1), .int 0, .int 0, .int 0, .null, .int 0])), (hR, .inl (cR, 3000, .inl (fun _ => 0)))] H := hP
  have hD : va_D A [(m0, .inr (2, [.ref hR, .int 0, .int 0, .int (-1), .int 0, .int 0, .int 0, .null, .int 0])), (hR, .inl (cR, 3000, .inl (fun _ => 0)))] := hD
  refine lv_aload_n hx hb d_M_init_18 rfl (lv_at hl 0 rfl) ?_
  refine lv_bipush (v := nI 10) hx hb d_M_init_19 (by decide) ?_
  refine va_put (D := (dC, dI)) (ci := 2) (v := .int (nI 10)) (ty := .int) (C := R_M) (T := F_M) (N := 9) hx hb hts i_M t_M t_M_ok n_M hown hK hP hD hS 0 rfl rfl 5 (by decide) (hts _ m_176) (fun _ h9 => h9) rfl (by decide +kernel) rfl rfl (Nat.le_of_ble_eq_true rfl) d_M_init_21 (fun H locs hP hD hS => ?_)
  have hP : va_P (dC, dI) classes [(m0, .inr (2, [.ref hR, .int 0, .int 0, .int (-1), .int 0, .int (nI 10), .int 0, .null, .int 0])), (hR, .inl (cR, 3000, .inl (fun _ => 0)))] H := hP
  have hD : va_D A [(m0, .inr (2, [.ref hR, .int 0, .int 0, .int (-1), .int 0, .int (nI 10), .int 0, .null, .int 0])), (hR, .inl (cR, 3000, .inl (fun _ => 0)))] := hD
  refine lv_aload_n hx hb d_M_init_24 rfl (lv_at hl 0 rfl) ?_
  refine lv_iconst (v := nI 4) hx hb d_M_init_25 (by decide) ?_
  refine va_newa (atype := .int) (ty := .int) (a0 := (4, .inl (fun _ => 0))) (N' := 4) hx hb (hts _ m_199) rfl hK hP hD hS hA (fun _ => rfl) (nI_pos (by decide)) (nI_clamp (by decide)) (Nat.le_of_ble_eq_true rfl) (Nat.le_of_ble_eq_true rfl) (Nat.le_of_ble_eq_true rfl) d_M_init_26 (fun hG cG H hK hP hD hS => ?_)
  have hK : va_K (dC, dI) classes [(cR, .int), (cG, .int)] s := hK
  have hP : va_P (dC, dI) classes [(m0, .inr (2, [.ref hR, .int 0, .int 0, .int (-1), .int 0, .int (nI 10), .int 0, .null, .int 0])), (hR, .inl (cR, 3000, .inl (fun _ => 0))), (hG, .inl (cG, 4, .inl (fun _ => 0)))] H := hP
  have hD : va_D A [(m0, .inr (2, [.ref hR, .int 0, .int 0, .int (-1), .int 0, .int (nI 10), .int 0, .null, .int 0])), (hR, .inl (cR, 3000, .inl (fun _ => 0))), (hG, .inl (cG, 4, .inl (fun _ => 0)))] := hD
  refine va_putF (D := (dC, dI)) (ci := 2) (v := .ref hG) (ty := .array .int) (C := R_M) (T := F_M) (N := 9) hx hb hts i_M t_M t_M_ok n_M hown hK hP hD hS 0 rfl rfl 7 (by decide) (hts _ m_178) (fun _ h9 => h9) rfl hnm rfl (by decide +kernel) rfl rfl (Nat.le_of_ble_eq_true rfl) d_M_init_28 (fun H locs hP hD hS => ?_)
  have hP : va_P (dC, dI) classes [(m0, .inr (2, [.ref hR, .int 0, .int 0, .int (-1), .int 0, .int (nI 10), .int 0, .ref hG, .int 0])), (hR, .inl (cR, 3000, .inl (fun _ => 0))), (hG, .inl (cG, 4, .inl (fun _ => 0)))] H := hP
  have hD : va_D A [(m0, .inr (2, [.ref hR, .int 0, .int 0, .int (-1), .int 0, .int (nI 10), .int 0, .ref hG, .int 0])), (hR, .inl (cR, 3000, .inl (fun _ => 0))), (hG, .inl (cG, 4, .inl (fun _ => 0)))] := hD
  exact W.vret hx hb hr (fun t ht hW => ⟨⟨(hR, cR, hG, cG, fun _ => 0, fun _ => 0), rfl, trivial, by rw [ht]; exact hP, va_K.moved hW.alike hK, hD⟩, hS.F ht⟩) hS.2.2 d_M_init_31 hlk
set_option maxHeartbeats 1000000 in
set_option maxRecDepth 100000 in
/-- the desk: an array of the kinds, Lines, its bytes -/
theorem c_D_init (l : Launch) (dC : Nat → ClassId) (dI : Nat → Nat → Nat) (d0 : Nat) (ad : Nat → Nat) (cK : ClassId) (tV sz : Nat) : Met l y_D_init (ww y_D_init b_D_init 1 none) ({ frames := 2, cells := 3, slots := 3012, locals := 33 }) (va_Pc [.ref d0] (PreW dC dI [] [(d0, .inr (1, [.null, .null]))] sz (KV ad cK tV))) (va_Qv (fun _ : Nat × Nat × Nat × ClassId × (Nat → Int32) => True) (fun u t => va_P (dC, dI) classes (wD d0 u.1 u.2.1 u.2.2.1 u.2.2.2.1 cK ad ([], none, 0, 0, 0, 1) u.2.2.2.2) t.heap ∧ va_K (dC, dI) classes (tyD u.2.2.2.1 cK) t ∧ va_D (va_A [(d0, .inr (1, [.null, .null]))] sz) (wD d0 u.1 u.2.1 u.2.2.1 u.2.2.2.1 cK ad ([], none, 0, 0, 0, 1) u.2.2.2.2)) (va_A [(d0, .inr (1, [.null, .null]))] sz)) 3 3012 (va_A [(d0, .inr (1, [.null, .null]))] sz) := by
  refine enter (Qf := fun A => va_Qv (fun _ : Nat × Nat × Nat × ClassId × (Nat → Int32) => True) (fun u t => va_P (dC, dI) classes (wD d0 u.1 u.2.1 u.2.2.1 u.2.2.2.1 cK ad ([], none, 0, 0, 0, 1) u.2.2.2.2) t.heap ∧ va_K (dC, dI) classes (tyD u.2.2.2.1 cK) t ∧ va_D A (wD d0 u.1 u.2.1 u.2.2.1 u.2.2.2.1 cK ad ([], none, 0, 0, 0, 1) u.2.2.2.2)) A) (by decide) (Nat.le_of_ble_eq_true rfl) ?_
  intro p e s m below meth c A ls C0 hsz hA hK hP hD hS hX hl
  obtain ⟨hx, hb, hr, hml, hown, hlk, hnm, hts⟩ := id C0
  have hl : lv_has ls 1 [(0, .ref d0)] := hl
  have hP : va_P (dC, dI) classes [(d0, .inr (1, [.null, .null]))] s.heap := hP
  have hD : va_D A [(d0, .inr (1, [.null, .null]))] := hD
  refine lv_aload_n hx hb d_D_init_0 rfl (lv_at hl 0 rfl) ?_
  refine W.objInit hx hb hown (hts _ m_12) (hts _ m_13) (hts _ m_14) rfl (by rw [hml]; exact hl.1) rfl d_D_init_1 (Nat.le_of_ble_eq_true rfl) (Nat.le_of_ble_eq_true rfl) ?_
  refine W.eq (g2 := F0 m 4 ls []) rfl ?_
  refine lv_aload_n hx hb d_D_init_4 rfl (lv_at hl 0 rfl) ?_
  have hFc := va_free (wc := []) hD hS hA [] rfl
  refine va_callr (va_runS (As := []) (rest := [.ref d0]) (n := 0) ⟨hx, hb, hml, hown, hts⟩ (c_K_values l dC dI ad cK tV s.heap.size) ⟨callB_of 0 hts g_D_7.good rfl rfl rfl (hts _ g_D_7.1.2.2.1) (hts _ g_D_7.1.1) g_D_7.2 ⟨Nat.le_of_ble_eq_true rfl, Nat.le_of_ble_eq_true rfl⟩, hts _ g_D_7.1.2.1⟩ ⟨fun a U g mk q => by obtain ⟨q0, q1, qP, qK, qD, qX⟩ := q; exact ⟨q0, q1, qP, va_K.moved (u := U) (U := U.calling g mk a) (Vm.Alike.refl U.vm) qK, qD, KV.blind _ _ _ _ _ qX⟩, fun U hU hW => ⟨rfl, by rw [hU], fun k q h => by simp at h, va_K.moved hW.alike hK, ⟨fun i j p q h => by simp at h, fun k q h => by simp at h⟩, KV.call hX hS _ _ hFc hU hW⟩⟩ rfl rfl hl.1 rfl (lv_room (Nat.le_of_ble_eq_true rfl)) d_D_init_5 ⟨Nat.le_of_ble_eq_true rfl, Nat.le_of_ble_eq_true rfl⟩) hS (fun q _ h => hFc q h) hFc (fun u hk t H1 locs ht hvm hw hB hz1 hk1 hS => ?_)
  obtain ⟨hP1, hD1⟩ := hB
  rw [ht] at hP1
  obtain ⟨hP, hD⟩ := va_join (wr := [(d0, .inr (1, [.null, .null]))]) (w1 := [(hk, eK cK ad)]) hP hD [] [0] rfl rfl (by decide) (by decide) hk1 hFc hP1 hD1
  generalize H1 = H at hP hS ⊢
  have hP : va_P (dC, dI) classes [(d0, .inr (1, [.null, .null])), (hk, .inl (cK, 5, .inr (.inr (.inr (.inr (kf ad))))))] H := hP
  have hD : va_D A [(d0, .inr (1, [.null, .null])), (hk, .inl (cK, 5, .inr (.inr (.inr (.inr (kf ad))))))] := hD
  refine va_putF (D := (dC, dI)) (ci := 1) (v := .ref hk) (ty := .array (.object "EventLineDesk$LineKind")) (C := R_D) (T := F_D) (N := 2) hx hb hts i_D t_D t_D_ok n_D hown hK hP hD hS 0 rfl rfl 0 (by decide) (hts _ m_61) (fun _ h9 => h9) rfl hnm rfl (by decide +kernel) rfl rfl (Nat.le_of_ble_eq_true rfl) d_D_init_8 (fun H locs hP hD hS => ?_)
  have hP : va_P (dC, dI) classes [(d0, .inr (1, [.ref hk, .null])), (hk, .inl (cK, 5, .inr (.inr (.inr (.inr (kf ad))))))] H := hP
  have hD : va_D A [(d0, .inr (1, [.ref hk, .null])), (hk, .inl (cK, 5, .inr (.inr (.inr (.inr (kf ad))))))] := hD
  refine lv_aload_n hx hb d_D_init_11 rfl (lv_at hl 0 rfl) ?_
  refine va_new (ci := 0) (fs := [.null, .null, .int 0, .int 0, .int 0, .int 0, .int 0]) (C := R_L) (T := F_L) (N := 7) hx hb hts i_L t_L t_L_ok hown (hts _ m_28) (hts _ m_29) (hts _ m_4) hK hP hD hS hA rfl (fun j hj => by rcases (show j = 0 ∨ j = 1 ∨ j = 2 ∨ j = 3 ∨ j = 4 ∨ j = 5 ∨ j = 6 by omega) with rfl | rfl | rfl | rfl | rfl | rfl | rfl <;> rfl) (Nat.le_of_ble_eq_true rfl) (Nat.le_of_ble_eq_true rfl) d_D_init_12 (fun h0 H hP hD hS => ?_)
  have hP : va_P (dC, dI) classes [(d0, .inr (1, [.ref hk, .null])), (hk, .inl (cK, 5, .inr (.inr (.inr (.inr (kf ad)))))), (h0, .inr (0, [.null, .null, .int 0, .int 0, .int 0, .int 0, .int 0]))] H := hP
  have hD : va_D A [(d0, .inr (1, [.ref hk, .null])), (hk, .inl (cK, 5, .inr (.inr (.inr (.inr (kf ad)))))), (h0, .inr (0, [.null, .null, .int 0, .int 0, .int 0, .int 0, .int 0]))] := hD
  refine lv_dup hx hb d_D_init_15 rfl ?_
  refine lv_sipush (v := nI 3000) hx hb d_D_init_16 (by decide) ?_
  have hPc := hP.sub (ws' := [(h0, .inr (0, [.null, .null, .int 0, .int 0, .int 0, .int 0, .int 0]))]) [2] rfl
  have hDc := hD.sub (ws' := [(h0, .inr (0, [.null, .null, .int 0, .int 0, .int 0, .int 0, .int 0]))]) [2] (by decide) rfl
  have hFc := va_free (wc := [(h0, .inr (0, [.null, .null, .int 0, .int 0, .int 0, .int 0, .int 0]))]) hD hS hA [2] rfl
  refine va_callv (va_runI (As := [.int (nI 3000)]) (rest := [.ref h0, .ref d0]) (b := h0) (n := 1) ⟨hx, hb, hml, hown, hts⟩ (c_L_init l dC dI h0 ad H.size) (cwI 1 hts li_good rfl rfl rfl (hts _ m_4) (hts _ m_30) (hts _ m_31) rfl ⟨by decide, by decide, by decide +kernel⟩ ⟨Nat.le_of_ble_eq_true rfl, Nat.le_of_ble_eq_true rfl⟩) ⟨fun a U g mk q => by obtain ⟨q0, q1, qP, qK, qD, qX⟩ := q; exact ⟨q0, q1, qP, va_K.moved (u := U) (U := U.calling g mk a) (Vm.Alike.refl U.vm) qK, qD, trivial⟩, fun U hU hW => ⟨rfl, by rw [hU], by rw [hU]; exact hPc, va_K.moved hW.alike hK, hDc.weaken (fun _ _ _ _ => trivial), trivial⟩⟩ rfl rfl hl.1 rfl (lv_room (Nat.le_of_ble_eq_true rfl)) d_D_init_19 ⟨Nat.le_of_ble_eq_true rfl, Nat.le_of_ble_eq_true rfl⟩) hS (fun q _ h => hFc q h) hFc (fun u t H1 locs ht hvm hw hB hz1 hk1 hS => ?_)
  obtain ⟨hB9, cB, f⟩ := u
  obtain ⟨hP1, hK1, hD1⟩ := hB
  rw [ht] at hP1
  have hK1 := va_K.moved hvm.symm hK1
  obtain ⟨hP, hD⟩ := va_join (wr := [(d0, .inr (1, [.ref hk, .null])), (hk, .inl (cK, 5, .inr (.inr (.inr (.inr (kf ad))))))]) (w1 := wL h0 hB9 cB ad ([], none, 0, 0, 0, 1) f) hP hD [2] [0, 1] rfl rfl (by decide) (by decide) hk1 hFc hP1 hD1
  have hK : va_K (dC, dI) classes (tyD cB cK) s := hK1.app (va_Kof hK1 hX.2.2.2.2.2.1 hX.2.2.2.2.2.2)
  generalize H1 = H at hP hS ⊢
  have hP : va_P (dC, dI) classes [(d0, .inr (1, [.ref hk, .null])), (hk, .inl (cK, 5, .inr (.inr (.inr (.inr (kf ad)))))), (h0, .inr (0, [.ref hB9, .null, .int (nI (([] : List Nat).length)), .int (nI 0), .int (nI 0), .int (nI 0), .int 1])), (hB9, .inl (cB, 3000, .inl f))] H := hP
  have hD : va_D A [(d0, .inr (1, [.ref hk, .null])), (hk, .inl (cK, 5, .inr (.inr (.inr (.inr (kf ad)))))), (h0, .inr (0, [.ref hB9, .null, .int (nI (([] : List Nat).length)), .int (nI 0), .int (nI 0), .int (nI 0), .int 1])), (hB9, .inl (cB, 3000, .inl f))] := hD
  refine va_putF (D := (dC, dI)) (ci := 1) (v := .ref h0) (ty := .object "EventLineDesk$Lines") (C := R_D) (T := F_D) (N := 2) hx hb hts i_D t_D t_D_ok n_D hown hK hP hD hS 0 rfl rfl 1 (by decide) (hts _ m_62) (fun _ h9 => h9) rfl hnm rfl (by decide +kernel) rfl rfl (Nat.le_of_ble_eq_true rfl) d_D_init_22 (fun H locs hP hD hS => ?_)
  have hP : va_P (dC, dI) classes [(d0, .inr (1, [.ref hk, .ref h0])), (hk, .inl (cK, 5, .inr (.inr (.inr (.inr (kf ad)))))), (h0, .inr (0, [.ref hB9, .null, .int (nI (([] : List Nat).length)), .int (nI 0), .int (nI 0), .int (nI 0), .int 1])), (hB9, .inl (cB, 3000, .inl f))] H := hP
  have hD : va_D A [(d0, .inr (1, [.ref hk, .ref h0])), (hk, .inl (cK, 5, .inr (.inr (.inr (.inr (kf ad)))))), (h0, .inr (0, [.ref hB9, .null, .int (nI (([] : List Nat).length)), .int (nI 0), .int (nI 0), .int (nI 0), .int 1])), (hB9, .inl (cB, 3000, .inl f))] := hD
  refine W.widen (k := 3) (n := 3012) (Nat.le_of_ble_eq_true rfl) (Nat.le_of_ble_eq_true rfl) ?_
  exact W.vret hx hb hr (fun t ht hW => ⟨⟨(hk, h0, hB9, cB, f), rfl, trivial, by rw [ht]; exact hP, va_K.moved hW.alike hK, hD⟩, hS.F ht⟩) hS.2.2 d_D_init_25 hlk
end
section
/-! THE PURE LAW: the desk and the reference go through the same states -/
def wI (lst : Nat) : Int32 := if lst = 10 then 1 else 0
abbrev dS (L : List Nat) (o : Option Nat) (fr tk lst ln : Nat) : LSt := (L, o, fr, tk, ln + c10 L, wI lst)
abbrev mS (L : List Nat) (o : Option Nat) (fr tk lst ln : Nat) : MSt := (L, L.length - fr, o, tk, lst, ln)
def INV (L : List Nat) (o : Option Nat) (fr tk lst B : Nat) : Prop := L.length ≤ 3000 ∧ (o ≠ none → L.length < 3000) ∧ fr ≤ L.length ∧ (o = none → fr = L.length) ∧ (∀ i, o = some i → i < 5) ∧ B8 L ∧ lst < 256 ∧ c10 (L.drop fr) = 0 ∧ tk ≤ B
def NXT (u : LSt) (v : MSt) (B : Nat) : Prop := ∃ (L : List Nat) (o : Option Nat) (fr tk lst ln : Nat), u = dS L o fr tk lst ln ∧ v = mS L o fr tk lst ln ∧ INV L o fr tk lst B
theorem INV.mono {L : List Nat} {o : Option Nat} {fr tk lst B C : Nat} (h : INV L o fr tk lst B) (hB : B ≤ C) : INV L o fr tk lst C := ⟨h.1, h.2.1, h.2.2.1, h.2.2.2.1, h.2.2.2.2.1, h.2.2.2.2.2.1, h.2.2.2.2.2.2.1, h.2.2.2.2.2.2.2.1, Nat.le_trans h.2.2.2.2.2.2.2.2 hB⟩
theorem p_same {L : List Nat} {o : Option Nat} {fr tk lst ln B : Nat} (h : INV L o fr tk lst B) : NXT (dS L o fr tk lst ln) (mS L o fr tk lst ln) B := ⟨L, o, fr, tk, lst, ln, rfl, rfl, h⟩
theorem B8.app {L M : List Nat} (h : B8 L) (hM : ∀ b ∈ M, b < 256) : B8 (L ++ M) := by
  intro j hj
  rw [List.length_append] at hj
  by_cases hl : j < L.length
  · rw [getD_left hl]; exact h j hl
  · have hj2 : j - L.length < M.length := by omega
    have e : (L ++ M).getD j 0 = M[j - L.length] := by
      rw [List.getD_eq_getElem?_getD, List.getElem?_append_right (by omega), List.getElem?_eq_getElem hj2]
      rfl
    rw [e]
    exact hM _ (List.getElem_mem hj2)
theorem B8.take {L : List Nat} {n : Nat} (h : B8 L) (hn : n ≤ L.length) : B8 (L.take n) := by
  intro j hj
  rw [take_len hn] at hj
  rw [take_getD hj]
  exact h j (by omega)
theorem B8.drop {L : List Nat} {n : Nat} (h : B8 L) : B8 (L.drop n) := by
  intro j hj
  rw [List.length_drop] at hj
  rw [drop_getD]
  exact h _ (by omega)
theorem c10_app (L M : List Nat) : c10 (L ++ M) = c10 L + c10 M := List.count_append
theorem c10_none {M : List Nat} (h : ∀ b ∈ M, b ≠ 10) : c10 M = 0 := List.count_eq_zero.mpr (fun q => h 10 q rfl)
theorem letK_n10 : ∀ k, k < 5 → letK k ≠ 10 := by decide
theorem drop_app {L M : List Nat} {fr : Nat} (h : fr ≤ L.length) : (L ++ M).drop fr = L.drop fr ++ M := by
  rw [List.drop_append_of_le_length h]
theorem enc_ok {n : Nat} (hn : n < 1114112) : ∀ b ∈ enc n, b ≠ 10 ∧ b < 256 := by
  intro b hb
  by_cases h : letN n = 0
  · have hn10 : n ≠ 10 := by
      intro q
      rw [q] at h
      exact absurd h (by decide)
    rw [enc_utf h] at hb
    unfold utf at hb
    split at hb
    · simp only [List.mem_cons, List.not_mem_nil, or_false] at hb; subst hb; omega
    · split at hb
      · simp only [List.mem_cons, List.not_mem_nil, or_false] at hb; omega
      · split at hb
        · simp only [List.mem_cons, List.not_mem_nil, or_false] at hb; omega
        · simp only [List.mem_cons, List.not_mem_nil, or_false] at hb; omega
  · rw [enc_let h] at hb
    simp only [List.mem_cons, List.not_mem_nil, or_false] at hb
    have hl : letN n < 256 ∧ letN n ≠ 10 := by unfold letN; repeat (first | (constructor <;> decide) | split)
    rcases hb with rfl | rfl
    · exact ⟨by decide, by decide⟩
    · exact ⟨hl.2, hl.1⟩
theorem p_begin {L : List Nat} {o : Option Nat} {fr tk lst ln B k : Nat} (h : INV L o fr tk lst B) (hk : k < 5) (hm : L.length + enN o + 2 ≤ 3000) :
    ∃ (L2 : List Nat) (fr2 : Nat), begF k (dS L o fr tk lst ln) = dS L2 (some k) fr2 tk lst ln ∧ stF k (mS L o fr tk lst ln) = mS L2 (some k) fr2 tk lst ln ∧ INV L2 (some k) fr2 tk lst B ∧ L2.length = L.length + enN o + 1 := by
  obtain ⟨h1, h2, h3, h4, h5, h6, h7, h8, h9⟩ := h
  have hlk := letK_lt k
  have hl10 := letK_n10 k hk
  have hs : ∀ b ∈ [letK k], b ≠ 10 := fun b q => by rw [List.mem_singleton] at q; rw [q]; exact hl10
  cases o with
  | none =>
    have e := h4 rfl
    refine ⟨L ++ [letK k], L.length, ?_, ?_, ⟨?_, ?_, ?_, ?_, ?_, ?_, h7, ?_, h9⟩, ?_⟩
    · simp only [begF, endF, dS, c10_app, c10_none hs, Nat.add_zero]
    · simp only [stF, clF, mS, len1, e, Nat.sub_self, Nat.zero_add]
      rw [show L.length + 1 - L.length = 1 by omega]
    · rw [len1]; simp only [enN] at hm; omega
    · intro _; rw [len1]; simp only [enN] at hm; omega
    · rw [len1]; omega
    · intro q; cases q
    · intro i q; cases q; exact hk
    · exact h6.app (fun b q => by rw [List.mem_singleton] at q; omega)
    · rw [drop_app (Nat.le_refl _), List.drop_length, List.nil_append]; exact c10_none hs
    · rw [len1]; simp only [enN, Nat.add_zero]
  | some i =>
    refine ⟨(L ++ [10]) ++ [letK k], L.length + 1, ?_, ?_, ⟨?_, ?_, ?_, ?_, ?_, ?_, h7, ?_, h9⟩, ?_⟩
    · simp only [begF, endF, dS, c10_app, c10_none hs, Nat.add_zero, len1]
      rfl
    · simp only [stF, clF, mS, len1]
      rw [show L.length + 1 + 1 - (L.length + 1) = 0 + 1 by omega]
    · rw [len1, len1]; simp only [enN] at hm; omega
    · intro _; rw [len1, len1]; simp only [enN] at hm; omega
    · rw [len1, len1]; omega
    · intro q; cases q
    · intro j q; cases q; exact hk
    · exact (h6.app (fun b q => by rw [List.mem_singleton] at q; omega)).app (fun b q => by rw [List.mem_singleton] at q; omega)
    · rw [drop_app (by rw [len1]; omega), List.drop_of_length_le (by rw [len1]; omega), List.nil_append]; exact c10_none hs
    · rw [len1, len1]; simp only [enN]
theorem p_add {L : List Nat} {o : Option Nat} {fr tk lst ln B n : Nat} (h : INV L o fr tk lst B) (ho : o ≠ none) (hn : n < 1114112) (hm : L.length + bofN n + 1 ≤ 3000) : NXT (addF n (dS L o fr tk lst ln)) (adF n (mS L o fr tk lst ln)) B := by
  obtain ⟨h1, h2, h3, h4, h5, h6, h7, h8, h9⟩ := h
  have he := enc_ok hn
  have hl : (L ++ enc n).length = L.length + bofN n := by rw [List.length_append, enc_len]
  have hc : c10 (enc n) = 0 := c10_none (fun b q => (he b q).1)
  refine ⟨L ++ enc n, o, fr, tk, lst, ln, ?_, ?_, ⟨?_, ?_, ?_, ?_, h5, ?_, h7, ?_, h9⟩⟩
  · simp only [addF, dS, c10_app, hc, Nat.add_zero]
  · simp only [adF, mS, hl]
    rw [show L.length + bofN n - fr = L.length - fr + bofN n by omega]
  · omega
  · intro _; omega
  · omega
  · intro q; exact absurd q ho
  · exact h6.app (fun b q => (he b q).2)
  · rw [drop_app h3, c10_app, h8, hc]
theorem p_text {L : List Nat} {o : Option Nat} {fr tk lst ln B n : Nat} (h : INV L o fr tk lst B) (hn : n < 1114112) (hm : L.length + (enN o + 1 + bofN n) + 1 ≤ 3000) : NXT (addF n (begF 4 (dS L o fr tk lst ln))) (adF n (stF 4 (mS L o fr tk lst ln))) B := by
  have hb := bofN_in n
  obtain ⟨L2, fr2, e1, e2, h2, hl⟩ := p_begin (ln := ln) (k := 4) h (by decide) (by omega)
  rw [e1, e2]
  exact p_add h2 (by simp) hn (by omega)
theorem p_end {L : List Nat} {o : Option Nat} {fr tk lst ln B : Nat} (h : INV L o fr tk lst B) : NXT (endF (dS L o fr tk lst ln)) (clF (mS L o fr tk lst ln)) B := by
  obtain ⟨h1, h2, h3, h4, h5, h6, h7, h8, h9⟩ := id h
  cases o with
  | none => exact p_same h
  | some i =>
    have h2 := h2 (by simp)
    refine ⟨L ++ [10], none, L.length + 1, tk, lst, ln, ?_, ?_, ⟨?_, ?_, ?_, ?_, ?_, ?_, h7, ?_, h9⟩⟩
    · simp only [endF, dS, c10_app]; rfl
    · simp only [clF, mS, len1, Nat.sub_self]
    · rw [len1]; omega
    · intro q; exact absurd rfl q
    · rw [len1]; omega
    · intro _; rw [len1]
    · intro j q; cases q
    · exact h6.app (fun b q => by rw [List.mem_singleton] at q; omega)
    · rw [List.drop_of_length_le (by rw [len1]; omega)]; rfl
theorem wI_ne (lst : Nat) : ¬ wI lst = 0 ↔ lst = 10 := by
  unfold wI
  by_cases h : lst = 10
  · rw [if_pos h]; exact ⟨fun _ => h, fun _ => by decide⟩
  · rw [if_neg h]; exact ⟨fun q => absurd rfl q, fun q => absurd q h⟩
theorem cut_sum {L : List Nat} {to fr : Nat} (h : to ≤ fr) (hf : fr ≤ L.length) : c10 L = c10 (L.take to) + c10 ((L.take fr).drop to) + c10 (L.drop fr) := by
  have e1 : L = L.take fr ++ L.drop fr := (List.take_append_drop fr L).symm
  have e2 : L.take fr = (L.take fr).take to ++ (L.take fr).drop to := (List.take_append_drop to _).symm
  have e3 : (L.take fr).take to = L.take to := by rw [List.take_take, Nat.min_eq_left h]
  have e4 : c10 L = c10 (L.take fr) + c10 (L.drop fr) := by rw [← c10_app, ← e1]
  have e5 : c10 (L.take fr) = c10 (L.take to) + c10 ((L.take fr).drop to) := by rw [← e3, ← c10_app, ← e2]
  omega
theorem cut_le (L : List Nat) (to fr : Nat) : c10 ((L.take fr).drop to) ≤ c10 L := (((List.drop_sublist to _).trans (List.take_sublist fr L))).count_le 10
theorem drop_10 {L : List Nat} {fr j : Nat} (h : c10 (L.drop fr) = 0) (hj : fr ≤ j) (hl : j < L.length) : L.getD j 0 ≠ 10 := by
  intro q
  have hm : (10 : Nat) ∈ L.drop fr := by
    have e : L.getD j 0 = L[j] := by rw [List.getD_eq_getElem?_getD, List.getElem?_eq_getElem hl]; rfl
    rw [← q, e, List.mem_iff_getElem]
    exact ⟨j - fr, by rw [List.length_drop]; omega, by rw [List.getElem_drop]; congr 1; omega⟩
  exact absurd h (Nat.ne_of_gt (List.count_pos_iff.mpr hm))
theorem p_back {L : List Nat} {o : Option Nat} {fr tk lst ln B to : Nat} (h : INV L o fr tk lst B) (hto : to ≤ L.length) (hc : (to = 0 ∧ lst = 10) ∨ (¬ to = 0 ∧ L.getD (to - 1) 0 = 10)) :
    NXT (L.take to, none, to, tk, ln + c10 L - c10 ((L.take fr).drop to), wI lst) (L.take to, 0, none, tk, lst, ln) B := by
  obtain ⟨h1, h2, h3, h4, h5, h6, h7, h8, h9⟩ := h
  have htf : to ≤ fr := by
    rcases hc with q | q
    · omega
    · by_cases z : to ≤ fr
      · exact z
      · exact absurd q.2 (drop_10 h8 (by omega) (by omega))
  have hs := cut_sum htf h3
  refine ⟨L.take to, none, to, tk, lst, ln, ?_, ?_, ⟨?_, ?_, ?_, ?_, ?_, h6.take hto, h7, ?_, h9⟩⟩
  · simp only [dS]
    rw [show ln + c10 L - c10 ((L.take fr).drop to) = ln + c10 (L.take to) by omega]
  · simp only [mS, take_len hto, Nat.sub_self]
  · rw [take_len hto]; omega
  · intro q; exact absurd rfl q
  · rw [take_len hto]; omega
  · intro _; rw [take_len hto]
  · intro j q; cases q
  · rw [List.drop_of_length_le (by rw [take_len hto]; omega)]; rfl
theorem p_take {L : List Nat} {o : Option Nat} {fr tk lst ln B n : Nat} (h : INV L o fr tk lst B) (hn : n = min 7 fr) :
    NXT (L.drop n, o, fr - n, tk + n, ln + c10 L, takeW L n (wI lst)) (L.drop n, L.length - fr, o, tk + n, if n = 0 then lst else L.getD (n - 1) 0, ln + c10 (L.take n)) (B + 7) := by
  obtain ⟨h1, h2, h3, h4, h5, h6, h7, h8, h9⟩ := h
  refine ⟨L.drop n, o, fr - n, tk + n, if n = 0 then lst else L.getD (n - 1) 0, ln + c10 (L.take n), ?_, ?_, ⟨?_, ?_, ?_, ?_, h5, h6.drop, ?_, ?_, ?_⟩⟩
  · have e : takeW L n (wI lst) = wI (if n = 0 then lst else L.getD (n - 1) 0) := by
      unfold takeW
      by_cases z : n = 0
      · rw [if_pos z, if_pos z]
      · rw [if_neg z, if_neg z]; rfl
    have e2 : c10 L = c10 (L.take n) + c10 (L.drop n) := by rw [← c10_app, List.take_append_drop]
    simp only [dS, e]
    rw [show ln + c10 L = ln + c10 (L.take n) + c10 (L.drop n) by omega]
  · simp only [mS, List.length_drop]
    rw [show L.length - n - (fr - n) = L.length - fr by omega]
  · rw [List.length_drop]; omega
  · intro q; have := h2 q; rw [List.length_drop]; omega
  · rw [List.length_drop]; omega
  · intro q; rw [List.length_drop, h4 q]
  · by_cases z : n = 0
    · rw [if_pos z]; exact h7
    · rw [if_neg z]; exact h6 _ (by omega)
  · rw [List.drop_drop, show n + (fr - n) = fr by omega]; exact h8
  · omega
theorem cnt_eq {L : List Nat} {o : Option Nat} {fr ln : Nat} (x : Int32) : cntD x L o fr (ln + c10 L) = cntM x L (L.length - fr) o ln := rfl
theorem mark_cases {x : Int32} {tk n : Nat} (htk : tk < 1000000) (hn : n ≤ 3000) : (x < nI tk ∨ nI (tk + n) < x) ∨ ∃ to : Nat, to ≤ n ∧ x = nI (tk + to) := by
  by_cases h1 : x < nI tk
  · exact Or.inl (Or.inl h1)
  · by_cases h2 : nI (tk + n) < x
    · exact Or.inl (Or.inr h2)
    · refine Or.inr ?_
      have h0 : ¬ x < 0 := fun q => h1 (by
        rw [Int32.lt_iff_toInt_lt] at q ⊢
        rw [nI_toInt (by omega)]
        have e : (0 : Int32).toInt = 0 := rfl
        omega)
      obtain ⟨j, hj, rfl⟩ := nI_of h0
      rw [nI_ltI hj (by omega)] at h1
      rw [nI_ltI (by omega) hj] at h2
      exact ⟨j - tk, by omega, by rw [show tk + (j - tk) = j by omega]⟩
theorem begin_cases (x : Int32) : (x < 0 ∨ 3 < x) ∨ ∃ k : Nat, k < 4 ∧ x = nI k := by
  by_cases h1 : x < 0
  · exact Or.inl (Or.inl h1)
  · by_cases h2 : 3 < x
    · exact Or.inl (Or.inr h2)
    · obtain ⟨k, hk, e⟩ := nI_of2 (M := 3) (n := 3) (by decide) h1 (Int32.not_lt.mp h2)
      exact Or.inr ⟨k, by omega, e⟩
theorem gt_ok {a i : Nat} (ha : a ≤ 1024) (hi : i ≤ 1026) : nI a - nI 2 < nI i ↔ a < i + 2 := by
  rw [Int32.lt_iff_toInt_lt, pk_sub_toInt (by omega) (by omega), nI_toInt (by omega)]
  omega
end
section
/-! WHAT THE STATEMENT GIVES OF THE ENUM at the start -/
abbrev tK (n : String) : Term := .static "EventLineDesk$LineKind" n "LEventLineDesk$LineKind;"
abbrev tVs : Term := .static "EventLineDesk$LineKind" "$VALUES" "[LEventLineDesk$LineKind;"
theorem five {P : Nat → Prop} (h0 : P 0) (h1 : P 1) (h2 : P 2) (h3 : P 3) (h4 : P 4) : ∀ i, i < 5 → P i := by
  intro i hi
  rcases (show i = 0 ∨ i = 1 ∨ i = 2 ∨ i = 3 ∨ i = 4 by omega) with rfl | rfl | rfl | rfl | rfl
  · exact h0
  · exact h1
  · exact h2
  · exact h3
  · exact h4
set_option maxHeartbeats 4000000 in
set_option maxRecDepth 100000 in
theorem start_env {s : State} {args : Array Value} (hts : ∀ w ∈ lw_tbl, w.before args s = true) (hgv : (Jvm.Cond.and given_1 narrow_1).before args s = true) :
    ∃ (ad : Nat → Nat) (cK : ClassId) (tV : Nat), KX ad (fun q => s.heap.size ≤ q) s ∧ KV ad cK tV (fun q => s.heap.size ≤ q) s := by
  have hs := flat_of_before _ hgv
  have ht : ∀ w ∈ tables_1, w.before args s = true := fun w h => hts w (List.mem_append_right _ h)
  have hg : ∀ w ∈ gw, w.before args s = true := fun w h => hts w (List.mem_filter.mp h).1
  have hA : ∀ a : Nat, a < s.heap.size → ¬ (fun q => s.heap.size ≤ q) a := fun a h => Nat.not_le.mpr h
  obtain ⟨ad, hE, hev⟩ := va_Enof2 (args := args) (s := s) (E := "EventLineDesk$LineKind") (d := "LEventLineDesk$LineKind;") (nm := kN) (F := kF) (A := fun q => s.heap.size ≤ q)
    (five (ht _ m_254) (ht _ m_255) (ht _ m_256) (ht _ m_257) (ht _ m_99)) (hg _ m_3)
    (five (hs (Cond.exactly (tK "START") "EventLineDesk$LineKind") (by decide +kernel)) (hs (Cond.exactly (tK "END") "EventLineDesk$LineKind") (by decide +kernel)) (hs (Cond.exactly (tK "ATTRIBUTE") "EventLineDesk$LineKind") (by decide +kernel)) (hs (Cond.exactly (tK "INSTRUCTION") "EventLineDesk$LineKind") (by decide +kernel)) (hs (Cond.exactly (tK "TEXT") "EventLineDesk$LineKind") (by decide +kernel)))
    (by
      intro q hq
      simp only [kF, List.mem_cons, List.not_mem_nil, or_false] at hq
      rcases hq with rfl | rfl
      · exact five (hs (Cond.eq (.field (tK "START") "java/lang/Enum" "ordinal" "I") (.int 0)) (by decide +kernel)) (hs (Cond.eq (.field (tK "END") "java/lang/Enum" "ordinal" "I") (.int 1)) (by decide +kernel)) (hs (Cond.eq (.field (tK "ATTRIBUTE") "java/lang/Enum" "ordinal" "I") (.int 2)) (by decide +kernel)) (hs (Cond.eq (.field (tK "INSTRUCTION") "java/lang/Enum" "ordinal" "I") (.int 3)) (by decide +kernel)) (hs (Cond.eq (.field (tK "TEXT") "java/lang/Enum" "ordinal" "I") (.int 4)) (by decide +kernel))
      · exact five (hs (Cond.eq (.field (tK "START") "EventLineDesk$LineKind" "letter" "I") (.int 40)) (by decide +kernel)) (hs (Cond.eq (.field (tK "END") "EventLineDesk$LineKind" "letter" "I") (.int 41)) (by decide +kernel)) (hs (Cond.eq (.field (tK "ATTRIBUTE") "EventLineDesk$LineKind" "letter" "I") (.int 65)) (by decide +kernel)) (hs (Cond.eq (.field (tK "INSTRUCTION") "EventLineDesk$LineKind" "letter" "I") (.int 63)) (by decide +kernel)) (hs (Cond.eq (.field (tK "TEXT") "EventLineDesk$LineKind" "letter" "I") (.int 45)) (by decide +kernel)))
    (by
      have n40 := hs (Cond.not (.eq (tK "TEXT") (tK "START"))) (by decide +kernel)
      have n41 := hs (Cond.not (.eq (tK "TEXT") (tK "END"))) (by decide +kernel)
      have n42 := hs (Cond.not (.eq (tK "TEXT") (tK "ATTRIBUTE"))) (by decide +kernel)
      have n43 := hs (Cond.not (.eq (tK "TEXT") (tK "INSTRUCTION"))) (by decide +kernel)
      have n01 := hs (Cond.not (.eq (tK "START") (tK "END"))) (by decide +kernel)
      have n02 := hs (Cond.not (.eq (tK "START") (tK "ATTRIBUTE"))) (by decide +kernel)
      have n03 := hs (Cond.not (.eq (tK "START") (tK "INSTRUCTION"))) (by decide +kernel)
      have n12 := hs (Cond.not (.eq (tK "END") (tK "ATTRIBUTE"))) (by decide +kernel)
      have n13 := hs (Cond.not (.eq (tK "END") (tK "INSTRUCTION"))) (by decide +kernel)
      have n23 := hs (Cond.not (.eq (tK "ATTRIBUTE") (tK "INSTRUCTION"))) (by decide +kernel)
      intro i j hi hj hij
      have hi : i < 5 := hi
      have hj : j < 5 := hj
      rcases (show i = 0 ∨ i = 1 ∨ i = 2 ∨ i = 3 ∨ i = 4 by omega) with rfl | rfl | rfl | rfl | rfl <;> rcases (show j = 0 ∨ j = 1 ∨ j = 2 ∨ j = 3 ∨ j = 4 by omega) with rfl | rfl | rfl | rfl | rfl <;> first | exact absurd rfl hij | exact Or.inl n40 | exact Or.inl n41 | exact Or.inl n42 | exact Or.inl n43 | exact Or.inl n01 | exact Or.inl n02 | exact Or.inl n03 | exact Or.inl n12 | exact Or.inl n13 | exact Or.inl n23 | exact Or.inr n40 | exact Or.inr n41 | exact Or.inr n42 | exact Or.inr n43 | exact Or.inr n01 | exact Or.inr n02 | exact Or.inr n03 | exact Or.inr n12 | exact Or.inr n13 | exact Or.inr n23)
    hA
  have hlen := va_eqt (hs (Cond.eq (.length tVs) (.int 5)) (by decide +kernel))
  obtain ⟨tV, htV, cell, c1, c2, c3, c4, c5, c6, c7⟩ := va_Tof (args := args) (s := s) (tm := tVs) (ty := .object "EventLineDesk$LineKind") (N := 5) (f := fun j => .ref (ad j)) (A := fun q => s.heap.size ≤ q) (by decide) (hs (Cond.arrayOf tVs (.object "EventLineDesk$LineKind")) (by decide +kernel)) hlen
    (five (va_eqv (hs (Cond.eq (.elem tVs (.int 0)) (tK "START")) (by decide +kernel)) (hev 0 (by decide))) (va_eqv (hs (Cond.eq (.elem tVs (.int 1)) (tK "END")) (by decide +kernel)) (hev 1 (by decide))) (va_eqv (hs (Cond.eq (.elem tVs (.int 2)) (tK "ATTRIBUTE")) (by decide +kernel)) (hev 2 (by decide))) (va_eqv (hs (Cond.eq (.elem tVs (.int 3)) (tK "INSTRUCTION")) (by decide +kernel)) (hev 3 (by decide))) (va_eqv (hs (Cond.eq (.elem tVs (.int 4)) (tK "TEXT")) (by decide +kernel)) (hev 4 (by decide))))
    hA
  obtain ⟨a9, cc9, cell9, k9, e1, e2, e3, e4, e5, e6, -⟩ := Cond.exactly_spec (hs (Cond.exactly tVs "[LEventLineDesk$LineKind;") (by decide +kernel))
  cases htV.symm.trans e1
  cases c1.symm.trans e3
  obtain ⟨comp, cO, kO, o1, -, o2, o3, o4⟩ := Cond.arrayOver_spec (ht _ m_26)
  have o4 : s.vm.findClass "[LEventLineDesk$LineKind;" = some cO := o4
  cases e2.symm.trans o4
  subst e6
  obtain ⟨b9, cell8, q1, q2, q3⟩ := Term.length_spec hlen
  cases htV.symm.trans q1
  obtain ⟨q4, -, -, -⟩ := State.arrayAt?_spec q2
  cases c1.symm.trans q4
  have hall := Cond.all_elim (args := args) (first := s) (o := none) (idx := []) (s := s) (t := tVs) (c := Cond.le (.index 0) (.int 4)) htV q2 (by simpa [Cond.before, Cond.holds] using hs (Cond.all tVs (.le (.index 0) (.int 4))) (by decide +kernel))
  have hsz : cell.slots.size = 5 := by
    by_cases h6 : 5 < cell.slots.size
    · have z := hall 5 h6
      exact absurd z (by simp [Cond.value, Term.eval]; decide)
    · omega
  have hslots : cell.slots = (arrV cell.cls 5 (fun j => va_rf (kf ad j))).slots := by
    apply Array.ext
    · rw [hsz, arrV_size]
    · intro i h1 h2
      have h5 : i < 5 := by omega
      have a1 := c6 i h5
      rw [Array.getElem?_eq_getElem h1] at a1
      have a2 := arrV_read (cI := cell.cls) (N := 5) (f := fun j => va_rf (kf ad j)) h5
      rw [Array.getElem?_eq_getElem h2] at a2
      exact (Option.some.inj a1).trans (Option.some.inj a2).symm
  refine ⟨ad, cell.cls, tV, ⟨hE, va_Nw.of rfl (ht _ m_35), va_Nw.of rfl (ht _ m_38), va_Nw.of rfl (ht _ m_40), va_Nw.of rfl (ht _ m_43), va_Nw.of rfl (ht _ m_252)⟩, va_Zref (ht _ m_19) (hg _ m_3) htV hA, ⟨cell, c1, c2.1, c3, rfl, hslots⟩, c7, va_Nw.of rfl (ht _ m_25), e2, fun N z => ⟨fun k h => (by cases h), kO, o2, comp, o3⟩, kO, comp, o2, o3, o1, o4⟩
end
section
/-! THE LAW (first rows: the skeleton's, the rest printed by gen24.py) -/
def lw_P (b : Addr) (xs : List Int32) (args : Array Value) (s : State) : Prop := args = #[.ref b] ∧ s.IntsAt b xs ∧ xs.length ≤ 1024 ∧ (Jvm.Cond.and given_1 narrow_1).before args s = true
def lw_Q (_ : Array Value) (s : State) (o : Outcome) (t : State) : Prop := o = .returned (some (.int 1)) ∧ Framed s o t [] 600000 7302250
def lw_Z (below : List Frame) (a : Array Value) (s : State) : State → Prop := fun t => ∃ o, t.status = .running ∧ Ended t below o ∧ lw_Q a s o t
/-- the law's own end, with 1 on the stack, nothing written that was there before, its room as the claim has it -/
theorem lw_ret {p : Program} {l : Launch} {e : Env} {s : State} {m : MethodId} {below : List Frame} {meth : Method} {c : Code} {b : Nat} (hx : p.tables.exec = Jvm.exec) (hb : c.code = code) (hr : meth.sig.returnType = ret) (hlocks : meth.locks = false) {pc : Nat} {H : Heap} {ls : Array Slot} (hdg : decode code pc = .ok (.ireturn, 1)) : W p l e room_1 s m #[Value.ref b] below meth c H [] 600000 7302250 (lw_Z below #[Value.ref b] s) (F0 m pc ls [.int 1]) := by
  intro T hT X
  obtain ⟨fs, hret, hrun, hended, hW, hframe⟩ := X.leave (v := some (.int 1)) (hlocks := hlocks) (fun h => by rw [hr] at h; cases h)
  have hmeth' : T.vm.method? m = some meth := X.method'
  refine ⟨T.setFrames fs, ?_, .returned (some (.int 1)), hrun, hended, rfl, ⟨_, rfl⟩, hW, hframe⟩
  jvm_step X.here [X.here.top, hx, hb, hdg, hmeth', hr, ret, narrow_b1]
  (try refine ⟨rfl, ?_⟩); (try refine ⟨rfl, ?_⟩)
  first | (intro acts; rw [hret _ acts rfl rfl rfl]) | rw [hret _ _ rfl rfl rfl]
  exact Steps.refl _
/-- what holds at the law's entry: the machine, the code, the tables' words (any of lw_tbl by 'hts w (by decide +kernel)'), the script of L ints xs at the cell b, what the Statement gives of the start (any of its parts by flat_of_before) -/
def lw_At (p : Program) (s : State) (m : MethodId) (meth : Method) (c : Code) (b L : Nat) (xs : Nat → Int32) : Prop :=
  p.tables.exec = Jvm.exec ∧ c.code = code ∧ meth.sig.returnType = ret ∧ c.maxLocals = 4 ∧ s.vm.findClass R_law = some m.cls ∧ (∀ w ∈ lw_tbl, w.before #[Value.ref b] s = true) ∧ va_X b L xs s s.heap ∧ b < s.heap.size ∧ meth.locks = false ∧ (Jvm.Cond.and given_1 narrow_1).before #[Value.ref b] s = true
set_option maxHeartbeats 4000000 in
set_option maxRecDepth 100000 in
/-- THE LAW'S LOOP: at its head, with i ints read, the desk and the reference are in one state -/
theorem law_loop {p : Program} {l : Launch} {e : Env} {s : State} {m : MethodId} {below : List Frame} {meth : Method} {c : Code} {dC : Nat → ClassId} {dI : Nat → Nat → Nat} {b Ls : Nat} {xs : Nat → Int32} (hLs : Ls ≤ 1024) (Ca : lw_At p s m meth c b Ls xs) {ad : Nat → Nat} {cB cK cR cG : ClassId} (hX : KX ad (fun q : Nat => s.heap.size ≤ q) s) (hK : va_K (dC, dI) classes [(cB, .byte), (cK, .object "EventLineDesk$LineKind"), (cR, .int), (cG, .int)] s) {d0 hk h0 hB m0 hR hG : Nat} :
    ∀ (n i : Nat), Ls + 2 ≤ i + n → i ≤ 1025 → ∀ (L : List Nat) (o : Option Nat) (fr tk lst ln : Nat) (f g1 g2 : Nat → Int32) (mn : Int32) (H : Heap) (locs : List Loc) (ls : Array Slot), INV L o fr tk lst (7 * i) → RB f L → RI g1 L → va_P (dC, dI) classes (wD d0 hk h0 hB cB cK ad (dS L o fr tk lst ln) f ++ wM m0 hR hG cR cG (mS L o fr tk lst ln) g1 g2 mn) H → va_D (fun q : Nat => s.heap.size ≤ q) (wD d0 hk h0 hB cB cK ad (dS L o fr tk lst ln) f ++ wM m0 hR hG cR cG (mS L o fr tk lst ln) g1 g2 mn) → va_S (fun q : Nat => s.heap.size ≤ q) s.heap H locs → lv_has ls 4 [(3, .int (nI i)), (0, .ref b), (1, .ref d0), (2, .ref m0)] → W p l e room_1 s m #[Value.ref b] below meth c H locs 7 6027 (lw_Z below #[Value.ref b] s) (F0 m 18 ls []) := by
  obtain ⟨hx, hb, hr, hml, hown, hts, hXs, hbl, hlocks, hgv⟩ := Ca
  have hA : ∀ q : Nat, s.heap.size ≤ q → (fun q : Nat => s.heap.size ≤ q) q := fun _ h => h
  have hbA : ¬ (fun q : Nat => s.heap.size ≤ q) b := Nat.not_le.mpr hbl
  have C0 : Cx p s m #[Value.ref b] meth c code 4 ret ⟨"EventLineDeskLaw", meth.name, "([I)Z"⟩ := ⟨hx, hb, hr, hml, hown, hlocks, rfl, fun w hw => hts w (List.mem_filter.mp hw).1⟩
  intro n
  induction n with
  | zero =>
    intro i hd hi L o fr tk lst ln f g1 g2 mn H locs ls hI hf hg hP hD hS hl
    refine lv_iload_n hx hb d_law_18 rfl (lv_at hl 0 rfl) ?_
    refine lv_aload_n hx hb d_law_19 rfl (lv_at hl 1 rfl) ?_
    refine va_slen hx hb hXs hbl hbA hS d_law_20 ?_
    refine lx_i (y := nI Ls) (rfl) ?_
    refine lv_iconst (v := nI 2) hx hb d_law_21 (by decide) ?_
    refine lv_isub hx hb d_law_22 ?_
    refine lv_icmp_gt (tgt := 241) hx hb d_law_23 (by decide) (fun c_1 => ?_) (fun c_1 => ?_)
    · refine lv_iconst (v := 1) hx hb d_law_241 (by decide) ?_
      refine va_forget (fun q hq => hS.2.2 q hq) ?_
      refine W.widen (k := 600000) (n := 7302250) (Nat.le_of_ble_eq_true rfl) (Nat.le_of_ble_eq_true rfl) ?_
      exact lw_ret hx hb hr hlocks d_law_242
    · exact absurd ((gt_ok hLs (by omega)).mpr (by omega)) c_1
  | succ n ih =>
    intro i hd hi L o fr tk lst ln f g1 g2 mn H locs ls hI hf hg hP hD hS hl
    refine lv_iload_n hx hb d_law_18 rfl (lv_at hl 0 rfl) ?_
    refine lv_aload_n hx hb d_law_19 rfl (lv_at hl 1 rfl) ?_
    refine va_slen hx hb hXs hbl hbA hS d_law_20 ?_
    refine lx_i (y := nI Ls) (rfl) ?_
    refine lv_iconst (v := nI 2) hx hb d_law_21 (by decide) ?_
    refine lv_isub hx hb d_law_22 ?_
    refine lv_icmp_gt (tgt := 241) hx hb d_law_23 (by decide) (fun c_2 => ?_) (fun c_2 => ?_)
    · refine lv_iconst (v := 1) hx hb d_law_241 (by decide) ?_
      refine va_forget (fun q hq => hS.2.2 q hq) ?_
      refine W.widen (k := 600000) (n := 7302250) (Nat.le_of_ble_eq_true rfl) (Nat.le_of_ble_eq_true rfl) ?_
      exact lw_ret hx hb hr hlocks d_law_242
    · have hi2 : i + 2 ≤ Ls := Nat.not_lt.mp (mt (gt_ok hLs (by omega)).mpr c_2)
      obtain ⟨h1, h2, h3, h4, h5, h6, h7, h8, h9⟩ := id hI
      obtain ⟨x, hxe⟩ : ∃ x, x = xs (i + 1) := ⟨_, rfl⟩
      refine lv_aload_n hx hb d_law_26 rfl (lv_at hl 1 rfl) ?_
      refine lv_iload_n hx hb d_law_27 rfl (lv_at hl 0 rfl) ?_
      refine va_sld hx hb hXs hbl hbA hS (vp_in_nI (by omega) (by omega)) d_law_28 ?_
      refine lx_i (y := xs i) (by rw [nI_clamp (by omega)]) ?_
      refine lv_bipush (v := nI 7) hx hb d_law_29 (by decide) ?_
      refine lv_iand hx hb d_law_31 ?_
      obtain ⟨j, hj, ej⟩ := pk_andE (xs i) (m := nI 7) 3 (by decide)
      refine lx_i (y := nI j) (ej) ?_
      rcases (show j = 0 ∨ j = 1 ∨ j = 2 ∨ j = 3 ∨ j = 4 ∨ j = 5 ∨ j = 6 ∨ j = 7 by omega) with rfl | rfl | rfl | rfl | rfl | rfl | rfl | rfl
      · refine lv_tableIn (off := 48) (tgt := 80) hx hb d_law_32 (by decide) (by decide) (by decide) (by decide) ?_
        rcases begin_cases x with hx1 | ⟨k, hk4, rfl⟩
        · refine lv_aload_n hx hb d_law_80 rfl (lv_at hl 2 rfl) ?_
          refine lv_aload_n hx hb d_law_81 rfl (lv_at hl 1 rfl) ?_
          refine lv_iload_n hx hb d_law_82 rfl (lv_at hl 0 rfl) ?_
          refine lv_iconst (v := nI 1) hx hb d_law_83 (by decide) ?_
          refine lq_add hx hb d_law_84 ?_
          refine va_sld hx hb hXs hbl hbA hS (vp_in_nI (by omega) (by omega)) d_law_85 ?_
          refine lx_i (y := x) (by rw [nI_clamp (by omega)]; exact hxe.symm) ?_
          refine gcall_i (q0 := 0) (wr := wM m0 hR hG cR cG (mS L o fr tk lst ln) g1 g2 mn) (As := [.int x]) (rest := []) C0 g_law_13 (c_D_beginOut l dC dI cB cK d0 hk h0 hB ad H.size L o fr tk (ln + c10 L) (wI lst) f hf x hx1) ⟨Nat.le_of_ble_eq_true rfl, Nat.le_of_ble_eq_true rfl⟩ ⟨rfl, rfl⟩ ⟨Nat.le_of_ble_eq_true rfl, Nat.le_of_ble_eq_true rfl⟩ d_law_86 rfl rfl (Nat.le_of_ble_eq_true rfl) hl.1 hK hP hD hS hA [0, 1, 2, 3] [4, 5, 6] [0, 1] rfl (by decide) rfl (by decide) (by decide) rfl rfl rfl KX.blind (KX.call hX hS) (fun r1 u H locs hw hP hD hS => ?_)
          obtain ⟨u1, f1⟩ := u
          dsimp only at hw
          obtain ⟨hw1, hf1⟩ := hw
          refine lv_aload_n hx hb d_law_89 rfl (lv_at hl 3 rfl) ?_
          refine lv_aload_n hx hb d_law_90 rfl (lv_at hl 1 rfl) ?_
          refine lv_iload_n hx hb d_law_91 rfl (lv_at hl 0 rfl) ?_
          refine lv_iconst (v := nI 1) hx hb d_law_92 (by decide) ?_
          refine lq_add hx hb d_law_93 ?_
          refine va_sld hx hb hXs hbl hbA hS (vp_in_nI (by omega) (by omega)) d_law_94 ?_
          refine lx_i (y := x) (by rw [nI_clamp (by omega)]; exact hxe.symm) ?_
          refine gcall_i (q0 := 0) (wr := wD d0 hk h0 hB cB cK ad u1 f1) (As := [.int x]) (rest := [.int r1]) C0 g_law_17 (c_M_beginOut l dC dI cR cG m0 hR hG H.size L (L.length - fr) o tk lst ln g1 g2 mn hg x hx1) ⟨Nat.le_of_ble_eq_true rfl, Nat.le_of_ble_eq_true rfl⟩ ⟨rfl, rfl⟩ ⟨Nat.le_of_ble_eq_true rfl, Nat.le_of_ble_eq_true rfl⟩ d_law_95 rfl rfl (Nat.le_of_ble_eq_true rfl) hl.1 hK hP hD hS hA [0, 1, 2] [3, 4, 5, 6] [2, 3] rfl (by decide) rfl (by decide) (by decide) rfl rfl rfl (fun _ _ _ _ _ _ => trivial) (fun _ _ _ _ _ => trivial) (fun r2 u H locs hw hP hD hS => ?_)
          obtain ⟨v1, g3, g4, mn2⟩ := u
          dsimp only at hw
          obtain ⟨hw2, hg3⟩ := hw
          have hq : r1 = r2 ∧ NXT u1 v1 (7 * i) := by
            exact ⟨by rw [hw1.1, hw2.1], by rw [hw1.2, hw2.2]; exact p_same hI⟩
          obtain ⟨hr9, L2, o2, fr2, tk2, lst2, ln2, rfl, rfl, hI2⟩ := hq
          refine lv_icmp_eq (tgt := 235) hx hb d_law_98 (by decide) (fun c_3 => ?_) (fun c_3 => ?_)
          · refine lv_iinc (v := nI (i + 2)) (lv' := [(3, .int (nI (i + 2))), (0, .ref b), (1, .ref d0), (2, .ref m0)]) hx hb d_law_235 hl (k := 0) rfl (nI_add i 2) (by decide) rfl (fun ls hl => ?_)
            refine lv_goto (tgt := 18) hx hb d_law_238 (by decide) ?_
            exact ih (i + 2) (by omega) (by omega) L2 o2 fr2 tk2 lst2 ln2 f1 g3 g4 mn2 H _ ls (hI2.mono (by omega)) hf1 hg3 hP hD hS hl
          · exact absurd hr9 c_3
        · refine lv_aload_n hx hb d_law_80 rfl (lv_at hl 2 rfl) ?_
          refine lv_aload_n hx hb d_law_81 rfl (lv_at hl 1 rfl) ?_
          refine lv_iload_n hx hb d_law_82 rfl (lv_at hl 0 rfl) ?_
          refine lv_iconst (v := nI 1) hx hb d_law_83 (by decide) ?_
          refine lq_add hx hb d_law_84 ?_
          refine va_sld hx hb hXs hbl hbA hS (vp_in_nI (by omega) (by omega)) d_law_85 ?_
          refine lx_i (y := nI k) (by rw [nI_clamp (by omega)]; exact hxe.symm) ?_
          refine gcall_i (q0 := 0) (wr := wM m0 hR hG cR cG (mS L o fr tk lst ln) g1 g2 mn) (As := [.int (nI k)]) (rest := []) C0 g_law_13 (c_D_beginIn l dC dI cB cK d0 hk h0 hB ad H.size L o fr tk (ln + c10 L) (wI lst) f hf k hk4 h1) ⟨Nat.le_of_ble_eq_true rfl, Nat.le_of_ble_eq_true rfl⟩ ⟨rfl, rfl⟩ ⟨Nat.le_of_ble_eq_true rfl, Nat.le_of_ble_eq_true rfl⟩ d_law_86 rfl rfl (Nat.le_of_ble_eq_true rfl) hl.1 hK hP hD hS hA [0, 1, 2, 3] [4, 5, 6] [0, 1] rfl (by decide) rfl (by decide) (by decide) rfl rfl rfl KX.blind (KX.call hX hS) (fun r1 u H locs hw hP hD hS => ?_)
          obtain ⟨u1, f1⟩ := u
          dsimp only at hw
          obtain ⟨hw1, hf1⟩ := hw
          refine lv_aload_n hx hb d_law_89 rfl (lv_at hl 3 rfl) ?_
          refine lv_aload_n hx hb d_law_90 rfl (lv_at hl 1 rfl) ?_
          refine lv_iload_n hx hb d_law_91 rfl (lv_at hl 0 rfl) ?_
          refine lv_iconst (v := nI 1) hx hb d_law_92 (by decide) ?_
          refine lq_add hx hb d_law_93 ?_
          refine va_sld hx hb hXs hbl hbA hS (vp_in_nI (by omega) (by omega)) d_law_94 ?_
          refine lx_i (y := nI k) (by rw [nI_clamp (by omega)]; exact hxe.symm) ?_
          refine gcall_i (q0 := 0) (wr := wD d0 hk h0 hB cB cK ad u1 f1) (As := [.int (nI k)]) (rest := [.int r1]) C0 g_law_17 (c_M_beginIn l dC dI cR cG m0 hR hG H.size L (L.length - fr) o tk lst ln g1 g2 mn hg k hk4 h1 h5) ⟨Nat.le_of_ble_eq_true rfl, Nat.le_of_ble_eq_true rfl⟩ ⟨rfl, rfl⟩ ⟨Nat.le_of_ble_eq_true rfl, Nat.le_of_ble_eq_true rfl⟩ d_law_95 rfl rfl (Nat.le_of_ble_eq_true rfl) hl.1 hK hP hD hS hA [0, 1, 2] [3, 4, 5, 6] [2, 3] rfl (by decide) rfl (by decide) (by decide) rfl rfl rfl (fun _ _ _ _ _ _ => trivial) (fun _ _ _ _ _ => trivial) (fun r2 u H locs hw hP hD hS => ?_)
          obtain ⟨v1, g3, g4, mn2⟩ := u
          dsimp only at hw
          obtain ⟨hw2, hg3⟩ := hw
          have hq : r1 = r2 ∧ NXT u1 v1 (7 * i) := by
            by_cases hm : L.length + enN o + 2 ≤ 3000
            · rw [if_pos hm] at hw1 hw2
              obtain ⟨L2, fr2, e1, e2, h9, -⟩ := p_begin (ln := ln) (k := k) hI (by omega) hm
              exact ⟨by rw [hw1.1, hw2.1], by rw [hw1.2, hw2.2]; exact ⟨L2, _, fr2, tk, lst, ln, e1, e2, h9⟩⟩
            · rw [if_neg hm] at hw1 hw2
              exact ⟨by rw [hw1.1, hw2.1], by rw [hw1.2, hw2.2]; exact p_same hI⟩
          obtain ⟨hr9, L2, o2, fr2, tk2, lst2, ln2, rfl, rfl, hI2⟩ := hq
          refine lv_icmp_eq (tgt := 235) hx hb d_law_98 (by decide) (fun c_4 => ?_) (fun c_4 => ?_)
          · refine lv_iinc (v := nI (i + 2)) (lv' := [(3, .int (nI (i + 2))), (0, .ref b), (1, .ref d0), (2, .ref m0)]) hx hb d_law_235 hl (k := 0) rfl (nI_add i 2) (by decide) rfl (fun ls hl => ?_)
            refine lv_goto (tgt := 18) hx hb d_law_238 (by decide) ?_
            exact ih (i + 2) (by omega) (by omega) L2 o2 fr2 tk2 lst2 ln2 f1 g3 g4 mn2 H _ ls (hI2.mono (by omega)) hf1 hg3 hP hD hS hl
          · exact absurd hr9 c_4
      · refine lv_tableIn (off := 71) (tgt := 103) hx hb d_law_32 (by decide) (by decide) (by decide) (by decide) ?_
        by_cases hc : isCh x
        · obtain ⟨n9, rfl, hn9, hs9⟩ := isCh_nat hc
          refine lv_aload_n hx hb d_law_103 rfl (lv_at hl 2 rfl) ?_
          refine lv_aload_n hx hb d_law_104 rfl (lv_at hl 1 rfl) ?_
          refine lv_iload_n hx hb d_law_105 rfl (lv_at hl 0 rfl) ?_
          refine lv_iconst (v := nI 1) hx hb d_law_106 (by decide) ?_
          refine lq_add hx hb d_law_107 ?_
          refine va_sld hx hb hXs hbl hbA hS (vp_in_nI (by omega) (by omega)) d_law_108 ?_
          refine lx_i (y := nI n9) (by rw [nI_clamp (by omega)]; exact hxe.symm) ?_
          refine gcall_i (q0 := 0) (wr := wM m0 hR hG cR cG (mS L o fr tk lst ln) g1 g2 mn) (As := [.int (nI n9)]) (rest := []) C0 g_law_18 (c_D_addIn l dC dI cB cK d0 hk h0 hB ad H.size L o fr tk (ln + c10 L) (wI lst) f hf n9 hc hn9 h1 h5) ⟨Nat.le_of_ble_eq_true rfl, Nat.le_of_ble_eq_true rfl⟩ ⟨rfl, rfl⟩ ⟨Nat.le_of_ble_eq_true rfl, Nat.le_of_ble_eq_true rfl⟩ d_law_109 rfl rfl (Nat.le_of_ble_eq_true rfl) hl.1 hK hP hD hS hA [0, 1, 2, 3] [4, 5, 6] [0, 1] rfl (by decide) rfl (by decide) (by decide) rfl rfl rfl KX.blind (KX.call hX hS) (fun r1 u H locs hw hP hD hS => ?_)
          obtain ⟨u1, f1⟩ := u
          dsimp only at hw
          obtain ⟨hw1, hf1⟩ := hw
          refine lv_aload_n hx hb d_law_112 rfl (lv_at hl 3 rfl) ?_
          refine lv_aload_n hx hb d_law_113 rfl (lv_at hl 1 rfl) ?_
          refine lv_iload_n hx hb d_law_114 rfl (lv_at hl 0 rfl) ?_
          refine lv_iconst (v := nI 1) hx hb d_law_115 (by decide) ?_
          refine lq_add hx hb d_law_116 ?_
          refine va_sld hx hb hXs hbl hbA hS (vp_in_nI (by omega) (by omega)) d_law_117 ?_
          refine lx_i (y := nI n9) (by rw [nI_clamp (by omega)]; exact hxe.symm) ?_
          refine gcall_i (q0 := 0) (wr := wD d0 hk h0 hB cB cK ad u1 f1) (As := [.int (nI n9)]) (rest := [.int r1]) C0 g_law_21 (c_M_addIn l dC dI cR cG m0 hR hG H.size L (L.length - fr) o tk lst ln g1 g2 mn hg n9 hn9 hs9 h1 h5) ⟨Nat.le_of_ble_eq_true rfl, Nat.le_of_ble_eq_true rfl⟩ ⟨rfl, rfl⟩ ⟨Nat.le_of_ble_eq_true rfl, Nat.le_of_ble_eq_true rfl⟩ d_law_118 rfl rfl (Nat.le_of_ble_eq_true rfl) hl.1 hK hP hD hS hA [0, 1, 2] [3, 4, 5, 6] [2, 3] rfl (by decide) rfl (by decide) (by decide) rfl rfl rfl (fun _ _ _ _ _ _ => trivial) (fun _ _ _ _ _ => trivial) (fun r2 u H locs hw hP hD hS => ?_)
          obtain ⟨v1, g3, g4, mn2⟩ := u
          dsimp only at hw
          obtain ⟨hw2, hg3⟩ := hw
          have hq : r1 = r2 ∧ NXT u1 v1 (7 * i) := by
            by_cases ho : o = none ∨ o = some 4
            · rw [if_pos ho] at hw1 hw2
              exact ⟨by rw [hw1.1, hw2.1], by rw [hw1.2, hw2.2]; exact p_same hI⟩
            · rw [if_neg ho] at hw1 hw2
              by_cases hm : L.length + bofN n9 + 1 ≤ 3000
              · rw [if_pos hm] at hw1 hw2
                exact ⟨by rw [hw1.1, hw2.1], by rw [hw1.2, hw2.2]; exact p_add hI (fun q => ho (Or.inl q)) hn9 hm⟩
              · rw [if_neg hm] at hw1 hw2
                exact ⟨by rw [hw1.1, hw2.1], by rw [hw1.2, hw2.2]; exact p_same hI⟩
          obtain ⟨hr9, L2, o2, fr2, tk2, lst2, ln2, rfl, rfl, hI2⟩ := hq
          refine lv_icmp_eq (tgt := 235) hx hb d_law_121 (by decide) (fun c_5 => ?_) (fun c_5 => ?_)
          · refine lv_iinc (v := nI (i + 2)) (lv' := [(3, .int (nI (i + 2))), (0, .ref b), (1, .ref d0), (2, .ref m0)]) hx hb d_law_235 hl (k := 0) rfl (nI_add i 2) (by decide) rfl (fun ls hl => ?_)
            refine lv_goto (tgt := 18) hx hb d_law_238 (by decide) ?_
            exact ih (i + 2) (by omega) (by omega) L2 o2 fr2 tk2 lst2 ln2 f1 g3 g4 mn2 H _ ls (hI2.mono (by omega)) hf1 hg3 hP hD hS hl
          · exact absurd hr9 c_5
        · refine lv_aload_n hx hb d_law_103 rfl (lv_at hl 2 rfl) ?_
          refine lv_aload_n hx hb d_law_104 rfl (lv_at hl 1 rfl) ?_
          refine lv_iload_n hx hb d_law_105 rfl (lv_at hl 0 rfl) ?_
          refine lv_iconst (v := nI 1) hx hb d_law_106 (by decide) ?_
          refine lq_add hx hb d_law_107 ?_
          refine va_sld hx hb hXs hbl hbA hS (vp_in_nI (by omega) (by omega)) d_law_108 ?_
          refine lx_i (y := x) (by rw [nI_clamp (by omega)]; exact hxe.symm) ?_
          refine gcall_i (q0 := 0) (wr := wM m0 hR hG cR cG (mS L o fr tk lst ln) g1 g2 mn) (As := [.int x]) (rest := []) C0 g_law_18 (c_D_addOut l dC dI cB cK d0 hk h0 hB ad H.size L o fr tk (ln + c10 L) (wI lst) f hf x hc) ⟨Nat.le_of_ble_eq_true rfl, Nat.le_of_ble_eq_true rfl⟩ ⟨rfl, rfl⟩ ⟨Nat.le_of_ble_eq_true rfl, Nat.le_of_ble_eq_true rfl⟩ d_law_109 rfl rfl (Nat.le_of_ble_eq_true rfl) hl.1 hK hP hD hS hA [0, 1, 2, 3] [4, 5, 6] [0, 1] rfl (by decide) rfl (by decide) (by decide) rfl rfl rfl KX.blind (KX.call hX hS) (fun r1 u H locs hw hP hD hS => ?_)
          obtain ⟨u1, f1⟩ := u
          dsimp only at hw
          obtain ⟨hw1, hf1⟩ := hw
          refine lv_aload_n hx hb d_law_112 rfl (lv_at hl 3 rfl) ?_
          refine lv_aload_n hx hb d_law_113 rfl (lv_at hl 1 rfl) ?_
          refine lv_iload_n hx hb d_law_114 rfl (lv_at hl 0 rfl) ?_
          refine lv_iconst (v := nI 1) hx hb d_law_115 (by decide) ?_
          refine lq_add hx hb d_law_116 ?_
          refine va_sld hx hb hXs hbl hbA hS (vp_in_nI (by omega) (by omega)) d_law_117 ?_
          refine lx_i (y := x) (by rw [nI_clamp (by omega)]; exact hxe.symm) ?_
          refine gcall_i (q0 := 0) (wr := wD d0 hk h0 hB cB cK ad u1 f1) (As := [.int x]) (rest := [.int r1]) C0 g_law_21 (c_M_addOut l dC dI cR cG m0 hR hG H.size L (L.length - fr) o tk lst ln g1 g2 mn hg x hc h5) ⟨Nat.le_of_ble_eq_true rfl, Nat.le_of_ble_eq_true rfl⟩ ⟨rfl, rfl⟩ ⟨Nat.le_of_ble_eq_true rfl, Nat.le_of_ble_eq_true rfl⟩ d_law_118 rfl rfl (Nat.le_of_ble_eq_true rfl) hl.1 hK hP hD hS hA [0, 1, 2] [3, 4, 5, 6] [2, 3] rfl (by decide) rfl (by decide) (by decide) rfl rfl rfl (fun _ _ _ _ _ _ => trivial) (fun _ _ _ _ _ => trivial) (fun r2 u H locs hw hP hD hS => ?_)
          obtain ⟨v1, g3, g4, mn2⟩ := u
          dsimp only at hw
          obtain ⟨hw2, hg3⟩ := hw
          have hq : r1 = r2 ∧ NXT u1 v1 (7 * i) := by
            exact ⟨by rw [hw1.1, hw2.1], by rw [hw1.2, hw2.2]; exact p_same hI⟩
          obtain ⟨hr9, L2, o2, fr2, tk2, lst2, ln2, rfl, rfl, hI2⟩ := hq
          refine lv_icmp_eq (tgt := 235) hx hb d_law_121 (by decide) (fun c_6 => ?_) (fun c_6 => ?_)
          · refine lv_iinc (v := nI (i + 2)) (lv' := [(3, .int (nI (i + 2))), (0, .ref b), (1, .ref d0), (2, .ref m0)]) hx hb d_law_235 hl (k := 0) rfl (nI_add i 2) (by decide) rfl (fun ls hl => ?_)
            refine lv_goto (tgt := 18) hx hb d_law_238 (by decide) ?_
            exact ih (i + 2) (by omega) (by omega) L2 o2 fr2 tk2 lst2 ln2 f1 g3 g4 mn2 H _ ls (hI2.mono (by omega)) hf1 hg3 hP hD hS hl
          · exact absurd hr9 c_6
      · refine lv_tableIn (off := 94) (tgt := 126) hx hb d_law_32 (by decide) (by decide) (by decide) (by decide) ?_
        by_cases hc : isCh x
        · obtain ⟨n9, rfl, hn9, hs9⟩ := isCh_nat hc
          refine lv_aload_n hx hb d_law_126 rfl (lv_at hl 2 rfl) ?_
          refine lv_aload_n hx hb d_law_127 rfl (lv_at hl 1 rfl) ?_
          refine lv_iload_n hx hb d_law_128 rfl (lv_at hl 0 rfl) ?_
          refine lv_iconst (v := nI 1) hx hb d_law_129 (by decide) ?_
          refine lq_add hx hb d_law_130 ?_
          refine va_sld hx hb hXs hbl hbA hS (vp_in_nI (by omega) (by omega)) d_law_131 ?_
          refine lx_i (y := nI n9) (by rw [nI_clamp (by omega)]; exact hxe.symm) ?_
          refine gcall_i (q0 := 0) (wr := wM m0 hR hG cR cG (mS L o fr tk lst ln) g1 g2 mn) (As := [.int (nI n9)]) (rest := []) C0 g_law_22 (c_D_textIn l dC dI cB cK d0 hk h0 hB ad H.size L o fr tk (ln + c10 L) (wI lst) f hf n9 hc hn9 h1 h5) ⟨Nat.le_of_ble_eq_true rfl, Nat.le_of_ble_eq_true rfl⟩ ⟨rfl, rfl⟩ ⟨Nat.le_of_ble_eq_true rfl, Nat.le_of_ble_eq_true rfl⟩ d_law_132 rfl rfl (Nat.le_of_ble_eq_true rfl) hl.1 hK hP hD hS hA [0, 1, 2, 3] [4, 5, 6] [0, 1] rfl (by decide) rfl (by decide) (by decide) rfl rfl rfl KX.blind (KX.call hX hS) (fun r1 u H locs hw hP hD hS => ?_)
          obtain ⟨u1, f1⟩ := u
          dsimp only at hw
          obtain ⟨hw1, hf1⟩ := hw
          refine lv_aload_n hx hb d_law_135 rfl (lv_at hl 3 rfl) ?_
          refine lv_aload_n hx hb d_law_136 rfl (lv_at hl 1 rfl) ?_
          refine lv_iload_n hx hb d_law_137 rfl (lv_at hl 0 rfl) ?_
          refine lv_iconst (v := nI 1) hx hb d_law_138 (by decide) ?_
          refine lq_add hx hb d_law_139 ?_
          refine va_sld hx hb hXs hbl hbA hS (vp_in_nI (by omega) (by omega)) d_law_140 ?_
          refine lx_i (y := nI n9) (by rw [nI_clamp (by omega)]; exact hxe.symm) ?_
          refine gcall_i (q0 := 0) (wr := wD d0 hk h0 hB cB cK ad u1 f1) (As := [.int (nI n9)]) (rest := [.int r1]) C0 g_law_25 (c_M_textIn l dC dI cR cG m0 hR hG H.size L (L.length - fr) o tk lst ln g1 g2 mn hg n9 hn9 hs9 h1 h5) ⟨Nat.le_of_ble_eq_true rfl, Nat.le_of_ble_eq_true rfl⟩ ⟨rfl, rfl⟩ ⟨Nat.le_of_ble_eq_true rfl, Nat.le_of_ble_eq_true rfl⟩ d_law_141 rfl rfl (Nat.le_of_ble_eq_true rfl) hl.1 hK hP hD hS hA [0, 1, 2] [3, 4, 5, 6] [2, 3] rfl (by decide) rfl (by decide) (by decide) rfl rfl rfl (fun _ _ _ _ _ _ => trivial) (fun _ _ _ _ _ => trivial) (fun r2 u H locs hw hP hD hS => ?_)
          obtain ⟨v1, g3, g4, mn2⟩ := u
          dsimp only at hw
          obtain ⟨hw2, hg3⟩ := hw
          have hq : r1 = r2 ∧ NXT u1 v1 (7 * i) := by
            by_cases ho : o = some 4
            · rw [if_pos ho] at hw1 hw2
              by_cases hm : L.length + bofN n9 + 1 ≤ 3000
              · rw [if_pos hm] at hw1 hw2
                exact ⟨by rw [hw1.1, hw2.1], by rw [hw1.2, hw2.2]; exact p_add hI (by rw [ho]; simp) hn9 hm⟩
              · rw [if_neg hm] at hw1 hw2
                exact ⟨by rw [hw1.1, hw2.1], by rw [hw1.2, hw2.2]; exact p_same hI⟩
            · rw [if_neg ho] at hw1 hw2
              by_cases hm : L.length + (enN o + 1 + bofN n9) + 1 ≤ 3000
              · rw [if_pos hm] at hw1 hw2
                exact ⟨by rw [hw1.1, hw2.1], by rw [hw1.2, hw2.2]; exact p_text hI hn9 hm⟩
              · rw [if_neg hm] at hw1 hw2
                exact ⟨by rw [hw1.1, hw2.1], by rw [hw1.2, hw2.2]; exact p_same hI⟩
          obtain ⟨hr9, L2, o2, fr2, tk2, lst2, ln2, rfl, rfl, hI2⟩ := hq
          refine lv_icmp_eq (tgt := 235) hx hb d_law_144 (by decide) (fun c_7 => ?_) (fun c_7 => ?_)
          · refine lv_iinc (v := nI (i + 2)) (lv' := [(3, .int (nI (i + 2))), (0, .ref b), (1, .ref d0), (2, .ref m0)]) hx hb d_law_235 hl (k := 0) rfl (nI_add i 2) (by decide) rfl (fun ls hl => ?_)
            refine lv_goto (tgt := 18) hx hb d_law_238 (by decide) ?_
            exact ih (i + 2) (by omega) (by omega) L2 o2 fr2 tk2 lst2 ln2 f1 g3 g4 mn2 H _ ls (hI2.mono (by omega)) hf1 hg3 hP hD hS hl
          · exact absurd hr9 c_7
        · refine lv_aload_n hx hb d_law_126 rfl (lv_at hl 2 rfl) ?_
          refine lv_aload_n hx hb d_law_127 rfl (lv_at hl 1 rfl) ?_
          refine lv_iload_n hx hb d_law_128 rfl (lv_at hl 0 rfl) ?_
          refine lv_iconst (v := nI 1) hx hb d_law_129 (by decide) ?_
          refine lq_add hx hb d_law_130 ?_
          refine va_sld hx hb hXs hbl hbA hS (vp_in_nI (by omega) (by omega)) d_law_131 ?_
          refine lx_i (y := x) (by rw [nI_clamp (by omega)]; exact hxe.symm) ?_
          refine gcall_i (q0 := 0) (wr := wM m0 hR hG cR cG (mS L o fr tk lst ln) g1 g2 mn) (As := [.int x]) (rest := []) C0 g_law_22 (c_D_textOut l dC dI cB cK d0 hk h0 hB ad H.size L o fr tk (ln + c10 L) (wI lst) f hf x hc) ⟨Nat.le_of_ble_eq_true rfl, Nat.le_of_ble_eq_true rfl⟩ ⟨rfl, rfl⟩ ⟨Nat.le_of_ble_eq_true rfl, Nat.le_of_ble_eq_true rfl⟩ d_law_132 rfl rfl (Nat.le_of_ble_eq_true rfl) hl.1 hK hP hD hS hA [0, 1, 2, 3] [4, 5, 6] [0, 1] rfl (by decide) rfl (by decide) (by decide) rfl rfl rfl KX.blind (KX.call hX hS) (fun r1 u H locs hw hP hD hS => ?_)
          obtain ⟨u1, f1⟩ := u
          dsimp only at hw
          obtain ⟨hw1, hf1⟩ := hw
          refine lv_aload_n hx hb d_law_135 rfl (lv_at hl 3 rfl) ?_
          refine lv_aload_n hx hb d_law_136 rfl (lv_at hl 1 rfl) ?_
          refine lv_iload_n hx hb d_law_137 rfl (lv_at hl 0 rfl) ?_
          refine lv_iconst (v := nI 1) hx hb d_law_138 (by decide) ?_
          refine lq_add hx hb d_law_139 ?_
          refine va_sld hx hb hXs hbl hbA hS (vp_in_nI (by omega) (by omega)) d_law_140 ?_
          refine lx_i (y := x) (by rw [nI_clamp (by omega)]; exact hxe.symm) ?_
          refine gcall_i (q0 := 0) (wr := wD d0 hk h0 hB cB cK ad u1 f1) (As := [.int x]) (rest := [.int r1]) C0 g_law_25 (c_M_textOut l dC dI cR cG m0 hR hG H.size L (L.length - fr) o tk lst ln g1 g2 mn hg x hc) ⟨Nat.le_of_ble_eq_true rfl, Nat.le_of_ble_eq_true rfl⟩ ⟨rfl, rfl⟩ ⟨Nat.le_of_ble_eq_true rfl, Nat.le_of_ble_eq_true rfl⟩ d_law_141 rfl rfl (Nat.le_of_ble_eq_true rfl) hl.1 hK hP hD hS hA [0, 1, 2] [3, 4, 5, 6] [2, 3] rfl (by decide) rfl (by decide) (by decide) rfl rfl rfl (fun _ _ _ _ _ _ => trivial) (fun _ _ _ _ _ => trivial) (fun r2 u H locs hw hP hD hS => ?_)
          obtain ⟨v1, g3, g4, mn2⟩ := u
          dsimp only at hw
          obtain ⟨hw2, hg3⟩ := hw
          have hq : r1 = r2 ∧ NXT u1 v1 (7 * i) := by
            exact ⟨by rw [hw1.1, hw2.1], by rw [hw1.2, hw2.2]; exact p_same hI⟩
          obtain ⟨hr9, L2, o2, fr2, tk2, lst2, ln2, rfl, rfl, hI2⟩ := hq
          refine lv_icmp_eq (tgt := 235) hx hb d_law_144 (by decide) (fun c_8 => ?_) (fun c_8 => ?_)
          · refine lv_iinc (v := nI (i + 2)) (lv' := [(3, .int (nI (i + 2))), (0, .ref b), (1, .ref d0), (2, .ref m0)]) hx hb d_law_235 hl (k := 0) rfl (nI_add i 2) (by decide) rfl (fun ls hl => ?_)
            refine lv_goto (tgt := 18) hx hb d_law_238 (by decide) ?_
            exact ih (i + 2) (by omega) (by omega) L2 o2 fr2 tk2 lst2 ln2 f1 g3 g4 mn2 H _ ls (hI2.mono (by omega)) hf1 hg3 hP hD hS hl
          · exact absurd hr9 c_8
      · refine lv_tableIn (off := 117) (tgt := 149) hx hb d_law_32 (by decide) (by decide) (by decide) (by decide) ?_
        refine lv_aload_n hx hb d_law_149 rfl (lv_at hl 2 rfl) ?_
        refine gcall_i (q0 := 0) (wr := wM m0 hR hG cR cG (mS L o fr tk lst ln) g1 g2 mn) (As := []) (rest := []) C0 g_law_26 (c_D_end l dC dI cB cK d0 hk h0 hB ad H.size L o fr tk (ln + c10 L) (wI lst) f hf h2 h5) ⟨Nat.le_of_ble_eq_true rfl, Nat.le_of_ble_eq_true rfl⟩ ⟨rfl, rfl⟩ ⟨Nat.le_of_ble_eq_true rfl, Nat.le_of_ble_eq_true rfl⟩ d_law_150 rfl rfl (Nat.le_of_ble_eq_true rfl) hl.1 hK hP hD hS hA [0, 1, 2, 3] [4, 5, 6] [0, 1] rfl (by decide) rfl (by decide) (by decide) rfl rfl rfl KX.blind (KX.call hX hS) (fun r1 u H locs hw hP hD hS => ?_)
        obtain ⟨u1, f1⟩ := u
        dsimp only at hw
        obtain ⟨hw1, hf1⟩ := hw
        refine lv_aload_n hx hb d_law_153 rfl (lv_at hl 3 rfl) ?_
        refine gcall_i (q0 := 0) (wr := wD d0 hk h0 hB cB cK ad u1 f1) (As := []) (rest := [.int r1]) C0 g_law_30 (c_M_end l dC dI cR cG m0 hR hG H.size L (L.length - fr) o tk lst ln g1 g2 mn hg h2 h5) ⟨Nat.le_of_ble_eq_true rfl, Nat.le_of_ble_eq_true rfl⟩ ⟨rfl, rfl⟩ ⟨Nat.le_of_ble_eq_true rfl, Nat.le_of_ble_eq_true rfl⟩ d_law_154 rfl rfl (Nat.le_of_ble_eq_true rfl) hl.1 hK hP hD hS hA [0, 1, 2] [3, 4, 5, 6] [2, 3] rfl (by decide) rfl (by decide) (by decide) rfl rfl rfl (fun _ _ _ _ _ _ => trivial) (fun _ _ _ _ _ => trivial) (fun r2 u H locs hw hP hD hS => ?_)
        obtain ⟨v1, g3, g4, mn2⟩ := u
        dsimp only at hw
        obtain ⟨hw2, hg3⟩ := hw
        have hq : r1 = r2 ∧ NXT u1 v1 (7 * i) := by
          exact ⟨by rw [hw1.1, hw2.1], by rw [hw1.2, hw2.2]; exact p_end hI⟩
        obtain ⟨hr9, L2, o2, fr2, tk2, lst2, ln2, rfl, rfl, hI2⟩ := hq
        refine lv_icmp_eq (tgt := 235) hx hb d_law_157 (by decide) (fun c_9 => ?_) (fun c_9 => ?_)
        · refine lv_iinc (v := nI (i + 2)) (lv' := [(3, .int (nI (i + 2))), (0, .ref b), (1, .ref d0), (2, .ref m0)]) hx hb d_law_235 hl (k := 0) rfl (nI_add i 2) (by decide) rfl (fun ls hl => ?_)
          refine lv_goto (tgt := 18) hx hb d_law_238 (by decide) ?_
          exact ih (i + 2) (by omega) (by omega) L2 o2 fr2 tk2 lst2 ln2 f1 g3 g4 mn2 H _ ls (hI2.mono (by omega)) hf1 hg3 hP hD hS hl
        · exact absurd hr9 c_9
      · refine lv_tableIn (off := 130) (tgt := 162) hx hb d_law_32 (by decide) (by decide) (by decide) (by decide) ?_
        have htk : tk < 1000000 := by omega
        rcases mark_cases (x := x) htk h1 with hx1 | ⟨to, hto, rfl⟩
        · refine lv_aload_n hx hb d_law_162 rfl (lv_at hl 2 rfl) ?_
          refine lv_aload_n hx hb d_law_163 rfl (lv_at hl 1 rfl) ?_
          refine lv_iload_n hx hb d_law_164 rfl (lv_at hl 0 rfl) ?_
          refine lv_iconst (v := nI 1) hx hb d_law_165 (by decide) ?_
          refine lq_add hx hb d_law_166 ?_
          refine va_sld hx hb hXs hbl hbA hS (vp_in_nI (by omega) (by omega)) d_law_167 ?_
          refine lx_i (y := x) (by rw [nI_clamp (by omega)]; exact hxe.symm) ?_
          refine gcall_i (q0 := 0) (wr := wM m0 hR hG cR cG (mS L o fr tk lst ln) g1 g2 mn) (As := [.int x]) (rest := []) C0 g_law_31 (c_D_backOut l dC dI cB cK d0 hk h0 hB ad H.size L o fr tk (ln + c10 L) (wI lst) f hf x hx1) ⟨Nat.le_of_ble_eq_true rfl, Nat.le_of_ble_eq_true rfl⟩ ⟨rfl, rfl⟩ ⟨Nat.le_of_ble_eq_true rfl, Nat.le_of_ble_eq_true rfl⟩ d_law_168 rfl rfl (Nat.le_of_ble_eq_true rfl) hl.1 hK hP hD hS hA [0, 1, 2, 3] [4, 5, 6] [0, 1] rfl (by decide) rfl (by decide) (by decide) rfl rfl rfl KX.blind (KX.call hX hS) (fun r1 u H locs hw hP hD hS => ?_)
          obtain ⟨u1, f1⟩ := u
          dsimp only at hw
          obtain ⟨hw1, hf1⟩ := hw
          refine lv_aload_n hx hb d_law_171 rfl (lv_at hl 3 rfl) ?_
          refine lv_aload_n hx hb d_law_172 rfl (lv_at hl 1 rfl) ?_
          refine lv_iload_n hx hb d_law_173 rfl (lv_at hl 0 rfl) ?_
          refine lv_iconst (v := nI 1) hx hb d_law_174 (by decide) ?_
          refine lq_add hx hb d_law_175 ?_
          refine va_sld hx hb hXs hbl hbA hS (vp_in_nI (by omega) (by omega)) d_law_176 ?_
          refine lx_i (y := x) (by rw [nI_clamp (by omega)]; exact hxe.symm) ?_
          refine gcall_i (q0 := 0) (wr := wD d0 hk h0 hB cB cK ad u1 f1) (As := [.int x]) (rest := [.int r1]) C0 g_law_34 (c_M_backOut l dC dI cR cG m0 hR hG H.size L (L.length - fr) o tk lst ln g1 g2 mn hg x htk h1 hx1) ⟨Nat.le_of_ble_eq_true rfl, Nat.le_of_ble_eq_true rfl⟩ ⟨rfl, rfl⟩ ⟨Nat.le_of_ble_eq_true rfl, Nat.le_of_ble_eq_true rfl⟩ d_law_177 rfl rfl (Nat.le_of_ble_eq_true rfl) hl.1 hK hP hD hS hA [0, 1, 2] [3, 4, 5, 6] [2, 3] rfl (by decide) rfl (by decide) (by decide) rfl rfl rfl (fun _ _ _ _ _ _ => trivial) (fun _ _ _ _ _ => trivial) (fun r2 u H locs hw hP hD hS => ?_)
          obtain ⟨v1, g3, g4, mn2⟩ := u
          dsimp only at hw
          obtain ⟨hw2, hg3⟩ := hw
          have hq : r1 = r2 ∧ NXT u1 v1 (7 * i) := by
            exact ⟨by rw [hw1.1, hw2.1], by rw [hw1.2, hw2.2]; exact p_same hI⟩
          obtain ⟨hr9, L2, o2, fr2, tk2, lst2, ln2, rfl, rfl, hI2⟩ := hq
          refine lv_icmp_eq (tgt := 235) hx hb d_law_180 (by decide) (fun c_10 => ?_) (fun c_10 => ?_)
          · refine lv_iinc (v := nI (i + 2)) (lv' := [(3, .int (nI (i + 2))), (0, .ref b), (1, .ref d0), (2, .ref m0)]) hx hb d_law_235 hl (k := 0) rfl (nI_add i 2) (by decide) rfl (fun ls hl => ?_)
            refine lv_goto (tgt := 18) hx hb d_law_238 (by decide) ?_
            exact ih (i + 2) (by omega) (by omega) L2 o2 fr2 tk2 lst2 ln2 f1 g3 g4 mn2 H _ ls (hI2.mono (by omega)) hf1 hg3 hP hD hS hl
          · exact absurd hr9 c_10
        · refine lv_aload_n hx hb d_law_162 rfl (lv_at hl 2 rfl) ?_
          refine lv_aload_n hx hb d_law_163 rfl (lv_at hl 1 rfl) ?_
          refine lv_iload_n hx hb d_law_164 rfl (lv_at hl 0 rfl) ?_
          refine lv_iconst (v := nI 1) hx hb d_law_165 (by decide) ?_
          refine lq_add hx hb d_law_166 ?_
          refine va_sld hx hb hXs hbl hbA hS (vp_in_nI (by omega) (by omega)) d_law_167 ?_
          refine lx_i (y := nI (tk + to)) (by rw [nI_clamp (by omega)]; exact hxe.symm) ?_
          refine gcall_i (q0 := 0) (wr := wM m0 hR hG cR cG (mS L o fr tk lst ln) g1 g2 mn) (As := [.int (nI (tk + to))]) (rest := []) C0 g_law_31 (c_D_backIn l dC dI cB cK d0 hk h0 hB ad H.size L o fr tk (ln + c10 L) (wI lst) f hf to hto h1 htk h6 h3 (Nat.le_trans (cut_le L to fr) (Nat.le_add_left _ _))) ⟨Nat.le_of_ble_eq_true rfl, Nat.le_of_ble_eq_true rfl⟩ ⟨rfl, rfl⟩ ⟨Nat.le_of_ble_eq_true rfl, Nat.le_of_ble_eq_true rfl⟩ d_law_168 rfl rfl (Nat.le_of_ble_eq_true rfl) hl.1 hK hP hD hS hA [0, 1, 2, 3] [4, 5, 6] [0, 1] rfl (by decide) rfl (by decide) (by decide) rfl rfl rfl KX.blind (KX.call hX hS) (fun r1 u H locs hw hP hD hS => ?_)
          obtain ⟨u1, f1⟩ := u
          dsimp only at hw
          obtain ⟨hw1, hf1⟩ := hw
          refine lv_aload_n hx hb d_law_171 rfl (lv_at hl 3 rfl) ?_
          refine lv_aload_n hx hb d_law_172 rfl (lv_at hl 1 rfl) ?_
          refine lv_iload_n hx hb d_law_173 rfl (lv_at hl 0 rfl) ?_
          refine lv_iconst (v := nI 1) hx hb d_law_174 (by decide) ?_
          refine lq_add hx hb d_law_175 ?_
          refine va_sld hx hb hXs hbl hbA hS (vp_in_nI (by omega) (by omega)) d_law_176 ?_
          refine lx_i (y := nI (tk + to)) (by rw [nI_clamp (by omega)]; exact hxe.symm) ?_
          refine gcall_i (q0 := 0) (wr := wD d0 hk h0 hB cB cK ad u1 f1) (As := [.int (nI (tk + to))]) (rest := [.int r1]) C0 g_law_34 (c_M_backIn l dC dI cR cG m0 hR hG H.size L (L.length - fr) o tk lst ln g1 g2 mn hg to hto h1 htk h6 h7) ⟨Nat.le_of_ble_eq_true rfl, Nat.le_of_ble_eq_true rfl⟩ ⟨rfl, rfl⟩ ⟨Nat.le_of_ble_eq_true rfl, Nat.le_of_ble_eq_true rfl⟩ d_law_177 rfl rfl (Nat.le_of_ble_eq_true rfl) hl.1 hK hP hD hS hA [0, 1, 2] [3, 4, 5, 6] [2, 3] rfl (by decide) rfl (by decide) (by decide) rfl rfl rfl (fun _ _ _ _ _ _ => trivial) (fun _ _ _ _ _ => trivial) (fun r2 u H locs hw hP hD hS => ?_)
          obtain ⟨v1, g3, g4, mn2⟩ := u
          dsimp only at hw
          obtain ⟨hw2, hg3⟩ := hw
          have hq : r1 = r2 ∧ NXT u1 v1 (7 * i) := by
            have hiff : ((to = 0 ∧ ¬ wI lst = 0) ∨ (¬ to = 0 ∧ L.getD (to - 1) 0 = 10)) ↔ ((to = 0 ∧ lst = 10) ∨ (¬ to = 0 ∧ L.getD (to - 1) 0 = 10)) := by rw [wI_ne]
            by_cases hm : (to = 0 ∧ lst = 10) ∨ (¬ to = 0 ∧ L.getD (to - 1) 0 = 10)
            · rw [if_pos (hiff.mpr hm)] at hw1
              rw [if_pos hm] at hw2
              exact ⟨by rw [hw1.1, hw2.1], by rw [hw1.2, hw2.2]; exact p_back hI hto hm⟩
            · rw [if_neg (mt hiff.mp hm)] at hw1
              rw [if_neg hm] at hw2
              exact ⟨by rw [hw1.1, hw2.1], by rw [hw1.2, hw2.2]; exact p_same hI⟩
          obtain ⟨hr9, L2, o2, fr2, tk2, lst2, ln2, rfl, rfl, hI2⟩ := hq
          refine lv_icmp_eq (tgt := 235) hx hb d_law_180 (by decide) (fun c_11 => ?_) (fun c_11 => ?_)
          · refine lv_iinc (v := nI (i + 2)) (lv' := [(3, .int (nI (i + 2))), (0, .ref b), (1, .ref d0), (2, .ref m0)]) hx hb d_law_235 hl (k := 0) rfl (nI_add i 2) (by decide) rfl (fun ls hl => ?_)
            refine lv_goto (tgt := 18) hx hb d_law_238 (by decide) ?_
            exact ih (i + 2) (by omega) (by omega) L2 o2 fr2 tk2 lst2 ln2 f1 g3 g4 mn2 H _ ls (hI2.mono (by omega)) hf1 hg3 hP hD hS hl
          · exact absurd hr9 c_11
      · refine lv_tableIn (off := 153) (tgt := 185) hx hb d_law_32 (by decide) (by decide) (by decide) (by decide) ?_
        refine lv_aload_n hx hb d_law_185 rfl (lv_at hl 2 rfl) ?_
        refine gcall_i (q0 := 0) (wr := wM m0 hR hG cR cG (mS L o fr tk lst ln) g1 g2 mn) (As := []) (rest := []) C0 g_law_35 (c_D_mark l dC dI cB cK d0 hk h0 hB ad H.size L o fr tk (ln + c10 L) (wI lst) f hf ) ⟨Nat.le_of_ble_eq_true rfl, Nat.le_of_ble_eq_true rfl⟩ ⟨rfl, rfl⟩ ⟨Nat.le_of_ble_eq_true rfl, Nat.le_of_ble_eq_true rfl⟩ d_law_186 rfl rfl (Nat.le_of_ble_eq_true rfl) hl.1 hK hP hD hS hA [0, 1, 2, 3] [4, 5, 6] [0, 1] rfl (by decide) rfl (by decide) (by decide) rfl rfl rfl KX.blind (KX.call hX hS) (fun r1 u H locs hw hP hD hS => ?_)
        obtain ⟨u1, f1⟩ := u
        dsimp only at hw
        obtain ⟨hw1, hf1⟩ := hw
        refine lv_aload_n hx hb d_law_189 rfl (lv_at hl 3 rfl) ?_
        refine gcall_i (q0 := 0) (wr := wD d0 hk h0 hB cB cK ad u1 f1) (As := []) (rest := [.int r1]) C0 g_law_38 (c_M_mark l dC dI cR cG m0 hR hG H.size L (L.length - fr) o tk lst ln g1 g2 mn hg h5) ⟨Nat.le_of_ble_eq_true rfl, Nat.le_of_ble_eq_true rfl⟩ ⟨rfl, rfl⟩ ⟨Nat.le_of_ble_eq_true rfl, Nat.le_of_ble_eq_true rfl⟩ d_law_190 rfl rfl (Nat.le_of_ble_eq_true rfl) hl.1 hK hP hD hS hA [0, 1, 2] [3, 4, 5, 6] [2, 3] rfl (by decide) rfl (by decide) (by decide) rfl rfl rfl (fun _ _ _ _ _ _ => trivial) (fun _ _ _ _ _ => trivial) (fun r2 u H locs hw hP hD hS => ?_)
        obtain ⟨v1, g3, g4, mn2⟩ := u
        dsimp only at hw
        obtain ⟨hw2, hg3⟩ := hw
        have hq : r1 = r2 ∧ NXT u1 v1 (7 * i) := by
          exact ⟨by rw [hw1.1, hw2.1], by rw [hw1.2, hw2.2]; exact p_same hI⟩
        obtain ⟨hr9, L2, o2, fr2, tk2, lst2, ln2, rfl, rfl, hI2⟩ := hq
        refine lv_icmp_eq (tgt := 235) hx hb d_law_193 (by decide) (fun c_12 => ?_) (fun c_12 => ?_)
        · refine lv_iinc (v := nI (i + 2)) (lv' := [(3, .int (nI (i + 2))), (0, .ref b), (1, .ref d0), (2, .ref m0)]) hx hb d_law_235 hl (k := 0) rfl (nI_add i 2) (by decide) rfl (fun ls hl => ?_)
          refine lv_goto (tgt := 18) hx hb d_law_238 (by decide) ?_
          exact ih (i + 2) (by omega) (by omega) L2 o2 fr2 tk2 lst2 ln2 f1 g3 g4 mn2 H _ ls (hI2.mono (by omega)) hf1 hg3 hP hD hS hl
        · exact absurd hr9 c_12
      · refine lv_tableIn (off := 166) (tgt := 198) hx hb d_law_32 (by decide) (by decide) (by decide) (by decide) ?_
        refine lv_aload_n hx hb d_law_198 rfl (lv_at hl 2 rfl) ?_
        refine gcall_l (q0 := 0) (wr := wM m0 hR hG cR cG (mS L o fr tk lst ln) g1 g2 mn) (As := []) (rest := []) C0 g_law_39 (c_D_take l dC dI cB cK d0 hk h0 hB ad H.size L o fr tk (ln + c10 L) (wI lst) f hf (min 7 fr) rfl h1 h3 h6) ⟨Nat.le_of_ble_eq_true rfl, Nat.le_of_ble_eq_true rfl⟩ ⟨rfl, rfl⟩ ⟨Nat.le_of_ble_eq_true rfl, Nat.le_of_ble_eq_true rfl⟩ d_law_199 rfl rfl (Nat.le_of_ble_eq_true rfl) hl.1 hK hP hD hS hA [0, 1, 2, 3] [4, 5, 6] [0, 1] rfl (by decide) rfl (by decide) (by decide) rfl rfl rfl KX.blind (KX.call hX hS) (fun r1 u H locs hw hP hD hS => ?_)
        obtain ⟨u1, f1⟩ := u
        dsimp only at hw
        obtain ⟨hw1, hf1⟩ := hw
        refine lv_aload_n hx hb d_law_202 rfl (lv_at hl 3 rfl) ?_
        refine gcall_l (q0 := 0) (wr := wD d0 hk h0 hB cB cK ad u1 f1) (As := []) (rest := [.long r1]) C0 g_law_43 (c_M_take l dC dI cR cG m0 hR hG H.size L (L.length - fr) o tk lst ln g1 g2 mn hg (min 7 fr) (Nat.sub_le _ _) (by rw [show L.length - (L.length - fr) = fr by omega]) h1 h6) ⟨Nat.le_of_ble_eq_true rfl, Nat.le_of_ble_eq_true rfl⟩ ⟨rfl, rfl⟩ ⟨Nat.le_of_ble_eq_true rfl, Nat.le_of_ble_eq_true rfl⟩ d_law_203 rfl rfl (Nat.le_of_ble_eq_true rfl) hl.1 hK hP hD hS hA [0, 1, 2] [3, 4, 5, 6] [2, 3] rfl (by decide) rfl (by decide) (by decide) rfl rfl rfl (fun _ _ _ _ _ _ => trivial) (fun _ _ _ _ _ => trivial) (fun r2 u H locs hw hP hD hS => ?_)
        obtain ⟨v1, g3, g4, mn2⟩ := u
        dsimp only at hw
        obtain ⟨hw2, hg3⟩ := hw
        have hq : r1 = r2 ∧ NXT u1 v1 (7 * i + 7) := by
          exact ⟨by rw [hw1.1, hw2.1], by rw [hw1.2, hw2.2]; exact p_take hI rfl⟩
        obtain ⟨hr9, L2, o2, fr2, tk2, lst2, ln2, rfl, rfl, hI2⟩ := hq
        subst hr9
        refine W.lcmp hx hb d_law_206 ?_
        refine lx_i (y := nI 0) (by simp [lg_cmp]; rfl) ?_
        refine lq_if_eq hx hb (by omega) (tgt := 235) d_law_207 (by decide) (fun c_13 => ?_) (fun c_13 => ?_)
        · refine lv_iinc (v := nI (i + 2)) (lv' := [(3, .int (nI (i + 2))), (0, .ref b), (1, .ref d0), (2, .ref m0)]) hx hb d_law_235 hl (k := 0) rfl (nI_add i 2) (by decide) rfl (fun ls hl => ?_)
          refine lv_goto (tgt := 18) hx hb d_law_238 (by decide) ?_
          exact ih (i + 2) (by omega) (by omega) L2 o2 fr2 tk2 lst2 ln2 f1 g3 g4 mn2 H _ ls (hI2.mono (by omega)) hf1 hg3 hP hD hS hl
        · exact absurd rfl c_13
      · refine lv_tableIn (off := 180) (tgt := 212) hx hb d_law_32 (by decide) (by decide) (by decide) (by decide) ?_
        refine lv_aload_n hx hb d_law_212 rfl (lv_at hl 2 rfl) ?_
        refine lv_aload_n hx hb d_law_213 rfl (lv_at hl 1 rfl) ?_
        refine lv_iload_n hx hb d_law_214 rfl (lv_at hl 0 rfl) ?_
        refine lv_iconst (v := nI 1) hx hb d_law_215 (by decide) ?_
        refine lq_add hx hb d_law_216 ?_
        refine va_sld hx hb hXs hbl hbA hS (vp_in_nI (by omega) (by omega)) d_law_217 ?_
        refine lx_i (y := x) (by rw [nI_clamp (by omega)]; exact hxe.symm) ?_
        refine gcall_i (q0 := 0) (wr := wM m0 hR hG cR cG (mS L o fr tk lst ln) g1 g2 mn) (As := [.int x]) (rest := []) C0 g_law_44 (c_D_count l dC dI cB cK d0 hk h0 hB ad H.size L o fr tk (ln + c10 L) (wI lst) f hf x h3 h5) ⟨Nat.le_of_ble_eq_true rfl, Nat.le_of_ble_eq_true rfl⟩ ⟨rfl, rfl⟩ ⟨Nat.le_of_ble_eq_true rfl, Nat.le_of_ble_eq_true rfl⟩ d_law_218 rfl rfl (Nat.le_of_ble_eq_true rfl) hl.1 hK hP hD hS hA [0, 1, 2, 3] [4, 5, 6] [0, 1] rfl (by decide) rfl (by decide) (by decide) rfl rfl rfl KX.blind (KX.call hX hS) (fun r1 u H locs hw hP hD hS => ?_)
        obtain ⟨u1, f1⟩ := u
        dsimp only at hw
        obtain ⟨hw1, hf1⟩ := hw
        refine lv_aload_n hx hb d_law_221 rfl (lv_at hl 3 rfl) ?_
        refine lv_aload_n hx hb d_law_222 rfl (lv_at hl 1 rfl) ?_
        refine lv_iload_n hx hb d_law_223 rfl (lv_at hl 0 rfl) ?_
        refine lv_iconst (v := nI 1) hx hb d_law_224 (by decide) ?_
        refine lq_add hx hb d_law_225 ?_
        refine va_sld hx hb hXs hbl hbA hS (vp_in_nI (by omega) (by omega)) d_law_226 ?_
        refine lx_i (y := x) (by rw [nI_clamp (by omega)]; exact hxe.symm) ?_
        refine gcall_i (q0 := 0) (wr := wD d0 hk h0 hB cB cK ad u1 f1) (As := [.int x]) (rest := [.int r1]) C0 g_law_48 (c_M_count l dC dI cR cG m0 hR hG H.size L (L.length - fr) o tk lst ln g1 g2 mn hg x h1 h6) ⟨Nat.le_of_ble_eq_true rfl, Nat.le_of_ble_eq_true rfl⟩ ⟨rfl, rfl⟩ ⟨Nat.le_of_ble_eq_true rfl, Nat.le_of_ble_eq_true rfl⟩ d_law_227 rfl rfl (Nat.le_of_ble_eq_true rfl) hl.1 hK hP hD hS hA [0, 1, 2] [3, 4, 5, 6] [2, 3] rfl (by decide) rfl (by decide) (by decide) rfl rfl rfl (fun _ _ _ _ _ _ => trivial) (fun _ _ _ _ _ => trivial) (fun r2 u H locs hw hP hD hS => ?_)
        obtain ⟨v1, g3, g4, mn2⟩ := u
        dsimp only at hw
        obtain ⟨hw2, hg3⟩ := hw
        have hq : r1 = r2 ∧ NXT u1 v1 (7 * i) := by
          exact ⟨by rw [hw1.1, hw2.1]; exact cnt_eq x, by rw [hw1.2, hw2.2]; exact p_same hI⟩
        obtain ⟨hr9, L2, o2, fr2, tk2, lst2, ln2, rfl, rfl, hI2⟩ := hq
        refine lv_icmp_eq (tgt := 235) hx hb d_law_230 (by decide) (fun c_14 => ?_) (fun c_14 => ?_)
        · refine lv_iinc (v := nI (i + 2)) (lv' := [(3, .int (nI (i + 2))), (0, .ref b), (1, .ref d0), (2, .ref m0)]) hx hb d_law_235 hl (k := 0) rfl (nI_add i 2) (by decide) rfl (fun ls hl => ?_)
          refine lv_goto (tgt := 18) hx hb d_law_238 (by decide) ?_
          exact ih (i + 2) (by omega) (by omega) L2 o2 fr2 tk2 lst2 ln2 f1 g3 g4 mn2 H _ ls (hI2.mono (by omega)) hf1 hg3 hP hD hS hl
        · exact absurd hr9 c_14
set_option maxHeartbeats 4000000 in
set_option maxRecDepth 100000 in
/-- THE LAW, from its entry -/
theorem whole_start {p : Program} {e : Env} {s : State} {m : MethodId} {below : List Frame} {meth : Method} {c : Code} (l : Launch) {b L : Nat} {xs : Nat → Int32} (hL : L ≤ 1024) (C0 : lw_At p s m meth c b L xs) : W p l e room_1 s m #[Value.ref b] below meth c s.heap [] 0 0 (lw_Z below #[Value.ref b] s) (entryFrame m ([Value.ref b] : List Value).toArray 4) := by
  obtain ⟨hx, hb, hr, hml, hown, hts, hXs, hbl, hlocks, hgv⟩ := id C0
  have hg : ∀ w ∈ gw, w.before #[Value.ref b] s = true := fun w hw => hts w (List.mem_filter.mp hw).1
  have hA : ∀ q : Nat, s.heap.size ≤ q → (fun q : Nat => s.heap.size ≤ q) q := fun _ h => h
  obtain ⟨ad, cK, tV, hX, hV⟩ := start_env hts hgv
  obtain ⟨c0, iS0, hKn0⟩ := u_known (C := R_L) (T := F_L) (N := 7) (n := 7) hg i_L (hg _ m_29)
  obtain ⟨c1, iS1, hKn1⟩ := u_known (C := R_D) (T := F_D) (N := 2) (n := 2) hg i_D (hg _ m_8)
  obtain ⟨c2, iS2, hKn2⟩ := u_known (C := R_M) (T := F_M) (N := 9) (n := 9) hg i_M (hg _ m_166)
  obtain ⟨dC, dI, hKc⟩ : ∃ (dC : Nat → ClassId) (dI : Nat → Nat → Nat), ∀ (k : Nat) (q : vw_C), classes[k]? = some q → u_Kn s q.1 q.2.1 q.2.2 (dC k) (dI k) := by
    refine ⟨fun k => if k = 0 then c0 else if k = 1 then c1 else c2, fun k => if k = 0 then iS0 else if k = 1 then iS1 else iS2, ?_⟩
    intro k q hq
    match k, hq with
    | 0, hq => cases hq; exact hKn0
    | 1, hq => cases hq; exact hKn1
    | 2, hq => cases hq; exact hKn2
    | k + 3, hq => simp [classes] at hq
  have hS : va_S (fun q : Nat => s.heap.size ≤ q) s.heap s.heap [] := va_S.rf
  have hK : va_K (dC, dI) classes [] s := ⟨hKc, fun k q h => by simp at h⟩
  have hP : va_P (dC, dI) classes [] s.heap := fun k q h => by simp at h
  have hD : va_D (fun q : Nat => s.heap.size ≤ q) [] := ⟨fun i j p q h => by simp at h, fun k q h => by simp at h⟩
  have hl := lv_entry ([.ref b]) (n := 4) (Nat.le_of_ble_eq_true rfl)
  rw [lg_entry_eq]
  generalize (lg_sl ([.ref b]) ++ List.replicate (4 - (lg_sl ([.ref b])).length) Slot.unset).toArray = ls at hl ⊢
  have hl : lv_has ls 4 [(0, .ref b)] := hl
  refine va_new (ci := 1) (fs := [.null, .null]) (C := R_D) (T := F_D) (N := 2) hx hb hg i_D t_D t_D_ok hown (hg _ m_7) (hg _ m_8) (hg _ m_1) hK hP hD hS hA rfl (fun j hj => by rcases (show j = 0 ∨ j = 1 by omega) with rfl | rfl <;> rfl) (Nat.le_of_ble_eq_true rfl) (Nat.le_of_ble_eq_true rfl) d_law_0 (fun d0 H hP hD hS => ?_)
  have hP : va_P (dC, dI) classes [(d0, .inr (1, [.null, .null]))] H := hP
  have hD : va_D (fun q : Nat => s.heap.size ≤ q) [(d0, .inr (1, [.null, .null]))] := hD
  refine lv_dup hx hb d_law_3 rfl ?_
  have hFc := va_free (wc := [(d0, .inr (1, [.null, .null]))]) hD hS hA [0] rfl
  refine va_callv (va_runI (As := []) (rest := [.ref d0]) (b := d0) (n := 0) ⟨hx, hb, hml, hown, hg⟩ (c_D_init l dC dI d0 ad cK tV H.size) (cwI 0 hg di_good rfl rfl rfl (hg _ m_1) (hg _ m_9) (hg _ m_10) rfl ⟨by decide, by decide, by decide +kernel⟩ ⟨Nat.le_of_ble_eq_true rfl, Nat.le_of_ble_eq_true rfl⟩) ⟨fun a U g mk q => by obtain ⟨q0, q1, qP, qK, qD, qX⟩ := q; exact ⟨q0, q1, qP, va_K.moved (u := U) (U := U.calling g mk a) (Vm.Alike.refl U.vm) qK, qD, KV.blind _ _ _ _ _ qX⟩, fun U hU hW => ⟨rfl, by rw [hU], by rw [hU]; exact hP, va_K.moved hW.alike hK, hD.weaken (fun _ _ _ _ => trivial), KV.call hV hS _ _ hFc hU hW⟩⟩ rfl rfl hl.1 rfl (lv_room (Nat.le_of_ble_eq_true rfl)) d_law_4 ⟨Nat.le_of_ble_eq_true rfl, Nat.le_of_ble_eq_true rfl⟩) hS (fun q _ h => hFc q h) hFc (fun u t H1 locs ht hvm hw hB hz1 hk1 hS => ?_)
  obtain ⟨hk, h0, hB9, cB, f⟩ := u
  obtain ⟨hP1, hK1, hD1⟩ := hB
  rw [ht] at hP1
  have hK1 := va_K.moved hvm.symm hK1
  obtain ⟨hP, hD⟩ := va_join (wr := []) (w1 := (wD d0 hk h0 hB9 cB cK ad ([], none, 0, 0, 0, 1) f)) hP hD [0] [] rfl rfl (by decide) (by decide) hk1 hFc hP1 hD1
  generalize H1 = H at hP hS ⊢
  have hP : va_P (dC, dI) classes (wD d0 hk h0 hB9 cB cK ad ([], none, 0, 0, 0, 1) f) H := hP
  have hD : va_D (fun q : Nat => s.heap.size ≤ q) (wD d0 hk h0 hB9 cB cK ad ([], none, 0, 0, 0, 1) f) := hD
  refine lv_astore_n (lv' := [(1, .ref d0), (0, .ref b)]) hx hb d_law_7 rfl hl (by decide) rfl (fun ls hl => ?_)
  refine va_new (ci := 2) (fs := [.null, .int 0, .int 0, .int 0, .int 0, .int 0, .int 0, .null, .int 0]) (C := R_M) (T := F_M) (N := 9) hx hb hg i_M t_M t_M_ok hown (hg _ m_165) (hg _ m_166) (hg _ m_5) hK hP hD hS hA rfl (fun j hj => by rcases (show j = 0 ∨ j = 1 ∨ j = 2 ∨ j = 3 ∨ j = 4 ∨ j = 5 ∨ j = 6 ∨ j = 7 ∨ j = 8 by omega) with rfl | rfl | rfl | rfl | rfl | rfl | rfl | rfl | rfl <;> rfl) (Nat.le_of_ble_eq_true rfl) (Nat.le_of_ble_eq_true rfl) d_law_8 (fun m0 H hP hD hS => ?_)
  have hP : va_P (dC, dI) classes ((wD d0 hk h0 hB9 cB cK ad ([], none, 0, 0, 0, 1) f) ++ [(m0, .inr (2, [.null, .int 0, .int 0, .int 0, .int 0, .int 0, .int 0, .null, .int 0]))]) H := hP
  have hD : va_D (fun q : Nat => s.heap.size ≤ q) ((wD d0 hk h0 hB9 cB cK ad ([], none, 0, 0, 0, 1) f) ++ [(m0, .inr (2, [.null, .int 0, .int 0, .int 0, .int 0, .int 0, .int 0, .null, .int 0]))]) := hD
  refine lv_dup hx hb d_law_11 rfl ?_
  have hPc := hP.sub (ws' := [(m0, .inr (2, [.null, .int 0, .int 0, .int 0, .int 0, .int 0, .int 0, .null, .int 0]))]) [4] rfl
  have hDc := hD.sub (ws' := [(m0, .inr (2, [.null, .int 0, .int 0, .int 0, .int 0, .int 0, .int 0, .null, .int 0]))]) [4] (by decide) rfl
  have hFc := va_free (wc := [(m0, .inr (2, [.null, .int 0, .int 0, .int 0, .int 0, .int 0, .int 0, .null, .int 0]))]) hD hS hA [4] rfl
  refine va_callv (va_runI (As := []) (rest := [.ref m0]) (b := m0) (n := 0) ⟨hx, hb, hml, hown, hg⟩ (c_M_init l dC dI m0 H.size) (cwI 0 hg mi_good rfl rfl rfl (hg _ m_5) (hg _ m_167) (hg _ m_168) rfl ⟨by decide, by decide, by decide +kernel⟩ ⟨Nat.le_of_ble_eq_true rfl, Nat.le_of_ble_eq_true rfl⟩) ⟨fun a U g mk q => by obtain ⟨q0, q1, qP, qK, qD, qX⟩ := q; exact ⟨q0, q1, qP, va_K.moved (u := U) (U := U.calling g mk a) (Vm.Alike.refl U.vm) qK, qD, trivial⟩, fun U hU hW => ⟨rfl, by rw [hU], by rw [hU]; exact hPc, va_K.moved hW.alike hK, hDc.weaken (fun _ _ _ _ => trivial), trivial⟩⟩ rfl rfl hl.1 rfl (lv_room (Nat.le_of_ble_eq_true rfl)) d_law_12 ⟨Nat.le_of_ble_eq_true rfl, Nat.le_of_ble_eq_true rfl⟩) hS (fun q _ h => hFc q h) hFc (fun u t H1 locs ht hvm hw hB hz1 hk1 hS => ?_)
  obtain ⟨hR, cR, hG, cG, g1, g2⟩ := u
  obtain ⟨hP1, hK2, hD1⟩ := hB
  rw [ht] at hP1
  have hK2 := va_K.moved hvm.symm hK2
  obtain ⟨hP, hD⟩ := va_join (wr := (wD d0 hk h0 hB9 cB cK ad ([], none, 0, 0, 0, 1) f)) (w1 := (wM m0 hR hG cR cG ([], 0, none, 0, 10, 0) g1 g2 0)) hP hD [4] [0, 1, 2, 3] rfl rfl (by decide) (by decide) hk1 hFc hP1 hD1
  generalize H1 = H at hP hS ⊢
  have hK : va_K (dC, dI) classes [(cB, .byte), (cK, .object "EventLineDesk$LineKind"), (cR, .int), (cG, .int)] s := hK1.app hK2
  refine W.widen (k := 7) (n := 6027) (Nat.le_of_ble_eq_true rfl) (Nat.le_of_ble_eq_true rfl) ?_
  refine lv_astore_n (lv' := [(2, .ref m0), (1, .ref d0), (0, .ref b)]) hx hb d_law_15 rfl hl (by decide) rfl (fun ls hl => ?_)
  refine lv_iconst (v := nI 0) hx hb d_law_16 (by decide) ?_
  refine lv_istore_n (lv' := [(3, .int (nI 0)), (2, .ref m0), (1, .ref d0), (0, .ref b)]) hx hb d_law_17 rfl hl (by decide) rfl (fun ls hl => ?_)
  exact law_loop hL C0 hX hK (L + 2) 0 (by omega) (by omega) [] none 0 0 10 0 f g1 g2 0 H _ ls ⟨by decide, fun q => absurd rfl q, by decide, fun _ => rfl, fun i q => (by cases q), fun j hj => (by simp at hj), by decide, rfl, by decide⟩ (fun j hj => by simp at hj) (fun j hj => by simp at hj) hP hD hS (lv_sub hl [0, 3, 2, 1] rfl)
end
section
/-! THE SKELETON'S END: the claim out of the walk of the law -/
set_option maxHeartbeats 4000000 in
theorem lw_walk (l : Launch) (b : Addr) (xs : List Int32) : MetFree l x (headSpec (Jvm.Cond.code x code maxLocals ret :: tables_1) room_1) (lw_P b xs) (fun _ _ _ _ _ => True) lw_Q := by
  refine MetFree.of_bodyS (code := code) (maxLocals := maxLocals) (ret := ret) (by decide) ?_ ?_
  · intro args s m h hn
    obtain ⟨meth, c, h1, h2, h3, h4, h5, h6, -, -⟩ := Cond.code_spec hn (atoms_spec (ws := Jvm.Cond.code x code maxLocals ret :: tables_1) h _ List.mem_cons_self)
    exact ⟨meth, c, h1, h2, h3, h4, h5, h6⟩
  · intro p e s m args below meth c s₁ B hml0 hP _
    obtain ⟨rfl, hx, hbd, hgv⟩ := hP
    obtain ⟨scr, harrAt, hlist, hof, hsmall⟩ := hx
    obtain ⟨hcb, hkn, -, -⟩ := State.arrayAt?_spec harrAt
    have hown : s.vm.findClass R_law = some m.cls := findClass_of_methodNamed B.named
    have hts0 : ∀ c ∈ (Jvm.Cond.code x code maxLocals ret :: tables_1), c.before #[Value.ref b] s = true := atoms_spec (ws := Jvm.Cond.code x code maxLocals ret :: tables_1) B.pre
    have hts : ∀ w ∈ lw_tbl, w.before #[Value.ref b] s = true := k2_hts_sels lw_privs (fun w hw => hts0 w (List.mem_cons_of_mem _ hw)) lw_privs_ok
    have hml : c.maxLocals = 4 := B.maxLocals_eq (hts0 _ List.mem_cons_self)
    have X₀ : Stand p l e room_1 s m #[Value.ref b] below meth c s₁ [] 0 0 := Stand.of_body B
    have hh0 : s₁.heap = s.heap := by rw [B.state]; rfl
    have hsz : scr.slots.size = xs.length := by rw [← Array.length_toList, hlist, List.length_map]
    have hval : ∀ j : Nat, j < xs.length → scr.slots[j]? = some (.int (xs.getD j 0)) := fun j hj => by
      rw [← Array.getElem?_toList, hlist]
      simp [hj]
    have hbl : b < s.heap.size := (Array.getElem?_eq_some_iff.mp hcb).1
    have hX : va_X b xs.length (fun j => xs.getD j 0) s s.heap := ⟨scr, hcb, hof, hkn, hsz, hval⟩
    have K : W p l e room_1 s m #[Value.ref b] below meth c s₁.heap [] 0 0 (lw_Z below #[Value.ref b] s) (entryFrame m ([Value.ref b] : List Value).toArray 4) := by
      rw [hh0]
      exact whole_start l hbd ⟨B.exec, B.bytes, B.returns, hml, hown, hts, hX, hbl, B.notSynchronized, hgv⟩
    obtain ⟨t, a1, o, b1, b2, b3⟩ := K s₁ rfl X₀
    exact ⟨t, o, a1, b1, b2, b3⟩
theorem lw_pre_spec {args : Array Value} {s : State} (h : (Jvm.Cond.and given_1 narrow_1).before args s = true) (hr : rest_1_c.before args s = true) : ∃ (b : Addr) (xs : List Int32), lw_P b xs args s := by
  have hs := flat_of_before _ h
  have hq := flat_of_before _ hr
  have hc : (Cond.count 1).before args s = true := hs _ (by decide +kernel)
  have harr : (Cond.arrayOf (.arg 0) .int).before args s = true := hs _ (by decide +kernel)
  have hle : (Cond.le (.length (.arg 0)) (.int 1024)).before args s = true := hs _ (by decide +kernel)
  have hlen : (Cond.isInt (.length (.arg 0))).before args s = true := hq _ (by decide +kernel)
  have hall : (Cond.all (.arg 0) (.isInt (.elem (.arg 0) (.index 0)))).before args s = true := hq _ (by decide +kernel)
  obtain ⟨b, xs, hb, hx⟩ := State.ints_of_pre rfl harr hlen hall
  have hsm : xs.length < 2 ^ 31 := hx.choose_spec.2.2.2
  have hev : (Term.length (.arg 0)).eval args s none [] s = some (.int xs.length.toInt32) := hx.length_eval hb
  have hv := Cond.le_ints hev (show (Term.int 1024).eval args s none [] s = some (.int 1024) from rfl)
  have hd : xs.length.toInt32 ≤ 1024 := by
    simpa [Cond.before, Cond.holds, hv] using hle
  have hN : xs.length ≤ 1024 := (Int32.ofNat_le_ofNat hsm (by decide)).mp (show Int32.ofNat xs.length ≤ Int32.ofNat 1024 from hd)
  exact ⟨b, xs, Cond.one_arg hc (show args[0]? = some (.ref b) from hb), hx, hN, h⟩
theorem lw_comes (l : Launch) : Comes l x (Jvm.Cond.code x code maxLocals ret :: tables_1) room_1 (fun tb e args s => Calls_1 tb e args s ∧ rest_1 tb e args s ∧ Pre_1 tb e args s)
    (fun _ _ args s o t => lw_Q args s o t) := by
  intro p e ha hc hk s m args below hf hfit hheap happ hpre
  obtain ⟨b, xs, hP⟩ := lw_pre_spec hpre.2.2 hpre.2.1
  obtain ⟨k, o, h1, h2, h3, hQ⟩ := lw_walk l b xs p e ha hc hk s m args below hf ((Spec.applies_iff_loose hf).mp happ).1 hP trivial
  exact ⟨k, o, h1, h2, h3, hQ⟩
theorem lw_frame {s t : State} {o : Outcome} {args : Array Value} (h : Framed s o t [] 600000 7302250) :
    Framed s o t (fieldLocs frame_1_writes args s ++ arrayLocs frame_1_arrays args s ++ staticLocs frame_1_statics s) 600000 7302250 := h
theorem lw_limb (L : Cond) (hL : ∀ (args : Array Value) (s t : State), L.after args s (.returned (some (.int 1))) t = true) :
    ArmFor flags0 classFile x code maxLocals ret World_1 tables_1 room_1 Calls_1 rest_1 Pre_1
      (fun tb e a s o t => postC L tb e a s o t ∧ Framed s o t (fieldLocs frame_1_writes a s ++ arrayLocs frame_1_arrays a s ++ staticLocs frame_1_statics s) 600000 7302250) := by
  intro l _ _ _ p e ha hc hk s m args below hf hfit hheap happ hpre
  obtain ⟨k, o, h1, h2, h3, rfl, hF⟩ := lw_comes l p e ha hc hk s m args below hf hfit hheap happ hpre
  exact ⟨k, _, h1, h2, h3, hL args s _, lw_frame hF⟩
theorem i_vc : Claimed_1_1 ∧ Claimed_1_2 := ⟨lw_limb limb_1_1 (fun args s t => by simp [limb_1_1, Cond.after, Cond.holds, Cond.value]), lw_limb limb_1_2 (fun args s t => Cond.after_iff.mpr (by
  first | (rw [show limb_1_2 = Cond.eq .result (.int 1) from rfl, Cond.eq_ints (x := 1) (y := 1) rfl rfl]; simp; done) | (simp [limb_1_2, Cond.value, Term.eval]; done)))⟩
end
