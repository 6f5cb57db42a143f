section
-- ===== PART A: goes FIRST, ahead of the names: the tables' words, and 'selects' of the private methods out of them =====
/-- a private method of a class that the tables say can be made, by its rows of tables_1 -/
def lw_okq (q : MethodName × Nat) : Prop := (q.1.cls ≠ "java/lang/invoke/MethodHandle" ∧ q.1.cls ≠ "java/lang/invoke/VarHandle") ∧ Cond.instantiable q.1.cls q.2 ∈ tables_1 ∧ Cond.privateMethod q.1 ∈ tables_1 ∧ Cond.instanceMethod q.1 ∈ tables_1
theorem lw_p0 : lw_okq (⟨"ReferredNames$Marks", "know", "(LReferredNames$Hand;)I"⟩, 8) := ⟨⟨by decide +kernel, by decide +kernel⟩, List.mem_of_getElem? (i := 35) (by decide +kernel), List.mem_of_getElem? (i := 98) (by decide +kernel), List.mem_of_getElem? (i := 99) (by decide +kernel)⟩
theorem lw_p1 : lw_okq (⟨"ReferredNames$Marks", "slot", "(LReferredNames$Hand;)I"⟩, 8) := ⟨⟨by decide +kernel, by decide +kernel⟩, List.mem_of_getElem? (i := 35) (by decide +kernel), List.mem_of_getElem? (i := 102) (by decide +kernel), List.mem_of_getElem? (i := 103) (by decide +kernel)⟩
theorem lw_p2 : lw_okq (⟨"ReferredNames$Marks", "is", "(ILReferredNames$Hand;)Z"⟩, 8) := ⟨⟨by decide +kernel, by decide +kernel⟩, List.mem_of_getElem? (i := 35) (by decide +kernel), List.mem_of_getElem? (i := 110) (by decide +kernel), List.mem_of_getElem? (i := 111) (by decide +kernel)⟩
theorem lw_p3 : lw_okq (⟨"ReferredNames$Marks", "mark", "(I)V"⟩, 8) := ⟨⟨by decide +kernel, by decide +kernel⟩, List.mem_of_getElem? (i := 35) (by decide +kernel), List.mem_of_getElem? (i := 117) (by decide +kernel), List.mem_of_getElem? (i := 118) (by decide +kernel)⟩
theorem lw_p4 : lw_okq (⟨"ReferredNames", "isKnown", "(I)Z"⟩, 2) := ⟨⟨by decide +kernel, by decide +kernel⟩, List.mem_of_getElem? (i := 9) (by decide +kernel), List.mem_of_getElem? (i := 142) (by decide +kernel), List.mem_of_getElem? (i := 143) (by decide +kernel)⟩
theorem lw_p5 : lw_okq (⟨"ReferredNamesModel", "known", "()I"⟩, 7) := ⟨⟨by decide +kernel, by decide +kernel⟩, List.mem_of_getElem? (i := 184) (by decide +kernel), List.mem_of_getElem? (i := 221) (by decide +kernel), List.mem_of_getElem? (i := 222) (by decide +kernel)⟩
theorem lw_p6 : lw_okq (⟨"ReferredNamesModel", "place", "()I"⟩, 7) := ⟨⟨by decide +kernel, by decide +kernel⟩, List.mem_of_getElem? (i := 184) (by decide +kernel), List.mem_of_getElem? (i := 225) (by decide +kernel), List.mem_of_getElem? (i := 226) (by decide +kernel)⟩
theorem lw_p7 : lw_okq (⟨"ReferredNamesModel", "missingFrom", "(I)I"⟩, 7) := ⟨⟨by decide +kernel, by decide +kernel⟩, List.mem_of_getElem? (i := 184) (by decide +kernel), List.mem_of_getElem? (i := 241) (by decide +kernel), List.mem_of_getElem? (i := 242) (by decide +kernel)⟩
theorem lw_p8 : lw_okq (⟨"ReferredNamesModel", "isMissing", "(I)Z"⟩, 7) := ⟨⟨by decide +kernel, by decide +kernel⟩, List.mem_of_getElem? (i := 184) (by decide +kernel), List.mem_of_getElem? (i := 245) (by decide +kernel), List.mem_of_getElem? (i := 246) (by decide +kernel)⟩
def lw_privs_1 : List (MethodName × Nat) := [(⟨"ReferredNames$Marks", "know", "(LReferredNames$Hand;)I"⟩, 8), (⟨"ReferredNames$Marks", "slot", "(LReferredNames$Hand;)I"⟩, 8), (⟨"ReferredNames$Marks", "is", "(ILReferredNames$Hand;)Z"⟩, 8), (⟨"ReferredNames$Marks", "mark", "(I)V"⟩, 8), (⟨"ReferredNames", "isKnown", "(I)Z"⟩, 2), (⟨"ReferredNamesModel", "known", "()I"⟩, 7), (⟨"ReferredNamesModel", "place", "()I"⟩, 7), (⟨"ReferredNamesModel", "missingFrom", "(I)I"⟩, 7), (⟨"ReferredNamesModel", "isMissing", "(I)Z"⟩, 7)]
theorem lw_r1 : ∀ q ∈ lw_privs_1, lw_okq q := List.forall_mem_cons.mpr ⟨lw_p0, List.forall_mem_cons.mpr ⟨lw_p1, List.forall_mem_cons.mpr ⟨lw_p2, List.forall_mem_cons.mpr ⟨lw_p3, List.forall_mem_cons.mpr ⟨lw_p4, List.forall_mem_cons.mpr ⟨lw_p5, List.forall_mem_cons.mpr ⟨lw_p6, List.forall_mem_cons.mpr ⟨lw_p7, List.forall_mem_cons.mpr ⟨lw_p8, fun _ h => absurd h List.not_mem_nil⟩⟩⟩⟩⟩⟩⟩⟩⟩
def lw_privs : List (MethodName × Nat) := lw_privs_1
def lw_tbl : List Cond := k2_sels lw_privs ++ tables_1
theorem lw_privs_ok : ∀ q ∈ lw_privs, lw_okq q := lw_r1
-- ===== end of PART A =====
/-! NAMES (printed by gen/base.py): classes, field tables, methods -/
def R_law : String := "ReferredNamesLaw"
def R_RN : String := "ReferredNames"
def R_Hand : String := "ReferredNames$Hand"
def R_Marks : String := "ReferredNames$Marks"
def R_Model : String := "ReferredNamesModel"
def R_Int : String := "java/lang/Integer"
def R_Lng : String := "java/lang/Long"
def R_Sys : String := "java/lang/System"
def F_RN : u_T := fun k => match k with
  | 0 => ("ReferredNames", "hand", "LReferredNames$Hand;", true)
  | _ => ("ReferredNames", "marks", "LReferredNames$Marks;", true)
def t_RN : Nat → FieldType := fun k => match k with
  | 0 => .object "ReferredNames$Hand"
  | _ => .object "ReferredNames$Marks"
abbrev w_RN : List Cond := u_ws R_RN F_RN 2
theorem n_RN : ∀ a, a < 2 → ∀ b, b < 2 → a ≠ b → (F_RN a).2.1 ≠ (F_RN b).2.1 := by decide +kernel
theorem t_RN_ok : ∀ k, k < 2 → parseFieldDescriptor (F_RN k).2.2.1 = some (t_RN k) := by decide +kernel
def F_Hand : u_T := fun k => match k with
  | 0 => ("ReferredNames$Hand", "bytes", "[B", true)
  | _ => ("ReferredNames$Hand", "size", "I", false)
def t_Hand : Nat → FieldType := fun k => match k with
  | 0 => .array .byte
  | _ => .int
abbrev w_Hand : List Cond := u_ws R_Hand F_Hand 2
theorem n_Hand : ∀ a, a < 2 → ∀ b, b < 2 → a ≠ b → (F_Hand a).2.1 ≠ (F_Hand b).2.1 := by decide +kernel
theorem t_Hand_ok : ∀ k, k < 2 → parseFieldDescriptor (F_Hand k).2.2.1 = some (t_Hand k) := by decide +kernel
def F_Marks : u_T := fun k => match k with
  | 0 => ("ReferredNames$Marks", "bytes", "[B", true)
  | 1 => ("ReferredNames$Marks", "begins", "[I", true)
  | 2 => ("ReferredNames$Marks", "given", "[I", true)
  | 3 => ("ReferredNames$Marks", "referred", "[I", true)
  | 4 => ("ReferredNames$Marks", "slots", "[S", true)
  | 5 => ("ReferredNames$Marks", "missing", "[J", true)
  | 6 => ("ReferredNames$Marks", "size", "I", false)
  | _ => ("ReferredNames$Marks", "vain", "I", false)
def t_Marks : Nat → FieldType := fun k => match k with
  | 0 => .array .byte
  | 1 => .array .int
  | 2 => .array .int
  | 3 => .array .int
  | 4 => .array .short
  | 5 => .array .long
  | 6 => .int
  | _ => .int
abbrev w_Marks : List Cond := u_ws R_Marks F_Marks 8
theorem n_Marks : ∀ a, a < 8 → ∀ b, b < 8 → a ≠ b → (F_Marks a).2.1 ≠ (F_Marks b).2.1 := by decide +kernel
theorem t_Marks_ok : ∀ k, k < 8 → parseFieldDescriptor (F_Marks k).2.2.1 = some (t_Marks k) := by decide +kernel
def F_Model : u_T := fun k => match k with
  | 0 => ("ReferredNamesModel", "hand", "[I", true)
  | 1 => ("ReferredNamesModel", "inHand", "I", false)
  | 2 => ("ReferredNamesModel", "bytes", "[I", true)
  | 3 => ("ReferredNamesModel", "sizes", "[I", true)
  | 4 => ("ReferredNamesModel", "given", "[I", true)
  | 5 => ("ReferredNamesModel", "referred", "[I", true)
  | _ => ("ReferredNamesModel", "known", "I", false)
def t_Model : Nat → FieldType := fun k => match k with
  | 0 => .array .int
  | 1 => .int
  | 2 => .array .int
  | 3 => .array .int
  | 4 => .array .int
  | 5 => .array .int
  | _ => .int
abbrev w_Model : List Cond := u_ws R_Model F_Model 7
theorem n_Model : ∀ a, a < 7 → ∀ b, b < 7 → a ≠ b → (F_Model a).2.1 ≠ (F_Model b).2.1 := by decide +kernel
theorem t_Model_ok : ∀ k, k < 7 → parseFieldDescriptor (F_Model k).2.2.1 = some (t_Model k) := by decide +kernel
abbrev classes : List vw_C := [(R_RN, F_RN, 2), (R_Hand, F_Hand, 2), (R_Marks, F_Marks, 8), (R_Model, F_Model, 7)]
abbrev b_RN_init : ByteArray := prog_1_method_1_code
def y_RN_init : MethodName := ⟨R_RN, "<init>", "()V"⟩
abbrev b_Hand_init : ByteArray := prog_2_method_1_code
def y_Hand_init : MethodName := ⟨R_Hand, "<init>", "()V"⟩
abbrev b_Marks_init : ByteArray := prog_3_method_1_code
def y_Marks_init : MethodName := ⟨R_Marks, "<init>", "()V"⟩
abbrev b_Marks_clear : ByteArray := prog_3_method_2_code
def y_Marks_clear : MethodName := ⟨R_Marks, "clear", "()V"⟩
abbrev b_RN_put : ByteArray := prog_1_method_2_code
def y_RN_put : MethodName := ⟨R_RN, "put", "(JI)Z"⟩
abbrev b_RN_give : ByteArray := prog_1_method_3_code
def y_RN_give : MethodName := ⟨R_RN, "give", "()I"⟩
abbrev b_Marks_give : ByteArray := prog_3_method_8_code
def y_Marks_give : MethodName := ⟨R_Marks, "give", "(LReferredNames$Hand;)I"⟩
abbrev b_Marks_know : ByteArray := prog_3_method_6_code
def y_Marks_know : MethodName := ⟨R_Marks, "know", "(LReferredNames$Hand;)I"⟩
abbrev b_Marks_slot : ByteArray := prog_3_method_4_code
def y_Marks_slot : MethodName := ⟨R_Marks, "slot", "(LReferredNames$Hand;)I"⟩
abbrev b_Hand_mixed : ByteArray := prog_2_method_2_code
def y_Hand_mixed : MethodName := ⟨R_Hand, "mixed", "()I"⟩
abbrev b_Marks_is : ByteArray := prog_3_method_3_code
def y_Marks_is : MethodName := ⟨R_Marks, "is", "(ILReferredNames$Hand;)Z"⟩
abbrev b_Marks_mark : ByteArray := prog_3_method_7_code
def y_Marks_mark : MethodName := ⟨R_Marks, "mark", "(I)V"⟩
abbrev b_RN_refer : ByteArray := prog_1_method_4_code
def y_RN_refer : MethodName := ⟨R_RN, "refer", "()I"⟩
abbrev b_Marks_refer : ByteArray := prog_3_method_9_code
def y_Marks_refer : MethodName := ⟨R_Marks, "refer", "(LReferredNames$Hand;)I"⟩
abbrev b_RN_find : ByteArray := prog_1_method_5_code
def y_RN_find : MethodName := ⟨R_RN, "find", "()I"⟩
abbrev b_Marks_find : ByteArray := prog_3_method_5_code
def y_Marks_find : MethodName := ⟨R_Marks, "find", "(LReferredNames$Hand;)I"⟩
abbrev b_RN_look : ByteArray := prog_1_method_7_code
def y_RN_look : MethodName := ⟨R_RN, "look", "(II)I"⟩
abbrev b_RN_isKnown : ByteArray := prog_1_method_6_code
def y_RN_isKnown : MethodName := ⟨R_RN, "isKnown", "(I)Z"⟩
abbrev b_Marks_missingFrom : ByteArray := prog_3_method_10_code
def y_Marks_missingFrom : MethodName := ⟨R_Marks, "missingFrom", "(I)I"⟩
abbrev b_Lng_numberOfTrailingZeros : ByteArray := prog_7_method_49_code
def y_Lng_numberOfTrailingZeros : MethodName := ⟨R_Lng, "numberOfTrailingZeros", "(J)I"⟩
abbrev b_Int_numberOfTrailingZeros : ByteArray := prog_6_method_48_code
def y_Int_numberOfTrailingZeros : MethodName := ⟨R_Int, "numberOfTrailingZeros", "(I)I"⟩
abbrev b_RN_byteOf : ByteArray := prog_1_method_8_code
def y_RN_byteOf : MethodName := ⟨R_RN, "byteOf", "(II)I"⟩
abbrev b_RN_count : ByteArray := prog_1_method_9_code
def y_RN_count : MethodName := ⟨R_RN, "count", "(I)I"⟩
abbrev b_Marks_givenOnes : ByteArray := prog_3_method_12_code
def y_Marks_givenOnes : MethodName := ⟨R_Marks, "givenOnes", "()I"⟩
abbrev b_Marks_missingOnes : ByteArray := prog_3_method_11_code
def y_Marks_missingOnes : MethodName := ⟨R_Marks, "missingOnes", "()I"⟩
abbrev b_Lng_bitCount : ByteArray := prog_7_method_50_code
def y_Lng_bitCount : MethodName := ⟨R_Lng, "bitCount", "(J)I"⟩
abbrev b_RN_clear : ByteArray := prog_1_method_10_code
def y_RN_clear : MethodName := ⟨R_RN, "clear", "()I"⟩
abbrev b_Model_init : ByteArray := prog_5_method_1_code
def y_Model_init : MethodName := ⟨R_Model, "<init>", "()V"⟩
abbrev b_Model_put : ByteArray := prog_5_method_2_code
def y_Model_put : MethodName := ⟨R_Model, "put", "(JI)Z"⟩
abbrev b_Model_give : ByteArray := prog_5_method_5_code
def y_Model_give : MethodName := ⟨R_Model, "give", "()I"⟩
abbrev b_Model_known : ByteArray := prog_5_method_4_code
def y_Model_known : MethodName := ⟨R_Model, "known", "()I"⟩
abbrev b_Model_place : ByteArray := prog_5_method_3_code
def y_Model_place : MethodName := ⟨R_Model, "place", "()I"⟩
abbrev b_Model_refer : ByteArray := prog_5_method_6_code
def y_Model_refer : MethodName := ⟨R_Model, "refer", "()I"⟩
abbrev b_Model_find : ByteArray := prog_5_method_7_code
def y_Model_find : MethodName := ⟨R_Model, "find", "()I"⟩
abbrev b_Model_look : ByteArray := prog_5_method_10_code
def y_Model_look : MethodName := ⟨R_Model, "look", "(II)I"⟩
abbrev b_Model_missingFrom : ByteArray := prog_5_method_9_code
def y_Model_missingFrom : MethodName := ⟨R_Model, "missingFrom", "(I)I"⟩
abbrev b_Model_isMissing : ByteArray := prog_5_method_8_code
def y_Model_isMissing : MethodName := ⟨R_Model, "isMissing", "(I)Z"⟩
abbrev b_Model_byteOf : ByteArray := prog_5_method_11_code
def y_Model_byteOf : MethodName := ⟨R_Model, "byteOf", "(II)I"⟩
abbrev b_Model_count : ByteArray := prog_5_method_12_code
def y_Model_count : MethodName := ⟨R_Model, "count", "(I)I"⟩
abbrev b_Model_clear : ByteArray := prog_5_method_13_code
def y_Model_clear : MethodName := ⟨R_Model, "clear", "()I"⟩
/-- the words: all of the tables' that stay as the machine warms up -/
def cmn : List Cond := lw_tbl.filter goodWord
theorem cmn_t {w : Cond} (h : w ∈ cmn) : w ∈ lw_tbl ∧ ((w.onTables && w.keeps) = true ∨ ∃ ty, w = .arrayClass ty) := ⟨(List.mem_filter.mp h).1, good_of_word (List.mem_filter.mp h).2⟩
abbrev w_RN_init : List Cond := .code y_RN_init b_RN_init 1 none :: cmn
abbrev w_Hand_init : List Cond := .code y_Hand_init b_Hand_init 1 none :: cmn
abbrev w_Marks_init : List Cond := .code y_Marks_init b_Marks_init 1 none :: cmn
abbrev w_Marks_clear : List Cond := .code y_Marks_clear b_Marks_clear 2 none :: cmn
abbrev w_RN_put : List Cond := .code y_RN_put b_RN_put 5 (some .boolean) :: cmn
abbrev w_RN_give : List Cond := .code y_RN_give b_RN_give 2 (some .int) :: cmn
abbrev w_Marks_give : List Cond := .code y_Marks_give b_Marks_give 3 (some .int) :: cmn
abbrev w_Marks_know : List Cond := .code y_Marks_know b_Marks_know 3 (some .int) :: cmn
abbrev w_Marks_slot : List Cond := .code y_Marks_slot b_Marks_slot 3 (some .int) :: cmn
abbrev w_Hand_mixed : List Cond := .code y_Hand_mixed b_Hand_mixed 3 (some .int) :: cmn
abbrev w_Marks_is : List Cond := .code y_Marks_is b_Marks_is 5 (some .boolean) :: cmn
abbrev w_Marks_mark : List Cond := .code y_Marks_mark b_Marks_mark 5 none :: cmn
abbrev w_RN_refer : List Cond := .code y_RN_refer b_RN_refer 2 (some .int) :: cmn
abbrev w_Marks_refer : List Cond := .code y_Marks_refer b_Marks_refer 3 (some .int) :: cmn
abbrev w_RN_find : List Cond := .code y_RN_find b_RN_find 1 (some .int) :: cmn
abbrev w_Marks_find : List Cond := .code y_Marks_find b_Marks_find 2 (some .int) :: cmn
abbrev w_RN_look : List Cond := .code y_RN_look b_RN_look 3 (some .int) :: cmn
abbrev w_RN_isKnown : List Cond := .code y_RN_isKnown b_RN_isKnown 2 (some .boolean) :: cmn
abbrev w_Marks_missingFrom : List Cond := .code y_Marks_missingFrom b_Marks_missingFrom 5 (some .int) :: cmn
abbrev w_Lng_numberOfTrailingZeros : List Cond := .code y_Lng_numberOfTrailingZeros b_Lng_numberOfTrailingZeros 3 (some .int) :: cmn
abbrev w_Int_numberOfTrailingZeros : List Cond := .code y_Int_numberOfTrailingZeros b_Int_numberOfTrailingZeros 2 (some .int) :: cmn
abbrev w_RN_byteOf : List Cond := .code y_RN_byteOf b_RN_byteOf 3 (some .int) :: cmn
abbrev w_RN_count : List Cond := .code y_RN_count b_RN_count 2 (some .int) :: cmn
abbrev w_Marks_givenOnes : List Cond := .code y_Marks_givenOnes b_Marks_givenOnes 3 (some .int) :: cmn
abbrev w_Marks_missingOnes : List Cond := .code y_Marks_missingOnes b_Marks_missingOnes 3 (some .int) :: cmn
abbrev w_Lng_bitCount : List Cond := .code y_Lng_bitCount b_Lng_bitCount 2 (some .int) :: cmn
abbrev w_RN_clear : List Cond := .code y_RN_clear b_RN_clear 2 (some .int) :: cmn
abbrev w_Model_init : List Cond := .code y_Model_init b_Model_init 1 none :: cmn
abbrev w_Model_put : List Cond := .code y_Model_put b_Model_put 8 (some .boolean) :: cmn
abbrev w_Model_give : List Cond := .code y_Model_give b_Model_give 2 (some .int) :: cmn
abbrev w_Model_known : List Cond := .code y_Model_known b_Model_known 3 (some .int) :: cmn
abbrev w_Model_place : List Cond := .code y_Model_place b_Model_place 5 (some .int) :: cmn
abbrev w_Model_refer : List Cond := .code y_Model_refer b_Model_refer 2 (some .int) :: cmn
abbrev w_Model_find : List Cond := .code y_Model_find b_Model_find 1 (some .int) :: cmn
abbrev w_Model_look : List Cond := .code y_Model_look b_Model_look 3 (some .int) :: cmn
abbrev w_Model_missingFrom : List Cond := .code y_Model_missingFrom b_Model_missingFrom 4 (some .int) :: cmn
abbrev w_Model_isMissing : List Cond := .code y_Model_isMissing b_Model_isMissing 2 (some .boolean) :: cmn
abbrev w_Model_byteOf : List Cond := .code y_Model_byteOf b_Model_byteOf 3 (some .int) :: cmn
abbrev w_Model_count : List Cond := .code y_Model_count b_Model_count 6 (some .int) :: cmn
abbrev w_Model_clear : List Cond := .code y_Model_clear b_Model_clear 2 (some .int) :: cmn
theorem kn_law : (.initialized R_law : Cond) ∈ cmn := List.mem_filter.mpr ⟨List.mem_append_right _ (List.mem_append_left _ (List.mem_of_getElem? (i := 0) rfl)), rfl⟩
theorem kn_RN : (.initialized R_RN : Cond) ∈ cmn := List.mem_filter.mpr ⟨List.mem_append_right _ (List.mem_append_left _ (List.mem_of_getElem? (i := 1) rfl)), rfl⟩
theorem kn_Hand : (.initialized R_Hand : Cond) ∈ cmn := List.mem_filter.mpr ⟨List.mem_append_right _ (List.mem_append_left _ (List.mem_of_getElem? (i := 2) rfl)), rfl⟩
theorem kn_Marks : (.initialized R_Marks : Cond) ∈ cmn := List.mem_filter.mpr ⟨List.mem_append_right _ (List.mem_append_left _ (List.mem_of_getElem? (i := 3) rfl)), rfl⟩
theorem kn_Model : (.initialized R_Model : Cond) ∈ cmn := List.mem_filter.mpr ⟨List.mem_append_right _ (List.mem_append_left _ (List.mem_of_getElem? (i := 4) rfl)), rfl⟩
theorem kn_Sys : (.initialized R_Sys : Cond) ∈ cmn := List.mem_filter.mpr ⟨List.mem_append_right _ (List.mem_append_left _ (List.mem_of_getElem? (i := 5) rfl)), rfl⟩
theorem kn_Lng : (.initialized R_Lng : Cond) ∈ cmn := List.mem_filter.mpr ⟨List.mem_append_right _ (List.mem_append_left _ (List.mem_of_getElem? (i := 6) rfl)), rfl⟩
theorem kn_Int : (.initialized R_Int : Cond) ∈ cmn := List.mem_filter.mpr ⟨List.mem_append_right _ (List.mem_append_left _ (List.mem_of_getElem? (i := 7) rfl)), rfl⟩
theorem kl_law_7 : (.classLink R_law 7 R_RN : Cond) ∈ cmn := List.mem_filter.mpr ⟨List.mem_append_right _ (List.mem_append_left _ (List.mem_of_getElem? (i := 8) rfl)), rfl⟩
theorem kz_RN : (.instantiable R_RN 2 : Cond) ∈ cmn := List.mem_filter.mpr ⟨List.mem_append_right _ (List.mem_append_left _ (List.mem_of_getElem? (i := 9) rfl)), rfl⟩
theorem km_law_9 : (.methodLink R_law 9 y_RN_init : Cond) ∈ cmn := List.mem_filter.mpr ⟨List.mem_append_right _ (List.mem_append_left _ (List.mem_of_getElem? (i := 10) rfl)), rfl⟩
theorem ki_RN_init : (.instanceMethod y_RN_init : Cond) ∈ cmn := List.mem_filter.mpr ⟨List.mem_append_right _ (List.mem_append_left _ (List.mem_of_getElem? (i := 11) rfl)), rfl⟩
theorem kc_RN_init : (.code y_RN_init b_RN_init 1 none : Cond) ∈ cmn := List.mem_filter.mpr ⟨List.mem_append_right _ (List.mem_append_left _ (List.mem_of_getElem? (i := 12) rfl)), rfl⟩
theorem km_RN_1 : (.methodLink R_RN 1 objectInit : Cond) ∈ cmn := List.mem_filter.mpr ⟨List.mem_append_right _ (List.mem_append_left _ (List.mem_of_getElem? (i := 13) rfl)), rfl⟩
theorem ki_Obj_init : (.instanceMethod objectInit : Cond) ∈ cmn := List.mem_filter.mpr ⟨List.mem_append_right _ (List.mem_append_left _ (List.mem_of_getElem? (i := 14) rfl)), rfl⟩
theorem kc_Obj_init : (.code objectInit ⟨#[0xb1]⟩ 1 none : Cond) ∈ cmn := List.mem_filter.mpr ⟨List.mem_append_right _ (List.mem_append_left _ (List.mem_of_getElem? (i := 15) rfl)), rfl⟩
theorem kl_RN_7 : (.classLink R_RN 7 R_Hand : Cond) ∈ cmn := List.mem_filter.mpr ⟨List.mem_append_right _ (List.mem_append_left _ (List.mem_of_getElem? (i := 16) rfl)), rfl⟩
theorem kz_Hand : (.instantiable R_Hand 2 : Cond) ∈ cmn := List.mem_filter.mpr ⟨List.mem_append_right _ (List.mem_append_left _ (List.mem_of_getElem? (i := 17) rfl)), rfl⟩
theorem ki_Hand_init : (.instanceMethod y_Hand_init : Cond) ∈ cmn := List.mem_filter.mpr ⟨List.mem_append_right _ (List.mem_append_left _ (List.mem_of_getElem? (i := 19) rfl)), rfl⟩
theorem kc_Hand_init : (.code y_Hand_init b_Hand_init 1 none : Cond) ∈ cmn := List.mem_filter.mpr ⟨List.mem_append_right _ (List.mem_append_left _ (List.mem_of_getElem? (i := 20) rfl)), rfl⟩
theorem km_Hand_1 : (.methodLink R_Hand 1 objectInit : Cond) ∈ cmn := List.mem_filter.mpr ⟨List.mem_append_right _ (List.mem_append_left _ (List.mem_of_getElem? (i := 21) rfl)), rfl⟩
theorem kf_Hand_9 : (.fieldLink R_Hand 9 "ReferredNames$Hand" "bytes" "[B" : Cond) ∈ cmn := List.mem_filter.mpr ⟨List.mem_append_right _ (List.mem_append_left _ (List.mem_of_getElem? (i := 22) rfl)), rfl⟩
theorem kf_Hand_13 : (.fieldLink R_Hand 13 "ReferredNames$Hand" "size" "I" : Cond) ∈ cmn := List.mem_filter.mpr ⟨List.mem_append_right _ (List.mem_append_left _ (List.mem_of_getElem? (i := 25) rfl)), rfl⟩
theorem ky_Hand_bytes : (.laysFinal R_Hand "ReferredNames$Hand" "bytes" "[B" : Cond) ∈ cmn := List.mem_filter.mpr ⟨List.mem_append_right _ (List.mem_append_left _ (List.mem_of_getElem? (i := 28) rfl)), rfl⟩
theorem ky_Hand_size : (.lays R_Hand "ReferredNames$Hand" "size" "I" : Cond) ∈ cmn := List.mem_filter.mpr ⟨List.mem_append_right _ (List.mem_append_left _ (List.mem_of_getElem? (i := 30) rfl)), rfl⟩
theorem ka_byte : (.arrayClass .byte : Cond) ∈ cmn := List.mem_filter.mpr ⟨List.mem_append_right _ (List.mem_append_left _ (List.mem_of_getElem? (i := 33) rfl)), rfl⟩
theorem kl_RN_16 : (.classLink R_RN 16 R_Marks : Cond) ∈ cmn := List.mem_filter.mpr ⟨List.mem_append_right _ (List.mem_append_left _ (List.mem_of_getElem? (i := 34) rfl)), rfl⟩
theorem kz_Marks : (.instantiable R_Marks 8 : Cond) ∈ cmn := List.mem_filter.mpr ⟨List.mem_append_right _ (List.mem_append_left _ (List.mem_of_getElem? (i := 35) rfl)), rfl⟩
theorem km_RN_18 : (.methodLink R_RN 18 y_Marks_init : Cond) ∈ cmn := List.mem_filter.mpr ⟨List.mem_append_right _ (List.mem_append_left _ (List.mem_of_getElem? (i := 36) rfl)), rfl⟩
theorem ki_Marks_init : (.instanceMethod y_Marks_init : Cond) ∈ cmn := List.mem_filter.mpr ⟨List.mem_append_right _ (List.mem_append_left _ (List.mem_of_getElem? (i := 37) rfl)), rfl⟩
theorem kc_Marks_init : (.code y_Marks_init b_Marks_init 1 none : Cond) ∈ cmn := List.mem_filter.mpr ⟨List.mem_append_right _ (List.mem_append_left _ (List.mem_of_getElem? (i := 38) rfl)), rfl⟩
theorem km_Marks_1 : (.methodLink R_Marks 1 objectInit : Cond) ∈ cmn := List.mem_filter.mpr ⟨List.mem_append_right _ (List.mem_append_left _ (List.mem_of_getElem? (i := 39) rfl)), rfl⟩
theorem km_Marks_33 : (.methodLink R_Marks 33 y_Marks_clear : Cond) ∈ cmn := List.mem_filter.mpr ⟨List.mem_append_right _ (List.mem_append_left _ (List.mem_of_getElem? (i := 40) rfl)), rfl⟩
theorem ki_Marks_clear : (.instanceMethod y_Marks_clear : Cond) ∈ cmn := List.mem_filter.mpr ⟨List.mem_append_right _ (List.mem_append_left _ (List.mem_of_getElem? (i := 41) rfl)), rfl⟩
theorem ks_Marks_clear : (.selects R_Marks y_Marks_clear y_Marks_clear : Cond) ∈ cmn := List.mem_filter.mpr ⟨List.mem_append_right _ (List.mem_append_left _ (List.mem_of_getElem? (i := 42) rfl)), rfl⟩
theorem kc_Marks_clear : (.code y_Marks_clear b_Marks_clear 2 none : Cond) ∈ cmn := List.mem_filter.mpr ⟨List.mem_append_right _ (List.mem_append_left _ (List.mem_of_getElem? (i := 43) rfl)), rfl⟩
theorem kf_Marks_11 : (.fieldLink R_Marks 11 "ReferredNames$Marks" "bytes" "[B" : Cond) ∈ cmn := List.mem_filter.mpr ⟨List.mem_append_right _ (List.mem_append_left _ (List.mem_of_getElem? (i := 44) rfl)), rfl⟩
theorem kf_Marks_15 : (.fieldLink R_Marks 15 "ReferredNames$Marks" "begins" "[I" : Cond) ∈ cmn := List.mem_filter.mpr ⟨List.mem_append_right _ (List.mem_append_left _ (List.mem_of_getElem? (i := 46) rfl)), rfl⟩
theorem kf_Marks_19 : (.fieldLink R_Marks 19 "ReferredNames$Marks" "given" "[I" : Cond) ∈ cmn := List.mem_filter.mpr ⟨List.mem_append_right _ (List.mem_append_left _ (List.mem_of_getElem? (i := 48) rfl)), rfl⟩
theorem kf_Marks_22 : (.fieldLink R_Marks 22 "ReferredNames$Marks" "referred" "[I" : Cond) ∈ cmn := List.mem_filter.mpr ⟨List.mem_append_right _ (List.mem_append_left _ (List.mem_of_getElem? (i := 50) rfl)), rfl⟩
theorem kf_Marks_25 : (.fieldLink R_Marks 25 "ReferredNames$Marks" "slots" "[S" : Cond) ∈ cmn := List.mem_filter.mpr ⟨List.mem_append_right _ (List.mem_append_left _ (List.mem_of_getElem? (i := 52) rfl)), rfl⟩
theorem kf_Marks_29 : (.fieldLink R_Marks 29 "ReferredNames$Marks" "missing" "[J" : Cond) ∈ cmn := List.mem_filter.mpr ⟨List.mem_append_right _ (List.mem_append_left _ (List.mem_of_getElem? (i := 53) rfl)), rfl⟩
theorem kf_Marks_36 : (.fieldLink R_Marks 36 "ReferredNames$Marks" "size" "I" : Cond) ∈ cmn := List.mem_filter.mpr ⟨List.mem_append_right _ (List.mem_append_left _ (List.mem_of_getElem? (i := 54) rfl)), rfl⟩
theorem kf_Marks_40 : (.fieldLink R_Marks 40 "ReferredNames$Marks" "vain" "I" : Cond) ∈ cmn := List.mem_filter.mpr ⟨List.mem_append_right _ (List.mem_append_left _ (List.mem_of_getElem? (i := 56) rfl)), rfl⟩
theorem ky_Marks_bytes : (.laysFinal R_Marks "ReferredNames$Marks" "bytes" "[B" : Cond) ∈ cmn := List.mem_filter.mpr ⟨List.mem_append_right _ (List.mem_append_left _ (List.mem_of_getElem? (i := 58) rfl)), rfl⟩
theorem ky_Marks_begins : (.laysFinal R_Marks "ReferredNames$Marks" "begins" "[I" : Cond) ∈ cmn := List.mem_filter.mpr ⟨List.mem_append_right _ (List.mem_append_left _ (List.mem_of_getElem? (i := 60) rfl)), rfl⟩
theorem ky_Marks_given : (.laysFinal R_Marks "ReferredNames$Marks" "given" "[I" : Cond) ∈ cmn := List.mem_filter.mpr ⟨List.mem_append_right _ (List.mem_append_left _ (List.mem_of_getElem? (i := 62) rfl)), rfl⟩
theorem ky_Marks_referred : (.laysFinal R_Marks "ReferredNames$Marks" "referred" "[I" : Cond) ∈ cmn := List.mem_filter.mpr ⟨List.mem_append_right _ (List.mem_append_left _ (List.mem_of_getElem? (i := 64) rfl)), rfl⟩
theorem ky_Marks_slots : (.laysFinal R_Marks "ReferredNames$Marks" "slots" "[S" : Cond) ∈ cmn := List.mem_filter.mpr ⟨List.mem_append_right _ (List.mem_append_left _ (List.mem_of_getElem? (i := 66) rfl)), rfl⟩
theorem ky_Marks_missing : (.laysFinal R_Marks "ReferredNames$Marks" "missing" "[J" : Cond) ∈ cmn := List.mem_filter.mpr ⟨List.mem_append_right _ (List.mem_append_left _ (List.mem_of_getElem? (i := 68) rfl)), rfl⟩
theorem ky_Marks_size : (.lays R_Marks "ReferredNames$Marks" "size" "I" : Cond) ∈ cmn := List.mem_filter.mpr ⟨List.mem_append_right _ (List.mem_append_left _ (List.mem_of_getElem? (i := 70) rfl)), rfl⟩
theorem ky_Marks_vain : (.lays R_Marks "ReferredNames$Marks" "vain" "I" : Cond) ∈ cmn := List.mem_filter.mpr ⟨List.mem_append_right _ (List.mem_append_left _ (List.mem_of_getElem? (i := 72) rfl)), rfl⟩
theorem ka_int : (.arrayClass .int : Cond) ∈ cmn := List.mem_filter.mpr ⟨List.mem_append_right _ (List.mem_append_left _ (List.mem_of_getElem? (i := 75) rfl)), rfl⟩
theorem ka_short : (.arrayClass .short : Cond) ∈ cmn := List.mem_filter.mpr ⟨List.mem_append_right _ (List.mem_append_left _ (List.mem_of_getElem? (i := 76) rfl)), rfl⟩
theorem ka_long : (.arrayClass .long : Cond) ∈ cmn := List.mem_filter.mpr ⟨List.mem_append_right _ (List.mem_append_left _ (List.mem_of_getElem? (i := 77) rfl)), rfl⟩
theorem kf_RN_10 : (.fieldLink R_RN 10 "ReferredNames" "hand" "LReferredNames$Hand;" : Cond) ∈ cmn := List.mem_filter.mpr ⟨List.mem_append_right _ (List.mem_append_left _ (List.mem_of_getElem? (i := 78) rfl)), rfl⟩
theorem kf_RN_19 : (.fieldLink R_RN 19 "ReferredNames" "marks" "LReferredNames$Marks;" : Cond) ∈ cmn := List.mem_filter.mpr ⟨List.mem_append_right _ (List.mem_append_left _ (List.mem_of_getElem? (i := 79) rfl)), rfl⟩
theorem ky_RN_hand : (.laysFinal R_RN "ReferredNames" "hand" "LReferredNames$Hand;" : Cond) ∈ cmn := List.mem_filter.mpr ⟨List.mem_append_right _ (List.mem_append_left _ (List.mem_of_getElem? (i := 80) rfl)), rfl⟩
theorem ky_RN_marks : (.laysFinal R_RN "ReferredNames" "marks" "LReferredNames$Marks;" : Cond) ∈ cmn := List.mem_filter.mpr ⟨List.mem_append_right _ (List.mem_append_left _ (List.mem_of_getElem? (i := 82) rfl)), rfl⟩
theorem km_law_15 : (.methodLink R_law 15 y_RN_put : Cond) ∈ cmn := List.mem_filter.mpr ⟨List.mem_append_right _ (List.mem_append_left _ (List.mem_of_getElem? (i := 85) rfl)), rfl⟩
theorem ki_RN_put : (.instanceMethod y_RN_put : Cond) ∈ cmn := List.mem_filter.mpr ⟨List.mem_append_right _ (List.mem_append_left _ (List.mem_of_getElem? (i := 86) rfl)), rfl⟩
theorem ks_RN_put : (.selects R_RN y_RN_put y_RN_put : Cond) ∈ cmn := List.mem_filter.mpr ⟨List.mem_append_right _ (List.mem_append_left _ (List.mem_of_getElem? (i := 87) rfl)), rfl⟩
theorem kc_RN_put : (.code y_RN_put b_RN_put 5 (some .boolean) : Cond) ∈ cmn := List.mem_filter.mpr ⟨List.mem_append_right _ (List.mem_append_left _ (List.mem_of_getElem? (i := 88) rfl)), rfl⟩
theorem km_law_20 : (.methodLink R_law 20 y_RN_give : Cond) ∈ cmn := List.mem_filter.mpr ⟨List.mem_append_right _ (List.mem_append_left _ (List.mem_of_getElem? (i := 89) rfl)), rfl⟩
theorem ki_RN_give : (.instanceMethod y_RN_give : Cond) ∈ cmn := List.mem_filter.mpr ⟨List.mem_append_right _ (List.mem_append_left _ (List.mem_of_getElem? (i := 90) rfl)), rfl⟩
theorem ks_RN_give : (.selects R_RN y_RN_give y_RN_give : Cond) ∈ cmn := List.mem_filter.mpr ⟨List.mem_append_right _ (List.mem_append_left _ (List.mem_of_getElem? (i := 91) rfl)), rfl⟩
theorem kc_RN_give : (.code y_RN_give b_RN_give 2 (some .int) : Cond) ∈ cmn := List.mem_filter.mpr ⟨List.mem_append_right _ (List.mem_append_left _ (List.mem_of_getElem? (i := 92) rfl)), rfl⟩
theorem km_RN_31 : (.methodLink R_RN 31 y_Marks_give : Cond) ∈ cmn := List.mem_filter.mpr ⟨List.mem_append_right _ (List.mem_append_left _ (List.mem_of_getElem? (i := 93) rfl)), rfl⟩
theorem ki_Marks_give : (.instanceMethod y_Marks_give : Cond) ∈ cmn := List.mem_filter.mpr ⟨List.mem_append_right _ (List.mem_append_left _ (List.mem_of_getElem? (i := 94) rfl)), rfl⟩
theorem ks_Marks_give : (.selects R_Marks y_Marks_give y_Marks_give : Cond) ∈ cmn := List.mem_filter.mpr ⟨List.mem_append_right _ (List.mem_append_left _ (List.mem_of_getElem? (i := 95) rfl)), rfl⟩
theorem kc_Marks_give : (.code y_Marks_give b_Marks_give 3 (some .int) : Cond) ∈ cmn := List.mem_filter.mpr ⟨List.mem_append_right _ (List.mem_append_left _ (List.mem_of_getElem? (i := 96) rfl)), rfl⟩
theorem km_Marks_65 : (.methodLink R_Marks 65 y_Marks_know : Cond) ∈ cmn := List.mem_filter.mpr ⟨List.mem_append_right _ (List.mem_append_left _ (List.mem_of_getElem? (i := 97) rfl)), rfl⟩
theorem ki_Marks_know : (.instanceMethod y_Marks_know : Cond) ∈ cmn := List.mem_filter.mpr ⟨List.mem_append_right _ (List.mem_append_left _ (List.mem_of_getElem? (i := 99) rfl)), rfl⟩
theorem kc_Marks_know : (.code y_Marks_know b_Marks_know 3 (some .int) : Cond) ∈ cmn := List.mem_filter.mpr ⟨List.mem_append_right _ (List.mem_append_left _ (List.mem_of_getElem? (i := 100) rfl)), rfl⟩
theorem km_Marks_53 : (.methodLink R_Marks 53 y_Marks_slot : Cond) ∈ cmn := List.mem_filter.mpr ⟨List.mem_append_right _ (List.mem_append_left _ (List.mem_of_getElem? (i := 101) rfl)), rfl⟩
theorem ki_Marks_slot : (.instanceMethod y_Marks_slot : Cond) ∈ cmn := List.mem_filter.mpr ⟨List.mem_append_right _ (List.mem_append_left _ (List.mem_of_getElem? (i := 103) rfl)), rfl⟩
theorem kc_Marks_slot : (.code y_Marks_slot b_Marks_slot 3 (some .int) : Cond) ∈ cmn := List.mem_filter.mpr ⟨List.mem_append_right _ (List.mem_append_left _ (List.mem_of_getElem? (i := 104) rfl)), rfl⟩
theorem km_Marks_45 : (.methodLink R_Marks 45 y_Hand_mixed : Cond) ∈ cmn := List.mem_filter.mpr ⟨List.mem_append_right _ (List.mem_append_left _ (List.mem_of_getElem? (i := 105) rfl)), rfl⟩
theorem ki_Hand_mixed : (.instanceMethod y_Hand_mixed : Cond) ∈ cmn := List.mem_filter.mpr ⟨List.mem_append_right _ (List.mem_append_left _ (List.mem_of_getElem? (i := 106) rfl)), rfl⟩
theorem ks_Hand_mixed : (.selects R_Hand y_Hand_mixed y_Hand_mixed : Cond) ∈ cmn := List.mem_filter.mpr ⟨List.mem_append_right _ (List.mem_append_left _ (List.mem_of_getElem? (i := 107) rfl)), rfl⟩
theorem kc_Hand_mixed : (.code y_Hand_mixed b_Hand_mixed 3 (some .int) : Cond) ∈ cmn := List.mem_filter.mpr ⟨List.mem_append_right _ (List.mem_append_left _ (List.mem_of_getElem? (i := 108) rfl)), rfl⟩
theorem km_Marks_49 : (.methodLink R_Marks 49 y_Marks_is : Cond) ∈ cmn := List.mem_filter.mpr ⟨List.mem_append_right _ (List.mem_append_left _ (List.mem_of_getElem? (i := 109) rfl)), rfl⟩
theorem ki_Marks_is : (.instanceMethod y_Marks_is : Cond) ∈ cmn := List.mem_filter.mpr ⟨List.mem_append_right _ (List.mem_append_left _ (List.mem_of_getElem? (i := 111) rfl)), rfl⟩
theorem kc_Marks_is : (.code y_Marks_is b_Marks_is 5 (some .boolean) : Cond) ∈ cmn := List.mem_filter.mpr ⟨List.mem_append_right _ (List.mem_append_left _ (List.mem_of_getElem? (i := 112) rfl)), rfl⟩
theorem km_Marks_57 : (.methodLink R_Marks 57 arraycopyName : Cond) ∈ cmn := List.mem_filter.mpr ⟨List.mem_append_right _ (List.mem_append_left _ (List.mem_of_getElem? (i := 113) rfl)), rfl⟩
theorem kt_Sys_arraycopy : (.static arraycopyName : Cond) ∈ cmn := List.mem_filter.mpr ⟨List.mem_append_right _ (List.mem_append_left _ (List.mem_of_getElem? (i := 114) rfl)), rfl⟩
theorem kv_Sys_arraycopy : (.native arraycopyName : Cond) ∈ cmn := List.mem_filter.mpr ⟨List.mem_append_right _ (List.mem_append_left _ (List.mem_of_getElem? (i := 115) rfl)), rfl⟩
theorem km_Marks_68 : (.methodLink R_Marks 68 y_Marks_mark : Cond) ∈ cmn := List.mem_filter.mpr ⟨List.mem_append_right _ (List.mem_append_left _ (List.mem_of_getElem? (i := 116) rfl)), rfl⟩
theorem ki_Marks_mark : (.instanceMethod y_Marks_mark : Cond) ∈ cmn := List.mem_filter.mpr ⟨List.mem_append_right _ (List.mem_append_left _ (List.mem_of_getElem? (i := 118) rfl)), rfl⟩
theorem kc_Marks_mark : (.code y_Marks_mark b_Marks_mark 5 none : Cond) ∈ cmn := List.mem_filter.mpr ⟨List.mem_append_right _ (List.mem_append_left _ (List.mem_of_getElem? (i := 119) rfl)), rfl⟩
theorem kq_Marks_63 : (.constantLong R_Marks 63 (-1) : Cond) ∈ cmn := List.mem_filter.mpr ⟨List.mem_append_right _ (List.mem_append_left _ (List.mem_of_getElem? (i := 120) rfl)), rfl⟩
theorem km_law_25 : (.methodLink R_law 25 y_RN_refer : Cond) ∈ cmn := List.mem_filter.mpr ⟨List.mem_append_right _ (List.mem_append_left _ (List.mem_of_getElem? (i := 121) rfl)), rfl⟩
theorem ki_RN_refer : (.instanceMethod y_RN_refer : Cond) ∈ cmn := List.mem_filter.mpr ⟨List.mem_append_right _ (List.mem_append_left _ (List.mem_of_getElem? (i := 122) rfl)), rfl⟩
theorem ks_RN_refer : (.selects R_RN y_RN_refer y_RN_refer : Cond) ∈ cmn := List.mem_filter.mpr ⟨List.mem_append_right _ (List.mem_append_left _ (List.mem_of_getElem? (i := 123) rfl)), rfl⟩
theorem kc_RN_refer : (.code y_RN_refer b_RN_refer 2 (some .int) : Cond) ∈ cmn := List.mem_filter.mpr ⟨List.mem_append_right _ (List.mem_append_left _ (List.mem_of_getElem? (i := 124) rfl)), rfl⟩
theorem km_RN_35 : (.methodLink R_RN 35 y_Marks_refer : Cond) ∈ cmn := List.mem_filter.mpr ⟨List.mem_append_right _ (List.mem_append_left _ (List.mem_of_getElem? (i := 125) rfl)), rfl⟩
theorem ki_Marks_refer : (.instanceMethod y_Marks_refer : Cond) ∈ cmn := List.mem_filter.mpr ⟨List.mem_append_right _ (List.mem_append_left _ (List.mem_of_getElem? (i := 126) rfl)), rfl⟩
theorem ks_Marks_refer : (.selects R_Marks y_Marks_refer y_Marks_refer : Cond) ∈ cmn := List.mem_filter.mpr ⟨List.mem_append_right _ (List.mem_append_left _ (List.mem_of_getElem? (i := 127) rfl)), rfl⟩
theorem kc_Marks_refer : (.code y_Marks_refer b_Marks_refer 3 (some .int) : Cond) ∈ cmn := List.mem_filter.mpr ⟨List.mem_append_right _ (List.mem_append_left _ (List.mem_of_getElem? (i := 128) rfl)), rfl⟩
theorem km_law_29 : (.methodLink R_law 29 y_RN_find : Cond) ∈ cmn := List.mem_filter.mpr ⟨List.mem_append_right _ (List.mem_append_left _ (List.mem_of_getElem? (i := 129) rfl)), rfl⟩
theorem ki_RN_find : (.instanceMethod y_RN_find : Cond) ∈ cmn := List.mem_filter.mpr ⟨List.mem_append_right _ (List.mem_append_left _ (List.mem_of_getElem? (i := 130) rfl)), rfl⟩
theorem ks_RN_find : (.selects R_RN y_RN_find y_RN_find : Cond) ∈ cmn := List.mem_filter.mpr ⟨List.mem_append_right _ (List.mem_append_left _ (List.mem_of_getElem? (i := 131) rfl)), rfl⟩
theorem kc_RN_find : (.code y_RN_find b_RN_find 1 (some .int) : Cond) ∈ cmn := List.mem_filter.mpr ⟨List.mem_append_right _ (List.mem_append_left _ (List.mem_of_getElem? (i := 132) rfl)), rfl⟩
theorem km_RN_38 : (.methodLink R_RN 38 y_Marks_find : Cond) ∈ cmn := List.mem_filter.mpr ⟨List.mem_append_right _ (List.mem_append_left _ (List.mem_of_getElem? (i := 133) rfl)), rfl⟩
theorem ki_Marks_find : (.instanceMethod y_Marks_find : Cond) ∈ cmn := List.mem_filter.mpr ⟨List.mem_append_right _ (List.mem_append_left _ (List.mem_of_getElem? (i := 134) rfl)), rfl⟩
theorem ks_Marks_find : (.selects R_Marks y_Marks_find y_Marks_find : Cond) ∈ cmn := List.mem_filter.mpr ⟨List.mem_append_right _ (List.mem_append_left _ (List.mem_of_getElem? (i := 135) rfl)), rfl⟩
theorem kc_Marks_find : (.code y_Marks_find b_Marks_find 2 (some .int) : Cond) ∈ cmn := List.mem_filter.mpr ⟨List.mem_append_right _ (List.mem_append_left _ (List.mem_of_getElem? (i := 136) rfl)), rfl⟩
theorem km_law_33 : (.methodLink R_law 33 y_RN_look : Cond) ∈ cmn := List.mem_filter.mpr ⟨List.mem_append_right _ (List.mem_append_left _ (List.mem_of_getElem? (i := 137) rfl)), rfl⟩
theorem ki_RN_look : (.instanceMethod y_RN_look : Cond) ∈ cmn := List.mem_filter.mpr ⟨List.mem_append_right _ (List.mem_append_left _ (List.mem_of_getElem? (i := 138) rfl)), rfl⟩
theorem ks_RN_look : (.selects R_RN y_RN_look y_RN_look : Cond) ∈ cmn := List.mem_filter.mpr ⟨List.mem_append_right _ (List.mem_append_left _ (List.mem_of_getElem? (i := 139) rfl)), rfl⟩
theorem kc_RN_look : (.code y_RN_look b_RN_look 3 (some .int) : Cond) ∈ cmn := List.mem_filter.mpr ⟨List.mem_append_right _ (List.mem_append_left _ (List.mem_of_getElem? (i := 140) rfl)), rfl⟩
theorem km_RN_42 : (.methodLink R_RN 42 y_RN_isKnown : Cond) ∈ cmn := List.mem_filter.mpr ⟨List.mem_append_right _ (List.mem_append_left _ (List.mem_of_getElem? (i := 141) rfl)), rfl⟩
theorem ki_RN_isKnown : (.instanceMethod y_RN_isKnown : Cond) ∈ cmn := List.mem_filter.mpr ⟨List.mem_append_right _ (List.mem_append_left _ (List.mem_of_getElem? (i := 143) rfl)), rfl⟩
theorem kc_RN_isKnown : (.code y_RN_isKnown b_RN_isKnown 2 (some .boolean) : Cond) ∈ cmn := List.mem_filter.mpr ⟨List.mem_append_right _ (List.mem_append_left _ (List.mem_of_getElem? (i := 144) rfl)), rfl⟩
theorem km_RN_56 : (.methodLink R_RN 56 y_Marks_missingFrom : Cond) ∈ cmn := List.mem_filter.mpr ⟨List.mem_append_right _ (List.mem_append_left _ (List.mem_of_getElem? (i := 145) rfl)), rfl⟩
theorem ki_Marks_missingFrom : (.instanceMethod y_Marks_missingFrom : Cond) ∈ cmn := List.mem_filter.mpr ⟨List.mem_append_right _ (List.mem_append_left _ (List.mem_of_getElem? (i := 146) rfl)), rfl⟩
theorem ks_Marks_missingFrom : (.selects R_Marks y_Marks_missingFrom y_Marks_missingFrom : Cond) ∈ cmn := List.mem_filter.mpr ⟨List.mem_append_right _ (List.mem_append_left _ (List.mem_of_getElem? (i := 147) rfl)), rfl⟩
theorem kc_Marks_missingFrom : (.code y_Marks_missingFrom b_Marks_missingFrom 5 (some .int) : Cond) ∈ cmn := List.mem_filter.mpr ⟨List.mem_append_right _ (List.mem_append_left _ (List.mem_of_getElem? (i := 148) rfl)), rfl⟩
theorem km_Marks_72 : (.methodLink R_Marks 72 y_Lng_numberOfTrailingZeros : Cond) ∈ cmn := List.mem_filter.mpr ⟨List.mem_append_right _ (List.mem_append_left _ (List.mem_of_getElem? (i := 149) rfl)), rfl⟩
theorem kt_Lng_numberOfTrailingZeros : (.static y_Lng_numberOfTrailingZeros : Cond) ∈ cmn := List.mem_filter.mpr ⟨List.mem_append_right _ (List.mem_append_left _ (List.mem_of_getElem? (i := 150) rfl)), rfl⟩
theorem kc_Lng_numberOfTrailingZeros : (.code y_Lng_numberOfTrailingZeros b_Lng_numberOfTrailingZeros 3 (some .int) : Cond) ∈ cmn := List.mem_filter.mpr ⟨List.mem_append_right _ (List.mem_append_left _ (List.mem_of_getElem? (i := 151) rfl)), rfl⟩
theorem km_Lng_311 : (.methodLink R_Lng 311 y_Int_numberOfTrailingZeros : Cond) ∈ cmn := List.mem_filter.mpr ⟨List.mem_append_right _ (List.mem_append_left _ (List.mem_of_getElem? (i := 152) rfl)), rfl⟩
theorem kt_Int_numberOfTrailingZeros : (.static y_Int_numberOfTrailingZeros : Cond) ∈ cmn := List.mem_filter.mpr ⟨List.mem_append_right _ (List.mem_append_left _ (List.mem_of_getElem? (i := 153) rfl)), rfl⟩
theorem kc_Int_numberOfTrailingZeros : (.code y_Int_numberOfTrailingZeros b_Int_numberOfTrailingZeros 2 (some .int) : Cond) ∈ cmn := List.mem_filter.mpr ⟨List.mem_append_right _ (List.mem_append_left _ (List.mem_of_getElem? (i := 154) rfl)), rfl⟩
theorem kq_Int_264 : (.constant R_Int 264 (65536) : Cond) ∈ cmn := List.mem_filter.mpr ⟨List.mem_append_right _ (List.mem_append_left _ (List.mem_of_getElem? (i := 155) rfl)), rfl⟩
theorem km_law_38 : (.methodLink R_law 38 y_RN_byteOf : Cond) ∈ cmn := List.mem_filter.mpr ⟨List.mem_append_right _ (List.mem_append_left _ (List.mem_of_getElem? (i := 156) rfl)), rfl⟩
theorem ki_RN_byteOf : (.instanceMethod y_RN_byteOf : Cond) ∈ cmn := List.mem_filter.mpr ⟨List.mem_append_right _ (List.mem_append_left _ (List.mem_of_getElem? (i := 157) rfl)), rfl⟩
theorem ks_RN_byteOf : (.selects R_RN y_RN_byteOf y_RN_byteOf : Cond) ∈ cmn := List.mem_filter.mpr ⟨List.mem_append_right _ (List.mem_append_left _ (List.mem_of_getElem? (i := 158) rfl)), rfl⟩
theorem kc_RN_byteOf : (.code y_RN_byteOf b_RN_byteOf 3 (some .int) : Cond) ∈ cmn := List.mem_filter.mpr ⟨List.mem_append_right _ (List.mem_append_left _ (List.mem_of_getElem? (i := 159) rfl)), rfl⟩
theorem km_law_42 : (.methodLink R_law 42 y_RN_count : Cond) ∈ cmn := List.mem_filter.mpr ⟨List.mem_append_right _ (List.mem_append_left _ (List.mem_of_getElem? (i := 160) rfl)), rfl⟩
theorem ki_RN_count : (.instanceMethod y_RN_count : Cond) ∈ cmn := List.mem_filter.mpr ⟨List.mem_append_right _ (List.mem_append_left _ (List.mem_of_getElem? (i := 161) rfl)), rfl⟩
theorem ks_RN_count : (.selects R_RN y_RN_count y_RN_count : Cond) ∈ cmn := List.mem_filter.mpr ⟨List.mem_append_right _ (List.mem_append_left _ (List.mem_of_getElem? (i := 162) rfl)), rfl⟩
theorem kc_RN_count : (.code y_RN_count b_RN_count 2 (some .int) : Cond) ∈ cmn := List.mem_filter.mpr ⟨List.mem_append_right _ (List.mem_append_left _ (List.mem_of_getElem? (i := 163) rfl)), rfl⟩
theorem km_RN_61 : (.methodLink R_RN 61 y_Marks_givenOnes : Cond) ∈ cmn := List.mem_filter.mpr ⟨List.mem_append_right _ (List.mem_append_left _ (List.mem_of_getElem? (i := 164) rfl)), rfl⟩
theorem ki_Marks_givenOnes : (.instanceMethod y_Marks_givenOnes : Cond) ∈ cmn := List.mem_filter.mpr ⟨List.mem_append_right _ (List.mem_append_left _ (List.mem_of_getElem? (i := 165) rfl)), rfl⟩
theorem ks_Marks_givenOnes : (.selects R_Marks y_Marks_givenOnes y_Marks_givenOnes : Cond) ∈ cmn := List.mem_filter.mpr ⟨List.mem_append_right _ (List.mem_append_left _ (List.mem_of_getElem? (i := 166) rfl)), rfl⟩
theorem kc_Marks_givenOnes : (.code y_Marks_givenOnes b_Marks_givenOnes 3 (some .int) : Cond) ∈ cmn := List.mem_filter.mpr ⟨List.mem_append_right _ (List.mem_append_left _ (List.mem_of_getElem? (i := 167) rfl)), rfl⟩
theorem km_RN_65 : (.methodLink R_RN 65 y_Marks_missingOnes : Cond) ∈ cmn := List.mem_filter.mpr ⟨List.mem_append_right _ (List.mem_append_left _ (List.mem_of_getElem? (i := 168) rfl)), rfl⟩
theorem ki_Marks_missingOnes : (.instanceMethod y_Marks_missingOnes : Cond) ∈ cmn := List.mem_filter.mpr ⟨List.mem_append_right _ (List.mem_append_left _ (List.mem_of_getElem? (i := 169) rfl)), rfl⟩
theorem ks_Marks_missingOnes : (.selects R_Marks y_Marks_missingOnes y_Marks_missingOnes : Cond) ∈ cmn := List.mem_filter.mpr ⟨List.mem_append_right _ (List.mem_append_left _ (List.mem_of_getElem? (i := 170) rfl)), rfl⟩
theorem kc_Marks_missingOnes : (.code y_Marks_missingOnes b_Marks_missingOnes 3 (some .int) : Cond) ∈ cmn := List.mem_filter.mpr ⟨List.mem_append_right _ (List.mem_append_left _ (List.mem_of_getElem? (i := 171) rfl)), rfl⟩
theorem km_Marks_78 : (.methodLink R_Marks 78 y_Lng_bitCount : Cond) ∈ cmn := List.mem_filter.mpr ⟨List.mem_append_right _ (List.mem_append_left _ (List.mem_of_getElem? (i := 172) rfl)), rfl⟩
theorem kt_Lng_bitCount : (.static y_Lng_bitCount : Cond) ∈ cmn := List.mem_filter.mpr ⟨List.mem_append_right _ (List.mem_append_left _ (List.mem_of_getElem? (i := 173) rfl)), rfl⟩
theorem kc_Lng_bitCount : (.code y_Lng_bitCount b_Lng_bitCount 2 (some .int) : Cond) ∈ cmn := List.mem_filter.mpr ⟨List.mem_append_right _ (List.mem_append_left _ (List.mem_of_getElem? (i := 174) rfl)), rfl⟩
theorem kq_Lng_314 : (.constantLong R_Lng 314 (6148914691236517205) : Cond) ∈ cmn := List.mem_filter.mpr ⟨List.mem_append_right _ (List.mem_append_left _ (List.mem_of_getElem? (i := 175) rfl)), rfl⟩
theorem kq_Lng_316 : (.constantLong R_Lng 316 (3689348814741910323) : Cond) ∈ cmn := List.mem_filter.mpr ⟨List.mem_append_right _ (List.mem_append_left _ (List.mem_of_getElem? (i := 176) rfl)), rfl⟩
theorem kq_Lng_318 : (.constantLong R_Lng 318 (1085102592571150095) : Cond) ∈ cmn := List.mem_filter.mpr ⟨List.mem_append_right _ (List.mem_append_left _ (List.mem_of_getElem? (i := 177) rfl)), rfl⟩
theorem km_law_47 : (.methodLink R_law 47 y_RN_clear : Cond) ∈ cmn := List.mem_filter.mpr ⟨List.mem_append_right _ (List.mem_append_left _ (List.mem_of_getElem? (i := 178) rfl)), rfl⟩
theorem ki_RN_clear : (.instanceMethod y_RN_clear : Cond) ∈ cmn := List.mem_filter.mpr ⟨List.mem_append_right _ (List.mem_append_left _ (List.mem_of_getElem? (i := 179) rfl)), rfl⟩
theorem ks_RN_clear : (.selects R_RN y_RN_clear y_RN_clear : Cond) ∈ cmn := List.mem_filter.mpr ⟨List.mem_append_right _ (List.mem_append_left _ (List.mem_of_getElem? (i := 180) rfl)), rfl⟩
theorem kc_RN_clear : (.code y_RN_clear b_RN_clear 2 (some .int) : Cond) ∈ cmn := List.mem_filter.mpr ⟨List.mem_append_right _ (List.mem_append_left _ (List.mem_of_getElem? (i := 181) rfl)), rfl⟩
theorem km_RN_71 : (.methodLink R_RN 71 y_Marks_clear : Cond) ∈ cmn := List.mem_filter.mpr ⟨List.mem_append_right _ (List.mem_append_left _ (List.mem_of_getElem? (i := 182) rfl)), rfl⟩
theorem kl_law_10 : (.classLink R_law 10 R_Model : Cond) ∈ cmn := List.mem_filter.mpr ⟨List.mem_append_right _ (List.mem_append_left _ (List.mem_of_getElem? (i := 183) rfl)), rfl⟩
theorem kz_Model : (.instantiable R_Model 7 : Cond) ∈ cmn := List.mem_filter.mpr ⟨List.mem_append_right _ (List.mem_append_left _ (List.mem_of_getElem? (i := 184) rfl)), rfl⟩
theorem km_law_12 : (.methodLink R_law 12 y_Model_init : Cond) ∈ cmn := List.mem_filter.mpr ⟨List.mem_append_right _ (List.mem_append_left _ (List.mem_of_getElem? (i := 185) rfl)), rfl⟩
theorem ki_Model_init : (.instanceMethod y_Model_init : Cond) ∈ cmn := List.mem_filter.mpr ⟨List.mem_append_right _ (List.mem_append_left _ (List.mem_of_getElem? (i := 186) rfl)), rfl⟩
theorem kc_Model_init : (.code y_Model_init b_Model_init 1 none : Cond) ∈ cmn := List.mem_filter.mpr ⟨List.mem_append_right _ (List.mem_append_left _ (List.mem_of_getElem? (i := 187) rfl)), rfl⟩
theorem km_Model_1 : (.methodLink R_Model 1 objectInit : Cond) ∈ cmn := List.mem_filter.mpr ⟨List.mem_append_right _ (List.mem_append_left _ (List.mem_of_getElem? (i := 188) rfl)), rfl⟩
theorem kf_Model_7 : (.fieldLink R_Model 7 "ReferredNamesModel" "hand" "[I" : Cond) ∈ cmn := List.mem_filter.mpr ⟨List.mem_append_right _ (List.mem_append_left _ (List.mem_of_getElem? (i := 189) rfl)), rfl⟩
theorem kf_Model_25 : (.fieldLink R_Model 25 "ReferredNamesModel" "inHand" "I" : Cond) ∈ cmn := List.mem_filter.mpr ⟨List.mem_append_right _ (List.mem_append_left _ (List.mem_of_getElem? (i := 190) rfl)), rfl⟩
theorem kf_Model_13 : (.fieldLink R_Model 13 "ReferredNamesModel" "bytes" "[I" : Cond) ∈ cmn := List.mem_filter.mpr ⟨List.mem_append_right _ (List.mem_append_left _ (List.mem_of_getElem? (i := 191) rfl)), rfl⟩
theorem kf_Model_16 : (.fieldLink R_Model 16 "ReferredNamesModel" "sizes" "[I" : Cond) ∈ cmn := List.mem_filter.mpr ⟨List.mem_append_right _ (List.mem_append_left _ (List.mem_of_getElem? (i := 192) rfl)), rfl⟩
theorem kf_Model_19 : (.fieldLink R_Model 19 "ReferredNamesModel" "given" "[I" : Cond) ∈ cmn := List.mem_filter.mpr ⟨List.mem_append_right _ (List.mem_append_left _ (List.mem_of_getElem? (i := 193) rfl)), rfl⟩
theorem kf_Model_22 : (.fieldLink R_Model 22 "ReferredNamesModel" "referred" "[I" : Cond) ∈ cmn := List.mem_filter.mpr ⟨List.mem_append_right _ (List.mem_append_left _ (List.mem_of_getElem? (i := 194) rfl)), rfl⟩
theorem kf_Model_31 : (.fieldLink R_Model 31 "ReferredNamesModel" "known" "I" : Cond) ∈ cmn := List.mem_filter.mpr ⟨List.mem_append_right _ (List.mem_append_left _ (List.mem_of_getElem? (i := 195) rfl)), rfl⟩
theorem ky_Model_hand : (.laysFinal R_Model "ReferredNamesModel" "hand" "[I" : Cond) ∈ cmn := List.mem_filter.mpr ⟨List.mem_append_right _ (List.mem_append_left _ (List.mem_of_getElem? (i := 196) rfl)), rfl⟩
theorem ky_Model_inHand : (.lays R_Model "ReferredNamesModel" "inHand" "I" : Cond) ∈ cmn := List.mem_filter.mpr ⟨List.mem_append_right _ (List.mem_append_left _ (List.mem_of_getElem? (i := 198) rfl)), rfl⟩
theorem ky_Model_bytes : (.laysFinal R_Model "ReferredNamesModel" "bytes" "[I" : Cond) ∈ cmn := List.mem_filter.mpr ⟨List.mem_append_right _ (List.mem_append_left _ (List.mem_of_getElem? (i := 200) rfl)), rfl⟩
theorem ky_Model_sizes : (.laysFinal R_Model "ReferredNamesModel" "sizes" "[I" : Cond) ∈ cmn := List.mem_filter.mpr ⟨List.mem_append_right _ (List.mem_append_left _ (List.mem_of_getElem? (i := 202) rfl)), rfl⟩
theorem ky_Model_given : (.laysFinal R_Model "ReferredNamesModel" "given" "[I" : Cond) ∈ cmn := List.mem_filter.mpr ⟨List.mem_append_right _ (List.mem_append_left _ (List.mem_of_getElem? (i := 204) rfl)), rfl⟩
theorem ky_Model_referred : (.laysFinal R_Model "ReferredNamesModel" "referred" "[I" : Cond) ∈ cmn := List.mem_filter.mpr ⟨List.mem_append_right _ (List.mem_append_left _ (List.mem_of_getElem? (i := 206) rfl)), rfl⟩
theorem ky_Model_known : (.lays R_Model "ReferredNamesModel" "known" "I" : Cond) ∈ cmn := List.mem_filter.mpr ⟨List.mem_append_right _ (List.mem_append_left _ (List.mem_of_getElem? (i := 208) rfl)), rfl⟩
theorem km_law_19 : (.methodLink R_law 19 y_Model_put : Cond) ∈ cmn := List.mem_filter.mpr ⟨List.mem_append_right _ (List.mem_append_left _ (List.mem_of_getElem? (i := 211) rfl)), rfl⟩
theorem ki_Model_put : (.instanceMethod y_Model_put : Cond) ∈ cmn := List.mem_filter.mpr ⟨List.mem_append_right _ (List.mem_append_left _ (List.mem_of_getElem? (i := 212) rfl)), rfl⟩
theorem ks_Model_put : (.selects R_Model y_Model_put y_Model_put : Cond) ∈ cmn := List.mem_filter.mpr ⟨List.mem_append_right _ (List.mem_append_left _ (List.mem_of_getElem? (i := 213) rfl)), rfl⟩
theorem kc_Model_put : (.code y_Model_put b_Model_put 8 (some .boolean) : Cond) ∈ cmn := List.mem_filter.mpr ⟨List.mem_append_right _ (List.mem_append_left _ (List.mem_of_getElem? (i := 214) rfl)), rfl⟩
theorem kq_Model_29 : (.constantLong R_Model 29 (255) : Cond) ∈ cmn := List.mem_filter.mpr ⟨List.mem_append_right _ (List.mem_append_left _ (List.mem_of_getElem? (i := 215) rfl)), rfl⟩
theorem km_law_24 : (.methodLink R_law 24 y_Model_give : Cond) ∈ cmn := List.mem_filter.mpr ⟨List.mem_append_right _ (List.mem_append_left _ (List.mem_of_getElem? (i := 216) rfl)), rfl⟩
theorem ki_Model_give : (.instanceMethod y_Model_give : Cond) ∈ cmn := List.mem_filter.mpr ⟨List.mem_append_right _ (List.mem_append_left _ (List.mem_of_getElem? (i := 217) rfl)), rfl⟩
theorem ks_Model_give : (.selects R_Model y_Model_give y_Model_give : Cond) ∈ cmn := List.mem_filter.mpr ⟨List.mem_append_right _ (List.mem_append_left _ (List.mem_of_getElem? (i := 218) rfl)), rfl⟩
theorem kc_Model_give : (.code y_Model_give b_Model_give 2 (some .int) : Cond) ∈ cmn := List.mem_filter.mpr ⟨List.mem_append_right _ (List.mem_append_left _ (List.mem_of_getElem? (i := 219) rfl)), rfl⟩
theorem km_Model_38 : (.methodLink R_Model 38 y_Model_known : Cond) ∈ cmn := List.mem_filter.mpr ⟨List.mem_append_right _ (List.mem_append_left _ (List.mem_of_getElem? (i := 220) rfl)), rfl⟩
theorem ki_Model_known : (.instanceMethod y_Model_known : Cond) ∈ cmn := List.mem_filter.mpr ⟨List.mem_append_right _ (List.mem_append_left _ (List.mem_of_getElem? (i := 222) rfl)), rfl⟩
theorem kc_Model_known : (.code y_Model_known b_Model_known 3 (some .int) : Cond) ∈ cmn := List.mem_filter.mpr ⟨List.mem_append_right _ (List.mem_append_left _ (List.mem_of_getElem? (i := 223) rfl)), rfl⟩
theorem km_Model_34 : (.methodLink R_Model 34 y_Model_place : Cond) ∈ cmn := List.mem_filter.mpr ⟨List.mem_append_right _ (List.mem_append_left _ (List.mem_of_getElem? (i := 224) rfl)), rfl⟩
theorem ki_Model_place : (.instanceMethod y_Model_place : Cond) ∈ cmn := List.mem_filter.mpr ⟨List.mem_append_right _ (List.mem_append_left _ (List.mem_of_getElem? (i := 226) rfl)), rfl⟩
theorem kc_Model_place : (.code y_Model_place b_Model_place 5 (some .int) : Cond) ∈ cmn := List.mem_filter.mpr ⟨List.mem_append_right _ (List.mem_append_left _ (List.mem_of_getElem? (i := 227) rfl)), rfl⟩
theorem km_law_28 : (.methodLink R_law 28 y_Model_refer : Cond) ∈ cmn := List.mem_filter.mpr ⟨List.mem_append_right _ (List.mem_append_left _ (List.mem_of_getElem? (i := 228) rfl)), rfl⟩
theorem ki_Model_refer : (.instanceMethod y_Model_refer : Cond) ∈ cmn := List.mem_filter.mpr ⟨List.mem_append_right _ (List.mem_append_left _ (List.mem_of_getElem? (i := 229) rfl)), rfl⟩
theorem ks_Model_refer : (.selects R_Model y_Model_refer y_Model_refer : Cond) ∈ cmn := List.mem_filter.mpr ⟨List.mem_append_right _ (List.mem_append_left _ (List.mem_of_getElem? (i := 230) rfl)), rfl⟩
theorem kc_Model_refer : (.code y_Model_refer b_Model_refer 2 (some .int) : Cond) ∈ cmn := List.mem_filter.mpr ⟨List.mem_append_right _ (List.mem_append_left _ (List.mem_of_getElem? (i := 231) rfl)), rfl⟩
theorem km_law_32 : (.methodLink R_law 32 y_Model_find : Cond) ∈ cmn := List.mem_filter.mpr ⟨List.mem_append_right _ (List.mem_append_left _ (List.mem_of_getElem? (i := 232) rfl)), rfl⟩
theorem ki_Model_find : (.instanceMethod y_Model_find : Cond) ∈ cmn := List.mem_filter.mpr ⟨List.mem_append_right _ (List.mem_append_left _ (List.mem_of_getElem? (i := 233) rfl)), rfl⟩
theorem ks_Model_find : (.selects R_Model y_Model_find y_Model_find : Cond) ∈ cmn := List.mem_filter.mpr ⟨List.mem_append_right _ (List.mem_append_left _ (List.mem_of_getElem? (i := 234) rfl)), rfl⟩
theorem kc_Model_find : (.code y_Model_find b_Model_find 1 (some .int) : Cond) ∈ cmn := List.mem_filter.mpr ⟨List.mem_append_right _ (List.mem_append_left _ (List.mem_of_getElem? (i := 235) rfl)), rfl⟩
theorem km_law_37 : (.methodLink R_law 37 y_Model_look : Cond) ∈ cmn := List.mem_filter.mpr ⟨List.mem_append_right _ (List.mem_append_left _ (List.mem_of_getElem? (i := 236) rfl)), rfl⟩
theorem ki_Model_look : (.instanceMethod y_Model_look : Cond) ∈ cmn := List.mem_filter.mpr ⟨List.mem_append_right _ (List.mem_append_left _ (List.mem_of_getElem? (i := 237) rfl)), rfl⟩
theorem ks_Model_look : (.selects R_Model y_Model_look y_Model_look : Cond) ∈ cmn := List.mem_filter.mpr ⟨List.mem_append_right _ (List.mem_append_left _ (List.mem_of_getElem? (i := 238) rfl)), rfl⟩
theorem kc_Model_look : (.code y_Model_look b_Model_look 3 (some .int) : Cond) ∈ cmn := List.mem_filter.mpr ⟨List.mem_append_right _ (List.mem_append_left _ (List.mem_of_getElem? (i := 239) rfl)), rfl⟩
theorem km_Model_44 : (.methodLink R_Model 44 y_Model_missingFrom : Cond) ∈ cmn := List.mem_filter.mpr ⟨List.mem_append_right _ (List.mem_append_right _ (List.mem_of_getElem? (i := 0) rfl)), rfl⟩
theorem ki_Model_missingFrom : (.instanceMethod y_Model_missingFrom : Cond) ∈ cmn := List.mem_filter.mpr ⟨List.mem_append_right _ (List.mem_append_right _ (List.mem_of_getElem? (i := 2) rfl)), rfl⟩
theorem kc_Model_missingFrom : (.code y_Model_missingFrom b_Model_missingFrom 4 (some .int) : Cond) ∈ cmn := List.mem_filter.mpr ⟨List.mem_append_right _ (List.mem_append_right _ (List.mem_of_getElem? (i := 3) rfl)), rfl⟩
theorem km_Model_40 : (.methodLink R_Model 40 y_Model_isMissing : Cond) ∈ cmn := List.mem_filter.mpr ⟨List.mem_append_right _ (List.mem_append_right _ (List.mem_of_getElem? (i := 4) rfl)), rfl⟩
theorem ki_Model_isMissing : (.instanceMethod y_Model_isMissing : Cond) ∈ cmn := List.mem_filter.mpr ⟨List.mem_append_right _ (List.mem_append_right _ (List.mem_of_getElem? (i := 6) rfl)), rfl⟩
theorem kc_Model_isMissing : (.code y_Model_isMissing b_Model_isMissing 2 (some .boolean) : Cond) ∈ cmn := List.mem_filter.mpr ⟨List.mem_append_right _ (List.mem_append_right _ (List.mem_of_getElem? (i := 7) rfl)), rfl⟩
theorem km_law_41 : (.methodLink R_law 41 y_Model_byteOf : Cond) ∈ cmn := List.mem_filter.mpr ⟨List.mem_append_right _ (List.mem_append_right _ (List.mem_of_getElem? (i := 8) rfl)), rfl⟩
theorem ki_Model_byteOf : (.instanceMethod y_Model_byteOf : Cond) ∈ cmn := List.mem_filter.mpr ⟨List.mem_append_right _ (List.mem_append_right _ (List.mem_of_getElem? (i := 9) rfl)), rfl⟩
theorem ks_Model_byteOf : (.selects R_Model y_Model_byteOf y_Model_byteOf : Cond) ∈ cmn := List.mem_filter.mpr ⟨List.mem_append_right _ (List.mem_append_right _ (List.mem_of_getElem? (i := 10) rfl)), rfl⟩
theorem kc_Model_byteOf : (.code y_Model_byteOf b_Model_byteOf 3 (some .int) : Cond) ∈ cmn := List.mem_filter.mpr ⟨List.mem_append_right _ (List.mem_append_right _ (List.mem_of_getElem? (i := 11) rfl)), rfl⟩
theorem km_law_46 : (.methodLink R_law 46 y_Model_count : Cond) ∈ cmn := List.mem_filter.mpr ⟨List.mem_append_right _ (List.mem_append_right _ (List.mem_of_getElem? (i := 12) rfl)), rfl⟩
theorem ki_Model_count : (.instanceMethod y_Model_count : Cond) ∈ cmn := List.mem_filter.mpr ⟨List.mem_append_right _ (List.mem_append_right _ (List.mem_of_getElem? (i := 13) rfl)), rfl⟩
theorem ks_Model_count : (.selects R_Model y_Model_count y_Model_count : Cond) ∈ cmn := List.mem_filter.mpr ⟨List.mem_append_right _ (List.mem_append_right _ (List.mem_of_getElem? (i := 14) rfl)), rfl⟩
theorem kc_Model_count : (.code y_Model_count b_Model_count 6 (some .int) : Cond) ∈ cmn := List.mem_filter.mpr ⟨List.mem_append_right _ (List.mem_append_right _ (List.mem_of_getElem? (i := 15) rfl)), rfl⟩
theorem km_law_50 : (.methodLink R_law 50 y_Model_clear : Cond) ∈ cmn := List.mem_filter.mpr ⟨List.mem_append_right _ (List.mem_append_right _ (List.mem_of_getElem? (i := 16) rfl)), rfl⟩
theorem ki_Model_clear : (.instanceMethod y_Model_clear : Cond) ∈ cmn := List.mem_filter.mpr ⟨List.mem_append_right _ (List.mem_append_right _ (List.mem_of_getElem? (i := 17) rfl)), rfl⟩
theorem ks_Model_clear : (.selects R_Model y_Model_clear y_Model_clear : Cond) ∈ cmn := List.mem_filter.mpr ⟨List.mem_append_right _ (List.mem_append_right _ (List.mem_of_getElem? (i := 18) rfl)), rfl⟩
theorem kc_Model_clear : (.code y_Model_clear b_Model_clear 2 (some .int) : Cond) ∈ cmn := List.mem_filter.mpr ⟨List.mem_append_right _ (List.mem_append_right _ (List.mem_of_getElem? (i := 19) rfl)), rfl⟩
theorem kq_law_13 : (.constantLong R_law 13 (4294967295) : Cond) ∈ cmn := List.mem_filter.mpr ⟨List.mem_append_right _ (List.mem_append_right _ (List.mem_of_getElem? (i := 20) rfl)), rfl⟩
theorem ks_Marks_know : (.selects R_Marks y_Marks_know y_Marks_know : Cond) ∈ cmn := List.mem_filter.mpr ⟨List.mem_append_left _ (List.mem_of_getElem? (i := 0) rfl), rfl⟩
theorem ks_Marks_slot : (.selects R_Marks y_Marks_slot y_Marks_slot : Cond) ∈ cmn := List.mem_filter.mpr ⟨List.mem_append_left _ (List.mem_of_getElem? (i := 1) rfl), rfl⟩
theorem ks_Marks_is : (.selects R_Marks y_Marks_is y_Marks_is : Cond) ∈ cmn := List.mem_filter.mpr ⟨List.mem_append_left _ (List.mem_of_getElem? (i := 2) rfl), rfl⟩
theorem ks_Marks_mark : (.selects R_Marks y_Marks_mark y_Marks_mark : Cond) ∈ cmn := List.mem_filter.mpr ⟨List.mem_append_left _ (List.mem_of_getElem? (i := 3) rfl), rfl⟩
theorem ks_RN_isKnown : (.selects R_RN y_RN_isKnown y_RN_isKnown : Cond) ∈ cmn := List.mem_filter.mpr ⟨List.mem_append_left _ (List.mem_of_getElem? (i := 4) rfl), rfl⟩
theorem ks_Model_known : (.selects R_Model y_Model_known y_Model_known : Cond) ∈ cmn := List.mem_filter.mpr ⟨List.mem_append_left _ (List.mem_of_getElem? (i := 5) rfl), rfl⟩
theorem ks_Model_place : (.selects R_Model y_Model_place y_Model_place : Cond) ∈ cmn := List.mem_filter.mpr ⟨List.mem_append_left _ (List.mem_of_getElem? (i := 6) rfl), rfl⟩
theorem ks_Model_missingFrom : (.selects R_Model y_Model_missingFrom y_Model_missingFrom : Cond) ∈ cmn := List.mem_filter.mpr ⟨List.mem_append_left _ (List.mem_of_getElem? (i := 7) rfl), rfl⟩
theorem ks_Model_isMissing : (.selects R_Model y_Model_isMissing y_Model_isMissing : Cond) ∈ cmn := List.mem_filter.mpr ⟨List.mem_append_left _ (List.mem_of_getElem? (i := 8) rfl), rfl⟩
theorem i_RN : ∀ w ∈ w_RN, w ∈ cmn := List.forall_mem_cons.mpr ⟨ky_RN_hand, List.forall_mem_cons.mpr ⟨ky_RN_marks, fun _ h => absurd h List.not_mem_nil⟩⟩
theorem i_Hand : ∀ w ∈ w_Hand, w ∈ cmn := List.forall_mem_cons.mpr ⟨ky_Hand_bytes, List.forall_mem_cons.mpr ⟨ky_Hand_size, fun _ h => absurd h List.not_mem_nil⟩⟩
theorem i_Marks : ∀ w ∈ w_Marks, w ∈ cmn := List.forall_mem_cons.mpr ⟨ky_Marks_bytes, List.forall_mem_cons.mpr ⟨ky_Marks_begins, List.forall_mem_cons.mpr ⟨ky_Marks_given, List.forall_mem_cons.mpr ⟨ky_Marks_referred, List.forall_mem_cons.mpr ⟨ky_Marks_slots, List.forall_mem_cons.mpr ⟨ky_Marks_missing, List.forall_mem_cons.mpr ⟨ky_Marks_size, List.forall_mem_cons.mpr ⟨ky_Marks_vain, fun _ h => absurd h List.not_mem_nil⟩⟩⟩⟩⟩⟩⟩⟩
theorem i_Model : ∀ w ∈ w_Model, w ∈ cmn := List.forall_mem_cons.mpr ⟨ky_Model_hand, List.forall_mem_cons.mpr ⟨ky_Model_inHand, List.forall_mem_cons.mpr ⟨ky_Model_bytes, List.forall_mem_cons.mpr ⟨ky_Model_sizes, List.forall_mem_cons.mpr ⟨ky_Model_given, List.forall_mem_cons.mpr ⟨ky_Model_referred, List.forall_mem_cons.mpr ⟨ky_Model_known, fun _ h => absurd h List.not_mem_nil⟩⟩⟩⟩⟩⟩⟩
/-- the links between nest mates: they ride in the contracts' starts -/
def NW (U : State) : Prop := va_Nw (.methodLinkNest R_RN 9 y_Hand_init "ReferredNames") U ∧ va_Nw (.fieldLinkNest R_RN 27 "ReferredNames$Hand" "bytes" "[B" "ReferredNames") U ∧ va_Nw (.fieldLinkNest R_Marks 44 "ReferredNames$Hand" "bytes" "[B" "ReferredNames") U ∧ va_Nw (.fieldLinkNest R_RN 23 "ReferredNames$Hand" "size" "I" "ReferredNames") U ∧ va_Nw (.fieldLinkNest R_Marks 43 "ReferredNames$Hand" "size" "I" "ReferredNames") U ∧ va_Nw (.fieldLinkNest R_RN 60 "ReferredNames$Marks" "bytes" "[B" "ReferredNames") U ∧ va_Nw (.fieldLinkNest R_RN 53 "ReferredNames$Marks" "begins" "[I" "ReferredNames") U ∧ va_Nw (.fieldLinkNest R_RN 46 "ReferredNames$Marks" "given" "[I" "ReferredNames") U ∧ va_Nw (.fieldLinkNest R_RN 50 "ReferredNames$Marks" "referred" "[I" "ReferredNames") U ∧ va_Nw (.fieldLinkNest R_RN 41 "ReferredNames$Marks" "size" "I" "ReferredNames") U ∧ va_Nw (.fieldLinkNest R_RN 68 "ReferredNames$Marks" "vain" "I" "ReferredNames") U
theorem nm_RN_9 {U : State} (h : NW U) {A : Array Value} : (.methodLinkNest R_RN 9 y_Hand_init "ReferredNames" : Cond).before A U = true := va_Nw.use rfl (h.1)
theorem nf_RN_27 {U : State} (h : NW U) {A : Array Value} : (.fieldLinkNest R_RN 27 "ReferredNames$Hand" "bytes" "[B" "ReferredNames" : Cond).before A U = true := va_Nw.use rfl (h.2.1)
theorem nf_Marks_44 {U : State} (h : NW U) {A : Array Value} : (.fieldLinkNest R_Marks 44 "ReferredNames$Hand" "bytes" "[B" "ReferredNames" : Cond).before A U = true := va_Nw.use rfl (h.2.2.1)
theorem nf_RN_23 {U : State} (h : NW U) {A : Array Value} : (.fieldLinkNest R_RN 23 "ReferredNames$Hand" "size" "I" "ReferredNames" : Cond).before A U = true := va_Nw.use rfl (h.2.2.2.1)
theorem nf_Marks_43 {U : State} (h : NW U) {A : Array Value} : (.fieldLinkNest R_Marks 43 "ReferredNames$Hand" "size" "I" "ReferredNames" : Cond).before A U = true := va_Nw.use rfl (h.2.2.2.2.1)
theorem nf_RN_60 {U : State} (h : NW U) {A : Array Value} : (.fieldLinkNest R_RN 60 "ReferredNames$Marks" "bytes" "[B" "ReferredNames" : Cond).before A U = true := va_Nw.use rfl (h.2.2.2.2.2.1)
theorem nf_RN_53 {U : State} (h : NW U) {A : Array Value} : (.fieldLinkNest R_RN 53 "ReferredNames$Marks" "begins" "[I" "ReferredNames" : Cond).before A U = true := va_Nw.use rfl (h.2.2.2.2.2.2.1)
theorem nf_RN_46 {U : State} (h : NW U) {A : Array Value} : (.fieldLinkNest R_RN 46 "ReferredNames$Marks" "given" "[I" "ReferredNames" : Cond).before A U = true := va_Nw.use rfl (h.2.2.2.2.2.2.2.1)
theorem nf_RN_50 {U : State} (h : NW U) {A : Array Value} : (.fieldLinkNest R_RN 50 "ReferredNames$Marks" "referred" "[I" "ReferredNames" : Cond).before A U = true := va_Nw.use rfl (h.2.2.2.2.2.2.2.2.1)
theorem nf_RN_41 {U : State} (h : NW U) {A : Array Value} : (.fieldLinkNest R_RN 41 "ReferredNames$Marks" "size" "I" "ReferredNames" : Cond).before A U = true := va_Nw.use rfl (h.2.2.2.2.2.2.2.2.2.1)
theorem nf_RN_68 {U : State} (h : NW U) {A : Array Value} : (.fieldLinkNest R_RN 68 "ReferredNames$Marks" "vain" "I" "ReferredNames" : Cond).before A U = true := va_Nw.use rfl (h.2.2.2.2.2.2.2.2.2.2)
theorem nw_nm_RN_9 {U : State} (h : NW U) : va_Nw (.methodLinkNest R_RN 9 y_Hand_init "ReferredNames") U := h.1
theorem NW.warm {s U : State} (hW : s.WarmedH U.vm) (h : NW s) : NW U := ⟨va_Nw.warmM hW (h.1), va_Nw.warmF hW (h.2.1), va_Nw.warmF hW (h.2.2.1), va_Nw.warmF hW (h.2.2.2.1), va_Nw.warmF hW (h.2.2.2.2.1), va_Nw.warmF hW (h.2.2.2.2.2.1), va_Nw.warmF hW (h.2.2.2.2.2.2.1), va_Nw.warmF hW (h.2.2.2.2.2.2.2.1), va_Nw.warmF hW (h.2.2.2.2.2.2.2.2.1), va_Nw.warmF hW (h.2.2.2.2.2.2.2.2.2.1), va_Nw.warmF hW (h.2.2.2.2.2.2.2.2.2.2)⟩
theorem NW.same {u U : State} (e : u.vm = U.vm) (h : NW u) : NW U := ⟨va_Nw.same rfl e (h.1), va_Nw.same rfl e (h.2.1), va_Nw.same rfl e (h.2.2.1), va_Nw.same rfl e (h.2.2.2.1), va_Nw.same rfl e (h.2.2.2.2.1), va_Nw.same rfl e (h.2.2.2.2.2.1), va_Nw.same rfl e (h.2.2.2.2.2.2.1), va_Nw.same rfl e (h.2.2.2.2.2.2.2.1), va_Nw.same rfl e (h.2.2.2.2.2.2.2.2.1), va_Nw.same rfl e (h.2.2.2.2.2.2.2.2.2.1), va_Nw.same rfl e (h.2.2.2.2.2.2.2.2.2.2)⟩
theorem NW.of {A : Array Value} {U : State} (hts : ∀ w ∈ lw_tbl, w.before A U = true) : NW U := ⟨va_Nw.of (A := A) rfl (hts _ (List.mem_append_right _ (List.mem_append_left _ (List.mem_of_getElem? (i := 18) rfl)))), va_Nw.of (A := A) rfl (hts _ (List.mem_append_right _ (List.mem_append_left _ (List.mem_of_getElem? (i := 23) rfl)))), va_Nw.of (A := A) rfl (hts _ (List.mem_append_right _ (List.mem_append_left _ (List.mem_of_getElem? (i := 24) rfl)))), va_Nw.of (A := A) rfl (hts _ (List.mem_append_right _ (List.mem_append_left _ (List.mem_of_getElem? (i := 26) rfl)))), va_Nw.of (A := A) rfl (hts _ (List.mem_append_right _ (List.mem_append_left _ (List.mem_of_getElem? (i := 27) rfl)))), va_Nw.of (A := A) rfl (hts _ (List.mem_append_right _ (List.mem_append_left _ (List.mem_of_getElem? (i := 45) rfl)))), va_Nw.of (A := A) rfl (hts _ (List.mem_append_right _ (List.mem_append_left _ (List.mem_of_getElem? (i := 47) rfl)))), va_Nw.of (A := A) rfl (hts _ (List.mem_append_right _ (List.mem_append_left _ (List.mem_of_getElem? (i := 49) rfl)))), va_Nw.of (A := A) rfl (hts _ (List.mem_append_right _ (List.mem_append_left _ (List.mem_of_getElem? (i := 51) rfl)))), va_Nw.of (A := A) rfl (hts _ (List.mem_append_right _ (List.mem_append_left _ (List.mem_of_getElem? (i := 55) rfl)))), va_Nw.of (A := A) rfl (hts _ (List.mem_append_right _ (List.mem_append_left _ (List.mem_of_getElem? (i := 57) rfl))))⟩
/-! GENERIC ROWS: one start, one end, calls by the common words -/
abbrev GT : Type := va_G × ClassId × ClassId × ClassId × ClassId
abbrev cBy (g : GT) : ClassId := g.2.1
abbrev cIn (g : GT) : ClassId := g.2.2.1
abbrev cSh (g : GT) : ClassId := g.2.2.2.1
abbrev cLo (g : GT) : ClassId := g.2.2.2.2
abbrev tysG (g : GT) : List (ClassId × FieldType) := [(cBy g, .byte), (cIn g, .int), (cSh g, .short), (cLo g, .long)]
/-- a method's start: the world ws at a heap of size sz, the classes, the nest links, the cells apart -/
def PcW (av : List Value) (sz : Nat) (g : GT) (ws : va_W) : Array Value → State → Prop := va_Pc av (fun U => U.heap.size = sz ∧ va_P g.1 classes ws U.heap ∧ va_K g.1 classes (tysG g) U ∧ NW U ∧ va_D (fun _ => True) ws)
theorem PcW_blind {av : List Value} {sz : Nat} {g : GT} {ws : va_W} : FrameBlind (PcW av sz g ws) := fun a U gg mk q => by
  obtain ⟨q0, q1, qP, qK, qN, qD⟩ := q
  exact ⟨q0, q1, qP, va_K.moved (u := U) (U := U.calling gg mk a) (Vm.Alike.refl U.vm) qK, NW.same (u := U) (U := U.calling gg mk a) rfl qN, qD⟩
theorem PcW_of {av : List Value} {g : GT} {ws wc : va_W} {s : State} {H : Heap} {A : Nat → Prop} (hP : va_P g.1 classes ws H) (hD : va_D A ws) (hK : va_K g.1 classes (tysG g) s) (hN : NW s) (is : List Nat) (hn : va_nd is = true) (hs : is.map (fun i => ws[i]?) = wc.map some) :
    ∀ U : State, U.heap = H → s.WarmedH U.vm → PcW av H.size g wc av.toArray U := by
  intro U hU hW
  have hs2 : is.filterMap (fun i => ws[i]?) = wc := by
    have h1 : (is.map (fun i => ws[i]?)).filterMap id = (wc.map some).filterMap id := by rw [hs]
    rw [List.filterMap_map, List.filterMap_map] at h1
    simpa using h1
  exact ⟨rfl, by rw [hU], by rw [hU]; exact hP.sub is hs2, va_K.moved hW.alike hK, hN.warm hW, (hD.sub is hn hs).weaken (fun _ _ _ _ => trivial)⟩
/-- a mutator's end: the new world, its cells apart and the method's own -/
abbrev BW {S : Type} (g : GT) (A : Nat → Prop) (w1 : S → va_W) : S → State → Prop := fun u t => va_P g.1 classes (w1 u) t.heap ∧ va_D A (w1 u)
/-- a reader's end -/
abbrev BR : Unit → State → Prop := fun _ _ => True
theorem good_cmn {y : MethodName} {bytes : ByteArray} {maxL : Nat} {ret : Option FieldType} (k : Cond.code y bytes maxL ret ∈ cmn) : GoodIn cmn (.code y bytes maxL ret :: cmn) := by
  intro w hw
  rcases List.mem_cons.mp hw with rfl | h
  · exact ⟨k, Or.inl rfl⟩
  · exact ⟨h, (cmn_t h).2⟩
theorem good_V {own C : String} {idx : Nat} {y : MethodName} {bytes : ByteArray} {maxL : Nat} {ret : Option FieldType} (k1 : Cond.methodLink own idx y ∈ cmn) (k2 : Cond.instanceMethod y ∈ cmn) (k3 : Cond.selects C y y ∈ cmn) (k4 : Cond.initialized C ∈ cmn) (k5 : Cond.code y bytes maxL ret ∈ cmn) : GoodIn cmn (wsV own idx C y (.code y bytes maxL ret :: cmn)) := by
  intro w hw
  have h : w ∈ ([.methodLink own idx y, .instanceMethod y, .selects C y y, .initialized C] : List Cond) ∨ w ∈ (Cond.code y bytes maxL ret :: cmn) := List.mem_append.mp hw
  rcases h with h | h
  · have h2 : w ∈ cmn := by
      simp only [List.mem_cons, List.not_mem_nil, or_false] at h
      rcases h with rfl | rfl | rfl | rfl
      · exact k1
      · exact k2
      · exact k3
      · exact k4
    exact ⟨h2, (cmn_t h2).2⟩
  · exact good_cmn k5 w h
theorem good_S {own : String} {idx : Nat} {y : MethodName} {bytes : ByteArray} {maxL : Nat} {ret : Option FieldType} (k1 : Cond.methodLink own idx y ∈ cmn) (k2 : Cond.static y ∈ cmn) (k4 : Cond.initialized y.cls ∈ cmn) (k5 : Cond.code y bytes maxL ret ∈ cmn) : GoodIn cmn (va_wsS own idx y (.code y bytes maxL ret :: cmn)) := by
  intro w hw
  have h : w ∈ ([.methodLink own idx y, .static y, .initialized y.cls] : List Cond) ∨ w ∈ (Cond.code y bytes maxL ret :: cmn) := List.mem_append.mp hw
  rcases h with h | h
  · have h2 : w ∈ cmn := by
      simp only [List.mem_cons, List.not_mem_nil, or_false] at h
      rcases h with rfl | rfl | rfl
      · exact k1
      · exact k2
      · exact k4
    exact ⟨h2, (cmn_t h2).2⟩
  · exact good_cmn k5 w h
section XR
variable {p : Program} {l : Launch} {e : Env} {R : Room} {s : State} {m : MethodId} {args : Array Value} {below : List Frame} {meth : Method} {c : Code} {H : Heap} {locs : List Loc} {cells slots : Nat} {Q : State → Prop}
variable {cc : ByteArray} {pc : Nat} {ls : Array Slot} {rest st0 : List Value} {A : Nat → Prop} {a : Nat} {g : GT} {ws wc wr : va_W}
theorem x_top {x y : Int32} (h : x = y) (kk : W p l e R s m args below meth c H locs cells slots Q (F0 m pc ls (.int y :: rest))) : W p l e R s m args below meth c H locs cells slots Q (F0 m pc ls (.int x :: rest)) := by rw [h]; exact kk
theorem x_topl {x y : Int64} (h : x = y) (kk : W p l e R s m args below meth c H locs cells slots Q (F0 m pc ls (.long y :: rest))) : W p l e R s m args below meth c H locs cells slots Q (F0 m pc ls (.long x :: rest)) := by rw [h]; exact kk
theorem x_iald (hexec : p.tables.exec = Jvm.exec) (hb : c.code = cc) (hK : va_K g.1 classes (tysG g) s) (hP : va_P g.1 classes ws H) (q0 : Nat) {n : Nat} {f : Nat → Int32} (ha : ws[q0]? = some (a, .inl (cIn g, n, .inl f))) {k : Nat} (hk : k < n) (hn : n < 2 ^ 31) (hdg : decode cc pc = .ok (.iaload, 1))
    (kk : W p l e R s m args below meth c H locs cells slots Q (F0 m (pc + 1) ls (.int (f k) :: rest))) : W p l e R s m args below meth c H locs cells slots Q (F0 m pc ls (.int (nI k) :: .ref a :: rest)) :=
  va_iald hexec hb hK hP q0 1 ha rfl (vp_in_nI hk hn) hdg (by rw [nI_clamp (Nat.lt_trans hk hn)]; exact kk)
theorem x_bald (hexec : p.tables.exec = Jvm.exec) (hb : c.code = cc) (hK : va_K g.1 classes (tysG g) s) (hP : va_P g.1 classes ws H) (q0 : Nat) {n : Nat} {f : Nat → Int32} (ha : ws[q0]? = some (a, .inl (cBy g, n, .inl f))) {k : Nat} (hk : k < n) (hn : n < 2 ^ 31) (hdg : decode cc pc = .ok (.baload, 1))
    (kk : W p l e R s m args below meth c H locs cells slots Q (F0 m (pc + 1) ls (.int (f k) :: rest))) : W p l e R s m args below meth c H locs cells slots Q (F0 m pc ls (.int (nI k) :: .ref a :: rest)) :=
  va_bald hexec hb hK hP q0 0 ha rfl (vp_in_nI hk hn) hdg (by rw [nI_clamp (Nat.lt_trans hk hn)]; exact kk)
theorem x_sald (hexec : p.tables.exec = Jvm.exec) (hb : c.code = cc) (hK : va_K g.1 classes (tysG g) s) (hP : va_P g.1 classes ws H) (q0 : Nat) {n : Nat} {f : Nat → Int32} (ha : ws[q0]? = some (a, .inl (cSh g, n, .inl f))) {k : Nat} (hk : k < n) (hn : n < 2 ^ 31) (hdg : decode cc pc = .ok (.saload, 1))
    (kk : W p l e R s m args below meth c H locs cells slots Q (F0 m (pc + 1) ls (.int (f k) :: rest))) : W p l e R s m args below meth c H locs cells slots Q (F0 m pc ls (.int (nI k) :: .ref a :: rest)) :=
  va_sald hexec hb hK hP q0 2 ha rfl (vp_in_nI hk hn) hdg (by rw [nI_clamp (Nat.lt_trans hk hn)]; exact kk)
theorem x_lald (hexec : p.tables.exec = Jvm.exec) (hb : c.code = cc) (hK : va_K g.1 classes (tysG g) s) (hP : va_P g.1 classes ws H) (q0 : Nat) {n : Nat} {f : Nat → Int64} (ha : ws[q0]? = some (a, .inl (cLo g, n, .inr (.inl f)))) {k : Nat} (hk : k < n) (hn : n < 2 ^ 31) (hdg : decode cc pc = .ok (.laload, 1))
    (kk : W p l e R s m args below meth c H locs cells slots Q (F0 m (pc + 1) ls (.long (f k) :: rest))) : W p l e R s m args below meth c H locs cells slots Q (F0 m pc ls (.int (nI k) :: .ref a :: rest)) :=
  va_lald hexec hb hK hP q0 3 ha rfl (vp_in_nI hk hn) hdg (by rw [nI_clamp (Nat.lt_trans hk hn)]; exact kk)
theorem x_iast (hexec : p.tables.exec = Jvm.exec) (hb : c.code = cc) (hK : va_K g.1 classes (tysG g) s) (hP : va_P g.1 classes ws H) (hD : va_D A ws) (hS : va_S A s.heap H locs) (q0 : Nat) {n : Nat} {f : Nat → Int32} (ha : ws[q0]? = some (a, .inl (cIn g, n, .inl f))) {k : Nat} (hk : k < n) (hn : n < 2 ^ 31) {x : Int32} (hdg : decode cc pc = .ok (.iastore, 1))
    (kk : ∀ (H1 : Heap) (locs1 : List Loc), va_P g.1 classes (ws.set q0 (a, .inl (cIn g, n, .inl (upd f k x)))) H1 → va_D A (ws.set q0 (a, .inl (cIn g, n, .inl (upd f k x)))) → va_S A s.heap H1 locs1 → W p l e R s m args below meth c H1 locs1 cells slots Q (F0 m (pc + 1) ls rest)) : W p l e R s m args below meth c H locs cells slots Q (F0 m pc ls (.int x :: .int (nI k) :: .ref a :: rest)) := by
  refine va_iast hexec hb hK hP hD hS q0 1 ha rfl (vp_in_nI hk hn) hdg ?_
  rw [nI_clamp (Nat.lt_trans hk hn)]
  exact kk
theorem x_bast (hexec : p.tables.exec = Jvm.exec) (hb : c.code = cc) (hK : va_K g.1 classes (tysG g) s) (hP : va_P g.1 classes ws H) (hD : va_D A ws) (hS : va_S A s.heap H locs) (q0 : Nat) {n : Nat} {f : Nat → Int32} (ha : ws[q0]? = some (a, .inl (cBy g, n, .inl f))) {k : Nat} (hk : k < n) (hn : n < 2 ^ 31) {x y : Int32} (hy : vp_nar .byte x = y) (hdg : decode cc pc = .ok (.bastore, 1))
    (kk : ∀ (H1 : Heap) (locs1 : List Loc), va_P g.1 classes (ws.set q0 (a, .inl (cBy g, n, .inl (upd f k y)))) H1 → va_D A (ws.set q0 (a, .inl (cBy g, n, .inl (upd f k y)))) → va_S A s.heap H1 locs1 → W p l e R s m args below meth c H1 locs1 cells slots Q (F0 m (pc + 1) ls rest)) : W p l e R s m args below meth c H locs cells slots Q (F0 m pc ls (.int x :: .int (nI k) :: .ref a :: rest)) := by
  refine va_bast hexec hb hK hP hD hS q0 0 ha rfl (vp_in_nI hk hn) hdg ?_
  rw [nI_clamp (Nat.lt_trans hk hn), hy]
  exact kk
theorem x_sast (hexec : p.tables.exec = Jvm.exec) (hb : c.code = cc) (hK : va_K g.1 classes (tysG g) s) (hP : va_P g.1 classes ws H) (hD : va_D A ws) (hS : va_S A s.heap H locs) (q0 : Nat) {n : Nat} {f : Nat → Int32} (ha : ws[q0]? = some (a, .inl (cSh g, n, .inl f))) {k : Nat} (hk : k < n) (hn : n < 2 ^ 31) {x y : Int32} (hy : vp_nar .short x = y) (hdg : decode cc pc = .ok (.sastore, 1))
    (kk : ∀ (H1 : Heap) (locs1 : List Loc), va_P g.1 classes (ws.set q0 (a, .inl (cSh g, n, .inl (upd f k y)))) H1 → va_D A (ws.set q0 (a, .inl (cSh g, n, .inl (upd f k y)))) → va_S A s.heap H1 locs1 → W p l e R s m args below meth c H1 locs1 cells slots Q (F0 m (pc + 1) ls rest)) : W p l e R s m args below meth c H locs cells slots Q (F0 m pc ls (.int x :: .int (nI k) :: .ref a :: rest)) := by
  refine va_sast hexec hb hK hP hD hS q0 2 ha rfl (vp_in_nI hk hn) hdg ?_
  rw [nI_clamp (Nat.lt_trans hk hn), hy]
  exact kk
theorem x_last (hexec : p.tables.exec = Jvm.exec) (hb : c.code = cc) (hK : va_K g.1 classes (tysG g) s) (hP : va_P g.1 classes ws H) (hD : va_D A ws) (hS : va_S A s.heap H locs) (q0 : Nat) {n : Nat} {f : Nat → Int64} (ha : ws[q0]? = some (a, .inl (cLo g, n, .inr (.inl f)))) {k : Nat} (hk : k < n) (hn : n < 2 ^ 31) {x : Int64} (hdg : decode cc pc = .ok (.lastore, 1))
    (kk : ∀ (H1 : Heap) (locs1 : List Loc), va_P g.1 classes (ws.set q0 (a, .inl (cLo g, n, .inr (.inl (vp_updL f k x))))) H1 → va_D A (ws.set q0 (a, .inl (cLo g, n, .inr (.inl (vp_updL f k x))))) → va_S A s.heap H1 locs1 → W p l e R s m args below meth c H1 locs1 cells slots Q (F0 m (pc + 1) ls rest)) : W p l e R s m args below meth c H locs cells slots Q (F0 m pc ls (.long x :: .int (nI k) :: .ref a :: rest)) := by
  refine va_last hexec hb hK hP hD hS q0 3 ha rfl (vp_in_nI hk hn) hdg ?_
  rw [nI_clamp (Nat.lt_trans hk hn)]
  exact kk
/-- bytes copied -/
theorem x_copyb (hexec : p.tables.exec = Jvm.exec) (hb : c.code = cc) (hml : c.maxLocals = ls.size) {own : String} {index : Nat} (hown : s.vm.findClass own = some m.cls) (hlink : (Cond.methodLink own index arraycopyName).before args s = true) (hnat : (Cond.native arraycopyName).before args s = true) (hstat : (Cond.static arraycopyName).before args s = true) (hini : (Cond.initialized "java/lang/System").before args s = true)
    (hK : va_K g.1 classes (tysG g) s) (hP : va_P g.1 classes ws H) (hD : va_D A ws) (hS : va_S A s.heap H locs) (q0 q1 : Nat) {a0 n0 n1 : Nat} {f f1 : Nat → Int32} (ha0 : ws[q0]? = some (a0, .inl (cBy g, n0, .inl f))) (ha1 : ws[q1]? = some (a, .inl (cBy g, n1, .inl f1))) {P h : Nat} (h4 : h ≤ n0) (h5 : P + h ≤ n1) (hn0 : n0 < 2 ^ 31) (hn1 : n1 < 2 ^ 31) (hfit : ∀ i, i < h → fits .byte (.int (f i)) = true)
    (hframes : 1 ≤ R.frames) (hlocals : (rest.map fun v => v.category).sum + (nativeFrameWords "java/lang/System" "arraycopy" 5 + 11) ≤ R.locals) (hdg : decode cc pc = .ok (.invokestatic index, 3))
    (kk : ∀ (H1 : Heap) (locs1 : List Loc), va_P g.1 classes (ws.set q1 (a, .inl (cBy g, n1, .inl (va_cpy f f1 0 P h)))) H1 → va_D A (ws.set q1 (a, .inl (cBy g, n1, .inl (va_cpy f f1 0 P h)))) → va_S A s.heap H1 locs1 → W p l e R s m args below meth c H1 locs1 cells slots Q (F0 m (pc + 3) ls rest)) : W p l e R s m args below meth c H locs cells slots Q (F0 m pc ls (.int (nI h) :: .int (nI P) :: .ref a :: .int 0 :: .ref a0 :: rest)) := by
  have e1 : (nI h).toNatClampNeg = h := nI_clamp (by omega)
  have e2 : (nI P).toNatClampNeg = P := nI_clamp (by omega)
  have e3 : (0 : Int32).toNatClampNeg = 0 := by decide
  refine va_copyi (ty := .byte) hexec hb hml hown hlink hnat hstat hini hK hP hD hS q0 q1 0 0 ha0 ha1 rfl rfl rfl (by decide) (nI_pos (by omega)) (nI_pos (by omega)) (by rw [e1, e3]; omega) (by rw [e1, e2]; exact h5) (by rw [e1, e3]; intro i hi; rw [Nat.zero_add]; exact hfit i hi) hframes hlocals hdg ?_
  rw [e1, e2, e3]
  exact kk
/-- a new array, of a class that the tables know already -/
theorem x_newa (hexec : p.tables.exec = Jvm.exec) (hb : c.code = cc) {atype : ArrayType} (harr : (Cond.arrayClass (newarray.typeOf atype)).before args s = true) (hK : va_K g.1 classes (tysG g) s) (hP : va_P g.1 classes ws H) (hD : va_D A ws) (hS : va_S A s.heap H locs) (hA : ∀ q, s.heap.size ≤ q → A q) (t0 : Nat) {cA : ClassId} (ht : (tysG g)[t0]? = some (cA, newarray.typeOf atype)) (hra : ∀ {U : State} {x : ClassId}, va_RA U x (newarray.typeOf atype) → U.vm.findClass ("[" ++ (newarray.typeOf atype).toString) = some x)
    {n : Int32} {N' : Nat} {a0 : vp_A} (ha : ∀ cA : ClassId, vp_cell cA a0 = arrV cA N' (fun _ => defaultValue (newarray.typeOf atype))) (hn : ¬ n < 0) (hN : n.toNatClampNeg = N') (hbytes : N' * componentBytes (newarray.typeOf atype) ≤ 536870912) (hcells : cells + 1 ≤ R.cells) (hslots : slots + N' ≤ R.slots) (hdg : decode cc pc = .ok (.newarray atype, 2))
    (kk : ∀ (q : Nat) (H1 : Heap), va_P g.1 classes (ws ++ [(q, .inl (cA, a0))]) H1 → va_D A (ws ++ [(q, .inl (cA, a0))]) → va_S A s.heap H1 locs →
      W p l e R s m args below meth c H1 locs (cells + 1) (slots + N') Q (F0 m (pc + 2) ls (.ref q :: rest))) : W p l e R s m args below meth c H locs cells slots Q (F0 m pc ls (.int n :: rest)) := by
  refine va_newa hexec hb harr rfl hK hP hD hS hA ha hn hN hbytes hcells hslots hdg (fun q cA1 H1 hK1 hP1 hD1 hS1 => ?_)
  have h1 := hra (hK.2 t0 _ ht).2
  have h2 : s.vm.findClass ("[" ++ (newarray.typeOf atype).toString) = some cA1 := hra (hK1.2 4 _ rfl).2
  have h3 : cA1 = cA := Option.some.inj (h2.symm.trans h1)
  subst h3
  exact kk q H1 hP1 hD1 hS1
/-- the world, when a reader has run -/
theorem x_keep {D : va_G} {cl : List vw_C} {H1 : Heap} (hP : va_P D cl ws H) (hk : ∀ q : Nat, q < H.size → ¬ va_A [] H.size q → H1[q]? = H[q]?) : va_P D cl ws H1 :=
  hP.kept (fun k q hq => hk q.1 (hP k q hq).lt (fun h => by
    rcases h with ⟨k2, e2, h⟩ | h
    · simp at h
    · exact absurd (hP k q hq).lt (Nat.not_lt.mpr h)))
variable {nL mc ms n idx maxL : Nat} {y : MethodName} {bytes : ByteArray} {ret : Option FieldType} {rm : Room} {own : String} {b : Nat} {As : List Value} {Qc : Array Value → State → Outcome → State → Prop} {free : Addr → Prop}
/-- a call of a reader that answers an int -/
theorem x_cri {post : Int32 → Unit → Prop} {av : Array Value} (hr : va_Run p l e R s m args below meth c H locs cells slots 0 0 (F0 m pc ls st0) rest (va_Qi post BR (va_A [] H.size) av) (va_A [] H.size)) (hP : va_P g.1 classes ws H) (hS : va_S A s.heap H locs) (hA : ∀ q, s.heap.size ≤ q → A q)
    (kk : ∀ (r : Int32) (H1 : Heap) (locs1 : List Loc), post r () → va_P g.1 classes ws H1 → va_S A s.heap H1 locs1 → W p l e R s m args below meth c H1 locs1 cells slots Q (F0 m (pc + 3) ls (.int r :: rest))) : W p l e R s m args below meth c H locs cells slots Q (F0 m pc ls st0) := by
  have hF : ∀ q, va_A [] H.size q → A q := fun q h => by
    rcases h with ⟨k2, e2, h⟩ | h
    · simp at h
    · exact hA q (Nat.le_trans hS.1 h)
  exact va_calli hr hS (fun q _ h => hF q h) hF (fun r u t H1 locs1 _ _ hp _ _ hk hS1 => kk r H1 locs1 hp (x_keep hP hk) hS1)
/-- a call of a mutator that answers an int: its cells are wc, the others wr -/
theorem x_cmi {S : Type} {post : Int32 → S → Prop} {w1 : S → va_W} {av : Array Value} (hr : va_Run p l e R s m args below meth c H locs cells slots mc ms (F0 m pc ls st0) rest (va_Qi post (BW g (va_A wc H.size) w1) (va_A wc H.size) av) (va_A wc H.size)) (hP : va_P g.1 classes ws H) (hD : va_D A ws) (hS : va_S A s.heap H locs) (hA : ∀ q, s.heap.size ≤ q → A q)
    (isC isR : List Nat) (hC : isC.map (fun i => ws[i]?) = wc.map some) (hR : isR.map (fun i => ws[i]?) = wr.map some) (hn : va_nd isR = true) (hdis : ∀ i ∈ isR, i ∉ isC)
    (kk : ∀ (r : Int32) (u : S) (H1 : Heap) (locs1 : List Loc), post r u → va_P g.1 classes (wr ++ w1 u) H1 → va_D A (wr ++ w1 u) → va_S A s.heap H1 locs1 → W p l e R s m args below meth c H1 locs1 (cells + mc) (slots + ms) Q (F0 m (pc + 3) ls (.int r :: rest))) : W p l e R s m args below meth c H locs cells slots Q (F0 m pc ls st0) := by
  have hF := va_free (wc := wc) hD hS hA isC hC
  refine va_calli hr hS (fun q _ h => hF q h) hF (fun r u t H1 locs1 ht _ hp hB _ hk hS1 => ?_)
  obtain ⟨hP1, hD1⟩ := hB
  rw [ht] at hP1
  obtain ⟨hP2, hD2⟩ := va_join (wr := wr) (w1 := w1 u) hP hD isC isR hC hR hn hdis hk hF hP1 hD1
  exact kk r u H1 locs1 hp hP2 hD2 hS1
theorem x_cmv {S : Type} {post : S → Prop} {w1 : S → va_W} {av : Array Value} (hr : va_Run p l e R s m args below meth c H locs cells slots mc ms (F0 m pc ls st0) rest (va_Qv post (BW g (va_A wc H.size) w1) (va_A wc H.size) av) (va_A wc H.size)) (hP : va_P g.1 classes ws H) (hD : va_D A ws) (hS : va_S A s.heap H locs) (hA : ∀ q, s.heap.size ≤ q → A q)
    (isC isR : List Nat) (hC : isC.map (fun i => ws[i]?) = wc.map some) (hR : isR.map (fun i => ws[i]?) = wr.map some) (hn : va_nd isR = true) (hdis : ∀ i ∈ isR, i ∉ isC)
    (kk : ∀ (u : S) (H1 : Heap) (locs1 : List Loc), post u → va_P g.1 classes (wr ++ w1 u) H1 → va_D A (wr ++ w1 u) → va_S A s.heap H1 locs1 → W p l e R s m args below meth c H1 locs1 (cells + mc) (slots + ms) Q (F0 m (pc + 3) ls rest)) : W p l e R s m args below meth c H locs cells slots Q (F0 m pc ls st0) := by
  have hF := va_free (wc := wc) hD hS hA isC hC
  refine va_callv hr hS (fun q _ h => hF q h) hF (fun u t H1 locs1 ht _ hp hB _ hk hS1 => ?_)
  obtain ⟨hP1, hD1⟩ := hB
  rw [ht] at hP1
  obtain ⟨hP2, hD2⟩ := va_join (wr := wr) (w1 := w1 u) hP hD isC isR hC hR hn hdis hk hF hP1 hD1
  exact kk u H1 locs1 hp hP2 hD2 hS1
/-- the run of a virtual call, by the common words -/
theorem x_runV (Sx : CallFix p m c cc nL s args cmn own) (hM : Met l y (.code y bytes maxL ret :: cmn) rm (PcW (.ref b :: As) H.size g wc) Qc mc ms free) (cw : CallW R s args own y.cls idx y bytes maxL ret (.code y bytes maxL ret :: cmn) rm mc ms n)
    (hP : va_P g.1 classes ws H) (hD : va_D A ws) (hK : va_K g.1 classes (tysG g) s) (hN : NW s) (isC : List Nat) (hn1 : va_nd isC = true) (hC : isC.map (fun i => ws[i]?) = wc.map some)
    (hrecv : ∃ cellB : Cell, H[b]? = some cellB ∧ cellB.vm.isStatics = false ∧ s.vm.findClass y.cls = some cellB.cls)
    (hn : As.length = n) (hsize : ls.size = nL) (hstack : st0 = As.reverse ++ .ref b :: rest) (hW : (rest.map fun v => v.category).sum ≤ 8) (hdg : decode cc pc = .ok (.invokevirtual idx, 3)) (hf : cells + mc ≤ R.cells ∧ slots + ms ≤ R.slots) :
    va_Run p l e R s m args below meth c H locs cells slots mc ms (F0 m pc ls st0) rest (Qc (Value.ref b :: As).toArray) free :=
  va_runV Sx hM cw ⟨PcW_blind, hrecv, PcW_of hP hD hK hN isC hn1 hC⟩ rfl hn hsize hstack (lv_room hW) hdg hf
theorem x_runS (Sx : CallFix p m c cc nL s args cmn own) (hM : Met l y (.code y bytes maxL ret :: cmn) rm (PcW As H.size g wc) Qc mc ms free) (cw : CallB R s args own idx y bytes maxL ret (.code y bytes maxL ret :: cmn) rm mc ms n ∧ (Cond.static y).before args s = true)
    (hP : va_P g.1 classes ws H) (hD : va_D A ws) (hK : va_K g.1 classes (tysG g) s) (hN : NW s) (isC : List Nat) (hn1 : va_nd isC = true) (hC : isC.map (fun i => ws[i]?) = wc.map some)
    (hn : As.length = n) (hsize : ls.size = nL) (hstack : st0 = As.reverse ++ rest) (hW : (rest.map fun v => v.category).sum ≤ 8) (hdg : decode cc pc = .ok (.invokestatic idx, 3)) (hf : cells + mc ≤ R.cells ∧ slots + ms ≤ R.slots) :
    va_Run p l e R s m args below meth c H locs cells slots mc ms (F0 m pc ls st0) rest (Qc As.toArray) free :=
  va_runS Sx hM cw ⟨PcW_blind, PcW_of hP hD hK hN isC hn1 hC⟩ rfl hn hsize hstack (lv_room hW) hdg hf
theorem x_runI (Sx : CallFix p m c cc nL s args cmn own) (hM : Met l y (.code y bytes maxL none :: cmn) rm (PcW (.ref b :: As) H.size g wc) Qc mc ms free) (cw : CallB R s args own idx y bytes maxL none (.code y bytes maxL none :: cmn) rm mc ms n ∧ y.name = "<init>" ∧ (Cond.instanceMethod y).before args s = true)
    (hP : va_P g.1 classes ws H) (hD : va_D A ws) (hK : va_K g.1 classes (tysG g) s) (hN : NW s) (isC : List Nat) (hn1 : va_nd isC = true) (hC : isC.map (fun i => ws[i]?) = wc.map some)
    (hn : As.length = n) (hsize : ls.size = nL) (hstack : st0 = As.reverse ++ .ref b :: rest) (hW : (rest.map fun v => v.category).sum ≤ 8) (hdg : decode cc pc = .ok (.invokespecial idx, 3)) (hf : cells + mc ≤ R.cells ∧ slots + ms ≤ R.slots) :
    va_Run p l e R s m args below meth c H locs cells slots mc ms (F0 m pc ls st0) rest (Qc (Value.ref b :: As).toArray) free :=
  va_runI Sx hM cw ⟨PcW_blind, PcW_of hP hD hK hN isC hn1 hC⟩ rfl hn hsize hstack (lv_room hW) hdg hf
theorem x_runIN {host : String} (Sx : CallFix p m c cc nL s args cmn own) (hM : Met l y (.code y bytes maxL none :: cmn) rm (PcW (.ref b :: As) H.size g wc) Qc mc ms free) (cw : va_CN R s args own idx y host bytes maxL none (.code y bytes maxL none :: cmn) rm mc ms n ∧ y.name = "<init>" ∧ (Cond.instanceMethod y).before args s = true)
    (hP : va_P g.1 classes ws H) (hD : va_D A ws) (hK : va_K g.1 classes (tysG g) s) (hN : NW s) (isC : List Nat) (hn1 : va_nd isC = true) (hC : isC.map (fun i => ws[i]?) = wc.map some)
    (hn : As.length = n) (hsize : ls.size = nL) (hstack : st0 = As.reverse ++ .ref b :: rest) (hW : (rest.map fun v => v.category).sum ≤ 8) (hdg : decode cc pc = .ok (.invokespecial idx, 3)) (hf : cells + mc ≤ R.cells ∧ slots + ms ≤ R.slots) :
    va_Run p l e R s m args below meth c H locs cells slots mc ms (F0 m pc ls st0) rest (Qc (Value.ref b :: As).toArray) free :=
  va_runIN Sx hM cw ⟨PcW_blind, PcW_of hP hD hK hN isC hn1 hC⟩ rfl hn hsize hstack (lv_room hW) hdg hf
/-- a place where two roads meet -/
theorem x_join (pc2 : Nat) (Pj : Int32 → Prop) (k1 : ∀ v : Int32, Pj v → W p l e R s m args below meth c H locs cells slots Q (F0 m pc2 ls (.int v :: rest))) (k2 : (∀ v : Int32, Pj v → W p l e R s m args below meth c H locs cells slots Q (F0 m pc2 ls (.int v :: rest))) → W p l e R s m args below meth c H locs cells slots Q (F0 m pc ls st0)) : W p l e R s m args below meth c H locs cells slots Q (F0 m pc ls st0) := k2 k1
theorem x_joinl (pc2 : Nat) (Pj : Int64 → Prop) (k1 : ∀ v : Int64, Pj v → W p l e R s m args below meth c H locs cells slots Q (F0 m pc2 ls (.long v :: rest))) (k2 : (∀ v : Int64, Pj v → W p l e R s m args below meth c H locs cells slots Q (F0 m pc2 ls (.long v :: rest))) → W p l e R s m args below meth c H locs cells slots Q (F0 m pc ls st0)) : W p l e R s m args below meth c H locs cells slots Q (F0 m pc ls st0) := k2 k1
/-- a place to which several roads come, with other locals -/
theorem x_joinL (pc2 : Nat) (I : Array Slot → Prop) (k1 : ∀ ls1 : Array Slot, I ls1 → W p l e R s m args below meth c H locs cells slots Q (F0 m pc2 ls1 rest)) (k2 : (∀ ls1 : Array Slot, I ls1 → W p l e R s m args below meth c H locs cells slots Q (F0 m pc2 ls1 rest)) → W p l e R s m args below meth c H locs cells slots Q (F0 m pc ls st0)) : W p l e R s m args below meth c H locs cells slots Q (F0 m pc ls st0) := k2 k1
/-- loops: a number that falls; the heap may change -/
theorem x_loop {σ : Type} (μ : σ → Nat) (I : σ → Heap → List Loc → Array Slot → Prop)
    (step : ∀ (x : σ) (H1 : Heap) (locs1 : List Loc) (ls1 : Array Slot), I x H1 locs1 ls1 → (∀ (y : σ) (H2 : Heap) (locs2 : List Loc) (ls2 : Array Slot), I y H2 locs2 ls2 → μ y < μ x → W p l e R s m args below meth c H2 locs2 cells slots Q (F0 m pc ls2 rest)) → W p l e R s m args below meth c H1 locs1 cells slots Q (F0 m pc ls1 rest))
    (x0 : σ) (h0 : I x0 H locs ls) : W p l e R s m args below meth c H locs cells slots Q (F0 m pc ls rest) := by
  have key : ∀ (n : Nat) (x : σ) (H1 : Heap) (locs1 : List Loc) (ls1 : Array Slot), μ x < n → I x H1 locs1 ls1 → W p l e R s m args below meth c H1 locs1 cells slots Q (F0 m pc ls1 rest) := by
    intro n
    induction n with
    | zero => intro x H1 locs1 ls1 h; exact absurd h (Nat.not_lt_zero _)
    | succ n ih => intro x H1 locs1 ls1 h hI; exact step x H1 locs1 ls1 hI (fun y H2 l2 ls2 hy hlt => ih y H2 l2 ls2 (by omega) hy)
  exact key (μ x0 + 1) x0 H locs ls (Nat.lt_succ_self _) h0
/-- the same, where the heap stays as it is -/
theorem x_loopR {σ : Type} (μ : σ → Nat) (I : σ → Array Slot → Prop)
    (step : ∀ (x : σ) (ls1 : Array Slot), I x ls1 → (∀ (y : σ) (ls2 : Array Slot), I y ls2 → μ y < μ x → W p l e R s m args below meth c H locs cells slots Q (F0 m pc ls2 rest)) → W p l e R s m args below meth c H locs cells slots Q (F0 m pc ls1 rest))
    (x0 : σ) (h0 : I x0 ls) : W p l e R s m args below meth c H locs cells slots Q (F0 m pc ls rest) := by
  have key : ∀ (n : Nat) (x : σ) (ls1 : Array Slot), μ x < n → I x ls1 → W p l e R s m args below meth c H locs cells slots Q (F0 m pc ls1 rest) := by
    intro n
    induction n with
    | zero => intro x ls1 h; exact absurd h (Nat.not_lt_zero _)
    | succ n ih => intro x ls1 h hI; exact step x ls1 hI (fun y ls2 hy hlt => ih y ls2 (by omega) hy)
  exact key (μ x0 + 1) x0 ls (Nat.lt_succ_self _) h0
end XR
end
section
/-! PURE: the abstract value that class and reference are tied to -/
def mixL (f : Nat → Int32) (h : Nat) : Nat → Int32
  | 0 => nI h
  | k + 1 => 31 * mixL f h k + f k
def mixH (f : Nat → Int32) (h : Nat) : Int32 := mixL f h h ^^^ ((mixL f h h).toUInt32 >>> ((15 : Int32).toUInt32 &&& Int32.toUInt32 31)).toInt32
theorem mixL_congr {f f' : Nat → Int32} {h : Nat} : ∀ k, (∀ i, i < k → f i = f' i) → mixL f h k = mixL f' h k
  | 0, _ => rfl
  | k + 1, e => by
    show 31 * mixL f h k + f k = 31 * mixL f' h k + f' k
    rw [mixL_congr k (fun i hi => e i (by omega)), e k (by omega)]
theorem mixH_congr {f f' : Nat → Int32} {h : Nat} (e : ∀ i, i < h → f i = f' i) : mixH f h = mixH f' h := by
  unfold mixH
  rw [mixL_congr h e]
/-- where a name's search begins -/
def hsh (f : Nat → Int32) (h : Nat) : Nat := (mixH f h).toBitVec.toNat % 512
theorem hsh_and (f : Nat → Int32) (h : Nat) : mixH f h &&& 511 = nI (hsh f h) := pk_and (mixH f h) 9 (by decide)
theorem hsh_lt (f : Nat → Int32) (h : Nat) : hsh f h < 512 := Nat.mod_lt _ (by decide)
/-- how many of the first are so -/
def cnt (p : Nat → Bool) : Nat → Nat
  | 0 => 0
  | k + 1 => cnt p k + (p k).toNat
theorem cnt_congr {p q : Nat → Bool} : ∀ n, (∀ k, k < n → p k = q k) → cnt p n = cnt q n
  | 0, _ => rfl
  | n + 1, e => by
    show cnt p n + (p n).toNat = cnt q n + (q n).toNat
    rw [cnt_congr n (fun k hk => e k (by omega)), e n (by omega)]
theorem cnt_le (p : Nat → Bool) : ∀ n, cnt p n ≤ n
  | 0 => Nat.le_refl 0
  | n + 1 => by
    have h := cnt_le p n
    have h2 : (p n).toNat ≤ 1 := Bool.toNat_le (p n)
    show cnt p n + (p n).toNat ≤ n + 1
    omega
theorem cnt_free {p : Nat → Bool} : ∀ n, cnt p n < n → ∃ k, k < n ∧ p k = false
  | 0, h => absurd h (Nat.not_lt_zero _)
  | n + 1, h => by
    cases e : p n with
    | false => exact ⟨n, by omega, e⟩
    | true =>
      have h1 : cnt p n + (p n).toNat < n + 1 := h
      rw [e] at h1
      obtain ⟨k, hk, ek⟩ := cnt_free n (show cnt p n < n by have : true.toNat = 1 := rfl; omega)
      exact ⟨k, by omega, ek⟩
theorem cnt_set {p q : Nat → Bool} {s : Nat} (h0 : p s = false) (h1 : q s = true) (ho : ∀ k, k ≠ s → q k = p k) : ∀ n, s < n → cnt q n = cnt p n + 1
  | 0, h => absurd h (Nat.not_lt_zero _)
  | n + 1, h => by
    show cnt q n + (q n).toNat = cnt p n + (p n).toNat + 1
    by_cases e : s = n
    · subst e
      rw [h0, h1, cnt_congr s (fun k hk => ho k (by omega))]
      rfl
    · rw [cnt_set h0 h1 ho n (by omega), ho n (fun x => e x.symm)]
      omega
theorem cnt_all {p : Nat → Bool} : ∀ n, (∀ k, k < n → p k = false) → cnt p n = 0
  | 0, _ => rfl
  | n + 1, e => by
    show cnt p n + (p n).toNat = 0
    rw [cnt_all n (fun k hk => e k (by omega)), e n (by omega)]
    rfl
theorem cnt_add (p : Nat → Bool) (a : Nat) : ∀ b, cnt p (a + b) = cnt p a + cnt (fun i => p (a + i)) b
  | 0 => rfl
  | b + 1 => by
    show cnt p (a + b) + (p (a + b)).toNat = cnt p a + (cnt (fun i => p (a + i)) b + (p (a + b)).toNat)
    rw [cnt_add p a b]
    omega
/-- beyond n nothing counts -/
theorem cnt_cut {p q : Nat → Bool} {n : Nat} (hlo : ∀ k, k < n → q k = p k) : ∀ d, (∀ k, n ≤ k → k < n + d → q k = false) → cnt q (n + d) = cnt p n
  | 0, _ => cnt_congr n hlo
  | d + 1, h => by
    show cnt q (n + d) + (q (n + d)).toNat = cnt p n
    rw [cnt_cut hlo d (fun k h1 h2 => h k h1 (by omega)), h (n + d) (by omega) (by omega)]
    rfl
/-- the first from a place on (of so many), or none -/
def mff (p : Nat → Bool) : Nat → Nat → Int32
  | _, 0 => -1
  | k, c + 1 => if p k = true then nI k else mff p (k + 1) c
theorem mff_hit {p : Nat → Bool} {k c : Nat} (h : p k = true) (hc : k < c) : mff p k (c - k) = nI k := by
  obtain ⟨d, hd⟩ : ∃ d, c - k = d + 1 := ⟨c - k - 1, by omega⟩
  rw [hd]
  show (if p k = true then nI k else mff p (k + 1) d) = nI k
  rw [if_pos h]
theorem mff_miss {p : Nat → Bool} {k c : Nat} (h : p k = false) (hc : k < c) : mff p k (c - k) = mff p (k + 1) (c - (k + 1)) := by
  obtain ⟨d, hd⟩ : ∃ d, c - k = d + 1 := ⟨c - k - 1, by omega⟩
  rw [hd, show c - (k + 1) = d by omega]
  show (if p k = true then nI k else mff p (k + 1) d) = mff p (k + 1) d
  rw [if_neg (by rw [h]; decide)]
theorem mff_skip {p : Nat → Bool} {a c : Nat} : ∀ d, a + d ≤ c → (∀ i, a ≤ i → i < a + d → p i = false) → mff p a (c - a) = mff p (a + d) (c - (a + d))
  | 0, _, _ => rfl
  | d + 1, hc, h => by
    rw [mff_skip d (by omega) (fun i h1 h2 => h i h1 (by omega)), mff_miss (h (a + d) (by omega) (by omega)) (by omega)]
    rfl
theorem mff_end {p : Nat → Bool} (k : Nat) : mff p k (k - k) = -1 := by
  rw [Nat.sub_self]
  rfl
/-- beyond n there is nothing: the same with a longer reach -/
theorem mff_cut {p q : Nat → Bool} {n : Nat} (hlo : ∀ k, k < n → q k = p k) : ∀ d a c, c = a + d → n ≤ c → (∀ k, n ≤ k → k < c → q k = false) → mff q a (c - a) = mff p a (n - a)
  | 0, a, c, hc, hn, _ => by
    rw [show c - a = 0 by omega, show n - a = 0 by omega]
    rfl
  | d + 1, a, c, hc, hn, h => by
    have ih := mff_cut hlo d (a + 1) c (by omega) hn h
    by_cases ha : a < n
    · cases e : p a with
      | true => rw [mff_hit e ha, mff_hit ((hlo a ha).trans e) (by omega)]
      | false => rw [mff_miss e ha, mff_miss ((hlo a ha).trans e) (by omega), ih]
    · rw [mff_miss (h a (by omega) (by omega)) (by omega), ih, show n - a = 0 by omega, show n - (a + 1) = 0 by omega]
      rfl
/-- sums of sizes: where a name's bytes begin -/
def psum (z : Nat → Nat) : Nat → Nat
  | 0 => 0
  | k + 1 => psum z k + z k
theorem psum_le {z : Nat → Nat} {n : Nat} (h : ∀ k, k < n → z k ≤ 60) : ∀ k, k ≤ n → psum z k ≤ 60 * k
  | 0, _ => Nat.le_refl 0
  | k + 1, hk => by
    have h1 := psum_le h k (by omega)
    have h2 := h k (by omega)
    show psum z k + z k ≤ 60 * (k + 1)
    omega
theorem psum_congr {z z' : Nat → Nat} : ∀ k, (∀ i, i < k → z i = z' i) → psum z k = psum z' k
  | 0, _ => rfl
  | k + 1, e => by
    show psum z k + z k = psum z' k + z' k
    rw [psum_congr k (fun i hi => e i (by omega)), e k (by omega)]
theorem psum_mono (z : Nat → Nat) (k : Nat) : ∀ d, psum z k ≤ psum z (k + d)
  | 0 => Nat.le_refl _
  | d + 1 => Nat.le_trans (psum_mono z k d) (Nat.le_add_right _ _)
/-- how often a name was given in vain -/
def vns (gv : Nat → Nat) : Nat → Nat
  | 0 => 0
  | k + 1 => vns gv k + (gv k - 1)
theorem vns_congr {z z' : Nat → Nat} : ∀ k, (∀ i, i < k → z i = z' i) → vns z k = vns z' k
  | 0, _ => rfl
  | k + 1, e => by
    show vns z k + (z k - 1) = vns z' k + (z' k - 1)
    rw [vns_congr k (fun i hi => e i (by omega)), e k (by omega)]
theorem vns_inc (gv : Nat → Nat) (k : Nat) : ∀ n, vns (va_up gv k (gv k + 1)) n = vns gv n + (if k < n ∧ 0 < gv k then 1 else 0)
  | 0 => rfl
  | n + 1 => by
    show vns (va_up gv k (gv k + 1)) n + (va_up gv k (gv k + 1) n - 1) = vns gv n + (gv n - 1) + (if k < n + 1 ∧ 0 < gv k then 1 else 0)
    rw [vns_inc gv k n]
    by_cases e : n = k
    · subst e
      rw [va_up_self, if_neg (by omega)]
      by_cases h : 0 < gv n
      · rw [if_pos ⟨by omega, h⟩]
        omega
      · rw [if_neg (fun x => h x.2)]
        omega
    · rw [va_up_ne gv _ e]
      by_cases h : k < n ∧ 0 < gv k
      · rw [if_pos h, if_pos ⟨by omega, h.2⟩]
        omega
      · rw [if_neg h, if_neg (fun x => h ⟨by omega, x.2⟩)]
        omega
/-- n names: their sizes, bytes, times given, times referred to -/
abbrev AS : Type := Nat × (Nat → Nat) × (Nat → Nat → Nat) × (Nat → Nat) × (Nat → Nat)
abbrev aN (A : AS) : Nat := A.1
abbrev aZ (A : AS) : Nat → Nat := A.2.1
abbrev aB (A : AS) : Nat → Nat → Nat := A.2.2.1
abbrev aG (A : AS) : Nat → Nat := A.2.2.2.1
abbrev aR (A : AS) : Nat → Nat := A.2.2.2.2
/-- name k is the one in the hand -/
def Mt (A : AS) (h : Nat) (hb : Nat → Nat) (k : Nat) : Prop := aZ A k = h ∧ ∀ i, i < h → aB A k i = hb i
/-- the place of the name in the hand -/
def PlIs (A : AS) (h : Nat) (hb : Nat → Nat) : Option Nat → Prop
  | some k => k < aN A ∧ Mt A h hb k
  | none => ∀ k, k < aN A → ¬ Mt A h hb k
theorem PlIs_ex (A : AS) (h : Nat) (hb : Nat → Nat) : ∃ pl, PlIs A h hb pl := by
  by_cases e : ∃ k, k < aN A ∧ Mt A h hb k
  · obtain ⟨k, hk⟩ := e
    exact ⟨some k, hk⟩
  · exact ⟨none, fun k h1 h2 => e ⟨k, h1, h2⟩⟩
def AOk (A : AS) (B : Nat) : Prop := aN A ≤ 200 ∧ (∀ k, k < aN A → 1 ≤ aZ A k ∧ aZ A k ≤ 60 ∧ aG A k ≤ B ∧ aR A k ≤ B ∧ ∀ i, i < aZ A k → aB A k i < 256) ∧ ∀ j k, j < aN A → k < aN A → aZ A j = aZ A k → (∀ i, i < aZ A k → aB A j i = aB A k i) → j = k
def HOk (h : Nat) (hb : Nat → Nat) : Prop := h ≤ 60 ∧ ∀ i, i < h → hb i < 256
theorem AOk.mono {A : AS} {B C : Nat} (h : AOk A B) (hB : B ≤ C) : AOk A C :=
  ⟨h.1, fun k hk => ⟨(h.2.1 k hk).1, (h.2.1 k hk).2.1, Nat.le_trans (h.2.1 k hk).2.2.1 hB, Nat.le_trans (h.2.1 k hk).2.2.2.1 hB, (h.2.1 k hk).2.2.2.2⟩, h.2.2⟩
theorem Mt_one {A : AS} {B h : Nat} {hb : Nat → Nat} (hA : AOk A B) {j k : Nat} (hj : j < aN A) (hk : k < aN A) (mj : Mt A h hb j) (mk : Mt A h hb k) : j = k :=
  hA.2.2 j k hj hk (mj.1.trans mk.1.symm) (fun i hi => (mj.2 i (by rw [← mk.1]; exact hi)).trans (mk.2 i (by rw [← mk.1]; exact hi)).symm)
/-- the name in the hand is known from now on -/
def kA (A : AS) (h : Nat) (hb : Nat → Nat) : Option Nat → AS
  | some _ => A
  | none => if aN A = 200 then A else (aN A + 1, va_up (aZ A) (aN A) h, va_up (aB A) (aN A) hb, va_up (aG A) (aN A) 0, va_up (aR A) (aN A) 0)
def kK (A : AS) : Option Nat → Option Nat
  | some k => some k
  | none => if aN A = 200 then none else some (aN A)
def kR : Option Nat → Int32
  | some k => nI k
  | none => -2
def fR : Option Nat → Int32
  | some k => nI k
  | none => -1
def gA (A : AS) (k : Nat) : AS := (aN A, aZ A, aB A, va_up (aG A) k (aG A k + 1), aR A)
def rA (A : AS) (k : Nat) : AS := (aN A, aZ A, aB A, aG A, va_up (aR A) k (aR A k + 1))
def giveA (A : AS) (h : Nat) (hb : Nat → Nat) (pl : Option Nat) : AS := match kK A pl with
  | none => kA A h hb pl
  | some k => gA (kA A h hb pl) k
def giveR (A : AS) (h : Nat) (hb : Nat → Nat) (pl : Option Nat) : Int32 := match kK A pl with
  | none => -2
  | some k => if aG (kA A h hb pl) k = 0 then nI k else -1
def referA (A : AS) (h : Nat) (hb : Nat → Nat) (pl : Option Nat) : AS := match kK A pl with
  | none => kA A h hb pl
  | some k => rA (kA A h hb pl) k
theorem AOk_kA {A : AS} {B h : Nat} {hb : Nat → Nat} {pl : Option Nat} (hA : AOk A B) (hH : HOk h hb) (h0 : 0 < h) (hp : PlIs A h hb pl) : AOk (kA A h hb pl) B := by
  cases pl with
  | some k => exact hA
  | none =>
    unfold kA
    by_cases e : aN A = 200
    · simp only [if_pos e]
      exact hA
    · simp only [if_neg e]
      have hn : aN A < 200 := by have := hA.1; omega
      refine ⟨by show aN A + 1 ≤ 200; omega, ?_, ?_⟩
      · intro k hk
        have hk : k < aN A + 1 := hk
        show 1 ≤ va_up (aZ A) (aN A) h k ∧ va_up (aZ A) (aN A) h k ≤ 60 ∧ va_up (aG A) (aN A) 0 k ≤ B ∧ va_up (aR A) (aN A) 0 k ≤ B ∧ ∀ i, i < va_up (aZ A) (aN A) h k → va_up (aB A) (aN A) hb k i < 256
        by_cases ek : k = aN A
        · subst ek
          rw [va_up_self, va_up_self, va_up_self, va_up_self]
          exact ⟨h0, hH.1, Nat.zero_le _, Nat.zero_le _, hH.2⟩
        · rw [va_up_ne _ _ ek, va_up_ne _ _ ek, va_up_ne _ _ ek, va_up_ne _ _ ek]
          exact hA.2.1 k (by omega)
      · intro j k hj hk
        have hj : j < aN A + 1 := hj
        have hk : k < aN A + 1 := hk
        show va_up (aZ A) (aN A) h j = va_up (aZ A) (aN A) h k → (∀ i, i < va_up (aZ A) (aN A) h k → va_up (aB A) (aN A) hb j i = va_up (aB A) (aN A) hb k i) → j = k
        by_cases ej : j = aN A
        · by_cases ek : k = aN A
          · intro _ _
            omega
          · subst ej
            rw [va_up_self, va_up_self, va_up_ne _ _ ek, va_up_ne _ _ ek]
            intro e1 e2
            exact absurd ⟨e1.symm, fun i hi => (e2 i (by omega)).symm⟩ (hp k (by omega))
        · by_cases ek : k = aN A
          · subst ek
            rw [va_up_self, va_up_self, va_up_ne _ _ ej, va_up_ne _ _ ej]
            intro e1 e2
            exact absurd ⟨e1, fun i hi => e2 i hi⟩ (hp j (by omega))
          · rw [va_up_ne _ _ ej, va_up_ne _ _ ek, va_up_ne _ _ ej, va_up_ne _ _ ek]
            exact hA.2.2 j k (by omega) (by omega)
theorem AOk_gA {A : AS} {B : Nat} (hA : AOk A B) (k : Nat) : AOk (gA A k) (B + 1) := by
  refine ⟨hA.1, fun j hj => ?_, hA.2.2⟩
  have h := hA.2.1 j hj
  refine ⟨h.1, h.2.1, ?_, Nat.le_succ_of_le h.2.2.2.1, h.2.2.2.2⟩
  show va_up (aG A) k (aG A k + 1) j ≤ B + 1
  by_cases e : j = k
  · subst e
    rw [va_up_self]
    have := h.2.2.1
    omega
  · rw [va_up_ne _ _ e]
    have := h.2.2.1
    omega
theorem AOk_rA {A : AS} {B : Nat} (hA : AOk A B) (k : Nat) : AOk (rA A k) (B + 1) := by
  refine ⟨hA.1, fun j hj => ?_, hA.2.2⟩
  have h := hA.2.1 j hj
  refine ⟨h.1, h.2.1, Nat.le_succ_of_le h.2.2.1, ?_, h.2.2.2.2⟩
  show va_up (aR A) k (aR A k + 1) j ≤ B + 1
  by_cases e : j = k
  · subst e
    rw [va_up_self]
    have := h.2.2.2.1
    omega
  · rw [va_up_ne _ _ e]
    have := h.2.2.2.1
    omega
theorem AOk_give {A : AS} {B h : Nat} {hb : Nat → Nat} {pl : Option Nat} (hA : AOk A B) (hH : HOk h hb) (h0 : 0 < h) (hp : PlIs A h hb pl) : AOk (giveA A h hb pl) (B + 1) := by
  unfold giveA
  split
  · exact (AOk_kA hA hH h0 hp).mono (Nat.le_succ B)
  · exact AOk_gA (AOk_kA hA hH h0 hp) _
theorem AOk_refer {A : AS} {B h : Nat} {hb : Nat → Nat} {pl : Option Nat} (hA : AOk A B) (hH : HOk h hb) (h0 : 0 < h) (hp : PlIs A h hb pl) : AOk (referA A h hb pl) (B + 1) := by
  unfold referA
  split
  · exact (AOk_kA hA hH h0 hp).mono (Nat.le_succ B)
  · exact AOk_rA (AOk_kA hA hH h0 hp) _
/-- name k is missing -/
def mis (A : AS) (k : Nat) : Bool := decide (aG A k = 0 ∧ 0 < aR A k)
/-- the answers of the questions -/
def lookR (A : AS) (p q : Int32) : Int32 :=
  if p < 0 ∨ nI (aN A) ≤ p then -1
  else if q = 0 then nI (aG A p.toNatClampNeg)
  else if q = 1 then nI (aR A p.toNatClampNeg)
  else if q = 2 then nI (aZ A p.toNatClampNeg)
  else if q = 3 then mff (mis A) (p.toNatClampNeg + 1) (aN A - (p.toNatClampNeg + 1))
  else -1
def byteR (A : AS) (p q : Int32) : Int32 :=
  if p < 0 ∨ nI (aN A) ≤ p then -1
  else if q < 0 ∨ nI (aZ A p.toNatClampNeg) ≤ q then -1
  else nI (aB A p.toNatClampNeg q.toNatClampNeg)
def countR (A : AS) (h : Nat) (p : Int32) : Int32 :=
  if p = 0 then nI (aN A)
  else if p = 1 then nI (cnt (fun k => decide (0 < aG A k)) (aN A))
  else if p = 2 then nI (cnt (mis A) (aN A))
  else if p = 3 then nI (vns (aG A) (aN A))
  else if p = 4 then nI h
  else if p = 5 then mff (mis A) 0 (aN A)
  else -1
/-- how many bytes a 'put' brings -/
def putN (h : Nat) (p : Int32) : Nat := if p < 1 ∨ 8 < p ∨ 60 < nI h + p then 0 else p.toNatClampNeg
/-- byte j of a long, from below -/
def vb (v : Int64) (j : Nat) : Nat := v.toBitVec.toNat / 2 ^ (8 * j) % 256
/-- the hand behind a 'put' of n bytes -/
def putH (h : Nat) (hb : Nat → Nat) (v : Int64) (n : Nat) : Nat → Nat := fun i => if i < h then hb i else vb v (n - 1 - (i - h))
theorem putN_in {h : Nat} {p : Int32} (hh : h ≤ 60) : (putN h p = 0 ∧ (p < 1 ∨ 8 < p ∨ 60 < nI h + p)) ∨ (1 ≤ putN h p ∧ putN h p ≤ 8 ∧ h + putN h p ≤ 60 ∧ p = nI (putN h p)) := by
  unfold putN
  by_cases e : p < 1 ∨ 8 < p ∨ 60 < nI h + p
  · rw [if_pos e]
    exact Or.inl ⟨rfl, e⟩
  · rw [if_neg e]
    have e1 : ¬ p < 1 := fun x => e (Or.inl x)
    have e2 : ¬ 8 < p := fun x => e (Or.inr (Or.inl x))
    have e3 : ¬ 60 < nI h + p := fun x => e (Or.inr (Or.inr x))
    obtain ⟨j, hj, ej⟩ := nI_of2 (x := p) (M := 8) (n := 8) (by decide) (fun x => e1 (Int32.lt_trans x (by decide))) (Int32.not_lt.mp e2)
    subst ej
    rw [nI_clamp (by omega)]
    have h1 : 1 ≤ j := by
      rcases Nat.lt_or_ge j 1 with q | q
      · exact absurd (show nI j < nI 1 from nI_lt q (by decide)) e1
      · exact q
    rw [nI_add] at e3
    have h3 : h + j ≤ 60 := by
      rcases Nat.lt_or_ge 60 (h + j) with q | q
      · exact absurd (show nI 60 < nI (h + j) from nI_lt q (by omega)) e3
      · exact q
    exact Or.inr ⟨h1, hj, h3, rfl⟩
theorem HOk_put {h : Nat} {hb : Nat → Nat} (hH : HOk h hb) (v : Int64) (p : Int32) : HOk (h + putN h p) (putH h hb v (putN h p)) := by
  refine ⟨?_, fun i hi => ?_⟩
  · rcases putN_in (p := p) hH.1 with ⟨e, -⟩ | ⟨-, -, e, -⟩
    · rw [e]
      exact hH.1
    · exact e
  · unfold putH
    by_cases e : i < h
    · rw [if_pos e]
      exact hH.2 i e
    · rw [if_neg e]
      exact Nat.mod_lt _ (by decide)
/-- the hand, the table, the reference's cells: how they hold the value -/
def HInv (h : Nat) (hb : Nat → Nat) (f : Nat → Int32) (sv : Int32) : Prop := sv = nI h ∧ ∀ i, i < h → f i = sb_b (hb i)
def hsA (A : AS) (k : Nat) : Nat := hsh (fun i => sb_b (aB A k i)) (aZ A k)
def MTab (n : Nat) (hs : Nat → Nat) (sl : Nat → Int32) : Prop := (∀ s, s < 512 → sl s = -1 ∨ ∃ k, k < n ∧ sl s = nI k) ∧ (∀ k, k < n → ∃ d, d < 512 ∧ sl ((hs k + d) % 512) = nI k ∧ ∀ j, j < d → sl ((hs k + j) % 512) ≠ -1) ∧ cnt (fun s => decide (sl s ≠ -1)) 512 = n
def MBit (q : Nat → Bool) (ms : Nat → Int64) : Prop := ∀ k, k < 256 → (ms (k / 64)).toBitVec.getLsbD (k % 64) = q k
def misN (A : AS) : Nat → Bool := fun k => decide (k < aN A) && mis A k
def MNam (A : AS) (fb bg : Nat → Int32) : Prop := (∀ k, k ≤ aN A → bg k = nI (psum (aZ A) k)) ∧ ∀ k, k < aN A → ∀ i, i < aZ A k → fb (psum (aZ A) k + i) = sb_b (aB A k i)
def MCnt (A : AS) (fg fr : Nat → Int32) : Prop := ∀ k, k < aN A → fg k = nI (aG A k) ∧ fr k = nI (aR A k)
def MInv (A : AS) (fb bg fg fr sl : Nat → Int32) (ms : Nat → Int64) (sv vv : Int32) : Prop := sv = nI (aN A) ∧ vv = nI (vns (aG A) (aN A)) ∧ MNam A fb bg ∧ MCnt A fg fr ∧ MBit (misN A) ms ∧ MTab (aN A) (hsA A) sl
def TInv (A : AS) (mb mz mg mr : Nat → Int32) (kv : Int32) : Prop := kv = nI (aN A) ∧ ∀ k, k < aN A → mz k = nI (aZ A k) ∧ mg k = nI (aG A k) ∧ mr k = nI (aR A k) ∧ ∀ i, i < aZ A k → mb (60 * k + i) = nI (aB A k i)
def THand (h : Nat) (hb : Nat → Nat) (f : Nat → Int32) (sv : Int32) : Prop := sv = nI h ∧ ∀ i, i < h → f i = nI (hb i)
end
section
/-! rows pasted out of kit/laws/BITS.to-paste (nx_and, nx_xor; bp_b; wb_ family) -/
/-! ===== nI under and, xor, >>>, one bit, 65535 ===== -/
theorem nx_and (a b : Nat) : nI a &&& nI b = nI (a &&& b) := by
  apply Int32.toBitVec_inj.1
  show BitVec.ofNat 32 a &&& BitVec.ofNat 32 b = BitVec.ofNat 32 (a &&& b)
  apply BitVec.eq_of_getLsbD_eq
  intro i hi
  simp [hi]
theorem nx_xor (a b : Nat) : nI a ^^^ nI b = nI (a ^^^ b) := by
  apply Int32.toBitVec_inj.1
  show BitVec.ofNat 32 a ^^^ BitVec.ofNat 32 b = BitVec.ofNat 32 (a ^^^ b)
  apply BitVec.eq_of_getLsbD_eq
  intro i hi
  simp [hi]
/-! ===== a byte read unsigned ===== -/
theorem bp_b (x : Int32) : x.toInt8.toInt32 &&& 255 = x &&& 255 := by
  apply Int32.toBitVec_inj.mp
  rw [Int32.toBitVec_and, Int32.toBitVec_and, Int8.toBitVec_toInt32, Int32.toBitVec_toInt8]
  apply BitVec.eq_of_getLsbD_eq
  intro i hi
  rw [BitVec.getLsbD_and, BitVec.getLsbD_and]
  have hm : ∀ i < 32, 8 ≤ i → (255 : Int32).toBitVec.getLsbD i = false := by decide
  rcases Nat.lt_or_ge i 8 with z | z
  · rw [BitVec.getLsbD_signExtend, BitVec.getLsbD_signExtend, if_pos z, if_pos hi]
    simp only [z, hi, decide_true, Bool.true_and]
  · rw [hm i hi z]; simp
/-! ===== lN n to 2^64: shifts, and, or, masks, one bit ===== -/
theorem wb_tb (n : Nat) : (lN n).toBitVec = BitVec.ofNat 64 n := rfl
theorem wb_inj {a b : Int64} (h : a.toBitVec = b.toBitVec) : a = b := Int64.toBitVec_inj.mp h
theorem wb_tn {n : Nat} (h : n < 2 ^ 64) : (lN n).toBitVec.toNat = n := by rw [wb_tb, BitVec.toNat_ofNat, Nat.mod_eq_of_lt h]
theorem wb_of (x : Int64) : ∃ n, n < 2 ^ 64 ∧ x = lN n := ⟨x.toBitVec.toNat, x.toBitVec.isLt, wb_inj (by rw [wb_tb]; simp)⟩
theorem wb_of32 (x : Int32) : ∃ n, n < 2 ^ 32 ∧ x = nI n := ⟨x.toBitVec.toNat, x.toBitVec.isLt, Int32.toBitVec_inj.mp (by show _ = BitVec.ofNat 32 _; simp)⟩
theorem wb_c : ∀ k, k < 64 → ((nI k).toInt64 &&& 63) = lN k := by decide +kernel
theorem wb_cu : ∀ k, k < 64 → ((nI k).toInt64.toUInt64 &&& Int64.toUInt64 63) = UInt64.ofNat k := by decide +kernel
theorem wb_sm : ∀ k, k < 64 → (BitVec.ofNat 64 k).smod 64 = BitVec.ofNat 64 k := by decide +kernel
theorem wb_pw {a b : Nat} (h : a ≤ b) : 2 ^ b = 2 ^ a * 2 ^ (b - a) := by rw [← Nat.pow_add]; congr 1; omega
theorem wb_lt2 {a b : Nat} (h : a < b) : 2 ^ a < 2 ^ b := Nat.pow_lt_pow_right (by decide) h
theorem wb_mod (n : Nat) : lN n = lN (n % 2 ^ 64) := wb_inj (by rw [wb_tb, wb_tb]; apply BitVec.eq_of_toNat_eq; rw [BitVec.toNat_ofNat, BitVec.toNat_ofNat, Nat.mod_mod])
theorem wb_shr {n k : Nat} (hn : n < 2 ^ 64) (hk : k < 64) : ((lN n).toUInt64 >>> ((nI k).toInt64.toUInt64 &&& Int64.toUInt64 63)).toInt64 = lN (n / 2 ^ k) := by
  rw [wb_cu k hk]
  apply wb_inj
  apply BitVec.eq_of_toNat_eq
  show ((lN n).toUInt64 >>> UInt64.ofNat k).toNat = (BitVec.ofNat 64 _).toNat
  have h1 : (UInt64.ofNat k).toNat = k := by
    show (BitVec.ofNat 64 k).toNat = k
    rw [BitVec.toNat_ofNat, Nat.mod_eq_of_lt (by omega)]
  have h2 : (lN n).toUInt64.toNat = n := wb_tn hn
  rw [UInt64.toNat_shiftRight, h1, h2, Nat.mod_eq_of_lt hk, Nat.shiftRight_eq_div_pow, BitVec.toNat_ofNat, Nat.mod_eq_of_lt (Nat.lt_of_le_of_lt (Nat.div_le_self _ _) hn)]
theorem wb_shl (n : Nat) {k : Nat} (hk : k < 64) : lN n <<< ((nI k).toInt64 &&& 63) = lN (n * 2 ^ k) := by
  rw [wb_c k hk]
  apply wb_inj
  rw [Int64.toBitVec_shiftLeft, wb_tb, wb_tb, wb_tb, wb_sm k hk]
  apply BitVec.eq_of_toNat_eq
  rw [BitVec.shiftLeft_eq', BitVec.toNat_shiftLeft, BitVec.toNat_ofNat, BitVec.toNat_ofNat, BitVec.toNat_ofNat, Nat.mod_eq_of_lt (show k < 2 ^ 64 by omega), Nat.shiftLeft_eq, Nat.mul_mod, Nat.mod_mod, ← Nat.mul_mod]
theorem wb_and {a b : Nat} (ha : a < 2 ^ 64) (hb : b < 2 ^ 64) : lN a &&& lN b = lN (a &&& b) := by
  apply wb_inj
  rw [Int64.toBitVec_and, wb_tb, wb_tb, wb_tb]
  apply BitVec.eq_of_toNat_eq
  rw [BitVec.toNat_and, BitVec.toNat_ofNat, BitVec.toNat_ofNat, BitVec.toNat_ofNat, Nat.mod_eq_of_lt ha, Nat.mod_eq_of_lt hb, Nat.mod_eq_of_lt (Nat.and_lt_two_pow _ hb)]
theorem wb_or {a b : Nat} (ha : a < 2 ^ 64) (hb : b < 2 ^ 64) : lN a ||| lN b = lN (a ||| b) := by
  apply wb_inj
  rw [Int64.toBitVec_or, wb_tb, wb_tb, wb_tb]
  apply BitVec.eq_of_toNat_eq
  rw [BitVec.toNat_or, BitVec.toNat_ofNat, BitVec.toNat_ofNat, BitVec.toNat_ofNat, Nat.mod_eq_of_lt ha, Nat.mod_eq_of_lt hb, Nat.mod_eq_of_lt (Nat.or_lt_two_pow ha hb)]
theorem wb_mask {n k : Nat} (hn : n < 2 ^ 64) (hk : k < 64) : lN n &&& lN (2 ^ k - 1) = lN (n % 2 ^ k) := by
  rw [wb_and hn (by have := wb_lt2 hk; omega), Nat.and_two_pow_sub_one_eq_mod]
theorem wb_a1 {n : Nat} (hn : n < 2 ^ 64) : lN n &&& 1 = lN (n % 2) := wb_mask (k := 1) hn (by decide)
theorem wb_bit {n k : Nat} (hn : n < 2 ^ 64) (hk : k < 64) : ((lN n).toUInt64 >>> ((nI k).toInt64.toUInt64 &&& Int64.toUInt64 63)).toInt64 &&& 1 = lN (n / 2 ^ k % 2) := by
  rw [wb_shr hn hk, wb_a1 (Nat.lt_of_le_of_lt (Nat.div_le_self _ _) hn)]
/-! eight lanes of a long: counting bits -/
theorem and_lane {a a' b b' : Nat} (ha : a < 256) (ha' : a' < 256) : (256 * b + a) &&& (256 * b' + a') = 256 * (b &&& b') + (a &&& a') := by
  have h8 : (256 : Nat) = 2 ^ 8 := by decide
  apply Nat.eq_of_testBit_eq
  intro j
  rw [h8] at ha ha' ⊢
  rw [Nat.testBit_and, Nat.testBit_two_pow_mul_add _ ha, Nat.testBit_two_pow_mul_add _ ha', Nat.testBit_two_pow_mul_add _ (Nat.lt_of_le_of_lt Nat.and_le_left ha)]
  split
  · rw [Nat.testBit_and]
  · rw [Nat.testBit_and]
def ln (f : Nat → Nat) : Nat → Nat
  | 0 => 0
  | n + 1 => 256 * ln (fun j => f (j + 1)) n + f 0
theorem ln_congr : ∀ (n : Nat) {f g : Nat → Nat}, (∀ j, j < n → f j = g j) → ln f n = ln g n
  | 0, _, _, _ => rfl
  | n + 1, f, g, h => by
    show 256 * ln (fun j => f (j + 1)) n + f 0 = 256 * ln (fun j => g (j + 1)) n + g 0
    rw [ln_congr n (fun j hj => h (j + 1) (by omega)), h 0 (by omega)]
theorem ln_and : ∀ (n : Nat) {f g : Nat → Nat}, (∀ j, j < n → f j < 256) → (∀ j, j < n → g j < 256) → ln f n &&& ln g n = ln (fun j => f j &&& g j) n
  | 0, _, _, _, _ => by simp [ln]
  | n + 1, f, g, hf, hg => by
    show (256 * ln (fun j => f (j + 1)) n + f 0) &&& (256 * ln (fun j => g (j + 1)) n + g 0) = 256 * ln (fun j => f (j + 1) &&& g (j + 1)) n + (f 0 &&& g 0)
    rw [and_lane (hf 0 (by omega)) (hg 0 (by omega)), ln_and n (fun j hj => hf (j + 1) (by omega)) (fun j hj => hg (j + 1) (by omega))]
theorem ln_add : ∀ (n : Nat) (f g : Nat → Nat), ln f n + ln g n = ln (fun j => f j + g j) n
  | 0, _, _ => rfl
  | n + 1, f, g => by
    show (256 * ln (fun j => f (j + 1)) n + f 0) + (256 * ln (fun j => g (j + 1)) n + g 0) = 256 * ln (fun j => f (j + 1) + g (j + 1)) n + (f 0 + g 0)
    rw [← ln_add n (fun j => f (j + 1)) (fun j => g (j + 1))]
    omega
theorem ln_sub (n : Nat) {f g : Nat → Nat} (h : ∀ j, j < n → g j ≤ f j) : ln f n - ln g n = ln (fun j => f j - g j) n := by
  have e : ln (fun j => f j - g j) n + ln g n = ln f n := by
    rw [ln_add]
    exact ln_congr n (fun j hj => Nat.sub_add_cancel (h j hj))
  omega
theorem ln_lt : ∀ (n : Nat) {f : Nat → Nat}, (∀ j, j < n → f j < 256) → ln f n < 256 ^ n
  | 0, _, _ => by simp [ln]
  | n + 1, f, h => by
    have h1 := ln_lt n (f := fun j => f (j + 1)) (fun j hj => h (j + 1) (by omega))
    have h0 := h 0 (by omega)
    show 256 * ln (fun j => f (j + 1)) n + f 0 < 256 ^ (n + 1)
    rw [Nat.pow_succ]
    omega
theorem ln_h2 : ∀ (n : Nat) {f : Nat → Nat}, f n = 0 → (∀ j, j < n → f j < 256) → ln f n / 2 = ln (fun j => f j / 2 + 128 * (f (j + 1) % 2)) n
  | 0, _, _, _ => by simp [ln]
  | n + 1, f, h0, h => by
    show (256 * ln (fun j => f (j + 1)) n + f 0) / 2 = 256 * ln (fun j => f (j + 1) / 2 + 128 * (f (j + 1 + 1) % 2)) n + (f 0 / 2 + 128 * (f (0 + 1) % 2))
    rw [← ln_h2 n (f := fun j => f (j + 1)) h0 (fun j hj => h (j + 1) (by omega))]
    have h1 : ln (fun j => f (j + 1)) n % 2 = f (0 + 1) % 2 := by
      cases n with
      | zero => rw [h0]; rfl
      | succ n =>
        show (256 * ln (fun j => f (j + 1 + 1)) n + f (0 + 1)) % 2 = f (0 + 1) % 2
        omega
    omega
theorem ln_h4 : ∀ (n : Nat) {f : Nat → Nat}, f n = 0 → (∀ j, j < n → f j < 256) → ln f n / 4 = ln (fun j => f j / 4 + 64 * (f (j + 1) % 4)) n
  | 0, _, _, _ => by simp [ln]
  | n + 1, f, h0, h => by
    show (256 * ln (fun j => f (j + 1)) n + f 0) / 4 = 256 * ln (fun j => f (j + 1) / 4 + 64 * (f (j + 1 + 1) % 4)) n + (f 0 / 4 + 64 * (f (0 + 1) % 4))
    rw [← ln_h4 n (f := fun j => f (j + 1)) h0 (fun j hj => h (j + 1) (by omega))]
    have h1 : ln (fun j => f (j + 1)) n % 4 = f (0 + 1) % 4 := by
      cases n with
      | zero => rw [h0]; rfl
      | succ n =>
        show (256 * ln (fun j => f (j + 1 + 1)) n + f (0 + 1)) % 4 = f (0 + 1) % 4
        omega
    omega
theorem ln_h16 : ∀ (n : Nat) {f : Nat → Nat}, f n = 0 → (∀ j, j < n → f j < 256) → ln f n / 16 = ln (fun j => f j / 16 + 16 * (f (j + 1) % 16)) n
  | 0, _, _, _ => by simp [ln]
  | n + 1, f, h0, h => by
    show (256 * ln (fun j => f (j + 1)) n + f 0) / 16 = 256 * ln (fun j => f (j + 1) / 16 + 16 * (f (j + 1 + 1) % 16)) n + (f 0 / 16 + 16 * (f (0 + 1) % 16))
    rw [← ln_h16 n (f := fun j => f (j + 1)) h0 (fun j hj => h (j + 1) (by omega))]
    have h1 : ln (fun j => f (j + 1)) n % 16 = f (0 + 1) % 16 := by
      cases n with
      | zero => rw [h0]; rfl
      | succ n =>
        show (256 * ln (fun j => f (j + 1 + 1)) n + f (0 + 1)) % 16 = f (0 + 1) % 16
        omega
    omega
def byt (X j : Nat) : Nat := X / 256 ^ j % 256
theorem ln_byt : ∀ (n X : Nat), ln (byt X) n = X % 256 ^ n
  | 0, X => (Nat.mod_one X).symm
  | n + 1, X => by
    show 256 * ln (fun j => byt X (j + 1)) n + byt X 0 = X % 256 ^ (n + 1)
    have e : ln (fun j => byt X (j + 1)) n = ln (byt (X / 256)) n := ln_congr n (fun j _ => by
      show X / 256 ^ (j + 1) % 256 = X / 256 / 256 ^ j % 256
      rw [Nat.div_div_eq_div_mul, Nat.pow_succ, Nat.mul_comm])
    rw [e, ln_byt n (X / 256), Nat.pow_succ, Nat.mul_comm (256 ^ n) 256, Nat.mod_mul]
    show 256 * (X / 256 % 256 ^ n) + X / 256 ^ 0 % 256 = _
    rw [Nat.pow_zero, Nat.div_one]
    omega
def pcb (y : Nat) : Nat := cnt (fun i => y.testBit i) 8
def bsum (p : Nat → Nat) : Nat → Nat
  | 0 => 0
  | n + 1 => bsum p n + p n
theorem cnt_byt (X : Nat) : ∀ n, cnt (fun i => X.testBit i) (8 * n) = bsum (fun j => pcb (byt X j)) n
  | 0 => rfl
  | n + 1 => by
    show cnt (fun i => X.testBit i) (8 * n + 8) = bsum (fun j => pcb (byt X j)) n + pcb (byt X n)
    rw [cnt_add, cnt_byt X n]
    congr 1
    apply cnt_congr
    intro i hi
    show X.testBit (8 * n + i) = (X / 256 ^ n % 256).testBit i
    rw [show (256 : Nat) ^ n = 2 ^ (8 * n) by rw [Nat.pow_mul], show (256 : Nat) = 2 ^ 8 by decide, Nat.testBit_mod_two_pow, Nat.testBit_div_two_pow]
    simp [hi, Nat.add_comm]
def s1b (y : Nat) : Nat := y - (y / 2 &&& 0x55)
def s2b (y : Nat) : Nat := (y &&& 0x33) + (y / 4 &&& 0x33)
theorem pb_1 : ∀ y, y < 256 → ∀ b, b < 2 → (y / 2 + 128 * b) &&& 0x55 = y / 2 &&& 0x55 := by decide +kernel
theorem pb_2 : ∀ y, y < 256 → (y / 2 &&& 0x55) ≤ y ∧ s1b y < 256 := by decide +kernel
theorem pb_3 : ∀ y, y < 256 → ∀ b, b < 4 → (y / 4 + 64 * b) &&& 0x33 = y / 4 &&& 0x33 := by decide +kernel
theorem pb_4 : ∀ y, y < 256 → s2b (s1b y) < 256 ∧ s2b (s1b y) % 16 ≤ 4 ∧ s2b (s1b y) / 16 ≤ 4 := by decide +kernel
theorem pb_5 : ∀ y, y < 256 → ∀ b, b ≤ 4 → (s2b (s1b y) + (s2b (s1b y) / 16 + 16 * b)) &&& 0x0f = pcb y := by decide +kernel
theorem pb_6 : ∀ y, y < 256 → pcb y ≤ 8 := by decide +kernel
theorem lane_c (m M : Nat) (h : ln (fun _ => m) 8 = M) (n : Nat) (hn : n = 8) : M = ln (fun _ => m) n := by rw [hn, h]
/-- the three rounds in lanes -/
theorem pop_lanes {X : Nat} (hX : X < 2 ^ 64) : ∃ a b c : Nat, X / 2 &&& 6148914691236517205 ≤ X ∧ a = X - (X / 2 &&& 6148914691236517205) ∧ a < 2 ^ 64 ∧ b = (a &&& 3689348814741910323) + (a / 4 &&& 3689348814741910323) ∧ b < 2 ^ 63 ∧ c = (b + b / 16) &&& 1085102592571150095 ∧ c = ln (fun j => pcb (byt X j)) 8 := by
  have hx : ∀ j, byt X j < 256 := fun j => Nat.mod_lt _ (by decide)
  have hx8 : byt X 8 = 0 := by
    show X / 256 ^ 8 % 256 = 0
    rw [Nat.div_eq_of_lt (by rw [show (256 : Nat) ^ 8 = 2 ^ 64 by decide]; exact hX)]
  have eX : X = ln (byt X) 8 := by
    rw [ln_byt, Nat.mod_eq_of_lt (by rw [show (256 : Nat) ^ 8 = 2 ^ 64 by decide]; exact hX)]
  have e5 : (6148914691236517205 : Nat) = ln (fun _ => 0x55) 8 := by decide
  have e3 : (3689348814741910323 : Nat) = ln (fun _ => 0x33) 8 := by decide
  have ef : (1085102592571150095 : Nat) = ln (fun _ => 0x0f) 8 := by decide
  have y1 : X / 2 &&& 6148914691236517205 = ln (fun j => byt X j / 2 &&& 0x55) 8 := by
    rw [e5, show X / 2 = ln (fun j => byt X j / 2 + 128 * (byt X (j + 1) % 2)) 8 by rw [← ln_h2 8 hx8 (fun j _ => hx j), ← eX]]
    rw [ln_and 8 (fun j _ => by have := hx j; omega) (fun j _ => by decide)]
    exact ln_congr 8 (fun j _ => pb_1 _ (hx j) _ (Nat.mod_lt _ (by decide)))
  have le1 : X / 2 &&& 6148914691236517205 ≤ X := Nat.le_trans Nat.and_le_left (Nat.div_le_self X 2)
  have ea : X - (X / 2 &&& 6148914691236517205) = ln (fun j => s1b (byt X j)) 8 := by
    rw [y1]
    exact (congrArg (fun z => z - ln (fun j => byt X j / 2 &&& 0x55) 8) eX).trans (ln_sub 8 (fun j _ => (pb_2 _ (hx j)).1))
  obtain ⟨a, ha⟩ : ∃ a, a = X - (X / 2 &&& 6148914691236517205) := ⟨_, rfl⟩
  have ea2 : a = ln (fun j => s1b (byt X j)) 8 := ha.trans ea
  have hs1 : ∀ j, s1b (byt X j) < 256 := fun j => (pb_2 _ (hx j)).2
  have hs8 : s1b (byt X 8) = 0 := by rw [hx8]; decide
  have eb : (a &&& 3689348814741910323) + (a / 4 &&& 3689348814741910323) = ln (fun j => s2b (s1b (byt X j))) 8 := by
    rw [ea2, e3, ln_h4 8 hs8 (fun j _ => hs1 j), ln_and 8 (fun j _ => hs1 j) (fun j _ => by decide), ln_and 8 (fun j _ => by have := hs1 j; omega) (fun j _ => by decide), ln_add]
    exact ln_congr 8 (fun j _ => by
      show (s1b (byt X j) &&& 0x33) + ((s1b (byt X j) / 4 + 64 * (s1b (byt X (j + 1)) % 4)) &&& 0x33) = s2b (s1b (byt X j))
      rw [pb_3 _ (hs1 j) _ (Nat.mod_lt _ (by decide))]
      rfl)
  obtain ⟨b, hb⟩ : ∃ b, b = (a &&& 3689348814741910323) + (a / 4 &&& 3689348814741910323) := ⟨_, rfl⟩
  have eb2 : b = ln (fun j => s2b (s1b (byt X j))) 8 := hb.trans eb
  have hs2 : ∀ j, s2b (s1b (byt X j)) < 256 := fun j => (pb_4 _ (hx j)).1
  have ht8 : s2b (s1b (byt X 8)) = 0 := by rw [hx8]; decide
  have ec : (b + b / 16) &&& 1085102592571150095 = ln (fun j => pcb (byt X j)) 8 := by
    rw [eb2, ef, ln_h16 8 ht8 (fun j _ => hs2 j), ln_add, ln_and 8 (fun j _ => by
      have h1 := pb_4 _ (hx j)
      have h2 := pb_4 _ (hx (j + 1))
      omega) (fun j _ => by decide)]
    exact ln_congr 8 (fun j _ => pb_5 _ (hx j) _ (pb_4 _ (hx (j + 1))).2.1)
  have hb64 : b < 2 ^ 63 := by
    have h1 : (a &&& 3689348814741910323) ≤ 3689348814741910323 := Nat.and_le_right
    have h2 : (a / 4 &&& 3689348814741910323) ≤ a / 4 := Nat.and_le_left
    have h3 : b = ln (fun j => s2b (s1b (byt X j))) 8 := eb2
    have h4 : ln (fun j => s2b (s1b (byt X j))) 8 ≤ ln (fun _ => 0x44) 8 - 0 := by
      have hle : ∀ j, s2b (s1b (byt X j)) ≤ 0x44 := fun j => by
        have := pb_4 _ (hx j)
        omega
      have e9 := ln_add 8 (fun j => s2b (s1b (byt X j))) (fun j => 0x44 - s2b (s1b (byt X j)))
      have e8 : ln (fun j => s2b (s1b (byt X j)) + (0x44 - s2b (s1b (byt X j)))) 8 = ln (fun _ => 0x44) 8 := ln_congr 8 (fun j _ => by have := hle j; omega)
      omega
    have h5 : ln (fun _ => 0x44) 8 = 4919131752989213764 := by decide
    rw [h3]
    have : (2 : Nat) ^ 63 = 9223372036854775808 := by decide
    omega
  exact ⟨a, b, _, le1, ha, by rw [ha]; exact Nat.lt_of_le_of_lt (Nat.sub_le _ _) hX, hb, hb64, rfl, ec⟩
theorem nI_mod (a : Nat) : nI a = nI (a % 2 ^ 32) := Int32.toBitVec_inj.mp (by
  show BitVec.ofNat 32 a = BitVec.ofNat 32 (a % 2 ^ 32)
  apply BitVec.eq_of_toNat_eq
  rw [BitVec.toNat_ofNat, BitVec.toNat_ofNat, Nat.mod_mod])
theorem and127 (f : Nat) : nI f &&& 127 = nI (f % 128) := by
  rw [nI_mod f, pk_andN (Nat.mod_lt _ (by decide)) (m := 127) 7 (by decide)]
  congr 1
  show f % 2 ^ 32 % 2 ^ 7 = f % 128
  omega
/-! the lowest bit -/
theorem low_and {X t q : Nat} (hX : X < 2 ^ 32) (ht : t < 32) (h : X = 2 ^ t * (2 * q + 1)) : (nI X ^^^ (-1)) &&& (nI X - 1) = nI (2 ^ t - 1) := by
  have hp : 0 < 2 ^ t := Nat.two_pow_pos t
  have hX1 : 1 ≤ X := by rw [h]; exact Nat.mul_pos hp (by omega)
  have e1 : nI X - 1 = nI (X - 1) := pk_sub (a := X) (b := 1) hX1
  have e2 : (-1 : Int32) = nI (2 ^ 32 - 1) := by decide
  rw [e1, e2, nx_xor, nx_and]
  congr 1
  have eX1 : X - 1 = 2 ^ t * (2 * q) + (2 ^ t - 1) := by
    rw [h, Nat.mul_add, Nat.mul_one]
    omega
  have eX0 : X = 2 ^ t * (2 * q + 1) + 0 := h
  apply Nat.eq_of_testBit_eq
  intro j
  rw [Nat.testBit_and, Nat.testBit_xor, Nat.testBit_two_pow_sub_one, Nat.testBit_two_pow_sub_one]
  have t0 : X.testBit j = if j < t then false else (2 * q + 1).testBit (j - t) := by
    rw [eX0, Nat.testBit_two_pow_mul_add _ hp]
    simp
  have t1 : (X - 1).testBit j = if j < t then true else (2 * q).testBit (j - t) := by
    rw [eX1, Nat.testBit_two_pow_mul_add _ (by omega), Nat.testBit_two_pow_sub_one]
    split
    · rename_i hj
      simp [hj]
    · rfl
  rw [t0, t1]
  by_cases hj : j < t
  · simp [hj, show j < 32 by omega]
  · rw [if_neg hj, if_neg hj]
    by_cases he : j = t
    · subst he
      rw [Nat.sub_self]
      simp [Nat.testBit_zero]
    · obtain ⟨d, hd⟩ : ∃ d, j - t = d + 1 := ⟨j - t - 1, by omega⟩
      rw [hd, Nat.testBit_succ, Nat.testBit_succ, show (2 * q + 1) / 2 = q by omega, show 2 * q / 2 = q by omega]
      by_cases h32 : j < 32
      · cases q.testBit d <;> simp [h32, hj]
      · have hq : q.testBit d = false := by
          have hXj : (X - 1).testBit j = false := Nat.testBit_lt_two_pow (Nat.lt_of_lt_of_le (show X - 1 < 2 ^ 32 by omega) (Nat.pow_le_pow_right (by decide) (by omega)))
          rw [t1, if_neg hj, hd, Nat.testBit_succ, show 2 * q / 2 = q by omega] at hXj
          exact hXj
        simp [hq, hj]
def nz1 (i : Int32) : Int32 × Int32 := if i ≤ 65536 then (i, 1) else ((i.toUInt32 >>> ((16 : Int32).toUInt32 &&& Int32.toUInt32 31)).toInt32, 1 + 16)
def nz2 (q : Int32 × Int32) : Int32 × Int32 := if q.1 ≤ 256 then q else ((q.1.toUInt32 >>> ((8 : Int32).toUInt32 &&& Int32.toUInt32 31)).toInt32, q.2 + 8)
def nz3 (q : Int32 × Int32) : Int32 × Int32 := if q.1 ≤ 16 then q else ((q.1.toUInt32 >>> ((4 : Int32).toUInt32 &&& Int32.toUInt32 31)).toInt32, q.2 + 4)
def nz4 (q : Int32 × Int32) : Int32 × Int32 := if q.1 ≤ 4 then q else ((q.1.toUInt32 >>> ((2 : Int32).toUInt32 &&& Int32.toUInt32 31)).toInt32, q.2 + 2)
def nz5 (q : Int32 × Int32) : Int32 := q.2 + (q.1.toUInt32 >>> ((1 : Int32).toUInt32 &&& Int32.toUInt32 31)).toInt32
theorem nz_ok : ∀ t, t < 32 → (0 < nI (2 ^ t - 1) → nz5 (nz4 (nz3 (nz2 (nz1 (nI (2 ^ t - 1)))))) = nI t) ∧ (¬ 0 < nI (2 ^ t - 1) → nI (2 ^ t - 1) &&& 32 = nI t) := by decide +kernel
/-- a long's lowest bit, by its halves -/
theorem low_lo {X t q : Nat} (h : X = 2 ^ t * (2 * q + 1)) (ht : t < 32) : ∃ q', X % 2 ^ 32 = 2 ^ t * (2 * q' + 1) := by
  refine ⟨q % 2 ^ (31 - t), ?_⟩
  have e : (2 : Nat) ^ 32 = 2 ^ t * (2 * 2 ^ (31 - t)) := by
    rw [← Nat.pow_succ', ← Nat.pow_add]
    congr 1
    omega
  rw [h, e, Nat.mul_mod_mul_left]
  congr 1
  have : (2 * q + 1) % (2 * 2 ^ (31 - t)) = 2 * (q % 2 ^ (31 - t)) + 1 := by
    rw [Nat.mod_mul, show (2 * q + 1) % 2 = 1 by omega, show (2 * q + 1) / 2 = q by omega, Nat.add_comm]
  exact this
theorem low_ne {X t q : Nat} (h : X = 2 ^ t * (2 * q + 1)) (ht : t < 32) : ¬ nI X = 0 := by
  obtain ⟨q', e⟩ := low_lo h ht
  intro h0
  rw [nI_mod] at h0
  have h1 : (nI (X % 2 ^ 32)).toBitVec.toNat = X % 2 ^ 32 := pk_tn (Nat.mod_lt _ (by decide))
  rw [h0] at h1
  have h2 : (0 : Int32).toBitVec.toNat = 0 := by decide
  rw [h2, e] at h1
  have : 0 < 2 ^ t * (2 * q' + 1) := Nat.mul_pos (Nat.two_pow_pos t) (by omega)
  omega
theorem low_hi {X t q : Nat} (h : X = 2 ^ t * (2 * q + 1)) (ht : 32 ≤ t) : nI X = 0 ∧ X / 2 ^ 32 = 2 ^ (t - 32) * (2 * q + 1) := by
  have e : (2 : Nat) ^ t = 2 ^ 32 * 2 ^ (t - 32) := by
    rw [← Nat.pow_add]
    congr 1
    omega
  have e2 : X = 2 ^ 32 * (2 ^ (t - 32) * (2 * q + 1)) := by rw [h, e, Nat.mul_assoc]
  refine ⟨?_, ?_⟩
  · rw [nI_mod, e2, Nat.mul_mod_right]
    decide
  · rw [e2, Nat.mul_div_cancel_left _ (by decide)]
end
section
theorem dvl {x a r : Nat} (e : x = 256 * r + a) (h : a < 256) : x / 256 = r := by
  rw [e, Nat.mul_add_div (by decide), Nat.div_eq_of_lt h]
  rfl
theorem ps_2 {x y x' y' a b : Nat} (hx : x = 256 * x' + a) (hy : y = 256 * y' + b) : x + y = 256 * (x' + y') + (a + b) := by
  rw [hx, hy, Nat.mul_add]
  omega
theorem pop_sum {p : Nat → Nat} (hp : ∀ j, p j ≤ 8) {c d e f : Nat} (hc : c = ln p 8) (hd : d = c + c / 256) (he : e = d + d / 65536) (hf : f = e + e / 4294967296) : f % 128 = bsum p 8 := by
  have e1 : bsum p 8 = p 0 + p 1 + p 2 + p 3 + p 4 + p 5 + p 6 + p 7 := by
    simp [bsum]
  obtain ⟨c8, hc8⟩ : ∃ z, z = 0 := ⟨0, rfl⟩
  obtain ⟨c7, hc7⟩ : ∃ z, z = 256 * c8 + p 7 := ⟨_, rfl⟩
  obtain ⟨c6, hc6⟩ : ∃ z, z = 256 * c7 + p 6 := ⟨_, rfl⟩
  obtain ⟨c5, hc5⟩ : ∃ z, z = 256 * c6 + p 5 := ⟨_, rfl⟩
  obtain ⟨c4, hc4⟩ : ∃ z, z = 256 * c5 + p 4 := ⟨_, rfl⟩
  obtain ⟨c3, hc3⟩ : ∃ z, z = 256 * c4 + p 3 := ⟨_, rfl⟩
  obtain ⟨c2, hc2⟩ : ∃ z, z = 256 * c3 + p 2 := ⟨_, rfl⟩
  obtain ⟨c1, hc1⟩ : ∃ z, z = 256 * c2 + p 1 := ⟨_, rfl⟩
  have hc0 : c = 256 * c1 + p 0 := by
    rw [hc, hc1, hc2, hc3, hc4, hc5, hc6, hc7, hc8]
    simp [ln]
  have h0 := hp 0
  have h1 := hp 1
  have h2 := hp 2
  have h3 := hp 3
  have h4 := hp 4
  have h5 := hp 5
  have h6 := hp 6
  have h7 := hp 7
  clear hp hc
  generalize p 0 = p0 at *
  generalize p 1 = p1 at *
  generalize p 2 = p2 at *
  generalize p 3 = p3 at *
  generalize p 4 = p4 at *
  generalize p 5 = p5 at *
  generalize p 6 = p6 at *
  generalize p 7 = p7 at *
  have d1 : c / 256 = c1 := dvl hc0 (by clear hd he hf e1 hc0 hc1 hc2 hc3 hc4 hc5 hc6 hc7; omega)
  rw [d1] at hd
  have d2 : d / 65536 = c2 + c3 := by
    rw [show (65536 : Nat) = 256 * 256 by decide, ← Nat.div_div_eq_div_mul, hd, dvl (ps_2 hc0 hc1) (by clear hd he hf e1 hc0 hc1 hc2 hc3 hc4 hc5 hc6 hc7 d1; omega), dvl (ps_2 hc1 hc2) (by clear hd he hf e1 hc0 hc1 hc2 hc3 hc4 hc5 hc6 hc7 d1; omega)]
  rw [d2, hd] at he
  have d3 : e / 4294967296 = (c4 + c5) + (c6 + c7) := by
    rw [show (4294967296 : Nat) = 256 * 256 * 256 * 256 by decide, ← Nat.div_div_eq_div_mul, ← Nat.div_div_eq_div_mul, ← Nat.div_div_eq_div_mul, he, dvl (ps_2 (ps_2 hc0 hc1) (ps_2 hc2 hc3)) (by clear hd he hf e1 hc0 hc1 hc2 hc3 hc4 hc5 hc6 hc7 d1 d2; omega), dvl (ps_2 (ps_2 hc1 hc2) (ps_2 hc3 hc4)) (by clear hd he hf e1 hc0 hc1 hc2 hc3 hc4 hc5 hc6 hc7 d1 d2; omega), dvl (ps_2 (ps_2 hc2 hc3) (ps_2 hc4 hc5)) (by clear hd he hf e1 hc0 hc1 hc2 hc3 hc4 hc5 hc6 hc7 d1 d2; omega), dvl (ps_2 (ps_2 hc3 hc4) (ps_2 hc5 hc6)) (by clear hd he hf e1 hc0 hc1 hc2 hc3 hc4 hc5 hc6 hc7 d1 d2; omega)]
  rw [d3, he] at hf
  have e2 := ps_2 (ps_2 (ps_2 hc0 hc1) (ps_2 hc2 hc3)) (ps_2 (ps_2 hc4 hc5) (ps_2 hc6 hc7))
  rw [hf, e2, e1]
  generalize c1 + c2 + (c3 + c4) + (c5 + c6 + (c7 + c8)) = z
  clear hd he hf e1 e2 hc0 hc1 hc2 hc3 hc4 hc5 hc6 hc7 d1 d2 d3
  omega
theorem pop_b {p : Nat → Nat} (hp : ∀ j, p j ≤ 8) : ln p 8 < 2 ^ 60 := by
  have e9 := ln_add 8 p (fun j => 8 - p j)
  have e8 : ln (fun j => p j + (8 - p j)) 8 = ln (fun _ => 8) 8 := ln_congr 8 (fun j _ => by have := hp j; omega)
  have e7 : ln (fun _ => 8) 8 = 578721382704613384 := by decide
  have e6 : ln p 8 ≤ 578721382704613384 := by
    rw [← e7, ← e8, ← e9]
    exact Nat.le_add_right _ _
  exact Nat.lt_of_le_of_lt e6 (by decide)
end
section
theorem d_Hand_init_0 : decode b_Hand_init 0 = .ok (.aload_n 0, 1) := by decide +kernel
theorem d_Hand_init_1 : decode b_Hand_init 1 = .ok (.invokespecial 1, 3) := by decide +kernel
theorem d_Hand_init_4 : decode b_Hand_init 4 = .ok (.aload_n 0, 1) := by decide +kernel
theorem d_Hand_init_5 : decode b_Hand_init 5 = .ok (.bipush 60, 2) := by decide +kernel
theorem d_Hand_init_7 : decode b_Hand_init 7 = .ok (.newarray .byte, 2) := by decide +kernel
theorem d_Hand_init_9 : decode b_Hand_init 9 = .ok (.putfield 9, 3) := by decide +kernel
theorem d_Hand_init_12 : decode b_Hand_init 12 = .ok (.return_, 1) := by decide +kernel
theorem d_Hand_mixed_0 : decode b_Hand_mixed 0 = .ok (.aload_n 0, 1) := by decide +kernel
theorem d_Hand_mixed_1 : decode b_Hand_mixed 1 = .ok (.getfield 13, 3) := by decide +kernel
theorem d_Hand_mixed_4 : decode b_Hand_mixed 4 = .ok (.istore_n 1, 1) := by decide +kernel
theorem d_Hand_mixed_5 : decode b_Hand_mixed 5 = .ok (.iconst 0, 1) := by decide +kernel
theorem d_Hand_mixed_6 : decode b_Hand_mixed 6 = .ok (.istore_n 2, 1) := by decide +kernel
theorem d_Hand_mixed_7 : decode b_Hand_mixed 7 = .ok (.iload_n 2, 1) := by decide +kernel
theorem d_Hand_mixed_8 : decode b_Hand_mixed 8 = .ok (.aload_n 0, 1) := by decide +kernel
theorem d_Hand_mixed_9 : decode b_Hand_mixed 9 = .ok (.getfield 13, 3) := by decide +kernel
theorem d_Hand_mixed_12 : decode b_Hand_mixed 12 = .ok (.if_icmp .ge 21, 3) := by decide +kernel
theorem d_Hand_mixed_15 : decode b_Hand_mixed 15 = .ok (.bipush 31, 2) := by decide +kernel
theorem d_Hand_mixed_17 : decode b_Hand_mixed 17 = .ok (.iload_n 1, 1) := by decide +kernel
theorem d_Hand_mixed_18 : decode b_Hand_mixed 18 = .ok (.imul, 1) := by decide +kernel
theorem d_Hand_mixed_19 : decode b_Hand_mixed 19 = .ok (.aload_n 0, 1) := by decide +kernel
theorem d_Hand_mixed_20 : decode b_Hand_mixed 20 = .ok (.getfield 9, 3) := by decide +kernel
theorem d_Hand_mixed_23 : decode b_Hand_mixed 23 = .ok (.iload_n 2, 1) := by decide +kernel
theorem d_Hand_mixed_24 : decode b_Hand_mixed 24 = .ok (.baload, 1) := by decide +kernel
theorem d_Hand_mixed_25 : decode b_Hand_mixed 25 = .ok (.iadd, 1) := by decide +kernel
theorem d_Hand_mixed_26 : decode b_Hand_mixed 26 = .ok (.istore_n 1, 1) := by decide +kernel
theorem d_Hand_mixed_27 : decode b_Hand_mixed 27 = .ok (.iinc 2 1, 3) := by decide +kernel
theorem d_Hand_mixed_30 : decode b_Hand_mixed 30 = .ok (.goto (-23), 3) := by decide +kernel
theorem d_Hand_mixed_33 : decode b_Hand_mixed 33 = .ok (.iload_n 1, 1) := by decide +kernel
theorem d_Hand_mixed_34 : decode b_Hand_mixed 34 = .ok (.iload_n 1, 1) := by decide +kernel
theorem d_Hand_mixed_35 : decode b_Hand_mixed 35 = .ok (.bipush 15, 2) := by decide +kernel
theorem d_Hand_mixed_37 : decode b_Hand_mixed 37 = .ok (.iushr, 1) := by decide +kernel
theorem d_Hand_mixed_38 : decode b_Hand_mixed 38 = .ok (.ixor, 1) := by decide +kernel
theorem d_Hand_mixed_39 : decode b_Hand_mixed 39 = .ok (.ireturn, 1) := by decide +kernel
set_option maxHeartbeats 4000000 in
set_option maxRecDepth 100000 in
/-- Hand(): sixty bytes come -/
theorem c_Hand_init (l : Launch) (g : GT) (sz : Nat) (a : Nat) : Met l y_Hand_init w_Hand_init ({ frames := 1, cells := 1, slots := 60, locals := 12 } : Room) (PcW [.ref a] sz g [(a, .inr (1, [.null, .int 0]))]) (va_Qv (fun (u : Nat) => True) (BW g (va_A [(a, .inr (1, [.null, .int 0]))] sz) (fun u : Nat => [(a, .inr (1, [.ref u, .int 0])), (u, .inl (cBy g, 60, .inl (fun _ => 0)))])) (va_A [(a, .inr (1, [.null, .int 0]))] sz)) 1 60 (va_A [(a, .inr (1, [.null, .int 0]))] sz) := by
  refine Met.ofW (cc := b_Hand_init) (maxL := 1) (ret := none) (by decide) rfl ?_
  intro p e s m args below meth c s₁ B hml hv
  obtain ⟨rfl, hsz, hP, hK, hN, hD⟩ := hv
  have hx := B.exec
  have hb := B.bytes
  have hr := B.returns
  have hc : ∀ w ∈ cmn, w.before ([.ref a] : List Value).toArray s = true := fun w h => atoms_spec (ws := w_Hand_init) B.pre w (List.mem_cons_of_mem _ h)
  have hown : s.vm.findClass R_Hand = some m.cls := findClass_of_methodNamed B.named
  have hlocks := B.notSynchronized
  have hin : meth.name = "<init>" := (name_of_methodNamed B.named B.method).1
  subst hsz
  have hD := hD.self (sz := s.heap.size)
  have hS : va_S (va_A [(a, .inr (1, [.null, .int 0]))] s.heap.size) s.heap s.heap [] := va_S.rf
  have hA : ∀ q : Nat, s.heap.size ≤ q → va_A [(a, .inr (1, [.null, .int 0]))] s.heap.size q := fun q h => Or.inr h
  generalize va_A [(a, .inr (1, [.null, .int 0]))] s.heap.size = A at hD hS hA ⊢
  have hP : va_P g.1 classes [(a, .inr (1, [.null, .int 0]))] s.heap := hP
  have hD : va_D A [(a, .inr (1, [.null, .int 0]))] := hD
  have hl := lv_entry ([.ref a]) (n := 1) (Nat.le_of_ble_eq_true rfl)
  rw [lg_entry_eq]
  generalize (lg_sl ([.ref a]) ++ List.replicate (1 - (lg_sl ([.ref a])).length) Slot.unset).toArray = ls at hl ⊢
  have hl : lv_has ls 1 [(0, .ref a)] := hl
  refine lv_aload_n hx hb d_Hand_init_0 rfl (lv_at hl 0 rfl) ?_
  refine W.objInit hx hb hown (hc _ km_Hand_1) (hc _ ki_Obj_init) (hc _ kc_Obj_init) rfl (by rw [hml]; exact hl.1) rfl d_Hand_init_1 (Nat.le_of_ble_eq_true rfl) (Nat.le_of_ble_eq_true rfl) ?_
  refine W.eq (g2 := F0 m 4 ls []) rfl ?_
  refine lv_aload_n hx hb d_Hand_init_4 rfl (lv_at hl 0 rfl) ?_
  refine lv_bipush (v := 60) hx hb d_Hand_init_5 (by decide) ?_
  refine x_newa (atype := .byte) (N' := 60) (a0 := (60, .inl (fun _ => 0))) hx hb (hc _ ka_byte) hK hP hD hS hA 0 rfl (fun h => h) (fun _ => rfl) (by decide) (by decide) (by decide) (Nat.le_of_ble_eq_true rfl) (Nat.le_of_ble_eq_true rfl) d_Hand_init_7 (fun q1 H hP hD hS => ?_)
  have hP : va_P g.1 classes [(a, .inr (1, [.null, .int 0])), (q1, .inl (cBy g, 60, .inl (fun _ => 0)))] H := hP
  have hD : va_D A [(a, .inr (1, [.null, .int 0])), (q1, .inl (cBy g, 60, .inl (fun _ => 0)))] := hD
  refine va_putF (D := g.1) (ci := 1) (v := .ref q1) (ty := .array .byte) (C := R_Hand) (T := F_Hand) (N := 2) hx hb hc i_Hand t_Hand t_Hand_ok n_Hand hown hK hP hD hS 0 rfl rfl 0 (by decide) (hc _ kf_Hand_9) (fun _ h9 => h9) rfl hin rfl (by decide +kernel) rfl rfl (Nat.le_of_ble_eq_true rfl) d_Hand_init_9 (fun H locs hP hD hS => ?_)
  have hP : va_P g.1 classes [(a, .inr (1, [.ref q1, .int 0])), (q1, .inl (cBy g, 60, .inl (fun _ => 0)))] H := hP
  have hD : va_D A [(a, .inr (1, [.ref q1, .int 0])), (q1, .inl (cBy g, 60, .inl (fun _ => 0)))] := hD
  refine W.widen (k := 1) (n := 60) (Nat.le_of_ble_eq_true rfl) (Nat.le_of_ble_eq_true rfl) ?_
  exact W.vret hx hb hr (fun t9 ht9 hW9 => ⟨⟨q1, rfl, trivial, by rw [ht9]; exact hP, hD⟩, hS.F ht9⟩) hS.2.2 d_Hand_init_12
set_option maxHeartbeats 4000000 in
set_option maxRecDepth 100000 in
/-- Hand.mixed(): the hash of the bytes in the hand -/
theorem c_Hand_mixed (l : Launch) (g : GT) (sz : Nat) (a b h : Nat) (f : Nat → Int32) (hh : h ≤ 60) : Met l y_Hand_mixed w_Hand_mixed ({ frames := 0, cells := 0, slots := 0, locals := 0 } : Room) (PcW [.ref a] sz g [(a, .inr (1, [.ref b, .int (nI h)])), (b, .inl (cBy g, 60, .inl f))]) (va_Qi (fun (r : Int32) (_ : Unit) => r = mixH f h) BR (va_A [] sz)) 0 0 (va_A [] sz) := by
  refine Met.ofW (cc := b_Hand_mixed) (maxL := 3) (ret := (some .int)) (by decide) rfl ?_
  intro p e s m args below meth c s₁ B hml hv
  obtain ⟨rfl, hsz, hP, hK, hN, hD⟩ := hv
  have hx := B.exec
  have hb := B.bytes
  have hr := B.returns
  have hc : ∀ w ∈ cmn, w.before ([.ref a] : List Value).toArray s = true := fun w h => atoms_spec (ws := w_Hand_mixed) B.pre w (List.mem_cons_of_mem _ h)
  have hown : s.vm.findClass R_Hand = some m.cls := findClass_of_methodNamed B.named
  have hlocks := B.notSynchronized
  subst hsz
  have hS : va_S (va_A [] s.heap.size) s.heap s.heap [] := va_S.rf
  have hA : ∀ q : Nat, s.heap.size ≤ q → va_A [] s.heap.size q := fun q h => Or.inr h
  generalize va_A [] s.heap.size = A at hS hA ⊢
  have hP : va_P g.1 classes [(a, .inr (1, [.ref b, .int (nI h)])), (b, .inl (cBy g, 60, .inl f))] s.heap := hP
  have hl := lv_entry ([.ref a]) (n := 3) (Nat.le_of_ble_eq_true rfl)
  rw [lg_entry_eq]
  generalize (lg_sl ([.ref a]) ++ List.replicate (3 - (lg_sl ([.ref a])).length) Slot.unset).toArray = ls at hl ⊢
  have hl : lv_has ls 3 [(0, .ref a)] := hl
  refine lv_aload_n hx hb d_Hand_mixed_0 rfl (lv_at hl 0 rfl) ?_
  refine va_get (D := g.1) (ci := 1) (v := .int (nI h)) (C := R_Hand) (T := F_Hand) (N := 2) hx hb hc i_Hand hown hK hP 0 rfl rfl 1 (by decide) (hc _ kf_Hand_13) (fun _ h9 => h9) rfl d_Hand_mixed_1 ?_
  refine lv_istore_n (lv' := [(1, .int (nI h)), (0, .ref a)]) hx hb d_Hand_mixed_4 rfl hl (by decide) rfl (fun ls hl => ?_)
  refine lv_iconst (v := 0) hx hb d_Hand_mixed_5 (by decide) ?_
  refine lv_istore_n (lv' := [(2, .int 0), (1, .int (nI h)), (0, .ref a)]) hx hb d_Hand_mixed_6 rfl hl (by decide) rfl (fun ls hl => ?_)
  refine x_loopR (σ := Nat) (fun k => h - k) (fun k ls1 => k ≤ h ∧ lv_has ls1 3 [(0, .ref a), (1, .int (mixL f h k)), (2, .int (nI k))]) ?_ 0 ⟨Nat.zero_le _, lv_sub hl [2, 1, 0] rfl⟩
  rintro k ls ⟨hk, hl⟩ ih
  refine lv_iload_n hx hb d_Hand_mixed_7 rfl (lv_at hl 2 rfl) ?_
  refine lv_aload_n hx hb d_Hand_mixed_8 rfl (lv_at hl 0 rfl) ?_
  refine va_get (D := g.1) (ci := 1) (v := .int (nI h)) (C := R_Hand) (T := F_Hand) (N := 2) hx hb hc i_Hand hown hK hP 0 rfl rfl 1 (by decide) (hc _ kf_Hand_13) (fun _ h9 => h9) rfl d_Hand_mixed_9 ?_
  refine lv_icmp_ge (tgt := 33) hx hb d_Hand_mixed_12 (by decide) (fun c1 => ?_) (fun c1 => ?_)
  · have ek : k = h := by rw [nI_leI (by omega) (by omega)] at c1; omega
    subst ek
    refine lv_iload_n hx hb d_Hand_mixed_33 rfl (lv_at hl 1 rfl) ?_
    refine lv_iload_n hx hb d_Hand_mixed_34 rfl (lv_at hl 1 rfl) ?_
    refine lv_bipush (v := 15) hx hb d_Hand_mixed_35 (by decide) ?_
    refine lv_iushr (v := ((mixL f k k).toUInt32 >>> ((15 : Int32).toUInt32 &&& Int32.toUInt32 31)).toInt32) hx hb d_Hand_mixed_37 rfl ?_
    refine lv_ixor hx hb d_Hand_mixed_38 ?_
    exact W.iret (v := (mixL f k k) ^^^ (((mixL f k k).toUInt32 >>> ((15 : Int32).toUInt32 &&& Int32.toUInt32 31)).toInt32)) hx hb hr (fun t9 ht9 hW9 => ⟨⟨_, (), rfl, rfl, trivial⟩, hS.F ht9⟩) hS.2.2 d_Hand_mixed_39
  · rw [nI_leI (by omega) (by omega)] at c1
    refine lv_bipush (v := 31) hx hb d_Hand_mixed_15 (by decide) ?_
    refine lv_iload_n hx hb d_Hand_mixed_17 rfl (lv_at hl 1 rfl) ?_
    refine lv_imul hx hb d_Hand_mixed_18 ?_
    refine lv_aload_n hx hb d_Hand_mixed_19 rfl (lv_at hl 0 rfl) ?_
    refine va_get (D := g.1) (ci := 1) (v := .ref b) (C := R_Hand) (T := F_Hand) (N := 2) hx hb hc i_Hand hown hK hP 0 rfl rfl 0 (by decide) (hc _ kf_Hand_9) (fun _ h9 => h9) rfl d_Hand_mixed_20 ?_
    refine lv_iload_n hx hb d_Hand_mixed_23 rfl (lv_at hl 2 rfl) ?_
    refine x_bald hx hb hK hP 1 rfl (k := k) (by omega) (by decide) d_Hand_mixed_24 ?_
    refine lv_iadd hx hb d_Hand_mixed_25 ?_
    refine x_top (y := mixL f h (k + 1)) (rfl) ?_
    refine lv_istore_n (lv' := [(1, .int (mixL f h (k + 1))), (0, .ref a), (2, .int (nI k))]) hx hb d_Hand_mixed_26 rfl hl (by decide) rfl (fun ls hl => ?_)
    refine lv_iinc (v := nI (k + 1)) (lv' := [(2, .int (nI (k + 1))), (1, .int (mixL f h (k + 1))), (0, .ref a)]) hx hb d_Hand_mixed_27 hl (k := 2) rfl (nI_1 k) (by decide) rfl (fun ls hl => ?_)
    refine lv_goto (tgt := 7) hx hb d_Hand_mixed_30 (by decide) ?_
    exact ih (k + 1) ls ⟨by omega, lv_sub hl [2, 1, 0] rfl⟩ (by omega)
end
section
theorem d_Int_numberOfTrailingZeros_0 : decode b_Int_numberOfTrailingZeros 0 = .ok (.iload_n 0, 1) := by decide +kernel
theorem d_Int_numberOfTrailingZeros_1 : decode b_Int_numberOfTrailingZeros 1 = .ok (.iconst (-1), 1) := by decide +kernel
theorem d_Int_numberOfTrailingZeros_2 : decode b_Int_numberOfTrailingZeros 2 = .ok (.ixor, 1) := by decide +kernel
theorem d_Int_numberOfTrailingZeros_3 : decode b_Int_numberOfTrailingZeros 3 = .ok (.iload_n 0, 1) := by decide +kernel
theorem d_Int_numberOfTrailingZeros_4 : decode b_Int_numberOfTrailingZeros 4 = .ok (.iconst 1, 1) := by decide +kernel
theorem d_Int_numberOfTrailingZeros_5 : decode b_Int_numberOfTrailingZeros 5 = .ok (.isub, 1) := by decide +kernel
theorem d_Int_numberOfTrailingZeros_6 : decode b_Int_numberOfTrailingZeros 6 = .ok (.iand, 1) := by decide +kernel
theorem d_Int_numberOfTrailingZeros_7 : decode b_Int_numberOfTrailingZeros 7 = .ok (.istore_n 0, 1) := by decide +kernel
theorem d_Int_numberOfTrailingZeros_8 : decode b_Int_numberOfTrailingZeros 8 = .ok (.iload_n 0, 1) := by decide +kernel
theorem d_Int_numberOfTrailingZeros_9 : decode b_Int_numberOfTrailingZeros 9 = .ok (.ifCond .gt 8, 3) := by decide +kernel
theorem d_Int_numberOfTrailingZeros_12 : decode b_Int_numberOfTrailingZeros 12 = .ok (.iload_n 0, 1) := by decide +kernel
theorem d_Int_numberOfTrailingZeros_13 : decode b_Int_numberOfTrailingZeros 13 = .ok (.bipush 32, 2) := by decide +kernel
theorem d_Int_numberOfTrailingZeros_15 : decode b_Int_numberOfTrailingZeros 15 = .ok (.iand, 1) := by decide +kernel
theorem d_Int_numberOfTrailingZeros_16 : decode b_Int_numberOfTrailingZeros 16 = .ok (.ireturn, 1) := by decide +kernel
theorem d_Int_numberOfTrailingZeros_17 : decode b_Int_numberOfTrailingZeros 17 = .ok (.iconst 1, 1) := by decide +kernel
theorem d_Int_numberOfTrailingZeros_18 : decode b_Int_numberOfTrailingZeros 18 = .ok (.istore_n 1, 1) := by decide +kernel
theorem d_Int_numberOfTrailingZeros_19 : decode b_Int_numberOfTrailingZeros 19 = .ok (.iload_n 0, 1) := by decide +kernel
theorem d_Int_numberOfTrailingZeros_20 : decode b_Int_numberOfTrailingZeros 20 = .ok (.ldc_w 264, 3) := by decide +kernel
theorem d_Int_numberOfTrailingZeros_23 : decode b_Int_numberOfTrailingZeros 23 = .ok (.if_icmp .le 11, 3) := by decide +kernel
theorem d_Int_numberOfTrailingZeros_26 : decode b_Int_numberOfTrailingZeros 26 = .ok (.iinc 1 16, 3) := by decide +kernel
theorem d_Int_numberOfTrailingZeros_29 : decode b_Int_numberOfTrailingZeros 29 = .ok (.iload_n 0, 1) := by decide +kernel
theorem d_Int_numberOfTrailingZeros_30 : decode b_Int_numberOfTrailingZeros 30 = .ok (.bipush 16, 2) := by decide +kernel
theorem d_Int_numberOfTrailingZeros_32 : decode b_Int_numberOfTrailingZeros 32 = .ok (.iushr, 1) := by decide +kernel
theorem d_Int_numberOfTrailingZeros_33 : decode b_Int_numberOfTrailingZeros 33 = .ok (.istore_n 0, 1) := by decide +kernel
theorem d_Int_numberOfTrailingZeros_34 : decode b_Int_numberOfTrailingZeros 34 = .ok (.iload_n 0, 1) := by decide +kernel
theorem d_Int_numberOfTrailingZeros_35 : decode b_Int_numberOfTrailingZeros 35 = .ok (.sipush 256, 3) := by decide +kernel
theorem d_Int_numberOfTrailingZeros_38 : decode b_Int_numberOfTrailingZeros 38 = .ok (.if_icmp .le 11, 3) := by decide +kernel
theorem d_Int_numberOfTrailingZeros_41 : decode b_Int_numberOfTrailingZeros 41 = .ok (.iinc 1 8, 3) := by decide +kernel
theorem d_Int_numberOfTrailingZeros_44 : decode b_Int_numberOfTrailingZeros 44 = .ok (.iload_n 0, 1) := by decide +kernel
theorem d_Int_numberOfTrailingZeros_45 : decode b_Int_numberOfTrailingZeros 45 = .ok (.bipush 8, 2) := by decide +kernel
theorem d_Int_numberOfTrailingZeros_47 : decode b_Int_numberOfTrailingZeros 47 = .ok (.iushr, 1) := by decide +kernel
theorem d_Int_numberOfTrailingZeros_48 : decode b_Int_numberOfTrailingZeros 48 = .ok (.istore_n 0, 1) := by decide +kernel
theorem d_Int_numberOfTrailingZeros_49 : decode b_Int_numberOfTrailingZeros 49 = .ok (.iload_n 0, 1) := by decide +kernel
theorem d_Int_numberOfTrailingZeros_50 : decode b_Int_numberOfTrailingZeros 50 = .ok (.bipush 16, 2) := by decide +kernel
theorem d_Int_numberOfTrailingZeros_52 : decode b_Int_numberOfTrailingZeros 52 = .ok (.if_icmp .le 10, 3) := by decide +kernel
theorem d_Int_numberOfTrailingZeros_55 : decode b_Int_numberOfTrailingZeros 55 = .ok (.iinc 1 4, 3) := by decide +kernel
theorem d_Int_numberOfTrailingZeros_58 : decode b_Int_numberOfTrailingZeros 58 = .ok (.iload_n 0, 1) := by decide +kernel
theorem d_Int_numberOfTrailingZeros_59 : decode b_Int_numberOfTrailingZeros 59 = .ok (.iconst 4, 1) := by decide +kernel
theorem d_Int_numberOfTrailingZeros_60 : decode b_Int_numberOfTrailingZeros 60 = .ok (.iushr, 1) := by decide +kernel
theorem d_Int_numberOfTrailingZeros_61 : decode b_Int_numberOfTrailingZeros 61 = .ok (.istore_n 0, 1) := by decide +kernel
theorem d_Int_numberOfTrailingZeros_62 : decode b_Int_numberOfTrailingZeros 62 = .ok (.iload_n 0, 1) := by decide +kernel
theorem d_Int_numberOfTrailingZeros_63 : decode b_Int_numberOfTrailingZeros 63 = .ok (.iconst 4, 1) := by decide +kernel
theorem d_Int_numberOfTrailingZeros_64 : decode b_Int_numberOfTrailingZeros 64 = .ok (.if_icmp .le 10, 3) := by decide +kernel
theorem d_Int_numberOfTrailingZeros_67 : decode b_Int_numberOfTrailingZeros 67 = .ok (.iinc 1 2, 3) := by decide +kernel
theorem d_Int_numberOfTrailingZeros_70 : decode b_Int_numberOfTrailingZeros 70 = .ok (.iload_n 0, 1) := by decide +kernel
theorem d_Int_numberOfTrailingZeros_71 : decode b_Int_numberOfTrailingZeros 71 = .ok (.iconst 2, 1) := by decide +kernel
theorem d_Int_numberOfTrailingZeros_72 : decode b_Int_numberOfTrailingZeros 72 = .ok (.iushr, 1) := by decide +kernel
theorem d_Int_numberOfTrailingZeros_73 : decode b_Int_numberOfTrailingZeros 73 = .ok (.istore_n 0, 1) := by decide +kernel
theorem d_Int_numberOfTrailingZeros_74 : decode b_Int_numberOfTrailingZeros 74 = .ok (.iload_n 1, 1) := by decide +kernel
theorem d_Int_numberOfTrailingZeros_75 : decode b_Int_numberOfTrailingZeros 75 = .ok (.iload_n 0, 1) := by decide +kernel
theorem d_Int_numberOfTrailingZeros_76 : decode b_Int_numberOfTrailingZeros 76 = .ok (.iconst 1, 1) := by decide +kernel
theorem d_Int_numberOfTrailingZeros_77 : decode b_Int_numberOfTrailingZeros 77 = .ok (.iushr, 1) := by decide +kernel
theorem d_Int_numberOfTrailingZeros_78 : decode b_Int_numberOfTrailingZeros 78 = .ok (.iadd, 1) := by decide +kernel
theorem d_Int_numberOfTrailingZeros_79 : decode b_Int_numberOfTrailingZeros 79 = .ok (.ireturn, 1) := by decide +kernel
theorem d_Lng_numberOfTrailingZeros_0 : decode b_Lng_numberOfTrailingZeros 0 = .ok (.lload_n 0, 1) := by decide +kernel
theorem d_Lng_numberOfTrailingZeros_1 : decode b_Lng_numberOfTrailingZeros 1 = .ok (.l2i, 1) := by decide +kernel
theorem d_Lng_numberOfTrailingZeros_2 : decode b_Lng_numberOfTrailingZeros 2 = .ok (.istore_n 2, 1) := by decide +kernel
theorem d_Lng_numberOfTrailingZeros_3 : decode b_Lng_numberOfTrailingZeros 3 = .ok (.iload_n 2, 1) := by decide +kernel
theorem d_Lng_numberOfTrailingZeros_4 : decode b_Lng_numberOfTrailingZeros 4 = .ok (.ifCond .ne 17, 3) := by decide +kernel
theorem d_Lng_numberOfTrailingZeros_7 : decode b_Lng_numberOfTrailingZeros 7 = .ok (.bipush 32, 2) := by decide +kernel
theorem d_Lng_numberOfTrailingZeros_9 : decode b_Lng_numberOfTrailingZeros 9 = .ok (.lload_n 0, 1) := by decide +kernel
theorem d_Lng_numberOfTrailingZeros_10 : decode b_Lng_numberOfTrailingZeros 10 = .ok (.bipush 32, 2) := by decide +kernel
theorem d_Lng_numberOfTrailingZeros_12 : decode b_Lng_numberOfTrailingZeros 12 = .ok (.lushr, 1) := by decide +kernel
theorem d_Lng_numberOfTrailingZeros_13 : decode b_Lng_numberOfTrailingZeros 13 = .ok (.l2i, 1) := by decide +kernel
theorem d_Lng_numberOfTrailingZeros_14 : decode b_Lng_numberOfTrailingZeros 14 = .ok (.invokestatic 311, 3) := by decide +kernel
theorem d_Lng_numberOfTrailingZeros_17 : decode b_Lng_numberOfTrailingZeros 17 = .ok (.iadd, 1) := by decide +kernel
theorem d_Lng_numberOfTrailingZeros_18 : decode b_Lng_numberOfTrailingZeros 18 = .ok (.goto 7, 3) := by decide +kernel
theorem d_Lng_numberOfTrailingZeros_21 : decode b_Lng_numberOfTrailingZeros 21 = .ok (.iload_n 2, 1) := by decide +kernel
theorem d_Lng_numberOfTrailingZeros_22 : decode b_Lng_numberOfTrailingZeros 22 = .ok (.invokestatic 311, 3) := by decide +kernel
theorem d_Lng_numberOfTrailingZeros_25 : decode b_Lng_numberOfTrailingZeros 25 = .ok (.ireturn, 1) := by decide +kernel
theorem d_Lng_bitCount_0 : decode b_Lng_bitCount 0 = .ok (.lload_n 0, 1) := by decide +kernel
theorem d_Lng_bitCount_1 : decode b_Lng_bitCount 1 = .ok (.lload_n 0, 1) := by decide +kernel
theorem d_Lng_bitCount_2 : decode b_Lng_bitCount 2 = .ok (.iconst 1, 1) := by decide +kernel
theorem d_Lng_bitCount_3 : decode b_Lng_bitCount 3 = .ok (.lushr, 1) := by decide +kernel
theorem d_Lng_bitCount_4 : decode b_Lng_bitCount 4 = .ok (.ldc2_w 314, 3) := by decide +kernel
theorem d_Lng_bitCount_7 : decode b_Lng_bitCount 7 = .ok (.land, 1) := by decide +kernel
theorem d_Lng_bitCount_8 : decode b_Lng_bitCount 8 = .ok (.lsub, 1) := by decide +kernel
theorem d_Lng_bitCount_9 : decode b_Lng_bitCount 9 = .ok (.lstore_n 0, 1) := by decide +kernel
theorem d_Lng_bitCount_10 : decode b_Lng_bitCount 10 = .ok (.lload_n 0, 1) := by decide +kernel
theorem d_Lng_bitCount_11 : decode b_Lng_bitCount 11 = .ok (.ldc2_w 316, 3) := by decide +kernel
theorem d_Lng_bitCount_14 : decode b_Lng_bitCount 14 = .ok (.land, 1) := by decide +kernel
theorem d_Lng_bitCount_15 : decode b_Lng_bitCount 15 = .ok (.lload_n 0, 1) := by decide +kernel
theorem d_Lng_bitCount_16 : decode b_Lng_bitCount 16 = .ok (.iconst 2, 1) := by decide +kernel
theorem d_Lng_bitCount_17 : decode b_Lng_bitCount 17 = .ok (.lushr, 1) := by decide +kernel
theorem d_Lng_bitCount_18 : decode b_Lng_bitCount 18 = .ok (.ldc2_w 316, 3) := by decide +kernel
theorem d_Lng_bitCount_21 : decode b_Lng_bitCount 21 = .ok (.land, 1) := by decide +kernel
theorem d_Lng_bitCount_22 : decode b_Lng_bitCount 22 = .ok (.ladd, 1) := by decide +kernel
theorem d_Lng_bitCount_23 : decode b_Lng_bitCount 23 = .ok (.lstore_n 0, 1) := by decide +kernel
theorem d_Lng_bitCount_24 : decode b_Lng_bitCount 24 = .ok (.lload_n 0, 1) := by decide +kernel
theorem d_Lng_bitCount_25 : decode b_Lng_bitCount 25 = .ok (.lload_n 0, 1) := by decide +kernel
theorem d_Lng_bitCount_26 : decode b_Lng_bitCount 26 = .ok (.iconst 4, 1) := by decide +kernel
theorem d_Lng_bitCount_27 : decode b_Lng_bitCount 27 = .ok (.lushr, 1) := by decide +kernel
theorem d_Lng_bitCount_28 : decode b_Lng_bitCount 28 = .ok (.ladd, 1) := by decide +kernel
theorem d_Lng_bitCount_29 : decode b_Lng_bitCount 29 = .ok (.ldc2_w 318, 3) := by decide +kernel
theorem d_Lng_bitCount_32 : decode b_Lng_bitCount 32 = .ok (.land, 1) := by decide +kernel
theorem d_Lng_bitCount_33 : decode b_Lng_bitCount 33 = .ok (.lstore_n 0, 1) := by decide +kernel
theorem d_Lng_bitCount_34 : decode b_Lng_bitCount 34 = .ok (.lload_n 0, 1) := by decide +kernel
theorem d_Lng_bitCount_35 : decode b_Lng_bitCount 35 = .ok (.lload_n 0, 1) := by decide +kernel
theorem d_Lng_bitCount_36 : decode b_Lng_bitCount 36 = .ok (.bipush 8, 2) := by decide +kernel
theorem d_Lng_bitCount_38 : decode b_Lng_bitCount 38 = .ok (.lushr, 1) := by decide +kernel
theorem d_Lng_bitCount_39 : decode b_Lng_bitCount 39 = .ok (.ladd, 1) := by decide +kernel
theorem d_Lng_bitCount_40 : decode b_Lng_bitCount 40 = .ok (.lstore_n 0, 1) := by decide +kernel
theorem d_Lng_bitCount_41 : decode b_Lng_bitCount 41 = .ok (.lload_n 0, 1) := by decide +kernel
theorem d_Lng_bitCount_42 : decode b_Lng_bitCount 42 = .ok (.lload_n 0, 1) := by decide +kernel
theorem d_Lng_bitCount_43 : decode b_Lng_bitCount 43 = .ok (.bipush 16, 2) := by decide +kernel
theorem d_Lng_bitCount_45 : decode b_Lng_bitCount 45 = .ok (.lushr, 1) := by decide +kernel
theorem d_Lng_bitCount_46 : decode b_Lng_bitCount 46 = .ok (.ladd, 1) := by decide +kernel
theorem d_Lng_bitCount_47 : decode b_Lng_bitCount 47 = .ok (.lstore_n 0, 1) := by decide +kernel
theorem d_Lng_bitCount_48 : decode b_Lng_bitCount 48 = .ok (.lload_n 0, 1) := by decide +kernel
theorem d_Lng_bitCount_49 : decode b_Lng_bitCount 49 = .ok (.lload_n 0, 1) := by decide +kernel
theorem d_Lng_bitCount_50 : decode b_Lng_bitCount 50 = .ok (.bipush 32, 2) := by decide +kernel
theorem d_Lng_bitCount_52 : decode b_Lng_bitCount 52 = .ok (.lushr, 1) := by decide +kernel
theorem d_Lng_bitCount_53 : decode b_Lng_bitCount 53 = .ok (.ladd, 1) := by decide +kernel
theorem d_Lng_bitCount_54 : decode b_Lng_bitCount 54 = .ok (.lstore_n 0, 1) := by decide +kernel
theorem d_Lng_bitCount_55 : decode b_Lng_bitCount 55 = .ok (.lload_n 0, 1) := by decide +kernel
theorem d_Lng_bitCount_56 : decode b_Lng_bitCount 56 = .ok (.l2i, 1) := by decide +kernel
theorem d_Lng_bitCount_57 : decode b_Lng_bitCount 57 = .ok (.bipush 127, 2) := by decide +kernel
theorem d_Lng_bitCount_59 : decode b_Lng_bitCount 59 = .ok (.iand, 1) := by decide +kernel
theorem d_Lng_bitCount_60 : decode b_Lng_bitCount 60 = .ok (.ireturn, 1) := by decide +kernel
set_option maxHeartbeats 4000000 in
set_option maxRecDepth 100000 in
/-- Integer.numberOfTrailingZeros: the place of the lowest bit -/
theorem c_Int_ntz (l : Launch) (g : GT) (sz : Nat) (X t q : Nat) (hX : X < 2 ^ 32) (ht : t < 32) (hq : X = 2 ^ t * (2 * q + 1)) : Met l y_Int_numberOfTrailingZeros w_Int_numberOfTrailingZeros ({ frames := 0, cells := 0, slots := 0, locals := 0 } : Room) (PcW [.int (nI X)] sz g []) (va_Qi (fun (r : Int32) (_ : Unit) => r = nI t) BR (va_A [] sz)) 0 0 (va_A [] sz) := by
  refine Met.ofW (cc := b_Int_numberOfTrailingZeros) (maxL := 2) (ret := (some .int)) (by decide) rfl ?_
  intro p e s m args below meth c s₁ B hml hv
  obtain ⟨rfl, hsz, hP, hK, hN, hD⟩ := hv
  have hx := B.exec
  have hb := B.bytes
  have hr := B.returns
  have hc : ∀ w ∈ cmn, w.before ([.int (nI X)] : List Value).toArray s = true := fun w h => atoms_spec (ws := w_Int_numberOfTrailingZeros) B.pre w (List.mem_cons_of_mem _ h)
  have hown : s.vm.findClass R_Int = some m.cls := findClass_of_methodNamed B.named
  have hlocks := B.notSynchronized
  subst hsz
  have hS : va_S (va_A [] s.heap.size) s.heap s.heap [] := va_S.rf
  have hA : ∀ q : Nat, s.heap.size ≤ q → va_A [] s.heap.size q := fun q h => Or.inr h
  generalize va_A [] s.heap.size = A at hS hA ⊢
  have hP : va_P g.1 classes [] s.heap := hP
  have hl := lv_entry ([.int (nI X)]) (n := 2) (Nat.le_of_ble_eq_true rfl)
  rw [lg_entry_eq]
  generalize (lg_sl ([.int (nI X)]) ++ List.replicate (2 - (lg_sl ([.int (nI X)])).length) Slot.unset).toArray = ls at hl ⊢
  have hl : lv_has ls 2 [(0, .int (nI X))] := hl
  refine lv_iload_n hx hb d_Int_numberOfTrailingZeros_0 rfl (lv_at hl 0 rfl) ?_
  refine lv_iconst (v := (-1)) hx hb d_Int_numberOfTrailingZeros_1 (by decide) ?_
  refine lv_ixor hx hb d_Int_numberOfTrailingZeros_2 ?_
  refine lv_iload_n hx hb d_Int_numberOfTrailingZeros_3 rfl (lv_at hl 0 rfl) ?_
  refine lv_iconst (v := 1) hx hb d_Int_numberOfTrailingZeros_4 (by decide) ?_
  refine lv_isub hx hb d_Int_numberOfTrailingZeros_5 ?_
  refine lv_iand hx hb d_Int_numberOfTrailingZeros_6 ?_
  refine x_top (y := nI (2 ^ t - 1)) (low_and hX ht hq) ?_
  have hnz := nz_ok t ht
  generalize nI (2 ^ t - 1) = i0 at hnz ⊢
  refine lv_istore_n (lv' := [(0, .int i0)]) hx hb d_Int_numberOfTrailingZeros_7 rfl hl (by decide) rfl (fun ls hl => ?_)
  refine lv_iload_n hx hb d_Int_numberOfTrailingZeros_8 rfl (lv_at hl 0 rfl) ?_
  refine lv_if_gt (tgt := 17) hx hb d_Int_numberOfTrailingZeros_9 (by decide) (fun c1 => ?_) (fun c1 => ?_)
  · have hnz := hnz.1 c1
    refine lv_iconst (v := 1) hx hb d_Int_numberOfTrailingZeros_17 (by decide) ?_
    refine lv_istore_n (lv' := [(1, .int 1), (0, .int i0)]) hx hb d_Int_numberOfTrailingZeros_18 rfl hl (by decide) rfl (fun ls hl => ?_)
    refine x_joinL (rest := []) 34 (fun ls1 => lv_has ls1 2 [(0, .int (nz1 i0).1), (1, .int (nz1 i0).2)]) (fun ls hl => ?_) (fun kj => ?_)
    · refine x_joinL (rest := []) 49 (fun ls1 => lv_has ls1 2 [(0, .int (nz2 (nz1 i0)).1), (1, .int (nz2 (nz1 i0)).2)]) (fun ls hl => ?_) (fun kj => ?_)
      · refine x_joinL (rest := []) 62 (fun ls1 => lv_has ls1 2 [(0, .int (nz3 (nz2 (nz1 i0))).1), (1, .int (nz3 (nz2 (nz1 i0))).2)]) (fun ls hl => ?_) (fun kj => ?_)
        · refine x_joinL (rest := []) 74 (fun ls1 => lv_has ls1 2 [(0, .int (nz4 (nz3 (nz2 (nz1 i0)))).1), (1, .int (nz4 (nz3 (nz2 (nz1 i0)))).2)]) (fun ls hl => ?_) (fun kj => ?_)
          · refine lv_iload_n hx hb d_Int_numberOfTrailingZeros_74 rfl (lv_at hl 1 rfl) ?_
            refine lv_iload_n hx hb d_Int_numberOfTrailingZeros_75 rfl (lv_at hl 0 rfl) ?_
            refine lv_iconst (v := 1) hx hb d_Int_numberOfTrailingZeros_76 (by decide) ?_
            refine lv_iushr (v := (((nz4 (nz3 (nz2 (nz1 i0)))).1).toUInt32 >>> ((1 : Int32).toUInt32 &&& Int32.toUInt32 31)).toInt32) hx hb d_Int_numberOfTrailingZeros_77 rfl ?_
            refine lv_iadd hx hb d_Int_numberOfTrailingZeros_78 ?_
            exact W.iret (v := ((nz4 (nz3 (nz2 (nz1 i0)))).2) + ((((nz4 (nz3 (nz2 (nz1 i0)))).1).toUInt32 >>> ((1 : Int32).toUInt32 &&& Int32.toUInt32 31)).toInt32)) hx hb hr (fun t9 ht9 hW9 => ⟨⟨_, (), rfl, hnz, trivial⟩, hS.F ht9⟩) hS.2.2 d_Int_numberOfTrailingZeros_79
          · refine lv_iload_n hx hb d_Int_numberOfTrailingZeros_62 rfl (lv_at hl 0 rfl) ?_
            refine lv_iconst (v := 4) hx hb d_Int_numberOfTrailingZeros_63 (by decide) ?_
            refine lv_icmp_le (tgt := 74) hx hb d_Int_numberOfTrailingZeros_64 (by decide) (fun c2 => ?_) (fun c2 => ?_)
            · have e2 : nz4 (nz3 (nz2 (nz1 i0))) = nz3 (nz2 (nz1 i0)) := if_pos c2
              exact kj ls (by rw [e2]; exact lv_sub hl [0, 1] rfl)
            · refine lv_iinc (v := (nz3 (nz2 (nz1 i0))).2 + 2) (lv' := [(1, .int ((nz3 (nz2 (nz1 i0))).2 + 2)), (0, .int ((nz3 (nz2 (nz1 i0))).1))]) hx hb d_Int_numberOfTrailingZeros_67 hl (k := 1) rfl (rfl) (by decide) rfl (fun ls hl => ?_)
              refine lv_iload_n hx hb d_Int_numberOfTrailingZeros_70 rfl (lv_at hl 1 rfl) ?_
              refine lv_iconst (v := 2) hx hb d_Int_numberOfTrailingZeros_71 (by decide) ?_
              refine lv_iushr (v := (((nz3 (nz2 (nz1 i0))).1).toUInt32 >>> ((2 : Int32).toUInt32 &&& Int32.toUInt32 31)).toInt32) hx hb d_Int_numberOfTrailingZeros_72 rfl ?_
              refine lv_istore_n (lv' := [(0, .int ((((nz3 (nz2 (nz1 i0))).1).toUInt32 >>> ((2 : Int32).toUInt32 &&& Int32.toUInt32 31)).toInt32)), (1, .int ((nz3 (nz2 (nz1 i0))).2 + 2))]) hx hb d_Int_numberOfTrailingZeros_73 rfl hl (by decide) rfl (fun ls hl => ?_)
              have e2 : nz4 (nz3 (nz2 (nz1 i0))) = ((((nz3 (nz2 (nz1 i0))).1).toUInt32 >>> ((2 : Int32).toUInt32 &&& Int32.toUInt32 31)).toInt32, (nz3 (nz2 (nz1 i0))).2 + 2) := if_neg c2
              exact kj ls (by rw [e2]; exact lv_sub hl [0, 1] rfl)
        · refine lv_iload_n hx hb d_Int_numberOfTrailingZeros_49 rfl (lv_at hl 0 rfl) ?_
          refine lv_bipush (v := 16) hx hb d_Int_numberOfTrailingZeros_50 (by decide) ?_
          refine lv_icmp_le (tgt := 62) hx hb d_Int_numberOfTrailingZeros_52 (by decide) (fun c2 => ?_) (fun c2 => ?_)
          · have e2 : nz3 (nz2 (nz1 i0)) = nz2 (nz1 i0) := if_pos c2
            exact kj ls (by rw [e2]; exact lv_sub hl [0, 1] rfl)
          · refine lv_iinc (v := (nz2 (nz1 i0)).2 + 4) (lv' := [(1, .int ((nz2 (nz1 i0)).2 + 4)), (0, .int ((nz2 (nz1 i0)).1))]) hx hb d_Int_numberOfTrailingZeros_55 hl (k := 1) rfl (rfl) (by decide) rfl (fun ls hl => ?_)
            refine lv_iload_n hx hb d_Int_numberOfTrailingZeros_58 rfl (lv_at hl 1 rfl) ?_
            refine lv_iconst (v := 4) hx hb d_Int_numberOfTrailingZeros_59 (by decide) ?_
            refine lv_iushr (v := (((nz2 (nz1 i0)).1).toUInt32 >>> ((4 : Int32).toUInt32 &&& Int32.toUInt32 31)).toInt32) hx hb d_Int_numberOfTrailingZeros_60 rfl ?_
            refine lv_istore_n (lv' := [(0, .int ((((nz2 (nz1 i0)).1).toUInt32 >>> ((4 : Int32).toUInt32 &&& Int32.toUInt32 31)).toInt32)), (1, .int ((nz2 (nz1 i0)).2 + 4))]) hx hb d_Int_numberOfTrailingZeros_61 rfl hl (by decide) rfl (fun ls hl => ?_)
            have e2 : nz3 (nz2 (nz1 i0)) = ((((nz2 (nz1 i0)).1).toUInt32 >>> ((4 : Int32).toUInt32 &&& Int32.toUInt32 31)).toInt32, (nz2 (nz1 i0)).2 + 4) := if_neg c2
            exact kj ls (by rw [e2]; exact lv_sub hl [0, 1] rfl)
      · refine lv_iload_n hx hb d_Int_numberOfTrailingZeros_34 rfl (lv_at hl 0 rfl) ?_
        refine lv_sipush (v := 256) hx hb d_Int_numberOfTrailingZeros_35 (by decide) ?_
        refine lv_icmp_le (tgt := 49) hx hb d_Int_numberOfTrailingZeros_38 (by decide) (fun c2 => ?_) (fun c2 => ?_)
        · have e2 : nz2 (nz1 i0) = nz1 i0 := if_pos c2
          exact kj ls (by rw [e2]; exact lv_sub hl [0, 1] rfl)
        · refine lv_iinc (v := (nz1 i0).2 + 8) (lv' := [(1, .int ((nz1 i0).2 + 8)), (0, .int ((nz1 i0).1))]) hx hb d_Int_numberOfTrailingZeros_41 hl (k := 1) rfl (rfl) (by decide) rfl (fun ls hl => ?_)
          refine lv_iload_n hx hb d_Int_numberOfTrailingZeros_44 rfl (lv_at hl 1 rfl) ?_
          refine lv_bipush (v := 8) hx hb d_Int_numberOfTrailingZeros_45 (by decide) ?_
          refine lv_iushr (v := (((nz1 i0).1).toUInt32 >>> ((8 : Int32).toUInt32 &&& Int32.toUInt32 31)).toInt32) hx hb d_Int_numberOfTrailingZeros_47 rfl ?_
          refine lv_istore_n (lv' := [(0, .int ((((nz1 i0).1).toUInt32 >>> ((8 : Int32).toUInt32 &&& Int32.toUInt32 31)).toInt32)), (1, .int ((nz1 i0).2 + 8))]) hx hb d_Int_numberOfTrailingZeros_48 rfl hl (by decide) rfl (fun ls hl => ?_)
          have e2 : nz2 (nz1 i0) = ((((nz1 i0).1).toUInt32 >>> ((8 : Int32).toUInt32 &&& Int32.toUInt32 31)).toInt32, (nz1 i0).2 + 8) := if_neg c2
          exact kj ls (by rw [e2]; exact lv_sub hl [0, 1] rfl)
    · refine lv_iload_n hx hb d_Int_numberOfTrailingZeros_19 rfl (lv_at hl 1 rfl) ?_
      refine lv_ldcw (v := 65536) hx hb hown (hc _ kq_Int_264) d_Int_numberOfTrailingZeros_20 ?_
      refine lv_icmp_le (tgt := 34) hx hb d_Int_numberOfTrailingZeros_23 (by decide) (fun c2 => ?_) (fun c2 => ?_)
      · have e2 : nz1 i0 = (i0, 1) := if_pos c2
        exact kj ls (by rw [e2]; exact lv_sub hl [1, 0] rfl)
      · refine lv_iinc (v := 1 + 16) (lv' := [(1, .int (1 + 16)), (0, .int i0)]) hx hb d_Int_numberOfTrailingZeros_26 hl (k := 0) rfl (rfl) (by decide) rfl (fun ls hl => ?_)
        refine lv_iload_n hx hb d_Int_numberOfTrailingZeros_29 rfl (lv_at hl 1 rfl) ?_
        refine lv_bipush (v := 16) hx hb d_Int_numberOfTrailingZeros_30 (by decide) ?_
        refine lv_iushr (v := (i0.toUInt32 >>> ((16 : Int32).toUInt32 &&& Int32.toUInt32 31)).toInt32) hx hb d_Int_numberOfTrailingZeros_32 rfl ?_
        refine lv_istore_n (lv' := [(0, .int ((i0.toUInt32 >>> ((16 : Int32).toUInt32 &&& Int32.toUInt32 31)).toInt32)), (1, .int (1 + 16))]) hx hb d_Int_numberOfTrailingZeros_33 rfl hl (by decide) rfl (fun ls hl => ?_)
        have e2 : nz1 i0 = ((i0.toUInt32 >>> ((16 : Int32).toUInt32 &&& Int32.toUInt32 31)).toInt32, 1 + 16) := if_neg c2
        exact kj ls (by rw [e2]; exact lv_sub hl [0, 1] rfl)
  · refine lv_iload_n hx hb d_Int_numberOfTrailingZeros_12 rfl (lv_at hl 0 rfl) ?_
    refine lv_bipush (v := 32) hx hb d_Int_numberOfTrailingZeros_13 (by decide) ?_
    refine lv_iand hx hb d_Int_numberOfTrailingZeros_15 ?_
    exact W.iret (v := i0 &&& 32) hx hb hr (fun t9 ht9 hW9 => ⟨⟨_, (), rfl, hnz.2 c1, trivial⟩, hS.F ht9⟩) hS.2.2 d_Int_numberOfTrailingZeros_16
set_option maxHeartbeats 4000000 in
set_option maxRecDepth 100000 in
/-- Long.numberOfTrailingZeros -/
theorem c_Lng_ntz (l : Launch) (g : GT) (sz : Nat) (X t q : Nat) (hX : X < 2 ^ 64) (ht : t < 64) (hq : X = 2 ^ t * (2 * q + 1)) : Met l y_Lng_numberOfTrailingZeros w_Lng_numberOfTrailingZeros ({ frames := 1, cells := 0, slots := 0, locals := 21 } : Room) (PcW [.long (lN X)] sz g []) (va_Qi (fun (r : Int32) (_ : Unit) => r = nI t) BR (va_A [] sz)) 0 0 (va_A [] sz) := by
  refine Met.ofW (cc := b_Lng_numberOfTrailingZeros) (maxL := 3) (ret := (some .int)) (by decide) rfl ?_
  intro p e s m args below meth c s₁ B hml hv
  obtain ⟨rfl, hsz, hP, hK, hN, hD⟩ := hv
  have hx := B.exec
  have hb := B.bytes
  have hr := B.returns
  have hc : ∀ w ∈ cmn, w.before ([.long (lN X)] : List Value).toArray s = true := fun w h => atoms_spec (ws := w_Lng_numberOfTrailingZeros) B.pre w (List.mem_cons_of_mem _ h)
  have hown : s.vm.findClass R_Lng = some m.cls := findClass_of_methodNamed B.named
  have hlocks := B.notSynchronized
  subst hsz
  have hS : va_S (va_A [] s.heap.size) s.heap s.heap [] := va_S.rf
  have hA : ∀ q : Nat, s.heap.size ≤ q → va_A [] s.heap.size q := fun q h => Or.inr h
  generalize va_A [] s.heap.size = A at hS hA ⊢
  have hP : va_P g.1 classes [] s.heap := hP
  have hl := lv_entry ([.long (lN X)]) (n := 3) (Nat.le_of_ble_eq_true rfl)
  rw [lg_entry_eq]
  generalize (lg_sl ([.long (lN X)]) ++ List.replicate (3 - (lg_sl ([.long (lN X)])).length) Slot.unset).toArray = ls at hl ⊢
  have hl : lv_has ls 3 [(0, .long (lN X))] := hl
  refine lv_lload_n hx hb d_Lng_numberOfTrailingZeros_0 rfl (lv_at hl 0 rfl) ?_
  refine lv_l2i (v := (lN X).toInt32) hx hb d_Lng_numberOfTrailingZeros_1 rfl ?_
  refine x_top (y := nI X) (lN_i X) ?_
  refine lv_istore_n (lv' := [(2, .int (nI X)), (0, .long (lN X))]) hx hb d_Lng_numberOfTrailingZeros_2 rfl hl (by decide) rfl (fun ls hl => ?_)
  refine lv_iload_n hx hb d_Lng_numberOfTrailingZeros_3 rfl (lv_at hl 0 rfl) ?_
  refine lv_if_ne (tgt := 21) hx hb d_Lng_numberOfTrailingZeros_4 (by decide) (fun c1 => ?_) (fun c1 => ?_)
  · have h32 : t < 32 := by
      rcases Nat.lt_or_ge t 32 with z | z
      · exact z
      · exact absurd (low_hi hq z).1 c1
    obtain ⟨q', eq'⟩ := low_lo hq h32
    refine lv_iload_n hx hb d_Lng_numberOfTrailingZeros_21 rfl (lv_at hl 0 rfl) ?_
    refine x_top (y := nI (X % 2 ^ 32)) (nI_mod X) ?_
    refine x_cri (x_runS (As := [.int (nI (X % 2 ^ 32))]) (rest := []) ⟨hx, hb, hml, hown, hc⟩ (c_Int_ntz l g _ (X % 2 ^ 32) t q' (Nat.mod_lt _ (by decide)) h32 eq') (va_cwS 1 hc (good_S km_Lng_311 kt_Int_numberOfTrailingZeros kn_Int kc_Int_numberOfTrailingZeros) rfl rfl rfl (by decide +kernel) ⟨Nat.le_of_ble_eq_true rfl, Nat.le_of_ble_eq_true rfl⟩) hP hD hK hN [] (by decide) rfl rfl hl.1 rfl (Nat.le_of_ble_eq_true rfl) d_Lng_numberOfTrailingZeros_22 ⟨Nat.le_of_ble_eq_true rfl, Nat.le_of_ble_eq_true rfl⟩) hP hS hA (fun r H locs hw hP hS => ?_)
    exact W.iret (v := r) hx hb hr (fun t9 ht9 hW9 => ⟨⟨_, (), rfl, hw, trivial⟩, hS.F ht9⟩) hS.2.2 d_Lng_numberOfTrailingZeros_25
  · have h32 : 32 ≤ t := by
      rcases Nat.lt_or_ge t 32 with z | z
      · exact absurd c1 (low_ne hq z)
      · exact z
    have hh := (low_hi hq h32).2
    have h64 : X / 2 ^ 32 < 2 ^ 32 := by omega
    refine lv_bipush (v := 32) hx hb d_Lng_numberOfTrailingZeros_7 (by decide) ?_
    refine lv_lload_n hx hb d_Lng_numberOfTrailingZeros_9 rfl (lv_at hl 1 rfl) ?_
    refine lv_bipush (v := 32) hx hb d_Lng_numberOfTrailingZeros_10 (by decide) ?_
    refine lv_lushr (v := ((lN X).toUInt64 >>> ((32 : Int32).toInt64.toUInt64 &&& Int64.toUInt64 63)).toInt64) hx hb d_Lng_numberOfTrailingZeros_12 rfl ?_
    refine x_topl (y := lN (X / 2 ^ 32)) (wb_shr (k := 32) hX (by decide)) ?_
    refine lv_l2i (v := (lN (X / 2 ^ 32)).toInt32) hx hb d_Lng_numberOfTrailingZeros_13 rfl ?_
    refine x_top (y := nI (X / 2 ^ 32)) (lN_i _) ?_
    refine x_cri (x_runS (As := [.int (nI (X / 2 ^ 32))]) (rest := [.int 32]) ⟨hx, hb, hml, hown, hc⟩ (c_Int_ntz l g _ (X / 2 ^ 32) (t - 32) q h64 (by omega) hh) (va_cwS 1 hc (good_S km_Lng_311 kt_Int_numberOfTrailingZeros kn_Int kc_Int_numberOfTrailingZeros) rfl rfl rfl (by decide +kernel) ⟨Nat.le_of_ble_eq_true rfl, Nat.le_of_ble_eq_true rfl⟩) hP hD hK hN [] (by decide) rfl rfl hl.1 rfl (Nat.le_of_ble_eq_true rfl) d_Lng_numberOfTrailingZeros_14 ⟨Nat.le_of_ble_eq_true rfl, Nat.le_of_ble_eq_true rfl⟩) hP hS hA (fun r H locs hw hP hS => ?_)
    refine lv_iadd hx hb d_Lng_numberOfTrailingZeros_17 ?_
    refine lv_goto (tgt := 25) hx hb d_Lng_numberOfTrailingZeros_18 (by decide) ?_
    exact W.iret (v := 32 + r) hx hb hr (fun t9 ht9 hW9 => ⟨⟨_, (), rfl, by show 32 + r = nI t; rw [hw]; exact (nI_add 32 (t - 32)).trans (by congr 1; omega), trivial⟩, hS.F ht9⟩) hS.2.2 d_Lng_numberOfTrailingZeros_25
set_option maxHeartbeats 4000000 in
set_option maxRecDepth 100000 in
/-- Long.bitCount: how many bits are set -/
theorem c_Lng_bitCount (l : Launch) (g : GT) (sz : Nat) (X : Nat) (hX : X < 2 ^ 64) : Met l y_Lng_bitCount w_Lng_bitCount ({ frames := 0, cells := 0, slots := 0, locals := 0 } : Room) (PcW [.long (lN X)] sz g []) (va_Qi (fun (r : Int32) (_ : Unit) => r = nI (cnt (fun i => X.testBit i) 64)) BR (va_A [] sz)) 0 0 (va_A [] sz) := by
  refine Met.ofW (cc := b_Lng_bitCount) (maxL := 2) (ret := (some .int)) (by decide) rfl ?_
  intro p e s m args below meth c s₁ B hml hv
  obtain ⟨rfl, hsz, hP, hK, hN, hD⟩ := hv
  have hx := B.exec
  have hb := B.bytes
  have hr := B.returns
  have hc : ∀ w ∈ cmn, w.before ([.long (lN X)] : List Value).toArray s = true := fun w h => atoms_spec (ws := w_Lng_bitCount) B.pre w (List.mem_cons_of_mem _ h)
  have hown : s.vm.findClass R_Lng = some m.cls := findClass_of_methodNamed B.named
  have hlocks := B.notSynchronized
  subst hsz
  have hS : va_S (va_A [] s.heap.size) s.heap s.heap [] := va_S.rf
  have hA : ∀ q : Nat, s.heap.size ≤ q → va_A [] s.heap.size q := fun q h => Or.inr h
  generalize va_A [] s.heap.size = A at hS hA ⊢
  have hP : va_P g.1 classes [] s.heap := hP
  have hl := lv_entry ([.long (lN X)]) (n := 2) (Nat.le_of_ble_eq_true rfl)
  rw [lg_entry_eq]
  generalize (lg_sl ([.long (lN X)]) ++ List.replicate (2 - (lg_sl ([.long (lN X)])).length) Slot.unset).toArray = ls at hl ⊢
  have hl : lv_has ls 2 [(0, .long (lN X))] := hl
  obtain ⟨x1, x2, x3, hle, h1, b1, h2, b2, h3, h4⟩ := pop_lanes hX
  have hpb : ∀ j, pcb (byt X j) ≤ 8 := fun j => pb_6 _ (Nat.mod_lt _ (by decide))
  have b3 : x3 < 2 ^ 60 := by rw [h4]; exact pop_b hpb
  obtain ⟨x4, h5⟩ : ∃ z, z = x3 + x3 / 256 := ⟨_, rfl⟩
  obtain ⟨x5, h6⟩ : ∃ z, z = x4 + x4 / 65536 := ⟨_, rfl⟩
  obtain ⟨x6, h7⟩ : ∃ z, z = x5 + x5 / 4294967296 := ⟨_, rfl⟩
  have b4 : x4 < 2 ^ 61 := by omega
  have b5 : x5 < 2 ^ 62 := by omega
  have b6 : x6 < 2 ^ 63 := by omega
  have hsum := pop_sum hpb h4 h5 h6 h7
  refine lv_lload_n hx hb d_Lng_bitCount_0 rfl (lv_at hl 0 rfl) ?_
  refine lv_lload_n hx hb d_Lng_bitCount_1 rfl (lv_at hl 0 rfl) ?_
  refine lv_iconst (v := 1) hx hb d_Lng_bitCount_2 (by decide) ?_
  refine lv_lushr (v := ((lN X).toUInt64 >>> ((1 : Int32).toInt64.toUInt64 &&& Int64.toUInt64 63)).toInt64) hx hb d_Lng_bitCount_3 rfl ?_
  refine x_topl (y := lN (X / 2)) (wb_shr (k := 1) hX (by decide)) ?_
  refine lv_ldc2 (v := 6148914691236517205) hx hb hown (hc _ kq_Lng_314) d_Lng_bitCount_4 ?_
  refine lv_land hx hb d_Lng_bitCount_7 ?_
  refine x_topl (y := lN (X / 2 &&& 6148914691236517205)) (wb_and (b := 6148914691236517205) (by omega) (by decide)) ?_
  refine lv_lsub hx hb d_Lng_bitCount_8 ?_
  refine x_topl (y := lN x1) (by rw [h1]; exact lN_sub hle) ?_
  refine lv_lstore_n (lv' := [(0, .long (lN x1))]) hx hb d_Lng_bitCount_9 rfl hl (by decide) rfl (fun ls hl => ?_)
  refine lv_lload_n hx hb d_Lng_bitCount_10 rfl (lv_at hl 0 rfl) ?_
  refine lv_ldc2 (v := 3689348814741910323) hx hb hown (hc _ kq_Lng_316) d_Lng_bitCount_11 ?_
  refine lv_land hx hb d_Lng_bitCount_14 ?_
  refine x_topl (y := lN (x1 &&& 3689348814741910323)) (wb_and (b := 3689348814741910323) b1 (by decide)) ?_
  refine lv_lload_n hx hb d_Lng_bitCount_15 rfl (lv_at hl 0 rfl) ?_
  refine lv_iconst (v := 2) hx hb d_Lng_bitCount_16 (by decide) ?_
  refine lv_lushr (v := ((lN x1).toUInt64 >>> ((2 : Int32).toInt64.toUInt64 &&& Int64.toUInt64 63)).toInt64) hx hb d_Lng_bitCount_17 rfl ?_
  refine x_topl (y := lN (x1 / 4)) (wb_shr (k := 2) b1 (by decide)) ?_
  refine lv_ldc2 (v := 3689348814741910323) hx hb hown (hc _ kq_Lng_316) d_Lng_bitCount_18 ?_
  refine lv_land hx hb d_Lng_bitCount_21 ?_
  refine x_topl (y := lN (x1 / 4 &&& 3689348814741910323)) (wb_and (b := 3689348814741910323) (by omega) (by decide)) ?_
  refine lv_ladd hx hb d_Lng_bitCount_22 ?_
  refine x_topl (y := lN x2) (by rw [h2]; exact lN_add _ _) ?_
  refine lv_lstore_n (lv' := [(0, .long (lN x2))]) hx hb d_Lng_bitCount_23 rfl hl (by decide) rfl (fun ls hl => ?_)
  refine lv_lload_n hx hb d_Lng_bitCount_24 rfl (lv_at hl 0 rfl) ?_
  refine lv_lload_n hx hb d_Lng_bitCount_25 rfl (lv_at hl 0 rfl) ?_
  refine lv_iconst (v := 4) hx hb d_Lng_bitCount_26 (by decide) ?_
  refine lv_lushr (v := ((lN x2).toUInt64 >>> ((4 : Int32).toInt64.toUInt64 &&& Int64.toUInt64 63)).toInt64) hx hb d_Lng_bitCount_27 rfl ?_
  refine x_topl (y := lN (x2 / 16)) (wb_shr (k := 4) (by omega) (by decide)) ?_
  refine lv_ladd hx hb d_Lng_bitCount_28 ?_
  refine x_topl (y := lN (x2 + x2 / 16)) (lN_add _ _) ?_
  refine lv_ldc2 (v := 1085102592571150095) hx hb hown (hc _ kq_Lng_318) d_Lng_bitCount_29 ?_
  refine lv_land hx hb d_Lng_bitCount_32 ?_
  refine x_topl (y := lN x3) (by rw [h3]; exact wb_and (b := 1085102592571150095) (by omega) (by decide)) ?_
  refine lv_lstore_n (lv' := [(0, .long (lN x3))]) hx hb d_Lng_bitCount_33 rfl hl (by decide) rfl (fun ls hl => ?_)
  refine lv_lload_n hx hb d_Lng_bitCount_34 rfl (lv_at hl 0 rfl) ?_
  refine lv_lload_n hx hb d_Lng_bitCount_35 rfl (lv_at hl 0 rfl) ?_
  refine lv_bipush (v := 8) hx hb d_Lng_bitCount_36 (by decide) ?_
  refine lv_lushr (v := ((lN x3).toUInt64 >>> ((8 : Int32).toInt64.toUInt64 &&& Int64.toUInt64 63)).toInt64) hx hb d_Lng_bitCount_38 rfl ?_
  refine x_topl (y := lN (x3 / 256)) (wb_shr (k := 8) (by omega) (by decide)) ?_
  refine lv_ladd hx hb d_Lng_bitCount_39 ?_
  refine x_topl (y := lN x4) (by rw [h5]; exact lN_add _ _) ?_
  refine lv_lstore_n (lv' := [(0, .long (lN x4))]) hx hb d_Lng_bitCount_40 rfl hl (by decide) rfl (fun ls hl => ?_)
  refine lv_lload_n hx hb d_Lng_bitCount_41 rfl (lv_at hl 0 rfl) ?_
  refine lv_lload_n hx hb d_Lng_bitCount_42 rfl (lv_at hl 0 rfl) ?_
  refine lv_bipush (v := 16) hx hb d_Lng_bitCount_43 (by decide) ?_
  refine lv_lushr (v := ((lN x4).toUInt64 >>> ((16 : Int32).toInt64.toUInt64 &&& Int64.toUInt64 63)).toInt64) hx hb d_Lng_bitCount_45 rfl ?_
  refine x_topl (y := lN (x4 / 65536)) (wb_shr (k := 16) (by omega) (by decide)) ?_
  refine lv_ladd hx hb d_Lng_bitCount_46 ?_
  refine x_topl (y := lN x5) (by rw [h6]; exact lN_add _ _) ?_
  refine lv_lstore_n (lv' := [(0, .long (lN x5))]) hx hb d_Lng_bitCount_47 rfl hl (by decide) rfl (fun ls hl => ?_)
  refine lv_lload_n hx hb d_Lng_bitCount_48 rfl (lv_at hl 0 rfl) ?_
  refine lv_lload_n hx hb d_Lng_bitCount_49 rfl (lv_at hl 0 rfl) ?_
  refine lv_bipush (v := 32) hx hb d_Lng_bitCount_50 (by decide) ?_
  refine lv_lushr (v := ((lN x5).toUInt64 >>> ((32 : Int32).toInt64.toUInt64 &&& Int64.toUInt64 63)).toInt64) hx hb d_Lng_bitCount_52 rfl ?_
  refine x_topl (y := lN (x5 / 4294967296)) (wb_shr (k := 32) (by omega) (by decide)) ?_
  refine lv_ladd hx hb d_Lng_bitCount_53 ?_
  refine x_topl (y := lN x6) (by rw [h7]; exact lN_add _ _) ?_
  refine lv_lstore_n (lv' := [(0, .long (lN x6))]) hx hb d_Lng_bitCount_54 rfl hl (by decide) rfl (fun ls hl => ?_)
  refine lv_lload_n hx hb d_Lng_bitCount_55 rfl (lv_at hl 0 rfl) ?_
  refine lv_l2i (v := (lN x6).toInt32) hx hb d_Lng_bitCount_56 rfl ?_
  refine x_top (y := nI x6) (lN_i x6) ?_
  refine lv_bipush (v := 127) hx hb d_Lng_bitCount_57 (by decide) ?_
  refine lv_iand hx hb d_Lng_bitCount_59 ?_
  refine x_top (y := nI (x6 % 128)) (and127 x6) ?_
  exact W.iret (v := nI (x6 % 128)) hx hb hr (fun t9 ht9 hW9 => ⟨⟨_, (), rfl, by show nI (x6 % 128) = _; rw [hsum, cnt_byt X 8], trivial⟩, hS.F ht9⟩) hS.2.2 d_Lng_bitCount_60
end
section
/-! PURE, for the class: search, insertion, bits -/
def YN (r : Int32) (P : Prop) : Prop := (r = 1 ∧ P) ∨ (r = 0 ∧ ¬ P)
theorem YN.nar {r : Int32} {P : Prop} (h : YN r P) : narrow .boolean (.int r) = .int r := by
  rcases h with ⟨rfl, -⟩ | ⟨rfl, -⟩ <;> rfl
theorem YN.to {r : Int32} {P P' : Prop} (h : YN r P) (e : P ↔ P') : YN r P' := by
  rcases h with ⟨h1, h2⟩ | ⟨h1, h2⟩
  · exact Or.inl ⟨h1, e.mp h2⟩
  · exact Or.inr ⟨h1, fun x => h2 (e.mpr x)⟩
theorem YN.yes {r : Int32} {P : Prop} (h : YN r P) (e : ¬ r = 0) : P := by
  rcases h with ⟨-, h2⟩ | ⟨h1, -⟩
  · exact h2
  · exact absurd h1 e
theorem YN.no {r : Int32} {P : Prop} (h : YN r P) (e : r = 0) : ¬ P := by
  rcases h with ⟨h1, -⟩ | ⟨-, h2⟩
  · rw [e] at h1
    exact absurd h1 (by decide)
  · exact h2
theorem sb_inj {a b : Nat} (ha : a < 256) (hb : b < 256) (e : sb_b a = sb_b b) : a = b := by
  have h1 := (sb_byte a ha).1
  have h2 := (sb_byte b hb).1
  rw [e, h2] at h1
  exact ((nI_eq (by omega) (by omega)).mp h1).symm
theorem nI_m1 {k : Nat} (h : k < 2 ^ 31) : nI k ≠ -1 := fun e => by
  have h1 := nI_pos h
  rw [e] at h1
  exact h1 (by decide)
theorem nI_m2 {k : Nat} (h : k < 2 ^ 31) : nI k ≠ -2 := fun e => by
  have h1 := nI_pos h
  rw [e] at h1
  exact h1 (by decide)
theorem psum_12000 {A : AS} {B k : Nat} (hA : AOk A B) (hk : k < aN A) : psum (aZ A) k + aZ A k ≤ 12000 := by
  have h := psum_le (n := aN A) (fun j hj => (hA.2.1 j hj).2.1) (k + 1) (by omega)
  have h1 := hA.1
  have h2 : psum (aZ A) (k + 1) = psum (aZ A) k + aZ A k := rfl
  omega
theorem is_Mt {A : AS} {B h k : Nat} {hb : Nat → Nat} {f fb bg : Nat → Int32} (hA : AOk A B) (hH : HOk h hb) (hf : ∀ i, i < h → f i = sb_b (hb i)) (hM : MNam A fb bg) (hk : k < aN A) : (aZ A k = h ∧ ∀ i, i < h → fb (psum (aZ A) k + i) = f i) ↔ Mt A h hb k := by
  constructor
  · rintro ⟨e, h2⟩
    refine ⟨e, fun i hi => sb_inj ((hA.2.1 k hk).2.2.2.2 i (by omega)) (hH.2 i hi) ?_⟩
    rw [← hM.2 k hk i (by omega), h2 i hi, hf i hi]
  · rintro ⟨e, h2⟩
    refine ⟨e, fun i hi => ?_⟩
    rw [hM.2 k hk i (by omega), hf i hi, h2 i hi]
/-- what 'slot' answers -/
def SltIs (A : AS) (h : Nat) (hb : Nat → Nat) (s0 : Nat) (sl : Nat → Int32) (s : Nat) : Prop := s < 512 ∧ (sl s = -1 ∨ ∃ k, k < aN A ∧ sl s = nI k ∧ Mt A h hb k) ∧ ∃ d, d < 512 ∧ s = (s0 + d) % 512 ∧ ∀ j, j < d → sl ((s0 + j) % 512) ≠ -1 ∧ ∀ k, k < aN A → sl ((s0 + j) % 512) = nI k → ¬ Mt A h hb k
theorem slot_free {n : Nat} {hs : Nat → Nat} {sl : Nat → Int32} (hn : n ≤ 200) (hT : MTab n hs sl) {s0 : Nat} (h0 : s0 < 512) : ∃ D, D < 512 ∧ sl ((s0 + D) % 512) = -1 := by
  obtain ⟨s, hs1, hs2⟩ := cnt_free 512 (show cnt (fun s => decide (sl s ≠ -1)) 512 < 512 by rw [hT.2.2]; omega)
  refine ⟨(s + 512 - s0) % 512, Nat.mod_lt _ (by decide), ?_⟩
  rw [show (s0 + (s + 512 - s0) % 512) % 512 = s by omega]
  simpa using hs2
theorem hsA_eq {A : AS} {h k : Nat} {hb : Nat → Nat} {f : Nat → Int32} (hf : ∀ i, i < h → f i = sb_b (hb i)) (hm : Mt A h hb k) : hsA A k = hsh f h := by
  unfold hsA hsh
  rw [hm.1]
  rw [mixH_congr (f := fun i => sb_b (aB A k i)) (f' := f) (fun i hi => by rw [hf i hi, hm.2 i hi])]
theorem slot_found {A : AS} {B h s : Nat} {hb : Nat → Nat} {f sl : Nat → Int32} {pl : Option Nat} (hA : AOk A B) (hf : ∀ i, i < h → f i = sb_b (hb i)) (hT : MTab (aN A) (hsA A) sl) (hp : PlIs A h hb pl) (hs : SltIs A h hb (hsh f h) sl s) : sl s = fR pl := by
  obtain ⟨-, h2, d, hd, es, h3⟩ := hs
  cases pl with
  | none =>
    rcases h2 with h2 | ⟨k, hk, -, hm⟩
    · exact h2
    · exact absurd hm (hp k hk)
  | some k =>
    obtain ⟨hk, hm⟩ := hp
    obtain ⟨dk, hdk, e1, e2⟩ := hT.2.1 k hk
    rw [hsA_eq hf hm] at e1 e2
    rcases Nat.lt_trichotomy d dk with hlt | heq | hgt
    · rcases h2 with h2 | ⟨k', hk', e', hm'⟩
      · rw [es] at h2
        exact absurd h2 (e2 d hlt)
      · rw [e', Mt_one hA hk' hk hm' hm]
        rfl
    · rw [es, heq, e1]
      rfl
    · exact absurd hm ((h3 dk hgt).2 k hk e1)
theorem misN_n {A : AS} {k : Nat} (h : aN A ≤ k) : misN A k = false := by
  unfold misN
  rw [decide_eq_false (by omega)]
  rfl
theorem misN_lt {A : AS} {k : Nat} (h : k < aN A) : misN A k = mis A k := by
  unfold misN
  rw [decide_eq_true h]
  rfl
theorem know_inv {A : AS} {B h s : Nat} {hb : Nat → Nat} {f fb bg fg fr sl : Nat → Int32} {ms : Nat → Int64} {sv vv : Int32} (hA : AOk A B) (hf : ∀ i, i < h → f i = sb_b (hb i)) (hI : MInv A fb bg fg fr sl ms sv vv) (hn : ¬ aN A = 200) (hs : SltIs A h hb (hsh f h) sl s) (hs1 : sl s = -1) :
    MInv (kA A h hb none) (va_cpy f fb 0 (psum (aZ A) (aN A)) h) (upd bg (aN A + 1) (nI (psum (aZ A) (aN A) + h))) (upd fg (aN A) 0) (upd fr (aN A) 0) (upd sl s (nI (aN A))) ms (nI (aN A + 1)) vv := by
  obtain ⟨-, hv, hM, hC, hBt, hT1, hT2, hT3⟩ := hI
  have hA1 := hA.1
  have ek : kA A h hb none = (aN A + 1, va_up (aZ A) (aN A) h, va_up (aB A) (aN A) hb, va_up (aG A) (aN A) 0, va_up (aR A) (aN A) 0) := if_neg hn
  rw [ek]
  have hz : ∀ k, k ≤ aN A → psum (va_up (aZ A) (aN A) h) k = psum (aZ A) k := fun k hk => psum_congr k (fun i hi => va_up_ne _ _ (by omega))
  refine ⟨rfl, ?_, ⟨?_, ?_⟩, ?_, ?_, ?_, ?_, ?_⟩
  · rw [hv]
    congr 1
    show vns (aG A) (aN A) = vns (va_up (aG A) (aN A) 0) (aN A) + (va_up (aG A) (aN A) 0 (aN A) - 1)
    rw [va_up_self, vns_congr (z := va_up (aG A) (aN A) 0) (z' := aG A) (aN A) (fun i hi => va_up_ne _ _ (by omega))]
    rfl
  · intro k hk
    have hk : k ≤ aN A + 1 := hk
    show upd bg (aN A + 1) _ k = nI (psum (va_up (aZ A) (aN A) h) k)
    by_cases e : k = aN A + 1
    · subst e
      rw [pk_us]
      congr 1
      show _ = psum (va_up (aZ A) (aN A) h) (aN A) + va_up (aZ A) (aN A) h (aN A)
      rw [va_up_self, hz _ (Nat.le_refl _)]
    · rw [pk_un e, hM.1 k (by omega), hz k (by omega)]
  · intro k hk
    have hk : k < aN A + 1 := hk
    show ∀ i, i < va_up (aZ A) (aN A) h k → va_cpy f fb 0 (psum (aZ A) (aN A)) h (psum (va_up (aZ A) (aN A) h) k + i) = sb_b (va_up (aB A) (aN A) hb k i)
    rw [hz k (by omega)]
    by_cases e : k = aN A
    · subst e
      rw [va_up_self, va_up_self]
      intro i hi
      rw [pk_cpy_in (by omega) (by omega), show 0 + (psum (aZ A) (aN A) + i - psum (aZ A) (aN A)) = i by omega, hf i hi]
    · rw [va_up_ne _ _ e, va_up_ne _ _ e]
      intro i hi
      have h1 : psum (aZ A) (k + 1) ≤ psum (aZ A) (aN A) := by
        have := psum_mono (aZ A) (k + 1) (aN A - (k + 1))
        rw [show k + 1 + (aN A - (k + 1)) = aN A by omega] at this
        exact this
      have h2 : psum (aZ A) (k + 1) = psum (aZ A) k + aZ A k := rfl
      rw [pk_cpy_out (Or.inl (by omega))]
      exact hM.2 k (by omega) i hi
  · intro k hk
    have hk : k < aN A + 1 := hk
    show upd fg (aN A) 0 k = nI (va_up (aG A) (aN A) 0 k) ∧ upd fr (aN A) 0 k = nI (va_up (aR A) (aN A) 0 k)
    by_cases e : k = aN A
    · subst e
      rw [pk_us, pk_us, va_up_self, va_up_self]
      exact ⟨nI_0.symm, nI_0.symm⟩
    · rw [pk_un e, pk_un e, va_up_ne _ _ e, va_up_ne _ _ e]
      exact hC k (by omega)
  · intro j hj
    rw [hBt j hj]
    rcases Nat.lt_trichotomy j (aN A) with h1 | h1 | h1
    · rw [misN_lt h1, misN_lt (show j < aN A + 1 by omega)]
      unfold mis
      show decide (aG A j = 0 ∧ 0 < aR A j) = decide (va_up (aG A) (aN A) 0 j = 0 ∧ 0 < va_up (aR A) (aN A) 0 j)
      rw [va_up_ne _ _ (by omega), va_up_ne _ _ (by omega)]
    · subst h1
      rw [misN_n (Nat.le_refl _), misN_lt (Nat.lt_succ_self _)]
      unfold mis
      show false = decide (va_up (aG A) (aN A) 0 (aN A) = 0 ∧ 0 < va_up (aR A) (aN A) 0 (aN A))
      rw [va_up_self, va_up_self]
      rfl
    · rw [misN_n (by omega), misN_n (show aN A + 1 ≤ j by omega)]
  · intro s' hs'
    by_cases e : s' = s
    · subst e
      exact Or.inr ⟨aN A, Nat.lt_succ_self _, pk_us⟩
    · rw [pk_un e]
      rcases hT1 s' hs' with h1 | ⟨k, hk, h1⟩
      · exact Or.inl h1
      · exact Or.inr ⟨k, Nat.lt_succ_of_lt hk, h1⟩
  · intro k hk
    have hk : k < aN A + 1 := hk
    obtain ⟨-, -, d, hd, es, h3⟩ := hs
    by_cases e : k = aN A
    · subst e
      have eh : hsA (aN A + 1, va_up (aZ A) (aN A) h, va_up (aB A) (aN A) hb, va_up (aG A) (aN A) 0, va_up (aR A) (aN A) 0) (aN A) = hsh f h := hsA_eq hf ⟨va_up_self _ _ _, fun i _ => by
        show va_up (aB A) (aN A) hb (aN A) i = hb i
        rw [va_up_self]⟩
      rw [eh]
      refine ⟨d, hd, by rw [← es]; exact pk_us, fun j hj => ?_⟩
      have h4 := (h3 j hj).1
      rw [pk_un (fun x => h4 (by rw [x]; exact hs1))]
      exact h4
    · have eh : hsA (aN A + 1, va_up (aZ A) (aN A) h, va_up (aB A) (aN A) hb, va_up (aG A) (aN A) 0, va_up (aR A) (aN A) 0) k = hsA A k := by
        unfold hsA
        show hsh (fun i => sb_b (va_up (aB A) (aN A) hb k i)) (va_up (aZ A) (aN A) h k) = _
        rw [va_up_ne _ _ e, va_up_ne _ _ e]
      rw [eh]
      obtain ⟨dk, hdk, e1, e2⟩ := hT2 k (by omega)
      refine ⟨dk, hdk, ?_, fun j hj => ?_⟩
      · rw [pk_un (fun x => nI_m1 (k := k) (by omega) (by rw [← e1, x]; exact hs1))]
        exact e1
      · have h4 := e2 j hj
        rw [pk_un (fun x => h4 (by rw [x]; exact hs1))]
        exact h4
  · show cnt _ 512 = aN A + 1
    refine Eq.trans (cnt_set (p := fun s => decide (sl s ≠ -1)) (s := s) ?_ ?_ ?_ 512 hs.1) (by rw [hT3])
    · simp [hs1]
    · rw [pk_us]
      simp [nI_m1 (k := aN A) (by omega)]
    · intro k hk
      show decide (upd sl s (nI (aN A)) k ≠ -1) = decide (sl k ≠ -1)
      rw [pk_un hk]
/-! the bits of the missing ones -/
theorem lN_bit {X i : Nat} (hX : X < 2 ^ 64) : (lN X).toBitVec.getLsbD i = X.testBit i := by
  show (lN X).toBitVec.toNat.testBit i = X.testBit i
  rw [wb_tn hX]
theorem bit_or {w : Int64} {t i : Nat} (ht : t < 64) (hi : i < 64) : (w ||| lN (2 ^ t)).toBitVec.getLsbD i = if i = t then true else w.toBitVec.getLsbD i := by
  rw [Int64.toBitVec_or, BitVec.getLsbD_or, lN_bit (Nat.pow_lt_pow_right (by decide) ht), Nat.testBit_two_pow]
  by_cases e : i = t
  · subst e
    simp
  · rw [if_neg e, decide_eq_false (fun x => e x.symm), Bool.or_false]
theorem bit_and {w : Int64} {t i : Nat} (ht : t < 64) (hi : i < 64) : (w &&& (lN (2 ^ t) ^^^ (-1))).toBitVec.getLsbD i = if i = t then false else w.toBitVec.getLsbD i := by
  rw [Int64.toBitVec_and, BitVec.getLsbD_and, Int64.toBitVec_xor, BitVec.getLsbD_xor, lN_bit (Nat.pow_lt_pow_right (by decide) ht), Nat.testBit_two_pow]
  have h1 : (-1 : Int64).toBitVec.getLsbD i = true := by
    rw [show (-1 : Int64).toBitVec = BitVec.allOnes 64 by decide, BitVec.getLsbD_allOnes]
    simp [hi]
  rw [h1]
  by_cases e : i = t
  · subst e
    simp
  · rw [if_neg e, decide_eq_false (fun x => e x.symm)]
    simp
/-- one bit of 256 is set to b, the others stay -/
def MkBit (ms ms' : Nat → Int64) (k : Nat) (b : Bool) : Prop := ∀ j, j < 256 → (ms' (j / 64)).toBitVec.getLsbD (j % 64) = if j = k then b else (ms (j / 64)).toBitVec.getLsbD (j % 64)
theorem MkBit_of {ms : Nat → Int64} {k : Nat} {b : Bool} {v : Int64} (hv : ∀ i, i < 64 → v.toBitVec.getLsbD i = if i = k % 64 then b else (ms (k / 64)).toBitVec.getLsbD i) : MkBit ms (vp_updL ms (k / 64) v) k b := by
  intro j hj
  by_cases e : j / 64 = k / 64
  · rw [e, pk_uLs, hv (j % 64) (Nat.mod_lt _ (by decide))]
    by_cases e2 : j % 64 = k % 64
    · rw [if_pos e2, if_pos (by omega)]
    · rw [if_neg e2, if_neg (fun x => e2 (by rw [x]))]
  · rw [pk_uLn e, if_neg (fun x => e (by rw [x]))]
theorem MBit_mk {A A' : AS} {ms ms' : Nat → Int64} {k : Nat} {b : Bool} (h : MBit (misN A) ms) (hm : MkBit ms ms' k b) (hb : misN A' k = b) (ho : ∀ j, j ≠ k → misN A' j = misN A j) : MBit (misN A') ms' := by
  intro j hj
  rw [hm j hj]
  by_cases e : j = k
  · subst e
    rw [if_pos rfl, hb]
  · rw [if_neg e, h j hj, ho j e]
theorem misN_gA {A : AS} {k j : Nat} (h : j ≠ k) : misN (gA A k) j = misN A j := by
  unfold misN mis
  show (decide (j < aN A) && decide (va_up (aG A) k (aG A k + 1) j = 0 ∧ 0 < aR A j)) = _
  rw [va_up_ne _ _ h]
theorem misN_gAk {A : AS} {k : Nat} : misN (gA A k) k = false := by
  unfold misN mis
  show (decide (k < aN A) && decide (va_up (aG A) k (aG A k + 1) k = 0 ∧ 0 < aR A k)) = false
  rw [va_up_self, decide_eq_false (p := aG A k + 1 = 0 ∧ 0 < aR A k) (by omega), Bool.and_false]
theorem misN_rA {A : AS} {k j : Nat} (h : j ≠ k) : misN (rA A k) j = misN A j := by
  unfold misN mis
  show (decide (j < aN A) && decide (aG A j = 0 ∧ 0 < va_up (aR A) k (aR A k + 1) j)) = _
  rw [va_up_ne _ _ h]
theorem misN_rAk {A : AS} {k : Nat} (hk : k < aN A) : misN (rA A k) k = decide (aG A k = 0) := by
  unfold misN mis
  show (decide (k < aN A) && decide (aG A k = 0 ∧ 0 < va_up (aR A) k (aR A k + 1) k)) = _
  rw [va_up_self, decide_eq_true hk, Bool.true_and]
  by_cases e : aG A k = 0
  · rw [decide_eq_true e, decide_eq_true ⟨e, by omega⟩]
  · rw [decide_eq_false e, decide_eq_false (fun x => e x.1)]
theorem MCnt_g {A : AS} {k : Nat} {fg fr : Nat → Int32} (h : MCnt A fg fr) : MCnt (gA A k) (upd fg k (nI (aG A k + 1))) fr := by
  intro j hj
  have h1 := h j hj
  refine ⟨?_, h1.2⟩
  show _ = nI (va_up (aG A) k (aG A k + 1) j)
  by_cases e : j = k
  · subst e
    rw [pk_us, va_up_self]
  · rw [pk_un e, va_up_ne _ _ e]
    exact h1.1
theorem MCnt_r {A : AS} {k : Nat} {fg fr : Nat → Int32} (h : MCnt A fg fr) : MCnt (rA A k) fg (upd fr k (nI (aR A k + 1))) := by
  intro j hj
  have h1 := h j hj
  refine ⟨h1.1, ?_⟩
  show _ = nI (va_up (aR A) k (aR A k + 1) j)
  by_cases e : j = k
  · subst e
    rw [pk_us, va_up_self]
  · rw [pk_un e, va_up_ne _ _ e]
    exact h1.2
/-- given again: in vain -/
theorem give_inv1 {A : AS} {k : Nat} {fb bg fg fr sl : Nat → Int32} {ms : Nat → Int64} {sv vv : Int32} (hI : MInv A fb bg fg fr sl ms sv vv) (hk : k < aN A) (hg : 0 < aG A k) : MInv (gA A k) fb bg (upd fg k (nI (aG A k + 1))) fr sl ms sv (vv + 1) := by
  obtain ⟨h1, h2, h3, h4, h5, h6⟩ := hI
  refine ⟨h1, ?_, h3, MCnt_g h4, ?_, h6⟩
  · rw [h2, nI_1]
    congr 1
    show _ = vns (va_up (aG A) k (aG A k + 1)) (aN A)
    rw [vns_inc, if_pos ⟨hk, hg⟩]
  · intro j hj
    rw [h5 j hj]
    by_cases e : j = k
    · subst e
      rw [misN_gAk, misN_lt hk]
      unfold mis
      exact decide_eq_false (fun x => by omega)
    · rw [misN_gA e]
/-- given for the first time -/
theorem give_inv2 {A : AS} {k : Nat} {fb bg fg fr sl : Nat → Int32} {ms ms' : Nat → Int64} {sv vv : Int32} (hI : MInv A fb bg fg fr sl ms sv vv) (hg : aG A k = 0) (hm : MkBit ms ms' k false) : MInv (gA A k) fb bg (upd fg k (nI (aG A k + 1))) fr sl ms' sv vv := by
  obtain ⟨h1, h2, h3, h4, h5, h6⟩ := hI
  refine ⟨h1, ?_, h3, MCnt_g h4, MBit_mk h5 hm misN_gAk (fun j hj => misN_gA hj), h6⟩
  rw [h2]
  congr 1
  show _ = vns (va_up (aG A) k (aG A k + 1)) (aN A)
  rw [vns_inc, if_neg (by omega)]
  rfl
theorem refer_inv {A : AS} {k : Nat} {fb bg fg fr sl : Nat → Int32} {ms ms' : Nat → Int64} {sv vv : Int32} (hI : MInv A fb bg fg fr sl ms sv vv) (hk : k < aN A) (hm : MkBit ms ms' k (decide (aG A k = 0))) : MInv (rA A k) fb bg fg (upd fr k (nI (aR A k + 1))) sl ms' sv vv := by
  obtain ⟨h1, h2, h3, h4, h5, h6⟩ := hI
  exact ⟨h1, h2, h3, MCnt_r h4, MBit_mk h5 hm (misN_rAk hk) (fun j hj => misN_rA hj), h6⟩
/-! the first missing one -/
theorem low_ex {X : Nat} (h : X ≠ 0) : ∃ t q, X = 2 ^ t * (2 * q + 1) ∧ X.testBit t = true ∧ ∀ i, i < t → X.testBit i = false := by
  obtain ⟨t, h1, h2⟩ := pk_least (fun i => X.testBit i = true) (Nat.exists_testBit_of_ne_zero h)
  have h3 : ∀ i, i < t → X.testBit i = false := fun i hi => by
    cases e : X.testBit i with
    | false => rfl
    | true => exact absurd e (h2 i hi)
  have h4 : X % 2 ^ t = 0 := by
    apply Nat.eq_of_testBit_eq
    intro i
    rw [Nat.testBit_mod_two_pow, Nat.zero_testBit]
    by_cases hi : i < t
    · rw [h3 i hi, Bool.and_false]
    · rw [decide_eq_false hi, Bool.false_and]
  have h5 : X / 2 ^ t % 2 = 1 := by
    have h6 : X.testBit t = true := h1
    rw [Nat.testBit_eq_decide_div_mod_eq] at h6
    simpa using h6
  refine ⟨t, X / 2 ^ t / 2, ?_, h1, h3⟩
  have h7 := Nat.div_add_mod X (2 ^ t)
  have h8 : 2 * (X / 2 ^ t / 2) + 1 = X / 2 ^ t := by omega
  rw [h8]
  omega
/-- the word w of the bits, from k on -/
def WBit (q : Nat → Bool) (k w X : Nat) : Prop := X < 2 ^ 64 ∧ ∀ i, i < 64 → X.testBit i = (decide (k ≤ 64 * w + i) && q (64 * w + i))
theorem WBit_all {q : Nat → Bool} {ms : Nat → Int64} {k w : Nat} (h : MBit q ms) (hw : w < 4) (hk : k ≤ 64 * w) : ∃ X, WBit q k w X ∧ ms w = lN X := by
  obtain ⟨X, hX, e⟩ := wb_of (ms w)
  refine ⟨X, ⟨hX, fun i hi => ?_⟩, e⟩
  have h1 := h (64 * w + i) (by omega)
  rw [show (64 * w + i) / 64 = w by omega, show (64 * w + i) % 64 = i by omega, e, lN_bit hX] at h1
  rw [h1, decide_eq_true (by omega), Bool.true_and]
theorem mask_bit {t i : Nat} (hi : i < 64) : ((2 ^ 64 - 1) * 2 ^ t % 2 ^ 64).testBit i = decide (t ≤ i) := by
  rw [Nat.testBit_mod_two_pow, decide_eq_true hi, Bool.true_and, Nat.testBit_mul_two_pow, Nat.testBit_two_pow_sub_one]
  by_cases e : t ≤ i
  · simp [e]
    omega
  · simp [e]
theorem WBit_first {q : Nat → Bool} {ms : Nat → Int64} {k : Nat} (h : MBit q ms) (hk : k < 256) : ∃ X, WBit q k (k / 64) X ∧ ms (k / 64) &&& ((-1) <<< ((nI (k % 64)).toInt64 &&& 63)) = lN X := by
  obtain ⟨X, hX, e⟩ := wb_of (ms (k / 64))
  refine ⟨X &&& ((2 ^ 64 - 1) * 2 ^ (k % 64) % 2 ^ 64), ⟨Nat.lt_of_le_of_lt Nat.and_le_left hX, fun i hi => ?_⟩, ?_⟩
  · have h1 := h (64 * (k / 64) + i) (by omega)
    rw [show (64 * (k / 64) + i) / 64 = k / 64 by omega, show (64 * (k / 64) + i) % 64 = i by omega, e, lN_bit hX] at h1
    rw [Nat.testBit_and, h1, mask_bit hi, Bool.and_comm]
    congr 1
    exact decide_eq_decide.mpr (by omega)
  · rw [e, show (-1 : Int64) = lN (2 ^ 64 - 1) by decide, wb_shl (2 ^ 64 - 1) (Nat.mod_lt k (by decide)), wb_mod ((2 ^ 64 - 1) * 2 ^ (k % 64)), wb_and hX (Nat.mod_lt _ (by decide))]
theorem WBit_zero {q : Nat → Bool} {k w : Nat} (h : WBit q k w 0) : ∀ j, k ≤ j → 64 * w ≤ j → j < 64 * (w + 1) → q j = false := by
  intro j h1 h2 h3
  have h4 := h.2 (j - 64 * w) (by omega)
  rw [show 64 * w + (j - 64 * w) = j by omega, decide_eq_true h1, Bool.true_and, Nat.zero_testBit] at h4
  exact h4.symm
theorem WBit_hit {q : Nat → Bool} {k w X t : Nat} (h : WBit q k w X) (hk : k < 256) (hw : w < 4) (hpre : ∀ j, k ≤ j → j < 64 * w → q j = false) (h1 : X.testBit t = true) (h2 : ∀ i, i < t → X.testBit i = false) : t < 64 ∧ mff q k (256 - k) = nI (64 * w + t) := by
  have ht : t < 64 := by
    rcases Nat.lt_or_ge t 64 with z | z
    · exact z
    · rw [Nat.testBit_lt_two_pow (Nat.lt_of_lt_of_le h.1 (Nat.pow_le_pow_right (by decide) z))] at h1
      exact absurd h1 (by decide)
  have h3 := h.2 t ht
  rw [h1] at h3
  have h4 : k ≤ 64 * w + t ∧ q (64 * w + t) = true := by
    have := h3.symm
    rw [Bool.and_eq_true] at this
    exact ⟨of_decide_eq_true this.1, this.2⟩
  refine ⟨ht, ?_⟩
  have h5 := mff_skip (p := q) (a := k) (c := 256) (64 * w + t - k) (by omega) (fun j j1 j2 => by
    rcases Nat.lt_or_ge j (64 * w) with z | z
    · exact hpre j j1 z
    · have h6 := h.2 (j - 64 * w) (by omega)
      rw [show 64 * w + (j - 64 * w) = j by omega, decide_eq_true j1, Bool.true_and, h2 (j - 64 * w) (by omega)] at h6
      exact h6.symm)
  rw [h5, show k + (64 * w + t - k) = 64 * w + t by omega]
  exact mff_hit h4.2 (by omega)
theorem mff_none {q : Nat → Bool} {k : Nat} (hk : k ≤ 256) (h : ∀ j, k ≤ j → j < 256 → q j = false) : mff q k (256 - k) = -1 := by
  rw [mff_skip (p := q) (a := k) (c := 256) (256 - k) (by omega) (fun j j1 j2 => h j j1 (by omega)), show k + (256 - k) = 256 by omega]
  exact mff_end 256
theorem mff_mis {A : AS} (hn : aN A ≤ 256) (k : Nat) (hk : k ≤ 256) : mff (misN A) k (256 - k) = mff (mis A) k (aN A - k) :=
  mff_cut (n := aN A) (fun j hj => misN_lt hj) (256 - k) k 256 (by omega) hn (fun j h1 _ => misN_n h1)
theorem cnt_mis {A : AS} (hn : aN A ≤ 256) : cnt (misN A) 256 = cnt (mis A) (aN A) := by
  have h := cnt_cut (p := mis A) (q := misN A) (n := aN A) (fun j hj => misN_lt hj) (256 - aN A) (fun j h1 _ => misN_n h1)
  rw [show aN A + (256 - aN A) = 256 by omega] at h
  exact h
theorem cnt_word {q : Nat → Bool} {ms : Nat → Int64} {w : Nat} (h : MBit q ms) (hw : w < 4) : ∃ X, X < 2 ^ 64 ∧ ms w = lN X ∧ cnt q (64 * (w + 1)) = cnt q (64 * w) + cnt (fun i => X.testBit i) 64 := by
  obtain ⟨X, hX, e⟩ := WBit_all (k := 0) h hw (Nat.zero_le _)
  refine ⟨X, hX.1, e, ?_⟩
  rw [show 64 * (w + 1) = 64 * w + 64 by omega, cnt_add]
  congr 1
  refine cnt_congr 64 (fun i hi => ?_)
  rw [hX.2 i hi, decide_eq_true (Nat.zero_le _), Bool.true_and]
theorem lg_cmp0 {v : Int64} : lg_cmp v 0 = 0 ↔ v = 0 := by
  unfold lg_cmp
  by_cases h : v > 0
  · rw [if_pos h]
    constructor
    · intro e
      exact absurd e (by decide)
    · rintro rfl
      exact absurd h (by decide)
  · rw [if_neg h]
    by_cases e : v = 0
    · rw [if_pos e]
      exact ⟨fun _ => e, fun _ => rfl⟩
    · rw [if_neg e]
      exact ⟨fun x => absurd x (by decide), fun x => absurd x e⟩
theorem lN_ne0 {X : Nat} (hX : X < 2 ^ 64) : lN X = 0 ↔ X = 0 := by
  constructor
  · intro e
    have h := wb_tn hX
    rw [e] at h
    have h2 : (0 : Int64).toBitVec.toNat = 0 := by decide
    omega
  · rintro rfl
    rfl
end
section
theorem d_Marks_is_0 : decode b_Marks_is 0 = .ok (.aload_n 0, 1) := by decide +kernel
theorem d_Marks_is_1 : decode b_Marks_is 1 = .ok (.getfield 15, 3) := by decide +kernel
theorem d_Marks_is_4 : decode b_Marks_is 4 = .ok (.iload_n 1, 1) := by decide +kernel
theorem d_Marks_is_5 : decode b_Marks_is 5 = .ok (.iconst 1, 1) := by decide +kernel
theorem d_Marks_is_6 : decode b_Marks_is 6 = .ok (.iadd, 1) := by decide +kernel
theorem d_Marks_is_7 : decode b_Marks_is 7 = .ok (.iaload, 1) := by decide +kernel
theorem d_Marks_is_8 : decode b_Marks_is 8 = .ok (.aload_n 0, 1) := by decide +kernel
theorem d_Marks_is_9 : decode b_Marks_is 9 = .ok (.getfield 15, 3) := by decide +kernel
theorem d_Marks_is_12 : decode b_Marks_is 12 = .ok (.iload_n 1, 1) := by decide +kernel
theorem d_Marks_is_13 : decode b_Marks_is 13 = .ok (.iaload, 1) := by decide +kernel
theorem d_Marks_is_14 : decode b_Marks_is 14 = .ok (.isub, 1) := by decide +kernel
theorem d_Marks_is_15 : decode b_Marks_is 15 = .ok (.aload_n 2, 1) := by decide +kernel
theorem d_Marks_is_16 : decode b_Marks_is 16 = .ok (.getfield 43, 3) := by decide +kernel
theorem d_Marks_is_19 : decode b_Marks_is 19 = .ok (.if_icmp .ne 7, 3) := by decide +kernel
theorem d_Marks_is_22 : decode b_Marks_is 22 = .ok (.iconst 1, 1) := by decide +kernel
theorem d_Marks_is_23 : decode b_Marks_is 23 = .ok (.goto 4, 3) := by decide +kernel
theorem d_Marks_is_26 : decode b_Marks_is 26 = .ok (.iconst 0, 1) := by decide +kernel
theorem d_Marks_is_27 : decode b_Marks_is 27 = .ok (.istore_n 3, 1) := by decide +kernel
theorem d_Marks_is_28 : decode b_Marks_is 28 = .ok (.iconst 0, 1) := by decide +kernel
theorem d_Marks_is_29 : decode b_Marks_is 29 = .ok (.istore 4, 2) := by decide +kernel
theorem d_Marks_is_31 : decode b_Marks_is 31 = .ok (.iload 4, 2) := by decide +kernel
theorem d_Marks_is_33 : decode b_Marks_is 33 = .ok (.aload_n 2, 1) := by decide +kernel
theorem d_Marks_is_34 : decode b_Marks_is 34 = .ok (.getfield 43, 3) := by decide +kernel
theorem d_Marks_is_37 : decode b_Marks_is 37 = .ok (.if_icmp .ge 43, 3) := by decide +kernel
theorem d_Marks_is_40 : decode b_Marks_is 40 = .ok (.iload_n 3, 1) := by decide +kernel
theorem d_Marks_is_41 : decode b_Marks_is 41 = .ok (.ifCond .eq 39, 3) := by decide +kernel
theorem d_Marks_is_44 : decode b_Marks_is 44 = .ok (.aload_n 0, 1) := by decide +kernel
theorem d_Marks_is_45 : decode b_Marks_is 45 = .ok (.getfield 11, 3) := by decide +kernel
theorem d_Marks_is_48 : decode b_Marks_is 48 = .ok (.aload_n 0, 1) := by decide +kernel
theorem d_Marks_is_49 : decode b_Marks_is 49 = .ok (.getfield 15, 3) := by decide +kernel
theorem d_Marks_is_52 : decode b_Marks_is 52 = .ok (.iload_n 1, 1) := by decide +kernel
theorem d_Marks_is_53 : decode b_Marks_is 53 = .ok (.iaload, 1) := by decide +kernel
theorem d_Marks_is_54 : decode b_Marks_is 54 = .ok (.iload 4, 2) := by decide +kernel
theorem d_Marks_is_56 : decode b_Marks_is 56 = .ok (.iadd, 1) := by decide +kernel
theorem d_Marks_is_57 : decode b_Marks_is 57 = .ok (.baload, 1) := by decide +kernel
theorem d_Marks_is_58 : decode b_Marks_is 58 = .ok (.aload_n 2, 1) := by decide +kernel
theorem d_Marks_is_59 : decode b_Marks_is 59 = .ok (.getfield 44, 3) := by decide +kernel
theorem d_Marks_is_62 : decode b_Marks_is 62 = .ok (.iload 4, 2) := by decide +kernel
theorem d_Marks_is_64 : decode b_Marks_is 64 = .ok (.baload, 1) := by decide +kernel
theorem d_Marks_is_65 : decode b_Marks_is 65 = .ok (.if_icmp .ne 7, 3) := by decide +kernel
theorem d_Marks_is_68 : decode b_Marks_is 68 = .ok (.iconst 1, 1) := by decide +kernel
theorem d_Marks_is_69 : decode b_Marks_is 69 = .ok (.goto 4, 3) := by decide +kernel
theorem d_Marks_is_72 : decode b_Marks_is 72 = .ok (.iconst 0, 1) := by decide +kernel
theorem d_Marks_is_73 : decode b_Marks_is 73 = .ok (.istore_n 3, 1) := by decide +kernel
theorem d_Marks_is_74 : decode b_Marks_is 74 = .ok (.iinc 4 1, 3) := by decide +kernel
theorem d_Marks_is_77 : decode b_Marks_is 77 = .ok (.goto (-46), 3) := by decide +kernel
theorem d_Marks_is_80 : decode b_Marks_is 80 = .ok (.iload_n 3, 1) := by decide +kernel
theorem d_Marks_is_81 : decode b_Marks_is 81 = .ok (.ireturn, 1) := by decide +kernel
theorem d_Marks_slot_0 : decode b_Marks_slot 0 = .ok (.aload_n 1, 1) := by decide +kernel
theorem d_Marks_slot_1 : decode b_Marks_slot 1 = .ok (.invokevirtual 45, 3) := by decide +kernel
theorem d_Marks_slot_4 : decode b_Marks_slot 4 = .ok (.sipush 511, 3) := by decide +kernel
theorem d_Marks_slot_7 : decode b_Marks_slot 7 = .ok (.iand, 1) := by decide +kernel
theorem d_Marks_slot_8 : decode b_Marks_slot 8 = .ok (.istore_n 2, 1) := by decide +kernel
theorem d_Marks_slot_9 : decode b_Marks_slot 9 = .ok (.aload_n 0, 1) := by decide +kernel
theorem d_Marks_slot_10 : decode b_Marks_slot 10 = .ok (.getfield 25, 3) := by decide +kernel
theorem d_Marks_slot_13 : decode b_Marks_slot 13 = .ok (.iload_n 2, 1) := by decide +kernel
theorem d_Marks_slot_14 : decode b_Marks_slot 14 = .ok (.saload, 1) := by decide +kernel
theorem d_Marks_slot_15 : decode b_Marks_slot 15 = .ok (.iconst (-1), 1) := by decide +kernel
theorem d_Marks_slot_16 : decode b_Marks_slot 16 = .ok (.if_icmp .eq 28, 3) := by decide +kernel
theorem d_Marks_slot_19 : decode b_Marks_slot 19 = .ok (.aload_n 0, 1) := by decide +kernel
theorem d_Marks_slot_20 : decode b_Marks_slot 20 = .ok (.aload_n 0, 1) := by decide +kernel
theorem d_Marks_slot_21 : decode b_Marks_slot 21 = .ok (.getfield 25, 3) := by decide +kernel
theorem d_Marks_slot_24 : decode b_Marks_slot 24 = .ok (.iload_n 2, 1) := by decide +kernel
theorem d_Marks_slot_25 : decode b_Marks_slot 25 = .ok (.saload, 1) := by decide +kernel
theorem d_Marks_slot_26 : decode b_Marks_slot 26 = .ok (.aload_n 1, 1) := by decide +kernel
theorem d_Marks_slot_27 : decode b_Marks_slot 27 = .ok (.invokevirtual 49, 3) := by decide +kernel
theorem d_Marks_slot_30 : decode b_Marks_slot 30 = .ok (.ifCond .ne 14, 3) := by decide +kernel
theorem d_Marks_slot_33 : decode b_Marks_slot 33 = .ok (.iload_n 2, 1) := by decide +kernel
theorem d_Marks_slot_34 : decode b_Marks_slot 34 = .ok (.iconst 1, 1) := by decide +kernel
theorem d_Marks_slot_35 : decode b_Marks_slot 35 = .ok (.iadd, 1) := by decide +kernel
theorem d_Marks_slot_36 : decode b_Marks_slot 36 = .ok (.sipush 511, 3) := by decide +kernel
theorem d_Marks_slot_39 : decode b_Marks_slot 39 = .ok (.iand, 1) := by decide +kernel
theorem d_Marks_slot_40 : decode b_Marks_slot 40 = .ok (.istore_n 2, 1) := by decide +kernel
theorem d_Marks_slot_41 : decode b_Marks_slot 41 = .ok (.goto (-32), 3) := by decide +kernel
theorem d_Marks_slot_44 : decode b_Marks_slot 44 = .ok (.iload_n 2, 1) := by decide +kernel
theorem d_Marks_slot_45 : decode b_Marks_slot 45 = .ok (.ireturn, 1) := by decide +kernel
theorem d_Marks_find_0 : decode b_Marks_find 0 = .ok (.aload_n 0, 1) := by decide +kernel
theorem d_Marks_find_1 : decode b_Marks_find 1 = .ok (.getfield 25, 3) := by decide +kernel
theorem d_Marks_find_4 : decode b_Marks_find 4 = .ok (.aload_n 0, 1) := by decide +kernel
theorem d_Marks_find_5 : decode b_Marks_find 5 = .ok (.aload_n 1, 1) := by decide +kernel
theorem d_Marks_find_6 : decode b_Marks_find 6 = .ok (.invokevirtual 53, 3) := by decide +kernel
theorem d_Marks_find_9 : decode b_Marks_find 9 = .ok (.saload, 1) := by decide +kernel
theorem d_Marks_find_10 : decode b_Marks_find 10 = .ok (.ireturn, 1) := by decide +kernel
theorem d_Marks_mark_0 : decode b_Marks_mark 0 = .ok (.lconst 1, 1) := by decide +kernel
theorem d_Marks_mark_1 : decode b_Marks_mark 1 = .ok (.iload_n 1, 1) := by decide +kernel
theorem d_Marks_mark_2 : decode b_Marks_mark 2 = .ok (.bipush 64, 2) := by decide +kernel
theorem d_Marks_mark_4 : decode b_Marks_mark 4 = .ok (.irem, 1) := by decide +kernel
theorem d_Marks_mark_5 : decode b_Marks_mark 5 = .ok (.lshl, 1) := by decide +kernel
theorem d_Marks_mark_6 : decode b_Marks_mark 6 = .ok (.lstore_n 2, 1) := by decide +kernel
theorem d_Marks_mark_7 : decode b_Marks_mark 7 = .ok (.aload_n 0, 1) := by decide +kernel
theorem d_Marks_mark_8 : decode b_Marks_mark 8 = .ok (.getfield 19, 3) := by decide +kernel
theorem d_Marks_mark_11 : decode b_Marks_mark 11 = .ok (.iload_n 1, 1) := by decide +kernel
theorem d_Marks_mark_12 : decode b_Marks_mark 12 = .ok (.iaload, 1) := by decide +kernel
theorem d_Marks_mark_13 : decode b_Marks_mark 13 = .ok (.ifCond .ne 16, 3) := by decide +kernel
theorem d_Marks_mark_16 : decode b_Marks_mark 16 = .ok (.aload_n 0, 1) := by decide +kernel
theorem d_Marks_mark_17 : decode b_Marks_mark 17 = .ok (.getfield 22, 3) := by decide +kernel
theorem d_Marks_mark_20 : decode b_Marks_mark 20 = .ok (.iload_n 1, 1) := by decide +kernel
theorem d_Marks_mark_21 : decode b_Marks_mark 21 = .ok (.iaload, 1) := by decide +kernel
theorem d_Marks_mark_22 : decode b_Marks_mark 22 = .ok (.ifCond .le 7, 3) := by decide +kernel
theorem d_Marks_mark_25 : decode b_Marks_mark 25 = .ok (.iconst 1, 1) := by decide +kernel
theorem d_Marks_mark_26 : decode b_Marks_mark 26 = .ok (.goto 4, 3) := by decide +kernel
theorem d_Marks_mark_29 : decode b_Marks_mark 29 = .ok (.iconst 0, 1) := by decide +kernel
theorem d_Marks_mark_30 : decode b_Marks_mark 30 = .ok (.istore 4, 2) := by decide +kernel
theorem d_Marks_mark_32 : decode b_Marks_mark 32 = .ok (.aload_n 0, 1) := by decide +kernel
theorem d_Marks_mark_33 : decode b_Marks_mark 33 = .ok (.getfield 29, 3) := by decide +kernel
theorem d_Marks_mark_36 : decode b_Marks_mark 36 = .ok (.iload_n 1, 1) := by decide +kernel
theorem d_Marks_mark_37 : decode b_Marks_mark 37 = .ok (.bipush 64, 2) := by decide +kernel
theorem d_Marks_mark_39 : decode b_Marks_mark 39 = .ok (.idiv, 1) := by decide +kernel
theorem d_Marks_mark_40 : decode b_Marks_mark 40 = .ok (.iload 4, 2) := by decide +kernel
theorem d_Marks_mark_42 : decode b_Marks_mark 42 = .ok (.ifCond .eq 17, 3) := by decide +kernel
theorem d_Marks_mark_45 : decode b_Marks_mark 45 = .ok (.aload_n 0, 1) := by decide +kernel
theorem d_Marks_mark_46 : decode b_Marks_mark 46 = .ok (.getfield 29, 3) := by decide +kernel
theorem d_Marks_mark_49 : decode b_Marks_mark 49 = .ok (.iload_n 1, 1) := by decide +kernel
theorem d_Marks_mark_50 : decode b_Marks_mark 50 = .ok (.bipush 64, 2) := by decide +kernel
theorem d_Marks_mark_52 : decode b_Marks_mark 52 = .ok (.idiv, 1) := by decide +kernel
theorem d_Marks_mark_53 : decode b_Marks_mark 53 = .ok (.laload, 1) := by decide +kernel
theorem d_Marks_mark_54 : decode b_Marks_mark 54 = .ok (.lload_n 2, 1) := by decide +kernel
theorem d_Marks_mark_55 : decode b_Marks_mark 55 = .ok (.lor, 1) := by decide +kernel
theorem d_Marks_mark_56 : decode b_Marks_mark 56 = .ok (.goto 18, 3) := by decide +kernel
theorem d_Marks_mark_59 : decode b_Marks_mark 59 = .ok (.aload_n 0, 1) := by decide +kernel
theorem d_Marks_mark_60 : decode b_Marks_mark 60 = .ok (.getfield 29, 3) := by decide +kernel
theorem d_Marks_mark_63 : decode b_Marks_mark 63 = .ok (.iload_n 1, 1) := by decide +kernel
theorem d_Marks_mark_64 : decode b_Marks_mark 64 = .ok (.bipush 64, 2) := by decide +kernel
theorem d_Marks_mark_66 : decode b_Marks_mark 66 = .ok (.idiv, 1) := by decide +kernel
theorem d_Marks_mark_67 : decode b_Marks_mark 67 = .ok (.laload, 1) := by decide +kernel
theorem d_Marks_mark_68 : decode b_Marks_mark 68 = .ok (.lload_n 2, 1) := by decide +kernel
theorem d_Marks_mark_69 : decode b_Marks_mark 69 = .ok (.ldc2_w 63, 3) := by decide +kernel
theorem d_Marks_mark_72 : decode b_Marks_mark 72 = .ok (.lxor, 1) := by decide +kernel
theorem d_Marks_mark_73 : decode b_Marks_mark 73 = .ok (.land, 1) := by decide +kernel
theorem d_Marks_mark_74 : decode b_Marks_mark 74 = .ok (.lastore, 1) := by decide +kernel
theorem d_Marks_mark_75 : decode b_Marks_mark 75 = .ok (.return_, 1) := by decide +kernel
theorem d_Marks_missingFrom_0 : decode b_Marks_missingFrom 0 = .ok (.iload_n 1, 1) := by decide +kernel
theorem d_Marks_missingFrom_1 : decode b_Marks_missingFrom 1 = .ok (.bipush 64, 2) := by decide +kernel
theorem d_Marks_missingFrom_3 : decode b_Marks_missingFrom 3 = .ok (.idiv, 1) := by decide +kernel
theorem d_Marks_missingFrom_4 : decode b_Marks_missingFrom 4 = .ok (.istore_n 2, 1) := by decide +kernel
theorem d_Marks_missingFrom_5 : decode b_Marks_missingFrom 5 = .ok (.iload_n 2, 1) := by decide +kernel
theorem d_Marks_missingFrom_6 : decode b_Marks_missingFrom 6 = .ok (.iconst 4, 1) := by decide +kernel
theorem d_Marks_missingFrom_7 : decode b_Marks_missingFrom 7 = .ok (.if_icmp .ge 58, 3) := by decide +kernel
theorem d_Marks_missingFrom_10 : decode b_Marks_missingFrom 10 = .ok (.iload_n 2, 1) := by decide +kernel
theorem d_Marks_missingFrom_11 : decode b_Marks_missingFrom 11 = .ok (.iload_n 1, 1) := by decide +kernel
theorem d_Marks_missingFrom_12 : decode b_Marks_missingFrom 12 = .ok (.bipush 64, 2) := by decide +kernel
theorem d_Marks_missingFrom_14 : decode b_Marks_missingFrom 14 = .ok (.idiv, 1) := by decide +kernel
theorem d_Marks_missingFrom_15 : decode b_Marks_missingFrom 15 = .ok (.if_icmp .ne 21, 3) := by decide +kernel
theorem d_Marks_missingFrom_18 : decode b_Marks_missingFrom 18 = .ok (.aload_n 0, 1) := by decide +kernel
theorem d_Marks_missingFrom_19 : decode b_Marks_missingFrom 19 = .ok (.getfield 29, 3) := by decide +kernel
theorem d_Marks_missingFrom_22 : decode b_Marks_missingFrom 22 = .ok (.iload_n 2, 1) := by decide +kernel
theorem d_Marks_missingFrom_23 : decode b_Marks_missingFrom 23 = .ok (.laload, 1) := by decide +kernel
theorem d_Marks_missingFrom_24 : decode b_Marks_missingFrom 24 = .ok (.ldc2_w 63, 3) := by decide +kernel
theorem d_Marks_missingFrom_27 : decode b_Marks_missingFrom 27 = .ok (.iload_n 1, 1) := by decide +kernel
theorem d_Marks_missingFrom_28 : decode b_Marks_missingFrom 28 = .ok (.bipush 64, 2) := by decide +kernel
theorem d_Marks_missingFrom_30 : decode b_Marks_missingFrom 30 = .ok (.irem, 1) := by decide +kernel
theorem d_Marks_missingFrom_31 : decode b_Marks_missingFrom 31 = .ok (.lshl, 1) := by decide +kernel
theorem d_Marks_missingFrom_32 : decode b_Marks_missingFrom 32 = .ok (.land, 1) := by decide +kernel
theorem d_Marks_missingFrom_33 : decode b_Marks_missingFrom 33 = .ok (.goto 9, 3) := by decide +kernel
theorem d_Marks_missingFrom_36 : decode b_Marks_missingFrom 36 = .ok (.aload_n 0, 1) := by decide +kernel
theorem d_Marks_missingFrom_37 : decode b_Marks_missingFrom 37 = .ok (.getfield 29, 3) := by decide +kernel
theorem d_Marks_missingFrom_40 : decode b_Marks_missingFrom 40 = .ok (.iload_n 2, 1) := by decide +kernel
theorem d_Marks_missingFrom_41 : decode b_Marks_missingFrom 41 = .ok (.laload, 1) := by decide +kernel
theorem d_Marks_missingFrom_42 : decode b_Marks_missingFrom 42 = .ok (.lstore_n 3, 1) := by decide +kernel
theorem d_Marks_missingFrom_43 : decode b_Marks_missingFrom 43 = .ok (.lload_n 3, 1) := by decide +kernel
theorem d_Marks_missingFrom_44 : decode b_Marks_missingFrom 44 = .ok (.lconst 0, 1) := by decide +kernel
theorem d_Marks_missingFrom_45 : decode b_Marks_missingFrom 45 = .ok (.lcmp, 1) := by decide +kernel
theorem d_Marks_missingFrom_46 : decode b_Marks_missingFrom 46 = .ok (.ifCond .eq 13, 3) := by decide +kernel
theorem d_Marks_missingFrom_49 : decode b_Marks_missingFrom 49 = .ok (.bipush 64, 2) := by decide +kernel
theorem d_Marks_missingFrom_51 : decode b_Marks_missingFrom 51 = .ok (.iload_n 2, 1) := by decide +kernel
theorem d_Marks_missingFrom_52 : decode b_Marks_missingFrom 52 = .ok (.imul, 1) := by decide +kernel
theorem d_Marks_missingFrom_53 : decode b_Marks_missingFrom 53 = .ok (.lload_n 3, 1) := by decide +kernel
theorem d_Marks_missingFrom_54 : decode b_Marks_missingFrom 54 = .ok (.invokestatic 72, 3) := by decide +kernel
theorem d_Marks_missingFrom_57 : decode b_Marks_missingFrom 57 = .ok (.iadd, 1) := by decide +kernel
theorem d_Marks_missingFrom_58 : decode b_Marks_missingFrom 58 = .ok (.ireturn, 1) := by decide +kernel
theorem d_Marks_missingFrom_59 : decode b_Marks_missingFrom 59 = .ok (.iinc 2 1, 3) := by decide +kernel
theorem d_Marks_missingFrom_62 : decode b_Marks_missingFrom 62 = .ok (.goto (-57), 3) := by decide +kernel
theorem d_Marks_missingFrom_65 : decode b_Marks_missingFrom 65 = .ok (.iconst (-1), 1) := by decide +kernel
theorem d_Marks_missingFrom_66 : decode b_Marks_missingFrom 66 = .ok (.ireturn, 1) := by decide +kernel
theorem d_Marks_missingOnes_0 : decode b_Marks_missingOnes 0 = .ok (.iconst 0, 1) := by decide +kernel
theorem d_Marks_missingOnes_1 : decode b_Marks_missingOnes 1 = .ok (.istore_n 1, 1) := by decide +kernel
theorem d_Marks_missingOnes_2 : decode b_Marks_missingOnes 2 = .ok (.iconst 0, 1) := by decide +kernel
theorem d_Marks_missingOnes_3 : decode b_Marks_missingOnes 3 = .ok (.istore_n 2, 1) := by decide +kernel
theorem d_Marks_missingOnes_4 : decode b_Marks_missingOnes 4 = .ok (.iload_n 2, 1) := by decide +kernel
theorem d_Marks_missingOnes_5 : decode b_Marks_missingOnes 5 = .ok (.iconst 4, 1) := by decide +kernel
theorem d_Marks_missingOnes_6 : decode b_Marks_missingOnes 6 = .ok (.if_icmp .ge 21, 3) := by decide +kernel
theorem d_Marks_missingOnes_9 : decode b_Marks_missingOnes 9 = .ok (.iload_n 1, 1) := by decide +kernel
theorem d_Marks_missingOnes_10 : decode b_Marks_missingOnes 10 = .ok (.aload_n 0, 1) := by decide +kernel
theorem d_Marks_missingOnes_11 : decode b_Marks_missingOnes 11 = .ok (.getfield 29, 3) := by decide +kernel
theorem d_Marks_missingOnes_14 : decode b_Marks_missingOnes 14 = .ok (.iload_n 2, 1) := by decide +kernel
theorem d_Marks_missingOnes_15 : decode b_Marks_missingOnes 15 = .ok (.laload, 1) := by decide +kernel
theorem d_Marks_missingOnes_16 : decode b_Marks_missingOnes 16 = .ok (.invokestatic 78, 3) := by decide +kernel
theorem d_Marks_missingOnes_19 : decode b_Marks_missingOnes 19 = .ok (.iadd, 1) := by decide +kernel
theorem d_Marks_missingOnes_20 : decode b_Marks_missingOnes 20 = .ok (.istore_n 1, 1) := by decide +kernel
theorem d_Marks_missingOnes_21 : decode b_Marks_missingOnes 21 = .ok (.iinc 2 1, 3) := by decide +kernel
theorem d_Marks_missingOnes_24 : decode b_Marks_missingOnes 24 = .ok (.goto (-20), 3) := by decide +kernel
theorem d_Marks_missingOnes_27 : decode b_Marks_missingOnes 27 = .ok (.iload_n 1, 1) := by decide +kernel
theorem d_Marks_missingOnes_28 : decode b_Marks_missingOnes 28 = .ok (.ireturn, 1) := by decide +kernel
theorem d_Marks_givenOnes_0 : decode b_Marks_givenOnes 0 = .ok (.iconst 0, 1) := by decide +kernel
theorem d_Marks_givenOnes_1 : decode b_Marks_givenOnes 1 = .ok (.istore_n 1, 1) := by decide +kernel
theorem d_Marks_givenOnes_2 : decode b_Marks_givenOnes 2 = .ok (.iconst 0, 1) := by decide +kernel
theorem d_Marks_givenOnes_3 : decode b_Marks_givenOnes 3 = .ok (.istore_n 2, 1) := by decide +kernel
theorem d_Marks_givenOnes_4 : decode b_Marks_givenOnes 4 = .ok (.iload_n 2, 1) := by decide +kernel
theorem d_Marks_givenOnes_5 : decode b_Marks_givenOnes 5 = .ok (.aload_n 0, 1) := by decide +kernel
theorem d_Marks_givenOnes_6 : decode b_Marks_givenOnes 6 = .ok (.getfield 36, 3) := by decide +kernel
theorem d_Marks_givenOnes_9 : decode b_Marks_givenOnes 9 = .ok (.if_icmp .ge 26, 3) := by decide +kernel
theorem d_Marks_givenOnes_12 : decode b_Marks_givenOnes 12 = .ok (.iload_n 1, 1) := by decide +kernel
theorem d_Marks_givenOnes_13 : decode b_Marks_givenOnes 13 = .ok (.aload_n 0, 1) := by decide +kernel
theorem d_Marks_givenOnes_14 : decode b_Marks_givenOnes 14 = .ok (.getfield 19, 3) := by decide +kernel
theorem d_Marks_givenOnes_17 : decode b_Marks_givenOnes 17 = .ok (.iload_n 2, 1) := by decide +kernel
theorem d_Marks_givenOnes_18 : decode b_Marks_givenOnes 18 = .ok (.iaload, 1) := by decide +kernel
theorem d_Marks_givenOnes_19 : decode b_Marks_givenOnes 19 = .ok (.ifCond .le 7, 3) := by decide +kernel
theorem d_Marks_givenOnes_22 : decode b_Marks_givenOnes 22 = .ok (.iconst 1, 1) := by decide +kernel
theorem d_Marks_givenOnes_23 : decode b_Marks_givenOnes 23 = .ok (.goto 4, 3) := by decide +kernel
theorem d_Marks_givenOnes_26 : decode b_Marks_givenOnes 26 = .ok (.iconst 0, 1) := by decide +kernel
theorem d_Marks_givenOnes_27 : decode b_Marks_givenOnes 27 = .ok (.iadd, 1) := by decide +kernel
theorem d_Marks_givenOnes_28 : decode b_Marks_givenOnes 28 = .ok (.istore_n 1, 1) := by decide +kernel
theorem d_Marks_givenOnes_29 : decode b_Marks_givenOnes 29 = .ok (.iinc 2 1, 3) := by decide +kernel
theorem d_Marks_givenOnes_32 : decode b_Marks_givenOnes 32 = .ok (.goto (-28), 3) := by decide +kernel
theorem d_Marks_givenOnes_35 : decode b_Marks_givenOnes 35 = .ok (.iload_n 1, 1) := by decide +kernel
theorem d_Marks_givenOnes_36 : decode b_Marks_givenOnes 36 = .ok (.ireturn, 1) := by decide +kernel
theorem d_Marks_clear_0 : decode b_Marks_clear 0 = .ok (.iconst 0, 1) := by decide +kernel
theorem d_Marks_clear_1 : decode b_Marks_clear 1 = .ok (.istore_n 1, 1) := by decide +kernel
theorem d_Marks_clear_2 : decode b_Marks_clear 2 = .ok (.iload_n 1, 1) := by decide +kernel
theorem d_Marks_clear_3 : decode b_Marks_clear 3 = .ok (.sipush 512, 3) := by decide +kernel
theorem d_Marks_clear_6 : decode b_Marks_clear 6 = .ok (.if_icmp .ge 16, 3) := by decide +kernel
theorem d_Marks_clear_9 : decode b_Marks_clear 9 = .ok (.aload_n 0, 1) := by decide +kernel
theorem d_Marks_clear_10 : decode b_Marks_clear 10 = .ok (.getfield 25, 3) := by decide +kernel
theorem d_Marks_clear_13 : decode b_Marks_clear 13 = .ok (.iload_n 1, 1) := by decide +kernel
theorem d_Marks_clear_14 : decode b_Marks_clear 14 = .ok (.iconst (-1), 1) := by decide +kernel
theorem d_Marks_clear_15 : decode b_Marks_clear 15 = .ok (.sastore, 1) := by decide +kernel
theorem d_Marks_clear_16 : decode b_Marks_clear 16 = .ok (.iinc 1 1, 3) := by decide +kernel
theorem d_Marks_clear_19 : decode b_Marks_clear 19 = .ok (.goto (-17), 3) := by decide +kernel
theorem d_Marks_clear_22 : decode b_Marks_clear 22 = .ok (.iconst 0, 1) := by decide +kernel
theorem d_Marks_clear_23 : decode b_Marks_clear 23 = .ok (.istore_n 1, 1) := by decide +kernel
theorem d_Marks_clear_24 : decode b_Marks_clear 24 = .ok (.iload_n 1, 1) := by decide +kernel
theorem d_Marks_clear_25 : decode b_Marks_clear 25 = .ok (.iconst 4, 1) := by decide +kernel
theorem d_Marks_clear_26 : decode b_Marks_clear 26 = .ok (.if_icmp .ge 16, 3) := by decide +kernel
theorem d_Marks_clear_29 : decode b_Marks_clear 29 = .ok (.aload_n 0, 1) := by decide +kernel
theorem d_Marks_clear_30 : decode b_Marks_clear 30 = .ok (.getfield 29, 3) := by decide +kernel
theorem d_Marks_clear_33 : decode b_Marks_clear 33 = .ok (.iload_n 1, 1) := by decide +kernel
theorem d_Marks_clear_34 : decode b_Marks_clear 34 = .ok (.lconst 0, 1) := by decide +kernel
theorem d_Marks_clear_35 : decode b_Marks_clear 35 = .ok (.lastore, 1) := by decide +kernel
theorem d_Marks_clear_36 : decode b_Marks_clear 36 = .ok (.iinc 1 1, 3) := by decide +kernel
theorem d_Marks_clear_39 : decode b_Marks_clear 39 = .ok (.goto (-15), 3) := by decide +kernel
theorem d_Marks_clear_42 : decode b_Marks_clear 42 = .ok (.aload_n 0, 1) := by decide +kernel
theorem d_Marks_clear_43 : decode b_Marks_clear 43 = .ok (.iconst 0, 1) := by decide +kernel
theorem d_Marks_clear_44 : decode b_Marks_clear 44 = .ok (.putfield 36, 3) := by decide +kernel
theorem d_Marks_clear_47 : decode b_Marks_clear 47 = .ok (.aload_n 0, 1) := by decide +kernel
theorem d_Marks_clear_48 : decode b_Marks_clear 48 = .ok (.iconst 0, 1) := by decide +kernel
theorem d_Marks_clear_49 : decode b_Marks_clear 49 = .ok (.putfield 40, 3) := by decide +kernel
theorem d_Marks_clear_52 : decode b_Marks_clear 52 = .ok (.return_, 1) := by decide +kernel
set_option maxHeartbeats 4000000 in
set_option maxRecDepth 100000 in
/-- Marks.is(k, hand): is name k the one in the hand -/
theorem c_Marks_is (l : Launch) (g : GT) (sz : Nat) (a a0 a1 a2 a3 a4 a5 b b0 : Nat) (sv vv : Int32) (fb bg f : Nat → Int32) (k h S z : Nat) (hk : k < 200) (hh : h ≤ 60) (e0 : bg k = nI S) (e1 : bg (k + 1) = nI (S + z)) (hSz : S + z ≤ 12000) : Met l y_Marks_is w_Marks_is ({ frames := 0, cells := 0, slots := 0, locals := 0 } : Room) (PcW [.ref a, .int (nI k), .ref b] sz g [(a, .inr (2, [.ref a0, .ref a1, .ref a2, .ref a3, .ref a4, .ref a5, .int sv, .int vv])), (a0, .inl (cBy g, 12000, .inl fb)), (a1, .inl (cIn g, 201, .inl bg)), (b, .inr (1, [.ref b0, .int (nI h)])), (b0, .inl (cBy g, 60, .inl f))]) (va_Qi (fun (r : Int32) (_ : Unit) => YN r (z = h ∧ ∀ i, i < h → fb (S + i) = f i)) BR (va_A [] sz)) 0 0 (va_A [] sz) := by
  refine Met.ofW (cc := b_Marks_is) (maxL := 5) (ret := (some .boolean)) (by decide) rfl ?_
  intro p e s m args below meth c s₁ B hml hv
  obtain ⟨rfl, hsz, hP, hK, hN, hD⟩ := hv
  have hx := B.exec
  have hb := B.bytes
  have hr := B.returns
  have hc : ∀ w ∈ cmn, w.before ([.ref a, .int (nI k), .ref b] : List Value).toArray s = true := fun w h => atoms_spec (ws := w_Marks_is) B.pre w (List.mem_cons_of_mem _ h)
  have hown : s.vm.findClass R_Marks = some m.cls := findClass_of_methodNamed B.named
  have hlocks := B.notSynchronized
  subst hsz
  have hS : va_S (va_A [] s.heap.size) s.heap s.heap [] := va_S.rf
  have hA : ∀ q : Nat, s.heap.size ≤ q → va_A [] s.heap.size q := fun q h => Or.inr h
  generalize va_A [] s.heap.size = A at hS hA ⊢
  have hP : va_P g.1 classes [(a, .inr (2, [.ref a0, .ref a1, .ref a2, .ref a3, .ref a4, .ref a5, .int sv, .int vv])), (a0, .inl (cBy g, 12000, .inl fb)), (a1, .inl (cIn g, 201, .inl bg)), (b, .inr (1, [.ref b0, .int (nI h)])), (b0, .inl (cBy g, 60, .inl f))] s.heap := hP
  have hl := lv_entry ([.ref a, .int (nI k), .ref b]) (n := 5) (Nat.le_of_ble_eq_true rfl)
  rw [lg_entry_eq]
  generalize (lg_sl ([.ref a, .int (nI k), .ref b]) ++ List.replicate (5 - (lg_sl ([.ref a, .int (nI k), .ref b])).length) Slot.unset).toArray = ls at hl ⊢
  have hl : lv_has ls 5 [(0, .ref a), (1, .int (nI k)), (2, .ref b)] := hl
  refine lv_aload_n hx hb d_Marks_is_0 rfl (lv_at hl 0 rfl) ?_
  refine va_get (D := g.1) (ci := 2) (v := .ref a1) (C := R_Marks) (T := F_Marks) (N := 8) hx hb hc i_Marks hown hK hP 0 rfl rfl 1 (by decide) (hc _ kf_Marks_15) (fun _ h9 => h9) rfl d_Marks_is_1 ?_
  refine lv_iload_n hx hb d_Marks_is_4 rfl (lv_at hl 1 rfl) ?_
  refine lv_iconst (v := 1) hx hb d_Marks_is_5 (by decide) ?_
  refine lv_iadd hx hb d_Marks_is_6 ?_
  refine x_top (y := nI (k + 1)) (nI_1 k) ?_
  refine x_iald hx hb hK hP 2 rfl (k := (k + 1)) (by omega) (by decide) d_Marks_is_7 ?_
  refine x_top (y := nI (S + z)) (e1) ?_
  refine lv_aload_n hx hb d_Marks_is_8 rfl (lv_at hl 0 rfl) ?_
  refine va_get (D := g.1) (ci := 2) (v := .ref a1) (C := R_Marks) (T := F_Marks) (N := 8) hx hb hc i_Marks hown hK hP 0 rfl rfl 1 (by decide) (hc _ kf_Marks_15) (fun _ h9 => h9) rfl d_Marks_is_9 ?_
  refine lv_iload_n hx hb d_Marks_is_12 rfl (lv_at hl 1 rfl) ?_
  refine x_iald hx hb hK hP 2 rfl (k := k) (by omega) (by decide) d_Marks_is_13 ?_
  refine x_top (y := nI S) (e0) ?_
  refine lv_isub hx hb d_Marks_is_14 ?_
  refine x_top (y := nI z) ((pk_sub (by omega)).trans (by congr 1; omega)) ?_
  refine lv_aload_n hx hb d_Marks_is_15 rfl (lv_at hl 2 rfl) ?_
  refine va_getN (D := g.1) (ci := 1) (v := .int (nI h)) (C := R_Hand) (T := F_Hand) (N := 2) hx hb hc i_Hand hown hK hP 3 rfl rfl 1 (by decide) (nf_Marks_43 hN) (fun _ h9 => h9) rfl d_Marks_is_16 ?_
  refine x_join (rest := []) 27 (fun v => YN v (z = h)) (fun v hv => ?_) (fun kj => ?_)
  · refine lv_istore_n (lv' := [(3, .int v), (0, .ref a), (1, .int (nI k)), (2, .ref b)]) hx hb d_Marks_is_27 rfl hl (by decide) rfl (fun ls hl => ?_)
    refine lv_iconst (v := 0) hx hb d_Marks_is_28 (by decide) ?_
    refine lv_istore (lv' := [(4, .int 0), (3, .int v), (0, .ref a), (1, .int (nI k)), (2, .ref b)]) hx hb d_Marks_is_29 hl (by decide) rfl (fun ls hl => ?_)
    have hv0 : ((v = 1 ∧ z = h ∧ ∀ j, j < 0 → fb (S + j) = f j) ∨ (v = 0 ∧ ¬ (z = h ∧ ∀ j, j < h → fb (S + j) = f j))) := by
      rcases hv with ⟨q1, q2⟩ | ⟨q1, q2⟩
      · exact Or.inl ⟨q1, q2, fun j hj => absurd hj (Nat.not_lt_zero _)⟩
      · exact Or.inr ⟨q1, fun q => q2 q.1⟩
    refine x_loopR (σ := Nat × Int32) (fun x => h - x.1) (fun x ls1 => x.1 ≤ h ∧ ((x.2 = 1 ∧ z = h ∧ ∀ j, j < x.1 → fb (S + j) = f j) ∨ (x.2 = 0 ∧ ¬ (z = h ∧ ∀ j, j < h → fb (S + j) = f j))) ∧ lv_has ls1 5 [(0, .ref a), (1, .int (nI k)), (2, .ref b), (3, .int x.2), (4, .int (nI x.1))]) ?_ (0, v) ⟨Nat.zero_le _, hv0, lv_sub hl [2, 3, 4, 1, 0] rfl⟩
    rintro ⟨i, v⟩ ls ⟨hi, hv, hl⟩ ih
    dsimp only at hi hv hl
    refine lv_iload hx hb d_Marks_is_31 (lv_at hl 4 rfl) ?_
    refine lv_aload_n hx hb d_Marks_is_33 rfl (lv_at hl 2 rfl) ?_
    refine va_getN (D := g.1) (ci := 1) (v := .int (nI h)) (C := R_Hand) (T := F_Hand) (N := 2) hx hb hc i_Hand hown hK hP 3 rfl rfl 1 (by decide) (nf_Marks_43 hN) (fun _ h9 => h9) rfl d_Marks_is_34 ?_
    refine lv_icmp_ge (tgt := 80) hx hb d_Marks_is_37 (by decide) (fun c2 => ?_) (fun c2 => ?_)
    · rw [nI_leI (by omega) (by omega)] at c2
      obtain rfl : i = h := by omega
      have hy : YN v (z = i ∧ ∀ j, j < i → fb (S + j) = f j) := by
        rcases hv with ⟨q1, q2⟩ | ⟨q1, q2⟩
        · exact Or.inl ⟨q1, q2⟩
        · exact Or.inr ⟨q1, q2⟩
      refine lv_iload_n hx hb d_Marks_is_80 rfl (lv_at hl 3 rfl) ?_
      exact W.zret (v := v) hx hb hr (hy.nar) (fun t9 ht9 hW9 => ⟨⟨_, (), rfl, hy, trivial⟩, hS.F ht9⟩) hS.2.2 d_Marks_is_81
    · rw [nI_leI (by omega) (by omega)] at c2
      refine lv_iload_n hx hb d_Marks_is_40 rfl (lv_at hl 3 rfl) ?_
      refine lv_if_eq (tgt := 80) hx hb d_Marks_is_41 (by decide) (fun c3 => ?_) (fun c3 => ?_)
      · have hy : YN v (z = h ∧ ∀ j, j < h → fb (S + j) = f j) := by
          rcases hv with ⟨q1, q2⟩ | ⟨q1, q2⟩
          · rw [c3] at q1; exact absurd q1 (by decide)
          · exact Or.inr ⟨q1, q2⟩
        refine lv_iload_n hx hb d_Marks_is_80 rfl (lv_at hl 3 rfl) ?_
        exact W.zret (v := v) hx hb hr (hy.nar) (fun t9 ht9 hW9 => ⟨⟨_, (), rfl, hy, trivial⟩, hS.F ht9⟩) hS.2.2 d_Marks_is_81
      · obtain ⟨-, ez, hall⟩ := hv.resolve_right (fun q => c3 q.1)
        refine lv_aload_n hx hb d_Marks_is_44 rfl (lv_at hl 0 rfl) ?_
        refine va_get (D := g.1) (ci := 2) (v := .ref a0) (C := R_Marks) (T := F_Marks) (N := 8) hx hb hc i_Marks hown hK hP 0 rfl rfl 0 (by decide) (hc _ kf_Marks_11) (fun _ h9 => h9) rfl d_Marks_is_45 ?_
        refine lv_aload_n hx hb d_Marks_is_48 rfl (lv_at hl 0 rfl) ?_
        refine va_get (D := g.1) (ci := 2) (v := .ref a1) (C := R_Marks) (T := F_Marks) (N := 8) hx hb hc i_Marks hown hK hP 0 rfl rfl 1 (by decide) (hc _ kf_Marks_15) (fun _ h9 => h9) rfl d_Marks_is_49 ?_
        refine lv_iload_n hx hb d_Marks_is_52 rfl (lv_at hl 1 rfl) ?_
        refine x_iald hx hb hK hP 2 rfl (k := k) (by omega) (by decide) d_Marks_is_53 ?_
        refine x_top (y := nI S) (e0) ?_
        refine lv_iload hx hb d_Marks_is_54 (lv_at hl 4 rfl) ?_
        refine lv_iadd hx hb d_Marks_is_56 ?_
        refine x_top (y := nI (S + i)) (nI_add S i) ?_
        refine x_bald hx hb hK hP 1 rfl (k := (S + i)) (by omega) (by decide) d_Marks_is_57 ?_
        refine lv_aload_n hx hb d_Marks_is_58 rfl (lv_at hl 2 rfl) ?_
        refine va_getN (D := g.1) (ci := 1) (v := .ref b0) (C := R_Hand) (T := F_Hand) (N := 2) hx hb hc i_Hand hown hK hP 3 rfl rfl 0 (by decide) (nf_Marks_44 hN) (fun _ h9 => h9) rfl d_Marks_is_59 ?_
        refine lv_iload hx hb d_Marks_is_62 (lv_at hl 4 rfl) ?_
        refine x_bald hx hb hK hP 4 rfl (k := i) (by omega) (by decide) d_Marks_is_64 ?_
        refine x_join (rest := []) 73 (fun v2 => YN v2 (fb (S + i) = f i)) (fun v2 hv2 => ?_) (fun kj => ?_)
        · refine lv_istore_n (lv' := [(3, .int v2), (0, .ref a), (1, .int (nI k)), (2, .ref b), (4, .int (nI i))]) hx hb d_Marks_is_73 rfl hl (by decide) rfl (fun ls hl => ?_)
          refine lv_iinc (v := nI (i + 1)) (lv' := [(4, .int (nI (i + 1))), (3, .int v2), (0, .ref a), (1, .int (nI k)), (2, .ref b)]) hx hb d_Marks_is_74 hl (k := 4) rfl (nI_1 i) (by decide) rfl (fun ls hl => ?_)
          refine lv_goto (tgt := 31) hx hb d_Marks_is_77 (by decide) ?_
          refine ih (i + 1, v2) ls ⟨by show i + 1 ≤ h; omega, ?_, lv_sub hl [2, 3, 4, 1, 0] rfl⟩ (by show h - (i + 1) < h - i; omega)
          rcases hv2 with ⟨q1, q2⟩ | ⟨q1, q2⟩
          · refine Or.inl ⟨q1, ez, fun j hj => ?_⟩
            rcases Nat.lt_or_ge j i with z1 | z1
            · exact hall j z1
            · have hj : j < i + 1 := hj
              rw [show j = i by omega]
              exact q2
          · exact Or.inr ⟨q1, fun q => q2 (q.2 i (by omega))⟩
        · refine lv_icmp_ne (tgt := 72) hx hb d_Marks_is_65 (by decide) (fun c4 => ?_) (fun c4 => ?_)
          · refine lv_iconst (v := 0) hx hb d_Marks_is_72 (by decide) ?_
            exact kj 0 (Or.inr ⟨rfl, c4⟩)
          · refine lv_iconst (v := 1) hx hb d_Marks_is_68 (by decide) ?_
            refine lv_goto (tgt := 73) hx hb d_Marks_is_69 (by decide) ?_
            exact kj 1 (Or.inl ⟨rfl, c4⟩)
  · refine lv_icmp_ne (tgt := 26) hx hb d_Marks_is_19 (by decide) (fun c1 => ?_) (fun c1 => ?_)
    · rw [nI_eq (by omega) (by omega)] at c1
      refine lv_iconst (v := 0) hx hb d_Marks_is_26 (by decide) ?_
      exact kj 0 (Or.inr ⟨rfl, c1⟩)
    · rw [nI_eq (by omega) (by omega)] at c1
      refine lv_iconst (v := 1) hx hb d_Marks_is_22 (by decide) ?_
      refine lv_goto (tgt := 27) hx hb d_Marks_is_23 (by decide) ?_
      exact kj 1 (Or.inl ⟨rfl, c1⟩)
set_option maxHeartbeats 4000000 in
set_option maxRecDepth 100000 in
/-- Marks.slot(hand): where the search ends -/
theorem c_Marks_slot (l : Launch) (g : GT) (sz : Nat) (a a0 a1 a2 a3 a4 a5 b b0 : Nat) (sv vv : Int32) (fb bg sl f : Nat → Int32) (V : AS) (Bd h : Nat) (nb : Nat → Nat) (hV : AOk V Bd) (hH : HOk h nb) (hf : ∀ i, i < h → f i = sb_b (nb i)) (hM : MNam V fb bg) (hT : MTab (aN V) (hsA V) sl) : Met l y_Marks_slot w_Marks_slot ({ frames := 1, cells := 0, slots := 0, locals := 24 } : Room) (PcW [.ref a, .ref b] sz g [(a, .inr (2, [.ref a0, .ref a1, .ref a2, .ref a3, .ref a4, .ref a5, .int sv, .int vv])), (a0, .inl (cBy g, 12000, .inl fb)), (a1, .inl (cIn g, 201, .inl bg)), (a4, .inl (cSh g, 512, .inl sl)), (b, .inr (1, [.ref b0, .int (nI h)])), (b0, .inl (cBy g, 60, .inl f))]) (va_Qi (fun (r : Int32) (_ : Unit) => ∃ s1, r = nI s1 ∧ SltIs V h nb (hsh f h) sl s1) BR (va_A [] sz)) 0 0 (va_A [] sz) := by
  refine Met.ofW (cc := b_Marks_slot) (maxL := 3) (ret := (some .int)) (by decide) rfl ?_
  intro p e s m args below meth c s₁ B hml hv
  obtain ⟨rfl, hsz, hP, hK, hN, hD⟩ := hv
  have hx := B.exec
  have hb := B.bytes
  have hr := B.returns
  have hc : ∀ w ∈ cmn, w.before ([.ref a, .ref b] : List Value).toArray s = true := fun w h => atoms_spec (ws := w_Marks_slot) B.pre w (List.mem_cons_of_mem _ h)
  have hown : s.vm.findClass R_Marks = some m.cls := findClass_of_methodNamed B.named
  have hlocks := B.notSynchronized
  subst hsz
  have hS : va_S (va_A [] s.heap.size) s.heap s.heap [] := va_S.rf
  have hA : ∀ q : Nat, s.heap.size ≤ q → va_A [] s.heap.size q := fun q h => Or.inr h
  generalize va_A [] s.heap.size = A at hS hA ⊢
  have hP : va_P g.1 classes [(a, .inr (2, [.ref a0, .ref a1, .ref a2, .ref a3, .ref a4, .ref a5, .int sv, .int vv])), (a0, .inl (cBy g, 12000, .inl fb)), (a1, .inl (cIn g, 201, .inl bg)), (a4, .inl (cSh g, 512, .inl sl)), (b, .inr (1, [.ref b0, .int (nI h)])), (b0, .inl (cBy g, 60, .inl f))] s.heap := hP
  have hl := lv_entry ([.ref a, .ref b]) (n := 3) (Nat.le_of_ble_eq_true rfl)
  rw [lg_entry_eq]
  generalize (lg_sl ([.ref a, .ref b]) ++ List.replicate (3 - (lg_sl ([.ref a, .ref b])).length) Slot.unset).toArray = ls at hl ⊢
  have hl : lv_has ls 3 [(0, .ref a), (1, .ref b)] := hl
  refine lv_aload_n hx hb d_Marks_slot_0 rfl (lv_at hl 1 rfl) ?_
  refine x_cri (x_runV (As := []) (rest := []) ⟨hx, hb, hml, hown, hc⟩ (c_Hand_mixed l g _ b b0 h f hH.1) (cwV 0 hc (good_V km_Marks_45 ki_Hand_mixed ks_Hand_mixed kn_Hand kc_Hand_mixed) rfl rfl rfl (by decide +kernel) ⟨Nat.le_of_ble_eq_true rfl, Nat.le_of_ble_eq_true rfl⟩) hP hD hK hN [4, 5] (by decide) rfl (va_recv hK hP (ci := 1) (q0 := 4) rfl rfl) rfl hl.1 rfl (Nat.le_of_ble_eq_true rfl) d_Marks_slot_1 ⟨Nat.le_of_ble_eq_true rfl, Nat.le_of_ble_eq_true rfl⟩) hP hS hA (fun r0 H locs hw0 hP hS => ?_)
  have hw0 : r0 = mixH f h := hw0
  refine lv_sipush (v := 511) hx hb d_Marks_slot_4 (by decide) ?_
  refine lv_iand hx hb d_Marks_slot_7 ?_
  refine x_top (y := nI (hsh f h)) (by rw [hw0]; exact hsh_and f h) ?_
  refine lv_istore_n (lv' := [(2, .int (nI (hsh f h))), (0, .ref a), (1, .ref b)]) hx hb d_Marks_slot_8 rfl hl (by decide) rfl (fun ls hl => ?_)
  obtain ⟨D, hDl, hDf⟩ := slot_free hV.1 hT (hsh_lt f h)
  refine x_loop (σ := Nat) (fun d => D - d) (fun d H1 locs1 ls1 => d ≤ D ∧ (∀ j, j < d → sl ((hsh f h + j) % 512) ≠ -1 ∧ ∀ k, k < aN V → sl ((hsh f h + j) % 512) = nI k → ¬ Mt V h nb k) ∧ va_P g.1 classes [(a, .inr (2, [.ref a0, .ref a1, .ref a2, .ref a3, .ref a4, .ref a5, .int sv, .int vv])), (a0, .inl (cBy g, 12000, .inl fb)), (a1, .inl (cIn g, 201, .inl bg)), (a4, .inl (cSh g, 512, .inl sl)), (b, .inr (1, [.ref b0, .int (nI h)])), (b0, .inl (cBy g, 60, .inl f))] H1 ∧ va_S A s.heap H1 locs1 ∧ lv_has ls1 3 [(0, .ref a), (1, .ref b), (2, .int (nI ((hsh f h + d) % 512)))]) ?_ 0 ⟨Nat.zero_le _, fun j hj => absurd hj (Nat.not_lt_zero _), hP, hS, by rw [Nat.add_zero, Nat.mod_eq_of_lt (hsh_lt f h)]; exact lv_sub hl [1, 2, 0] rfl⟩
  rintro d H locs ls ⟨hd, hpre, hP, hS, hl⟩ ih
  obtain ⟨s1, es1⟩ : ∃ z, z = (hsh f h + d) % 512 := ⟨_, rfl⟩
  rw [← es1] at hl
  have hs1 : s1 < 512 := by rw [es1]; exact Nat.mod_lt _ (by decide)
  refine lv_aload_n hx hb d_Marks_slot_9 rfl (lv_at hl 0 rfl) ?_
  refine va_get (D := g.1) (ci := 2) (v := .ref a4) (C := R_Marks) (T := F_Marks) (N := 8) hx hb hc i_Marks hown hK hP 0 rfl rfl 4 (by decide) (hc _ kf_Marks_25) (fun _ h9 => h9) rfl d_Marks_slot_10 ?_
  refine lv_iload_n hx hb d_Marks_slot_13 rfl (lv_at hl 2 rfl) ?_
  refine x_sald hx hb hK hP 3 rfl (k := s1) (hs1) (by decide) d_Marks_slot_14 ?_
  refine lv_iconst (v := (-1)) hx hb d_Marks_slot_15 (by decide) ?_
  refine lv_icmp_eq (tgt := 44) hx hb d_Marks_slot_16 (by decide) (fun c1 => ?_) (fun c1 => ?_)
  · refine lv_iload_n hx hb d_Marks_slot_44 rfl (lv_at hl 2 rfl) ?_
    exact W.iret (v := nI s1) hx hb hr (fun t9 ht9 hW9 => ⟨⟨_, (), rfl, ⟨s1, rfl, hs1, Or.inl c1, d, by omega, es1, hpre⟩, trivial⟩, hS.F ht9⟩) hS.2.2 d_Marks_slot_45
  · obtain ⟨k, hk, ek⟩ := (hT.1 s1 hs1).resolve_left c1
    have hV1 := hV.1
    refine lv_aload_n hx hb d_Marks_slot_19 rfl (lv_at hl 0 rfl) ?_
    refine lv_aload_n hx hb d_Marks_slot_20 rfl (lv_at hl 0 rfl) ?_
    refine va_get (D := g.1) (ci := 2) (v := .ref a4) (C := R_Marks) (T := F_Marks) (N := 8) hx hb hc i_Marks hown hK hP 0 rfl rfl 4 (by decide) (hc _ kf_Marks_25) (fun _ h9 => h9) rfl d_Marks_slot_21 ?_
    refine lv_iload_n hx hb d_Marks_slot_24 rfl (lv_at hl 2 rfl) ?_
    refine x_sald hx hb hK hP 3 rfl (k := s1) (hs1) (by decide) d_Marks_slot_25 ?_
    refine x_top (y := nI k) (ek) ?_
    refine lv_aload_n hx hb d_Marks_slot_26 rfl (lv_at hl 1 rfl) ?_
    refine x_cri (x_runV (As := [.int (nI k), .ref b]) (rest := []) ⟨hx, hb, hml, hown, hc⟩ (c_Marks_is l g _ a a0 a1 a2 a3 a4 a5 b b0 sv vv fb bg f k h (psum (aZ V) k) (aZ V k) (by omega) hH.1 (hM.1 k (by omega)) (hM.1 (k + 1) (by omega)) (psum_12000 hV hk)) (cwV 2 hc (good_V km_Marks_49 ki_Marks_is ks_Marks_is kn_Marks kc_Marks_is) rfl rfl rfl (by decide +kernel) ⟨Nat.le_of_ble_eq_true rfl, Nat.le_of_ble_eq_true rfl⟩) hP hD hK hN [0, 1, 2, 4, 5] (by decide) rfl (va_recv hK hP (ci := 2) (q0 := 0) rfl rfl) rfl hl.1 rfl (Nat.le_of_ble_eq_true rfl) d_Marks_slot_27 ⟨Nat.le_of_ble_eq_true rfl, Nat.le_of_ble_eq_true rfl⟩) hP hS hA (fun r1 H locs hw1 hP hS => ?_)
    have hw1 : YN r1 (Mt V h nb k) := YN.to hw1 (is_Mt hV hH hf hM hk)
    refine lv_if_ne (tgt := 44) hx hb d_Marks_slot_30 (by decide) (fun c2 => ?_) (fun c2 => ?_)
    · refine lv_iload_n hx hb d_Marks_slot_44 rfl (lv_at hl 2 rfl) ?_
      exact W.iret (v := nI s1) hx hb hr (fun t9 ht9 hW9 => ⟨⟨_, (), rfl, ⟨s1, rfl, hs1, Or.inr ⟨k, hk, ek, hw1.yes c2⟩, d, by omega, es1, hpre⟩, trivial⟩, hS.F ht9⟩) hS.2.2 d_Marks_slot_45
    · have hnm := hw1.no c2
      have hdD : d ≠ D := fun q => c1 (by rw [es1, q]; exact hDf)
      refine lv_iload_n hx hb d_Marks_slot_33 rfl (lv_at hl 2 rfl) ?_
      refine lv_iconst (v := 1) hx hb d_Marks_slot_34 (by decide) ?_
      refine lv_iadd hx hb d_Marks_slot_35 ?_
      refine lv_sipush (v := 511) hx hb d_Marks_slot_36 (by decide) ?_
      refine lv_iand hx hb d_Marks_slot_39 ?_
      refine x_top (y := nI ((hsh f h + (d + 1)) % 512)) (by rw [nI_1, pk_andN (by omega) (m := 511) 9 (by decide)]; congr 1; show (s1 + 1) % 512 = _; omega) ?_
      refine lv_istore_n (lv' := [(2, .int (nI ((hsh f h + (d + 1)) % 512))), (0, .ref a), (1, .ref b)]) hx hb d_Marks_slot_40 rfl hl (by decide) rfl (fun ls hl => ?_)
      refine lv_goto (tgt := 9) hx hb d_Marks_slot_41 (by decide) ?_
      refine ih (d + 1) H locs ls ⟨by omega, fun j hj => ?_, hP, hS, lv_sub hl [1, 2, 0] rfl⟩ (by omega)
      rcases Nat.lt_or_ge j d with z1 | z1
      · exact hpre j z1
      · obtain rfl : j = d := by omega
        rw [← es1]
        refine ⟨c1, fun k' hk' e' => ?_⟩
        rw [ek] at e'
        rw [show k' = k from ((nI_eq (by omega) (by omega)).mp e').symm]
        exact hnm
set_option maxHeartbeats 4000000 in
set_option maxRecDepth 100000 in
/-- Marks.find(hand): the number of the name in the hand -/
theorem c_Marks_find (l : Launch) (g : GT) (sz : Nat) (a a0 a1 a2 a3 a4 a5 b b0 : Nat) (sv vv : Int32) (fb bg sl f : Nat → Int32) (V : AS) (Bd h : Nat) (nb : Nat → Nat) (hV : AOk V Bd) (hH : HOk h nb) (hf : ∀ i, i < h → f i = sb_b (nb i)) (hM : MNam V fb bg) (hT : MTab (aN V) (hsA V) sl) (pl : Option Nat) (hp : PlIs V h nb pl) : Met l y_Marks_find w_Marks_find ({ frames := 2, cells := 0, slots := 0, locals := 46 } : Room) (PcW [.ref a, .ref b] sz g [(a, .inr (2, [.ref a0, .ref a1, .ref a2, .ref a3, .ref a4, .ref a5, .int sv, .int vv])), (a0, .inl (cBy g, 12000, .inl fb)), (a1, .inl (cIn g, 201, .inl bg)), (a4, .inl (cSh g, 512, .inl sl)), (b, .inr (1, [.ref b0, .int (nI h)])), (b0, .inl (cBy g, 60, .inl f))]) (va_Qi (fun (r : Int32) (_ : Unit) => r = fR pl) BR (va_A [] sz)) 0 0 (va_A [] sz) := by
  refine Met.ofW (cc := b_Marks_find) (maxL := 2) (ret := (some .int)) (by decide) rfl ?_
  intro p e s m args below meth c s₁ B hml hv
  obtain ⟨rfl, hsz, hP, hK, hN, hD⟩ := hv
  have hx := B.exec
  have hb := B.bytes
  have hr := B.returns
  have hc : ∀ w ∈ cmn, w.before ([.ref a, .ref b] : List Value).toArray s = true := fun w h => atoms_spec (ws := w_Marks_find) B.pre w (List.mem_cons_of_mem _ h)
  have hown : s.vm.findClass R_Marks = some m.cls := findClass_of_methodNamed B.named
  have hlocks := B.notSynchronized
  subst hsz
  have hS : va_S (va_A [] s.heap.size) s.heap s.heap [] := va_S.rf
  have hA : ∀ q : Nat, s.heap.size ≤ q → va_A [] s.heap.size q := fun q h => Or.inr h
  generalize va_A [] s.heap.size = A at hS hA ⊢
  have hP : va_P g.1 classes [(a, .inr (2, [.ref a0, .ref a1, .ref a2, .ref a3, .ref a4, .ref a5, .int sv, .int vv])), (a0, .inl (cBy g, 12000, .inl fb)), (a1, .inl (cIn g, 201, .inl bg)), (a4, .inl (cSh g, 512, .inl sl)), (b, .inr (1, [.ref b0, .int (nI h)])), (b0, .inl (cBy g, 60, .inl f))] s.heap := hP
  have hl := lv_entry ([.ref a, .ref b]) (n := 2) (Nat.le_of_ble_eq_true rfl)
  rw [lg_entry_eq]
  generalize (lg_sl ([.ref a, .ref b]) ++ List.replicate (2 - (lg_sl ([.ref a, .ref b])).length) Slot.unset).toArray = ls at hl ⊢
  have hl : lv_has ls 2 [(0, .ref a), (1, .ref b)] := hl
  refine lv_aload_n hx hb d_Marks_find_0 rfl (lv_at hl 0 rfl) ?_
  refine va_get (D := g.1) (ci := 2) (v := .ref a4) (C := R_Marks) (T := F_Marks) (N := 8) hx hb hc i_Marks hown hK hP 0 rfl rfl 4 (by decide) (hc _ kf_Marks_25) (fun _ h9 => h9) rfl d_Marks_find_1 ?_
  refine lv_aload_n hx hb d_Marks_find_4 rfl (lv_at hl 0 rfl) ?_
  refine lv_aload_n hx hb d_Marks_find_5 rfl (lv_at hl 1 rfl) ?_
  refine x_cri (x_runV (As := [.ref b]) (rest := [.ref a4]) ⟨hx, hb, hml, hown, hc⟩ (c_Marks_slot l g _ a a0 a1 a2 a3 a4 a5 b b0 sv vv fb bg sl f V Bd h nb hV hH hf hM hT) (cwV 1 hc (good_V km_Marks_53 ki_Marks_slot ks_Marks_slot kn_Marks kc_Marks_slot) rfl rfl rfl (by decide +kernel) ⟨Nat.le_of_ble_eq_true rfl, Nat.le_of_ble_eq_true rfl⟩) hP hD hK hN [0, 1, 2, 3, 4, 5] (by decide) rfl (va_recv hK hP (ci := 2) (q0 := 0) rfl rfl) rfl hl.1 rfl (Nat.le_of_ble_eq_true rfl) d_Marks_find_6 ⟨Nat.le_of_ble_eq_true rfl, Nat.le_of_ble_eq_true rfl⟩) hP hS hA (fun r0 H locs hw0 hP hS => ?_)
  obtain ⟨s1, rfl, hs⟩ := hw0
  refine x_sald hx hb hK hP 3 rfl (k := s1) (hs.1) (by decide) d_Marks_find_9 ?_
  exact W.iret (v := sl s1) hx hb hr (fun t9 ht9 hW9 => ⟨⟨_, (), rfl, slot_found hV hf hT hp hs, trivial⟩, hS.F ht9⟩) hS.2.2 d_Marks_find_10
set_option maxHeartbeats 4000000 in
set_option maxRecDepth 100000 in
/-- Marks.mark(k): the bit of name k is set anew -/
theorem c_Marks_mark (l : Launch) (g : GT) (sz : Nat) (a a0 a1 a2 a3 a4 a5 : Nat) (sv vv : Int32) (fg fr : Nat → Int32) (ms : Nat → Int64) (k : Nat) (hk : k < 200) : Met l y_Marks_mark w_Marks_mark ({ frames := 0, cells := 0, slots := 0, locals := 0 } : Room) (PcW [.ref a, .int (nI k)] sz g [(a, .inr (2, [.ref a0, .ref a1, .ref a2, .ref a3, .ref a4, .ref a5, .int sv, .int vv])), (a2, .inl (cIn g, 200, .inl fg)), (a3, .inl (cIn g, 200, .inl fr)), (a5, .inl (cLo g, 4, .inr (.inl ms)))]) (va_Qv (fun (u : (Nat → Int64)) => MkBit ms u k (decide (fg k = 0 ∧ 0 < fr k))) (BW g (va_A [(a, .inr (2, [.ref a0, .ref a1, .ref a2, .ref a3, .ref a4, .ref a5, .int sv, .int vv])), (a2, .inl (cIn g, 200, .inl fg)), (a3, .inl (cIn g, 200, .inl fr)), (a5, .inl (cLo g, 4, .inr (.inl ms)))] sz) (fun u : (Nat → Int64) => [(a, .inr (2, [.ref a0, .ref a1, .ref a2, .ref a3, .ref a4, .ref a5, .int sv, .int vv])), (a2, .inl (cIn g, 200, .inl fg)), (a3, .inl (cIn g, 200, .inl fr)), (a5, .inl (cLo g, 4, .inr (.inl u)))])) (va_A [(a, .inr (2, [.ref a0, .ref a1, .ref a2, .ref a3, .ref a4, .ref a5, .int sv, .int vv])), (a2, .inl (cIn g, 200, .inl fg)), (a3, .inl (cIn g, 200, .inl fr)), (a5, .inl (cLo g, 4, .inr (.inl ms)))] sz)) 0 0 (va_A [(a, .inr (2, [.ref a0, .ref a1, .ref a2, .ref a3, .ref a4, .ref a5, .int sv, .int vv])), (a2, .inl (cIn g, 200, .inl fg)), (a3, .inl (cIn g, 200, .inl fr)), (a5, .inl (cLo g, 4, .inr (.inl ms)))] sz) := by
  refine Met.ofW (cc := b_Marks_mark) (maxL := 5) (ret := none) (by decide) rfl ?_
  intro p e s m args below meth c s₁ B hml hv
  obtain ⟨rfl, hsz, hP, hK, hN, hD⟩ := hv
  have hx := B.exec
  have hb := B.bytes
  have hr := B.returns
  have hc : ∀ w ∈ cmn, w.before ([.ref a, .int (nI k)] : List Value).toArray s = true := fun w h => atoms_spec (ws := w_Marks_mark) B.pre w (List.mem_cons_of_mem _ h)
  have hown : s.vm.findClass R_Marks = some m.cls := findClass_of_methodNamed B.named
  have hlocks := B.notSynchronized
  subst hsz
  have hD := hD.self (sz := s.heap.size)
  have hS : va_S (va_A [(a, .inr (2, [.ref a0, .ref a1, .ref a2, .ref a3, .ref a4, .ref a5, .int sv, .int vv])), (a2, .inl (cIn g, 200, .inl fg)), (a3, .inl (cIn g, 200, .inl fr)), (a5, .inl (cLo g, 4, .inr (.inl ms)))] s.heap.size) s.heap s.heap [] := va_S.rf
  have hA : ∀ q : Nat, s.heap.size ≤ q → va_A [(a, .inr (2, [.ref a0, .ref a1, .ref a2, .ref a3, .ref a4, .ref a5, .int sv, .int vv])), (a2, .inl (cIn g, 200, .inl fg)), (a3, .inl (cIn g, 200, .inl fr)), (a5, .inl (cLo g, 4, .inr (.inl ms)))] s.heap.size q := fun q h => Or.inr h
  generalize va_A [(a, .inr (2, [.ref a0, .ref a1, .ref a2, .ref a3, .ref a4, .ref a5, .int sv, .int vv])), (a2, .inl (cIn g, 200, .inl fg)), (a3, .inl (cIn g, 200, .inl fr)), (a5, .inl (cLo g, 4, .inr (.inl ms)))] s.heap.size = A at hD hS hA ⊢
  have hP : va_P g.1 classes [(a, .inr (2, [.ref a0, .ref a1, .ref a2, .ref a3, .ref a4, .ref a5, .int sv, .int vv])), (a2, .inl (cIn g, 200, .inl fg)), (a3, .inl (cIn g, 200, .inl fr)), (a5, .inl (cLo g, 4, .inr (.inl ms)))] s.heap := hP
  have hD : va_D A [(a, .inr (2, [.ref a0, .ref a1, .ref a2, .ref a3, .ref a4, .ref a5, .int sv, .int vv])), (a2, .inl (cIn g, 200, .inl fg)), (a3, .inl (cIn g, 200, .inl fr)), (a5, .inl (cLo g, 4, .inr (.inl ms)))] := hD
  have hl := lv_entry ([.ref a, .int (nI k)]) (n := 5) (Nat.le_of_ble_eq_true rfl)
  rw [lg_entry_eq]
  generalize (lg_sl ([.ref a, .int (nI k)]) ++ List.replicate (5 - (lg_sl ([.ref a, .int (nI k)])).length) Slot.unset).toArray = ls at hl ⊢
  have hl : lv_has ls 5 [(0, .ref a), (1, .int (nI k))] := hl
  refine lv_lconst (v := 1) hx hb d_Marks_mark_0 (by decide) ?_
  refine lv_iload_n hx hb d_Marks_mark_1 rfl (lv_at hl 1 rfl) ?_
  refine lv_bipush (v := 64) hx hb d_Marks_mark_2 (by decide) ?_
  refine lv_irem hx hb d_Marks_mark_4 (by decide) ?_
  refine x_top (y := nI (k % 64)) (pk_rem (a := k) (d := 64) (by omega) (by decide) (by decide)) ?_
  refine lv_lshl (v := 1 <<< ((nI (k % 64)).toInt64 &&& 63)) hx hb d_Marks_mark_5 rfl ?_
  refine x_topl (y := lN (2 ^ (k % 64))) ((wb_shl 1 (Nat.mod_lt k (by decide))).trans (by rw [Nat.one_mul])) ?_
  refine lv_lstore_n (lv' := [(2, .long (lN (2 ^ (k % 64)))), (0, .ref a), (1, .int (nI k))]) hx hb d_Marks_mark_6 rfl hl (by decide) rfl (fun ls hl => ?_)
  refine lv_aload_n hx hb d_Marks_mark_7 rfl (lv_at hl 1 rfl) ?_
  refine va_get (D := g.1) (ci := 2) (v := .ref a2) (C := R_Marks) (T := F_Marks) (N := 8) hx hb hc i_Marks hown hK hP 0 rfl rfl 2 (by decide) (hc _ kf_Marks_19) (fun _ h9 => h9) rfl d_Marks_mark_8 ?_
  refine lv_iload_n hx hb d_Marks_mark_11 rfl (lv_at hl 2 rfl) ?_
  refine x_iald hx hb hK hP 1 rfl (k := k) (by omega) (by decide) d_Marks_mark_12 ?_
  refine x_join (rest := []) 30 (fun v => YN v (fg k = 0 ∧ 0 < fr k)) (fun v hv => ?_) (fun kj => ?_)
  · refine lv_istore (lv' := [(4, .int v), (2, .long (lN (2 ^ (k % 64)))), (0, .ref a), (1, .int (nI k))]) hx hb d_Marks_mark_30 hl (by decide) rfl (fun ls hl => ?_)
    refine lv_aload_n hx hb d_Marks_mark_32 rfl (lv_at hl 2 rfl) ?_
    refine va_get (D := g.1) (ci := 2) (v := .ref a5) (C := R_Marks) (T := F_Marks) (N := 8) hx hb hc i_Marks hown hK hP 0 rfl rfl 5 (by decide) (hc _ kf_Marks_29) (fun _ h9 => h9) rfl d_Marks_mark_33 ?_
    refine lv_iload_n hx hb d_Marks_mark_36 rfl (lv_at hl 3 rfl) ?_
    refine lv_bipush (v := 64) hx hb d_Marks_mark_37 (by decide) ?_
    refine lv_idiv hx hb d_Marks_mark_39 (by decide) ?_
    refine x_top (y := nI (k / 64)) (pk_div (a := k) (d := 64) (by omega) (by decide) (by decide)) ?_
    refine lv_iload hx hb d_Marks_mark_40 (lv_at hl 0 rfl) ?_
    refine lv_if_eq (tgt := 59) hx hb d_Marks_mark_42 (by decide) (fun c3 => ?_) (fun c3 => ?_)
    · refine lv_aload_n hx hb d_Marks_mark_59 rfl (lv_at hl 2 rfl) ?_
      refine va_get (D := g.1) (ci := 2) (v := .ref a5) (C := R_Marks) (T := F_Marks) (N := 8) hx hb hc i_Marks hown hK hP 0 rfl rfl 5 (by decide) (hc _ kf_Marks_29) (fun _ h9 => h9) rfl d_Marks_mark_60 ?_
      refine lv_iload_n hx hb d_Marks_mark_63 rfl (lv_at hl 3 rfl) ?_
      refine lv_bipush (v := 64) hx hb d_Marks_mark_64 (by decide) ?_
      refine lv_idiv hx hb d_Marks_mark_66 (by decide) ?_
      refine x_top (y := nI (k / 64)) (pk_div (a := k) (d := 64) (by omega) (by decide) (by decide)) ?_
      refine x_lald hx hb hK hP 3 rfl (k := (k / 64)) (by omega) (by decide) d_Marks_mark_67 ?_
      refine lv_lload_n hx hb d_Marks_mark_68 rfl (lv_at hl 1 rfl) ?_
      refine lv_ldc2 (v := (-1)) hx hb hown (hc _ kq_Marks_63) d_Marks_mark_69 ?_
      refine lv_lxor hx hb d_Marks_mark_72 ?_
      refine lv_land hx hb d_Marks_mark_73 ?_
      refine x_last hx hb hK hP hD hS 3 rfl (k := (k / 64)) (by omega) (by decide) d_Marks_mark_74 (fun H locs hP hD hS => ?_)
      have hP : va_P g.1 classes [(a, .inr (2, [.ref a0, .ref a1, .ref a2, .ref a3, .ref a4, .ref a5, .int sv, .int vv])), (a2, .inl (cIn g, 200, .inl fg)), (a3, .inl (cIn g, 200, .inl fr)), (a5, .inl (cLo g, 4, .inr (.inl (vp_updL ms (k / 64) ((ms (k / 64)) &&& ((lN (2 ^ (k % 64))) ^^^ (-1)))))))] H := hP
      have hD : va_D A [(a, .inr (2, [.ref a0, .ref a1, .ref a2, .ref a3, .ref a4, .ref a5, .int sv, .int vv])), (a2, .inl (cIn g, 200, .inl fg)), (a3, .inl (cIn g, 200, .inl fr)), (a5, .inl (cLo g, 4, .inr (.inl (vp_updL ms (k / 64) ((ms (k / 64)) &&& ((lN (2 ^ (k % 64))) ^^^ (-1)))))))] := hD
      have hq : decide (fg k = 0 ∧ 0 < fr k) = false := decide_eq_false (hv.no c3)
      exact W.vret hx hb hr (fun t9 ht9 hW9 => ⟨⟨_, rfl, by rw [hq]; exact MkBit_of (fun i hi => bit_and (Nat.mod_lt k (by decide)) hi), by rw [ht9]; exact hP, hD⟩, hS.F ht9⟩) hS.2.2 d_Marks_mark_75
    · refine lv_aload_n hx hb d_Marks_mark_45 rfl (lv_at hl 2 rfl) ?_
      refine va_get (D := g.1) (ci := 2) (v := .ref a5) (C := R_Marks) (T := F_Marks) (N := 8) hx hb hc i_Marks hown hK hP 0 rfl rfl 5 (by decide) (hc _ kf_Marks_29) (fun _ h9 => h9) rfl d_Marks_mark_46 ?_
      refine lv_iload_n hx hb d_Marks_mark_49 rfl (lv_at hl 3 rfl) ?_
      refine lv_bipush (v := 64) hx hb d_Marks_mark_50 (by decide) ?_
      refine lv_idiv hx hb d_Marks_mark_52 (by decide) ?_
      refine x_top (y := nI (k / 64)) (pk_div (a := k) (d := 64) (by omega) (by decide) (by decide)) ?_
      refine x_lald hx hb hK hP 3 rfl (k := (k / 64)) (by omega) (by decide) d_Marks_mark_53 ?_
      refine lv_lload_n hx hb d_Marks_mark_54 rfl (lv_at hl 1 rfl) ?_
      refine lv_lor hx hb d_Marks_mark_55 ?_
      refine lv_goto (tgt := 74) hx hb d_Marks_mark_56 (by decide) ?_
      refine x_last hx hb hK hP hD hS 3 rfl (k := (k / 64)) (by omega) (by decide) d_Marks_mark_74 (fun H locs hP hD hS => ?_)
      have hP : va_P g.1 classes [(a, .inr (2, [.ref a0, .ref a1, .ref a2, .ref a3, .ref a4, .ref a5, .int sv, .int vv])), (a2, .inl (cIn g, 200, .inl fg)), (a3, .inl (cIn g, 200, .inl fr)), (a5, .inl (cLo g, 4, .inr (.inl (vp_updL ms (k / 64) ((ms (k / 64)) ||| (lN (2 ^ (k % 64))))))))] H := hP
      have hD : va_D A [(a, .inr (2, [.ref a0, .ref a1, .ref a2, .ref a3, .ref a4, .ref a5, .int sv, .int vv])), (a2, .inl (cIn g, 200, .inl fg)), (a3, .inl (cIn g, 200, .inl fr)), (a5, .inl (cLo g, 4, .inr (.inl (vp_updL ms (k / 64) ((ms (k / 64)) ||| (lN (2 ^ (k % 64))))))))] := hD
      have hq : decide (fg k = 0 ∧ 0 < fr k) = true := decide_eq_true (hv.yes c3)
      exact W.vret hx hb hr (fun t9 ht9 hW9 => ⟨⟨_, rfl, by rw [hq]; exact MkBit_of (fun i hi => bit_or (Nat.mod_lt k (by decide)) hi), by rw [ht9]; exact hP, hD⟩, hS.F ht9⟩) hS.2.2 d_Marks_mark_75
  · refine lv_if_ne (tgt := 29) hx hb d_Marks_mark_13 (by decide) (fun c1 => ?_) (fun c1 => ?_)
    · refine lv_iconst (v := 0) hx hb d_Marks_mark_29 (by decide) ?_
      exact kj 0 (Or.inr ⟨rfl, fun q => c1 q.1⟩)
    · refine lv_aload_n hx hb d_Marks_mark_16 rfl (lv_at hl 1 rfl) ?_
      refine va_get (D := g.1) (ci := 2) (v := .ref a3) (C := R_Marks) (T := F_Marks) (N := 8) hx hb hc i_Marks hown hK hP 0 rfl rfl 3 (by decide) (hc _ kf_Marks_22) (fun _ h9 => h9) rfl d_Marks_mark_17 ?_
      refine lv_iload_n hx hb d_Marks_mark_20 rfl (lv_at hl 2 rfl) ?_
      refine x_iald hx hb hK hP 2 rfl (k := k) (by omega) (by decide) d_Marks_mark_21 ?_
      refine lv_if_le (tgt := 29) hx hb d_Marks_mark_22 (by decide) (fun c2 => ?_) (fun c2 => ?_)
      · refine lv_iconst (v := 0) hx hb d_Marks_mark_29 (by decide) ?_
        exact kj 0 (Or.inr ⟨rfl, fun q => Int32.not_lt.mpr c2 q.2⟩)
      · refine lv_iconst (v := 1) hx hb d_Marks_mark_25 (by decide) ?_
        refine lv_goto (tgt := 30) hx hb d_Marks_mark_26 (by decide) ?_
        exact kj 1 (Or.inl ⟨rfl, c1, Int32.not_le.mp c2⟩)
set_option maxHeartbeats 4000000 in
set_option maxRecDepth 100000 in
/-- Marks.missingFrom(k): the first missing one from k on -/
theorem c_Marks_missingFrom (l : Launch) (g : GT) (sz : Nat) (a a0 a1 a2 a3 a4 a5 : Nat) (sv vv : Int32) (ms : Nat → Int64) (q : Nat → Bool) (k : Nat) (hk : k ≤ 200) (hq : MBit q ms) : Met l y_Marks_missingFrom w_Marks_missingFrom ({ frames := 2, cells := 0, slots := 0, locals := 43 } : Room) (PcW [.ref a, .int (nI k)] sz g [(a, .inr (2, [.ref a0, .ref a1, .ref a2, .ref a3, .ref a4, .ref a5, .int sv, .int vv])), (a5, .inl (cLo g, 4, .inr (.inl ms)))]) (va_Qi (fun (r : Int32) (_ : Unit) => r = mff q k (256 - k)) BR (va_A [] sz)) 0 0 (va_A [] sz) := by
  refine Met.ofW (cc := b_Marks_missingFrom) (maxL := 5) (ret := (some .int)) (by decide) rfl ?_
  intro p e s m args below meth c s₁ B hml hv
  obtain ⟨rfl, hsz, hP, hK, hN, hD⟩ := hv
  have hx := B.exec
  have hb := B.bytes
  have hr := B.returns
  have hc : ∀ w ∈ cmn, w.before ([.ref a, .int (nI k)] : List Value).toArray s = true := fun w h => atoms_spec (ws := w_Marks_missingFrom) B.pre w (List.mem_cons_of_mem _ h)
  have hown : s.vm.findClass R_Marks = some m.cls := findClass_of_methodNamed B.named
  have hlocks := B.notSynchronized
  subst hsz
  have hS : va_S (va_A [] s.heap.size) s.heap s.heap [] := va_S.rf
  have hA : ∀ q : Nat, s.heap.size ≤ q → va_A [] s.heap.size q := fun q h => Or.inr h
  generalize va_A [] s.heap.size = A at hS hA ⊢
  have hP : va_P g.1 classes [(a, .inr (2, [.ref a0, .ref a1, .ref a2, .ref a3, .ref a4, .ref a5, .int sv, .int vv])), (a5, .inl (cLo g, 4, .inr (.inl ms)))] s.heap := hP
  have hl := lv_entry ([.ref a, .int (nI k)]) (n := 5) (Nat.le_of_ble_eq_true rfl)
  rw [lg_entry_eq]
  generalize (lg_sl ([.ref a, .int (nI k)]) ++ List.replicate (5 - (lg_sl ([.ref a, .int (nI k)])).length) Slot.unset).toArray = ls at hl ⊢
  have hl : lv_has ls 5 [(0, .ref a), (1, .int (nI k))] := hl
  refine lv_iload_n hx hb d_Marks_missingFrom_0 rfl (lv_at hl 1 rfl) ?_
  refine lv_bipush (v := 64) hx hb d_Marks_missingFrom_1 (by decide) ?_
  refine lv_idiv hx hb d_Marks_missingFrom_3 (by decide) ?_
  refine x_top (y := nI (k / 64)) (pk_div (a := k) (d := 64) (by omega) (by decide) (by decide)) ?_
  refine lv_istore_n (lv' := [(2, .int (nI (k / 64))), (0, .ref a), (1, .int (nI k))]) hx hb d_Marks_missingFrom_4 rfl hl (by decide) rfl (fun ls hl => ?_)
  refine x_loop (σ := Nat) (fun x => 4 - x) (fun x H1 locs1 ls1 => k / 64 ≤ x ∧ x ≤ 4 ∧ (∀ j, k ≤ j → j < 64 * x → q j = false) ∧ va_P g.1 classes [(a, .inr (2, [.ref a0, .ref a1, .ref a2, .ref a3, .ref a4, .ref a5, .int sv, .int vv])), (a5, .inl (cLo g, 4, .inr (.inl ms)))] H1 ∧ va_S A s.heap H1 locs1 ∧ lv_has ls1 5 [(0, .ref a), (1, .int (nI k)), (2, .int (nI x))]) ?_ (k / 64) ⟨Nat.le_refl _, by omega, fun j h1 h2 => by omega, hP, hS, lv_sub hl [1, 2, 0] rfl⟩
  rintro x H locs ls ⟨hx0, hx4, hpre, hP, hS, hl⟩ ih
  refine lv_iload_n hx hb d_Marks_missingFrom_5 rfl (lv_at hl 2 rfl) ?_
  refine lv_iconst (v := 4) hx hb d_Marks_missingFrom_6 (by decide) ?_
  refine lv_icmp_ge (tgt := 65) hx hb d_Marks_missingFrom_7 (by decide) (fun c1 => ?_) (fun c1 => ?_)
  · have c1 := (nI_leI (a := 4) (b := x) (by decide) (by omega)).mp c1
    refine lv_iconst (v := (-1)) hx hb d_Marks_missingFrom_65 (by decide) ?_
    exact W.iret (v := (-1)) hx hb hr (fun t9 ht9 hW9 => ⟨⟨_, (), rfl, (mff_none (by omega) (fun j h1 h2 => hpre j h1 (by omega))).symm, trivial⟩, hS.F ht9⟩) hS.2.2 d_Marks_missingFrom_66
  · have c1 : ¬ 4 ≤ x := fun z => c1 ((nI_leI (a := 4) (b := x) (by decide) (by omega)).mpr z)
    refine lv_iload_n hx hb d_Marks_missingFrom_10 rfl (lv_at hl 2 rfl) ?_
    refine lv_iload_n hx hb d_Marks_missingFrom_11 rfl (lv_at hl 1 rfl) ?_
    refine lv_bipush (v := 64) hx hb d_Marks_missingFrom_12 (by decide) ?_
    refine lv_idiv hx hb d_Marks_missingFrom_14 (by decide) ?_
    refine x_top (y := nI (k / 64)) (pk_div (a := k) (d := 64) (by omega) (by decide) (by decide)) ?_
    refine x_joinl (rest := []) 42 (fun v => ∃ X, WBit q k x X ∧ v = lN X) (fun v hv => ?_) (fun kj => ?_)
    · obtain ⟨X, hX, rfl⟩ := hv
      refine lv_lstore_n (lv' := [(3, .long (lN X)), (0, .ref a), (1, .int (nI k)), (2, .int (nI x))]) hx hb d_Marks_missingFrom_42 rfl hl (by decide) rfl (fun ls hl => ?_)
      refine lv_lload_n hx hb d_Marks_missingFrom_43 rfl (lv_at hl 0 rfl) ?_
      refine lv_lconst (v := 0) hx hb d_Marks_missingFrom_44 (by decide) ?_
      refine W.lcmp hx hb d_Marks_missingFrom_45 ?_
      refine lv_if_eq (tgt := 59) hx hb d_Marks_missingFrom_46 (by decide) (fun c3 => ?_) (fun c3 => ?_)
      · obtain rfl : X = 0 := (lN_ne0 hX.1).mp (lg_cmp0.mp c3)
        refine lv_iinc (v := nI (x + 1)) (lv' := [(2, .int (nI (x + 1))), (3, .long (lN 0)), (0, .ref a), (1, .int (nI k))]) hx hb d_Marks_missingFrom_59 hl (k := 3) rfl (nI_1 x) (by decide) rfl (fun ls hl => ?_)
        refine lv_goto (tgt := 5) hx hb d_Marks_missingFrom_62 (by decide) ?_
        refine ih (x + 1) H locs ls ⟨by omega, by omega, fun j h1 h2 => ?_, hP, hS, lv_sub hl [2, 3, 0] rfl⟩ (by omega)
        rcases Nat.lt_or_ge j (64 * x) with z1 | z1
        · exact hpre j h1 z1
        · exact WBit_zero hX j h1 z1 h2
      · have hne : X ≠ 0 := fun z => c3 (lg_cmp0.mpr ((lN_ne0 hX.1).mpr z))
        obtain ⟨t, q', eX, ht1, ht2⟩ := low_ex hne
        obtain ⟨ht, hmf⟩ := WBit_hit hX (by omega) (by omega) hpre ht1 ht2
        refine lv_bipush (v := 64) hx hb d_Marks_missingFrom_49 (by decide) ?_
        refine lv_iload_n hx hb d_Marks_missingFrom_51 rfl (lv_at hl 3 rfl) ?_
        refine lv_imul hx hb d_Marks_missingFrom_52 ?_
        refine x_top (y := nI (64 * x)) (pk_mul 64 x) ?_
        refine lv_lload_n hx hb d_Marks_missingFrom_53 rfl (lv_at hl 0 rfl) ?_
        refine x_cri (x_runS (As := [.long (lN X)]) (rest := [.int (nI (64 * x))]) ⟨hx, hb, hml, hown, hc⟩ (c_Lng_ntz l g _ X t q' hX.1 ht eX) (va_cwS 1 hc (good_S km_Marks_72 kt_Lng_numberOfTrailingZeros kn_Lng kc_Lng_numberOfTrailingZeros) rfl rfl rfl (by decide +kernel) ⟨Nat.le_of_ble_eq_true rfl, Nat.le_of_ble_eq_true rfl⟩) hP hD hK hN [] (by decide) rfl rfl hl.1 rfl (Nat.le_of_ble_eq_true rfl) d_Marks_missingFrom_54 ⟨Nat.le_of_ble_eq_true rfl, Nat.le_of_ble_eq_true rfl⟩) hP hS hA (fun r0 H locs hw0 hP hS => ?_)
        obtain rfl : r0 = nI t := hw0
        refine lv_iadd hx hb d_Marks_missingFrom_57 ?_
        refine x_top (y := nI (64 * x + t)) (nI_add _ _) ?_
        exact W.iret (v := nI (64 * x + t)) hx hb hr (fun t9 ht9 hW9 => ⟨⟨_, (), rfl, hmf.symm, trivial⟩, hS.F ht9⟩) hS.2.2 d_Marks_missingFrom_58
    · refine lv_icmp_ne (tgt := 36) hx hb d_Marks_missingFrom_15 (by decide) (fun c2 => ?_) (fun c2 => ?_)
      · have c2 : ¬ x = k / 64 := fun z => c2 (by rw [z])
        refine lv_aload_n hx hb d_Marks_missingFrom_36 rfl (lv_at hl 0 rfl) ?_
        refine va_get (D := g.1) (ci := 2) (v := .ref a5) (C := R_Marks) (T := F_Marks) (N := 8) hx hb hc i_Marks hown hK hP 0 rfl rfl 5 (by decide) (hc _ kf_Marks_29) (fun _ h9 => h9) rfl d_Marks_missingFrom_37 ?_
        refine lv_iload_n hx hb d_Marks_missingFrom_40 rfl (lv_at hl 2 rfl) ?_
        refine x_lald hx hb hK hP 1 rfl (k := x) (by omega) (by decide) d_Marks_missingFrom_41 ?_
        obtain ⟨X, h1, h2⟩ := WBit_all (k := k) hq (w := x) (by omega) (by omega)
        exact kj _ ⟨X, h1, h2⟩
      · have c2 : x = k / 64 := (nI_eq (by omega) (by omega)).mp c2
        subst c2
        refine lv_aload_n hx hb d_Marks_missingFrom_18 rfl (lv_at hl 0 rfl) ?_
        refine va_get (D := g.1) (ci := 2) (v := .ref a5) (C := R_Marks) (T := F_Marks) (N := 8) hx hb hc i_Marks hown hK hP 0 rfl rfl 5 (by decide) (hc _ kf_Marks_29) (fun _ h9 => h9) rfl d_Marks_missingFrom_19 ?_
        refine lv_iload_n hx hb d_Marks_missingFrom_22 rfl (lv_at hl 2 rfl) ?_
        refine x_lald hx hb hK hP 1 rfl (k := (k / 64)) (by omega) (by decide) d_Marks_missingFrom_23 ?_
        refine lv_ldc2 (v := (-1)) hx hb hown (hc _ kq_Marks_63) d_Marks_missingFrom_24 ?_
        refine lv_iload_n hx hb d_Marks_missingFrom_27 rfl (lv_at hl 1 rfl) ?_
        refine lv_bipush (v := 64) hx hb d_Marks_missingFrom_28 (by decide) ?_
        refine lv_irem hx hb d_Marks_missingFrom_30 (by decide) ?_
        refine x_top (y := nI (k % 64)) (pk_rem (a := k) (d := 64) (by omega) (by decide) (by decide)) ?_
        refine lv_lshl (v := (-1) <<< ((nI (k % 64)).toInt64 &&& 63)) hx hb d_Marks_missingFrom_31 rfl ?_
        refine lv_land hx hb d_Marks_missingFrom_32 ?_
        refine lv_goto (tgt := 42) hx hb d_Marks_missingFrom_33 (by decide) ?_
        obtain ⟨X, h1, h2⟩ := WBit_first (k := k) hq (by omega)
        exact kj _ ⟨X, h1, h2⟩
set_option maxHeartbeats 4000000 in
set_option maxRecDepth 100000 in
/-- Marks.missingOnes(): how many are missing -/
theorem c_Marks_missingOnes (l : Launch) (g : GT) (sz : Nat) (a a0 a1 a2 a3 a4 a5 : Nat) (sv vv : Int32) (ms : Nat → Int64) (q : Nat → Bool) (hq : MBit q ms) : Met l y_Marks_missingOnes w_Marks_missingOnes ({ frames := 1, cells := 0, slots := 0, locals := 21 } : Room) (PcW [.ref a] sz g [(a, .inr (2, [.ref a0, .ref a1, .ref a2, .ref a3, .ref a4, .ref a5, .int sv, .int vv])), (a5, .inl (cLo g, 4, .inr (.inl ms)))]) (va_Qi (fun (r : Int32) (_ : Unit) => r = nI (cnt q 256)) BR (va_A [] sz)) 0 0 (va_A [] sz) := by
  refine Met.ofW (cc := b_Marks_missingOnes) (maxL := 3) (ret := (some .int)) (by decide) rfl ?_
  intro p e s m args below meth c s₁ B hml hv
  obtain ⟨rfl, hsz, hP, hK, hN, hD⟩ := hv
  have hx := B.exec
  have hb := B.bytes
  have hr := B.returns
  have hc : ∀ w ∈ cmn, w.before ([.ref a] : List Value).toArray s = true := fun w h => atoms_spec (ws := w_Marks_missingOnes) B.pre w (List.mem_cons_of_mem _ h)
  have hown : s.vm.findClass R_Marks = some m.cls := findClass_of_methodNamed B.named
  have hlocks := B.notSynchronized
  subst hsz
  have hS : va_S (va_A [] s.heap.size) s.heap s.heap [] := va_S.rf
  have hA : ∀ q : Nat, s.heap.size ≤ q → va_A [] s.heap.size q := fun q h => Or.inr h
  generalize va_A [] s.heap.size = A at hS hA ⊢
  have hP : va_P g.1 classes [(a, .inr (2, [.ref a0, .ref a1, .ref a2, .ref a3, .ref a4, .ref a5, .int sv, .int vv])), (a5, .inl (cLo g, 4, .inr (.inl ms)))] s.heap := hP
  have hl := lv_entry ([.ref a]) (n := 3) (Nat.le_of_ble_eq_true rfl)
  rw [lg_entry_eq]
  generalize (lg_sl ([.ref a]) ++ List.replicate (3 - (lg_sl ([.ref a])).length) Slot.unset).toArray = ls at hl ⊢
  have hl : lv_has ls 3 [(0, .ref a)] := hl
  refine lv_iconst (v := 0) hx hb d_Marks_missingOnes_0 (by decide) ?_
  refine lv_istore_n (lv' := [(1, .int 0), (0, .ref a)]) hx hb d_Marks_missingOnes_1 rfl hl (by decide) rfl (fun ls hl => ?_)
  refine lv_iconst (v := 0) hx hb d_Marks_missingOnes_2 (by decide) ?_
  refine lv_istore_n (lv' := [(2, .int 0), (1, .int 0), (0, .ref a)]) hx hb d_Marks_missingOnes_3 rfl hl (by decide) rfl (fun ls hl => ?_)
  refine x_loop (σ := Nat) (fun x => 4 - x) (fun x H1 locs1 ls1 => x ≤ 4 ∧ va_P g.1 classes [(a, .inr (2, [.ref a0, .ref a1, .ref a2, .ref a3, .ref a4, .ref a5, .int sv, .int vv])), (a5, .inl (cLo g, 4, .inr (.inl ms)))] H1 ∧ va_S A s.heap H1 locs1 ∧ lv_has ls1 3 [(0, .ref a), (1, .int (nI (cnt q (64 * x)))), (2, .int (nI x))]) ?_ 0 ⟨by omega, hP, hS, lv_sub hl [2, 1, 0] rfl⟩
  rintro x H locs ls ⟨hx4, hP, hS, hl⟩ ih
  refine lv_iload_n hx hb d_Marks_missingOnes_4 rfl (lv_at hl 2 rfl) ?_
  refine lv_iconst (v := 4) hx hb d_Marks_missingOnes_5 (by decide) ?_
  refine lv_icmp_ge (tgt := 27) hx hb d_Marks_missingOnes_6 (by decide) (fun c1 => ?_) (fun c1 => ?_)
  · have c1 := (nI_leI (a := 4) (b := x) (by decide) (by omega)).mp c1
    obtain rfl : x = 4 := by omega
    refine lv_iload_n hx hb d_Marks_missingOnes_27 rfl (lv_at hl 1 rfl) ?_
    exact W.iret (v := nI (cnt q (64 * 4))) hx hb hr (fun t9 ht9 hW9 => ⟨⟨_, (), rfl, rfl, trivial⟩, hS.F ht9⟩) hS.2.2 d_Marks_missingOnes_28
  · have c1 : ¬ 4 ≤ x := fun z => c1 ((nI_leI (a := 4) (b := x) (by decide) (by omega)).mpr z)
    obtain ⟨X, hX, eX, ec⟩ := cnt_word (w := x) hq (by omega)
    refine lv_iload_n hx hb d_Marks_missingOnes_9 rfl (lv_at hl 1 rfl) ?_
    refine lv_aload_n hx hb d_Marks_missingOnes_10 rfl (lv_at hl 0 rfl) ?_
    refine va_get (D := g.1) (ci := 2) (v := .ref a5) (C := R_Marks) (T := F_Marks) (N := 8) hx hb hc i_Marks hown hK hP 0 rfl rfl 5 (by decide) (hc _ kf_Marks_29) (fun _ h9 => h9) rfl d_Marks_missingOnes_11 ?_
    refine lv_iload_n hx hb d_Marks_missingOnes_14 rfl (lv_at hl 2 rfl) ?_
    refine x_lald hx hb hK hP 1 rfl (k := x) (by omega) (by decide) d_Marks_missingOnes_15 ?_
    refine x_topl (y := lN X) (eX) ?_
    refine x_cri (x_runS (As := [.long (lN X)]) (rest := [.int (nI (cnt q (64 * x)))]) ⟨hx, hb, hml, hown, hc⟩ (c_Lng_bitCount l g _ X hX) (va_cwS 1 hc (good_S km_Marks_78 kt_Lng_bitCount kn_Lng kc_Lng_bitCount) rfl rfl rfl (by decide +kernel) ⟨Nat.le_of_ble_eq_true rfl, Nat.le_of_ble_eq_true rfl⟩) hP hD hK hN [] (by decide) rfl rfl hl.1 rfl (Nat.le_of_ble_eq_true rfl) d_Marks_missingOnes_16 ⟨Nat.le_of_ble_eq_true rfl, Nat.le_of_ble_eq_true rfl⟩) hP hS hA (fun r0 H locs hw0 hP hS => ?_)
    obtain rfl : r0 = nI (cnt (fun i => X.testBit i) 64) := hw0
    refine lv_iadd hx hb d_Marks_missingOnes_19 ?_
    refine x_top (y := nI (cnt q (64 * (x + 1)))) ((nI_add _ _).trans (by rw [ec])) ?_
    refine lv_istore_n (lv' := [(1, .int (nI (cnt q (64 * (x + 1))))), (0, .ref a), (2, .int (nI x))]) hx hb d_Marks_missingOnes_20 rfl hl (by decide) rfl (fun ls hl => ?_)
    refine lv_iinc (v := nI (x + 1)) (lv' := [(2, .int (nI (x + 1))), (1, .int (nI (cnt q (64 * (x + 1))))), (0, .ref a)]) hx hb d_Marks_missingOnes_21 hl (k := 2) rfl (nI_1 x) (by decide) rfl (fun ls hl => ?_)
    refine lv_goto (tgt := 4) hx hb d_Marks_missingOnes_24 (by decide) ?_
    exact ih (x + 1) H locs ls ⟨by omega, hP, hS, lv_sub hl [2, 1, 0] rfl⟩ (by omega)
set_option maxHeartbeats 4000000 in
set_option maxRecDepth 100000 in
/-- Marks.givenOnes(): how many were given -/
theorem c_Marks_givenOnes (l : Launch) (g : GT) (sz : Nat) (a a0 a1 a2 a3 a4 a5 : Nat) (vv : Int32) (fg : Nat → Int32) (n : Nat) (G : Nat → Nat) (hn : n ≤ 200) (hG : ∀ k, k < n → fg k = nI (G k) ∧ G k < 2 ^ 31) : Met l y_Marks_givenOnes w_Marks_givenOnes ({ frames := 0, cells := 0, slots := 0, locals := 0 } : Room) (PcW [.ref a] sz g [(a, .inr (2, [.ref a0, .ref a1, .ref a2, .ref a3, .ref a4, .ref a5, .int (nI n), .int vv])), (a2, .inl (cIn g, 200, .inl fg))]) (va_Qi (fun (r : Int32) (_ : Unit) => r = nI (cnt (fun k => decide (0 < G k)) n)) BR (va_A [] sz)) 0 0 (va_A [] sz) := by
  refine Met.ofW (cc := b_Marks_givenOnes) (maxL := 3) (ret := (some .int)) (by decide) rfl ?_
  intro p e s m args below meth c s₁ B hml hv
  obtain ⟨rfl, hsz, hP, hK, hN, hD⟩ := hv
  have hx := B.exec
  have hb := B.bytes
  have hr := B.returns
  have hc : ∀ w ∈ cmn, w.before ([.ref a] : List Value).toArray s = true := fun w h => atoms_spec (ws := w_Marks_givenOnes) B.pre w (List.mem_cons_of_mem _ h)
  have hown : s.vm.findClass R_Marks = some m.cls := findClass_of_methodNamed B.named
  have hlocks := B.notSynchronized
  subst hsz
  have hS : va_S (va_A [] s.heap.size) s.heap s.heap [] := va_S.rf
  have hA : ∀ q : Nat, s.heap.size ≤ q → va_A [] s.heap.size q := fun q h => Or.inr h
  generalize va_A [] s.heap.size = A at hS hA ⊢
  have hP : va_P g.1 classes [(a, .inr (2, [.ref a0, .ref a1, .ref a2, .ref a3, .ref a4, .ref a5, .int (nI n), .int vv])), (a2, .inl (cIn g, 200, .inl fg))] s.heap := hP
  have hl := lv_entry ([.ref a]) (n := 3) (Nat.le_of_ble_eq_true rfl)
  rw [lg_entry_eq]
  generalize (lg_sl ([.ref a]) ++ List.replicate (3 - (lg_sl ([.ref a])).length) Slot.unset).toArray = ls at hl ⊢
  have hl : lv_has ls 3 [(0, .ref a)] := hl
  refine lv_iconst (v := 0) hx hb d_Marks_givenOnes_0 (by decide) ?_
  refine lv_istore_n (lv' := [(1, .int 0), (0, .ref a)]) hx hb d_Marks_givenOnes_1 rfl hl (by decide) rfl (fun ls hl => ?_)
  refine lv_iconst (v := 0) hx hb d_Marks_givenOnes_2 (by decide) ?_
  refine lv_istore_n (lv' := [(2, .int 0), (1, .int 0), (0, .ref a)]) hx hb d_Marks_givenOnes_3 rfl hl (by decide) rfl (fun ls hl => ?_)
  refine x_loopR (σ := Nat) (fun x => n - x) (fun x ls1 => x ≤ n ∧ lv_has ls1 3 [(0, .ref a), (1, .int (nI (cnt (fun k => decide (0 < G k)) x))), (2, .int (nI x))]) ?_ 0 ⟨by omega, lv_sub hl [2, 1, 0] rfl⟩
  rintro x ls ⟨hx4, hl⟩ ih
  refine lv_iload_n hx hb d_Marks_givenOnes_4 rfl (lv_at hl 2 rfl) ?_
  refine lv_aload_n hx hb d_Marks_givenOnes_5 rfl (lv_at hl 0 rfl) ?_
  refine va_get (D := g.1) (ci := 2) (v := .int (nI n)) (C := R_Marks) (T := F_Marks) (N := 8) hx hb hc i_Marks hown hK hP 0 rfl rfl 6 (by decide) (hc _ kf_Marks_36) (fun _ h9 => h9) rfl d_Marks_givenOnes_6 ?_
  refine lv_icmp_ge (tgt := 35) hx hb d_Marks_givenOnes_9 (by decide) (fun c1 => ?_) (fun c1 => ?_)
  · rw [nI_leI (by omega) (by omega)] at c1
    obtain rfl : x = n := by omega
    refine lv_iload_n hx hb d_Marks_givenOnes_35 rfl (lv_at hl 1 rfl) ?_
    exact W.iret (v := nI (cnt (fun k => decide (0 < G k)) x)) hx hb hr (fun t9 ht9 hW9 => ⟨⟨_, (), rfl, rfl, trivial⟩, hS.F ht9⟩) hS.2.2 d_Marks_givenOnes_36
  · rw [nI_leI (by omega) (by omega)] at c1
    obtain ⟨eG, hG2⟩ := hG x (by omega)
    refine lv_iload_n hx hb d_Marks_givenOnes_12 rfl (lv_at hl 1 rfl) ?_
    refine lv_aload_n hx hb d_Marks_givenOnes_13 rfl (lv_at hl 0 rfl) ?_
    refine va_get (D := g.1) (ci := 2) (v := .ref a2) (C := R_Marks) (T := F_Marks) (N := 8) hx hb hc i_Marks hown hK hP 0 rfl rfl 2 (by decide) (hc _ kf_Marks_19) (fun _ h9 => h9) rfl d_Marks_givenOnes_14 ?_
    refine lv_iload_n hx hb d_Marks_givenOnes_17 rfl (lv_at hl 2 rfl) ?_
    refine x_iald hx hb hK hP 1 rfl (k := x) (by omega) (by decide) d_Marks_givenOnes_18 ?_
    refine x_top (y := nI (G x)) (eG) ?_
    refine x_join (rest := [.int (nI (cnt (fun k => decide (0 < G k)) x))]) 27 (fun v => v = nI (decide (0 < G x)).toNat) (fun v hv => ?_) (fun kj => ?_)
    · subst hv
      refine lv_iadd hx hb d_Marks_givenOnes_27 ?_
      refine x_top (y := nI (cnt (fun k => decide (0 < G k)) (x + 1))) (nI_add _ _) ?_
      refine lv_istore_n (lv' := [(1, .int (nI (cnt (fun k => decide (0 < G k)) (x + 1)))), (0, .ref a), (2, .int (nI x))]) hx hb d_Marks_givenOnes_28 rfl hl (by decide) rfl (fun ls hl => ?_)
      refine lv_iinc (v := nI (x + 1)) (lv' := [(2, .int (nI (x + 1))), (1, .int (nI (cnt (fun k => decide (0 < G k)) (x + 1)))), (0, .ref a)]) hx hb d_Marks_givenOnes_29 hl (k := 2) rfl (nI_1 x) (by decide) rfl (fun ls hl => ?_)
      refine lv_goto (tgt := 4) hx hb d_Marks_givenOnes_32 (by decide) ?_
      exact ih (x + 1) ls ⟨by omega, lv_sub hl [2, 1, 0] rfl⟩ (by omega)
    · refine lv_if_le (tgt := 26) hx hb d_Marks_givenOnes_19 (by decide) (fun c2 => ?_) (fun c2 => ?_)
      · have c2 := (nI_leI (a := G x) (b := 0) hG2 (by decide)).mp c2
        refine lv_iconst (v := 0) hx hb d_Marks_givenOnes_26 (by decide) ?_
        exact kj 0 (by rw [decide_eq_false (by omega)]; rfl)
      · have c2 : ¬ G x ≤ 0 := fun z => c2 ((nI_leI (a := G x) (b := 0) hG2 (by decide)).mpr z)
        refine lv_iconst (v := 1) hx hb d_Marks_givenOnes_22 (by decide) ?_
        refine lv_goto (tgt := 27) hx hb d_Marks_givenOnes_23 (by decide) ?_
        exact kj 1 (by rw [decide_eq_true (by omega)]; rfl)
set_option maxHeartbeats 4000000 in
set_option maxRecDepth 100000 in
/-- Marks.clear(): every slot free, no bit set -/
theorem c_Marks_clear (l : Launch) (g : GT) (sz : Nat) (a a0 a1 a2 a3 a4 a5 : Nat) (sv vv : Int32) (sl : Nat → Int32) (ms : Nat → Int64) : Met l y_Marks_clear w_Marks_clear ({ frames := 0, cells := 0, slots := 0, locals := 0 } : Room) (PcW [.ref a] sz g [(a, .inr (2, [.ref a0, .ref a1, .ref a2, .ref a3, .ref a4, .ref a5, .int sv, .int vv])), (a4, .inl (cSh g, 512, .inl sl)), (a5, .inl (cLo g, 4, .inr (.inl ms)))]) (va_Qv (fun (u : (Nat → Int32) × (Nat → Int64)) => (∀ s1, s1 < 512 → u.1 s1 = -1) ∧ ∀ x, x < 4 → u.2 x = 0) (BW g (va_A [(a, .inr (2, [.ref a0, .ref a1, .ref a2, .ref a3, .ref a4, .ref a5, .int sv, .int vv])), (a4, .inl (cSh g, 512, .inl sl)), (a5, .inl (cLo g, 4, .inr (.inl ms)))] sz) (fun u : (Nat → Int32) × (Nat → Int64) => [(a, .inr (2, [.ref a0, .ref a1, .ref a2, .ref a3, .ref a4, .ref a5, .int 0, .int 0])), (a4, .inl (cSh g, 512, .inl u.1)), (a5, .inl (cLo g, 4, .inr (.inl u.2)))])) (va_A [(a, .inr (2, [.ref a0, .ref a1, .ref a2, .ref a3, .ref a4, .ref a5, .int sv, .int vv])), (a4, .inl (cSh g, 512, .inl sl)), (a5, .inl (cLo g, 4, .inr (.inl ms)))] sz)) 0 0 (va_A [(a, .inr (2, [.ref a0, .ref a1, .ref a2, .ref a3, .ref a4, .ref a5, .int sv, .int vv])), (a4, .inl (cSh g, 512, .inl sl)), (a5, .inl (cLo g, 4, .inr (.inl ms)))] sz) := by
  refine Met.ofW (cc := b_Marks_clear) (maxL := 2) (ret := none) (by decide) rfl ?_
  intro p e s m args below meth c s₁ B hml hv
  obtain ⟨rfl, hsz, hP, hK, hN, hD⟩ := hv
  have hx := B.exec
  have hb := B.bytes
  have hr := B.returns
  have hc : ∀ w ∈ cmn, w.before ([.ref a] : List Value).toArray s = true := fun w h => atoms_spec (ws := w_Marks_clear) B.pre w (List.mem_cons_of_mem _ h)
  have hown : s.vm.findClass R_Marks = some m.cls := findClass_of_methodNamed B.named
  have hlocks := B.notSynchronized
  subst hsz
  have hD := hD.self (sz := s.heap.size)
  have hS : va_S (va_A [(a, .inr (2, [.ref a0, .ref a1, .ref a2, .ref a3, .ref a4, .ref a5, .int sv, .int vv])), (a4, .inl (cSh g, 512, .inl sl)), (a5, .inl (cLo g, 4, .inr (.inl ms)))] s.heap.size) s.heap s.heap [] := va_S.rf
  have hA : ∀ q : Nat, s.heap.size ≤ q → va_A [(a, .inr (2, [.ref a0, .ref a1, .ref a2, .ref a3, .ref a4, .ref a5, .int sv, .int vv])), (a4, .inl (cSh g, 512, .inl sl)), (a5, .inl (cLo g, 4, .inr (.inl ms)))] s.heap.size q := fun q h => Or.inr h
  generalize va_A [(a, .inr (2, [.ref a0, .ref a1, .ref a2, .ref a3, .ref a4, .ref a5, .int sv, .int vv])), (a4, .inl (cSh g, 512, .inl sl)), (a5, .inl (cLo g, 4, .inr (.inl ms)))] s.heap.size = A at hD hS hA ⊢
  have hP : va_P g.1 classes [(a, .inr (2, [.ref a0, .ref a1, .ref a2, .ref a3, .ref a4, .ref a5, .int sv, .int vv])), (a4, .inl (cSh g, 512, .inl sl)), (a5, .inl (cLo g, 4, .inr (.inl ms)))] s.heap := hP
  have hD : va_D A [(a, .inr (2, [.ref a0, .ref a1, .ref a2, .ref a3, .ref a4, .ref a5, .int sv, .int vv])), (a4, .inl (cSh g, 512, .inl sl)), (a5, .inl (cLo g, 4, .inr (.inl ms)))] := hD
  have hl := lv_entry ([.ref a]) (n := 2) (Nat.le_of_ble_eq_true rfl)
  rw [lg_entry_eq]
  generalize (lg_sl ([.ref a]) ++ List.replicate (2 - (lg_sl ([.ref a])).length) Slot.unset).toArray = ls at hl ⊢
  have hl : lv_has ls 2 [(0, .ref a)] := hl
  refine lv_iconst (v := 0) hx hb d_Marks_clear_0 (by decide) ?_
  refine lv_istore_n (lv' := [(1, .int 0), (0, .ref a)]) hx hb d_Marks_clear_1 rfl hl (by decide) rfl (fun ls hl => ?_)
  refine x_loop (σ := Nat) (fun x => 512 - x) (fun x H1 locs1 ls1 => x ≤ 512 ∧ (∃ f1 : Nat → Int32, (∀ s1, s1 < x → f1 s1 = -1) ∧ va_P g.1 classes [(a, .inr (2, [.ref a0, .ref a1, .ref a2, .ref a3, .ref a4, .ref a5, .int sv, .int vv])), (a4, .inl (cSh g, 512, .inl f1)), (a5, .inl (cLo g, 4, .inr (.inl ms)))] H1 ∧ va_D A [(a, .inr (2, [.ref a0, .ref a1, .ref a2, .ref a3, .ref a4, .ref a5, .int sv, .int vv])), (a4, .inl (cSh g, 512, .inl f1)), (a5, .inl (cLo g, 4, .inr (.inl ms)))]) ∧ va_S A s.heap H1 locs1 ∧ lv_has ls1 2 [(0, .ref a), (1, .int (nI x))]) ?_ 0 ⟨by omega, ⟨sl, fun s1 h1 => absurd h1 (Nat.not_lt_zero _), hP, hD⟩, hS, lv_sub hl [1, 0] rfl⟩
  rintro x H locs ls ⟨hx0, ⟨f1, hf1, hP, hD⟩, hS, hl⟩ ih
  refine lv_iload_n hx hb d_Marks_clear_2 rfl (lv_at hl 1 rfl) ?_
  refine lv_sipush (v := 512) hx hb d_Marks_clear_3 (by decide) ?_
  refine lv_icmp_ge (tgt := 22) hx hb d_Marks_clear_6 (by decide) (fun c1 => ?_) (fun c1 => ?_)
  · have c1 := (nI_leI (a := 512) (b := x) (by decide) (by omega)).mp c1
    have hf1 : ∀ s1, s1 < 512 → f1 s1 = -1 := fun s1 h1 => hf1 s1 (by omega)
    clear ih
    refine lv_iconst (v := 0) hx hb d_Marks_clear_22 (by decide) ?_
    refine lv_istore_n (lv' := [(1, .int 0), (0, .ref a)]) hx hb d_Marks_clear_23 rfl hl (by decide) rfl (fun ls hl => ?_)
    refine x_loop (σ := Nat) (fun x => 4 - x) (fun x H1 locs1 ls1 => x ≤ 4 ∧ (∃ g1 : Nat → Int64, (∀ s1, s1 < x → g1 s1 = 0) ∧ va_P g.1 classes [(a, .inr (2, [.ref a0, .ref a1, .ref a2, .ref a3, .ref a4, .ref a5, .int sv, .int vv])), (a4, .inl (cSh g, 512, .inl f1)), (a5, .inl (cLo g, 4, .inr (.inl g1)))] H1 ∧ va_D A [(a, .inr (2, [.ref a0, .ref a1, .ref a2, .ref a3, .ref a4, .ref a5, .int sv, .int vv])), (a4, .inl (cSh g, 512, .inl f1)), (a5, .inl (cLo g, 4, .inr (.inl g1)))]) ∧ va_S A s.heap H1 locs1 ∧ lv_has ls1 2 [(0, .ref a), (1, .int (nI x))]) ?_ 0 ⟨by omega, ⟨ms, fun s1 h1 => absurd h1 (Nat.not_lt_zero _), hP, hD⟩, hS, lv_sub hl [1, 0] rfl⟩
    rintro x H locs ls ⟨hx0, ⟨g1, hg1, hP, hD⟩, hS, hl⟩ ih
    refine lv_iload_n hx hb d_Marks_clear_24 rfl (lv_at hl 1 rfl) ?_
    refine lv_iconst (v := 4) hx hb d_Marks_clear_25 (by decide) ?_
    refine lv_icmp_ge (tgt := 42) hx hb d_Marks_clear_26 (by decide) (fun c2 => ?_) (fun c2 => ?_)
    · have c2 := (nI_leI (a := 4) (b := x) (by decide) (by omega)).mp c2
      refine lv_aload_n hx hb d_Marks_clear_42 rfl (lv_at hl 0 rfl) ?_
      refine lv_iconst (v := 0) hx hb d_Marks_clear_43 (by decide) ?_
      refine va_put (D := g.1) (ci := 2) (v := .int 0) (ty := .int) (C := R_Marks) (T := F_Marks) (N := 8) hx hb hc i_Marks t_Marks t_Marks_ok n_Marks hown hK hP hD hS 0 rfl rfl 6 (by decide) (hc _ kf_Marks_36) (fun _ h9 => h9) rfl (by decide +kernel) rfl rfl (Nat.le_of_ble_eq_true rfl) d_Marks_clear_44 (fun H locs hP hD hS => ?_)
      have hP : va_P g.1 classes [(a, .inr (2, [.ref a0, .ref a1, .ref a2, .ref a3, .ref a4, .ref a5, .int 0, .int vv])), (a4, .inl (cSh g, 512, .inl f1)), (a5, .inl (cLo g, 4, .inr (.inl g1)))] H := hP
      have hD : va_D A [(a, .inr (2, [.ref a0, .ref a1, .ref a2, .ref a3, .ref a4, .ref a5, .int 0, .int vv])), (a4, .inl (cSh g, 512, .inl f1)), (a5, .inl (cLo g, 4, .inr (.inl g1)))] := hD
      refine lv_aload_n hx hb d_Marks_clear_47 rfl (lv_at hl 0 rfl) ?_
      refine lv_iconst (v := 0) hx hb d_Marks_clear_48 (by decide) ?_
      refine va_put (D := g.1) (ci := 2) (v := .int 0) (ty := .int) (C := R_Marks) (T := F_Marks) (N := 8) hx hb hc i_Marks t_Marks t_Marks_ok n_Marks hown hK hP hD hS 0 rfl rfl 7 (by decide) (hc _ kf_Marks_40) (fun _ h9 => h9) rfl (by decide +kernel) rfl rfl (Nat.le_of_ble_eq_true rfl) d_Marks_clear_49 (fun H locs hP hD hS => ?_)
      have hP : va_P g.1 classes [(a, .inr (2, [.ref a0, .ref a1, .ref a2, .ref a3, .ref a4, .ref a5, .int 0, .int 0])), (a4, .inl (cSh g, 512, .inl f1)), (a5, .inl (cLo g, 4, .inr (.inl g1)))] H := hP
      have hD : va_D A [(a, .inr (2, [.ref a0, .ref a1, .ref a2, .ref a3, .ref a4, .ref a5, .int 0, .int 0])), (a4, .inl (cSh g, 512, .inl f1)), (a5, .inl (cLo g, 4, .inr (.inl g1)))] := hD
      exact W.vret hx hb hr (fun t9 ht9 hW9 => ⟨⟨(f1, g1), rfl, ⟨hf1, fun y hy => hg1 y (by omega)⟩, by rw [ht9]; exact hP, hD⟩, hS.F ht9⟩) hS.2.2 d_Marks_clear_52
    · have c2 : ¬ 4 ≤ x := fun z => c2 ((nI_leI (a := 4) (b := x) (by decide) (by omega)).mpr z)
      refine lv_aload_n hx hb d_Marks_clear_29 rfl (lv_at hl 0 rfl) ?_
      refine va_get (D := g.1) (ci := 2) (v := .ref a5) (C := R_Marks) (T := F_Marks) (N := 8) hx hb hc i_Marks hown hK hP 0 rfl rfl 5 (by decide) (hc _ kf_Marks_29) (fun _ h9 => h9) rfl d_Marks_clear_30 ?_
      refine lv_iload_n hx hb d_Marks_clear_33 rfl (lv_at hl 1 rfl) ?_
      refine lv_lconst (v := 0) hx hb d_Marks_clear_34 (by decide) ?_
      refine x_last hx hb hK hP hD hS 2 rfl (k := x) (by omega) (by decide) d_Marks_clear_35 (fun H locs hP hD hS => ?_)
      have hP : va_P g.1 classes [(a, .inr (2, [.ref a0, .ref a1, .ref a2, .ref a3, .ref a4, .ref a5, .int sv, .int vv])), (a4, .inl (cSh g, 512, .inl f1)), (a5, .inl (cLo g, 4, .inr (.inl (vp_updL g1 x 0))))] H := hP
      have hD : va_D A [(a, .inr (2, [.ref a0, .ref a1, .ref a2, .ref a3, .ref a4, .ref a5, .int sv, .int vv])), (a4, .inl (cSh g, 512, .inl f1)), (a5, .inl (cLo g, 4, .inr (.inl (vp_updL g1 x 0))))] := hD
      refine lv_iinc (v := nI (x + 1)) (lv' := [(1, .int (nI (x + 1))), (0, .ref a)]) hx hb d_Marks_clear_36 hl (k := 1) rfl (nI_1 x) (by decide) rfl (fun ls hl => ?_)
      refine lv_goto (tgt := 24) hx hb d_Marks_clear_39 (by decide) ?_
      refine ih (x + 1) H locs ls ⟨by omega, ⟨_, fun s1 h1 => ?_, hP, hD⟩, hS, lv_sub hl [1, 0] rfl⟩ (by omega)
      by_cases e1 : s1 = x
      · subst e1; exact pk_uLs
      · rw [pk_uLn e1]; exact hg1 s1 (by omega)
  · have c1 : ¬ 512 ≤ x := fun z => c1 ((nI_leI (a := 512) (b := x) (by decide) (by omega)).mpr z)
    refine lv_aload_n hx hb d_Marks_clear_9 rfl (lv_at hl 0 rfl) ?_
    refine va_get (D := g.1) (ci := 2) (v := .ref a4) (C := R_Marks) (T := F_Marks) (N := 8) hx hb hc i_Marks hown hK hP 0 rfl rfl 4 (by decide) (hc _ kf_Marks_25) (fun _ h9 => h9) rfl d_Marks_clear_10 ?_
    refine lv_iload_n hx hb d_Marks_clear_13 rfl (lv_at hl 1 rfl) ?_
    refine lv_iconst (v := (-1)) hx hb d_Marks_clear_14 (by decide) ?_
    refine x_sast hx hb hK hP hD hS 1 rfl (k := x) (by omega) (by decide) (y := (-1)) (rfl) d_Marks_clear_15 (fun H locs hP hD hS => ?_)
    have hP : va_P g.1 classes [(a, .inr (2, [.ref a0, .ref a1, .ref a2, .ref a3, .ref a4, .ref a5, .int sv, .int vv])), (a4, .inl (cSh g, 512, .inl (upd f1 x (-1)))), (a5, .inl (cLo g, 4, .inr (.inl ms)))] H := hP
    have hD : va_D A [(a, .inr (2, [.ref a0, .ref a1, .ref a2, .ref a3, .ref a4, .ref a5, .int sv, .int vv])), (a4, .inl (cSh g, 512, .inl (upd f1 x (-1)))), (a5, .inl (cLo g, 4, .inr (.inl ms)))] := hD
    refine lv_iinc (v := nI (x + 1)) (lv' := [(1, .int (nI (x + 1))), (0, .ref a)]) hx hb d_Marks_clear_16 hl (k := 1) rfl (nI_1 x) (by decide) rfl (fun ls hl => ?_)
    refine lv_goto (tgt := 2) hx hb d_Marks_clear_19 (by decide) ?_
    refine ih (x + 1) H locs ls ⟨by omega, ⟨_, fun s1 h1 => ?_, hP, hD⟩, hS, lv_sub hl [1, 0] rfl⟩ (by omega)
    by_cases e1 : s1 = x
    · subst e1; exact pk_us
    · rw [pk_un e1]; exact hf1 s1 (by omega)
end
section
theorem d_Marks_know_0 : decode b_Marks_know 0 = .ok (.aload_n 0, 1) := by decide +kernel
theorem d_Marks_know_1 : decode b_Marks_know 1 = .ok (.aload_n 1, 1) := by decide +kernel
theorem d_Marks_know_2 : decode b_Marks_know 2 = .ok (.invokevirtual 53, 3) := by decide +kernel
theorem d_Marks_know_5 : decode b_Marks_know 5 = .ok (.istore_n 2, 1) := by decide +kernel
theorem d_Marks_know_6 : decode b_Marks_know 6 = .ok (.aload_n 0, 1) := by decide +kernel
theorem d_Marks_know_7 : decode b_Marks_know 7 = .ok (.getfield 25, 3) := by decide +kernel
theorem d_Marks_know_10 : decode b_Marks_know 10 = .ok (.iload_n 2, 1) := by decide +kernel
theorem d_Marks_know_11 : decode b_Marks_know 11 = .ok (.saload, 1) := by decide +kernel
theorem d_Marks_know_12 : decode b_Marks_know 12 = .ok (.iconst (-1), 1) := by decide +kernel
theorem d_Marks_know_13 : decode b_Marks_know 13 = .ok (.if_icmp .eq 10, 3) := by decide +kernel
theorem d_Marks_know_16 : decode b_Marks_know 16 = .ok (.aload_n 0, 1) := by decide +kernel
theorem d_Marks_know_17 : decode b_Marks_know 17 = .ok (.getfield 25, 3) := by decide +kernel
theorem d_Marks_know_20 : decode b_Marks_know 20 = .ok (.iload_n 2, 1) := by decide +kernel
theorem d_Marks_know_21 : decode b_Marks_know 21 = .ok (.saload, 1) := by decide +kernel
theorem d_Marks_know_22 : decode b_Marks_know 22 = .ok (.ireturn, 1) := by decide +kernel
theorem d_Marks_know_23 : decode b_Marks_know 23 = .ok (.aload_n 0, 1) := by decide +kernel
theorem d_Marks_know_24 : decode b_Marks_know 24 = .ok (.getfield 36, 3) := by decide +kernel
theorem d_Marks_know_27 : decode b_Marks_know 27 = .ok (.sipush 200, 3) := by decide +kernel
theorem d_Marks_know_30 : decode b_Marks_know 30 = .ok (.if_icmp .ne 6, 3) := by decide +kernel
theorem d_Marks_know_33 : decode b_Marks_know 33 = .ok (.bipush (-2), 2) := by decide +kernel
theorem d_Marks_know_35 : decode b_Marks_know 35 = .ok (.ireturn, 1) := by decide +kernel
theorem d_Marks_know_36 : decode b_Marks_know 36 = .ok (.aload_n 0, 1) := by decide +kernel
theorem d_Marks_know_37 : decode b_Marks_know 37 = .ok (.getfield 25, 3) := by decide +kernel
theorem d_Marks_know_40 : decode b_Marks_know 40 = .ok (.iload_n 2, 1) := by decide +kernel
theorem d_Marks_know_41 : decode b_Marks_know 41 = .ok (.aload_n 0, 1) := by decide +kernel
theorem d_Marks_know_42 : decode b_Marks_know 42 = .ok (.getfield 36, 3) := by decide +kernel
theorem d_Marks_know_45 : decode b_Marks_know 45 = .ok (.i2s, 1) := by decide +kernel
theorem d_Marks_know_46 : decode b_Marks_know 46 = .ok (.sastore, 1) := by decide +kernel
theorem d_Marks_know_47 : decode b_Marks_know 47 = .ok (.aload_n 1, 1) := by decide +kernel
theorem d_Marks_know_48 : decode b_Marks_know 48 = .ok (.getfield 44, 3) := by decide +kernel
theorem d_Marks_know_51 : decode b_Marks_know 51 = .ok (.iconst 0, 1) := by decide +kernel
theorem d_Marks_know_52 : decode b_Marks_know 52 = .ok (.aload_n 0, 1) := by decide +kernel
theorem d_Marks_know_53 : decode b_Marks_know 53 = .ok (.getfield 11, 3) := by decide +kernel
theorem d_Marks_know_56 : decode b_Marks_know 56 = .ok (.aload_n 0, 1) := by decide +kernel
theorem d_Marks_know_57 : decode b_Marks_know 57 = .ok (.getfield 15, 3) := by decide +kernel
theorem d_Marks_know_60 : decode b_Marks_know 60 = .ok (.aload_n 0, 1) := by decide +kernel
theorem d_Marks_know_61 : decode b_Marks_know 61 = .ok (.getfield 36, 3) := by decide +kernel
theorem d_Marks_know_64 : decode b_Marks_know 64 = .ok (.iaload, 1) := by decide +kernel
theorem d_Marks_know_65 : decode b_Marks_know 65 = .ok (.aload_n 1, 1) := by decide +kernel
theorem d_Marks_know_66 : decode b_Marks_know 66 = .ok (.getfield 43, 3) := by decide +kernel
theorem d_Marks_know_69 : decode b_Marks_know 69 = .ok (.invokestatic 57, 3) := by decide +kernel
theorem d_Marks_know_72 : decode b_Marks_know 72 = .ok (.aload_n 0, 1) := by decide +kernel
theorem d_Marks_know_73 : decode b_Marks_know 73 = .ok (.getfield 15, 3) := by decide +kernel
theorem d_Marks_know_76 : decode b_Marks_know 76 = .ok (.aload_n 0, 1) := by decide +kernel
theorem d_Marks_know_77 : decode b_Marks_know 77 = .ok (.getfield 36, 3) := by decide +kernel
theorem d_Marks_know_80 : decode b_Marks_know 80 = .ok (.iconst 1, 1) := by decide +kernel
theorem d_Marks_know_81 : decode b_Marks_know 81 = .ok (.iadd, 1) := by decide +kernel
theorem d_Marks_know_82 : decode b_Marks_know 82 = .ok (.aload_n 0, 1) := by decide +kernel
theorem d_Marks_know_83 : decode b_Marks_know 83 = .ok (.getfield 15, 3) := by decide +kernel
theorem d_Marks_know_86 : decode b_Marks_know 86 = .ok (.aload_n 0, 1) := by decide +kernel
theorem d_Marks_know_87 : decode b_Marks_know 87 = .ok (.getfield 36, 3) := by decide +kernel
theorem d_Marks_know_90 : decode b_Marks_know 90 = .ok (.iaload, 1) := by decide +kernel
theorem d_Marks_know_91 : decode b_Marks_know 91 = .ok (.aload_n 1, 1) := by decide +kernel
theorem d_Marks_know_92 : decode b_Marks_know 92 = .ok (.getfield 43, 3) := by decide +kernel
theorem d_Marks_know_95 : decode b_Marks_know 95 = .ok (.iadd, 1) := by decide +kernel
theorem d_Marks_know_96 : decode b_Marks_know 96 = .ok (.iastore, 1) := by decide +kernel
theorem d_Marks_know_97 : decode b_Marks_know 97 = .ok (.aload_n 0, 1) := by decide +kernel
theorem d_Marks_know_98 : decode b_Marks_know 98 = .ok (.getfield 19, 3) := by decide +kernel
theorem d_Marks_know_101 : decode b_Marks_know 101 = .ok (.aload_n 0, 1) := by decide +kernel
theorem d_Marks_know_102 : decode b_Marks_know 102 = .ok (.getfield 36, 3) := by decide +kernel
theorem d_Marks_know_105 : decode b_Marks_know 105 = .ok (.iconst 0, 1) := by decide +kernel
theorem d_Marks_know_106 : decode b_Marks_know 106 = .ok (.iastore, 1) := by decide +kernel
theorem d_Marks_know_107 : decode b_Marks_know 107 = .ok (.aload_n 0, 1) := by decide +kernel
theorem d_Marks_know_108 : decode b_Marks_know 108 = .ok (.getfield 22, 3) := by decide +kernel
theorem d_Marks_know_111 : decode b_Marks_know 111 = .ok (.aload_n 0, 1) := by decide +kernel
theorem d_Marks_know_112 : decode b_Marks_know 112 = .ok (.getfield 36, 3) := by decide +kernel
theorem d_Marks_know_115 : decode b_Marks_know 115 = .ok (.iconst 0, 1) := by decide +kernel
theorem d_Marks_know_116 : decode b_Marks_know 116 = .ok (.iastore, 1) := by decide +kernel
theorem d_Marks_know_117 : decode b_Marks_know 117 = .ok (.aload_n 0, 1) := by decide +kernel
theorem d_Marks_know_118 : decode b_Marks_know 118 = .ok (.dup, 1) := by decide +kernel
theorem d_Marks_know_119 : decode b_Marks_know 119 = .ok (.getfield 36, 3) := by decide +kernel
theorem d_Marks_know_122 : decode b_Marks_know 122 = .ok (.iconst 1, 1) := by decide +kernel
theorem d_Marks_know_123 : decode b_Marks_know 123 = .ok (.iadd, 1) := by decide +kernel
theorem d_Marks_know_124 : decode b_Marks_know 124 = .ok (.putfield 36, 3) := by decide +kernel
theorem d_Marks_know_127 : decode b_Marks_know 127 = .ok (.aload_n 0, 1) := by decide +kernel
theorem d_Marks_know_128 : decode b_Marks_know 128 = .ok (.getfield 36, 3) := by decide +kernel
theorem d_Marks_know_131 : decode b_Marks_know 131 = .ok (.iconst 1, 1) := by decide +kernel
theorem d_Marks_know_132 : decode b_Marks_know 132 = .ok (.isub, 1) := by decide +kernel
theorem d_Marks_know_133 : decode b_Marks_know 133 = .ok (.ireturn, 1) := by decide +kernel
theorem d_Marks_give_0 : decode b_Marks_give 0 = .ok (.aload_n 0, 1) := by decide +kernel
theorem d_Marks_give_1 : decode b_Marks_give 1 = .ok (.aload_n 1, 1) := by decide +kernel
theorem d_Marks_give_2 : decode b_Marks_give 2 = .ok (.invokevirtual 65, 3) := by decide +kernel
theorem d_Marks_give_5 : decode b_Marks_give 5 = .ok (.istore_n 2, 1) := by decide +kernel
theorem d_Marks_give_6 : decode b_Marks_give 6 = .ok (.iload_n 2, 1) := by decide +kernel
theorem d_Marks_give_7 : decode b_Marks_give 7 = .ok (.bipush (-2), 2) := by decide +kernel
theorem d_Marks_give_9 : decode b_Marks_give 9 = .ok (.if_icmp .ne 6, 3) := by decide +kernel
theorem d_Marks_give_12 : decode b_Marks_give 12 = .ok (.bipush (-2), 2) := by decide +kernel
theorem d_Marks_give_14 : decode b_Marks_give 14 = .ok (.ireturn, 1) := by decide +kernel
theorem d_Marks_give_15 : decode b_Marks_give 15 = .ok (.aload_n 0, 1) := by decide +kernel
theorem d_Marks_give_16 : decode b_Marks_give 16 = .ok (.getfield 19, 3) := by decide +kernel
theorem d_Marks_give_19 : decode b_Marks_give 19 = .ok (.iload_n 2, 1) := by decide +kernel
theorem d_Marks_give_20 : decode b_Marks_give 20 = .ok (.dup2, 1) := by decide +kernel
theorem d_Marks_give_21 : decode b_Marks_give 21 = .ok (.iaload, 1) := by decide +kernel
theorem d_Marks_give_22 : decode b_Marks_give 22 = .ok (.iconst 1, 1) := by decide +kernel
theorem d_Marks_give_23 : decode b_Marks_give 23 = .ok (.iadd, 1) := by decide +kernel
theorem d_Marks_give_24 : decode b_Marks_give 24 = .ok (.iastore, 1) := by decide +kernel
theorem d_Marks_give_25 : decode b_Marks_give 25 = .ok (.aload_n 0, 1) := by decide +kernel
theorem d_Marks_give_26 : decode b_Marks_give 26 = .ok (.getfield 19, 3) := by decide +kernel
theorem d_Marks_give_29 : decode b_Marks_give 29 = .ok (.iload_n 2, 1) := by decide +kernel
theorem d_Marks_give_30 : decode b_Marks_give 30 = .ok (.iaload, 1) := by decide +kernel
theorem d_Marks_give_31 : decode b_Marks_give 31 = .ok (.iconst 1, 1) := by decide +kernel
theorem d_Marks_give_32 : decode b_Marks_give 32 = .ok (.if_icmp .le 15, 3) := by decide +kernel
theorem d_Marks_give_35 : decode b_Marks_give 35 = .ok (.aload_n 0, 1) := by decide +kernel
theorem d_Marks_give_36 : decode b_Marks_give 36 = .ok (.dup, 1) := by decide +kernel
theorem d_Marks_give_37 : decode b_Marks_give 37 = .ok (.getfield 40, 3) := by decide +kernel
theorem d_Marks_give_40 : decode b_Marks_give 40 = .ok (.iconst 1, 1) := by decide +kernel
theorem d_Marks_give_41 : decode b_Marks_give 41 = .ok (.iadd, 1) := by decide +kernel
theorem d_Marks_give_42 : decode b_Marks_give 42 = .ok (.putfield 40, 3) := by decide +kernel
theorem d_Marks_give_45 : decode b_Marks_give 45 = .ok (.iconst (-1), 1) := by decide +kernel
theorem d_Marks_give_46 : decode b_Marks_give 46 = .ok (.ireturn, 1) := by decide +kernel
theorem d_Marks_give_47 : decode b_Marks_give 47 = .ok (.aload_n 0, 1) := by decide +kernel
theorem d_Marks_give_48 : decode b_Marks_give 48 = .ok (.iload_n 2, 1) := by decide +kernel
theorem d_Marks_give_49 : decode b_Marks_give 49 = .ok (.invokevirtual 68, 3) := by decide +kernel
theorem d_Marks_give_52 : decode b_Marks_give 52 = .ok (.iload_n 2, 1) := by decide +kernel
theorem d_Marks_give_53 : decode b_Marks_give 53 = .ok (.ireturn, 1) := by decide +kernel
theorem d_Marks_refer_0 : decode b_Marks_refer 0 = .ok (.aload_n 0, 1) := by decide +kernel
theorem d_Marks_refer_1 : decode b_Marks_refer 1 = .ok (.aload_n 1, 1) := by decide +kernel
theorem d_Marks_refer_2 : decode b_Marks_refer 2 = .ok (.invokevirtual 65, 3) := by decide +kernel
theorem d_Marks_refer_5 : decode b_Marks_refer 5 = .ok (.istore_n 2, 1) := by decide +kernel
theorem d_Marks_refer_6 : decode b_Marks_refer 6 = .ok (.iload_n 2, 1) := by decide +kernel
theorem d_Marks_refer_7 : decode b_Marks_refer 7 = .ok (.bipush (-2), 2) := by decide +kernel
theorem d_Marks_refer_9 : decode b_Marks_refer 9 = .ok (.if_icmp .ne 6, 3) := by decide +kernel
theorem d_Marks_refer_12 : decode b_Marks_refer 12 = .ok (.bipush (-2), 2) := by decide +kernel
theorem d_Marks_refer_14 : decode b_Marks_refer 14 = .ok (.ireturn, 1) := by decide +kernel
theorem d_Marks_refer_15 : decode b_Marks_refer 15 = .ok (.aload_n 0, 1) := by decide +kernel
theorem d_Marks_refer_16 : decode b_Marks_refer 16 = .ok (.getfield 22, 3) := by decide +kernel
theorem d_Marks_refer_19 : decode b_Marks_refer 19 = .ok (.iload_n 2, 1) := by decide +kernel
theorem d_Marks_refer_20 : decode b_Marks_refer 20 = .ok (.dup2, 1) := by decide +kernel
theorem d_Marks_refer_21 : decode b_Marks_refer 21 = .ok (.iaload, 1) := by decide +kernel
theorem d_Marks_refer_22 : decode b_Marks_refer 22 = .ok (.iconst 1, 1) := by decide +kernel
theorem d_Marks_refer_23 : decode b_Marks_refer 23 = .ok (.iadd, 1) := by decide +kernel
theorem d_Marks_refer_24 : decode b_Marks_refer 24 = .ok (.iastore, 1) := by decide +kernel
theorem d_Marks_refer_25 : decode b_Marks_refer 25 = .ok (.aload_n 0, 1) := by decide +kernel
theorem d_Marks_refer_26 : decode b_Marks_refer 26 = .ok (.iload_n 2, 1) := by decide +kernel
theorem d_Marks_refer_27 : decode b_Marks_refer 27 = .ok (.invokevirtual 68, 3) := by decide +kernel
theorem d_Marks_refer_30 : decode b_Marks_refer 30 = .ok (.iload_n 2, 1) := by decide +kernel
theorem d_Marks_refer_31 : decode b_Marks_refer 31 = .ok (.ireturn, 1) := by decide +kernel
theorem d_Marks_init_0 : decode b_Marks_init 0 = .ok (.aload_n 0, 1) := by decide +kernel
theorem d_Marks_init_1 : decode b_Marks_init 1 = .ok (.invokespecial 1, 3) := by decide +kernel
theorem d_Marks_init_4 : decode b_Marks_init 4 = .ok (.aload_n 0, 1) := by decide +kernel
theorem d_Marks_init_5 : decode b_Marks_init 5 = .ok (.sipush 12000, 3) := by decide +kernel
theorem d_Marks_init_8 : decode b_Marks_init 8 = .ok (.newarray .byte, 2) := by decide +kernel
theorem d_Marks_init_10 : decode b_Marks_init 10 = .ok (.putfield 11, 3) := by decide +kernel
theorem d_Marks_init_13 : decode b_Marks_init 13 = .ok (.aload_n 0, 1) := by decide +kernel
theorem d_Marks_init_14 : decode b_Marks_init 14 = .ok (.sipush 201, 3) := by decide +kernel
theorem d_Marks_init_17 : decode b_Marks_init 17 = .ok (.newarray .int, 2) := by decide +kernel
theorem d_Marks_init_19 : decode b_Marks_init 19 = .ok (.putfield 15, 3) := by decide +kernel
theorem d_Marks_init_22 : decode b_Marks_init 22 = .ok (.aload_n 0, 1) := by decide +kernel
theorem d_Marks_init_23 : decode b_Marks_init 23 = .ok (.sipush 200, 3) := by decide +kernel
theorem d_Marks_init_26 : decode b_Marks_init 26 = .ok (.newarray .int, 2) := by decide +kernel
theorem d_Marks_init_28 : decode b_Marks_init 28 = .ok (.putfield 19, 3) := by decide +kernel
theorem d_Marks_init_31 : decode b_Marks_init 31 = .ok (.aload_n 0, 1) := by decide +kernel
theorem d_Marks_init_32 : decode b_Marks_init 32 = .ok (.sipush 200, 3) := by decide +kernel
theorem d_Marks_init_35 : decode b_Marks_init 35 = .ok (.newarray .int, 2) := by decide +kernel
theorem d_Marks_init_37 : decode b_Marks_init 37 = .ok (.putfield 22, 3) := by decide +kernel
theorem d_Marks_init_40 : decode b_Marks_init 40 = .ok (.aload_n 0, 1) := by decide +kernel
theorem d_Marks_init_41 : decode b_Marks_init 41 = .ok (.sipush 512, 3) := by decide +kernel
theorem d_Marks_init_44 : decode b_Marks_init 44 = .ok (.newarray .short, 2) := by decide +kernel
theorem d_Marks_init_46 : decode b_Marks_init 46 = .ok (.putfield 25, 3) := by decide +kernel
theorem d_Marks_init_49 : decode b_Marks_init 49 = .ok (.aload_n 0, 1) := by decide +kernel
theorem d_Marks_init_50 : decode b_Marks_init 50 = .ok (.iconst 4, 1) := by decide +kernel
theorem d_Marks_init_51 : decode b_Marks_init 51 = .ok (.newarray .long, 2) := by decide +kernel
theorem d_Marks_init_53 : decode b_Marks_init 53 = .ok (.putfield 29, 3) := by decide +kernel
theorem d_Marks_init_56 : decode b_Marks_init 56 = .ok (.aload_n 0, 1) := by decide +kernel
theorem d_Marks_init_57 : decode b_Marks_init 57 = .ok (.invokevirtual 33, 3) := by decide +kernel
theorem d_Marks_init_60 : decode b_Marks_init 60 = .ok (.return_, 1) := by decide +kernel
theorem i2s_n : ∀ n, n < 256 → (nI n).toInt16.toInt32 = nI n := by decide +kernel
theorem kK_lt {V : AS} {Bd h k : Nat} {nb : Nat → Nat} {pl : Option Nat} (hV : AOk V Bd) (hp : PlIs V h nb pl) (e : kK V pl = some k) : k < aN (kA V h nb pl) := by
  cases pl with
  | some j =>
    obtain rfl : j = k := Option.some.inj e
    exact hp.1
  | none =>
    have h1 := hV.1
    unfold kK at e
    unfold kA
    by_cases q : aN V = 200
    · rw [if_pos q] at e
      cases e
    · rw [if_neg q] at e
      rw [if_neg q]
      obtain rfl : aN V = k := Option.some.inj e
      exact Nat.lt_succ_self _
set_option maxHeartbeats 4000000 in
set_option maxRecDepth 100000 in
/-- Marks.know(hand): the number of the name in the hand, which is known from now on -/
theorem c_Marks_know (l : Launch) (g : GT) (sz : Nat) (a a0 a1 a2 a3 a4 a5 b b0 : Nat) (sv vv : Int32) (fb bg fg fr sl f : Nat → Int32) (ms : Nat → Int64) (V : AS) (Bd h : Nat) (nb : Nat → Nat) (hV : AOk V Bd) (hBd : Bd < 2 ^ 30) (hH : HOk h nb) (h0 : 0 < h) (hf : ∀ i, i < h → f i = sb_b (nb i)) (hI : MInv V fb bg fg fr sl ms sv vv) (pl : Option Nat) (hp : PlIs V h nb pl) : Met l y_Marks_know w_Marks_know ({ frames := 2, cells := 0, slots := 0, locals := 46 } : Room) (PcW [.ref a, .ref b] sz g [(a, .inr (2, [.ref a0, .ref a1, .ref a2, .ref a3, .ref a4, .ref a5, .int sv, .int vv])), (a0, .inl (cBy g, 12000, .inl fb)), (a1, .inl (cIn g, 201, .inl bg)), (a2, .inl (cIn g, 200, .inl fg)), (a3, .inl (cIn g, 200, .inl fr)), (a4, .inl (cSh g, 512, .inl sl)), (b, .inr (1, [.ref b0, .int (nI h)])), (b0, .inl (cBy g, 60, .inl f))]) (va_Qi (fun (r : Int32) (u : (Nat → Int32) × (Nat → Int32) × (Nat → Int32) × (Nat → Int32) × (Nat → Int32) × Int32) => r = kR (kK V pl) ∧ MInv (kA V h nb pl) u.1 u.2.1 u.2.2.1 u.2.2.2.1 u.2.2.2.2.1 ms u.2.2.2.2.2 vv) (BW g (va_A [(a, .inr (2, [.ref a0, .ref a1, .ref a2, .ref a3, .ref a4, .ref a5, .int sv, .int vv])), (a0, .inl (cBy g, 12000, .inl fb)), (a1, .inl (cIn g, 201, .inl bg)), (a2, .inl (cIn g, 200, .inl fg)), (a3, .inl (cIn g, 200, .inl fr)), (a4, .inl (cSh g, 512, .inl sl)), (b, .inr (1, [.ref b0, .int (nI h)])), (b0, .inl (cBy g, 60, .inl f))] sz) (fun u : (Nat → Int32) × (Nat → Int32) × (Nat → Int32) × (Nat → Int32) × (Nat → Int32) × Int32 => [(a, .inr (2, [.ref a0, .ref a1, .ref a2, .ref a3, .ref a4, .ref a5, .int u.2.2.2.2.2, .int vv])), (a0, .inl (cBy g, 12000, .inl u.1)), (a1, .inl (cIn g, 201, .inl u.2.1)), (a2, .inl (cIn g, 200, .inl u.2.2.1)), (a3, .inl (cIn g, 200, .inl u.2.2.2.1)), (a4, .inl (cSh g, 512, .inl u.2.2.2.2.1)), (b, .inr (1, [.ref b0, .int (nI h)])), (b0, .inl (cBy g, 60, .inl f))])) (va_A [(a, .inr (2, [.ref a0, .ref a1, .ref a2, .ref a3, .ref a4, .ref a5, .int sv, .int vv])), (a0, .inl (cBy g, 12000, .inl fb)), (a1, .inl (cIn g, 201, .inl bg)), (a2, .inl (cIn g, 200, .inl fg)), (a3, .inl (cIn g, 200, .inl fr)), (a4, .inl (cSh g, 512, .inl sl)), (b, .inr (1, [.ref b0, .int (nI h)])), (b0, .inl (cBy g, 60, .inl f))] sz)) 0 0 (va_A [(a, .inr (2, [.ref a0, .ref a1, .ref a2, .ref a3, .ref a4, .ref a5, .int sv, .int vv])), (a0, .inl (cBy g, 12000, .inl fb)), (a1, .inl (cIn g, 201, .inl bg)), (a2, .inl (cIn g, 200, .inl fg)), (a3, .inl (cIn g, 200, .inl fr)), (a4, .inl (cSh g, 512, .inl sl)), (b, .inr (1, [.ref b0, .int (nI h)])), (b0, .inl (cBy g, 60, .inl f))] sz) := by
  refine Met.ofW (cc := b_Marks_know) (maxL := 3) (ret := (some .int)) (by decide) rfl ?_
  intro p e s m args below meth c s₁ B hml hv
  obtain ⟨rfl, hsz, hP, hK, hN, hD⟩ := hv
  have hx := B.exec
  have hb := B.bytes
  have hr := B.returns
  have hc : ∀ w ∈ cmn, w.before ([.ref a, .ref b] : List Value).toArray s = true := fun w h => atoms_spec (ws := w_Marks_know) B.pre w (List.mem_cons_of_mem _ h)
  have hown : s.vm.findClass R_Marks = some m.cls := findClass_of_methodNamed B.named
  have hlocks := B.notSynchronized
  subst hsz
  have hD := hD.self (sz := s.heap.size)
  have hS : va_S (va_A [(a, .inr (2, [.ref a0, .ref a1, .ref a2, .ref a3, .ref a4, .ref a5, .int sv, .int vv])), (a0, .inl (cBy g, 12000, .inl fb)), (a1, .inl (cIn g, 201, .inl bg)), (a2, .inl (cIn g, 200, .inl fg)), (a3, .inl (cIn g, 200, .inl fr)), (a4, .inl (cSh g, 512, .inl sl)), (b, .inr (1, [.ref b0, .int (nI h)])), (b0, .inl (cBy g, 60, .inl f))] s.heap.size) s.heap s.heap [] := va_S.rf
  have hA : ∀ q : Nat, s.heap.size ≤ q → va_A [(a, .inr (2, [.ref a0, .ref a1, .ref a2, .ref a3, .ref a4, .ref a5, .int sv, .int vv])), (a0, .inl (cBy g, 12000, .inl fb)), (a1, .inl (cIn g, 201, .inl bg)), (a2, .inl (cIn g, 200, .inl fg)), (a3, .inl (cIn g, 200, .inl fr)), (a4, .inl (cSh g, 512, .inl sl)), (b, .inr (1, [.ref b0, .int (nI h)])), (b0, .inl (cBy g, 60, .inl f))] s.heap.size q := fun q h => Or.inr h
  generalize va_A [(a, .inr (2, [.ref a0, .ref a1, .ref a2, .ref a3, .ref a4, .ref a5, .int sv, .int vv])), (a0, .inl (cBy g, 12000, .inl fb)), (a1, .inl (cIn g, 201, .inl bg)), (a2, .inl (cIn g, 200, .inl fg)), (a3, .inl (cIn g, 200, .inl fr)), (a4, .inl (cSh g, 512, .inl sl)), (b, .inr (1, [.ref b0, .int (nI h)])), (b0, .inl (cBy g, 60, .inl f))] s.heap.size = A at hD hS hA ⊢
  have hP : va_P g.1 classes [(a, .inr (2, [.ref a0, .ref a1, .ref a2, .ref a3, .ref a4, .ref a5, .int sv, .int vv])), (a0, .inl (cBy g, 12000, .inl fb)), (a1, .inl (cIn g, 201, .inl bg)), (a2, .inl (cIn g, 200, .inl fg)), (a3, .inl (cIn g, 200, .inl fr)), (a4, .inl (cSh g, 512, .inl sl)), (b, .inr (1, [.ref b0, .int (nI h)])), (b0, .inl (cBy g, 60, .inl f))] s.heap := hP
  have hD : va_D A [(a, .inr (2, [.ref a0, .ref a1, .ref a2, .ref a3, .ref a4, .ref a5, .int sv, .int vv])), (a0, .inl (cBy g, 12000, .inl fb)), (a1, .inl (cIn g, 201, .inl bg)), (a2, .inl (cIn g, 200, .inl fg)), (a3, .inl (cIn g, 200, .inl fr)), (a4, .inl (cSh g, 512, .inl sl)), (b, .inr (1, [.ref b0, .int (nI h)])), (b0, .inl (cBy g, 60, .inl f))] := hD
  have hl := lv_entry ([.ref a, .ref b]) (n := 3) (Nat.le_of_ble_eq_true rfl)
  rw [lg_entry_eq]
  generalize (lg_sl ([.ref a, .ref b]) ++ List.replicate (3 - (lg_sl ([.ref a, .ref b])).length) Slot.unset).toArray = ls at hl ⊢
  have hl : lv_has ls 3 [(0, .ref a), (1, .ref b)] := hl
  have hM := hI.2.2.1
  have hT := hI.2.2.2.2.2
  have hV1 := hV.1
  have esv : sv = nI (aN V) := hI.1
  subst esv
  refine lv_aload_n hx hb d_Marks_know_0 rfl (lv_at hl 0 rfl) ?_
  refine lv_aload_n hx hb d_Marks_know_1 rfl (lv_at hl 1 rfl) ?_
  refine x_cri (x_runV (As := [.ref b]) (rest := []) ⟨hx, hb, hml, hown, hc⟩ (c_Marks_slot l g _ a a0 a1 a2 a3 a4 a5 b b0 (nI (aN V)) vv fb bg sl f V Bd h nb hV hH hf hM hT) (cwV 1 hc (good_V km_Marks_53 ki_Marks_slot ks_Marks_slot kn_Marks kc_Marks_slot) rfl rfl rfl (by decide +kernel) ⟨Nat.le_of_ble_eq_true rfl, Nat.le_of_ble_eq_true rfl⟩) hP hD hK hN [0, 1, 2, 5, 6, 7] (by decide) rfl (va_recv hK hP (ci := 2) (q0 := 0) rfl rfl) rfl hl.1 rfl (Nat.le_of_ble_eq_true rfl) d_Marks_know_2 ⟨Nat.le_of_ble_eq_true rfl, Nat.le_of_ble_eq_true rfl⟩) hP hS hA (fun r0 H locs hw0 hP hS => ?_)
  obtain ⟨s1, rfl, hs⟩ := hw0
  have hs1 := hs.1
  have hfd := slot_found hV hf hT hp hs
  refine lv_istore_n (lv' := [(2, .int (nI s1)), (0, .ref a), (1, .ref b)]) hx hb d_Marks_know_5 rfl hl (by decide) rfl (fun ls hl => ?_)
  refine lv_aload_n hx hb d_Marks_know_6 rfl (lv_at hl 1 rfl) ?_
  refine va_get (D := g.1) (ci := 2) (v := .ref a4) (C := R_Marks) (T := F_Marks) (N := 8) hx hb hc i_Marks hown hK hP 0 rfl rfl 4 (by decide) (hc _ kf_Marks_25) (fun _ h9 => h9) rfl d_Marks_know_7 ?_
  refine lv_iload_n hx hb d_Marks_know_10 rfl (lv_at hl 0 rfl) ?_
  refine x_sald hx hb hK hP 5 rfl (k := s1) (hs1) (by decide) d_Marks_know_11 ?_
  refine lv_iconst (v := (-1)) hx hb d_Marks_know_12 (by decide) ?_
  refine lv_icmp_eq (tgt := 23) hx hb d_Marks_know_13 (by decide) (fun c1 => ?_) (fun c1 => ?_)
  · obtain rfl : pl = none := by
      cases pl with
      | none => rfl
      | some k => exact absurd (hfd.symm.trans c1) (nI_m1 (by have := hp.1; omega))
    refine lv_aload_n hx hb d_Marks_know_23 rfl (lv_at hl 1 rfl) ?_
    refine va_get (D := g.1) (ci := 2) (v := .int (nI (aN V))) (C := R_Marks) (T := F_Marks) (N := 8) hx hb hc i_Marks hown hK hP 0 rfl rfl 6 (by decide) (hc _ kf_Marks_36) (fun _ h9 => h9) rfl d_Marks_know_24 ?_
    refine lv_sipush (v := 200) hx hb d_Marks_know_27 (by decide) ?_
    refine lv_icmp_ne (tgt := 36) hx hb d_Marks_know_30 (by decide) (fun c2 => ?_) (fun c2 => ?_)
    · have c2 : ¬ aN V = 200 := fun z => c2 (by rw [z]; rfl)
      refine lv_aload_n hx hb d_Marks_know_36 rfl (lv_at hl 1 rfl) ?_
      refine va_get (D := g.1) (ci := 2) (v := .ref a4) (C := R_Marks) (T := F_Marks) (N := 8) hx hb hc i_Marks hown hK hP 0 rfl rfl 4 (by decide) (hc _ kf_Marks_25) (fun _ h9 => h9) rfl d_Marks_know_37 ?_
      refine lv_iload_n hx hb d_Marks_know_40 rfl (lv_at hl 0 rfl) ?_
      refine lv_aload_n hx hb d_Marks_know_41 rfl (lv_at hl 1 rfl) ?_
      refine va_get (D := g.1) (ci := 2) (v := .int (nI (aN V))) (C := R_Marks) (T := F_Marks) (N := 8) hx hb hc i_Marks hown hK hP 0 rfl rfl 6 (by decide) (hc _ kf_Marks_36) (fun _ h9 => h9) rfl d_Marks_know_42 ?_
      refine lv_i2s (v := (nI (aN V)).toInt16.toInt32) hx hb d_Marks_know_45 rfl ?_
      refine x_top (y := nI (aN V)) (i2s_n _ (by omega)) ?_
      refine x_sast hx hb hK hP hD hS 5 rfl (k := s1) (hs1) (by decide) (y := nI (aN V)) (i2s_n _ (by omega)) d_Marks_know_46 (fun H locs hP hD hS => ?_)
      have hP : va_P g.1 classes [(a, .inr (2, [.ref a0, .ref a1, .ref a2, .ref a3, .ref a4, .ref a5, .int (nI (aN V)), .int vv])), (a0, .inl (cBy g, 12000, .inl fb)), (a1, .inl (cIn g, 201, .inl bg)), (a2, .inl (cIn g, 200, .inl fg)), (a3, .inl (cIn g, 200, .inl fr)), (a4, .inl (cSh g, 512, .inl (upd sl s1 (nI (aN V))))), (b, .inr (1, [.ref b0, .int (nI h)])), (b0, .inl (cBy g, 60, .inl f))] H := hP
      have hD : va_D A [(a, .inr (2, [.ref a0, .ref a1, .ref a2, .ref a3, .ref a4, .ref a5, .int (nI (aN V)), .int vv])), (a0, .inl (cBy g, 12000, .inl fb)), (a1, .inl (cIn g, 201, .inl bg)), (a2, .inl (cIn g, 200, .inl fg)), (a3, .inl (cIn g, 200, .inl fr)), (a4, .inl (cSh g, 512, .inl (upd sl s1 (nI (aN V))))), (b, .inr (1, [.ref b0, .int (nI h)])), (b0, .inl (cBy g, 60, .inl f))] := hD
      refine lv_aload_n hx hb d_Marks_know_47 rfl (lv_at hl 2 rfl) ?_
      refine va_getN (D := g.1) (ci := 1) (v := .ref b0) (C := R_Hand) (T := F_Hand) (N := 2) hx hb hc i_Hand hown hK hP 6 rfl rfl 0 (by decide) (nf_Marks_44 hN) (fun _ h9 => h9) rfl d_Marks_know_48 ?_
      refine lv_iconst (v := 0) hx hb d_Marks_know_51 (by decide) ?_
      refine lv_aload_n hx hb d_Marks_know_52 rfl (lv_at hl 1 rfl) ?_
      refine va_get (D := g.1) (ci := 2) (v := .ref a0) (C := R_Marks) (T := F_Marks) (N := 8) hx hb hc i_Marks hown hK hP 0 rfl rfl 0 (by decide) (hc _ kf_Marks_11) (fun _ h9 => h9) rfl d_Marks_know_53 ?_
      refine lv_aload_n hx hb d_Marks_know_56 rfl (lv_at hl 1 rfl) ?_
      refine va_get (D := g.1) (ci := 2) (v := .ref a1) (C := R_Marks) (T := F_Marks) (N := 8) hx hb hc i_Marks hown hK hP 0 rfl rfl 1 (by decide) (hc _ kf_Marks_15) (fun _ h9 => h9) rfl d_Marks_know_57 ?_
      refine lv_aload_n hx hb d_Marks_know_60 rfl (lv_at hl 1 rfl) ?_
      refine va_get (D := g.1) (ci := 2) (v := .int (nI (aN V))) (C := R_Marks) (T := F_Marks) (N := 8) hx hb hc i_Marks hown hK hP 0 rfl rfl 6 (by decide) (hc _ kf_Marks_36) (fun _ h9 => h9) rfl d_Marks_know_61 ?_
      refine x_iald hx hb hK hP 2 rfl (k := (aN V)) (by omega) (by decide) d_Marks_know_64 ?_
      refine x_top (y := nI (psum (aZ V) (aN V))) (hM.1 _ (Nat.le_refl _)) ?_
      refine lv_aload_n hx hb d_Marks_know_65 rfl (lv_at hl 2 rfl) ?_
      refine va_getN (D := g.1) (ci := 1) (v := .int (nI h)) (C := R_Hand) (T := F_Hand) (N := 2) hx hb hc i_Hand hown hK hP 6 rfl rfl 1 (by decide) (nf_Marks_43 hN) (fun _ h9 => h9) rfl d_Marks_know_66 ?_
      have hps : psum (aZ V) (aN V) + h ≤ 12000 := by
        have q := psum_le (n := aN V) (fun j hj => (hV.2.1 j hj).2.1) (aN V) (Nat.le_refl _)
        have q2 := hH.1
        omega
      refine x_copyb hx hb (hml.trans hl.1.symm) hown (hc _ km_Marks_57) (hc _ kv_Sys_arraycopy) (hc _ kt_Sys_arraycopy) (hc _ kn_Sys) hK hP hD hS 7 1 rfl rfl (P := psum (aZ V) (aN V)) (h := h) hH.1 hps (by decide) (by decide) (fun i hi => by rw [hf i hi]; exact sb_fitB _) (Nat.le_of_ble_eq_true rfl) (Nat.le_of_ble_eq_true rfl) d_Marks_know_69 (fun H locs hP hD hS => ?_)
      have hP : va_P g.1 classes [(a, .inr (2, [.ref a0, .ref a1, .ref a2, .ref a3, .ref a4, .ref a5, .int (nI (aN V)), .int vv])), (a0, .inl (cBy g, 12000, .inl (va_cpy f fb 0 (psum (aZ V) (aN V)) h))), (a1, .inl (cIn g, 201, .inl bg)), (a2, .inl (cIn g, 200, .inl fg)), (a3, .inl (cIn g, 200, .inl fr)), (a4, .inl (cSh g, 512, .inl (upd sl s1 (nI (aN V))))), (b, .inr (1, [.ref b0, .int (nI h)])), (b0, .inl (cBy g, 60, .inl f))] H := hP
      have hD : va_D A [(a, .inr (2, [.ref a0, .ref a1, .ref a2, .ref a3, .ref a4, .ref a5, .int (nI (aN V)), .int vv])), (a0, .inl (cBy g, 12000, .inl (va_cpy f fb 0 (psum (aZ V) (aN V)) h))), (a1, .inl (cIn g, 201, .inl bg)), (a2, .inl (cIn g, 200, .inl fg)), (a3, .inl (cIn g, 200, .inl fr)), (a4, .inl (cSh g, 512, .inl (upd sl s1 (nI (aN V))))), (b, .inr (1, [.ref b0, .int (nI h)])), (b0, .inl (cBy g, 60, .inl f))] := hD
      refine lv_aload_n hx hb d_Marks_know_72 rfl (lv_at hl 1 rfl) ?_
      refine va_get (D := g.1) (ci := 2) (v := .ref a1) (C := R_Marks) (T := F_Marks) (N := 8) hx hb hc i_Marks hown hK hP 0 rfl rfl 1 (by decide) (hc _ kf_Marks_15) (fun _ h9 => h9) rfl d_Marks_know_73 ?_
      refine lv_aload_n hx hb d_Marks_know_76 rfl (lv_at hl 1 rfl) ?_
      refine va_get (D := g.1) (ci := 2) (v := .int (nI (aN V))) (C := R_Marks) (T := F_Marks) (N := 8) hx hb hc i_Marks hown hK hP 0 rfl rfl 6 (by decide) (hc _ kf_Marks_36) (fun _ h9 => h9) rfl d_Marks_know_77 ?_
      refine lv_iconst (v := 1) hx hb d_Marks_know_80 (by decide) ?_
      refine lv_iadd hx hb d_Marks_know_81 ?_
      refine x_top (y := nI (aN V + 1)) (nI_1 _) ?_
      refine lv_aload_n hx hb d_Marks_know_82 rfl (lv_at hl 1 rfl) ?_
      refine va_get (D := g.1) (ci := 2) (v := .ref a1) (C := R_Marks) (T := F_Marks) (N := 8) hx hb hc i_Marks hown hK hP 0 rfl rfl 1 (by decide) (hc _ kf_Marks_15) (fun _ h9 => h9) rfl d_Marks_know_83 ?_
      refine lv_aload_n hx hb d_Marks_know_86 rfl (lv_at hl 1 rfl) ?_
      refine va_get (D := g.1) (ci := 2) (v := .int (nI (aN V))) (C := R_Marks) (T := F_Marks) (N := 8) hx hb hc i_Marks hown hK hP 0 rfl rfl 6 (by decide) (hc _ kf_Marks_36) (fun _ h9 => h9) rfl d_Marks_know_87 ?_
      refine x_iald hx hb hK hP 2 rfl (k := (aN V)) (by omega) (by decide) d_Marks_know_90 ?_
      refine x_top (y := nI (psum (aZ V) (aN V))) (hM.1 _ (Nat.le_refl _)) ?_
      refine lv_aload_n hx hb d_Marks_know_91 rfl (lv_at hl 2 rfl) ?_
      refine va_getN (D := g.1) (ci := 1) (v := .int (nI h)) (C := R_Hand) (T := F_Hand) (N := 2) hx hb hc i_Hand hown hK hP 6 rfl rfl 1 (by decide) (nf_Marks_43 hN) (fun _ h9 => h9) rfl d_Marks_know_92 ?_
      refine lv_iadd hx hb d_Marks_know_95 ?_
      refine x_top (y := nI (psum (aZ V) (aN V) + h)) (nI_add _ _) ?_
      refine x_iast hx hb hK hP hD hS 2 rfl (k := (aN V + 1)) (by omega) (by decide) d_Marks_know_96 (fun H locs hP hD hS => ?_)
      have hP : va_P g.1 classes [(a, .inr (2, [.ref a0, .ref a1, .ref a2, .ref a3, .ref a4, .ref a5, .int (nI (aN V)), .int vv])), (a0, .inl (cBy g, 12000, .inl (va_cpy f fb 0 (psum (aZ V) (aN V)) h))), (a1, .inl (cIn g, 201, .inl (upd bg (aN V + 1) (nI (psum (aZ V) (aN V) + h))))), (a2, .inl (cIn g, 200, .inl fg)), (a3, .inl (cIn g, 200, .inl fr)), (a4, .inl (cSh g, 512, .inl (upd sl s1 (nI (aN V))))), (b, .inr (1, [.ref b0, .int (nI h)])), (b0, .inl (cBy g, 60, .inl f))] H := hP
      have hD : va_D A [(a, .inr (2, [.ref a0, .ref a1, .ref a2, .ref a3, .ref a4, .ref a5, .int (nI (aN V)), .int vv])), (a0, .inl (cBy g, 12000, .inl (va_cpy f fb 0 (psum (aZ V) (aN V)) h))), (a1, .inl (cIn g, 201, .inl (upd bg (aN V + 1) (nI (psum (aZ V) (aN V) + h))))), (a2, .inl (cIn g, 200, .inl fg)), (a3, .inl (cIn g, 200, .inl fr)), (a4, .inl (cSh g, 512, .inl (upd sl s1 (nI (aN V))))), (b, .inr (1, [.ref b0, .int (nI h)])), (b0, .inl (cBy g, 60, .inl f))] := hD
      refine lv_aload_n hx hb d_Marks_know_97 rfl (lv_at hl 1 rfl) ?_
      refine va_get (D := g.1) (ci := 2) (v := .ref a2) (C := R_Marks) (T := F_Marks) (N := 8) hx hb hc i_Marks hown hK hP 0 rfl rfl 2 (by decide) (hc _ kf_Marks_19) (fun _ h9 => h9) rfl d_Marks_know_98 ?_
      refine lv_aload_n hx hb d_Marks_know_101 rfl (lv_at hl 1 rfl) ?_
      refine va_get (D := g.1) (ci := 2) (v := .int (nI (aN V))) (C := R_Marks) (T := F_Marks) (N := 8) hx hb hc i_Marks hown hK hP 0 rfl rfl 6 (by decide) (hc _ kf_Marks_36) (fun _ h9 => h9) rfl d_Marks_know_102 ?_
      refine lv_iconst (v := 0) hx hb d_Marks_know_105 (by decide) ?_
      refine x_iast hx hb hK hP hD hS 3 rfl (k := (aN V)) (by omega) (by decide) d_Marks_know_106 (fun H locs hP hD hS => ?_)
      have hP : va_P g.1 classes [(a, .inr (2, [.ref a0, .ref a1, .ref a2, .ref a3, .ref a4, .ref a5, .int (nI (aN V)), .int vv])), (a0, .inl (cBy g, 12000, .inl (va_cpy f fb 0 (psum (aZ V) (aN V)) h))), (a1, .inl (cIn g, 201, .inl (upd bg (aN V + 1) (nI (psum (aZ V) (aN V) + h))))), (a2, .inl (cIn g, 200, .inl (upd fg (aN V) 0))), (a3, .inl (cIn g, 200, .inl fr)), (a4, .inl (cSh g, 512, .inl (upd sl s1 (nI (aN V))))), (b, .inr (1, [.ref b0, .int (nI h)])), (b0, .inl (cBy g, 60, .inl f))] H := hP
      have hD : va_D A [(a, .inr (2, [.ref a0, .ref a1, .ref a2, .ref a3, .ref a4, .ref a5, .int (nI (aN V)), .int vv])), (a0, .inl (cBy g, 12000, .inl (va_cpy f fb 0 (psum (aZ V) (aN V)) h))), (a1, .inl (cIn g, 201, .inl (upd bg (aN V + 1) (nI (psum (aZ V) (aN V) + h))))), (a2, .inl (cIn g, 200, .inl (upd fg (aN V) 0))), (a3, .inl (cIn g, 200, .inl fr)), (a4, .inl (cSh g, 512, .inl (upd sl s1 (nI (aN V))))), (b, .inr (1, [.ref b0, .int (nI h)])), (b0, .inl (cBy g, 60, .inl f))] := hD
      refine lv_aload_n hx hb d_Marks_know_107 rfl (lv_at hl 1 rfl) ?_
      refine va_get (D := g.1) (ci := 2) (v := .ref a3) (C := R_Marks) (T := F_Marks) (N := 8) hx hb hc i_Marks hown hK hP 0 rfl rfl 3 (by decide) (hc _ kf_Marks_22) (fun _ h9 => h9) rfl d_Marks_know_108 ?_
      refine lv_aload_n hx hb d_Marks_know_111 rfl (lv_at hl 1 rfl) ?_
      refine va_get (D := g.1) (ci := 2) (v := .int (nI (aN V))) (C := R_Marks) (T := F_Marks) (N := 8) hx hb hc i_Marks hown hK hP 0 rfl rfl 6 (by decide) (hc _ kf_Marks_36) (fun _ h9 => h9) rfl d_Marks_know_112 ?_
      refine lv_iconst (v := 0) hx hb d_Marks_know_115 (by decide) ?_
      refine x_iast hx hb hK hP hD hS 4 rfl (k := (aN V)) (by omega) (by decide) d_Marks_know_116 (fun H locs hP hD hS => ?_)
      have hP : va_P g.1 classes [(a, .inr (2, [.ref a0, .ref a1, .ref a2, .ref a3, .ref a4, .ref a5, .int (nI (aN V)), .int vv])), (a0, .inl (cBy g, 12000, .inl (va_cpy f fb 0 (psum (aZ V) (aN V)) h))), (a1, .inl (cIn g, 201, .inl (upd bg (aN V + 1) (nI (psum (aZ V) (aN V) + h))))), (a2, .inl (cIn g, 200, .inl (upd fg (aN V) 0))), (a3, .inl (cIn g, 200, .inl (upd fr (aN V) 0))), (a4, .inl (cSh g, 512, .inl (upd sl s1 (nI (aN V))))), (b, .inr (1, [.ref b0, .int (nI h)])), (b0, .inl (cBy g, 60, .inl f))] H := hP
      have hD : va_D A [(a, .inr (2, [.ref a0, .ref a1, .ref a2, .ref a3, .ref a4, .ref a5, .int (nI (aN V)), .int vv])), (a0, .inl (cBy g, 12000, .inl (va_cpy f fb 0 (psum (aZ V) (aN V)) h))), (a1, .inl (cIn g, 201, .inl (upd bg (aN V + 1) (nI (psum (aZ V) (aN V) + h))))), (a2, .inl (cIn g, 200, .inl (upd fg (aN V) 0))), (a3, .inl (cIn g, 200, .inl (upd fr (aN V) 0))), (a4, .inl (cSh g, 512, .inl (upd sl s1 (nI (aN V))))), (b, .inr (1, [.ref b0, .int (nI h)])), (b0, .inl (cBy g, 60, .inl f))] := hD
      refine lv_aload_n hx hb d_Marks_know_117 rfl (lv_at hl 1 rfl) ?_
      refine lv_dup hx hb d_Marks_know_118 rfl ?_
      refine va_get (D := g.1) (ci := 2) (v := .int (nI (aN V))) (C := R_Marks) (T := F_Marks) (N := 8) hx hb hc i_Marks hown hK hP 0 rfl rfl 6 (by decide) (hc _ kf_Marks_36) (fun _ h9 => h9) rfl d_Marks_know_119 ?_
      refine lv_iconst (v := 1) hx hb d_Marks_know_122 (by decide) ?_
      refine lv_iadd hx hb d_Marks_know_123 ?_
      refine x_top (y := nI (aN V + 1)) (nI_1 _) ?_
      refine va_put (D := g.1) (ci := 2) (v := .int (nI (aN V + 1))) (ty := .int) (C := R_Marks) (T := F_Marks) (N := 8) hx hb hc i_Marks t_Marks t_Marks_ok n_Marks hown hK hP hD hS 0 rfl rfl 6 (by decide) (hc _ kf_Marks_36) (fun _ h9 => h9) rfl (by decide +kernel) rfl rfl (Nat.le_of_ble_eq_true rfl) d_Marks_know_124 (fun H locs hP hD hS => ?_)
      have hP : va_P g.1 classes [(a, .inr (2, [.ref a0, .ref a1, .ref a2, .ref a3, .ref a4, .ref a5, .int (nI (aN V + 1)), .int vv])), (a0, .inl (cBy g, 12000, .inl (va_cpy f fb 0 (psum (aZ V) (aN V)) h))), (a1, .inl (cIn g, 201, .inl (upd bg (aN V + 1) (nI (psum (aZ V) (aN V) + h))))), (a2, .inl (cIn g, 200, .inl (upd fg (aN V) 0))), (a3, .inl (cIn g, 200, .inl (upd fr (aN V) 0))), (a4, .inl (cSh g, 512, .inl (upd sl s1 (nI (aN V))))), (b, .inr (1, [.ref b0, .int (nI h)])), (b0, .inl (cBy g, 60, .inl f))] H := hP
      have hD : va_D A [(a, .inr (2, [.ref a0, .ref a1, .ref a2, .ref a3, .ref a4, .ref a5, .int (nI (aN V + 1)), .int vv])), (a0, .inl (cBy g, 12000, .inl (va_cpy f fb 0 (psum (aZ V) (aN V)) h))), (a1, .inl (cIn g, 201, .inl (upd bg (aN V + 1) (nI (psum (aZ V) (aN V) + h))))), (a2, .inl (cIn g, 200, .inl (upd fg (aN V) 0))), (a3, .inl (cIn g, 200, .inl (upd fr (aN V) 0))), (a4, .inl (cSh g, 512, .inl (upd sl s1 (nI (aN V))))), (b, .inr (1, [.ref b0, .int (nI h)])), (b0, .inl (cBy g, 60, .inl f))] := hD
      refine lv_aload_n hx hb d_Marks_know_127 rfl (lv_at hl 1 rfl) ?_
      refine va_get (D := g.1) (ci := 2) (v := .int (nI (aN V + 1))) (C := R_Marks) (T := F_Marks) (N := 8) hx hb hc i_Marks hown hK hP 0 rfl rfl 6 (by decide) (hc _ kf_Marks_36) (fun _ h9 => h9) rfl d_Marks_know_128 ?_
      refine lv_iconst (v := 1) hx hb d_Marks_know_131 (by decide) ?_
      refine lv_isub hx hb d_Marks_know_132 ?_
      refine x_top (y := nI (aN V)) (nI_pred _) ?_
      exact W.iret (v := nI (aN V)) hx hb hr (fun t9 ht9 hW9 => ⟨⟨_, (_, _, _, _, _, _), rfl, ⟨by show nI (aN V) = kR (kK V none); unfold kK; rw [if_neg c2]; rfl, know_inv hV hf hI c2 hs c1⟩, by rw [ht9]; exact hP, hD⟩, hS.F ht9⟩) hS.2.2 d_Marks_know_133
    · have c2 : aN V = 200 := (nI_eq (a := aN V) (b := 200) (by omega) (by decide)).mp c2
      refine lv_bipush (v := (-2)) hx hb d_Marks_know_33 (by decide) ?_
      exact W.iret (v := (-2)) hx hb hr (fun t9 ht9 hW9 => ⟨⟨_, (fb, bg, fg, fr, sl, nI (aN V)), rfl, ⟨by show -2 = kR (kK V none); unfold kK; rw [if_pos c2]; rfl, by show MInv (kA V h nb none) fb bg fg fr sl ms (nI (aN V)) vv; unfold kA; rw [if_pos c2]; exact hI⟩, by rw [ht9]; exact hP, hD⟩, hS.F ht9⟩) hS.2.2 d_Marks_know_35
  · obtain ⟨k, rfl⟩ : ∃ k, pl = some k := by
      cases pl with
      | none => exact absurd hfd c1
      | some k => exact ⟨k, rfl⟩
    refine lv_aload_n hx hb d_Marks_know_16 rfl (lv_at hl 1 rfl) ?_
    refine va_get (D := g.1) (ci := 2) (v := .ref a4) (C := R_Marks) (T := F_Marks) (N := 8) hx hb hc i_Marks hown hK hP 0 rfl rfl 4 (by decide) (hc _ kf_Marks_25) (fun _ h9 => h9) rfl d_Marks_know_17 ?_
    refine lv_iload_n hx hb d_Marks_know_20 rfl (lv_at hl 0 rfl) ?_
    refine x_sald hx hb hK hP 5 rfl (k := s1) (hs1) (by decide) d_Marks_know_21 ?_
    exact W.iret (v := sl s1) hx hb hr (fun t9 ht9 hW9 => ⟨⟨_, (fb, bg, fg, fr, sl, nI (aN V)), rfl, ⟨hfd, hI⟩, by rw [ht9]; exact hP, hD⟩, hS.F ht9⟩) hS.2.2 d_Marks_know_22
set_option maxHeartbeats 4000000 in
set_option maxRecDepth 100000 in
/-- Marks.give(hand) -/
theorem c_Marks_give (l : Launch) (g : GT) (sz : Nat) (a a0 a1 a2 a3 a4 a5 b b0 : Nat) (sv vv : Int32) (fb bg fg fr sl f : Nat → Int32) (ms : Nat → Int64) (V : AS) (Bd h : Nat) (nb : Nat → Nat) (hV : AOk V Bd) (hBd : Bd < 2 ^ 30) (hH : HOk h nb) (h0 : 0 < h) (hf : ∀ i, i < h → f i = sb_b (nb i)) (hI : MInv V fb bg fg fr sl ms sv vv) (pl : Option Nat) (hp : PlIs V h nb pl) : Met l y_Marks_give w_Marks_give ({ frames := 3, cells := 0, slots := 0, locals := 68 } : Room) (PcW [.ref a, .ref b] sz g [(a, .inr (2, [.ref a0, .ref a1, .ref a2, .ref a3, .ref a4, .ref a5, .int sv, .int vv])), (a0, .inl (cBy g, 12000, .inl fb)), (a1, .inl (cIn g, 201, .inl bg)), (a2, .inl (cIn g, 200, .inl fg)), (a3, .inl (cIn g, 200, .inl fr)), (a4, .inl (cSh g, 512, .inl sl)), (a5, .inl (cLo g, 4, .inr (.inl ms))), (b, .inr (1, [.ref b0, .int (nI h)])), (b0, .inl (cBy g, 60, .inl f))]) (va_Qi (fun (r : Int32) (u : (Nat → Int32) × (Nat → Int32) × (Nat → Int32) × (Nat → Int32) × (Nat → Int32) × (Nat → Int64) × Int32 × Int32) => r = giveR V h nb pl ∧ MInv (giveA V h nb pl) u.1 u.2.1 u.2.2.1 u.2.2.2.1 u.2.2.2.2.1 u.2.2.2.2.2.1 u.2.2.2.2.2.2.1 u.2.2.2.2.2.2.2) (BW g (va_A [(a, .inr (2, [.ref a0, .ref a1, .ref a2, .ref a3, .ref a4, .ref a5, .int sv, .int vv])), (a0, .inl (cBy g, 12000, .inl fb)), (a1, .inl (cIn g, 201, .inl bg)), (a2, .inl (cIn g, 200, .inl fg)), (a3, .inl (cIn g, 200, .inl fr)), (a4, .inl (cSh g, 512, .inl sl)), (a5, .inl (cLo g, 4, .inr (.inl ms))), (b, .inr (1, [.ref b0, .int (nI h)])), (b0, .inl (cBy g, 60, .inl f))] sz) (fun u : (Nat → Int32) × (Nat → Int32) × (Nat → Int32) × (Nat → Int32) × (Nat → Int32) × (Nat → Int64) × Int32 × Int32 => [(a, .inr (2, [.ref a0, .ref a1, .ref a2, .ref a3, .ref a4, .ref a5, .int u.2.2.2.2.2.2.1, .int u.2.2.2.2.2.2.2])), (a0, .inl (cBy g, 12000, .inl u.1)), (a1, .inl (cIn g, 201, .inl u.2.1)), (a2, .inl (cIn g, 200, .inl u.2.2.1)), (a3, .inl (cIn g, 200, .inl u.2.2.2.1)), (a4, .inl (cSh g, 512, .inl u.2.2.2.2.1)), (a5, .inl (cLo g, 4, .inr (.inl u.2.2.2.2.2.1))), (b, .inr (1, [.ref b0, .int (nI h)])), (b0, .inl (cBy g, 60, .inl f))])) (va_A [(a, .inr (2, [.ref a0, .ref a1, .ref a2, .ref a3, .ref a4, .ref a5, .int sv, .int vv])), (a0, .inl (cBy g, 12000, .inl fb)), (a1, .inl (cIn g, 201, .inl bg)), (a2, .inl (cIn g, 200, .inl fg)), (a3, .inl (cIn g, 200, .inl fr)), (a4, .inl (cSh g, 512, .inl sl)), (a5, .inl (cLo g, 4, .inr (.inl ms))), (b, .inr (1, [.ref b0, .int (nI h)])), (b0, .inl (cBy g, 60, .inl f))] sz)) 0 0 (va_A [(a, .inr (2, [.ref a0, .ref a1, .ref a2, .ref a3, .ref a4, .ref a5, .int sv, .int vv])), (a0, .inl (cBy g, 12000, .inl fb)), (a1, .inl (cIn g, 201, .inl bg)), (a2, .inl (cIn g, 200, .inl fg)), (a3, .inl (cIn g, 200, .inl fr)), (a4, .inl (cSh g, 512, .inl sl)), (a5, .inl (cLo g, 4, .inr (.inl ms))), (b, .inr (1, [.ref b0, .int (nI h)])), (b0, .inl (cBy g, 60, .inl f))] sz) := by
  refine Met.ofW (cc := b_Marks_give) (maxL := 3) (ret := (some .int)) (by decide) rfl ?_
  intro p e s m args below meth c s₁ B hml hv
  obtain ⟨rfl, hsz, hP, hK, hN, hD⟩ := hv
  have hx := B.exec
  have hb := B.bytes
  have hr := B.returns
  have hc : ∀ w ∈ cmn, w.before ([.ref a, .ref b] : List Value).toArray s = true := fun w h => atoms_spec (ws := w_Marks_give) B.pre w (List.mem_cons_of_mem _ h)
  have hown : s.vm.findClass R_Marks = some m.cls := findClass_of_methodNamed B.named
  have hlocks := B.notSynchronized
  subst hsz
  have hD := hD.self (sz := s.heap.size)
  have hS : va_S (va_A [(a, .inr (2, [.ref a0, .ref a1, .ref a2, .ref a3, .ref a4, .ref a5, .int sv, .int vv])), (a0, .inl (cBy g, 12000, .inl fb)), (a1, .inl (cIn g, 201, .inl bg)), (a2, .inl (cIn g, 200, .inl fg)), (a3, .inl (cIn g, 200, .inl fr)), (a4, .inl (cSh g, 512, .inl sl)), (a5, .inl (cLo g, 4, .inr (.inl ms))), (b, .inr (1, [.ref b0, .int (nI h)])), (b0, .inl (cBy g, 60, .inl f))] s.heap.size) s.heap s.heap [] := va_S.rf
  have hA : ∀ q : Nat, s.heap.size ≤ q → va_A [(a, .inr (2, [.ref a0, .ref a1, .ref a2, .ref a3, .ref a4, .ref a5, .int sv, .int vv])), (a0, .inl (cBy g, 12000, .inl fb)), (a1, .inl (cIn g, 201, .inl bg)), (a2, .inl (cIn g, 200, .inl fg)), (a3, .inl (cIn g, 200, .inl fr)), (a4, .inl (cSh g, 512, .inl sl)), (a5, .inl (cLo g, 4, .inr (.inl ms))), (b, .inr (1, [.ref b0, .int (nI h)])), (b0, .inl (cBy g, 60, .inl f))] s.heap.size q := fun q h => Or.inr h
  generalize va_A [(a, .inr (2, [.ref a0, .ref a1, .ref a2, .ref a3, .ref a4, .ref a5, .int sv, .int vv])), (a0, .inl (cBy g, 12000, .inl fb)), (a1, .inl (cIn g, 201, .inl bg)), (a2, .inl (cIn g, 200, .inl fg)), (a3, .inl (cIn g, 200, .inl fr)), (a4, .inl (cSh g, 512, .inl sl)), (a5, .inl (cLo g, 4, .inr (.inl ms))), (b, .inr (1, [.ref b0, .int (nI h)])), (b0, .inl (cBy g, 60, .inl f))] s.heap.size = A at hD hS hA ⊢
  have hP : va_P g.1 classes [(a, .inr (2, [.ref a0, .ref a1, .ref a2, .ref a3, .ref a4, .ref a5, .int sv, .int vv])), (a0, .inl (cBy g, 12000, .inl fb)), (a1, .inl (cIn g, 201, .inl bg)), (a2, .inl (cIn g, 200, .inl fg)), (a3, .inl (cIn g, 200, .inl fr)), (a4, .inl (cSh g, 512, .inl sl)), (a5, .inl (cLo g, 4, .inr (.inl ms))), (b, .inr (1, [.ref b0, .int (nI h)])), (b0, .inl (cBy g, 60, .inl f))] s.heap := hP
  have hD : va_D A [(a, .inr (2, [.ref a0, .ref a1, .ref a2, .ref a3, .ref a4, .ref a5, .int sv, .int vv])), (a0, .inl (cBy g, 12000, .inl fb)), (a1, .inl (cIn g, 201, .inl bg)), (a2, .inl (cIn g, 200, .inl fg)), (a3, .inl (cIn g, 200, .inl fr)), (a4, .inl (cSh g, 512, .inl sl)), (a5, .inl (cLo g, 4, .inr (.inl ms))), (b, .inr (1, [.ref b0, .int (nI h)])), (b0, .inl (cBy g, 60, .inl f))] := hD
  have hl := lv_entry ([.ref a, .ref b]) (n := 3) (Nat.le_of_ble_eq_true rfl)
  rw [lg_entry_eq]
  generalize (lg_sl ([.ref a, .ref b]) ++ List.replicate (3 - (lg_sl ([.ref a, .ref b])).length) Slot.unset).toArray = ls at hl ⊢
  have hl : lv_has ls 3 [(0, .ref a), (1, .ref b)] := hl
  have hV1 := hV.1
  refine lv_aload_n hx hb d_Marks_give_0 rfl (lv_at hl 0 rfl) ?_
  refine lv_aload_n hx hb d_Marks_give_1 rfl (lv_at hl 1 rfl) ?_
  refine x_cmi (wr := [(a5, .inl (cLo g, 4, .inr (.inl ms)))]) (x_runV (As := [.ref b]) (rest := []) ⟨hx, hb, hml, hown, hc⟩ (c_Marks_know l g _ a a0 a1 a2 a3 a4 a5 b b0 sv vv fb bg fg fr sl f ms V Bd h nb hV hBd hH h0 hf hI pl hp) (cwV 1 hc (good_V km_Marks_65 ki_Marks_know ks_Marks_know kn_Marks kc_Marks_know) rfl rfl rfl (by decide +kernel) ⟨Nat.le_of_ble_eq_true rfl, Nat.le_of_ble_eq_true rfl⟩) hP hD hK hN [0, 1, 2, 3, 4, 5, 7, 8] (by decide) rfl (va_recv hK hP (ci := 2) (q0 := 0) rfl rfl) rfl hl.1 rfl (Nat.le_of_ble_eq_true rfl) d_Marks_give_2 ⟨Nat.le_of_ble_eq_true rfl, Nat.le_of_ble_eq_true rfl⟩) hP hD hS hA [0, 1, 2, 3, 4, 5, 7, 8] [6] rfl rfl (by decide) (by decide) (fun r0 u H locs hw hP hD hS => ?_)
  obtain ⟨fb1, bg1, fg1, fr1, sl1, sv1⟩ := u
  have hP := hP.sub (ws' := [(a, .inr (2, [.ref a0, .ref a1, .ref a2, .ref a3, .ref a4, .ref a5, .int sv1, .int vv])), (a0, .inl (cBy g, 12000, .inl fb1)), (a1, .inl (cIn g, 201, .inl bg1)), (a2, .inl (cIn g, 200, .inl fg1)), (a3, .inl (cIn g, 200, .inl fr1)), (a4, .inl (cSh g, 512, .inl sl1)), (a5, .inl (cLo g, 4, .inr (.inl ms))), (b, .inr (1, [.ref b0, .int (nI h)])), (b0, .inl (cBy g, 60, .inl f))]) [1, 2, 3, 4, 5, 6, 0, 7, 8] rfl
  have hD := hD.sub (ws' := [(a, .inr (2, [.ref a0, .ref a1, .ref a2, .ref a3, .ref a4, .ref a5, .int sv1, .int vv])), (a0, .inl (cBy g, 12000, .inl fb1)), (a1, .inl (cIn g, 201, .inl bg1)), (a2, .inl (cIn g, 200, .inl fg1)), (a3, .inl (cIn g, 200, .inl fr1)), (a4, .inl (cSh g, 512, .inl sl1)), (a5, .inl (cLo g, 4, .inr (.inl ms))), (b, .inr (1, [.ref b0, .int (nI h)])), (b0, .inl (cBy g, 60, .inl f))]) [1, 2, 3, 4, 5, 6, 0, 7, 8] (by decide) rfl
  obtain ⟨er, hI1⟩ : r0 = kR (kK V pl) ∧ MInv (kA V h nb pl) fb1 bg1 fg1 fr1 sl1 ms sv1 vv := hw
  have hV2 := AOk_kA hV hH h0 hp
  cases ek : kK V pl
  · obtain rfl : r0 = -2 := by rw [er, ek]; rfl
    refine lv_istore_n (lv' := [(2, .int (-2)), (0, .ref a), (1, .ref b)]) hx hb d_Marks_give_5 rfl hl (by decide) rfl (fun ls hl => ?_)
    refine lv_iload_n hx hb d_Marks_give_6 rfl (lv_at hl 0 rfl) ?_
    refine lv_bipush (v := (-2)) hx hb d_Marks_give_7 (by decide) ?_
    refine lv_icmp_ne (tgt := 15) hx hb d_Marks_give_9 (by decide) (fun c1 => ?_) (fun c1 => ?_)
    · exact absurd rfl c1
    · refine lv_bipush (v := (-2)) hx hb d_Marks_give_12 (by decide) ?_
      exact W.iret (v := (-2)) hx hb hr (fun t9 ht9 hW9 => ⟨⟨_, (fb1, bg1, fg1, fr1, sl1, ms, sv1, vv), rfl, ⟨by show -2 = giveR V h nb pl; simp only [giveR, ek], by show MInv (giveA V h nb pl) fb1 bg1 fg1 fr1 sl1 ms sv1 vv; simp only [giveA, ek]; exact hI1⟩, by rw [ht9]; exact hP, hD⟩, hS.F ht9⟩) hS.2.2 d_Marks_give_14
  · rename_i k
    obtain rfl : r0 = nI k := by rw [er, ek]; rfl
    have hk1 := kK_lt hV hp ek
    have hV21 := hV2.1
    have eA : giveA V h nb pl = gA (kA V h nb pl) k := by simp only [giveA, ek]
    have eR : giveR V h nb pl = if aG (kA V h nb pl) k = 0 then nI k else -1 := by simp only [giveR, ek]
    rw [eA, eR]
    generalize kA V h nb pl = V1 at *
    obtain ⟨hg1, hr1⟩ := hI1.2.2.2.1 k hk1
    have hb1 := hV2.2.1 k hk1
    refine lv_istore_n (lv' := [(2, .int (nI k)), (0, .ref a), (1, .ref b)]) hx hb d_Marks_give_5 rfl hl (by decide) rfl (fun ls hl => ?_)
    refine lv_iload_n hx hb d_Marks_give_6 rfl (lv_at hl 0 rfl) ?_
    refine lv_bipush (v := (-2)) hx hb d_Marks_give_7 (by decide) ?_
    refine lv_icmp_ne (tgt := 15) hx hb d_Marks_give_9 (by decide) (fun c1 => ?_) (fun c1 => ?_)
    · refine lv_aload_n hx hb d_Marks_give_15 rfl (lv_at hl 1 rfl) ?_
      refine va_get (D := g.1) (ci := 2) (v := .ref a2) (C := R_Marks) (T := F_Marks) (N := 8) hx hb hc i_Marks hown hK hP 0 rfl rfl 2 (by decide) (hc _ kf_Marks_19) (fun _ h9 => h9) rfl d_Marks_give_16 ?_
      refine lv_iload_n hx hb d_Marks_give_19 rfl (lv_at hl 0 rfl) ?_
      refine lv_dup2_11 hx hb d_Marks_give_20 rfl rfl ?_
      refine x_iald hx hb hK hP 3 rfl (k := k) (by omega) (by decide) d_Marks_give_21 ?_
      refine x_top (y := nI (aG V1 k)) (hg1) ?_
      refine lv_iconst (v := 1) hx hb d_Marks_give_22 (by decide) ?_
      refine lv_iadd hx hb d_Marks_give_23 ?_
      refine x_top (y := nI (aG V1 k + 1)) (nI_1 _) ?_
      refine x_iast hx hb hK hP hD hS 3 rfl (k := k) (by omega) (by decide) d_Marks_give_24 (fun H locs hP hD hS => ?_)
      have hP : va_P g.1 classes [(a, .inr (2, [.ref a0, .ref a1, .ref a2, .ref a3, .ref a4, .ref a5, .int sv1, .int vv])), (a0, .inl (cBy g, 12000, .inl fb1)), (a1, .inl (cIn g, 201, .inl bg1)), (a2, .inl (cIn g, 200, .inl (upd fg1 k (nI (aG V1 k + 1))))), (a3, .inl (cIn g, 200, .inl fr1)), (a4, .inl (cSh g, 512, .inl sl1)), (a5, .inl (cLo g, 4, .inr (.inl ms))), (b, .inr (1, [.ref b0, .int (nI h)])), (b0, .inl (cBy g, 60, .inl f))] H := hP
      have hD : va_D A [(a, .inr (2, [.ref a0, .ref a1, .ref a2, .ref a3, .ref a4, .ref a5, .int sv1, .int vv])), (a0, .inl (cBy g, 12000, .inl fb1)), (a1, .inl (cIn g, 201, .inl bg1)), (a2, .inl (cIn g, 200, .inl (upd fg1 k (nI (aG V1 k + 1))))), (a3, .inl (cIn g, 200, .inl fr1)), (a4, .inl (cSh g, 512, .inl sl1)), (a5, .inl (cLo g, 4, .inr (.inl ms))), (b, .inr (1, [.ref b0, .int (nI h)])), (b0, .inl (cBy g, 60, .inl f))] := hD
      refine lv_aload_n hx hb d_Marks_give_25 rfl (lv_at hl 1 rfl) ?_
      refine va_get (D := g.1) (ci := 2) (v := .ref a2) (C := R_Marks) (T := F_Marks) (N := 8) hx hb hc i_Marks hown hK hP 0 rfl rfl 2 (by decide) (hc _ kf_Marks_19) (fun _ h9 => h9) rfl d_Marks_give_26 ?_
      refine lv_iload_n hx hb d_Marks_give_29 rfl (lv_at hl 0 rfl) ?_
      refine x_iald hx hb hK hP 3 rfl (k := k) (by omega) (by decide) d_Marks_give_30 ?_
      refine x_top (y := nI (aG V1 k + 1)) (pk_us) ?_
      refine lv_iconst (v := 1) hx hb d_Marks_give_31 (by decide) ?_
      refine lv_icmp_le (tgt := 47) hx hb d_Marks_give_32 (by decide) (fun c2 => ?_) (fun c2 => ?_)
      · have c2 : aG V1 k + 1 ≤ 1 := (nI_leI (a := aG V1 k + 1) (b := 1) (by omega) (by decide)).mp c2
        refine lv_aload_n hx hb d_Marks_give_47 rfl (lv_at hl 1 rfl) ?_
        refine lv_iload_n hx hb d_Marks_give_48 rfl (lv_at hl 0 rfl) ?_
        refine x_cmv (wr := [(a0, .inl (cBy g, 12000, .inl fb1)), (a1, .inl (cIn g, 201, .inl bg1)), (a4, .inl (cSh g, 512, .inl sl1)), (b, .inr (1, [.ref b0, .int (nI h)])), (b0, .inl (cBy g, 60, .inl f))]) (x_runV (As := [.int (nI k)]) (rest := []) ⟨hx, hb, hml, hown, hc⟩ (c_Marks_mark l g _ a a0 a1 a2 a3 a4 a5 sv1 vv (upd fg1 k (nI (aG V1 k + 1))) fr1 ms k (by omega)) (cwV 1 hc (good_V km_Marks_68 ki_Marks_mark ks_Marks_mark kn_Marks kc_Marks_mark) rfl rfl rfl (by decide +kernel) ⟨Nat.le_of_ble_eq_true rfl, Nat.le_of_ble_eq_true rfl⟩) hP hD hK hN [0, 3, 4, 6] (by decide) rfl (va_recv hK hP (ci := 2) (q0 := 0) rfl rfl) rfl hl.1 rfl (Nat.le_of_ble_eq_true rfl) d_Marks_give_49 ⟨Nat.le_of_ble_eq_true rfl, Nat.le_of_ble_eq_true rfl⟩) hP hD hS hA [0, 3, 4, 6] [1, 2, 5, 7, 8] rfl rfl (by decide) (by decide) (fun u H locs hw2 hP hD hS => ?_)
        have hP := hP.sub (ws' := [(a, .inr (2, [.ref a0, .ref a1, .ref a2, .ref a3, .ref a4, .ref a5, .int sv1, .int vv])), (a0, .inl (cBy g, 12000, .inl fb1)), (a1, .inl (cIn g, 201, .inl bg1)), (a2, .inl (cIn g, 200, .inl (upd fg1 k (nI (aG V1 k + 1))))), (a3, .inl (cIn g, 200, .inl fr1)), (a4, .inl (cSh g, 512, .inl sl1)), (a5, .inl (cLo g, 4, .inr (.inl u))), (b, .inr (1, [.ref b0, .int (nI h)])), (b0, .inl (cBy g, 60, .inl f))]) [5, 0, 1, 6, 7, 2, 8, 3, 4] rfl
        have hD := hD.sub (ws' := [(a, .inr (2, [.ref a0, .ref a1, .ref a2, .ref a3, .ref a4, .ref a5, .int sv1, .int vv])), (a0, .inl (cBy g, 12000, .inl fb1)), (a1, .inl (cIn g, 201, .inl bg1)), (a2, .inl (cIn g, 200, .inl (upd fg1 k (nI (aG V1 k + 1))))), (a3, .inl (cIn g, 200, .inl fr1)), (a4, .inl (cSh g, 512, .inl sl1)), (a5, .inl (cLo g, 4, .inr (.inl u))), (b, .inr (1, [.ref b0, .int (nI h)])), (b0, .inl (cBy g, 60, .inl f))]) [5, 0, 1, 6, 7, 2, 8, 3, 4] (by decide) rfl
        have hm : MkBit ms u k (decide (upd fg1 k (nI (aG V1 k + 1)) k = 0 ∧ 0 < fr1 k)) := hw2
        rw [decide_eq_false (p := upd fg1 k (nI (aG V1 k + 1)) k = 0 ∧ 0 < fr1 k) (fun x => nI_ne0 (n := aG V1 k + 1) (by omega) (by omega) (pk_us.symm.trans x.1))] at hm
        refine lv_iload_n hx hb d_Marks_give_52 rfl (lv_at hl 0 rfl) ?_
        exact W.iret (v := nI k) hx hb hr (fun t9 ht9 hW9 => ⟨⟨_, (_, _, _, _, _, _, _, _), rfl, ⟨(if_pos (by omega)).symm, give_inv2 hI1 (by omega) hm⟩, by rw [ht9]; exact hP, hD⟩, hS.F ht9⟩) hS.2.2 d_Marks_give_53
      · have c2 : ¬ aG V1 k + 1 ≤ 1 := fun z => c2 ((nI_leI (a := aG V1 k + 1) (b := 1) (by omega) (by decide)).mpr z)
        refine lv_aload_n hx hb d_Marks_give_35 rfl (lv_at hl 1 rfl) ?_
        refine lv_dup hx hb d_Marks_give_36 rfl ?_
        refine va_get (D := g.1) (ci := 2) (v := .int vv) (C := R_Marks) (T := F_Marks) (N := 8) hx hb hc i_Marks hown hK hP 0 rfl rfl 7 (by decide) (hc _ kf_Marks_40) (fun _ h9 => h9) rfl d_Marks_give_37 ?_
        refine lv_iconst (v := 1) hx hb d_Marks_give_40 (by decide) ?_
        refine lv_iadd hx hb d_Marks_give_41 ?_
        refine va_put (D := g.1) (ci := 2) (v := .int (vv + 1)) (ty := .int) (C := R_Marks) (T := F_Marks) (N := 8) hx hb hc i_Marks t_Marks t_Marks_ok n_Marks hown hK hP hD hS 0 rfl rfl 7 (by decide) (hc _ kf_Marks_40) (fun _ h9 => h9) rfl (by decide +kernel) rfl rfl (Nat.le_of_ble_eq_true rfl) d_Marks_give_42 (fun H locs hP hD hS => ?_)
        have hP : va_P g.1 classes [(a, .inr (2, [.ref a0, .ref a1, .ref a2, .ref a3, .ref a4, .ref a5, .int sv1, .int (vv + 1)])), (a0, .inl (cBy g, 12000, .inl fb1)), (a1, .inl (cIn g, 201, .inl bg1)), (a2, .inl (cIn g, 200, .inl (upd fg1 k (nI (aG V1 k + 1))))), (a3, .inl (cIn g, 200, .inl fr1)), (a4, .inl (cSh g, 512, .inl sl1)), (a5, .inl (cLo g, 4, .inr (.inl ms))), (b, .inr (1, [.ref b0, .int (nI h)])), (b0, .inl (cBy g, 60, .inl f))] H := hP
        have hD : va_D A [(a, .inr (2, [.ref a0, .ref a1, .ref a2, .ref a3, .ref a4, .ref a5, .int sv1, .int (vv + 1)])), (a0, .inl (cBy g, 12000, .inl fb1)), (a1, .inl (cIn g, 201, .inl bg1)), (a2, .inl (cIn g, 200, .inl (upd fg1 k (nI (aG V1 k + 1))))), (a3, .inl (cIn g, 200, .inl fr1)), (a4, .inl (cSh g, 512, .inl sl1)), (a5, .inl (cLo g, 4, .inr (.inl ms))), (b, .inr (1, [.ref b0, .int (nI h)])), (b0, .inl (cBy g, 60, .inl f))] := hD
        refine lv_iconst (v := (-1)) hx hb d_Marks_give_45 (by decide) ?_
        exact W.iret (v := (-1)) hx hb hr (fun t9 ht9 hW9 => ⟨⟨_, (_, _, _, _, _, _, _, _), rfl, ⟨(if_neg (by omega)).symm, give_inv1 hI1 hk1 (by omega)⟩, by rw [ht9]; exact hP, hD⟩, hS.F ht9⟩) hS.2.2 d_Marks_give_46
    · exact absurd c1 (nI_m2 (by omega))
set_option maxHeartbeats 4000000 in
set_option maxRecDepth 100000 in
/-- Marks.refer(hand) -/
theorem c_Marks_refer (l : Launch) (g : GT) (sz : Nat) (a a0 a1 a2 a3 a4 a5 b b0 : Nat) (sv vv : Int32) (fb bg fg fr sl f : Nat → Int32) (ms : Nat → Int64) (V : AS) (Bd h : Nat) (nb : Nat → Nat) (hV : AOk V Bd) (hBd : Bd < 2 ^ 30) (hH : HOk h nb) (h0 : 0 < h) (hf : ∀ i, i < h → f i = sb_b (nb i)) (hI : MInv V fb bg fg fr sl ms sv vv) (pl : Option Nat) (hp : PlIs V h nb pl) : Met l y_Marks_refer w_Marks_refer ({ frames := 3, cells := 0, slots := 0, locals := 68 } : Room) (PcW [.ref a, .ref b] sz g [(a, .inr (2, [.ref a0, .ref a1, .ref a2, .ref a3, .ref a4, .ref a5, .int sv, .int vv])), (a0, .inl (cBy g, 12000, .inl fb)), (a1, .inl (cIn g, 201, .inl bg)), (a2, .inl (cIn g, 200, .inl fg)), (a3, .inl (cIn g, 200, .inl fr)), (a4, .inl (cSh g, 512, .inl sl)), (a5, .inl (cLo g, 4, .inr (.inl ms))), (b, .inr (1, [.ref b0, .int (nI h)])), (b0, .inl (cBy g, 60, .inl f))]) (va_Qi (fun (r : Int32) (u : (Nat → Int32) × (Nat → Int32) × (Nat → Int32) × (Nat → Int32) × (Nat → Int32) × (Nat → Int64) × Int32 × Int32) => r = kR (kK V pl) ∧ MInv (referA V h nb pl) u.1 u.2.1 u.2.2.1 u.2.2.2.1 u.2.2.2.2.1 u.2.2.2.2.2.1 u.2.2.2.2.2.2.1 u.2.2.2.2.2.2.2) (BW g (va_A [(a, .inr (2, [.ref a0, .ref a1, .ref a2, .ref a3, .ref a4, .ref a5, .int sv, .int vv])), (a0, .inl (cBy g, 12000, .inl fb)), (a1, .inl (cIn g, 201, .inl bg)), (a2, .inl (cIn g, 200, .inl fg)), (a3, .inl (cIn g, 200, .inl fr)), (a4, .inl (cSh g, 512, .inl sl)), (a5, .inl (cLo g, 4, .inr (.inl ms))), (b, .inr (1, [.ref b0, .int (nI h)])), (b0, .inl (cBy g, 60, .inl f))] sz) (fun u : (Nat → Int32) × (Nat → Int32) × (Nat → Int32) × (Nat → Int32) × (Nat → Int32) × (Nat → Int64) × Int32 × Int32 => [(a, .inr (2, [.ref a0, .ref a1, .ref a2, .ref a3, .ref a4, .ref a5, .int u.2.2.2.2.2.2.1, .int u.2.2.2.2.2.2.2])), (a0, .inl (cBy g, 12000, .inl u.1)), (a1, .inl (cIn g, 201, .inl u.2.1)), (a2, .inl (cIn g, 200, .inl u.2.2.1)), (a3, .inl (cIn g, 200, .inl u.2.2.2.1)), (a4, .inl (cSh g, 512, .inl u.2.2.2.2.1)), (a5, .inl (cLo g, 4, .inr (.inl u.2.2.2.2.2.1))), (b, .inr (1, [.ref b0, .int (nI h)])), (b0, .inl (cBy g, 60, .inl f))])) (va_A [(a, .inr (2, [.ref a0, .ref a1, .ref a2, .ref a3, .ref a4, .ref a5, .int sv, .int vv])), (a0, .inl (cBy g, 12000, .inl fb)), (a1, .inl (cIn g, 201, .inl bg)), (a2, .inl (cIn g, 200, .inl fg)), (a3, .inl (cIn g, 200, .inl fr)), (a4, .inl (cSh g, 512, .inl sl)), (a5, .inl (cLo g, 4, .inr (.inl ms))), (b, .inr (1, [.ref b0, .int (nI h)])), (b0, .inl (cBy g, 60, .inl f))] sz)) 0 0 (va_A [(a, .inr (2, [.ref a0, .ref a1, .ref a2, .ref a3, .ref a4, .ref a5, .int sv, .int vv])), (a0, .inl (cBy g, 12000, .inl fb)), (a1, .inl (cIn g, 201, .inl bg)), (a2, .inl (cIn g, 200, .inl fg)), (a3, .inl (cIn g, 200, .inl fr)), (a4, .inl (cSh g, 512, .inl sl)), (a5, .inl (cLo g, 4, .inr (.inl ms))), (b, .inr (1, [.ref b0, .int (nI h)])), (b0, .inl (cBy g, 60, .inl f))] sz) := by
  refine Met.ofW (cc := b_Marks_refer) (maxL := 3) (ret := (some .int)) (by decide) rfl ?_
  intro p e s m args below meth c s₁ B hml hv
  obtain ⟨rfl, hsz, hP, hK, hN, hD⟩ := hv
  have hx := B.exec
  have hb := B.bytes
  have hr := B.returns
  have hc : ∀ w ∈ cmn, w.before ([.ref a, .ref b] : List Value).toArray s = true := fun w h => atoms_spec (ws := w_Marks_refer) B.pre w (List.mem_cons_of_mem _ h)
  have hown : s.vm.findClass R_Marks = some m.cls := findClass_of_methodNamed B.named
  have hlocks := B.notSynchronized
  subst hsz
  have hD := hD.self (sz := s.heap.size)
  have hS : va_S (va_A [(a, .inr (2, [.ref a0, .ref a1, .ref a2, .ref a3, .ref a4, .ref a5, .int sv, .int vv])), (a0, .inl (cBy g, 12000, .inl fb)), (a1, .inl (cIn g, 201, .inl bg)), (a2, .inl (cIn g, 200, .inl fg)), (a3, .inl (cIn g, 200, .inl fr)), (a4, .inl (cSh g, 512, .inl sl)), (a5, .inl (cLo g, 4, .inr (.inl ms))), (b, .inr (1, [.ref b0, .int (nI h)])), (b0, .inl (cBy g, 60, .inl f))] s.heap.size) s.heap s.heap [] := va_S.rf
  have hA : ∀ q : Nat, s.heap.size ≤ q → va_A [(a, .inr (2, [.ref a0, .ref a1, .ref a2, .ref a3, .ref a4, .ref a5, .int sv, .int vv])), (a0, .inl (cBy g, 12000, .inl fb)), (a1, .inl (cIn g, 201, .inl bg)), (a2, .inl (cIn g, 200, .inl fg)), (a3, .inl (cIn g, 200, .inl fr)), (a4, .inl (cSh g, 512, .inl sl)), (a5, .inl (cLo g, 4, .inr (.inl ms))), (b, .inr (1, [.ref b0, .int (nI h)])), (b0, .inl (cBy g, 60, .inl f))] s.heap.size q := fun q h => Or.inr h
  generalize va_A [(a, .inr (2, [.ref a0, .ref a1, .ref a2, .ref a3, .ref a4, .ref a5, .int sv, .int vv])), (a0, .inl (cBy g, 12000, .inl fb)), (a1, .inl (cIn g, 201, .inl bg)), (a2, .inl (cIn g, 200, .inl fg)), (a3, .inl (cIn g, 200, .inl fr)), (a4, .inl (cSh g, 512, .inl sl)), (a5, .inl (cLo g, 4, .inr (.inl ms))), (b, .inr (1, [.ref b0, .int (nI h)])), (b0, .inl (cBy g, 60, .inl f))] s.heap.size = A at hD hS hA ⊢
  have hP : va_P g.1 classes [(a, .inr (2, [.ref a0, .ref a1, .ref a2, .ref a3, .ref a4, .ref a5, .int sv, .int vv])), (a0, .inl (cBy g, 12000, .inl fb)), (a1, .inl (cIn g, 201, .inl bg)), (a2, .inl (cIn g, 200, .inl fg)), (a3, .inl (cIn g, 200, .inl fr)), (a4, .inl (cSh g, 512, .inl sl)), (a5, .inl (cLo g, 4, .inr (.inl ms))), (b, .inr (1, [.ref b0, .int (nI h)])), (b0, .inl (cBy g, 60, .inl f))] s.heap := hP
  have hD : va_D A [(a, .inr (2, [.ref a0, .ref a1, .ref a2, .ref a3, .ref a4, .ref a5, .int sv, .int vv])), (a0, .inl (cBy g, 12000, .inl fb)), (a1, .inl (cIn g, 201, .inl bg)), (a2, .inl (cIn g, 200, .inl fg)), (a3, .inl (cIn g, 200, .inl fr)), (a4, .inl (cSh g, 512, .inl sl)), (a5, .inl (cLo g, 4, .inr (.inl ms))), (b, .inr (1, [.ref b0, .int (nI h)])), (b0, .inl (cBy g, 60, .inl f))] := hD
  have hl := lv_entry ([.ref a, .ref b]) (n := 3) (Nat.le_of_ble_eq_true rfl)
  rw [lg_entry_eq]
  generalize (lg_sl ([.ref a, .ref b]) ++ List.replicate (3 - (lg_sl ([.ref a, .ref b])).length) Slot.unset).toArray = ls at hl ⊢
  have hl : lv_has ls 3 [(0, .ref a), (1, .ref b)] := hl
  have hV1 := hV.1
  refine lv_aload_n hx hb d_Marks_refer_0 rfl (lv_at hl 0 rfl) ?_
  refine lv_aload_n hx hb d_Marks_refer_1 rfl (lv_at hl 1 rfl) ?_
  refine x_cmi (wr := [(a5, .inl (cLo g, 4, .inr (.inl ms)))]) (x_runV (As := [.ref b]) (rest := []) ⟨hx, hb, hml, hown, hc⟩ (c_Marks_know l g _ a a0 a1 a2 a3 a4 a5 b b0 sv vv fb bg fg fr sl f ms V Bd h nb hV hBd hH h0 hf hI pl hp) (cwV 1 hc (good_V km_Marks_65 ki_Marks_know ks_Marks_know kn_Marks kc_Marks_know) rfl rfl rfl (by decide +kernel) ⟨Nat.le_of_ble_eq_true rfl, Nat.le_of_ble_eq_true rfl⟩) hP hD hK hN [0, 1, 2, 3, 4, 5, 7, 8] (by decide) rfl (va_recv hK hP (ci := 2) (q0 := 0) rfl rfl) rfl hl.1 rfl (Nat.le_of_ble_eq_true rfl) d_Marks_refer_2 ⟨Nat.le_of_ble_eq_true rfl, Nat.le_of_ble_eq_true rfl⟩) hP hD hS hA [0, 1, 2, 3, 4, 5, 7, 8] [6] rfl rfl (by decide) (by decide) (fun r0 u H locs hw hP hD hS => ?_)
  obtain ⟨fb1, bg1, fg1, fr1, sl1, sv1⟩ := u
  have hP := hP.sub (ws' := [(a, .inr (2, [.ref a0, .ref a1, .ref a2, .ref a3, .ref a4, .ref a5, .int sv1, .int vv])), (a0, .inl (cBy g, 12000, .inl fb1)), (a1, .inl (cIn g, 201, .inl bg1)), (a2, .inl (cIn g, 200, .inl fg1)), (a3, .inl (cIn g, 200, .inl fr1)), (a4, .inl (cSh g, 512, .inl sl1)), (a5, .inl (cLo g, 4, .inr (.inl ms))), (b, .inr (1, [.ref b0, .int (nI h)])), (b0, .inl (cBy g, 60, .inl f))]) [1, 2, 3, 4, 5, 6, 0, 7, 8] rfl
  have hD := hD.sub (ws' := [(a, .inr (2, [.ref a0, .ref a1, .ref a2, .ref a3, .ref a4, .ref a5, .int sv1, .int vv])), (a0, .inl (cBy g, 12000, .inl fb1)), (a1, .inl (cIn g, 201, .inl bg1)), (a2, .inl (cIn g, 200, .inl fg1)), (a3, .inl (cIn g, 200, .inl fr1)), (a4, .inl (cSh g, 512, .inl sl1)), (a5, .inl (cLo g, 4, .inr (.inl ms))), (b, .inr (1, [.ref b0, .int (nI h)])), (b0, .inl (cBy g, 60, .inl f))]) [1, 2, 3, 4, 5, 6, 0, 7, 8] (by decide) rfl
  obtain ⟨er, hI1⟩ : r0 = kR (kK V pl) ∧ MInv (kA V h nb pl) fb1 bg1 fg1 fr1 sl1 ms sv1 vv := hw
  have hV2 := AOk_kA hV hH h0 hp
  cases ek : kK V pl
  · obtain rfl : r0 = -2 := by rw [er, ek]; rfl
    refine lv_istore_n (lv' := [(2, .int (-2)), (0, .ref a), (1, .ref b)]) hx hb d_Marks_refer_5 rfl hl (by decide) rfl (fun ls hl => ?_)
    refine lv_iload_n hx hb d_Marks_refer_6 rfl (lv_at hl 0 rfl) ?_
    refine lv_bipush (v := (-2)) hx hb d_Marks_refer_7 (by decide) ?_
    refine lv_icmp_ne (tgt := 15) hx hb d_Marks_refer_9 (by decide) (fun c1 => ?_) (fun c1 => ?_)
    · exact absurd rfl c1
    · refine lv_bipush (v := (-2)) hx hb d_Marks_refer_12 (by decide) ?_
      exact W.iret (v := (-2)) hx hb hr (fun t9 ht9 hW9 => ⟨⟨_, (fb1, bg1, fg1, fr1, sl1, ms, sv1, vv), rfl, ⟨rfl, by show MInv (referA V h nb pl) fb1 bg1 fg1 fr1 sl1 ms sv1 vv; simp only [referA, ek]; exact hI1⟩, by rw [ht9]; exact hP, hD⟩, hS.F ht9⟩) hS.2.2 d_Marks_refer_14
  · rename_i k
    obtain rfl : r0 = nI k := by rw [er, ek]; rfl
    have hk1 := kK_lt hV hp ek
    have hV21 := hV2.1
    have eA : referA V h nb pl = rA (kA V h nb pl) k := by simp only [referA, ek]
    rw [eA]
    generalize kA V h nb pl = V1 at *
    obtain ⟨hg1, hr1⟩ := hI1.2.2.2.1 k hk1
    have hb1 := hV2.2.1 k hk1
    refine lv_istore_n (lv' := [(2, .int (nI k)), (0, .ref a), (1, .ref b)]) hx hb d_Marks_refer_5 rfl hl (by decide) rfl (fun ls hl => ?_)
    refine lv_iload_n hx hb d_Marks_refer_6 rfl (lv_at hl 0 rfl) ?_
    refine lv_bipush (v := (-2)) hx hb d_Marks_refer_7 (by decide) ?_
    refine lv_icmp_ne (tgt := 15) hx hb d_Marks_refer_9 (by decide) (fun c1 => ?_) (fun c1 => ?_)
    · refine lv_aload_n hx hb d_Marks_refer_15 rfl (lv_at hl 1 rfl) ?_
      refine va_get (D := g.1) (ci := 2) (v := .ref a3) (C := R_Marks) (T := F_Marks) (N := 8) hx hb hc i_Marks hown hK hP 0 rfl rfl 3 (by decide) (hc _ kf_Marks_22) (fun _ h9 => h9) rfl d_Marks_refer_16 ?_
      refine lv_iload_n hx hb d_Marks_refer_19 rfl (lv_at hl 0 rfl) ?_
      refine lv_dup2_11 hx hb d_Marks_refer_20 rfl rfl ?_
      refine x_iald hx hb hK hP 4 rfl (k := k) (by omega) (by decide) d_Marks_refer_21 ?_
      refine x_top (y := nI (aR V1 k)) (hr1) ?_
      refine lv_iconst (v := 1) hx hb d_Marks_refer_22 (by decide) ?_
      refine lv_iadd hx hb d_Marks_refer_23 ?_
      refine x_top (y := nI (aR V1 k + 1)) (nI_1 _) ?_
      refine x_iast hx hb hK hP hD hS 4 rfl (k := k) (by omega) (by decide) d_Marks_refer_24 (fun H locs hP hD hS => ?_)
      have hP : va_P g.1 classes [(a, .inr (2, [.ref a0, .ref a1, .ref a2, .ref a3, .ref a4, .ref a5, .int sv1, .int vv])), (a0, .inl (cBy g, 12000, .inl fb1)), (a1, .inl (cIn g, 201, .inl bg1)), (a2, .inl (cIn g, 200, .inl fg1)), (a3, .inl (cIn g, 200, .inl (upd fr1 k (nI (aR V1 k + 1))))), (a4, .inl (cSh g, 512, .inl sl1)), (a5, .inl (cLo g, 4, .inr (.inl ms))), (b, .inr (1, [.ref b0, .int (nI h)])), (b0, .inl (cBy g, 60, .inl f))] H := hP
      have hD : va_D A [(a, .inr (2, [.ref a0, .ref a1, .ref a2, .ref a3, .ref a4, .ref a5, .int sv1, .int vv])), (a0, .inl (cBy g, 12000, .inl fb1)), (a1, .inl (cIn g, 201, .inl bg1)), (a2, .inl (cIn g, 200, .inl fg1)), (a3, .inl (cIn g, 200, .inl (upd fr1 k (nI (aR V1 k + 1))))), (a4, .inl (cSh g, 512, .inl sl1)), (a5, .inl (cLo g, 4, .inr (.inl ms))), (b, .inr (1, [.ref b0, .int (nI h)])), (b0, .inl (cBy g, 60, .inl f))] := hD
      refine lv_aload_n hx hb d_Marks_refer_25 rfl (lv_at hl 1 rfl) ?_
      refine lv_iload_n hx hb d_Marks_refer_26 rfl (lv_at hl 0 rfl) ?_
      refine x_cmv (wr := [(a0, .inl (cBy g, 12000, .inl fb1)), (a1, .inl (cIn g, 201, .inl bg1)), (a4, .inl (cSh g, 512, .inl sl1)), (b, .inr (1, [.ref b0, .int (nI h)])), (b0, .inl (cBy g, 60, .inl f))]) (x_runV (As := [.int (nI k)]) (rest := []) ⟨hx, hb, hml, hown, hc⟩ (c_Marks_mark l g _ a a0 a1 a2 a3 a4 a5 sv1 vv fg1 (upd fr1 k (nI (aR V1 k + 1))) ms k (by omega)) (cwV 1 hc (good_V km_Marks_68 ki_Marks_mark ks_Marks_mark kn_Marks kc_Marks_mark) rfl rfl rfl (by decide +kernel) ⟨Nat.le_of_ble_eq_true rfl, Nat.le_of_ble_eq_true rfl⟩) hP hD hK hN [0, 3, 4, 6] (by decide) rfl (va_recv hK hP (ci := 2) (q0 := 0) rfl rfl) rfl hl.1 rfl (Nat.le_of_ble_eq_true rfl) d_Marks_refer_27 ⟨Nat.le_of_ble_eq_true rfl, Nat.le_of_ble_eq_true rfl⟩) hP hD hS hA [0, 3, 4, 6] [1, 2, 5, 7, 8] rfl rfl (by decide) (by decide) (fun u H locs hw2 hP hD hS => ?_)
      have hP := hP.sub (ws' := [(a, .inr (2, [.ref a0, .ref a1, .ref a2, .ref a3, .ref a4, .ref a5, .int sv1, .int vv])), (a0, .inl (cBy g, 12000, .inl fb1)), (a1, .inl (cIn g, 201, .inl bg1)), (a2, .inl (cIn g, 200, .inl fg1)), (a3, .inl (cIn g, 200, .inl (upd fr1 k (nI (aR V1 k + 1))))), (a4, .inl (cSh g, 512, .inl sl1)), (a5, .inl (cLo g, 4, .inr (.inl u))), (b, .inr (1, [.ref b0, .int (nI h)])), (b0, .inl (cBy g, 60, .inl f))]) [5, 0, 1, 6, 7, 2, 8, 3, 4] rfl
      have hD := hD.sub (ws' := [(a, .inr (2, [.ref a0, .ref a1, .ref a2, .ref a3, .ref a4, .ref a5, .int sv1, .int vv])), (a0, .inl (cBy g, 12000, .inl fb1)), (a1, .inl (cIn g, 201, .inl bg1)), (a2, .inl (cIn g, 200, .inl fg1)), (a3, .inl (cIn g, 200, .inl (upd fr1 k (nI (aR V1 k + 1))))), (a4, .inl (cSh g, 512, .inl sl1)), (a5, .inl (cLo g, 4, .inr (.inl u))), (b, .inr (1, [.ref b0, .int (nI h)])), (b0, .inl (cBy g, 60, .inl f))]) [5, 0, 1, 6, 7, 2, 8, 3, 4] (by decide) rfl
      have hm : MkBit ms u k (decide (fg1 k = 0 ∧ 0 < upd fr1 k (nI (aR V1 k + 1)) k)) := hw2
      have hd : decide (fg1 k = 0 ∧ 0 < upd fr1 k (nI (aR V1 k + 1)) k) = decide (aG V1 k = 0) := by
        rw [pk_us, hg1]
        apply decide_eq_decide.mpr
        constructor
        · intro q
          exact (nI_eq (a := aG V1 k) (b := 0) (by omega) (by decide)).mp q.1
        · intro q
          exact ⟨(nI_eq (a := aG V1 k) (b := 0) (by omega) (by decide)).mpr q, (nI_ltI (a := 0) (b := aR V1 k + 1) (by decide) (by omega)).mpr (by omega)⟩
      rw [hd] at hm
      refine lv_iload_n hx hb d_Marks_refer_30 rfl (lv_at hl 0 rfl) ?_
      exact W.iret (v := nI k) hx hb hr (fun t9 ht9 hW9 => ⟨⟨_, (_, _, _, _, _, _, _, _), rfl, ⟨rfl, refer_inv hI1 hk1 hm⟩, by rw [ht9]; exact hP, hD⟩, hS.F ht9⟩) hS.2.2 d_Marks_refer_31
    · exact absurd c1 (nI_m2 (by omega))
set_option maxHeartbeats 4000000 in
set_option maxRecDepth 100000 in
/-- Marks(): six arrays come -/
theorem c_Marks_init (l : Launch) (g : GT) (sz : Nat) (a : Nat) : Met l y_Marks_init w_Marks_init ({ frames := 1, cells := 6, slots := 13117, locals := 21 } : Room) (PcW [.ref a] sz g [(a, .inr (2, [.null, .null, .null, .null, .null, .null, .int 0, .int 0]))]) (va_Qv (fun (u : (Nat × Nat × Nat × Nat × Nat × Nat) × (Nat → Int32) × (Nat → Int64)) => (∀ s1, s1 < 512 → u.2.1 s1 = -1) ∧ ∀ x, x < 4 → u.2.2 x = 0) (BW g (va_A [(a, .inr (2, [.null, .null, .null, .null, .null, .null, .int 0, .int 0]))] sz) (fun u : (Nat × Nat × Nat × Nat × Nat × Nat) × (Nat → Int32) × (Nat → Int64) => [(a, .inr (2, [.ref u.1.1, .ref u.1.2.1, .ref u.1.2.2.1, .ref u.1.2.2.2.1, .ref u.1.2.2.2.2.1, .ref u.1.2.2.2.2.2, .int 0, .int 0])), (u.1.1, .inl (cBy g, 12000, .inl (fun _ => 0))), (u.1.2.1, .inl (cIn g, 201, .inl (fun _ => 0))), (u.1.2.2.1, .inl (cIn g, 200, .inl (fun _ => 0))), (u.1.2.2.2.1, .inl (cIn g, 200, .inl (fun _ => 0))), (u.1.2.2.2.2.1, .inl (cSh g, 512, .inl u.2.1)), (u.1.2.2.2.2.2, .inl (cLo g, 4, .inr (.inl u.2.2)))])) (va_A [(a, .inr (2, [.null, .null, .null, .null, .null, .null, .int 0, .int 0]))] sz)) 6 13117 (va_A [(a, .inr (2, [.null, .null, .null, .null, .null, .null, .int 0, .int 0]))] sz) := by
  refine Met.ofW (cc := b_Marks_init) (maxL := 1) (ret := none) (by decide) rfl ?_
  intro p e s m args below meth c s₁ B hml hv
  obtain ⟨rfl, hsz, hP, hK, hN, hD⟩ := hv
  have hx := B.exec
  have hb := B.bytes
  have hr := B.returns
  have hc : ∀ w ∈ cmn, w.before ([.ref a] : List Value).toArray s = true := fun w h => atoms_spec (ws := w_Marks_init) B.pre w (List.mem_cons_of_mem _ h)
  have hown : s.vm.findClass R_Marks = some m.cls := findClass_of_methodNamed B.named
  have hlocks := B.notSynchronized
  have hin : meth.name = "<init>" := (name_of_methodNamed B.named B.method).1
  subst hsz
  have hD := hD.self (sz := s.heap.size)
  have hS : va_S (va_A [(a, .inr (2, [.null, .null, .null, .null, .null, .null, .int 0, .int 0]))] s.heap.size) s.heap s.heap [] := va_S.rf
  have hA : ∀ q : Nat, s.heap.size ≤ q → va_A [(a, .inr (2, [.null, .null, .null, .null, .null, .null, .int 0, .int 0]))] s.heap.size q := fun q h => Or.inr h
  generalize va_A [(a, .inr (2, [.null, .null, .null, .null, .null, .null, .int 0, .int 0]))] s.heap.size = A at hD hS hA ⊢
  have hP : va_P g.1 classes [(a, .inr (2, [.null, .null, .null, .null, .null, .null, .int 0, .int 0]))] s.heap := hP
  have hD : va_D A [(a, .inr (2, [.null, .null, .null, .null, .null, .null, .int 0, .int 0]))] := hD
  have hl := lv_entry ([.ref a]) (n := 1) (Nat.le_of_ble_eq_true rfl)
  rw [lg_entry_eq]
  generalize (lg_sl ([.ref a]) ++ List.replicate (1 - (lg_sl ([.ref a])).length) Slot.unset).toArray = ls at hl ⊢
  have hl : lv_has ls 1 [(0, .ref a)] := hl
  refine lv_aload_n hx hb d_Marks_init_0 rfl (lv_at hl 0 rfl) ?_
  refine W.objInit hx hb hown (hc _ km_Marks_1) (hc _ ki_Obj_init) (hc _ kc_Obj_init) rfl (by rw [hml]; exact hl.1) rfl d_Marks_init_1 (Nat.le_of_ble_eq_true rfl) (Nat.le_of_ble_eq_true rfl) ?_
  refine W.eq (g2 := F0 m 4 ls []) rfl ?_
  refine lv_aload_n hx hb d_Marks_init_4 rfl (lv_at hl 0 rfl) ?_
  refine lv_sipush (v := 12000) hx hb d_Marks_init_5 (by decide) ?_
  refine x_newa (atype := .byte) (N' := 12000) (a0 := (12000, .inl (fun _ => 0))) hx hb (hc _ ka_byte) hK hP hD hS hA 0 rfl (fun h => h) (fun _ => rfl) (by decide) (by decide) (by decide) (Nat.le_of_ble_eq_true rfl) (Nat.le_of_ble_eq_true rfl) d_Marks_init_8 (fun q0 H hP hD hS => ?_)
  have hP : va_P g.1 classes [(a, .inr (2, [.null, .null, .null, .null, .null, .null, .int 0, .int 0])), (q0, .inl (cBy g, 12000, .inl (fun _ => 0)))] H := hP
  have hD : va_D A [(a, .inr (2, [.null, .null, .null, .null, .null, .null, .int 0, .int 0])), (q0, .inl (cBy g, 12000, .inl (fun _ => 0)))] := hD
  refine va_putF (D := g.1) (ci := 2) (v := .ref q0) (ty := .array .byte) (C := R_Marks) (T := F_Marks) (N := 8) hx hb hc i_Marks t_Marks t_Marks_ok n_Marks hown hK hP hD hS 0 rfl rfl 0 (by decide) (hc _ kf_Marks_11) (fun _ h9 => h9) rfl hin rfl (by decide +kernel) rfl rfl (Nat.le_of_ble_eq_true rfl) d_Marks_init_10 (fun H locs hP hD hS => ?_)
  have hP : va_P g.1 classes [(a, .inr (2, [.ref q0, .null, .null, .null, .null, .null, .int 0, .int 0])), (q0, .inl (cBy g, 12000, .inl (fun _ => 0)))] H := hP
  have hD : va_D A [(a, .inr (2, [.ref q0, .null, .null, .null, .null, .null, .int 0, .int 0])), (q0, .inl (cBy g, 12000, .inl (fun _ => 0)))] := hD
  refine lv_aload_n hx hb d_Marks_init_13 rfl (lv_at hl 0 rfl) ?_
  refine lv_sipush (v := 201) hx hb d_Marks_init_14 (by decide) ?_
  refine x_newa (atype := .int) (N' := 201) (a0 := (201, .inl (fun _ => 0))) hx hb (hc _ ka_int) hK hP hD hS hA 1 rfl (fun h => h) (fun _ => rfl) (by decide) (by decide) (by decide) (Nat.le_of_ble_eq_true rfl) (Nat.le_of_ble_eq_true rfl) d_Marks_init_17 (fun q1 H hP hD hS => ?_)
  have hP : va_P g.1 classes [(a, .inr (2, [.ref q0, .null, .null, .null, .null, .null, .int 0, .int 0])), (q0, .inl (cBy g, 12000, .inl (fun _ => 0))), (q1, .inl (cIn g, 201, .inl (fun _ => 0)))] H := hP
  have hD : va_D A [(a, .inr (2, [.ref q0, .null, .null, .null, .null, .null, .int 0, .int 0])), (q0, .inl (cBy g, 12000, .inl (fun _ => 0))), (q1, .inl (cIn g, 201, .inl (fun _ => 0)))] := hD
  refine va_putF (D := g.1) (ci := 2) (v := .ref q1) (ty := .array .int) (C := R_Marks) (T := F_Marks) (N := 8) hx hb hc i_Marks t_Marks t_Marks_ok n_Marks hown hK hP hD hS 0 rfl rfl 1 (by decide) (hc _ kf_Marks_15) (fun _ h9 => h9) rfl hin rfl (by decide +kernel) rfl rfl (Nat.le_of_ble_eq_true rfl) d_Marks_init_19 (fun H locs hP hD hS => ?_)
  have hP : va_P g.1 classes [(a, .inr (2, [.ref q0, .ref q1, .null, .null, .null, .null, .int 0, .int 0])), (q0, .inl (cBy g, 12000, .inl (fun _ => 0))), (q1, .inl (cIn g, 201, .inl (fun _ => 0)))] H := hP
  have hD : va_D A [(a, .inr (2, [.ref q0, .ref q1, .null, .null, .null, .null, .int 0, .int 0])), (q0, .inl (cBy g, 12000, .inl (fun _ => 0))), (q1, .inl (cIn g, 201, .inl (fun _ => 0)))] := hD
  refine lv_aload_n hx hb d_Marks_init_22 rfl (lv_at hl 0 rfl) ?_
  refine lv_sipush (v := 200) hx hb d_Marks_init_23 (by decide) ?_
  refine x_newa (atype := .int) (N' := 200) (a0 := (200, .inl (fun _ => 0))) hx hb (hc _ ka_int) hK hP hD hS hA 1 rfl (fun h => h) (fun _ => rfl) (by decide) (by decide) (by decide) (Nat.le_of_ble_eq_true rfl) (Nat.le_of_ble_eq_true rfl) d_Marks_init_26 (fun q2 H hP hD hS => ?_)
  have hP : va_P g.1 classes [(a, .inr (2, [.ref q0, .ref q1, .null, .null, .null, .null, .int 0, .int 0])), (q0, .inl (cBy g, 12000, .inl (fun _ => 0))), (q1, .inl (cIn g, 201, .inl (fun _ => 0))), (q2, .inl (cIn g, 200, .inl (fun _ => 0)))] H := hP
  have hD : va_D A [(a, .inr (2, [.ref q0, .ref q1, .null, .null, .null, .null, .int 0, .int 0])), (q0, .inl (cBy g, 12000, .inl (fun _ => 0))), (q1, .inl (cIn g, 201, .inl (fun _ => 0))), (q2, .inl (cIn g, 200, .inl (fun _ => 0)))] := hD
  refine va_putF (D := g.1) (ci := 2) (v := .ref q2) (ty := .array .int) (C := R_Marks) (T := F_Marks) (N := 8) hx hb hc i_Marks t_Marks t_Marks_ok n_Marks hown hK hP hD hS 0 rfl rfl 2 (by decide) (hc _ kf_Marks_19) (fun _ h9 => h9) rfl hin rfl (by decide +kernel) rfl rfl (Nat.le_of_ble_eq_true rfl) d_Marks_init_28 (fun H locs hP hD hS => ?_)
  have hP : va_P g.1 classes [(a, .inr (2, [.ref q0, .ref q1, .ref q2, .null, .null, .null, .int 0, .int 0])), (q0, .inl (cBy g, 12000, .inl (fun _ => 0))), (q1, .inl (cIn g, 201, .inl (fun _ => 0))), (q2, .inl (cIn g, 200, .inl (fun _ => 0)))] H := hP
  have hD : va_D A [(a, .inr (2, [.ref q0, .ref q1, .ref q2, .null, .null, .null, .int 0, .int 0])), (q0, .inl (cBy g, 12000, .inl (fun _ => 0))), (q1, .inl (cIn g, 201, .inl (fun _ => 0))), (q2, .inl (cIn g, 200, .inl (fun _ => 0)))] := hD
  refine lv_aload_n hx hb d_Marks_init_31 rfl (lv_at hl 0 rfl) ?_
  refine lv_sipush (v := 200) hx hb d_Marks_init_32 (by decide) ?_
  refine x_newa (atype := .int) (N' := 200) (a0 := (200, .inl (fun _ => 0))) hx hb (hc _ ka_int) hK hP hD hS hA 1 rfl (fun h => h) (fun _ => rfl) (by decide) (by decide) (by decide) (Nat.le_of_ble_eq_true rfl) (Nat.le_of_ble_eq_true rfl) d_Marks_init_35 (fun q3 H hP hD hS => ?_)
  have hP : va_P g.1 classes [(a, .inr (2, [.ref q0, .ref q1, .ref q2, .null, .null, .null, .int 0, .int 0])), (q0, .inl (cBy g, 12000, .inl (fun _ => 0))), (q1, .inl (cIn g, 201, .inl (fun _ => 0))), (q2, .inl (cIn g, 200, .inl (fun _ => 0))), (q3, .inl (cIn g, 200, .inl (fun _ => 0)))] H := hP
  have hD : va_D A [(a, .inr (2, [.ref q0, .ref q1, .ref q2, .null, .null, .null, .int 0, .int 0])), (q0, .inl (cBy g, 12000, .inl (fun _ => 0))), (q1, .inl (cIn g, 201, .inl (fun _ => 0))), (q2, .inl (cIn g, 200, .inl (fun _ => 0))), (q3, .inl (cIn g, 200, .inl (fun _ => 0)))] := hD
  refine va_putF (D := g.1) (ci := 2) (v := .ref q3) (ty := .array .int) (C := R_Marks) (T := F_Marks) (N := 8) hx hb hc i_Marks t_Marks t_Marks_ok n_Marks hown hK hP hD hS 0 rfl rfl 3 (by decide) (hc _ kf_Marks_22) (fun _ h9 => h9) rfl hin rfl (by decide +kernel) rfl rfl (Nat.le_of_ble_eq_true rfl) d_Marks_init_37 (fun H locs hP hD hS => ?_)
  have hP : va_P g.1 classes [(a, .inr (2, [.ref q0, .ref q1, .ref q2, .ref q3, .null, .null, .int 0, .int 0])), (q0, .inl (cBy g, 12000, .inl (fun _ => 0))), (q1, .inl (cIn g, 201, .inl (fun _ => 0))), (q2, .inl (cIn g, 200, .inl (fun _ => 0))), (q3, .inl (cIn g, 200, .inl (fun _ => 0)))] H := hP
  have hD : va_D A [(a, .inr (2, [.ref q0, .ref q1, .ref q2, .ref q3, .null, .null, .int 0, .int 0])), (q0, .inl (cBy g, 12000, .inl (fun _ => 0))), (q1, .inl (cIn g, 201, .inl (fun _ => 0))), (q2, .inl (cIn g, 200, .inl (fun _ => 0))), (q3, .inl (cIn g, 200, .inl (fun _ => 0)))] := hD
  refine lv_aload_n hx hb d_Marks_init_40 rfl (lv_at hl 0 rfl) ?_
  refine lv_sipush (v := 512) hx hb d_Marks_init_41 (by decide) ?_
  refine x_newa (atype := .short) (N' := 512) (a0 := (512, .inl (fun _ => 0))) hx hb (hc _ ka_short) hK hP hD hS hA 2 rfl (fun h => h) (fun _ => rfl) (by decide) (by decide) (by decide) (Nat.le_of_ble_eq_true rfl) (Nat.le_of_ble_eq_true rfl) d_Marks_init_44 (fun q4 H hP hD hS => ?_)
  have hP : va_P g.1 classes [(a, .inr (2, [.ref q0, .ref q1, .ref q2, .ref q3, .null, .null, .int 0, .int 0])), (q0, .inl (cBy g, 12000, .inl (fun _ => 0))), (q1, .inl (cIn g, 201, .inl (fun _ => 0))), (q2, .inl (cIn g, 200, .inl (fun _ => 0))), (q3, .inl (cIn g, 200, .inl (fun _ => 0))), (q4, .inl (cSh g, 512, .inl (fun _ => 0)))] H := hP
  have hD : va_D A [(a, .inr (2, [.ref q0, .ref q1, .ref q2, .ref q3, .null, .null, .int 0, .int 0])), (q0, .inl (cBy g, 12000, .inl (fun _ => 0))), (q1, .inl (cIn g, 201, .inl (fun _ => 0))), (q2, .inl (cIn g, 200, .inl (fun _ => 0))), (q3, .inl (cIn g, 200, .inl (fun _ => 0))), (q4, .inl (cSh g, 512, .inl (fun _ => 0)))] := hD
  refine va_putF (D := g.1) (ci := 2) (v := .ref q4) (ty := .array .short) (C := R_Marks) (T := F_Marks) (N := 8) hx hb hc i_Marks t_Marks t_Marks_ok n_Marks hown hK hP hD hS 0 rfl rfl 4 (by decide) (hc _ kf_Marks_25) (fun _ h9 => h9) rfl hin rfl (by decide +kernel) rfl rfl (Nat.le_of_ble_eq_true rfl) d_Marks_init_46 (fun H locs hP hD hS => ?_)
  have hP : va_P g.1 classes [(a, .inr (2, [.ref q0, .ref q1, .ref q2, .ref q3, .ref q4, .null, .int 0, .int 0])), (q0, .inl (cBy g, 12000, .inl (fun _ => 0))), (q1, .inl (cIn g, 201, .inl (fun _ => 0))), (q2, .inl (cIn g, 200, .inl (fun _ => 0))), (q3, .inl (cIn g, 200, .inl (fun _ => 0))), (q4, .inl (cSh g, 512, .inl (fun _ => 0)))] H := hP
  have hD : va_D A [(a, .inr (2, [.ref q0, .ref q1, .ref q2, .ref q3, .ref q4, .null, .int 0, .int 0])), (q0, .inl (cBy g, 12000, .inl (fun _ => 0))), (q1, .inl (cIn g, 201, .inl (fun _ => 0))), (q2, .inl (cIn g, 200, .inl (fun _ => 0))), (q3, .inl (cIn g, 200, .inl (fun _ => 0))), (q4, .inl (cSh g, 512, .inl (fun _ => 0)))] := hD
  refine lv_aload_n hx hb d_Marks_init_49 rfl (lv_at hl 0 rfl) ?_
  refine lv_iconst (v := 4) hx hb d_Marks_init_50 (by decide) ?_
  refine x_newa (atype := .long) (N' := 4) (a0 := (4, .inr (.inl (fun _ => 0)))) hx hb (hc _ ka_long) hK hP hD hS hA 3 rfl (fun h => h) (fun _ => rfl) (by decide) (by decide) (by decide) (Nat.le_of_ble_eq_true rfl) (Nat.le_of_ble_eq_true rfl) d_Marks_init_51 (fun q5 H hP hD hS => ?_)
  have hP : va_P g.1 classes [(a, .inr (2, [.ref q0, .ref q1, .ref q2, .ref q3, .ref q4, .null, .int 0, .int 0])), (q0, .inl (cBy g, 12000, .inl (fun _ => 0))), (q1, .inl (cIn g, 201, .inl (fun _ => 0))), (q2, .inl (cIn g, 200, .inl (fun _ => 0))), (q3, .inl (cIn g, 200, .inl (fun _ => 0))), (q4, .inl (cSh g, 512, .inl (fun _ => 0))), (q5, .inl (cLo g, 4, .inr (.inl (fun _ => 0))))] H := hP
  have hD : va_D A [(a, .inr (2, [.ref q0, .ref q1, .ref q2, .ref q3, .ref q4, .null, .int 0, .int 0])), (q0, .inl (cBy g, 12000, .inl (fun _ => 0))), (q1, .inl (cIn g, 201, .inl (fun _ => 0))), (q2, .inl (cIn g, 200, .inl (fun _ => 0))), (q3, .inl (cIn g, 200, .inl (fun _ => 0))), (q4, .inl (cSh g, 512, .inl (fun _ => 0))), (q5, .inl (cLo g, 4, .inr (.inl (fun _ => 0))))] := hD
  refine va_putF (D := g.1) (ci := 2) (v := .ref q5) (ty := .array .long) (C := R_Marks) (T := F_Marks) (N := 8) hx hb hc i_Marks t_Marks t_Marks_ok n_Marks hown hK hP hD hS 0 rfl rfl 5 (by decide) (hc _ kf_Marks_29) (fun _ h9 => h9) rfl hin rfl (by decide +kernel) rfl rfl (Nat.le_of_ble_eq_true rfl) d_Marks_init_53 (fun H locs hP hD hS => ?_)
  have hP : va_P g.1 classes [(a, .inr (2, [.ref q0, .ref q1, .ref q2, .ref q3, .ref q4, .ref q5, .int 0, .int 0])), (q0, .inl (cBy g, 12000, .inl (fun _ => 0))), (q1, .inl (cIn g, 201, .inl (fun _ => 0))), (q2, .inl (cIn g, 200, .inl (fun _ => 0))), (q3, .inl (cIn g, 200, .inl (fun _ => 0))), (q4, .inl (cSh g, 512, .inl (fun _ => 0))), (q5, .inl (cLo g, 4, .inr (.inl (fun _ => 0))))] H := hP
  have hD : va_D A [(a, .inr (2, [.ref q0, .ref q1, .ref q2, .ref q3, .ref q4, .ref q5, .int 0, .int 0])), (q0, .inl (cBy g, 12000, .inl (fun _ => 0))), (q1, .inl (cIn g, 201, .inl (fun _ => 0))), (q2, .inl (cIn g, 200, .inl (fun _ => 0))), (q3, .inl (cIn g, 200, .inl (fun _ => 0))), (q4, .inl (cSh g, 512, .inl (fun _ => 0))), (q5, .inl (cLo g, 4, .inr (.inl (fun _ => 0))))] := hD
  refine lv_aload_n hx hb d_Marks_init_56 rfl (lv_at hl 0 rfl) ?_
  refine x_cmv (wr := [(q0, .inl (cBy g, 12000, .inl (fun _ => 0))), (q1, .inl (cIn g, 201, .inl (fun _ => 0))), (q2, .inl (cIn g, 200, .inl (fun _ => 0))), (q3, .inl (cIn g, 200, .inl (fun _ => 0)))]) (x_runV (As := []) (rest := []) ⟨hx, hb, hml, hown, hc⟩ (c_Marks_clear l g _ a q0 q1 q2 q3 q4 q5 0 0 (fun _ => 0) (fun _ => 0)) (cwV 0 hc (good_V km_Marks_33 ki_Marks_clear ks_Marks_clear kn_Marks kc_Marks_clear) rfl rfl rfl (by decide +kernel) ⟨Nat.le_of_ble_eq_true rfl, Nat.le_of_ble_eq_true rfl⟩) hP hD hK hN [0, 5, 6] (by decide) rfl (va_recv hK hP (ci := 2) (q0 := 0) rfl rfl) rfl hl.1 rfl (Nat.le_of_ble_eq_true rfl) d_Marks_init_57 ⟨Nat.le_of_ble_eq_true rfl, Nat.le_of_ble_eq_true rfl⟩) hP hD hS hA [0, 5, 6] [1, 2, 3, 4] rfl rfl (by decide) (by decide) (fun u H locs hw hP hD hS => ?_)
  obtain ⟨sl, ms⟩ := u
  have hP := hP.sub (ws' := [(a, .inr (2, [.ref q0, .ref q1, .ref q2, .ref q3, .ref q4, .ref q5, .int 0, .int 0])), (q0, .inl (cBy g, 12000, .inl (fun _ => 0))), (q1, .inl (cIn g, 201, .inl (fun _ => 0))), (q2, .inl (cIn g, 200, .inl (fun _ => 0))), (q3, .inl (cIn g, 200, .inl (fun _ => 0))), (q4, .inl (cSh g, 512, .inl sl)), (q5, .inl (cLo g, 4, .inr (.inl ms)))]) [4, 0, 1, 2, 3, 5, 6] rfl
  have hD := hD.sub (ws' := [(a, .inr (2, [.ref q0, .ref q1, .ref q2, .ref q3, .ref q4, .ref q5, .int 0, .int 0])), (q0, .inl (cBy g, 12000, .inl (fun _ => 0))), (q1, .inl (cIn g, 201, .inl (fun _ => 0))), (q2, .inl (cIn g, 200, .inl (fun _ => 0))), (q3, .inl (cIn g, 200, .inl (fun _ => 0))), (q4, .inl (cSh g, 512, .inl sl)), (q5, .inl (cLo g, 4, .inr (.inl ms)))]) [4, 0, 1, 2, 3, 5, 6] (by decide) rfl
  refine W.widen (k := 6) (n := 13117) (Nat.le_of_ble_eq_true rfl) (Nat.le_of_ble_eq_true rfl) ?_
  exact W.vret hx hb hr (fun t9 ht9 hW9 => ⟨⟨((q0, q1, q2, q3, q4, q5), sl, ms), rfl, hw, by rw [ht9]; exact hP, hD⟩, hS.F ht9⟩) hS.2.2 d_Marks_init_60
end
section
/-! PURE, for the desk -/
theorem dec1 (x : Int32) : x + Int32.ofInt (-1) = x - 1 := (Int32.sub_eq_add_neg x 1).symm
theorem shr_bit (v : Int64) {k i : Nat} (hk : k < 64) (hi : k + i < 64) : (v >>> ((nI k).toInt64 &&& 63)).toBitVec.getLsbD i = v.toBitVec.getLsbD (k + i) := by
  rw [wb_c k hk, Int64.toBitVec_shiftRight, wb_tb]
  rw [show (BitVec.ofNat 64 k).smod 64 = BitVec.ofNat 64 k from wb_sm k hk, BitVec.getLsbD_sshiftRight', BitVec.toNat_ofNat, Nat.mod_eq_of_lt (by omega), if_pos hi]
  rw [decide_eq_false (by omega)]
  rfl
theorem vb_bit (v : Int64) {k i : Nat} (hi : i < 8) : (vb v k).testBit i = v.toBitVec.getLsbD (8 * k + i) := by
  unfold vb
  rw [show (256 : Nat) = 2 ^ 8 by decide, Nat.testBit_mod_two_pow, decide_eq_true hi, Bool.true_and, Nat.testBit_div_two_pow, Nat.add_comm]
  rfl
theorem vb_lt (v : Int64) (k : Nat) : vb v k < 256 := Nat.mod_lt _ (by decide)
theorem put_byte (v : Int64) {k : Nat} (hk : k < 8) : ((v >>> ((nI (8 * k)).toInt64 &&& 63)).toInt32.toInt8).toInt32 = sb_b (vb v k) := by
  unfold sb_b
  congr 1
  apply Int8.toBitVec_inj.mp
  apply BitVec.eq_of_getLsbD_eq
  intro i hi
  show ((v >>> ((nI (8 * k)).toInt64 &&& 63)).toBitVec.signExtend 32 |>.signExtend 8).getLsbD i = ((BitVec.ofNat 32 (vb v k)).signExtend 8).getLsbD i
  rw [BitVec.getLsbD_signExtend, BitVec.getLsbD_signExtend, BitVec.getLsbD_signExtend, if_pos (by omega), if_pos (by omega), if_pos (by omega), shr_bit v (by omega) (by omega), BitVec.getLsbD_ofNat, vb_bit v hi]
theorem put_bad {h : Nat} {nb : Nat → Nat} {f : Nat → Int32} (hf : ∀ i, i < h → f i = sb_b (nb i)) (v : Int64) : ∀ i, i < h + 0 → f i = sb_b (putH h nb v 0 i) := by
  intro i hi
  unfold putH
  rw [if_pos (by omega)]
  exact hf i hi
theorem put_step {h j k : Nat} {nb : Nat → Nat} {f1 : Nat → Int32} {v : Int64} (hk : k + 1 ≤ j) (hf : ∀ i, i < h + (j - (k + 1)) → f1 i = sb_b (putH h nb v j i)) : ∀ i, i < h + (j - k) → upd f1 (h + (j - (k + 1))) (sb_b (vb v k)) i = sb_b (putH h nb v j i) := by
  intro i hi
  by_cases e : i = h + (j - (k + 1))
  · subst e
    rw [pk_us]
    unfold putH
    rw [if_neg (by omega), show j - 1 - (h + (j - (k + 1)) - h) = k by omega]
  · rw [pk_un e]
    exact hf i (by omega)
theorem lookR_in {V : AS} {k : Nat} (hk : k < aN V) (hn : aN V ≤ 200) (q : Int32) : lookR V (nI k) q = if q = 0 then nI (aG V k) else if q = 1 then nI (aR V k) else if q = 2 then nI (aZ V k) else if q = 3 then mff (mis V) (k + 1) (aN V - (k + 1)) else -1 := by
  unfold lookR
  rw [if_neg (fun x => x.elim (nI_pos (by omega)) (nI_ge hk (by omega))), nI_clamp (by omega)]
theorem byteR_in {V : AS} {k : Nat} (hk : k < aN V) (hn : aN V ≤ 200) (q : Int32) : byteR V (nI k) q = if q < 0 ∨ nI (aZ V k) ≤ q then -1 else nI (aB V k q.toNatClampNeg) := by
  unfold byteR
  rw [if_neg (fun x => x.elim (nI_pos (by omega)) (nI_ge hk (by omega))), nI_clamp (by omega)]
theorem known_ix {n : Nat} {x : Int32} (hn : n < 2 ^ 31) (h : ¬ (x < 0 ∨ nI n ≤ x)) : ∃ k, k < n ∧ x = nI k := by
  rcases pk_ix x hn with q | q | q
  · exact absurd (Or.inl q) h
  · exact absurd (Or.inr q) h
  · exact q
def clrA (V : AS) : AS := (0, aZ V, aB V, aG V, aR V)
theorem clear_inv {V : AS} {fb bg fg fr sl sl' : Nat → Int32} {ms ms' : Nat → Int64} {sv vv : Int32} (hI : MInv V fb bg fg fr sl ms sv vv) (h1 : ∀ s1, s1 < 512 → sl' s1 = -1) (h2 : ∀ x, x < 4 → ms' x = 0) : MInv (clrA V) fb bg fg fr sl' ms' 0 0 := by
  refine ⟨rfl, rfl, ⟨fun k hk => ?_, fun k hk => absurd hk (Nat.not_lt_zero _)⟩, fun k hk => absurd hk (Nat.not_lt_zero _), fun k hk => ?_, fun s1 hs => Or.inl (h1 s1 hs), fun k hk => absurd hk (Nat.not_lt_zero _), ?_⟩
  · obtain rfl : k = 0 := Nat.le_zero.mp hk
    exact hI.2.2.1.1 0 (Nat.zero_le _)
  · rw [h2 (k / 64) (by omega), misN_n (Nat.zero_le _)]
    exact BitVec.getLsbD_zero
  · refine cnt_all 512 (fun k hk => ?_)
    rw [h1 k hk]
    decide
theorem AOk_clr {V : AS} (Bd : Nat) : AOk (clrA V) Bd := ⟨Nat.zero_le _, fun k hk => absurd hk (Nat.not_lt_zero _), fun j k hj => absurd hj (Nat.not_lt_zero _)⟩
theorem d_RN_init_0 : decode b_RN_init 0 = .ok (.aload_n 0, 1) := by decide +kernel
theorem d_RN_init_1 : decode b_RN_init 1 = .ok (.invokespecial 1, 3) := by decide +kernel
theorem d_RN_init_4 : decode b_RN_init 4 = .ok (.aload_n 0, 1) := by decide +kernel
theorem d_RN_init_5 : decode b_RN_init 5 = .ok (.new 7, 3) := by decide +kernel
theorem d_RN_init_8 : decode b_RN_init 8 = .ok (.dup, 1) := by decide +kernel
theorem d_RN_init_9 : decode b_RN_init 9 = .ok (.invokespecial 9, 3) := by decide +kernel
theorem d_RN_init_12 : decode b_RN_init 12 = .ok (.putfield 10, 3) := by decide +kernel
theorem d_RN_init_15 : decode b_RN_init 15 = .ok (.aload_n 0, 1) := by decide +kernel
theorem d_RN_init_16 : decode b_RN_init 16 = .ok (.new 16, 3) := by decide +kernel
theorem d_RN_init_19 : decode b_RN_init 19 = .ok (.dup, 1) := by decide +kernel
theorem d_RN_init_20 : decode b_RN_init 20 = .ok (.invokespecial 18, 3) := by decide +kernel
theorem d_RN_init_23 : decode b_RN_init 23 = .ok (.putfield 19, 3) := by decide +kernel
theorem d_RN_init_26 : decode b_RN_init 26 = .ok (.return_, 1) := by decide +kernel
theorem d_RN_put_0 : decode b_RN_put 0 = .ok (.iload_n 3, 1) := by decide +kernel
theorem d_RN_put_1 : decode b_RN_put 1 = .ok (.iconst 1, 1) := by decide +kernel
theorem d_RN_put_2 : decode b_RN_put 2 = .ok (.if_icmp .lt 23, 3) := by decide +kernel
theorem d_RN_put_5 : decode b_RN_put 5 = .ok (.iload_n 3, 1) := by decide +kernel
theorem d_RN_put_6 : decode b_RN_put 6 = .ok (.bipush 8, 2) := by decide +kernel
theorem d_RN_put_8 : decode b_RN_put 8 = .ok (.if_icmp .gt 17, 3) := by decide +kernel
theorem d_RN_put_11 : decode b_RN_put 11 = .ok (.aload_n 0, 1) := by decide +kernel
theorem d_RN_put_12 : decode b_RN_put 12 = .ok (.getfield 10, 3) := by decide +kernel
theorem d_RN_put_15 : decode b_RN_put 15 = .ok (.getfield 23, 3) := by decide +kernel
theorem d_RN_put_18 : decode b_RN_put 18 = .ok (.iload_n 3, 1) := by decide +kernel
theorem d_RN_put_19 : decode b_RN_put 19 = .ok (.iadd, 1) := by decide +kernel
theorem d_RN_put_20 : decode b_RN_put 20 = .ok (.bipush 60, 2) := by decide +kernel
theorem d_RN_put_22 : decode b_RN_put 22 = .ok (.if_icmp .le 5, 3) := by decide +kernel
theorem d_RN_put_25 : decode b_RN_put 25 = .ok (.iconst 0, 1) := by decide +kernel
theorem d_RN_put_26 : decode b_RN_put 26 = .ok (.ireturn, 1) := by decide +kernel
theorem d_RN_put_27 : decode b_RN_put 27 = .ok (.iload_n 3, 1) := by decide +kernel
theorem d_RN_put_28 : decode b_RN_put 28 = .ok (.iconst 1, 1) := by decide +kernel
theorem d_RN_put_29 : decode b_RN_put 29 = .ok (.isub, 1) := by decide +kernel
theorem d_RN_put_30 : decode b_RN_put 30 = .ok (.istore 4, 2) := by decide +kernel
theorem d_RN_put_32 : decode b_RN_put 32 = .ok (.iload 4, 2) := by decide +kernel
theorem d_RN_put_34 : decode b_RN_put 34 = .ok (.ifCond .lt 46, 3) := by decide +kernel
theorem d_RN_put_37 : decode b_RN_put 37 = .ok (.aload_n 0, 1) := by decide +kernel
theorem d_RN_put_38 : decode b_RN_put 38 = .ok (.getfield 10, 3) := by decide +kernel
theorem d_RN_put_41 : decode b_RN_put 41 = .ok (.getfield 27, 3) := by decide +kernel
theorem d_RN_put_44 : decode b_RN_put 44 = .ok (.aload_n 0, 1) := by decide +kernel
theorem d_RN_put_45 : decode b_RN_put 45 = .ok (.getfield 10, 3) := by decide +kernel
theorem d_RN_put_48 : decode b_RN_put 48 = .ok (.getfield 23, 3) := by decide +kernel
theorem d_RN_put_51 : decode b_RN_put 51 = .ok (.lload_n 1, 1) := by decide +kernel
theorem d_RN_put_52 : decode b_RN_put 52 = .ok (.bipush 8, 2) := by decide +kernel
theorem d_RN_put_54 : decode b_RN_put 54 = .ok (.iload 4, 2) := by decide +kernel
theorem d_RN_put_56 : decode b_RN_put 56 = .ok (.imul, 1) := by decide +kernel
theorem d_RN_put_57 : decode b_RN_put 57 = .ok (.lshr, 1) := by decide +kernel
theorem d_RN_put_58 : decode b_RN_put 58 = .ok (.l2i, 1) := by decide +kernel
theorem d_RN_put_59 : decode b_RN_put 59 = .ok (.i2b, 1) := by decide +kernel
theorem d_RN_put_60 : decode b_RN_put 60 = .ok (.bastore, 1) := by decide +kernel
theorem d_RN_put_61 : decode b_RN_put 61 = .ok (.aload_n 0, 1) := by decide +kernel
theorem d_RN_put_62 : decode b_RN_put 62 = .ok (.getfield 10, 3) := by decide +kernel
theorem d_RN_put_65 : decode b_RN_put 65 = .ok (.dup, 1) := by decide +kernel
theorem d_RN_put_66 : decode b_RN_put 66 = .ok (.getfield 23, 3) := by decide +kernel
theorem d_RN_put_69 : decode b_RN_put 69 = .ok (.iconst 1, 1) := by decide +kernel
theorem d_RN_put_70 : decode b_RN_put 70 = .ok (.iadd, 1) := by decide +kernel
theorem d_RN_put_71 : decode b_RN_put 71 = .ok (.putfield 23, 3) := by decide +kernel
theorem d_RN_put_74 : decode b_RN_put 74 = .ok (.iinc 4 (-1), 3) := by decide +kernel
theorem d_RN_put_77 : decode b_RN_put 77 = .ok (.goto (-45), 3) := by decide +kernel
theorem d_RN_put_80 : decode b_RN_put 80 = .ok (.iconst 1, 1) := by decide +kernel
theorem d_RN_put_81 : decode b_RN_put 81 = .ok (.ireturn, 1) := by decide +kernel
theorem d_RN_give_0 : decode b_RN_give 0 = .ok (.aload_n 0, 1) := by decide +kernel
theorem d_RN_give_1 : decode b_RN_give 1 = .ok (.getfield 10, 3) := by decide +kernel
theorem d_RN_give_4 : decode b_RN_give 4 = .ok (.getfield 23, 3) := by decide +kernel
theorem d_RN_give_7 : decode b_RN_give 7 = .ok (.ifCond .ne 6, 3) := by decide +kernel
theorem d_RN_give_10 : decode b_RN_give 10 = .ok (.bipush (-3), 2) := by decide +kernel
theorem d_RN_give_12 : decode b_RN_give 12 = .ok (.ireturn, 1) := by decide +kernel
theorem d_RN_give_13 : decode b_RN_give 13 = .ok (.aload_n 0, 1) := by decide +kernel
theorem d_RN_give_14 : decode b_RN_give 14 = .ok (.getfield 19, 3) := by decide +kernel
theorem d_RN_give_17 : decode b_RN_give 17 = .ok (.aload_n 0, 1) := by decide +kernel
theorem d_RN_give_18 : decode b_RN_give 18 = .ok (.getfield 10, 3) := by decide +kernel
theorem d_RN_give_21 : decode b_RN_give 21 = .ok (.invokevirtual 31, 3) := by decide +kernel
theorem d_RN_give_24 : decode b_RN_give 24 = .ok (.istore_n 1, 1) := by decide +kernel
theorem d_RN_give_25 : decode b_RN_give 25 = .ok (.aload_n 0, 1) := by decide +kernel
theorem d_RN_give_26 : decode b_RN_give 26 = .ok (.getfield 10, 3) := by decide +kernel
theorem d_RN_give_29 : decode b_RN_give 29 = .ok (.iconst 0, 1) := by decide +kernel
theorem d_RN_give_30 : decode b_RN_give 30 = .ok (.putfield 23, 3) := by decide +kernel
theorem d_RN_give_33 : decode b_RN_give 33 = .ok (.iload_n 1, 1) := by decide +kernel
theorem d_RN_give_34 : decode b_RN_give 34 = .ok (.ireturn, 1) := by decide +kernel
theorem d_RN_refer_0 : decode b_RN_refer 0 = .ok (.aload_n 0, 1) := by decide +kernel
theorem d_RN_refer_1 : decode b_RN_refer 1 = .ok (.getfield 10, 3) := by decide +kernel
theorem d_RN_refer_4 : decode b_RN_refer 4 = .ok (.getfield 23, 3) := by decide +kernel
theorem d_RN_refer_7 : decode b_RN_refer 7 = .ok (.ifCond .ne 6, 3) := by decide +kernel
theorem d_RN_refer_10 : decode b_RN_refer 10 = .ok (.bipush (-3), 2) := by decide +kernel
theorem d_RN_refer_12 : decode b_RN_refer 12 = .ok (.ireturn, 1) := by decide +kernel
theorem d_RN_refer_13 : decode b_RN_refer 13 = .ok (.aload_n 0, 1) := by decide +kernel
theorem d_RN_refer_14 : decode b_RN_refer 14 = .ok (.getfield 19, 3) := by decide +kernel
theorem d_RN_refer_17 : decode b_RN_refer 17 = .ok (.aload_n 0, 1) := by decide +kernel
theorem d_RN_refer_18 : decode b_RN_refer 18 = .ok (.getfield 10, 3) := by decide +kernel
theorem d_RN_refer_21 : decode b_RN_refer 21 = .ok (.invokevirtual 35, 3) := by decide +kernel
theorem d_RN_refer_24 : decode b_RN_refer 24 = .ok (.istore_n 1, 1) := by decide +kernel
theorem d_RN_refer_25 : decode b_RN_refer 25 = .ok (.aload_n 0, 1) := by decide +kernel
theorem d_RN_refer_26 : decode b_RN_refer 26 = .ok (.getfield 10, 3) := by decide +kernel
theorem d_RN_refer_29 : decode b_RN_refer 29 = .ok (.iconst 0, 1) := by decide +kernel
theorem d_RN_refer_30 : decode b_RN_refer 30 = .ok (.putfield 23, 3) := by decide +kernel
theorem d_RN_refer_33 : decode b_RN_refer 33 = .ok (.iload_n 1, 1) := by decide +kernel
theorem d_RN_refer_34 : decode b_RN_refer 34 = .ok (.ireturn, 1) := by decide +kernel
theorem d_RN_find_0 : decode b_RN_find 0 = .ok (.aload_n 0, 1) := by decide +kernel
theorem d_RN_find_1 : decode b_RN_find 1 = .ok (.getfield 10, 3) := by decide +kernel
theorem d_RN_find_4 : decode b_RN_find 4 = .ok (.getfield 23, 3) := by decide +kernel
theorem d_RN_find_7 : decode b_RN_find 7 = .ok (.ifCond .ne 7, 3) := by decide +kernel
theorem d_RN_find_10 : decode b_RN_find 10 = .ok (.iconst (-1), 1) := by decide +kernel
theorem d_RN_find_11 : decode b_RN_find 11 = .ok (.goto 14, 3) := by decide +kernel
theorem d_RN_find_14 : decode b_RN_find 14 = .ok (.aload_n 0, 1) := by decide +kernel
theorem d_RN_find_15 : decode b_RN_find 15 = .ok (.getfield 19, 3) := by decide +kernel
theorem d_RN_find_18 : decode b_RN_find 18 = .ok (.aload_n 0, 1) := by decide +kernel
theorem d_RN_find_19 : decode b_RN_find 19 = .ok (.getfield 10, 3) := by decide +kernel
theorem d_RN_find_22 : decode b_RN_find 22 = .ok (.invokevirtual 38, 3) := by decide +kernel
theorem d_RN_find_25 : decode b_RN_find 25 = .ok (.ireturn, 1) := by decide +kernel
theorem d_RN_isKnown_0 : decode b_RN_isKnown 0 = .ok (.iload_n 1, 1) := by decide +kernel
theorem d_RN_isKnown_1 : decode b_RN_isKnown 1 = .ok (.ifCond .lt 18, 3) := by decide +kernel
theorem d_RN_isKnown_4 : decode b_RN_isKnown 4 = .ok (.iload_n 1, 1) := by decide +kernel
theorem d_RN_isKnown_5 : decode b_RN_isKnown 5 = .ok (.aload_n 0, 1) := by decide +kernel
theorem d_RN_isKnown_6 : decode b_RN_isKnown 6 = .ok (.getfield 19, 3) := by decide +kernel
theorem d_RN_isKnown_9 : decode b_RN_isKnown 9 = .ok (.getfield 41, 3) := by decide +kernel
theorem d_RN_isKnown_12 : decode b_RN_isKnown 12 = .ok (.if_icmp .ge 7, 3) := by decide +kernel
theorem d_RN_isKnown_15 : decode b_RN_isKnown 15 = .ok (.iconst 1, 1) := by decide +kernel
theorem d_RN_isKnown_16 : decode b_RN_isKnown 16 = .ok (.goto 4, 3) := by decide +kernel
theorem d_RN_isKnown_19 : decode b_RN_isKnown 19 = .ok (.iconst 0, 1) := by decide +kernel
theorem d_RN_isKnown_20 : decode b_RN_isKnown 20 = .ok (.ireturn, 1) := by decide +kernel
theorem d_RN_look_0 : decode b_RN_look 0 = .ok (.aload_n 0, 1) := by decide +kernel
theorem d_RN_look_1 : decode b_RN_look 1 = .ok (.iload_n 1, 1) := by decide +kernel
theorem d_RN_look_2 : decode b_RN_look 2 = .ok (.invokevirtual 42, 3) := by decide +kernel
theorem d_RN_look_5 : decode b_RN_look 5 = .ok (.ifCond .ne 5, 3) := by decide +kernel
theorem d_RN_look_8 : decode b_RN_look 8 = .ok (.iconst (-1), 1) := by decide +kernel
theorem d_RN_look_9 : decode b_RN_look 9 = .ok (.ireturn, 1) := by decide +kernel
theorem d_RN_look_10 : decode b_RN_look 10 = .ok (.iload_n 2, 1) := by decide +kernel
theorem d_RN_look_11 : decode b_RN_look 11 = .ok (.tableswitch 82 0 3 #[29, 39, 49, 71], 29) := by decide +kernel
theorem d_RN_look_40 : decode b_RN_look 40 = .ok (.aload_n 0, 1) := by decide +kernel
theorem d_RN_look_41 : decode b_RN_look 41 = .ok (.getfield 19, 3) := by decide +kernel
theorem d_RN_look_44 : decode b_RN_look 44 = .ok (.getfield 46, 3) := by decide +kernel
theorem d_RN_look_47 : decode b_RN_look 47 = .ok (.iload_n 1, 1) := by decide +kernel
theorem d_RN_look_48 : decode b_RN_look 48 = .ok (.iaload, 1) := by decide +kernel
theorem d_RN_look_49 : decode b_RN_look 49 = .ok (.ireturn, 1) := by decide +kernel
theorem d_RN_look_50 : decode b_RN_look 50 = .ok (.aload_n 0, 1) := by decide +kernel
theorem d_RN_look_51 : decode b_RN_look 51 = .ok (.getfield 19, 3) := by decide +kernel
theorem d_RN_look_54 : decode b_RN_look 54 = .ok (.getfield 50, 3) := by decide +kernel
theorem d_RN_look_57 : decode b_RN_look 57 = .ok (.iload_n 1, 1) := by decide +kernel
theorem d_RN_look_58 : decode b_RN_look 58 = .ok (.iaload, 1) := by decide +kernel
theorem d_RN_look_59 : decode b_RN_look 59 = .ok (.ireturn, 1) := by decide +kernel
theorem d_RN_look_60 : decode b_RN_look 60 = .ok (.aload_n 0, 1) := by decide +kernel
theorem d_RN_look_61 : decode b_RN_look 61 = .ok (.getfield 19, 3) := by decide +kernel
theorem d_RN_look_64 : decode b_RN_look 64 = .ok (.getfield 53, 3) := by decide +kernel
theorem d_RN_look_67 : decode b_RN_look 67 = .ok (.iload_n 1, 1) := by decide +kernel
theorem d_RN_look_68 : decode b_RN_look 68 = .ok (.iconst 1, 1) := by decide +kernel
theorem d_RN_look_69 : decode b_RN_look 69 = .ok (.iadd, 1) := by decide +kernel
theorem d_RN_look_70 : decode b_RN_look 70 = .ok (.iaload, 1) := by decide +kernel
theorem d_RN_look_71 : decode b_RN_look 71 = .ok (.aload_n 0, 1) := by decide +kernel
theorem d_RN_look_72 : decode b_RN_look 72 = .ok (.getfield 19, 3) := by decide +kernel
theorem d_RN_look_75 : decode b_RN_look 75 = .ok (.getfield 53, 3) := by decide +kernel
theorem d_RN_look_78 : decode b_RN_look 78 = .ok (.iload_n 1, 1) := by decide +kernel
theorem d_RN_look_79 : decode b_RN_look 79 = .ok (.iaload, 1) := by decide +kernel
theorem d_RN_look_80 : decode b_RN_look 80 = .ok (.isub, 1) := by decide +kernel
theorem d_RN_look_81 : decode b_RN_look 81 = .ok (.ireturn, 1) := by decide +kernel
theorem d_RN_look_82 : decode b_RN_look 82 = .ok (.aload_n 0, 1) := by decide +kernel
theorem d_RN_look_83 : decode b_RN_look 83 = .ok (.getfield 19, 3) := by decide +kernel
theorem d_RN_look_86 : decode b_RN_look 86 = .ok (.iload_n 1, 1) := by decide +kernel
theorem d_RN_look_87 : decode b_RN_look 87 = .ok (.iconst 1, 1) := by decide +kernel
theorem d_RN_look_88 : decode b_RN_look 88 = .ok (.iadd, 1) := by decide +kernel
theorem d_RN_look_89 : decode b_RN_look 89 = .ok (.invokevirtual 56, 3) := by decide +kernel
theorem d_RN_look_92 : decode b_RN_look 92 = .ok (.ireturn, 1) := by decide +kernel
theorem d_RN_look_93 : decode b_RN_look 93 = .ok (.iconst (-1), 1) := by decide +kernel
theorem d_RN_look_94 : decode b_RN_look 94 = .ok (.ireturn, 1) := by decide +kernel
theorem d_RN_byteOf_0 : decode b_RN_byteOf 0 = .ok (.aload_n 0, 1) := by decide +kernel
theorem d_RN_byteOf_1 : decode b_RN_byteOf 1 = .ok (.iload_n 1, 1) := by decide +kernel
theorem d_RN_byteOf_2 : decode b_RN_byteOf 2 = .ok (.invokevirtual 42, 3) := by decide +kernel
theorem d_RN_byteOf_5 : decode b_RN_byteOf 5 = .ok (.ifCond .eq 58, 3) := by decide +kernel
theorem d_RN_byteOf_8 : decode b_RN_byteOf 8 = .ok (.iload_n 2, 1) := by decide +kernel
theorem d_RN_byteOf_9 : decode b_RN_byteOf 9 = .ok (.ifCond .lt 54, 3) := by decide +kernel
theorem d_RN_byteOf_12 : decode b_RN_byteOf 12 = .ok (.iload_n 2, 1) := by decide +kernel
theorem d_RN_byteOf_13 : decode b_RN_byteOf 13 = .ok (.aload_n 0, 1) := by decide +kernel
theorem d_RN_byteOf_14 : decode b_RN_byteOf 14 = .ok (.getfield 19, 3) := by decide +kernel
theorem d_RN_byteOf_17 : decode b_RN_byteOf 17 = .ok (.getfield 53, 3) := by decide +kernel
theorem d_RN_byteOf_20 : decode b_RN_byteOf 20 = .ok (.iload_n 1, 1) := by decide +kernel
theorem d_RN_byteOf_21 : decode b_RN_byteOf 21 = .ok (.iconst 1, 1) := by decide +kernel
theorem d_RN_byteOf_22 : decode b_RN_byteOf 22 = .ok (.iadd, 1) := by decide +kernel
theorem d_RN_byteOf_23 : decode b_RN_byteOf 23 = .ok (.iaload, 1) := by decide +kernel
theorem d_RN_byteOf_24 : decode b_RN_byteOf 24 = .ok (.aload_n 0, 1) := by decide +kernel
theorem d_RN_byteOf_25 : decode b_RN_byteOf 25 = .ok (.getfield 19, 3) := by decide +kernel
theorem d_RN_byteOf_28 : decode b_RN_byteOf 28 = .ok (.getfield 53, 3) := by decide +kernel
theorem d_RN_byteOf_31 : decode b_RN_byteOf 31 = .ok (.iload_n 1, 1) := by decide +kernel
theorem d_RN_byteOf_32 : decode b_RN_byteOf 32 = .ok (.iaload, 1) := by decide +kernel
theorem d_RN_byteOf_33 : decode b_RN_byteOf 33 = .ok (.isub, 1) := by decide +kernel
theorem d_RN_byteOf_34 : decode b_RN_byteOf 34 = .ok (.if_icmp .ge 29, 3) := by decide +kernel
theorem d_RN_byteOf_37 : decode b_RN_byteOf 37 = .ok (.aload_n 0, 1) := by decide +kernel
theorem d_RN_byteOf_38 : decode b_RN_byteOf 38 = .ok (.getfield 19, 3) := by decide +kernel
theorem d_RN_byteOf_41 : decode b_RN_byteOf 41 = .ok (.getfield 60, 3) := by decide +kernel
theorem d_RN_byteOf_44 : decode b_RN_byteOf 44 = .ok (.aload_n 0, 1) := by decide +kernel
theorem d_RN_byteOf_45 : decode b_RN_byteOf 45 = .ok (.getfield 19, 3) := by decide +kernel
theorem d_RN_byteOf_48 : decode b_RN_byteOf 48 = .ok (.getfield 53, 3) := by decide +kernel
theorem d_RN_byteOf_51 : decode b_RN_byteOf 51 = .ok (.iload_n 1, 1) := by decide +kernel
theorem d_RN_byteOf_52 : decode b_RN_byteOf 52 = .ok (.iaload, 1) := by decide +kernel
theorem d_RN_byteOf_53 : decode b_RN_byteOf 53 = .ok (.iload_n 2, 1) := by decide +kernel
theorem d_RN_byteOf_54 : decode b_RN_byteOf 54 = .ok (.iadd, 1) := by decide +kernel
theorem d_RN_byteOf_55 : decode b_RN_byteOf 55 = .ok (.baload, 1) := by decide +kernel
theorem d_RN_byteOf_56 : decode b_RN_byteOf 56 = .ok (.sipush 255, 3) := by decide +kernel
theorem d_RN_byteOf_59 : decode b_RN_byteOf 59 = .ok (.iand, 1) := by decide +kernel
theorem d_RN_byteOf_60 : decode b_RN_byteOf 60 = .ok (.goto 4, 3) := by decide +kernel
theorem d_RN_byteOf_63 : decode b_RN_byteOf 63 = .ok (.iconst (-1), 1) := by decide +kernel
theorem d_RN_byteOf_64 : decode b_RN_byteOf 64 = .ok (.ireturn, 1) := by decide +kernel
theorem d_RN_count_0 : decode b_RN_count 0 = .ok (.iload_n 1, 1) := by decide +kernel
theorem d_RN_count_1 : decode b_RN_count 1 = .ok (.tableswitch 88 0 5 #[39, 47, 55, 63, 71, 79], 39) := by decide +kernel
theorem d_RN_count_40 : decode b_RN_count 40 = .ok (.aload_n 0, 1) := by decide +kernel
theorem d_RN_count_41 : decode b_RN_count 41 = .ok (.getfield 19, 3) := by decide +kernel
theorem d_RN_count_44 : decode b_RN_count 44 = .ok (.getfield 41, 3) := by decide +kernel
theorem d_RN_count_47 : decode b_RN_count 47 = .ok (.ireturn, 1) := by decide +kernel
theorem d_RN_count_48 : decode b_RN_count 48 = .ok (.aload_n 0, 1) := by decide +kernel
theorem d_RN_count_49 : decode b_RN_count 49 = .ok (.getfield 19, 3) := by decide +kernel
theorem d_RN_count_52 : decode b_RN_count 52 = .ok (.invokevirtual 61, 3) := by decide +kernel
theorem d_RN_count_55 : decode b_RN_count 55 = .ok (.ireturn, 1) := by decide +kernel
theorem d_RN_count_56 : decode b_RN_count 56 = .ok (.aload_n 0, 1) := by decide +kernel
theorem d_RN_count_57 : decode b_RN_count 57 = .ok (.getfield 19, 3) := by decide +kernel
theorem d_RN_count_60 : decode b_RN_count 60 = .ok (.invokevirtual 65, 3) := by decide +kernel
theorem d_RN_count_63 : decode b_RN_count 63 = .ok (.ireturn, 1) := by decide +kernel
theorem d_RN_count_64 : decode b_RN_count 64 = .ok (.aload_n 0, 1) := by decide +kernel
theorem d_RN_count_65 : decode b_RN_count 65 = .ok (.getfield 19, 3) := by decide +kernel
theorem d_RN_count_68 : decode b_RN_count 68 = .ok (.getfield 68, 3) := by decide +kernel
theorem d_RN_count_71 : decode b_RN_count 71 = .ok (.ireturn, 1) := by decide +kernel
theorem d_RN_count_72 : decode b_RN_count 72 = .ok (.aload_n 0, 1) := by decide +kernel
theorem d_RN_count_73 : decode b_RN_count 73 = .ok (.getfield 10, 3) := by decide +kernel
theorem d_RN_count_76 : decode b_RN_count 76 = .ok (.getfield 23, 3) := by decide +kernel
theorem d_RN_count_79 : decode b_RN_count 79 = .ok (.ireturn, 1) := by decide +kernel
theorem d_RN_count_80 : decode b_RN_count 80 = .ok (.aload_n 0, 1) := by decide +kernel
theorem d_RN_count_81 : decode b_RN_count 81 = .ok (.getfield 19, 3) := by decide +kernel
theorem d_RN_count_84 : decode b_RN_count 84 = .ok (.iconst 0, 1) := by decide +kernel
theorem d_RN_count_85 : decode b_RN_count 85 = .ok (.invokevirtual 56, 3) := by decide +kernel
theorem d_RN_count_88 : decode b_RN_count 88 = .ok (.ireturn, 1) := by decide +kernel
theorem d_RN_count_89 : decode b_RN_count 89 = .ok (.iconst (-1), 1) := by decide +kernel
theorem d_RN_count_90 : decode b_RN_count 90 = .ok (.ireturn, 1) := by decide +kernel
theorem d_RN_clear_0 : decode b_RN_clear 0 = .ok (.aload_n 0, 1) := by decide +kernel
theorem d_RN_clear_1 : decode b_RN_clear 1 = .ok (.getfield 19, 3) := by decide +kernel
theorem d_RN_clear_4 : decode b_RN_clear 4 = .ok (.getfield 41, 3) := by decide +kernel
theorem d_RN_clear_7 : decode b_RN_clear 7 = .ok (.istore_n 1, 1) := by decide +kernel
theorem d_RN_clear_8 : decode b_RN_clear 8 = .ok (.aload_n 0, 1) := by decide +kernel
theorem d_RN_clear_9 : decode b_RN_clear 9 = .ok (.getfield 19, 3) := by decide +kernel
theorem d_RN_clear_12 : decode b_RN_clear 12 = .ok (.invokevirtual 71, 3) := by decide +kernel
theorem d_RN_clear_15 : decode b_RN_clear 15 = .ok (.aload_n 0, 1) := by decide +kernel
theorem d_RN_clear_16 : decode b_RN_clear 16 = .ok (.getfield 10, 3) := by decide +kernel
theorem d_RN_clear_19 : decode b_RN_clear 19 = .ok (.iconst 0, 1) := by decide +kernel
theorem d_RN_clear_20 : decode b_RN_clear 20 = .ok (.putfield 23, 3) := by decide +kernel
theorem d_RN_clear_23 : decode b_RN_clear 23 = .ok (.iload_n 1, 1) := by decide +kernel
theorem d_RN_clear_24 : decode b_RN_clear 24 = .ok (.ireturn, 1) := by decide +kernel
set_option maxHeartbeats 4000000 in
set_option maxRecDepth 100000 in
/-- put(v, n): n bytes of v go into the hand -/
theorem c_RN_put (l : Launch) (g : GT) (sz : Nat) (o a b b0 : Nat) (f : Nat → Int32) (v : Int64) (j0 : Int32) (h : Nat) (nb : Nat → Nat) (hH : HOk h nb) (hf : ∀ i, i < h → f i = sb_b (nb i)) : Met l y_RN_put w_RN_put ({ frames := 0, cells := 0, slots := 0, locals := 0 } : Room) (PcW [.ref o, .long v, .int j0] sz g [(o, .inr (0, [.ref b, .ref a])), (b, .inr (1, [.ref b0, .int (nI h)])), (b0, .inl (cBy g, 60, .inl f))]) (va_Qi (fun (r : Int32) (u : (Nat → Int32)) => (r = if putN h j0 = 0 then 0 else 1) ∧ ∀ i, i < h + putN h j0 → u i = sb_b (putH h nb v (putN h j0) i)) (BW g (va_A [(o, .inr (0, [.ref b, .ref a])), (b, .inr (1, [.ref b0, .int (nI h)])), (b0, .inl (cBy g, 60, .inl f))] sz) (fun u : (Nat → Int32) => [(o, .inr (0, [.ref b, .ref a])), (b, .inr (1, [.ref b0, .int (nI (h + putN h j0))])), (b0, .inl (cBy g, 60, .inl u))])) (va_A [(o, .inr (0, [.ref b, .ref a])), (b, .inr (1, [.ref b0, .int (nI h)])), (b0, .inl (cBy g, 60, .inl f))] sz)) 0 0 (va_A [(o, .inr (0, [.ref b, .ref a])), (b, .inr (1, [.ref b0, .int (nI h)])), (b0, .inl (cBy g, 60, .inl f))] sz) := by
  refine Met.ofW (cc := b_RN_put) (maxL := 5) (ret := (some .boolean)) (by decide) rfl ?_
  intro p e s m args below meth c s₁ B hml hv
  obtain ⟨rfl, hsz, hP, hK, hN, hD⟩ := hv
  have hx := B.exec
  have hb := B.bytes
  have hr := B.returns
  have hc : ∀ w ∈ cmn, w.before ([.ref o, .long v, .int j0] : List Value).toArray s = true := fun w h => atoms_spec (ws := w_RN_put) B.pre w (List.mem_cons_of_mem _ h)
  have hown : s.vm.findClass R_RN = some m.cls := findClass_of_methodNamed B.named
  have hlocks := B.notSynchronized
  subst hsz
  have hD := hD.self (sz := s.heap.size)
  have hS : va_S (va_A [(o, .inr (0, [.ref b, .ref a])), (b, .inr (1, [.ref b0, .int (nI h)])), (b0, .inl (cBy g, 60, .inl f))] s.heap.size) s.heap s.heap [] := va_S.rf
  have hA : ∀ q : Nat, s.heap.size ≤ q → va_A [(o, .inr (0, [.ref b, .ref a])), (b, .inr (1, [.ref b0, .int (nI h)])), (b0, .inl (cBy g, 60, .inl f))] s.heap.size q := fun q h => Or.inr h
  generalize va_A [(o, .inr (0, [.ref b, .ref a])), (b, .inr (1, [.ref b0, .int (nI h)])), (b0, .inl (cBy g, 60, .inl f))] s.heap.size = A at hD hS hA ⊢
  have hP : va_P g.1 classes [(o, .inr (0, [.ref b, .ref a])), (b, .inr (1, [.ref b0, .int (nI h)])), (b0, .inl (cBy g, 60, .inl f))] s.heap := hP
  have hD : va_D A [(o, .inr (0, [.ref b, .ref a])), (b, .inr (1, [.ref b0, .int (nI h)])), (b0, .inl (cBy g, 60, .inl f))] := hD
  have hl := lv_entry ([.ref o, .long v, .int j0]) (n := 5) (Nat.le_of_ble_eq_true rfl)
  rw [lg_entry_eq]
  generalize (lg_sl ([.ref o, .long v, .int j0]) ++ List.replicate (5 - (lg_sl ([.ref o, .long v, .int j0])).length) Slot.unset).toArray = ls at hl ⊢
  have hl : lv_has ls 5 [(0, .ref o), (1, .long v), (3, .int j0)] := hl
  have hh := hH.1
  rcases putN_in (p := j0) hH.1 with ⟨e0, hbad⟩ | ⟨h1, h8, h60, ep⟩
  · rw [e0]
    refine lv_iload_n hx hb d_RN_put_0 rfl (lv_at hl 2 rfl) ?_
    refine lv_iconst (v := 1) hx hb d_RN_put_1 (by decide) ?_
    refine lv_icmp_lt (tgt := 25) hx hb d_RN_put_2 (by decide) (fun c1 => ?_) (fun c1 => ?_)
    · refine lv_iconst (v := 0) hx hb d_RN_put_25 (by decide) ?_
      exact W.zret (v := 0) hx hb hr (rfl) (fun t9 ht9 hW9 => ⟨⟨_, f, rfl, ⟨rfl, put_bad hf v⟩, by rw [ht9]; exact hP, hD⟩, hS.F ht9⟩) hS.2.2 d_RN_put_26
    · refine lv_iload_n hx hb d_RN_put_5 rfl (lv_at hl 2 rfl) ?_
      refine lv_bipush (v := 8) hx hb d_RN_put_6 (by decide) ?_
      refine lv_icmp_gt (tgt := 25) hx hb d_RN_put_8 (by decide) (fun c2 => ?_) (fun c2 => ?_)
      · refine lv_iconst (v := 0) hx hb d_RN_put_25 (by decide) ?_
        exact W.zret (v := 0) hx hb hr (rfl) (fun t9 ht9 hW9 => ⟨⟨_, f, rfl, ⟨rfl, put_bad hf v⟩, by rw [ht9]; exact hP, hD⟩, hS.F ht9⟩) hS.2.2 d_RN_put_26
      · refine lv_aload_n hx hb d_RN_put_11 rfl (lv_at hl 0 rfl) ?_
        refine va_get (D := g.1) (ci := 0) (v := .ref b) (C := R_RN) (T := F_RN) (N := 2) hx hb hc i_RN hown hK hP 0 rfl rfl 0 (by decide) (hc _ kf_RN_10) (fun _ h9 => h9) rfl d_RN_put_12 ?_
        refine va_getN (D := g.1) (ci := 1) (v := .int (nI h)) (C := R_Hand) (T := F_Hand) (N := 2) hx hb hc i_Hand hown hK hP 1 rfl rfl 1 (by decide) (nf_RN_23 hN) (fun _ h9 => h9) rfl d_RN_put_15 ?_
        refine lv_iload_n hx hb d_RN_put_18 rfl (lv_at hl 2 rfl) ?_
        refine lv_iadd hx hb d_RN_put_19 ?_
        refine lv_bipush (v := 60) hx hb d_RN_put_20 (by decide) ?_
        refine lv_icmp_le (tgt := 27) hx hb d_RN_put_22 (by decide) (fun c3 => ?_) (fun c3 => ?_)
        · rcases hbad with q | q | q
          · exact absurd q c1
          · exact absurd q c2
          · exact absurd q (Int32.not_lt.mpr c3)
        · refine lv_iconst (v := 0) hx hb d_RN_put_25 (by decide) ?_
          exact W.zret (v := 0) hx hb hr (rfl) (fun t9 ht9 hW9 => ⟨⟨_, f, rfl, ⟨rfl, put_bad hf v⟩, by rw [ht9]; exact hP, hD⟩, hS.F ht9⟩) hS.2.2 d_RN_put_26
  · generalize putN h j0 = j at *
    subst ep
    refine lv_iload_n hx hb d_RN_put_0 rfl (lv_at hl 2 rfl) ?_
    refine lv_iconst (v := 1) hx hb d_RN_put_1 (by decide) ?_
    refine lv_icmp_lt (tgt := 25) hx hb d_RN_put_2 (by decide) (fun c1 => ?_) (fun c1 => ?_)
    · exact absurd ((nI_ltI (a := j) (b := 1) (by omega) (by decide)).mp c1) (by omega)
    · refine lv_iload_n hx hb d_RN_put_5 rfl (lv_at hl 2 rfl) ?_
      refine lv_bipush (v := 8) hx hb d_RN_put_6 (by decide) ?_
      refine lv_icmp_gt (tgt := 25) hx hb d_RN_put_8 (by decide) (fun c2 => ?_) (fun c2 => ?_)
      · exact absurd ((nI_ltI (a := 8) (b := j) (by decide) (by omega)).mp c2) (by omega)
      · refine lv_aload_n hx hb d_RN_put_11 rfl (lv_at hl 0 rfl) ?_
        refine va_get (D := g.1) (ci := 0) (v := .ref b) (C := R_RN) (T := F_RN) (N := 2) hx hb hc i_RN hown hK hP 0 rfl rfl 0 (by decide) (hc _ kf_RN_10) (fun _ h9 => h9) rfl d_RN_put_12 ?_
        refine va_getN (D := g.1) (ci := 1) (v := .int (nI h)) (C := R_Hand) (T := F_Hand) (N := 2) hx hb hc i_Hand hown hK hP 1 rfl rfl 1 (by decide) (nf_RN_23 hN) (fun _ h9 => h9) rfl d_RN_put_15 ?_
        refine lv_iload_n hx hb d_RN_put_18 rfl (lv_at hl 2 rfl) ?_
        refine lv_iadd hx hb d_RN_put_19 ?_
        refine x_top (y := nI (h + j)) (nI_add h j) ?_
        refine lv_bipush (v := 60) hx hb d_RN_put_20 (by decide) ?_
        refine lv_icmp_le (tgt := 27) hx hb d_RN_put_22 (by decide) (fun c3 => ?_) (fun c3 => ?_)
        · refine lv_iload_n hx hb d_RN_put_27 rfl (lv_at hl 2 rfl) ?_
          refine lv_iconst (v := 1) hx hb d_RN_put_28 (by decide) ?_
          refine lv_isub hx hb d_RN_put_29 ?_
          refine lv_istore (lv' := [(4, .int ((nI j) - 1)), (0, .ref o), (1, .long v), (3, .int (nI j))]) hx hb d_RN_put_30 hl (by decide) rfl (fun ls hl => ?_)
          refine x_loop (σ := Nat) (fun x => x) (fun x H1 locs1 ls1 => x ≤ j ∧ (∃ f1 : Nat → Int32, (∀ i, i < h + (j - x) → f1 i = sb_b (putH h nb v j i)) ∧ va_P g.1 classes [(o, .inr (0, [.ref b, .ref a])), (b, .inr (1, [.ref b0, .int (nI (h + (j - x)))])), (b0, .inl (cBy g, 60, .inl f1))] H1 ∧ va_D A [(o, .inr (0, [.ref b, .ref a])), (b, .inr (1, [.ref b0, .int (nI (h + (j - x)))])), (b0, .inl (cBy g, 60, .inl f1))]) ∧ va_S A s.heap H1 locs1 ∧ lv_has ls1 5 [(0, .ref o), (1, .long v), (3, .int (nI j)), (4, .int (nI x - 1))]) ?_ j ⟨Nat.le_refl _, ⟨f, ?_, ?_, ?_⟩, hS, lv_sub hl [1, 2, 3, 0] rfl⟩
          · rintro x H locs ls ⟨hxj, ⟨f1, hf1, hP, hD⟩, hS, hl⟩ ih
            cases x
            · refine lv_iload hx hb d_RN_put_32 (lv_at hl 3 rfl) ?_
              refine lv_if_lt (tgt := 80) hx hb d_RN_put_34 (by decide) (fun c4 => ?_) (fun c4 => ?_)
              · refine lv_iconst (v := 1) hx hb d_RN_put_80 (by decide) ?_
                exact W.zret (v := 1) hx hb hr (rfl) (fun t9 ht9 hW9 => ⟨⟨_, f1, rfl, ⟨(if_neg (by omega)).symm, hf1⟩, by rw [ht9]; exact hP, hD⟩, hS.F ht9⟩) hS.2.2 d_RN_put_81
              · exact absurd (show nI 0 - 1 < 0 by decide) c4
            · rename_i k
              rw [nI_pred] at hl
              refine lv_iload hx hb d_RN_put_32 (lv_at hl 3 rfl) ?_
              refine lv_if_lt (tgt := 80) hx hb d_RN_put_34 (by decide) (fun c4 => ?_) (fun c4 => ?_)
              · exact absurd c4 (nI_pos (by omega))
              · refine lv_aload_n hx hb d_RN_put_37 rfl (lv_at hl 0 rfl) ?_
                refine va_get (D := g.1) (ci := 0) (v := .ref b) (C := R_RN) (T := F_RN) (N := 2) hx hb hc i_RN hown hK hP 0 rfl rfl 0 (by decide) (hc _ kf_RN_10) (fun _ h9 => h9) rfl d_RN_put_38 ?_
                refine va_getN (D := g.1) (ci := 1) (v := .ref b0) (C := R_Hand) (T := F_Hand) (N := 2) hx hb hc i_Hand hown hK hP 1 rfl rfl 0 (by decide) (nf_RN_27 hN) (fun _ h9 => h9) rfl d_RN_put_41 ?_
                refine lv_aload_n hx hb d_RN_put_44 rfl (lv_at hl 0 rfl) ?_
                refine va_get (D := g.1) (ci := 0) (v := .ref b) (C := R_RN) (T := F_RN) (N := 2) hx hb hc i_RN hown hK hP 0 rfl rfl 0 (by decide) (hc _ kf_RN_10) (fun _ h9 => h9) rfl d_RN_put_45 ?_
                refine va_getN (D := g.1) (ci := 1) (v := .int (nI (h + (j - (k + 1))))) (C := R_Hand) (T := F_Hand) (N := 2) hx hb hc i_Hand hown hK hP 1 rfl rfl 1 (by decide) (nf_RN_23 hN) (fun _ h9 => h9) rfl d_RN_put_48 ?_
                refine lv_lload_n hx hb d_RN_put_51 rfl (lv_at hl 1 rfl) ?_
                refine lv_bipush (v := 8) hx hb d_RN_put_52 (by decide) ?_
                refine lv_iload hx hb d_RN_put_54 (lv_at hl 3 rfl) ?_
                refine lv_imul hx hb d_RN_put_56 ?_
                refine x_top (y := nI (8 * k)) (pk_mul 8 k) ?_
                refine lv_lshr (v := v >>> ((nI (8 * k)).toInt64 &&& 63)) hx hb d_RN_put_57 rfl ?_
                refine lv_l2i (v := (v >>> ((nI (8 * k)).toInt64 &&& 63)).toInt32) hx hb d_RN_put_58 rfl ?_
                refine lv_i2b (v := ((v >>> ((nI (8 * k)).toInt64 &&& 63)).toInt32).toInt8.toInt32) hx hb d_RN_put_59 rfl ?_
                refine x_top (y := sb_b (vb v k)) (put_byte v (by omega)) ?_
                refine x_bast hx hb hK hP hD hS 2 rfl (k := (h + (j - (k + 1)))) (by omega) (by decide) (y := sb_b (vb v k)) (pk_vb _) d_RN_put_60 (fun H locs hP hD hS => ?_)
                have hP : va_P g.1 classes [(o, .inr (0, [.ref b, .ref a])), (b, .inr (1, [.ref b0, .int (nI (h + (j - (k + 1))))])), (b0, .inl (cBy g, 60, .inl (upd f1 (h + (j - (k + 1))) (sb_b (vb v k)))))] H := hP
                have hD : va_D A [(o, .inr (0, [.ref b, .ref a])), (b, .inr (1, [.ref b0, .int (nI (h + (j - (k + 1))))])), (b0, .inl (cBy g, 60, .inl (upd f1 (h + (j - (k + 1))) (sb_b (vb v k)))))] := hD
                refine lv_aload_n hx hb d_RN_put_61 rfl (lv_at hl 0 rfl) ?_
                refine va_get (D := g.1) (ci := 0) (v := .ref b) (C := R_RN) (T := F_RN) (N := 2) hx hb hc i_RN hown hK hP 0 rfl rfl 0 (by decide) (hc _ kf_RN_10) (fun _ h9 => h9) rfl d_RN_put_62 ?_
                refine lv_dup hx hb d_RN_put_65 rfl ?_
                refine va_getN (D := g.1) (ci := 1) (v := .int (nI (h + (j - (k + 1))))) (C := R_Hand) (T := F_Hand) (N := 2) hx hb hc i_Hand hown hK hP 1 rfl rfl 1 (by decide) (nf_RN_23 hN) (fun _ h9 => h9) rfl d_RN_put_66 ?_
                refine lv_iconst (v := 1) hx hb d_RN_put_69 (by decide) ?_
                refine lv_iadd hx hb d_RN_put_70 ?_
                refine x_top (y := nI (h + (j - k))) ((nI_1 _).trans (by congr 1; omega)) ?_
                refine va_putN (D := g.1) (ci := 1) (v := .int (nI (h + (j - k)))) (ty := .int) (C := R_Hand) (T := F_Hand) (N := 2) hx hb hc i_Hand t_Hand t_Hand_ok n_Hand hown hK hP hD hS 1 rfl rfl 1 (by decide) (nf_RN_23 hN) (fun _ h9 => h9) rfl (by decide +kernel) rfl rfl (Nat.le_of_ble_eq_true rfl) d_RN_put_71 (fun H locs hP hD hS => ?_)
                have hP : va_P g.1 classes [(o, .inr (0, [.ref b, .ref a])), (b, .inr (1, [.ref b0, .int (nI (h + (j - k)))])), (b0, .inl (cBy g, 60, .inl (upd f1 (h + (j - (k + 1))) (sb_b (vb v k)))))] H := hP
                have hD : va_D A [(o, .inr (0, [.ref b, .ref a])), (b, .inr (1, [.ref b0, .int (nI (h + (j - k)))])), (b0, .inl (cBy g, 60, .inl (upd f1 (h + (j - (k + 1))) (sb_b (vb v k)))))] := hD
                refine lv_iinc (v := nI k - 1) (lv' := [(4, .int (nI k - 1)), (0, .ref o), (1, .long v), (3, .int (nI j))]) hx hb d_RN_put_74 hl (k := 3) rfl (dec1 _) (by decide) rfl (fun ls hl => ?_)
                refine lv_goto (tgt := 32) hx hb d_RN_put_77 (by decide) ?_
                exact ih k H locs ls ⟨by omega, ⟨_, put_step hxj hf1, hP, hD⟩, hS, lv_sub hl [1, 2, 3, 0] rfl⟩ (Nat.lt_succ_self _)
          · intro i hi
            unfold putH
            rw [if_pos (by omega)]
            exact hf i (by omega)
          · rw [Nat.sub_self]
            exact hP
          · rw [Nat.sub_self]
            exact hD
        · exact absurd ((nI_leI (a := h + j) (b := 60) (by omega) (by decide)).mpr h60) c3
set_option maxHeartbeats 4000000 in
set_option maxRecDepth 100000 in
/-- give(), of the desk -/
theorem c_RN_give (l : Launch) (g : GT) (sz : Nat) (o a a0 a1 a2 a3 a4 a5 b b0 : Nat) (sv vv : Int32) (fb bg fg fr sl f : Nat → Int32) (ms : Nat → Int64) (V : AS) (Bd h : Nat) (nb : Nat → Nat) (hV : AOk V Bd) (hBd : Bd < 2 ^ 30) (hH : HOk h nb) (hf : ∀ i, i < h → f i = sb_b (nb i)) (hI : MInv V fb bg fg fr sl ms sv vv) (pl : Option Nat) (hp : PlIs V h nb pl) : Met l y_RN_give w_RN_give ({ frames := 4, cells := 0, slots := 0, locals := 90 } : Room) (PcW [.ref o] sz g [(o, .inr (0, [.ref b, .ref a])), (b, .inr (1, [.ref b0, .int (nI h)])), (b0, .inl (cBy g, 60, .inl f)), (a, .inr (2, [.ref a0, .ref a1, .ref a2, .ref a3, .ref a4, .ref a5, .int sv, .int vv])), (a0, .inl (cBy g, 12000, .inl fb)), (a1, .inl (cIn g, 201, .inl bg)), (a2, .inl (cIn g, 200, .inl fg)), (a3, .inl (cIn g, 200, .inl fr)), (a4, .inl (cSh g, 512, .inl sl)), (a5, .inl (cLo g, 4, .inr (.inl ms)))]) (va_Qi (fun (r : Int32) (u : (Nat → Int32) × (Nat → Int32) × (Nat → Int32) × (Nat → Int32) × (Nat → Int32) × (Nat → Int64) × Int32 × Int32) => (r = if h = 0 then -3 else giveR V h nb pl) ∧ MInv (if h = 0 then V else giveA V h nb pl) u.1 u.2.1 u.2.2.1 u.2.2.2.1 u.2.2.2.2.1 u.2.2.2.2.2.1 u.2.2.2.2.2.2.1 u.2.2.2.2.2.2.2) (BW g (va_A [(o, .inr (0, [.ref b, .ref a])), (b, .inr (1, [.ref b0, .int (nI h)])), (b0, .inl (cBy g, 60, .inl f)), (a, .inr (2, [.ref a0, .ref a1, .ref a2, .ref a3, .ref a4, .ref a5, .int sv, .int vv])), (a0, .inl (cBy g, 12000, .inl fb)), (a1, .inl (cIn g, 201, .inl bg)), (a2, .inl (cIn g, 200, .inl fg)), (a3, .inl (cIn g, 200, .inl fr)), (a4, .inl (cSh g, 512, .inl sl)), (a5, .inl (cLo g, 4, .inr (.inl ms)))] sz) (fun u : (Nat → Int32) × (Nat → Int32) × (Nat → Int32) × (Nat → Int32) × (Nat → Int32) × (Nat → Int64) × Int32 × Int32 => [(o, .inr (0, [.ref b, .ref a])), (b, .inr (1, [.ref b0, .int 0])), (b0, .inl (cBy g, 60, .inl f)), (a, .inr (2, [.ref a0, .ref a1, .ref a2, .ref a3, .ref a4, .ref a5, .int u.2.2.2.2.2.2.1, .int u.2.2.2.2.2.2.2])), (a0, .inl (cBy g, 12000, .inl u.1)), (a1, .inl (cIn g, 201, .inl u.2.1)), (a2, .inl (cIn g, 200, .inl u.2.2.1)), (a3, .inl (cIn g, 200, .inl u.2.2.2.1)), (a4, .inl (cSh g, 512, .inl u.2.2.2.2.1)), (a5, .inl (cLo g, 4, .inr (.inl u.2.2.2.2.2.1)))])) (va_A [(o, .inr (0, [.ref b, .ref a])), (b, .inr (1, [.ref b0, .int (nI h)])), (b0, .inl (cBy g, 60, .inl f)), (a, .inr (2, [.ref a0, .ref a1, .ref a2, .ref a3, .ref a4, .ref a5, .int sv, .int vv])), (a0, .inl (cBy g, 12000, .inl fb)), (a1, .inl (cIn g, 201, .inl bg)), (a2, .inl (cIn g, 200, .inl fg)), (a3, .inl (cIn g, 200, .inl fr)), (a4, .inl (cSh g, 512, .inl sl)), (a5, .inl (cLo g, 4, .inr (.inl ms)))] sz)) 0 0 (va_A [(o, .inr (0, [.ref b, .ref a])), (b, .inr (1, [.ref b0, .int (nI h)])), (b0, .inl (cBy g, 60, .inl f)), (a, .inr (2, [.ref a0, .ref a1, .ref a2, .ref a3, .ref a4, .ref a5, .int sv, .int vv])), (a0, .inl (cBy g, 12000, .inl fb)), (a1, .inl (cIn g, 201, .inl bg)), (a2, .inl (cIn g, 200, .inl fg)), (a3, .inl (cIn g, 200, .inl fr)), (a4, .inl (cSh g, 512, .inl sl)), (a5, .inl (cLo g, 4, .inr (.inl ms)))] sz) := by
  refine Met.ofW (cc := b_RN_give) (maxL := 2) (ret := (some .int)) (by decide) rfl ?_
  intro p e s m args below meth c s₁ B hml hv
  obtain ⟨rfl, hsz, hP, hK, hN, hD⟩ := hv
  have hx := B.exec
  have hb := B.bytes
  have hr := B.returns
  have hc : ∀ w ∈ cmn, w.before ([.ref o] : List Value).toArray s = true := fun w h => atoms_spec (ws := w_RN_give) B.pre w (List.mem_cons_of_mem _ h)
  have hown : s.vm.findClass R_RN = some m.cls := findClass_of_methodNamed B.named
  have hlocks := B.notSynchronized
  subst hsz
  have hD := hD.self (sz := s.heap.size)
  have hS : va_S (va_A [(o, .inr (0, [.ref b, .ref a])), (b, .inr (1, [.ref b0, .int (nI h)])), (b0, .inl (cBy g, 60, .inl f)), (a, .inr (2, [.ref a0, .ref a1, .ref a2, .ref a3, .ref a4, .ref a5, .int sv, .int vv])), (a0, .inl (cBy g, 12000, .inl fb)), (a1, .inl (cIn g, 201, .inl bg)), (a2, .inl (cIn g, 200, .inl fg)), (a3, .inl (cIn g, 200, .inl fr)), (a4, .inl (cSh g, 512, .inl sl)), (a5, .inl (cLo g, 4, .inr (.inl ms)))] s.heap.size) s.heap s.heap [] := va_S.rf
  have hA : ∀ q : Nat, s.heap.size ≤ q → va_A [(o, .inr (0, [.ref b, .ref a])), (b, .inr (1, [.ref b0, .int (nI h)])), (b0, .inl (cBy g, 60, .inl f)), (a, .inr (2, [.ref a0, .ref a1, .ref a2, .ref a3, .ref a4, .ref a5, .int sv, .int vv])), (a0, .inl (cBy g, 12000, .inl fb)), (a1, .inl (cIn g, 201, .inl bg)), (a2, .inl (cIn g, 200, .inl fg)), (a3, .inl (cIn g, 200, .inl fr)), (a4, .inl (cSh g, 512, .inl sl)), (a5, .inl (cLo g, 4, .inr (.inl ms)))] s.heap.size q := fun q h => Or.inr h
  generalize va_A [(o, .inr (0, [.ref b, .ref a])), (b, .inr (1, [.ref b0, .int (nI h)])), (b0, .inl (cBy g, 60, .inl f)), (a, .inr (2, [.ref a0, .ref a1, .ref a2, .ref a3, .ref a4, .ref a5, .int sv, .int vv])), (a0, .inl (cBy g, 12000, .inl fb)), (a1, .inl (cIn g, 201, .inl bg)), (a2, .inl (cIn g, 200, .inl fg)), (a3, .inl (cIn g, 200, .inl fr)), (a4, .inl (cSh g, 512, .inl sl)), (a5, .inl (cLo g, 4, .inr (.inl ms)))] s.heap.size = A at hD hS hA ⊢
  have hP : va_P g.1 classes [(o, .inr (0, [.ref b, .ref a])), (b, .inr (1, [.ref b0, .int (nI h)])), (b0, .inl (cBy g, 60, .inl f)), (a, .inr (2, [.ref a0, .ref a1, .ref a2, .ref a3, .ref a4, .ref a5, .int sv, .int vv])), (a0, .inl (cBy g, 12000, .inl fb)), (a1, .inl (cIn g, 201, .inl bg)), (a2, .inl (cIn g, 200, .inl fg)), (a3, .inl (cIn g, 200, .inl fr)), (a4, .inl (cSh g, 512, .inl sl)), (a5, .inl (cLo g, 4, .inr (.inl ms)))] s.heap := hP
  have hD : va_D A [(o, .inr (0, [.ref b, .ref a])), (b, .inr (1, [.ref b0, .int (nI h)])), (b0, .inl (cBy g, 60, .inl f)), (a, .inr (2, [.ref a0, .ref a1, .ref a2, .ref a3, .ref a4, .ref a5, .int sv, .int vv])), (a0, .inl (cBy g, 12000, .inl fb)), (a1, .inl (cIn g, 201, .inl bg)), (a2, .inl (cIn g, 200, .inl fg)), (a3, .inl (cIn g, 200, .inl fr)), (a4, .inl (cSh g, 512, .inl sl)), (a5, .inl (cLo g, 4, .inr (.inl ms)))] := hD
  have hl := lv_entry ([.ref o]) (n := 2) (Nat.le_of_ble_eq_true rfl)
  rw [lg_entry_eq]
  generalize (lg_sl ([.ref o]) ++ List.replicate (2 - (lg_sl ([.ref o])).length) Slot.unset).toArray = ls at hl ⊢
  have hl : lv_has ls 2 [(0, .ref o)] := hl
  have hh := hH.1
  refine lv_aload_n hx hb d_RN_give_0 rfl (lv_at hl 0 rfl) ?_
  refine va_get (D := g.1) (ci := 0) (v := .ref b) (C := R_RN) (T := F_RN) (N := 2) hx hb hc i_RN hown hK hP 0 rfl rfl 0 (by decide) (hc _ kf_RN_10) (fun _ h9 => h9) rfl d_RN_give_1 ?_
  refine va_getN (D := g.1) (ci := 1) (v := .int (nI h)) (C := R_Hand) (T := F_Hand) (N := 2) hx hb hc i_Hand hown hK hP 1 rfl rfl 1 (by decide) (nf_RN_23 hN) (fun _ h9 => h9) rfl d_RN_give_4 ?_
  refine lv_if_ne (tgt := 13) hx hb d_RN_give_7 (by decide) (fun c1 => ?_) (fun c1 => ?_)
  · have c1 : ¬ h = 0 := fun z => c1 (by rw [z]; rfl)
    rw [if_neg c1, if_neg c1]
    refine lv_aload_n hx hb d_RN_give_13 rfl (lv_at hl 0 rfl) ?_
    refine va_get (D := g.1) (ci := 0) (v := .ref a) (C := R_RN) (T := F_RN) (N := 2) hx hb hc i_RN hown hK hP 0 rfl rfl 1 (by decide) (hc _ kf_RN_19) (fun _ h9 => h9) rfl d_RN_give_14 ?_
    refine lv_aload_n hx hb d_RN_give_17 rfl (lv_at hl 0 rfl) ?_
    refine va_get (D := g.1) (ci := 0) (v := .ref b) (C := R_RN) (T := F_RN) (N := 2) hx hb hc i_RN hown hK hP 0 rfl rfl 0 (by decide) (hc _ kf_RN_10) (fun _ h9 => h9) rfl d_RN_give_18 ?_
    refine x_cmi (wr := [(o, .inr (0, [.ref b, .ref a]))]) (x_runV (As := [.ref b]) (rest := []) ⟨hx, hb, hml, hown, hc⟩ (c_Marks_give l g _ a a0 a1 a2 a3 a4 a5 b b0 sv vv fb bg fg fr sl f ms V Bd h nb hV hBd hH (by omega) hf hI pl hp) (cwV 1 hc (good_V km_RN_31 ki_Marks_give ks_Marks_give kn_Marks kc_Marks_give) rfl rfl rfl (by decide +kernel) ⟨Nat.le_of_ble_eq_true rfl, Nat.le_of_ble_eq_true rfl⟩) hP hD hK hN [3, 4, 5, 6, 7, 8, 9, 1, 2] (by decide) rfl (va_recv hK hP (ci := 2) (q0 := 3) rfl rfl) rfl hl.1 rfl (Nat.le_of_ble_eq_true rfl) d_RN_give_21 ⟨Nat.le_of_ble_eq_true rfl, Nat.le_of_ble_eq_true rfl⟩) hP hD hS hA [3, 4, 5, 6, 7, 8, 9, 1, 2] [0] rfl rfl (by decide) (by decide) (fun r0 u H locs hw hP hD hS => ?_)
    obtain ⟨fb1, bg1, fg1, fr1, sl1, ms1, sv1, vv1⟩ := u
    have hP := hP.sub (ws' := [(o, .inr (0, [.ref b, .ref a])), (b, .inr (1, [.ref b0, .int (nI h)])), (b0, .inl (cBy g, 60, .inl f)), (a, .inr (2, [.ref a0, .ref a1, .ref a2, .ref a3, .ref a4, .ref a5, .int sv1, .int vv1])), (a0, .inl (cBy g, 12000, .inl fb1)), (a1, .inl (cIn g, 201, .inl bg1)), (a2, .inl (cIn g, 200, .inl fg1)), (a3, .inl (cIn g, 200, .inl fr1)), (a4, .inl (cSh g, 512, .inl sl1)), (a5, .inl (cLo g, 4, .inr (.inl ms1)))]) [0, 8, 9, 1, 2, 3, 4, 5, 6, 7] rfl
    have hD := hD.sub (ws' := [(o, .inr (0, [.ref b, .ref a])), (b, .inr (1, [.ref b0, .int (nI h)])), (b0, .inl (cBy g, 60, .inl f)), (a, .inr (2, [.ref a0, .ref a1, .ref a2, .ref a3, .ref a4, .ref a5, .int sv1, .int vv1])), (a0, .inl (cBy g, 12000, .inl fb1)), (a1, .inl (cIn g, 201, .inl bg1)), (a2, .inl (cIn g, 200, .inl fg1)), (a3, .inl (cIn g, 200, .inl fr1)), (a4, .inl (cSh g, 512, .inl sl1)), (a5, .inl (cLo g, 4, .inr (.inl ms1)))]) [0, 8, 9, 1, 2, 3, 4, 5, 6, 7] (by decide) rfl
    refine lv_istore_n (lv' := [(1, .int r0), (0, .ref o)]) hx hb d_RN_give_24 rfl hl (by decide) rfl (fun ls hl => ?_)
    refine lv_aload_n hx hb d_RN_give_25 rfl (lv_at hl 1 rfl) ?_
    refine va_get (D := g.1) (ci := 0) (v := .ref b) (C := R_RN) (T := F_RN) (N := 2) hx hb hc i_RN hown hK hP 0 rfl rfl 0 (by decide) (hc _ kf_RN_10) (fun _ h9 => h9) rfl d_RN_give_26 ?_
    refine lv_iconst (v := 0) hx hb d_RN_give_29 (by decide) ?_
    refine va_putN (D := g.1) (ci := 1) (v := .int 0) (ty := .int) (C := R_Hand) (T := F_Hand) (N := 2) hx hb hc i_Hand t_Hand t_Hand_ok n_Hand hown hK hP hD hS 1 rfl rfl 1 (by decide) (nf_RN_23 hN) (fun _ h9 => h9) rfl (by decide +kernel) rfl rfl (Nat.le_of_ble_eq_true rfl) d_RN_give_30 (fun H locs hP hD hS => ?_)
    have hP : va_P g.1 classes [(o, .inr (0, [.ref b, .ref a])), (b, .inr (1, [.ref b0, .int 0])), (b0, .inl (cBy g, 60, .inl f)), (a, .inr (2, [.ref a0, .ref a1, .ref a2, .ref a3, .ref a4, .ref a5, .int sv1, .int vv1])), (a0, .inl (cBy g, 12000, .inl fb1)), (a1, .inl (cIn g, 201, .inl bg1)), (a2, .inl (cIn g, 200, .inl fg1)), (a3, .inl (cIn g, 200, .inl fr1)), (a4, .inl (cSh g, 512, .inl sl1)), (a5, .inl (cLo g, 4, .inr (.inl ms1)))] H := hP
    have hD : va_D A [(o, .inr (0, [.ref b, .ref a])), (b, .inr (1, [.ref b0, .int 0])), (b0, .inl (cBy g, 60, .inl f)), (a, .inr (2, [.ref a0, .ref a1, .ref a2, .ref a3, .ref a4, .ref a5, .int sv1, .int vv1])), (a0, .inl (cBy g, 12000, .inl fb1)), (a1, .inl (cIn g, 201, .inl bg1)), (a2, .inl (cIn g, 200, .inl fg1)), (a3, .inl (cIn g, 200, .inl fr1)), (a4, .inl (cSh g, 512, .inl sl1)), (a5, .inl (cLo g, 4, .inr (.inl ms1)))] := hD
    refine lv_iload_n hx hb d_RN_give_33 rfl (lv_at hl 0 rfl) ?_
    exact W.iret (v := r0) hx hb hr (fun t9 ht9 hW9 => ⟨⟨_, (fb1, bg1, fg1, fr1, sl1, ms1, sv1, vv1), rfl, hw, by rw [ht9]; exact hP, hD⟩, hS.F ht9⟩) hS.2.2 d_RN_give_34
  · have c1 : h = 0 := (nI_eq (a := h) (b := 0) (by omega) (by decide)).mp c1
    subst c1
    refine lv_bipush (v := (-3)) hx hb d_RN_give_10 (by decide) ?_
    exact W.iret (v := (-3)) hx hb hr (fun t9 ht9 hW9 => ⟨⟨_, (fb, bg, fg, fr, sl, ms, sv, vv), rfl, ⟨rfl, hI⟩, by rw [ht9]; exact hP, hD⟩, hS.F ht9⟩) hS.2.2 d_RN_give_12
set_option maxHeartbeats 4000000 in
set_option maxRecDepth 100000 in
/-- refer(), of the desk -/
theorem c_RN_refer (l : Launch) (g : GT) (sz : Nat) (o a a0 a1 a2 a3 a4 a5 b b0 : Nat) (sv vv : Int32) (fb bg fg fr sl f : Nat → Int32) (ms : Nat → Int64) (V : AS) (Bd h : Nat) (nb : Nat → Nat) (hV : AOk V Bd) (hBd : Bd < 2 ^ 30) (hH : HOk h nb) (hf : ∀ i, i < h → f i = sb_b (nb i)) (hI : MInv V fb bg fg fr sl ms sv vv) (pl : Option Nat) (hp : PlIs V h nb pl) : Met l y_RN_refer w_RN_refer ({ frames := 4, cells := 0, slots := 0, locals := 90 } : Room) (PcW [.ref o] sz g [(o, .inr (0, [.ref b, .ref a])), (b, .inr (1, [.ref b0, .int (nI h)])), (b0, .inl (cBy g, 60, .inl f)), (a, .inr (2, [.ref a0, .ref a1, .ref a2, .ref a3, .ref a4, .ref a5, .int sv, .int vv])), (a0, .inl (cBy g, 12000, .inl fb)), (a1, .inl (cIn g, 201, .inl bg)), (a2, .inl (cIn g, 200, .inl fg)), (a3, .inl (cIn g, 200, .inl fr)), (a4, .inl (cSh g, 512, .inl sl)), (a5, .inl (cLo g, 4, .inr (.inl ms)))]) (va_Qi (fun (r : Int32) (u : (Nat → Int32) × (Nat → Int32) × (Nat → Int32) × (Nat → Int32) × (Nat → Int32) × (Nat → Int64) × Int32 × Int32) => (r = if h = 0 then -3 else kR (kK V pl)) ∧ MInv (if h = 0 then V else referA V h nb pl) u.1 u.2.1 u.2.2.1 u.2.2.2.1 u.2.2.2.2.1 u.2.2.2.2.2.1 u.2.2.2.2.2.2.1 u.2.2.2.2.2.2.2) (BW g (va_A [(o, .inr (0, [.ref b, .ref a])), (b, .inr (1, [.ref b0, .int (nI h)])), (b0, .inl (cBy g, 60, .inl f)), (a, .inr (2, [.ref a0, .ref a1, .ref a2, .ref a3, .ref a4, .ref a5, .int sv, .int vv])), (a0, .inl (cBy g, 12000, .inl fb)), (a1, .inl (cIn g, 201, .inl bg)), (a2, .inl (cIn g, 200, .inl fg)), (a3, .inl (cIn g, 200, .inl fr)), (a4, .inl (cSh g, 512, .inl sl)), (a5, .inl (cLo g, 4, .inr (.inl ms)))] sz) (fun u : (Nat → Int32) × (Nat → Int32) × (Nat → Int32) × (Nat → Int32) × (Nat → Int32) × (Nat → Int64) × Int32 × Int32 => [(o, .inr (0, [.ref b, .ref a])), (b, .inr (1, [.ref b0, .int 0])), (b0, .inl (cBy g, 60, .inl f)), (a, .inr (2, [.ref a0, .ref a1, .ref a2, .ref a3, .ref a4, .ref a5, .int u.2.2.2.2.2.2.1, .int u.2.2.2.2.2.2.2])), (a0, .inl (cBy g, 12000, .inl u.1)), (a1, .inl (cIn g, 201, .inl u.2.1)), (a2, .inl (cIn g, 200, .inl u.2.2.1)), (a3, .inl (cIn g, 200, .inl u.2.2.2.1)), (a4, .inl (cSh g, 512, .inl u.2.2.2.2.1)), (a5, .inl (cLo g, 4, .inr (.inl u.2.2.2.2.2.1)))])) (va_A [(o, .inr (0, [.ref b, .ref a])), (b, .inr (1, [.ref b0, .int (nI h)])), (b0, .inl (cBy g, 60, .inl f)), (a, .inr (2, [.ref a0, .ref a1, .ref a2, .ref a3, .ref a4, .ref a5, .int sv, .int vv])), (a0, .inl (cBy g, 12000, .inl fb)), (a1, .inl (cIn g, 201, .inl bg)), (a2, .inl (cIn g, 200, .inl fg)), (a3, .inl (cIn g, 200, .inl fr)), (a4, .inl (cSh g, 512, .inl sl)), (a5, .inl (cLo g, 4, .inr (.inl ms)))] sz)) 0 0 (va_A [(o, .inr (0, [.ref b, .ref a])), (b, .inr (1, [.ref b0, .int (nI h)])), (b0, .inl (cBy g, 60, .inl f)), (a, .inr (2, [.ref a0, .ref a1, .ref a2, .ref a3, .ref a4, .ref a5, .int sv, .int vv])), (a0, .inl (cBy g, 12000, .inl fb)), (a1, .inl (cIn g, 201, .inl bg)), (a2, .inl (cIn g, 200, .inl fg)), (a3, .inl (cIn g, 200, .inl fr)), (a4, .inl (cSh g, 512, .inl sl)), (a5, .inl (cLo g, 4, .inr (.inl ms)))] sz) := by
  refine Met.ofW (cc := b_RN_refer) (maxL := 2) (ret := (some .int)) (by decide) rfl ?_
  intro p e s m args below meth c s₁ B hml hv
  obtain ⟨rfl, hsz, hP, hK, hN, hD⟩ := hv
  have hx := B.exec
  have hb := B.bytes
  have hr := B.returns
  have hc : ∀ w ∈ cmn, w.before ([.ref o] : List Value).toArray s = true := fun w h => atoms_spec (ws := w_RN_refer) B.pre w (List.mem_cons_of_mem _ h)
  have hown : s.vm.findClass R_RN = some m.cls := findClass_of_methodNamed B.named
  have hlocks := B.notSynchronized
  subst hsz
  have hD := hD.self (sz := s.heap.size)
  have hS : va_S (va_A [(o, .inr (0, [.ref b, .ref a])), (b, .inr (1, [.ref b0, .int (nI h)])), (b0, .inl (cBy g, 60, .inl f)), (a, .inr (2, [.ref a0, .ref a1, .ref a2, .ref a3, .ref a4, .ref a5, .int sv, .int vv])), (a0, .inl (cBy g, 12000, .inl fb)), (a1, .inl (cIn g, 201, .inl bg)), (a2, .inl (cIn g, 200, .inl fg)), (a3, .inl (cIn g, 200, .inl fr)), (a4, .inl (cSh g, 512, .inl sl)), (a5, .inl (cLo g, 4, .inr (.inl ms)))] s.heap.size) s.heap s.heap [] := va_S.rf
  have hA : ∀ q : Nat, s.heap.size ≤ q → va_A [(o, .inr (0, [.ref b, .ref a])), (b, .inr (1, [.ref b0, .int (nI h)])), (b0, .inl (cBy g, 60, .inl f)), (a, .inr (2, [.ref a0, .ref a1, .ref a2, .ref a3, .ref a4, .ref a5, .int sv, .int vv])), (a0, .inl (cBy g, 12000, .inl fb)), (a1, .inl (cIn g, 201, .inl bg)), (a2, .inl (cIn g, 200, .inl fg)), (a3, .inl (cIn g, 200, .inl fr)), (a4, .inl (cSh g, 512, .inl sl)), (a5, .inl (cLo g, 4, .inr (.inl ms)))] s.heap.size q := fun q h => Or.inr h
  generalize va_A [(o, .inr (0, [.ref b, .ref a])), (b, .inr (1, [.ref b0, .int (nI h)])), (b0, .inl (cBy g, 60, .inl f)), (a, .inr (2, [.ref a0, .ref a1, .ref a2, .ref a3, .ref a4, .ref a5, .int sv, .int vv])), (a0, .inl (cBy g, 12000, .inl fb)), (a1, .inl (cIn g, 201, .inl bg)), (a2, .inl (cIn g, 200, .inl fg)), (a3, .inl (cIn g, 200, .inl fr)), (a4, .inl (cSh g, 512, .inl sl)), (a5, .inl (cLo g, 4, .inr (.inl ms)))] s.heap.size = A at hD hS hA ⊢
  have hP : va_P g.1 classes [(o, .inr (0, [.ref b, .ref a])), (b, .inr (1, [.ref b0, .int (nI h)])), (b0, .inl (cBy g, 60, .inl f)), (a, .inr (2, [.ref a0, .ref a1, .ref a2, .ref a3, .ref a4, .ref a5, .int sv, .int vv])), (a0, .inl (cBy g, 12000, .inl fb)), (a1, .inl (cIn g, 201, .inl bg)), (a2, .inl (cIn g, 200, .inl fg)), (a3, .inl (cIn g, 200, .inl fr)), (a4, .inl (cSh g, 512, .inl sl)), (a5, .inl (cLo g, 4, .inr (.inl ms)))] s.heap := hP
  have hD : va_D A [(o, .inr (0, [.ref b, .ref a])), (b, .inr (1, [.ref b0, .int (nI h)])), (b0, .inl (cBy g, 60, .inl f)), (a, .inr (2, [.ref a0, .ref a1, .ref a2, .ref a3, .ref a4, .ref a5, .int sv, .int vv])), (a0, .inl (cBy g, 12000, .inl fb)), (a1, .inl (cIn g, 201, .inl bg)), (a2, .inl (cIn g, 200, .inl fg)), (a3, .inl (cIn g, 200, .inl fr)), (a4, .inl (cSh g, 512, .inl sl)), (a5, .inl (cLo g, 4, .inr (.inl ms)))] := hD
  have hl := lv_entry ([.ref o]) (n := 2) (Nat.le_of_ble_eq_true rfl)
  rw [lg_entry_eq]
  generalize (lg_sl ([.ref o]) ++ List.replicate (2 - (lg_sl ([.ref o])).length) Slot.unset).toArray = ls at hl ⊢
  have hl : lv_has ls 2 [(0, .ref o)] := hl
  have hh := hH.1
  refine lv_aload_n hx hb d_RN_refer_0 rfl (lv_at hl 0 rfl) ?_
  refine va_get (D := g.1) (ci := 0) (v := .ref b) (C := R_RN) (T := F_RN) (N := 2) hx hb hc i_RN hown hK hP 0 rfl rfl 0 (by decide) (hc _ kf_RN_10) (fun _ h9 => h9) rfl d_RN_refer_1 ?_
  refine va_getN (D := g.1) (ci := 1) (v := .int (nI h)) (C := R_Hand) (T := F_Hand) (N := 2) hx hb hc i_Hand hown hK hP 1 rfl rfl 1 (by decide) (nf_RN_23 hN) (fun _ h9 => h9) rfl d_RN_refer_4 ?_
  refine lv_if_ne (tgt := 13) hx hb d_RN_refer_7 (by decide) (fun c1 => ?_) (fun c1 => ?_)
  · have c1 : ¬ h = 0 := fun z => c1 (by rw [z]; rfl)
    rw [if_neg c1, if_neg c1]
    refine lv_aload_n hx hb d_RN_refer_13 rfl (lv_at hl 0 rfl) ?_
    refine va_get (D := g.1) (ci := 0) (v := .ref a) (C := R_RN) (T := F_RN) (N := 2) hx hb hc i_RN hown hK hP 0 rfl rfl 1 (by decide) (hc _ kf_RN_19) (fun _ h9 => h9) rfl d_RN_refer_14 ?_
    refine lv_aload_n hx hb d_RN_refer_17 rfl (lv_at hl 0 rfl) ?_
    refine va_get (D := g.1) (ci := 0) (v := .ref b) (C := R_RN) (T := F_RN) (N := 2) hx hb hc i_RN hown hK hP 0 rfl rfl 0 (by decide) (hc _ kf_RN_10) (fun _ h9 => h9) rfl d_RN_refer_18 ?_
    refine x_cmi (wr := [(o, .inr (0, [.ref b, .ref a]))]) (x_runV (As := [.ref b]) (rest := []) ⟨hx, hb, hml, hown, hc⟩ (c_Marks_refer l g _ a a0 a1 a2 a3 a4 a5 b b0 sv vv fb bg fg fr sl f ms V Bd h nb hV hBd hH (by omega) hf hI pl hp) (cwV 1 hc (good_V km_RN_35 ki_Marks_refer ks_Marks_refer kn_Marks kc_Marks_refer) rfl rfl rfl (by decide +kernel) ⟨Nat.le_of_ble_eq_true rfl, Nat.le_of_ble_eq_true rfl⟩) hP hD hK hN [3, 4, 5, 6, 7, 8, 9, 1, 2] (by decide) rfl (va_recv hK hP (ci := 2) (q0 := 3) rfl rfl) rfl hl.1 rfl (Nat.le_of_ble_eq_true rfl) d_RN_refer_21 ⟨Nat.le_of_ble_eq_true rfl, Nat.le_of_ble_eq_true rfl⟩) hP hD hS hA [3, 4, 5, 6, 7, 8, 9, 1, 2] [0] rfl rfl (by decide) (by decide) (fun r0 u H locs hw hP hD hS => ?_)
    obtain ⟨fb1, bg1, fg1, fr1, sl1, ms1, sv1, vv1⟩ := u
    have hP := hP.sub (ws' := [(o, .inr (0, [.ref b, .ref a])), (b, .inr (1, [.ref b0, .int (nI h)])), (b0, .inl (cBy g, 60, .inl f)), (a, .inr (2, [.ref a0, .ref a1, .ref a2, .ref a3, .ref a4, .ref a5, .int sv1, .int vv1])), (a0, .inl (cBy g, 12000, .inl fb1)), (a1, .inl (cIn g, 201, .inl bg1)), (a2, .inl (cIn g, 200, .inl fg1)), (a3, .inl (cIn g, 200, .inl fr1)), (a4, .inl (cSh g, 512, .inl sl1)), (a5, .inl (cLo g, 4, .inr (.inl ms1)))]) [0, 8, 9, 1, 2, 3, 4, 5, 6, 7] rfl
    have hD := hD.sub (ws' := [(o, .inr (0, [.ref b, .ref a])), (b, .inr (1, [.ref b0, .int (nI h)])), (b0, .inl (cBy g, 60, .inl f)), (a, .inr (2, [.ref a0, .ref a1, .ref a2, .ref a3, .ref a4, .ref a5, .int sv1, .int vv1])), (a0, .inl (cBy g, 12000, .inl fb1)), (a1, .inl (cIn g, 201, .inl bg1)), (a2, .inl (cIn g, 200, .inl fg1)), (a3, .inl (cIn g, 200, .inl fr1)), (a4, .inl (cSh g, 512, .inl sl1)), (a5, .inl (cLo g, 4, .inr (.inl ms1)))]) [0, 8, 9, 1, 2, 3, 4, 5, 6, 7] (by decide) rfl
    refine lv_istore_n (lv' := [(1, .int r0), (0, .ref o)]) hx hb d_RN_refer_24 rfl hl (by decide) rfl (fun ls hl => ?_)
    refine lv_aload_n hx hb d_RN_refer_25 rfl (lv_at hl 1 rfl) ?_
    refine va_get (D := g.1) (ci := 0) (v := .ref b) (C := R_RN) (T := F_RN) (N := 2) hx hb hc i_RN hown hK hP 0 rfl rfl 0 (by decide) (hc _ kf_RN_10) (fun _ h9 => h9) rfl d_RN_refer_26 ?_
    refine lv_iconst (v := 0) hx hb d_RN_refer_29 (by decide) ?_
    refine va_putN (D := g.1) (ci := 1) (v := .int 0) (ty := .int) (C := R_Hand) (T := F_Hand) (N := 2) hx hb hc i_Hand t_Hand t_Hand_ok n_Hand hown hK hP hD hS 1 rfl rfl 1 (by decide) (nf_RN_23 hN) (fun _ h9 => h9) rfl (by decide +kernel) rfl rfl (Nat.le_of_ble_eq_true rfl) d_RN_refer_30 (fun H locs hP hD hS => ?_)
    have hP : va_P g.1 classes [(o, .inr (0, [.ref b, .ref a])), (b, .inr (1, [.ref b0, .int 0])), (b0, .inl (cBy g, 60, .inl f)), (a, .inr (2, [.ref a0, .ref a1, .ref a2, .ref a3, .ref a4, .ref a5, .int sv1, .int vv1])), (a0, .inl (cBy g, 12000, .inl fb1)), (a1, .inl (cIn g, 201, .inl bg1)), (a2, .inl (cIn g, 200, .inl fg1)), (a3, .inl (cIn g, 200, .inl fr1)), (a4, .inl (cSh g, 512, .inl sl1)), (a5, .inl (cLo g, 4, .inr (.inl ms1)))] H := hP
    have hD : va_D A [(o, .inr (0, [.ref b, .ref a])), (b, .inr (1, [.ref b0, .int 0])), (b0, .inl (cBy g, 60, .inl f)), (a, .inr (2, [.ref a0, .ref a1, .ref a2, .ref a3, .ref a4, .ref a5, .int sv1, .int vv1])), (a0, .inl (cBy g, 12000, .inl fb1)), (a1, .inl (cIn g, 201, .inl bg1)), (a2, .inl (cIn g, 200, .inl fg1)), (a3, .inl (cIn g, 200, .inl fr1)), (a4, .inl (cSh g, 512, .inl sl1)), (a5, .inl (cLo g, 4, .inr (.inl ms1)))] := hD
    refine lv_iload_n hx hb d_RN_refer_33 rfl (lv_at hl 0 rfl) ?_
    exact W.iret (v := r0) hx hb hr (fun t9 ht9 hW9 => ⟨⟨_, (fb1, bg1, fg1, fr1, sl1, ms1, sv1, vv1), rfl, hw, by rw [ht9]; exact hP, hD⟩, hS.F ht9⟩) hS.2.2 d_RN_refer_34
  · have c1 : h = 0 := (nI_eq (a := h) (b := 0) (by omega) (by decide)).mp c1
    subst c1
    refine lv_bipush (v := (-3)) hx hb d_RN_refer_10 (by decide) ?_
    exact W.iret (v := (-3)) hx hb hr (fun t9 ht9 hW9 => ⟨⟨_, (fb, bg, fg, fr, sl, ms, sv, vv), rfl, ⟨rfl, hI⟩, by rw [ht9]; exact hP, hD⟩, hS.F ht9⟩) hS.2.2 d_RN_refer_12
set_option maxHeartbeats 4000000 in
set_option maxRecDepth 100000 in
/-- find(), of the desk -/
theorem c_RN_find (l : Launch) (g : GT) (sz : Nat) (o a a0 a1 a2 a3 a4 a5 b b0 : Nat) (sv vv : Int32) (fb bg sl f : Nat → Int32) (V : AS) (Bd h : Nat) (nb : Nat → Nat) (hV : AOk V Bd) (hH : HOk h nb) (hf : ∀ i, i < h → f i = sb_b (nb i)) (hM : MNam V fb bg) (hT : MTab (aN V) (hsA V) sl) (pl : Option Nat) (hp : PlIs V h nb pl) : Met l y_RN_find w_RN_find ({ frames := 3, cells := 0, slots := 0, locals := 67 } : Room) (PcW [.ref o] sz g [(o, .inr (0, [.ref b, .ref a])), (b, .inr (1, [.ref b0, .int (nI h)])), (b0, .inl (cBy g, 60, .inl f)), (a, .inr (2, [.ref a0, .ref a1, .ref a2, .ref a3, .ref a4, .ref a5, .int sv, .int vv])), (a0, .inl (cBy g, 12000, .inl fb)), (a1, .inl (cIn g, 201, .inl bg)), (a4, .inl (cSh g, 512, .inl sl))]) (va_Qi (fun (r : Int32) (_ : Unit) => r = if h = 0 then -1 else fR pl) BR (va_A [] sz)) 0 0 (va_A [] sz) := by
  refine Met.ofW (cc := b_RN_find) (maxL := 1) (ret := (some .int)) (by decide) rfl ?_
  intro p e s m args below meth c s₁ B hml hv
  obtain ⟨rfl, hsz, hP, hK, hN, hD⟩ := hv
  have hx := B.exec
  have hb := B.bytes
  have hr := B.returns
  have hc : ∀ w ∈ cmn, w.before ([.ref o] : List Value).toArray s = true := fun w h => atoms_spec (ws := w_RN_find) B.pre w (List.mem_cons_of_mem _ h)
  have hown : s.vm.findClass R_RN = some m.cls := findClass_of_methodNamed B.named
  have hlocks := B.notSynchronized
  subst hsz
  have hS : va_S (va_A [] s.heap.size) s.heap s.heap [] := va_S.rf
  have hA : ∀ q : Nat, s.heap.size ≤ q → va_A [] s.heap.size q := fun q h => Or.inr h
  generalize va_A [] s.heap.size = A at hS hA ⊢
  have hP : va_P g.1 classes [(o, .inr (0, [.ref b, .ref a])), (b, .inr (1, [.ref b0, .int (nI h)])), (b0, .inl (cBy g, 60, .inl f)), (a, .inr (2, [.ref a0, .ref a1, .ref a2, .ref a3, .ref a4, .ref a5, .int sv, .int vv])), (a0, .inl (cBy g, 12000, .inl fb)), (a1, .inl (cIn g, 201, .inl bg)), (a4, .inl (cSh g, 512, .inl sl))] s.heap := hP
  have hl := lv_entry ([.ref o]) (n := 1) (Nat.le_of_ble_eq_true rfl)
  rw [lg_entry_eq]
  generalize (lg_sl ([.ref o]) ++ List.replicate (1 - (lg_sl ([.ref o])).length) Slot.unset).toArray = ls at hl ⊢
  have hl : lv_has ls 1 [(0, .ref o)] := hl
  have hh := hH.1
  refine lv_aload_n hx hb d_RN_find_0 rfl (lv_at hl 0 rfl) ?_
  refine va_get (D := g.1) (ci := 0) (v := .ref b) (C := R_RN) (T := F_RN) (N := 2) hx hb hc i_RN hown hK hP 0 rfl rfl 0 (by decide) (hc _ kf_RN_10) (fun _ h9 => h9) rfl d_RN_find_1 ?_
  refine va_getN (D := g.1) (ci := 1) (v := .int (nI h)) (C := R_Hand) (T := F_Hand) (N := 2) hx hb hc i_Hand hown hK hP 1 rfl rfl 1 (by decide) (nf_RN_23 hN) (fun _ h9 => h9) rfl d_RN_find_4 ?_
  refine lv_if_ne (tgt := 14) hx hb d_RN_find_7 (by decide) (fun c1 => ?_) (fun c1 => ?_)
  · have c1 : ¬ h = 0 := fun z => c1 (by rw [z]; rfl)
    rw [if_neg c1]
    refine lv_aload_n hx hb d_RN_find_14 rfl (lv_at hl 0 rfl) ?_
    refine va_get (D := g.1) (ci := 0) (v := .ref a) (C := R_RN) (T := F_RN) (N := 2) hx hb hc i_RN hown hK hP 0 rfl rfl 1 (by decide) (hc _ kf_RN_19) (fun _ h9 => h9) rfl d_RN_find_15 ?_
    refine lv_aload_n hx hb d_RN_find_18 rfl (lv_at hl 0 rfl) ?_
    refine va_get (D := g.1) (ci := 0) (v := .ref b) (C := R_RN) (T := F_RN) (N := 2) hx hb hc i_RN hown hK hP 0 rfl rfl 0 (by decide) (hc _ kf_RN_10) (fun _ h9 => h9) rfl d_RN_find_19 ?_
    refine x_cri (x_runV (As := [.ref b]) (rest := []) ⟨hx, hb, hml, hown, hc⟩ (c_Marks_find l g _ a a0 a1 a2 a3 a4 a5 b b0 sv vv fb bg sl f V Bd h nb hV hH hf hM hT pl hp) (cwV 1 hc (good_V km_RN_38 ki_Marks_find ks_Marks_find kn_Marks kc_Marks_find) rfl rfl rfl (by decide +kernel) ⟨Nat.le_of_ble_eq_true rfl, Nat.le_of_ble_eq_true rfl⟩) hP hD hK hN [3, 4, 5, 6, 1, 2] (by decide) rfl (va_recv hK hP (ci := 2) (q0 := 3) rfl rfl) rfl hl.1 rfl (Nat.le_of_ble_eq_true rfl) d_RN_find_22 ⟨Nat.le_of_ble_eq_true rfl, Nat.le_of_ble_eq_true rfl⟩) hP hS hA (fun r0 H locs hw hP hS => ?_)
    exact W.iret (v := r0) hx hb hr (fun t9 ht9 hW9 => ⟨⟨_, (), rfl, hw, trivial⟩, hS.F ht9⟩) hS.2.2 d_RN_find_25
  · have c1 : h = 0 := (nI_eq (a := h) (b := 0) (by omega) (by decide)).mp c1
    rw [if_pos c1]
    refine lv_iconst (v := (-1)) hx hb d_RN_find_10 (by decide) ?_
    refine lv_goto (tgt := 25) hx hb d_RN_find_11 (by decide) ?_
    exact W.iret (v := (-1)) hx hb hr (fun t9 ht9 hW9 => ⟨⟨_, (), rfl, rfl, trivial⟩, hS.F ht9⟩) hS.2.2 d_RN_find_25
set_option maxHeartbeats 4000000 in
set_option maxRecDepth 100000 in
/-- isKnown(x) -/
theorem c_RN_isKnown (l : Launch) (g : GT) (sz : Nat) (o a a0 a1 a2 a3 a4 a5 b : Nat) (sv vv : Int32) (x : Int32) : Met l y_RN_isKnown w_RN_isKnown ({ frames := 0, cells := 0, slots := 0, locals := 0 } : Room) (PcW [.ref o, .int x] sz g [(o, .inr (0, [.ref b, .ref a])), (a, .inr (2, [.ref a0, .ref a1, .ref a2, .ref a3, .ref a4, .ref a5, .int sv, .int vv]))]) (va_Qi (fun (r : Int32) (_ : Unit) => YN r (¬ (x < 0 ∨ sv ≤ x))) BR (va_A [] sz)) 0 0 (va_A [] sz) := by
  refine Met.ofW (cc := b_RN_isKnown) (maxL := 2) (ret := (some .boolean)) (by decide) rfl ?_
  intro p e s m args below meth c s₁ B hml hv
  obtain ⟨rfl, hsz, hP, hK, hN, hD⟩ := hv
  have hx := B.exec
  have hb := B.bytes
  have hr := B.returns
  have hc : ∀ w ∈ cmn, w.before ([.ref o, .int x] : List Value).toArray s = true := fun w h => atoms_spec (ws := w_RN_isKnown) B.pre w (List.mem_cons_of_mem _ h)
  have hown : s.vm.findClass R_RN = some m.cls := findClass_of_methodNamed B.named
  have hlocks := B.notSynchronized
  subst hsz
  have hS : va_S (va_A [] s.heap.size) s.heap s.heap [] := va_S.rf
  have hA : ∀ q : Nat, s.heap.size ≤ q → va_A [] s.heap.size q := fun q h => Or.inr h
  generalize va_A [] s.heap.size = A at hS hA ⊢
  have hP : va_P g.1 classes [(o, .inr (0, [.ref b, .ref a])), (a, .inr (2, [.ref a0, .ref a1, .ref a2, .ref a3, .ref a4, .ref a5, .int sv, .int vv]))] s.heap := hP
  have hl := lv_entry ([.ref o, .int x]) (n := 2) (Nat.le_of_ble_eq_true rfl)
  rw [lg_entry_eq]
  generalize (lg_sl ([.ref o, .int x]) ++ List.replicate (2 - (lg_sl ([.ref o, .int x])).length) Slot.unset).toArray = ls at hl ⊢
  have hl : lv_has ls 2 [(0, .ref o), (1, .int x)] := hl
  refine lv_iload_n hx hb d_RN_isKnown_0 rfl (lv_at hl 1 rfl) ?_
  refine lv_if_lt (tgt := 19) hx hb d_RN_isKnown_1 (by decide) (fun c1 => ?_) (fun c1 => ?_)
  · refine lv_iconst (v := 0) hx hb d_RN_isKnown_19 (by decide) ?_
    exact W.zret (v := 0) hx hb hr (rfl) (fun t9 ht9 hW9 => ⟨⟨_, (), rfl, Or.inr ⟨rfl, fun q => q (Or.inl c1)⟩, trivial⟩, hS.F ht9⟩) hS.2.2 d_RN_isKnown_20
  · refine lv_iload_n hx hb d_RN_isKnown_4 rfl (lv_at hl 1 rfl) ?_
    refine lv_aload_n hx hb d_RN_isKnown_5 rfl (lv_at hl 0 rfl) ?_
    refine va_get (D := g.1) (ci := 0) (v := .ref a) (C := R_RN) (T := F_RN) (N := 2) hx hb hc i_RN hown hK hP 0 rfl rfl 1 (by decide) (hc _ kf_RN_19) (fun _ h9 => h9) rfl d_RN_isKnown_6 ?_
    refine va_getN (D := g.1) (ci := 2) (v := .int sv) (C := R_Marks) (T := F_Marks) (N := 8) hx hb hc i_Marks hown hK hP 1 rfl rfl 6 (by decide) (nf_RN_41 hN) (fun _ h9 => h9) rfl d_RN_isKnown_9 ?_
    refine lv_icmp_ge (tgt := 19) hx hb d_RN_isKnown_12 (by decide) (fun c2 => ?_) (fun c2 => ?_)
    · refine lv_iconst (v := 0) hx hb d_RN_isKnown_19 (by decide) ?_
      exact W.zret (v := 0) hx hb hr (rfl) (fun t9 ht9 hW9 => ⟨⟨_, (), rfl, Or.inr ⟨rfl, fun q => q (Or.inr c2)⟩, trivial⟩, hS.F ht9⟩) hS.2.2 d_RN_isKnown_20
    · refine lv_iconst (v := 1) hx hb d_RN_isKnown_15 (by decide) ?_
      refine lv_goto (tgt := 20) hx hb d_RN_isKnown_16 (by decide) ?_
      exact W.zret (v := 1) hx hb hr (rfl) (fun t9 ht9 hW9 => ⟨⟨_, (), rfl, Or.inl ⟨rfl, fun q => q.elim c1 c2⟩, trivial⟩, hS.F ht9⟩) hS.2.2 d_RN_isKnown_20
set_option maxHeartbeats 4000000 in
set_option maxRecDepth 100000 in
/-- look(x, y) -/
theorem c_RN_look (l : Launch) (g : GT) (sz : Nat) (o a a0 a1 a2 a3 a4 a5 b : Nat) (sv vv : Int32) (fb bg fg fr sl : Nat → Int32) (ms : Nat → Int64) (x y : Int32) (V : AS) (Bd : Nat) (hV : AOk V Bd) (hBd : Bd < 2 ^ 30) (hI : MInv V fb bg fg fr sl ms sv vv) : Met l y_RN_look w_RN_look ({ frames := 3, cells := 0, slots := 0, locals := 67 } : Room) (PcW [.ref o, .int x, .int y] sz g [(o, .inr (0, [.ref b, .ref a])), (a, .inr (2, [.ref a0, .ref a1, .ref a2, .ref a3, .ref a4, .ref a5, .int sv, .int vv])), (a1, .inl (cIn g, 201, .inl bg)), (a2, .inl (cIn g, 200, .inl fg)), (a3, .inl (cIn g, 200, .inl fr)), (a5, .inl (cLo g, 4, .inr (.inl ms)))]) (va_Qi (fun (r : Int32) (_ : Unit) => r = lookR V x y) BR (va_A [] sz)) 0 0 (va_A [] sz) := by
  refine Met.ofW (cc := b_RN_look) (maxL := 3) (ret := (some .int)) (by decide) rfl ?_
  intro p e s m args below meth c s₁ B hml hv
  obtain ⟨rfl, hsz, hP, hK, hN, hD⟩ := hv
  have hx := B.exec
  have hb := B.bytes
  have hr := B.returns
  have hc : ∀ w ∈ cmn, w.before ([.ref o, .int x, .int y] : List Value).toArray s = true := fun w h => atoms_spec (ws := w_RN_look) B.pre w (List.mem_cons_of_mem _ h)
  have hown : s.vm.findClass R_RN = some m.cls := findClass_of_methodNamed B.named
  have hlocks := B.notSynchronized
  subst hsz
  have hS : va_S (va_A [] s.heap.size) s.heap s.heap [] := va_S.rf
  have hA : ∀ q : Nat, s.heap.size ≤ q → va_A [] s.heap.size q := fun q h => Or.inr h
  generalize va_A [] s.heap.size = A at hS hA ⊢
  have hP : va_P g.1 classes [(o, .inr (0, [.ref b, .ref a])), (a, .inr (2, [.ref a0, .ref a1, .ref a2, .ref a3, .ref a4, .ref a5, .int sv, .int vv])), (a1, .inl (cIn g, 201, .inl bg)), (a2, .inl (cIn g, 200, .inl fg)), (a3, .inl (cIn g, 200, .inl fr)), (a5, .inl (cLo g, 4, .inr (.inl ms)))] s.heap := hP
  have hl := lv_entry ([.ref o, .int x, .int y]) (n := 3) (Nat.le_of_ble_eq_true rfl)
  rw [lg_entry_eq]
  generalize (lg_sl ([.ref o, .int x, .int y]) ++ List.replicate (3 - (lg_sl ([.ref o, .int x, .int y])).length) Slot.unset).toArray = ls at hl ⊢
  have hl : lv_has ls 3 [(0, .ref o), (1, .int x), (2, .int y)] := hl
  have hn := hV.1
  obtain ⟨esv, -, hM, hC, hBt, -⟩ := hI
  refine lv_aload_n hx hb d_RN_look_0 rfl (lv_at hl 0 rfl) ?_
  refine lv_iload_n hx hb d_RN_look_1 rfl (lv_at hl 1 rfl) ?_
  refine x_cri (x_runV (As := [.int x]) (rest := []) ⟨hx, hb, hml, hown, hc⟩ (c_RN_isKnown l g _ o a a0 a1 a2 a3 a4 a5 b sv vv x) (cwV 1 hc (good_V km_RN_42 ki_RN_isKnown ks_RN_isKnown kn_RN kc_RN_isKnown) rfl rfl rfl (by decide +kernel) ⟨Nat.le_of_ble_eq_true rfl, Nat.le_of_ble_eq_true rfl⟩) hP hD hK hN [0, 1] (by decide) rfl (va_recv hK hP (ci := 0) (q0 := 0) rfl rfl) rfl hl.1 rfl (Nat.le_of_ble_eq_true rfl) d_RN_look_2 ⟨Nat.le_of_ble_eq_true rfl, Nat.le_of_ble_eq_true rfl⟩) hP hS hA (fun r0 H locs hw0 hP hS => ?_)
  have hw0 : YN r0 (¬ (x < 0 ∨ nI (aN V) ≤ x)) := by rw [← esv]; exact hw0
  refine lv_if_ne (tgt := 10) hx hb d_RN_look_5 (by decide) (fun c1 => ?_) (fun c1 => ?_)
  · obtain ⟨k, hk, rfl⟩ := known_ix (by omega) (hw0.yes c1)
    rw [lookR_in hk hn]
    obtain ⟨eg, er⟩ := hC k hk
    refine lv_iload_n hx hb d_RN_look_10 rfl (lv_at hl 2 rfl) ?_
    by_cases z0 : y = 0
    · subst z0
      refine lv_tableIn (off := 29) (tgt := 40) hx hb d_RN_look_11 (by decide) (by decide) (by decide) (by decide) ?_
      refine lv_aload_n hx hb d_RN_look_40 rfl (lv_at hl 0 rfl) ?_
      refine va_get (D := g.1) (ci := 0) (v := .ref a) (C := R_RN) (T := F_RN) (N := 2) hx hb hc i_RN hown hK hP 0 rfl rfl 1 (by decide) (hc _ kf_RN_19) (fun _ h9 => h9) rfl d_RN_look_41 ?_
      refine va_getN (D := g.1) (ci := 2) (v := .ref a2) (C := R_Marks) (T := F_Marks) (N := 8) hx hb hc i_Marks hown hK hP 1 rfl rfl 2 (by decide) (nf_RN_46 hN) (fun _ h9 => h9) rfl d_RN_look_44 ?_
      refine lv_iload_n hx hb d_RN_look_47 rfl (lv_at hl 1 rfl) ?_
      refine x_iald hx hb hK hP 3 rfl (k := k) (by omega) (by decide) d_RN_look_48 ?_
      exact W.iret (v := fg k) hx hb hr (fun t9 ht9 hW9 => ⟨⟨_, (), rfl, eg, trivial⟩, hS.F ht9⟩) hS.2.2 d_RN_look_49
    · by_cases z1 : y = 1
      · subst z1
        refine lv_tableIn (off := 39) (tgt := 50) hx hb d_RN_look_11 (by decide) (by decide) (by decide) (by decide) ?_
        refine lv_aload_n hx hb d_RN_look_50 rfl (lv_at hl 0 rfl) ?_
        refine va_get (D := g.1) (ci := 0) (v := .ref a) (C := R_RN) (T := F_RN) (N := 2) hx hb hc i_RN hown hK hP 0 rfl rfl 1 (by decide) (hc _ kf_RN_19) (fun _ h9 => h9) rfl d_RN_look_51 ?_
        refine va_getN (D := g.1) (ci := 2) (v := .ref a3) (C := R_Marks) (T := F_Marks) (N := 8) hx hb hc i_Marks hown hK hP 1 rfl rfl 3 (by decide) (nf_RN_50 hN) (fun _ h9 => h9) rfl d_RN_look_54 ?_
        refine lv_iload_n hx hb d_RN_look_57 rfl (lv_at hl 1 rfl) ?_
        refine x_iald hx hb hK hP 4 rfl (k := k) (by omega) (by decide) d_RN_look_58 ?_
        exact W.iret (v := fr k) hx hb hr (fun t9 ht9 hW9 => ⟨⟨_, (), rfl, er, trivial⟩, hS.F ht9⟩) hS.2.2 d_RN_look_59
      · by_cases z2 : y = 2
        · subst z2
          refine lv_tableIn (off := 49) (tgt := 60) hx hb d_RN_look_11 (by decide) (by decide) (by decide) (by decide) ?_
          refine lv_aload_n hx hb d_RN_look_60 rfl (lv_at hl 0 rfl) ?_
          refine va_get (D := g.1) (ci := 0) (v := .ref a) (C := R_RN) (T := F_RN) (N := 2) hx hb hc i_RN hown hK hP 0 rfl rfl 1 (by decide) (hc _ kf_RN_19) (fun _ h9 => h9) rfl d_RN_look_61 ?_
          refine va_getN (D := g.1) (ci := 2) (v := .ref a1) (C := R_Marks) (T := F_Marks) (N := 8) hx hb hc i_Marks hown hK hP 1 rfl rfl 1 (by decide) (nf_RN_53 hN) (fun _ h9 => h9) rfl d_RN_look_64 ?_
          refine lv_iload_n hx hb d_RN_look_67 rfl (lv_at hl 1 rfl) ?_
          refine lv_iconst (v := 1) hx hb d_RN_look_68 (by decide) ?_
          refine lv_iadd hx hb d_RN_look_69 ?_
          refine x_top (y := nI (k + 1)) (nI_1 k) ?_
          refine x_iald hx hb hK hP 2 rfl (k := (k + 1)) (by omega) (by decide) d_RN_look_70 ?_
          refine x_top (y := nI (psum (aZ V) k + aZ V k)) (hM.1 (k + 1) hk) ?_
          refine lv_aload_n hx hb d_RN_look_71 rfl (lv_at hl 0 rfl) ?_
          refine va_get (D := g.1) (ci := 0) (v := .ref a) (C := R_RN) (T := F_RN) (N := 2) hx hb hc i_RN hown hK hP 0 rfl rfl 1 (by decide) (hc _ kf_RN_19) (fun _ h9 => h9) rfl d_RN_look_72 ?_
          refine va_getN (D := g.1) (ci := 2) (v := .ref a1) (C := R_Marks) (T := F_Marks) (N := 8) hx hb hc i_Marks hown hK hP 1 rfl rfl 1 (by decide) (nf_RN_53 hN) (fun _ h9 => h9) rfl d_RN_look_75 ?_
          refine lv_iload_n hx hb d_RN_look_78 rfl (lv_at hl 1 rfl) ?_
          refine x_iald hx hb hK hP 2 rfl (k := k) (by omega) (by decide) d_RN_look_79 ?_
          refine x_top (y := nI (psum (aZ V) k)) (hM.1 k (by omega)) ?_
          refine lv_isub hx hb d_RN_look_80 ?_
          refine x_top (y := nI (aZ V k)) ((pk_sub (by omega)).trans (by congr 1; omega)) ?_
          exact W.iret (v := nI (aZ V k)) hx hb hr (fun t9 ht9 hW9 => ⟨⟨_, (), rfl, rfl, trivial⟩, hS.F ht9⟩) hS.2.2 d_RN_look_81
        · by_cases z3 : y = 3
          · subst z3
            refine lv_tableIn (off := 71) (tgt := 82) hx hb d_RN_look_11 (by decide) (by decide) (by decide) (by decide) ?_
            refine lv_aload_n hx hb d_RN_look_82 rfl (lv_at hl 0 rfl) ?_
            refine va_get (D := g.1) (ci := 0) (v := .ref a) (C := R_RN) (T := F_RN) (N := 2) hx hb hc i_RN hown hK hP 0 rfl rfl 1 (by decide) (hc _ kf_RN_19) (fun _ h9 => h9) rfl d_RN_look_83 ?_
            refine lv_iload_n hx hb d_RN_look_86 rfl (lv_at hl 1 rfl) ?_
            refine lv_iconst (v := 1) hx hb d_RN_look_87 (by decide) ?_
            refine lv_iadd hx hb d_RN_look_88 ?_
            refine x_top (y := nI (k + 1)) (nI_1 k) ?_
            refine x_cri (x_runV (As := [.int (nI (k + 1))]) (rest := []) ⟨hx, hb, hml, hown, hc⟩ (c_Marks_missingFrom l g _ a a0 a1 a2 a3 a4 a5 sv vv ms (misN V) (k + 1) (by omega) hBt) (cwV 1 hc (good_V km_RN_56 ki_Marks_missingFrom ks_Marks_missingFrom kn_Marks kc_Marks_missingFrom) rfl rfl rfl (by decide +kernel) ⟨Nat.le_of_ble_eq_true rfl, Nat.le_of_ble_eq_true rfl⟩) hP hD hK hN [1, 5] (by decide) rfl (va_recv hK hP (ci := 2) (q0 := 1) rfl rfl) rfl hl.1 rfl (Nat.le_of_ble_eq_true rfl) d_RN_look_89 ⟨Nat.le_of_ble_eq_true rfl, Nat.le_of_ble_eq_true rfl⟩) hP hS hA (fun r1 H locs hw1 hP hS => ?_)
            exact W.iret (v := r1) hx hb hr (fun t9 ht9 hW9 => ⟨⟨_, (), rfl, (show r1 = mff (misN V) (k + 1) (256 - (k + 1)) from hw1).trans (mff_mis (by omega) (k + 1) (by omega)), trivial⟩, hS.F ht9⟩) hS.2.2 d_RN_look_92
          · refine lv_tableOut (tgt := 93) hx hb d_RN_look_11 (by have y0 := lv_neT z0 (a := 0) (by decide); have y1 := lv_neT z1 (a := 1) (by decide); have y2 := lv_neT z2 (a := 2) (by decide); have y3 := lv_neT z3 (a := 3) (by decide); omega) (by decide) ?_
            refine lv_iconst (v := (-1)) hx hb d_RN_look_93 (by decide) ?_
            exact W.iret (v := (-1)) hx hb hr (fun t9 ht9 hW9 => ⟨⟨_, (), rfl, by rw [if_neg z0, if_neg z1, if_neg z2, if_neg z3], trivial⟩, hS.F ht9⟩) hS.2.2 d_RN_look_94
  · have hno := hw0.no c1
    refine lv_iconst (v := (-1)) hx hb d_RN_look_8 (by decide) ?_
    exact W.iret (v := (-1)) hx hb hr (fun t9 ht9 hW9 => ⟨⟨_, (), rfl, (if_pos (Classical.not_not.mp hno)).symm, trivial⟩, hS.F ht9⟩) hS.2.2 d_RN_look_9
set_option maxHeartbeats 4000000 in
set_option maxRecDepth 100000 in
/-- byteOf(x, y) -/
theorem c_RN_byteOf (l : Launch) (g : GT) (sz : Nat) (o a a0 a1 a2 a3 a4 a5 b : Nat) (sv vv : Int32) (fb bg fg fr sl : Nat → Int32) (ms : Nat → Int64) (x y : Int32) (V : AS) (Bd : Nat) (hV : AOk V Bd) (hBd : Bd < 2 ^ 30) (hI : MInv V fb bg fg fr sl ms sv vv) : Met l y_RN_byteOf w_RN_byteOf ({ frames := 1, cells := 0, slots := 0, locals := 21 } : Room) (PcW [.ref o, .int x, .int y] sz g [(o, .inr (0, [.ref b, .ref a])), (a, .inr (2, [.ref a0, .ref a1, .ref a2, .ref a3, .ref a4, .ref a5, .int sv, .int vv])), (a0, .inl (cBy g, 12000, .inl fb)), (a1, .inl (cIn g, 201, .inl bg))]) (va_Qi (fun (r : Int32) (_ : Unit) => r = byteR V x y) BR (va_A [] sz)) 0 0 (va_A [] sz) := by
  refine Met.ofW (cc := b_RN_byteOf) (maxL := 3) (ret := (some .int)) (by decide) rfl ?_
  intro p e s m args below meth c s₁ B hml hv
  obtain ⟨rfl, hsz, hP, hK, hN, hD⟩ := hv
  have hx := B.exec
  have hb := B.bytes
  have hr := B.returns
  have hc : ∀ w ∈ cmn, w.before ([.ref o, .int x, .int y] : List Value).toArray s = true := fun w h => atoms_spec (ws := w_RN_byteOf) B.pre w (List.mem_cons_of_mem _ h)
  have hown : s.vm.findClass R_RN = some m.cls := findClass_of_methodNamed B.named
  have hlocks := B.notSynchronized
  subst hsz
  have hS : va_S (va_A [] s.heap.size) s.heap s.heap [] := va_S.rf
  have hA : ∀ q : Nat, s.heap.size ≤ q → va_A [] s.heap.size q := fun q h => Or.inr h
  generalize va_A [] s.heap.size = A at hS hA ⊢
  have hP : va_P g.1 classes [(o, .inr (0, [.ref b, .ref a])), (a, .inr (2, [.ref a0, .ref a1, .ref a2, .ref a3, .ref a4, .ref a5, .int sv, .int vv])), (a0, .inl (cBy g, 12000, .inl fb)), (a1, .inl (cIn g, 201, .inl bg))] s.heap := hP
  have hl := lv_entry ([.ref o, .int x, .int y]) (n := 3) (Nat.le_of_ble_eq_true rfl)
  rw [lg_entry_eq]
  generalize (lg_sl ([.ref o, .int x, .int y]) ++ List.replicate (3 - (lg_sl ([.ref o, .int x, .int y])).length) Slot.unset).toArray = ls at hl ⊢
  have hl : lv_has ls 3 [(0, .ref o), (1, .int x), (2, .int y)] := hl
  have hn := hV.1
  obtain ⟨esv, -, hM, -, -, -⟩ := hI
  refine lv_aload_n hx hb d_RN_byteOf_0 rfl (lv_at hl 0 rfl) ?_
  refine lv_iload_n hx hb d_RN_byteOf_1 rfl (lv_at hl 1 rfl) ?_
  refine x_cri (x_runV (As := [.int x]) (rest := []) ⟨hx, hb, hml, hown, hc⟩ (c_RN_isKnown l g _ o a a0 a1 a2 a3 a4 a5 b sv vv x) (cwV 1 hc (good_V km_RN_42 ki_RN_isKnown ks_RN_isKnown kn_RN kc_RN_isKnown) rfl rfl rfl (by decide +kernel) ⟨Nat.le_of_ble_eq_true rfl, Nat.le_of_ble_eq_true rfl⟩) hP hD hK hN [0, 1] (by decide) rfl (va_recv hK hP (ci := 0) (q0 := 0) rfl rfl) rfl hl.1 rfl (Nat.le_of_ble_eq_true rfl) d_RN_byteOf_2 ⟨Nat.le_of_ble_eq_true rfl, Nat.le_of_ble_eq_true rfl⟩) hP hS hA (fun r0 H locs hw0 hP hS => ?_)
  have hw0 : YN r0 (¬ (x < 0 ∨ nI (aN V) ≤ x)) := by rw [← esv]; exact hw0
  refine lv_if_eq (tgt := 63) hx hb d_RN_byteOf_5 (by decide) (fun c1 => ?_) (fun c1 => ?_)
  · have hno := hw0.no c1
    refine lv_iconst (v := (-1)) hx hb d_RN_byteOf_63 (by decide) ?_
    exact W.iret (v := (-1)) hx hb hr (fun t9 ht9 hW9 => ⟨⟨_, (), rfl, (if_pos (Classical.not_not.mp hno)).symm, trivial⟩, hS.F ht9⟩) hS.2.2 d_RN_byteOf_64
  · obtain ⟨k, hk, rfl⟩ := known_ix (by omega) (hw0.yes c1)
    rw [byteR_in hk hn]
    have hz := hV.2.1 k hk
    have hps := psum_12000 hV hk
    refine lv_iload_n hx hb d_RN_byteOf_8 rfl (lv_at hl 2 rfl) ?_
    refine lv_if_lt (tgt := 63) hx hb d_RN_byteOf_9 (by decide) (fun c2 => ?_) (fun c2 => ?_)
    · refine lv_iconst (v := (-1)) hx hb d_RN_byteOf_63 (by decide) ?_
      exact W.iret (v := (-1)) hx hb hr (fun t9 ht9 hW9 => ⟨⟨_, (), rfl, (if_pos (Or.inl c2)).symm, trivial⟩, hS.F ht9⟩) hS.2.2 d_RN_byteOf_64
    · refine lv_iload_n hx hb d_RN_byteOf_12 rfl (lv_at hl 2 rfl) ?_
      refine lv_aload_n hx hb d_RN_byteOf_13 rfl (lv_at hl 0 rfl) ?_
      refine va_get (D := g.1) (ci := 0) (v := .ref a) (C := R_RN) (T := F_RN) (N := 2) hx hb hc i_RN hown hK hP 0 rfl rfl 1 (by decide) (hc _ kf_RN_19) (fun _ h9 => h9) rfl d_RN_byteOf_14 ?_
      refine va_getN (D := g.1) (ci := 2) (v := .ref a1) (C := R_Marks) (T := F_Marks) (N := 8) hx hb hc i_Marks hown hK hP 1 rfl rfl 1 (by decide) (nf_RN_53 hN) (fun _ h9 => h9) rfl d_RN_byteOf_17 ?_
      refine lv_iload_n hx hb d_RN_byteOf_20 rfl (lv_at hl 1 rfl) ?_
      refine lv_iconst (v := 1) hx hb d_RN_byteOf_21 (by decide) ?_
      refine lv_iadd hx hb d_RN_byteOf_22 ?_
      refine x_top (y := nI (k + 1)) (nI_1 k) ?_
      refine x_iald hx hb hK hP 3 rfl (k := (k + 1)) (by omega) (by decide) d_RN_byteOf_23 ?_
      refine x_top (y := nI (psum (aZ V) k + aZ V k)) (hM.1 (k + 1) hk) ?_
      refine lv_aload_n hx hb d_RN_byteOf_24 rfl (lv_at hl 0 rfl) ?_
      refine va_get (D := g.1) (ci := 0) (v := .ref a) (C := R_RN) (T := F_RN) (N := 2) hx hb hc i_RN hown hK hP 0 rfl rfl 1 (by decide) (hc _ kf_RN_19) (fun _ h9 => h9) rfl d_RN_byteOf_25 ?_
      refine va_getN (D := g.1) (ci := 2) (v := .ref a1) (C := R_Marks) (T := F_Marks) (N := 8) hx hb hc i_Marks hown hK hP 1 rfl rfl 1 (by decide) (nf_RN_53 hN) (fun _ h9 => h9) rfl d_RN_byteOf_28 ?_
      refine lv_iload_n hx hb d_RN_byteOf_31 rfl (lv_at hl 1 rfl) ?_
      refine x_iald hx hb hK hP 3 rfl (k := k) (by omega) (by decide) d_RN_byteOf_32 ?_
      refine x_top (y := nI (psum (aZ V) k)) (hM.1 k (by omega)) ?_
      refine lv_isub hx hb d_RN_byteOf_33 ?_
      refine x_top (y := nI (aZ V k)) ((pk_sub (by omega)).trans (by congr 1; omega)) ?_
      refine lv_icmp_ge (tgt := 63) hx hb d_RN_byteOf_34 (by decide) (fun c3 => ?_) (fun c3 => ?_)
      · refine lv_iconst (v := (-1)) hx hb d_RN_byteOf_63 (by decide) ?_
        exact W.iret (v := (-1)) hx hb hr (fun t9 ht9 hW9 => ⟨⟨_, (), rfl, (if_pos (Or.inr c3)).symm, trivial⟩, hS.F ht9⟩) hS.2.2 d_RN_byteOf_64
      · rw [if_neg (fun q => q.elim c2 c3)]
        obtain ⟨i, hi, rfl⟩ := known_ix (n := aZ V k) (by omega) (fun q => q.elim c2 c3)
        rw [nI_clamp (by omega)]
        refine lv_aload_n hx hb d_RN_byteOf_37 rfl (lv_at hl 0 rfl) ?_
        refine va_get (D := g.1) (ci := 0) (v := .ref a) (C := R_RN) (T := F_RN) (N := 2) hx hb hc i_RN hown hK hP 0 rfl rfl 1 (by decide) (hc _ kf_RN_19) (fun _ h9 => h9) rfl d_RN_byteOf_38 ?_
        refine va_getN (D := g.1) (ci := 2) (v := .ref a0) (C := R_Marks) (T := F_Marks) (N := 8) hx hb hc i_Marks hown hK hP 1 rfl rfl 0 (by decide) (nf_RN_60 hN) (fun _ h9 => h9) rfl d_RN_byteOf_41 ?_
        refine lv_aload_n hx hb d_RN_byteOf_44 rfl (lv_at hl 0 rfl) ?_
        refine va_get (D := g.1) (ci := 0) (v := .ref a) (C := R_RN) (T := F_RN) (N := 2) hx hb hc i_RN hown hK hP 0 rfl rfl 1 (by decide) (hc _ kf_RN_19) (fun _ h9 => h9) rfl d_RN_byteOf_45 ?_
        refine va_getN (D := g.1) (ci := 2) (v := .ref a1) (C := R_Marks) (T := F_Marks) (N := 8) hx hb hc i_Marks hown hK hP 1 rfl rfl 1 (by decide) (nf_RN_53 hN) (fun _ h9 => h9) rfl d_RN_byteOf_48 ?_
        refine lv_iload_n hx hb d_RN_byteOf_51 rfl (lv_at hl 1 rfl) ?_
        refine x_iald hx hb hK hP 3 rfl (k := k) (by omega) (by decide) d_RN_byteOf_52 ?_
        refine x_top (y := nI (psum (aZ V) k)) (hM.1 k (by omega)) ?_
        refine lv_iload_n hx hb d_RN_byteOf_53 rfl (lv_at hl 2 rfl) ?_
        refine lv_iadd hx hb d_RN_byteOf_54 ?_
        refine x_top (y := nI (psum (aZ V) k + i)) (nI_add _ _) ?_
        refine x_bald hx hb hK hP 2 rfl (k := (psum (aZ V) k + i)) (by omega) (by decide) d_RN_byteOf_55 ?_
        refine x_top (y := sb_b (aB V k i)) (hM.2 k hk i hi) ?_
        refine lv_sipush (v := 255) hx hb d_RN_byteOf_56 (by decide) ?_
        refine lv_iand hx hb d_RN_byteOf_59 ?_
        refine x_top (y := nI (aB V k i)) ((sb_byte _ (hz.2.2.2.2 i hi)).1) ?_
        refine lv_goto (tgt := 64) hx hb d_RN_byteOf_60 (by decide) ?_
        exact W.iret (v := nI (aB V k i)) hx hb hr (fun t9 ht9 hW9 => ⟨⟨_, (), rfl, rfl, trivial⟩, hS.F ht9⟩) hS.2.2 d_RN_byteOf_64
set_option maxHeartbeats 4000000 in
set_option maxRecDepth 100000 in
/-- count(x) -/
theorem c_RN_count (l : Launch) (g : GT) (sz : Nat) (o a a0 a1 a2 a3 a4 a5 b b0 : Nat) (h : Nat) (sv vv : Int32) (fb bg fg fr sl : Nat → Int32) (ms : Nat → Int64) (x : Int32) (V : AS) (Bd : Nat) (hV : AOk V Bd) (hBd : Bd < 2 ^ 30) (hI : MInv V fb bg fg fr sl ms sv vv) : Met l y_RN_count w_RN_count ({ frames := 3, cells := 0, slots := 0, locals := 67 } : Room) (PcW [.ref o, .int x] sz g [(o, .inr (0, [.ref b, .ref a])), (b, .inr (1, [.ref b0, .int (nI h)])), (a, .inr (2, [.ref a0, .ref a1, .ref a2, .ref a3, .ref a4, .ref a5, .int sv, .int vv])), (a2, .inl (cIn g, 200, .inl fg)), (a5, .inl (cLo g, 4, .inr (.inl ms)))]) (va_Qi (fun (r : Int32) (_ : Unit) => r = countR V h x) BR (va_A [] sz)) 0 0 (va_A [] sz) := by
  refine Met.ofW (cc := b_RN_count) (maxL := 2) (ret := (some .int)) (by decide) rfl ?_
  intro p e s m args below meth c s₁ B hml hv
  obtain ⟨rfl, hsz, hP, hK, hN, hD⟩ := hv
  have hx := B.exec
  have hb := B.bytes
  have hr := B.returns
  have hc : ∀ w ∈ cmn, w.before ([.ref o, .int x] : List Value).toArray s = true := fun w h => atoms_spec (ws := w_RN_count) B.pre w (List.mem_cons_of_mem _ h)
  have hown : s.vm.findClass R_RN = some m.cls := findClass_of_methodNamed B.named
  have hlocks := B.notSynchronized
  subst hsz
  have hS : va_S (va_A [] s.heap.size) s.heap s.heap [] := va_S.rf
  have hA : ∀ q : Nat, s.heap.size ≤ q → va_A [] s.heap.size q := fun q h => Or.inr h
  generalize va_A [] s.heap.size = A at hS hA ⊢
  have hP : va_P g.1 classes [(o, .inr (0, [.ref b, .ref a])), (b, .inr (1, [.ref b0, .int (nI h)])), (a, .inr (2, [.ref a0, .ref a1, .ref a2, .ref a3, .ref a4, .ref a5, .int sv, .int vv])), (a2, .inl (cIn g, 200, .inl fg)), (a5, .inl (cLo g, 4, .inr (.inl ms)))] s.heap := hP
  have hl := lv_entry ([.ref o, .int x]) (n := 2) (Nat.le_of_ble_eq_true rfl)
  rw [lg_entry_eq]
  generalize (lg_sl ([.ref o, .int x]) ++ List.replicate (2 - (lg_sl ([.ref o, .int x])).length) Slot.unset).toArray = ls at hl ⊢
  have hl : lv_has ls 2 [(0, .ref o), (1, .int x)] := hl
  have hn := hV.1
  obtain ⟨esv, evv, -, hC, hBt, -⟩ := hI
  subst esv
  subst evv
  refine lv_iload_n hx hb d_RN_count_0 rfl (lv_at hl 1 rfl) ?_
  by_cases z0 : x = 0
  · subst z0
    refine lv_tableIn (off := 39) (tgt := 40) hx hb d_RN_count_1 (by decide) (by decide) (by decide) (by decide) ?_
    refine lv_aload_n hx hb d_RN_count_40 rfl (lv_at hl 0 rfl) ?_
    refine va_get (D := g.1) (ci := 0) (v := .ref a) (C := R_RN) (T := F_RN) (N := 2) hx hb hc i_RN hown hK hP 0 rfl rfl 1 (by decide) (hc _ kf_RN_19) (fun _ h9 => h9) rfl d_RN_count_41 ?_
    refine va_getN (D := g.1) (ci := 2) (v := .int (nI (aN V))) (C := R_Marks) (T := F_Marks) (N := 8) hx hb hc i_Marks hown hK hP 2 rfl rfl 6 (by decide) (nf_RN_41 hN) (fun _ h9 => h9) rfl d_RN_count_44 ?_
    exact W.iret (v := nI (aN V)) hx hb hr (fun t9 ht9 hW9 => ⟨⟨_, (), rfl, rfl, trivial⟩, hS.F ht9⟩) hS.2.2 d_RN_count_47
  · by_cases z1 : x = 1
    · subst z1
      refine lv_tableIn (off := 47) (tgt := 48) hx hb d_RN_count_1 (by decide) (by decide) (by decide) (by decide) ?_
      refine lv_aload_n hx hb d_RN_count_48 rfl (lv_at hl 0 rfl) ?_
      refine va_get (D := g.1) (ci := 0) (v := .ref a) (C := R_RN) (T := F_RN) (N := 2) hx hb hc i_RN hown hK hP 0 rfl rfl 1 (by decide) (hc _ kf_RN_19) (fun _ h9 => h9) rfl d_RN_count_49 ?_
      refine x_cri (x_runV (As := []) (rest := []) ⟨hx, hb, hml, hown, hc⟩ (c_Marks_givenOnes l g _ a a0 a1 a2 a3 a4 a5 (nI (vns (aG V) (aN V))) fg (aN V) (aG V) hn (fun k hk => ⟨(hC k hk).1, by have := (hV.2.1 k hk).2.2.1; omega⟩)) (cwV 0 hc (good_V km_RN_61 ki_Marks_givenOnes ks_Marks_givenOnes kn_Marks kc_Marks_givenOnes) rfl rfl rfl (by decide +kernel) ⟨Nat.le_of_ble_eq_true rfl, Nat.le_of_ble_eq_true rfl⟩) hP hD hK hN [2, 3] (by decide) rfl (va_recv hK hP (ci := 2) (q0 := 2) rfl rfl) rfl hl.1 rfl (Nat.le_of_ble_eq_true rfl) d_RN_count_52 ⟨Nat.le_of_ble_eq_true rfl, Nat.le_of_ble_eq_true rfl⟩) hP hS hA (fun r1 H locs hw1 hP hS => ?_)
      exact W.iret (v := r1) hx hb hr (fun t9 ht9 hW9 => ⟨⟨_, (), rfl, hw1, trivial⟩, hS.F ht9⟩) hS.2.2 d_RN_count_55
    · by_cases z2 : x = 2
      · subst z2
        refine lv_tableIn (off := 55) (tgt := 56) hx hb d_RN_count_1 (by decide) (by decide) (by decide) (by decide) ?_
        refine lv_aload_n hx hb d_RN_count_56 rfl (lv_at hl 0 rfl) ?_
        refine va_get (D := g.1) (ci := 0) (v := .ref a) (C := R_RN) (T := F_RN) (N := 2) hx hb hc i_RN hown hK hP 0 rfl rfl 1 (by decide) (hc _ kf_RN_19) (fun _ h9 => h9) rfl d_RN_count_57 ?_
        refine x_cri (x_runV (As := []) (rest := []) ⟨hx, hb, hml, hown, hc⟩ (c_Marks_missingOnes l g _ a a0 a1 a2 a3 a4 a5 (nI (aN V)) (nI (vns (aG V) (aN V))) ms (misN V) hBt) (cwV 0 hc (good_V km_RN_65 ki_Marks_missingOnes ks_Marks_missingOnes kn_Marks kc_Marks_missingOnes) rfl rfl rfl (by decide +kernel) ⟨Nat.le_of_ble_eq_true rfl, Nat.le_of_ble_eq_true rfl⟩) hP hD hK hN [2, 4] (by decide) rfl (va_recv hK hP (ci := 2) (q0 := 2) rfl rfl) rfl hl.1 rfl (Nat.le_of_ble_eq_true rfl) d_RN_count_60 ⟨Nat.le_of_ble_eq_true rfl, Nat.le_of_ble_eq_true rfl⟩) hP hS hA (fun r1 H locs hw1 hP hS => ?_)
        exact W.iret (v := r1) hx hb hr (fun t9 ht9 hW9 => ⟨⟨_, (), rfl, (show r1 = nI (cnt (misN V) 256) from hw1).trans (by rw [cnt_mis (by omega)]; rfl), trivial⟩, hS.F ht9⟩) hS.2.2 d_RN_count_63
      · by_cases z3 : x = 3
        · subst z3
          refine lv_tableIn (off := 63) (tgt := 64) hx hb d_RN_count_1 (by decide) (by decide) (by decide) (by decide) ?_
          refine lv_aload_n hx hb d_RN_count_64 rfl (lv_at hl 0 rfl) ?_
          refine va_get (D := g.1) (ci := 0) (v := .ref a) (C := R_RN) (T := F_RN) (N := 2) hx hb hc i_RN hown hK hP 0 rfl rfl 1 (by decide) (hc _ kf_RN_19) (fun _ h9 => h9) rfl d_RN_count_65 ?_
          refine va_getN (D := g.1) (ci := 2) (v := .int (nI (vns (aG V) (aN V)))) (C := R_Marks) (T := F_Marks) (N := 8) hx hb hc i_Marks hown hK hP 2 rfl rfl 7 (by decide) (nf_RN_68 hN) (fun _ h9 => h9) rfl d_RN_count_68 ?_
          exact W.iret (v := nI (vns (aG V) (aN V))) hx hb hr (fun t9 ht9 hW9 => ⟨⟨_, (), rfl, rfl, trivial⟩, hS.F ht9⟩) hS.2.2 d_RN_count_71
        · by_cases z4 : x = 4
          · subst z4
            refine lv_tableIn (off := 71) (tgt := 72) hx hb d_RN_count_1 (by decide) (by decide) (by decide) (by decide) ?_
            refine lv_aload_n hx hb d_RN_count_72 rfl (lv_at hl 0 rfl) ?_
            refine va_get (D := g.1) (ci := 0) (v := .ref b) (C := R_RN) (T := F_RN) (N := 2) hx hb hc i_RN hown hK hP 0 rfl rfl 0 (by decide) (hc _ kf_RN_10) (fun _ h9 => h9) rfl d_RN_count_73 ?_
            refine va_getN (D := g.1) (ci := 1) (v := .int (nI h)) (C := R_Hand) (T := F_Hand) (N := 2) hx hb hc i_Hand hown hK hP 1 rfl rfl 1 (by decide) (nf_RN_23 hN) (fun _ h9 => h9) rfl d_RN_count_76 ?_
            exact W.iret (v := nI h) hx hb hr (fun t9 ht9 hW9 => ⟨⟨_, (), rfl, rfl, trivial⟩, hS.F ht9⟩) hS.2.2 d_RN_count_79
          · by_cases z5 : x = 5
            · subst z5
              refine lv_tableIn (off := 79) (tgt := 80) hx hb d_RN_count_1 (by decide) (by decide) (by decide) (by decide) ?_
              refine lv_aload_n hx hb d_RN_count_80 rfl (lv_at hl 0 rfl) ?_
              refine va_get (D := g.1) (ci := 0) (v := .ref a) (C := R_RN) (T := F_RN) (N := 2) hx hb hc i_RN hown hK hP 0 rfl rfl 1 (by decide) (hc _ kf_RN_19) (fun _ h9 => h9) rfl d_RN_count_81 ?_
              refine lv_iconst (v := 0) hx hb d_RN_count_84 (by decide) ?_
              refine x_top (y := nI 0) (rfl) ?_
              refine x_cri (x_runV (As := [.int (nI 0)]) (rest := []) ⟨hx, hb, hml, hown, hc⟩ (c_Marks_missingFrom l g _ a a0 a1 a2 a3 a4 a5 (nI (aN V)) (nI (vns (aG V) (aN V))) ms (misN V) 0 (by omega) hBt) (cwV 1 hc (good_V km_RN_56 ki_Marks_missingFrom ks_Marks_missingFrom kn_Marks kc_Marks_missingFrom) rfl rfl rfl (by decide +kernel) ⟨Nat.le_of_ble_eq_true rfl, Nat.le_of_ble_eq_true rfl⟩) hP hD hK hN [2, 4] (by decide) rfl (va_recv hK hP (ci := 2) (q0 := 2) rfl rfl) rfl hl.1 rfl (Nat.le_of_ble_eq_true rfl) d_RN_count_85 ⟨Nat.le_of_ble_eq_true rfl, Nat.le_of_ble_eq_true rfl⟩) hP hS hA (fun r1 H locs hw1 hP hS => ?_)
              exact W.iret (v := r1) hx hb hr (fun t9 ht9 hW9 => ⟨⟨_, (), rfl, (show r1 = mff (misN V) 0 (256 - 0) from hw1).trans ((mff_mis (by omega) 0 (by omega)).trans (by rw [Nat.sub_zero]; rfl)), trivial⟩, hS.F ht9⟩) hS.2.2 d_RN_count_88
            · refine lv_tableOut (tgt := 89) hx hb d_RN_count_1 (by have y0 := lv_neT z0 (a := 0) (by decide); have y1 := lv_neT z1 (a := 1) (by decide); have y2 := lv_neT z2 (a := 2) (by decide); have y3 := lv_neT z3 (a := 3) (by decide); have y4 := lv_neT z4 (a := 4) (by decide); have y5 := lv_neT z5 (a := 5) (by decide); omega) (by decide) ?_
              refine lv_iconst (v := (-1)) hx hb d_RN_count_89 (by decide) ?_
              exact W.iret (v := (-1)) hx hb hr (fun t9 ht9 hW9 => ⟨⟨_, (), rfl, by unfold countR; rw [if_neg z0, if_neg z1, if_neg z2, if_neg z3, if_neg z4, if_neg z5], trivial⟩, hS.F ht9⟩) hS.2.2 d_RN_count_90
set_option maxHeartbeats 4000000 in
set_option maxRecDepth 100000 in
/-- clear(), of the desk -/
theorem c_RN_clear (l : Launch) (g : GT) (sz : Nat) (o a a0 a1 a2 a3 a4 a5 b b0 : Nat) (sv vv hv : Int32) (fb bg fg fr sl f : Nat → Int32) (ms : Nat → Int64) (V : AS) (hI : MInv V fb bg fg fr sl ms sv vv) : Met l y_RN_clear w_RN_clear ({ frames := 1, cells := 0, slots := 0, locals := 21 } : Room) (PcW [.ref o] sz g [(o, .inr (0, [.ref b, .ref a])), (b, .inr (1, [.ref b0, .int hv])), (a, .inr (2, [.ref a0, .ref a1, .ref a2, .ref a3, .ref a4, .ref a5, .int sv, .int vv])), (a4, .inl (cSh g, 512, .inl sl)), (a5, .inl (cLo g, 4, .inr (.inl ms)))]) (va_Qi (fun (r : Int32) (u : (Nat → Int32) × (Nat → Int64)) => r = nI (aN V) ∧ MInv (clrA V) fb bg fg fr u.1 u.2 0 0) (BW g (va_A [(o, .inr (0, [.ref b, .ref a])), (b, .inr (1, [.ref b0, .int hv])), (a, .inr (2, [.ref a0, .ref a1, .ref a2, .ref a3, .ref a4, .ref a5, .int sv, .int vv])), (a4, .inl (cSh g, 512, .inl sl)), (a5, .inl (cLo g, 4, .inr (.inl ms)))] sz) (fun u : (Nat → Int32) × (Nat → Int64) => [(o, .inr (0, [.ref b, .ref a])), (b, .inr (1, [.ref b0, .int 0])), (a, .inr (2, [.ref a0, .ref a1, .ref a2, .ref a3, .ref a4, .ref a5, .int 0, .int 0])), (a4, .inl (cSh g, 512, .inl u.1)), (a5, .inl (cLo g, 4, .inr (.inl u.2)))])) (va_A [(o, .inr (0, [.ref b, .ref a])), (b, .inr (1, [.ref b0, .int hv])), (a, .inr (2, [.ref a0, .ref a1, .ref a2, .ref a3, .ref a4, .ref a5, .int sv, .int vv])), (a4, .inl (cSh g, 512, .inl sl)), (a5, .inl (cLo g, 4, .inr (.inl ms)))] sz)) 0 0 (va_A [(o, .inr (0, [.ref b, .ref a])), (b, .inr (1, [.ref b0, .int hv])), (a, .inr (2, [.ref a0, .ref a1, .ref a2, .ref a3, .ref a4, .ref a5, .int sv, .int vv])), (a4, .inl (cSh g, 512, .inl sl)), (a5, .inl (cLo g, 4, .inr (.inl ms)))] sz) := by
  refine Met.ofW (cc := b_RN_clear) (maxL := 2) (ret := (some .int)) (by decide) rfl ?_
  intro p e s m args below meth c s₁ B hml hv
  obtain ⟨rfl, hsz, hP, hK, hN, hD⟩ := hv
  have hx := B.exec
  have hb := B.bytes
  have hr := B.returns
  have hc : ∀ w ∈ cmn, w.before ([.ref o] : List Value).toArray s = true := fun w h => atoms_spec (ws := w_RN_clear) B.pre w (List.mem_cons_of_mem _ h)
  have hown : s.vm.findClass R_RN = some m.cls := findClass_of_methodNamed B.named
  have hlocks := B.notSynchronized
  subst hsz
  have hD := hD.self (sz := s.heap.size)
  have hS : va_S (va_A [(o, .inr (0, [.ref b, .ref a])), (b, .inr (1, [.ref b0, .int hv])), (a, .inr (2, [.ref a0, .ref a1, .ref a2, .ref a3, .ref a4, .ref a5, .int sv, .int vv])), (a4, .inl (cSh g, 512, .inl sl)), (a5, .inl (cLo g, 4, .inr (.inl ms)))] s.heap.size) s.heap s.heap [] := va_S.rf
  have hA : ∀ q : Nat, s.heap.size ≤ q → va_A [(o, .inr (0, [.ref b, .ref a])), (b, .inr (1, [.ref b0, .int hv])), (a, .inr (2, [.ref a0, .ref a1, .ref a2, .ref a3, .ref a4, .ref a5, .int sv, .int vv])), (a4, .inl (cSh g, 512, .inl sl)), (a5, .inl (cLo g, 4, .inr (.inl ms)))] s.heap.size q := fun q h => Or.inr h
  generalize va_A [(o, .inr (0, [.ref b, .ref a])), (b, .inr (1, [.ref b0, .int hv])), (a, .inr (2, [.ref a0, .ref a1, .ref a2, .ref a3, .ref a4, .ref a5, .int sv, .int vv])), (a4, .inl (cSh g, 512, .inl sl)), (a5, .inl (cLo g, 4, .inr (.inl ms)))] s.heap.size = A at hD hS hA ⊢
  have hP : va_P g.1 classes [(o, .inr (0, [.ref b, .ref a])), (b, .inr (1, [.ref b0, .int hv])), (a, .inr (2, [.ref a0, .ref a1, .ref a2, .ref a3, .ref a4, .ref a5, .int sv, .int vv])), (a4, .inl (cSh g, 512, .inl sl)), (a5, .inl (cLo g, 4, .inr (.inl ms)))] s.heap := hP
  have hD : va_D A [(o, .inr (0, [.ref b, .ref a])), (b, .inr (1, [.ref b0, .int hv])), (a, .inr (2, [.ref a0, .ref a1, .ref a2, .ref a3, .ref a4, .ref a5, .int sv, .int vv])), (a4, .inl (cSh g, 512, .inl sl)), (a5, .inl (cLo g, 4, .inr (.inl ms)))] := hD
  have hl := lv_entry ([.ref o]) (n := 2) (Nat.le_of_ble_eq_true rfl)
  rw [lg_entry_eq]
  generalize (lg_sl ([.ref o]) ++ List.replicate (2 - (lg_sl ([.ref o])).length) Slot.unset).toArray = ls at hl ⊢
  have hl : lv_has ls 2 [(0, .ref o)] := hl
  refine lv_aload_n hx hb d_RN_clear_0 rfl (lv_at hl 0 rfl) ?_
  refine va_get (D := g.1) (ci := 0) (v := .ref a) (C := R_RN) (T := F_RN) (N := 2) hx hb hc i_RN hown hK hP 0 rfl rfl 1 (by decide) (hc _ kf_RN_19) (fun _ h9 => h9) rfl d_RN_clear_1 ?_
  refine va_getN (D := g.1) (ci := 2) (v := .int sv) (C := R_Marks) (T := F_Marks) (N := 8) hx hb hc i_Marks hown hK hP 2 rfl rfl 6 (by decide) (nf_RN_41 hN) (fun _ h9 => h9) rfl d_RN_clear_4 ?_
  refine lv_istore_n (lv' := [(1, .int sv), (0, .ref o)]) hx hb d_RN_clear_7 rfl hl (by decide) rfl (fun ls hl => ?_)
  refine lv_aload_n hx hb d_RN_clear_8 rfl (lv_at hl 1 rfl) ?_
  refine va_get (D := g.1) (ci := 0) (v := .ref a) (C := R_RN) (T := F_RN) (N := 2) hx hb hc i_RN hown hK hP 0 rfl rfl 1 (by decide) (hc _ kf_RN_19) (fun _ h9 => h9) rfl d_RN_clear_9 ?_
  refine x_cmv (wr := [(o, .inr (0, [.ref b, .ref a])), (b, .inr (1, [.ref b0, .int hv]))]) (x_runV (As := []) (rest := []) ⟨hx, hb, hml, hown, hc⟩ (c_Marks_clear l g _ a a0 a1 a2 a3 a4 a5 sv vv sl ms) (cwV 0 hc (good_V km_RN_71 ki_Marks_clear ks_Marks_clear kn_Marks kc_Marks_clear) rfl rfl rfl (by decide +kernel) ⟨Nat.le_of_ble_eq_true rfl, Nat.le_of_ble_eq_true rfl⟩) hP hD hK hN [2, 3, 4] (by decide) rfl (va_recv hK hP (ci := 2) (q0 := 2) rfl rfl) rfl hl.1 rfl (Nat.le_of_ble_eq_true rfl) d_RN_clear_12 ⟨Nat.le_of_ble_eq_true rfl, Nat.le_of_ble_eq_true rfl⟩) hP hD hS hA [2, 3, 4] [0, 1] rfl rfl (by decide) (by decide) (fun u H locs hw hP hD hS => ?_)
  obtain ⟨sl1, ms1⟩ := u
  have hP := hP.sub (ws' := [(o, .inr (0, [.ref b, .ref a])), (b, .inr (1, [.ref b0, .int hv])), (a, .inr (2, [.ref a0, .ref a1, .ref a2, .ref a3, .ref a4, .ref a5, .int 0, .int 0])), (a4, .inl (cSh g, 512, .inl sl1)), (a5, .inl (cLo g, 4, .inr (.inl ms1)))]) [0, 1, 2, 3, 4] rfl
  have hD := hD.sub (ws' := [(o, .inr (0, [.ref b, .ref a])), (b, .inr (1, [.ref b0, .int hv])), (a, .inr (2, [.ref a0, .ref a1, .ref a2, .ref a3, .ref a4, .ref a5, .int 0, .int 0])), (a4, .inl (cSh g, 512, .inl sl1)), (a5, .inl (cLo g, 4, .inr (.inl ms1)))]) [0, 1, 2, 3, 4] (by decide) rfl
  obtain ⟨hw1, hw2⟩ : (∀ s1, s1 < 512 → sl1 s1 = -1) ∧ ∀ x, x < 4 → ms1 x = 0 := hw
  refine lv_aload_n hx hb d_RN_clear_15 rfl (lv_at hl 1 rfl) ?_
  refine va_get (D := g.1) (ci := 0) (v := .ref b) (C := R_RN) (T := F_RN) (N := 2) hx hb hc i_RN hown hK hP 0 rfl rfl 0 (by decide) (hc _ kf_RN_10) (fun _ h9 => h9) rfl d_RN_clear_16 ?_
  refine lv_iconst (v := 0) hx hb d_RN_clear_19 (by decide) ?_
  refine va_putN (D := g.1) (ci := 1) (v := .int 0) (ty := .int) (C := R_Hand) (T := F_Hand) (N := 2) hx hb hc i_Hand t_Hand t_Hand_ok n_Hand hown hK hP hD hS 1 rfl rfl 1 (by decide) (nf_RN_23 hN) (fun _ h9 => h9) rfl (by decide +kernel) rfl rfl (Nat.le_of_ble_eq_true rfl) d_RN_clear_20 (fun H locs hP hD hS => ?_)
  have hP : va_P g.1 classes [(o, .inr (0, [.ref b, .ref a])), (b, .inr (1, [.ref b0, .int 0])), (a, .inr (2, [.ref a0, .ref a1, .ref a2, .ref a3, .ref a4, .ref a5, .int 0, .int 0])), (a4, .inl (cSh g, 512, .inl sl1)), (a5, .inl (cLo g, 4, .inr (.inl ms1)))] H := hP
  have hD : va_D A [(o, .inr (0, [.ref b, .ref a])), (b, .inr (1, [.ref b0, .int 0])), (a, .inr (2, [.ref a0, .ref a1, .ref a2, .ref a3, .ref a4, .ref a5, .int 0, .int 0])), (a4, .inl (cSh g, 512, .inl sl1)), (a5, .inl (cLo g, 4, .inr (.inl ms1)))] := hD
  refine lv_iload_n hx hb d_RN_clear_23 rfl (lv_at hl 0 rfl) ?_
  exact W.iret (v := sv) hx hb hr (fun t9 ht9 hW9 => ⟨⟨_, (sl1, ms1), rfl, ⟨hI.1, clear_inv hI hw1 hw2⟩, by rw [ht9]; exact hP, hD⟩, hS.F ht9⟩) hS.2.2 d_RN_clear_24
set_option maxHeartbeats 4000000 in
set_option maxRecDepth 100000 in
/-- ReferredNames(): a hand and marks come -/
theorem c_RN_init (l : Launch) (g : GT) (sz : Nat) (o : Nat) : Met l y_RN_init w_RN_init ({ frames := 2, cells := 9, slots := 13187, locals := 41 } : Room) (PcW [.ref o] sz g [(o, .inr (0, [.null, .null]))]) (va_Qv (fun (u : (Nat × Nat × Nat) × (Nat × Nat × Nat × Nat × Nat × Nat) × (Nat → Int32) × (Nat → Int64)) => (∀ s1, s1 < 512 → u.2.2.1 s1 = -1) ∧ ∀ x, x < 4 → u.2.2.2 x = 0) (BW g (va_A [(o, .inr (0, [.null, .null]))] sz) (fun u : (Nat × Nat × Nat) × (Nat × Nat × Nat × Nat × Nat × Nat) × (Nat → Int32) × (Nat → Int64) => [(o, .inr (0, [.ref u.1.1, .ref u.1.2.2])), (u.1.1, .inr (1, [.ref u.1.2.1, .int 0])), (u.1.2.1, .inl (cBy g, 60, .inl (fun _ => 0))), (u.1.2.2, .inr (2, [.ref u.2.1.1, .ref u.2.1.2.1, .ref u.2.1.2.2.1, .ref u.2.1.2.2.2.1, .ref u.2.1.2.2.2.2.1, .ref u.2.1.2.2.2.2.2, .int 0, .int 0])), (u.2.1.1, .inl (cBy g, 12000, .inl (fun _ => 0))), (u.2.1.2.1, .inl (cIn g, 201, .inl (fun _ => 0))), (u.2.1.2.2.1, .inl (cIn g, 200, .inl (fun _ => 0))), (u.2.1.2.2.2.1, .inl (cIn g, 200, .inl (fun _ => 0))), (u.2.1.2.2.2.2.1, .inl (cSh g, 512, .inl u.2.2.1)), (u.2.1.2.2.2.2.2, .inl (cLo g, 4, .inr (.inl u.2.2.2)))])) (va_A [(o, .inr (0, [.null, .null]))] sz)) 9 13187 (va_A [(o, .inr (0, [.null, .null]))] sz) := by
  refine Met.ofW (cc := b_RN_init) (maxL := 1) (ret := none) (by decide) rfl ?_
  intro p e s m args below meth c s₁ B hml hv
  obtain ⟨rfl, hsz, hP, hK, hN, hD⟩ := hv
  have hx := B.exec
  have hb := B.bytes
  have hr := B.returns
  have hc : ∀ w ∈ cmn, w.before ([.ref o] : List Value).toArray s = true := fun w h => atoms_spec (ws := w_RN_init) B.pre w (List.mem_cons_of_mem _ h)
  have hown : s.vm.findClass R_RN = some m.cls := findClass_of_methodNamed B.named
  have hlocks := B.notSynchronized
  have hin : meth.name = "<init>" := (name_of_methodNamed B.named B.method).1
  subst hsz
  have hD := hD.self (sz := s.heap.size)
  have hS : va_S (va_A [(o, .inr (0, [.null, .null]))] s.heap.size) s.heap s.heap [] := va_S.rf
  have hA : ∀ q : Nat, s.heap.size ≤ q → va_A [(o, .inr (0, [.null, .null]))] s.heap.size q := fun q h => Or.inr h
  generalize va_A [(o, .inr (0, [.null, .null]))] s.heap.size = A at hD hS hA ⊢
  have hP : va_P g.1 classes [(o, .inr (0, [.null, .null]))] s.heap := hP
  have hD : va_D A [(o, .inr (0, [.null, .null]))] := hD
  have hl := lv_entry ([.ref o]) (n := 1) (Nat.le_of_ble_eq_true rfl)
  rw [lg_entry_eq]
  generalize (lg_sl ([.ref o]) ++ List.replicate (1 - (lg_sl ([.ref o])).length) Slot.unset).toArray = ls at hl ⊢
  have hl : lv_has ls 1 [(0, .ref o)] := hl
  refine lv_aload_n hx hb d_RN_init_0 rfl (lv_at hl 0 rfl) ?_
  refine W.objInit hx hb hown (hc _ km_RN_1) (hc _ ki_Obj_init) (hc _ kc_Obj_init) rfl (by rw [hml]; exact hl.1) rfl d_RN_init_1 (Nat.le_of_ble_eq_true rfl) (Nat.le_of_ble_eq_true rfl) ?_
  refine W.eq (g2 := F0 m 4 ls []) rfl ?_
  refine lv_aload_n hx hb d_RN_init_4 rfl (lv_at hl 0 rfl) ?_
  refine va_new (ci := 1) (fs := [.null, .int 0]) (C := R_Hand) (T := F_Hand) (N := 2) hx hb hc i_Hand t_Hand t_Hand_ok hown (hc _ kl_RN_7) (hc _ kz_Hand) (hc _ kn_Hand) hK hP hD hS hA rfl (fun j hj => by rcases (show j = 0 ∨ j = 1 by omega) with rfl | rfl <;> rfl) (Nat.le_of_ble_eq_true rfl) (Nat.le_of_ble_eq_true rfl) d_RN_init_5 (fun q7 H hP hD hS => ?_)
  have hP : va_P g.1 classes [(o, .inr (0, [.null, .null])), (q7, .inr (1, [.null, .int 0]))] H := hP
  have hD : va_D A [(o, .inr (0, [.null, .null])), (q7, .inr (1, [.null, .int 0]))] := hD
  refine lv_dup hx hb d_RN_init_8 rfl ?_
  refine x_cmv (wr := [(o, .inr (0, [.null, .null]))]) (x_runIN (As := []) (rest := [.ref q7, .ref o]) ⟨hx, hb, hml, hown, hc⟩ (c_Hand_init l g _ q7) ⟨va_cnB 0 hc (good_cmn kc_Hand_init) rfl rfl rfl (nw_nm_RN_9 hN) (hc _ kn_Hand) (by decide +kernel) ⟨Nat.le_of_ble_eq_true rfl, Nat.le_of_ble_eq_true rfl⟩, rfl, hc _ ki_Hand_init⟩ hP hD hK hN [1] (by decide) rfl rfl hl.1 rfl (Nat.le_of_ble_eq_true rfl) d_RN_init_9 ⟨Nat.le_of_ble_eq_true rfl, Nat.le_of_ble_eq_true rfl⟩) hP hD hS hA [1] [0] rfl rfl (by decide) (by decide) (fun q8 H locs hw0 hP hD hS => ?_)
  have hP := hP.sub (ws' := [(o, .inr (0, [.null, .null])), (q7, .inr (1, [.ref q8, .int 0])), (q8, .inl (cBy g, 60, .inl (fun _ => 0)))]) [0, 1, 2] rfl
  have hD := hD.sub (ws' := [(o, .inr (0, [.null, .null])), (q7, .inr (1, [.ref q8, .int 0])), (q8, .inl (cBy g, 60, .inl (fun _ => 0)))]) [0, 1, 2] (by decide) rfl
  refine va_putF (D := g.1) (ci := 0) (v := .ref q7) (ty := .object "ReferredNames$Hand") (C := R_RN) (T := F_RN) (N := 2) hx hb hc i_RN t_RN t_RN_ok n_RN hown hK hP hD hS 0 rfl rfl 0 (by decide) (hc _ kf_RN_10) (fun _ h9 => h9) rfl hin rfl (by decide +kernel) rfl rfl (Nat.le_of_ble_eq_true rfl) d_RN_init_12 (fun H locs hP hD hS => ?_)
  have hP : va_P g.1 classes [(o, .inr (0, [.ref q7, .null])), (q7, .inr (1, [.ref q8, .int 0])), (q8, .inl (cBy g, 60, .inl (fun _ => 0)))] H := hP
  have hD : va_D A [(o, .inr (0, [.ref q7, .null])), (q7, .inr (1, [.ref q8, .int 0])), (q8, .inl (cBy g, 60, .inl (fun _ => 0)))] := hD
  refine lv_aload_n hx hb d_RN_init_15 rfl (lv_at hl 0 rfl) ?_
  refine va_new (ci := 2) (fs := [.null, .null, .null, .null, .null, .null, .int 0, .int 0]) (C := R_Marks) (T := F_Marks) (N := 8) hx hb hc i_Marks t_Marks t_Marks_ok hown (hc _ kl_RN_16) (hc _ kz_Marks) (hc _ kn_Marks) hK hP hD hS hA rfl (fun j hj => by rcases (show j = 0 ∨ j = 1 ∨ j = 2 ∨ j = 3 ∨ j = 4 ∨ j = 5 ∨ j = 6 ∨ j = 7 by omega) with rfl | rfl | rfl | rfl | rfl | rfl | rfl | rfl <;> rfl) (Nat.le_of_ble_eq_true rfl) (Nat.le_of_ble_eq_true rfl) d_RN_init_16 (fun q9 H hP hD hS => ?_)
  have hP : va_P g.1 classes [(o, .inr (0, [.ref q7, .null])), (q7, .inr (1, [.ref q8, .int 0])), (q8, .inl (cBy g, 60, .inl (fun _ => 0))), (q9, .inr (2, [.null, .null, .null, .null, .null, .null, .int 0, .int 0]))] H := hP
  have hD : va_D A [(o, .inr (0, [.ref q7, .null])), (q7, .inr (1, [.ref q8, .int 0])), (q8, .inl (cBy g, 60, .inl (fun _ => 0))), (q9, .inr (2, [.null, .null, .null, .null, .null, .null, .int 0, .int 0]))] := hD
  refine lv_dup hx hb d_RN_init_19 rfl ?_
  refine x_cmv (wr := [(o, .inr (0, [.ref q7, .null])), (q7, .inr (1, [.ref q8, .int 0])), (q8, .inl (cBy g, 60, .inl (fun _ => 0)))]) (x_runI (As := []) (rest := [.ref q9, .ref o]) ⟨hx, hb, hml, hown, hc⟩ (c_Marks_init l g _ q9) (cwI 0 hc (good_cmn kc_Marks_init) rfl rfl rfl (hc _ kn_Marks) (hc _ km_RN_18) (hc _ ki_Marks_init) rfl (by decide +kernel) ⟨Nat.le_of_ble_eq_true rfl, Nat.le_of_ble_eq_true rfl⟩) hP hD hK hN [3] (by decide) rfl rfl hl.1 rfl (Nat.le_of_ble_eq_true rfl) d_RN_init_20 ⟨Nat.le_of_ble_eq_true rfl, Nat.le_of_ble_eq_true rfl⟩) hP hD hS hA [3] [0, 1, 2] rfl rfl (by decide) (by decide) (fun u H locs hw hP hD hS => ?_)
  obtain ⟨⟨q0, q1, q2, q3, q4, q5⟩, sl, ms⟩ := u
  have hP := hP.sub (ws' := [(o, .inr (0, [.ref q7, .null])), (q7, .inr (1, [.ref q8, .int 0])), (q8, .inl (cBy g, 60, .inl (fun _ => 0))), (q9, .inr (2, [.ref q0, .ref q1, .ref q2, .ref q3, .ref q4, .ref q5, .int 0, .int 0])), (q0, .inl (cBy g, 12000, .inl (fun _ => 0))), (q1, .inl (cIn g, 201, .inl (fun _ => 0))), (q2, .inl (cIn g, 200, .inl (fun _ => 0))), (q3, .inl (cIn g, 200, .inl (fun _ => 0))), (q4, .inl (cSh g, 512, .inl sl)), (q5, .inl (cLo g, 4, .inr (.inl ms)))]) [0, 1, 2, 3, 4, 5, 6, 7, 8, 9] rfl
  have hD := hD.sub (ws' := [(o, .inr (0, [.ref q7, .null])), (q7, .inr (1, [.ref q8, .int 0])), (q8, .inl (cBy g, 60, .inl (fun _ => 0))), (q9, .inr (2, [.ref q0, .ref q1, .ref q2, .ref q3, .ref q4, .ref q5, .int 0, .int 0])), (q0, .inl (cBy g, 12000, .inl (fun _ => 0))), (q1, .inl (cIn g, 201, .inl (fun _ => 0))), (q2, .inl (cIn g, 200, .inl (fun _ => 0))), (q3, .inl (cIn g, 200, .inl (fun _ => 0))), (q4, .inl (cSh g, 512, .inl sl)), (q5, .inl (cLo g, 4, .inr (.inl ms)))]) [0, 1, 2, 3, 4, 5, 6, 7, 8, 9] (by decide) rfl
  refine va_putF (D := g.1) (ci := 0) (v := .ref q9) (ty := .object "ReferredNames$Marks") (C := R_RN) (T := F_RN) (N := 2) hx hb hc i_RN t_RN t_RN_ok n_RN hown hK hP hD hS 0 rfl rfl 1 (by decide) (hc _ kf_RN_19) (fun _ h9 => h9) rfl hin rfl (by decide +kernel) rfl rfl (Nat.le_of_ble_eq_true rfl) d_RN_init_23 (fun H locs hP hD hS => ?_)
  have hP : va_P g.1 classes [(o, .inr (0, [.ref q7, .ref q9])), (q7, .inr (1, [.ref q8, .int 0])), (q8, .inl (cBy g, 60, .inl (fun _ => 0))), (q9, .inr (2, [.ref q0, .ref q1, .ref q2, .ref q3, .ref q4, .ref q5, .int 0, .int 0])), (q0, .inl (cBy g, 12000, .inl (fun _ => 0))), (q1, .inl (cIn g, 201, .inl (fun _ => 0))), (q2, .inl (cIn g, 200, .inl (fun _ => 0))), (q3, .inl (cIn g, 200, .inl (fun _ => 0))), (q4, .inl (cSh g, 512, .inl sl)), (q5, .inl (cLo g, 4, .inr (.inl ms)))] H := hP
  have hD : va_D A [(o, .inr (0, [.ref q7, .ref q9])), (q7, .inr (1, [.ref q8, .int 0])), (q8, .inl (cBy g, 60, .inl (fun _ => 0))), (q9, .inr (2, [.ref q0, .ref q1, .ref q2, .ref q3, .ref q4, .ref q5, .int 0, .int 0])), (q0, .inl (cBy g, 12000, .inl (fun _ => 0))), (q1, .inl (cIn g, 201, .inl (fun _ => 0))), (q2, .inl (cIn g, 200, .inl (fun _ => 0))), (q3, .inl (cIn g, 200, .inl (fun _ => 0))), (q4, .inl (cSh g, 512, .inl sl)), (q5, .inl (cLo g, 4, .inr (.inl ms)))] := hD
  refine W.widen (k := 9) (n := 13187) (Nat.le_of_ble_eq_true rfl) (Nat.le_of_ble_eq_true rfl) ?_
  exact W.vret hx hb hr (fun t9 ht9 hW9 => ⟨⟨((q7, q8, q9), (q0, q1, q2, q3, q4, q5), sl, ms), rfl, hw, by rw [ht9]; exact hP, hD⟩, hS.F ht9⟩) hS.2.2 d_RN_init_26
end
section
/-! PURE, for the reference -/
def shn (v : Int64) : Nat → Int64
  | 0 => v
  | x + 1 => shn v x >>> ((8 : Int32).toInt64 &&& 63)
theorem shn_bit (v : Int64) : ∀ (x i : Nat), 8 * x + i < 64 → (shn v x).toBitVec.getLsbD i = v.toBitVec.getLsbD (8 * x + i)
  | 0, i, _ => by
    rw [Nat.mul_zero, Nat.zero_add]
    rfl
  | x + 1, i, h => by
    have h1 : (shn v x >>> ((nI 8).toInt64 &&& 63)).toBitVec.getLsbD i = (shn v x).toBitVec.getLsbD (8 + i) := shr_bit (shn v x) (by decide) (by omega)
    refine Eq.trans h1 ?_
    rw [shn_bit v x (8 + i) (by omega)]
    congr 1
    omega
theorem put_nat (v : Int64) {x : Nat} (hx : x < 8) : (shn v x &&& 255).toInt32 = nI (vb v x) := by
  apply Int32.toBitVec_inj.mp
  apply BitVec.eq_of_getLsbD_eq
  intro i hi
  show ((shn v x &&& 255).toBitVec.signExtend 32).getLsbD i = (BitVec.ofNat 32 (vb v x)).getLsbD i
  have h255 : (255 : Int64).toBitVec.getLsbD i = decide (i < 8) := by
    rw [show (255 : Int64).toBitVec = BitVec.ofNat 64 (2 ^ 8 - 1) by decide, BitVec.getLsbD_ofNat, Nat.testBit_two_pow_sub_one, decide_eq_true (show i < 64 by omega), Bool.true_and]
  rw [BitVec.getLsbD_signExtend, if_pos (by omega), Int64.toBitVec_and, BitVec.getLsbD_and, h255, BitVec.getLsbD_ofNat, decide_eq_true hi, Bool.true_and, Bool.true_and]
  by_cases h8 : i < 8
  · rw [decide_eq_true h8, Bool.and_true, shn_bit v x i (by omega), vb_bit v h8]
  · rw [decide_eq_false h8, Bool.and_false, Nat.testBit_lt_two_pow (Nat.lt_of_lt_of_le (vb_lt v x) (Nat.pow_le_pow_right (n := 2) (i := 8) (by decide) (by omega)))]
theorem put_badT {h : Nat} {nb : Nat → Nat} {f : Nat → Int32} (hf : ∀ i, i < h → f i = nI (nb i)) (v : Int64) : ∀ i, i < h + 0 → f i = nI (putH h nb v 0 i) := by
  intro i hi
  unfold putH
  rw [if_pos (by omega)]
  exact hf i hi
theorem put_stepT {h j k : Nat} {nb : Nat → Nat} {f1 : Nat → Int32} {v : Int64} (hk : k < j) (hf : ∀ i, i < h + k → f1 i = nI (putH h nb v j i)) : ∀ i, i < h + (k + 1) → upd f1 (h + k) (nI (vb v (j - 1 - k))) i = nI (putH h nb v j i) := by
  intro i hi
  by_cases e : i = h + k
  · subst e
    rw [pk_us]
    unfold putH
    rw [if_neg (by omega), show h + k - h = k by omega]
  · rw [pk_un e]
    exact hf i (by omega)
/-- the last place so far -/
def FndIs (V : AS) (h : Nat) (nb : Nat → Nat) (k : Nat) (r : Int32) : Prop := (∃ j, j < k ∧ Mt V h nb j ∧ r = nI j) ∨ ((∀ j, j < k → ¬ Mt V h nb j) ∧ r = -1)
theorem FndIs_end {V : AS} {Bd h : Nat} {nb : Nat → Nat} {r : Int32} {pl : Option Nat} (hV : AOk V Bd) (hp : PlIs V h nb pl) (hr : FndIs V h nb (aN V) r) : r = fR pl := by
  cases pl with
  | none =>
    rcases hr with ⟨j, hj, hm, -⟩ | ⟨-, e⟩
    · exact absurd hm (hp j hj)
    · exact e
  | some k =>
    rcases hr with ⟨j, hj, hm, e⟩ | ⟨hno, -⟩
    · rw [e, Mt_one hV hj hp.1 hm hp.2]
      rfl
    · exact absurd hp.2 (hno k hp.1)
theorem knowT_inv {V : AS} {h : Nat} {nb : Nat → Nat} {mb mb' mz mg mr : Nat → Int32} {kv : Int32} (hI : TInv V mb mz mg mr kv) (hn : ¬ aN V = 200) (hz : ∀ k, k < aN V → aZ V k ≤ 60) (h1 : ∀ i, i < h → mb' (60 * aN V + i) = nI (nb i)) (h2 : ∀ x, x < 60 * aN V → mb' x = mb x) :
    TInv (kA V h nb none) mb' (upd mz (aN V) (nI h)) (upd mg (aN V) 0) (upd mr (aN V) 0) (nI (aN V + 1)) := by
  have ek : kA V h nb none = (aN V + 1, va_up (aZ V) (aN V) h, va_up (aB V) (aN V) nb, va_up (aG V) (aN V) 0, va_up (aR V) (aN V) 0) := if_neg hn
  rw [ek]
  refine ⟨rfl, fun k hk => ?_⟩
  have hk : k < aN V + 1 := hk
  show upd mz (aN V) (nI h) k = nI (va_up (aZ V) (aN V) h k) ∧ upd mg (aN V) 0 k = nI (va_up (aG V) (aN V) 0 k) ∧ upd mr (aN V) 0 k = nI (va_up (aR V) (aN V) 0 k) ∧ ∀ i, i < va_up (aZ V) (aN V) h k → mb' (60 * k + i) = nI (va_up (aB V) (aN V) nb k i)
  by_cases e : k = aN V
  · subst e
    rw [pk_us, pk_us, pk_us, va_up_self, va_up_self, va_up_self, va_up_self]
    exact ⟨rfl, nI_0.symm, nI_0.symm, h1⟩
  · rw [pk_un e, pk_un e, pk_un e, va_up_ne _ _ e, va_up_ne _ _ e, va_up_ne _ _ e, va_up_ne _ _ e]
    have hq := hI.2 k (by omega)
    refine ⟨hq.1, hq.2.1, hq.2.2.1, fun i hi => ?_⟩
    have := hz k (by omega)
    rw [h2 _ (by omega)]
    exact hq.2.2.2 i hi
theorem giveT_inv {V : AS} {k : Nat} {mb mz mg mr : Nat → Int32} {kv : Int32} (hI : TInv V mb mz mg mr kv) : TInv (gA V k) mb mz (upd mg k (nI (aG V k + 1))) mr kv := by
  refine ⟨hI.1, fun j hj => ?_⟩
  have hq := hI.2 j hj
  refine ⟨hq.1, ?_, hq.2.2⟩
  show _ = nI (va_up (aG V) k (aG V k + 1) j)
  by_cases e : j = k
  · subst e
    rw [pk_us, va_up_self]
  · rw [pk_un e, va_up_ne _ _ e]
    exact hq.2.1
theorem referT_inv {V : AS} {k : Nat} {mb mz mg mr : Nat → Int32} {kv : Int32} (hI : TInv V mb mz mg mr kv) : TInv (rA V k) mb mz mg (upd mr k (nI (aR V k + 1))) kv := by
  refine ⟨hI.1, fun j hj => ?_⟩
  have hq := hI.2 j hj
  refine ⟨hq.1, hq.2.1, ?_, hq.2.2.2⟩
  show _ = nI (va_up (aR V) k (aR V k + 1) j)
  by_cases e : j = k
  · subst e
    rw [pk_us, va_up_self]
  · rw [pk_un e, va_up_ne _ _ e]
    exact hq.2.2.1
theorem cnt_s (p : Nat → Bool) (k : Nat) : cnt p (k + 1) = cnt p k + (p k).toNat := rfl
theorem vns_s (z : Nat → Nat) (k : Nat) : vns z (k + 1) = vns z k + (z k - 1) := rfl
theorem d_Model_init_0 : decode b_Model_init 0 = .ok (.aload_n 0, 1) := by decide +kernel
theorem d_Model_init_1 : decode b_Model_init 1 = .ok (.invokespecial 1, 3) := by decide +kernel
theorem d_Model_init_4 : decode b_Model_init 4 = .ok (.aload_n 0, 1) := by decide +kernel
theorem d_Model_init_5 : decode b_Model_init 5 = .ok (.bipush 60, 2) := by decide +kernel
theorem d_Model_init_7 : decode b_Model_init 7 = .ok (.newarray .int, 2) := by decide +kernel
theorem d_Model_init_9 : decode b_Model_init 9 = .ok (.putfield 7, 3) := by decide +kernel
theorem d_Model_init_12 : decode b_Model_init 12 = .ok (.aload_n 0, 1) := by decide +kernel
theorem d_Model_init_13 : decode b_Model_init 13 = .ok (.sipush 12000, 3) := by decide +kernel
theorem d_Model_init_16 : decode b_Model_init 16 = .ok (.newarray .int, 2) := by decide +kernel
theorem d_Model_init_18 : decode b_Model_init 18 = .ok (.putfield 13, 3) := by decide +kernel
theorem d_Model_init_21 : decode b_Model_init 21 = .ok (.aload_n 0, 1) := by decide +kernel
theorem d_Model_init_22 : decode b_Model_init 22 = .ok (.sipush 200, 3) := by decide +kernel
theorem d_Model_init_25 : decode b_Model_init 25 = .ok (.newarray .int, 2) := by decide +kernel
theorem d_Model_init_27 : decode b_Model_init 27 = .ok (.putfield 16, 3) := by decide +kernel
theorem d_Model_init_30 : decode b_Model_init 30 = .ok (.aload_n 0, 1) := by decide +kernel
theorem d_Model_init_31 : decode b_Model_init 31 = .ok (.sipush 200, 3) := by decide +kernel
theorem d_Model_init_34 : decode b_Model_init 34 = .ok (.newarray .int, 2) := by decide +kernel
theorem d_Model_init_36 : decode b_Model_init 36 = .ok (.putfield 19, 3) := by decide +kernel
theorem d_Model_init_39 : decode b_Model_init 39 = .ok (.aload_n 0, 1) := by decide +kernel
theorem d_Model_init_40 : decode b_Model_init 40 = .ok (.sipush 200, 3) := by decide +kernel
theorem d_Model_init_43 : decode b_Model_init 43 = .ok (.newarray .int, 2) := by decide +kernel
theorem d_Model_init_45 : decode b_Model_init 45 = .ok (.putfield 22, 3) := by decide +kernel
theorem d_Model_init_48 : decode b_Model_init 48 = .ok (.return_, 1) := by decide +kernel
theorem d_Model_put_0 : decode b_Model_put 0 = .ok (.iload_n 3, 1) := by decide +kernel
theorem d_Model_put_1 : decode b_Model_put 1 = .ok (.iconst 1, 1) := by decide +kernel
theorem d_Model_put_2 : decode b_Model_put 2 = .ok (.if_icmp .lt 20, 3) := by decide +kernel
theorem d_Model_put_5 : decode b_Model_put 5 = .ok (.iload_n 3, 1) := by decide +kernel
theorem d_Model_put_6 : decode b_Model_put 6 = .ok (.bipush 8, 2) := by decide +kernel
theorem d_Model_put_8 : decode b_Model_put 8 = .ok (.if_icmp .gt 14, 3) := by decide +kernel
theorem d_Model_put_11 : decode b_Model_put 11 = .ok (.aload_n 0, 1) := by decide +kernel
theorem d_Model_put_12 : decode b_Model_put 12 = .ok (.getfield 25, 3) := by decide +kernel
theorem d_Model_put_15 : decode b_Model_put 15 = .ok (.iload_n 3, 1) := by decide +kernel
theorem d_Model_put_16 : decode b_Model_put 16 = .ok (.iadd, 1) := by decide +kernel
theorem d_Model_put_17 : decode b_Model_put 17 = .ok (.bipush 60, 2) := by decide +kernel
theorem d_Model_put_19 : decode b_Model_put 19 = .ok (.if_icmp .le 5, 3) := by decide +kernel
theorem d_Model_put_22 : decode b_Model_put 22 = .ok (.iconst 0, 1) := by decide +kernel
theorem d_Model_put_23 : decode b_Model_put 23 = .ok (.ireturn, 1) := by decide +kernel
theorem d_Model_put_24 : decode b_Model_put 24 = .ok (.iconst 0, 1) := by decide +kernel
theorem d_Model_put_25 : decode b_Model_put 25 = .ok (.istore 4, 2) := by decide +kernel
theorem d_Model_put_27 : decode b_Model_put 27 = .ok (.iload 4, 2) := by decide +kernel
theorem d_Model_put_29 : decode b_Model_put 29 = .ok (.iload_n 3, 1) := by decide +kernel
theorem d_Model_put_30 : decode b_Model_put 30 = .ok (.if_icmp .ge 56, 3) := by decide +kernel
theorem d_Model_put_33 : decode b_Model_put 33 = .ok (.lload_n 1, 1) := by decide +kernel
theorem d_Model_put_34 : decode b_Model_put 34 = .ok (.lstore 5, 2) := by decide +kernel
theorem d_Model_put_36 : decode b_Model_put 36 = .ok (.iload 4, 2) := by decide +kernel
theorem d_Model_put_38 : decode b_Model_put 38 = .ok (.iconst 1, 1) := by decide +kernel
theorem d_Model_put_39 : decode b_Model_put 39 = .ok (.iadd, 1) := by decide +kernel
theorem d_Model_put_40 : decode b_Model_put 40 = .ok (.istore 7, 2) := by decide +kernel
theorem d_Model_put_42 : decode b_Model_put 42 = .ok (.iload 7, 2) := by decide +kernel
theorem d_Model_put_44 : decode b_Model_put 44 = .ok (.iload_n 3, 1) := by decide +kernel
theorem d_Model_put_45 : decode b_Model_put 45 = .ok (.if_icmp .ge 16, 3) := by decide +kernel
theorem d_Model_put_48 : decode b_Model_put 48 = .ok (.lload 5, 2) := by decide +kernel
theorem d_Model_put_50 : decode b_Model_put 50 = .ok (.bipush 8, 2) := by decide +kernel
theorem d_Model_put_52 : decode b_Model_put 52 = .ok (.lshr, 1) := by decide +kernel
theorem d_Model_put_53 : decode b_Model_put 53 = .ok (.lstore 5, 2) := by decide +kernel
theorem d_Model_put_55 : decode b_Model_put 55 = .ok (.iinc 7 1, 3) := by decide +kernel
theorem d_Model_put_58 : decode b_Model_put 58 = .ok (.goto (-16), 3) := by decide +kernel
theorem d_Model_put_61 : decode b_Model_put 61 = .ok (.aload_n 0, 1) := by decide +kernel
theorem d_Model_put_62 : decode b_Model_put 62 = .ok (.getfield 7, 3) := by decide +kernel
theorem d_Model_put_65 : decode b_Model_put 65 = .ok (.aload_n 0, 1) := by decide +kernel
theorem d_Model_put_66 : decode b_Model_put 66 = .ok (.getfield 25, 3) := by decide +kernel
theorem d_Model_put_69 : decode b_Model_put 69 = .ok (.iload 4, 2) := by decide +kernel
theorem d_Model_put_71 : decode b_Model_put 71 = .ok (.iadd, 1) := by decide +kernel
theorem d_Model_put_72 : decode b_Model_put 72 = .ok (.lload 5, 2) := by decide +kernel
theorem d_Model_put_74 : decode b_Model_put 74 = .ok (.ldc2_w 29, 3) := by decide +kernel
theorem d_Model_put_77 : decode b_Model_put 77 = .ok (.land, 1) := by decide +kernel
theorem d_Model_put_78 : decode b_Model_put 78 = .ok (.l2i, 1) := by decide +kernel
theorem d_Model_put_79 : decode b_Model_put 79 = .ok (.iastore, 1) := by decide +kernel
theorem d_Model_put_80 : decode b_Model_put 80 = .ok (.iinc 4 1, 3) := by decide +kernel
theorem d_Model_put_83 : decode b_Model_put 83 = .ok (.goto (-56), 3) := by decide +kernel
theorem d_Model_put_86 : decode b_Model_put 86 = .ok (.aload_n 0, 1) := by decide +kernel
theorem d_Model_put_87 : decode b_Model_put 87 = .ok (.aload_n 0, 1) := by decide +kernel
theorem d_Model_put_88 : decode b_Model_put 88 = .ok (.getfield 25, 3) := by decide +kernel
theorem d_Model_put_91 : decode b_Model_put 91 = .ok (.iload_n 3, 1) := by decide +kernel
theorem d_Model_put_92 : decode b_Model_put 92 = .ok (.iadd, 1) := by decide +kernel
theorem d_Model_put_93 : decode b_Model_put 93 = .ok (.putfield 25, 3) := by decide +kernel
theorem d_Model_put_96 : decode b_Model_put 96 = .ok (.iconst 1, 1) := by decide +kernel
theorem d_Model_put_97 : decode b_Model_put 97 = .ok (.ireturn, 1) := by decide +kernel
theorem d_Model_place_0 : decode b_Model_place 0 = .ok (.iconst (-1), 1) := by decide +kernel
theorem d_Model_place_1 : decode b_Model_place 1 = .ok (.istore_n 1, 1) := by decide +kernel
theorem d_Model_place_2 : decode b_Model_place 2 = .ok (.iconst 0, 1) := by decide +kernel
theorem d_Model_place_3 : decode b_Model_place 3 = .ok (.istore_n 2, 1) := by decide +kernel
theorem d_Model_place_4 : decode b_Model_place 4 = .ok (.iload_n 2, 1) := by decide +kernel
theorem d_Model_place_5 : decode b_Model_place 5 = .ok (.aload_n 0, 1) := by decide +kernel
theorem d_Model_place_6 : decode b_Model_place 6 = .ok (.getfield 31, 3) := by decide +kernel
theorem d_Model_place_9 : decode b_Model_place 9 = .ok (.if_icmp .ge 88, 3) := by decide +kernel
theorem d_Model_place_12 : decode b_Model_place 12 = .ok (.aload_n 0, 1) := by decide +kernel
theorem d_Model_place_13 : decode b_Model_place 13 = .ok (.getfield 16, 3) := by decide +kernel
theorem d_Model_place_16 : decode b_Model_place 16 = .ok (.iload_n 2, 1) := by decide +kernel
theorem d_Model_place_17 : decode b_Model_place 17 = .ok (.iaload, 1) := by decide +kernel
theorem d_Model_place_18 : decode b_Model_place 18 = .ok (.aload_n 0, 1) := by decide +kernel
theorem d_Model_place_19 : decode b_Model_place 19 = .ok (.getfield 25, 3) := by decide +kernel
theorem d_Model_place_22 : decode b_Model_place 22 = .ok (.if_icmp .ne 7, 3) := by decide +kernel
theorem d_Model_place_25 : decode b_Model_place 25 = .ok (.iconst 1, 1) := by decide +kernel
theorem d_Model_place_26 : decode b_Model_place 26 = .ok (.goto 4, 3) := by decide +kernel
theorem d_Model_place_29 : decode b_Model_place 29 = .ok (.iconst 0, 1) := by decide +kernel
theorem d_Model_place_30 : decode b_Model_place 30 = .ok (.istore_n 3, 1) := by decide +kernel
theorem d_Model_place_31 : decode b_Model_place 31 = .ok (.iconst 0, 1) := by decide +kernel
theorem d_Model_place_32 : decode b_Model_place 32 = .ok (.istore 4, 2) := by decide +kernel
theorem d_Model_place_34 : decode b_Model_place 34 = .ok (.iload 4, 2) := by decide +kernel
theorem d_Model_place_36 : decode b_Model_place 36 = .ok (.aload_n 0, 1) := by decide +kernel
theorem d_Model_place_37 : decode b_Model_place 37 = .ok (.getfield 25, 3) := by decide +kernel
theorem d_Model_place_40 : decode b_Model_place 40 = .ok (.if_icmp .ge 41, 3) := by decide +kernel
theorem d_Model_place_43 : decode b_Model_place 43 = .ok (.iload_n 3, 1) := by decide +kernel
theorem d_Model_place_44 : decode b_Model_place 44 = .ok (.ifCond .eq 29, 3) := by decide +kernel
theorem d_Model_place_47 : decode b_Model_place 47 = .ok (.aload_n 0, 1) := by decide +kernel
theorem d_Model_place_48 : decode b_Model_place 48 = .ok (.getfield 13, 3) := by decide +kernel
theorem d_Model_place_51 : decode b_Model_place 51 = .ok (.bipush 60, 2) := by decide +kernel
theorem d_Model_place_53 : decode b_Model_place 53 = .ok (.iload_n 2, 1) := by decide +kernel
theorem d_Model_place_54 : decode b_Model_place 54 = .ok (.imul, 1) := by decide +kernel
theorem d_Model_place_55 : decode b_Model_place 55 = .ok (.iload 4, 2) := by decide +kernel
theorem d_Model_place_57 : decode b_Model_place 57 = .ok (.iadd, 1) := by decide +kernel
theorem d_Model_place_58 : decode b_Model_place 58 = .ok (.iaload, 1) := by decide +kernel
theorem d_Model_place_59 : decode b_Model_place 59 = .ok (.aload_n 0, 1) := by decide +kernel
theorem d_Model_place_60 : decode b_Model_place 60 = .ok (.getfield 7, 3) := by decide +kernel
theorem d_Model_place_63 : decode b_Model_place 63 = .ok (.iload 4, 2) := by decide +kernel
theorem d_Model_place_65 : decode b_Model_place 65 = .ok (.iaload, 1) := by decide +kernel
theorem d_Model_place_66 : decode b_Model_place 66 = .ok (.if_icmp .ne 7, 3) := by decide +kernel
theorem d_Model_place_69 : decode b_Model_place 69 = .ok (.iconst 1, 1) := by decide +kernel
theorem d_Model_place_70 : decode b_Model_place 70 = .ok (.goto 4, 3) := by decide +kernel
theorem d_Model_place_73 : decode b_Model_place 73 = .ok (.iconst 0, 1) := by decide +kernel
theorem d_Model_place_74 : decode b_Model_place 74 = .ok (.istore_n 3, 1) := by decide +kernel
theorem d_Model_place_75 : decode b_Model_place 75 = .ok (.iinc 4 1, 3) := by decide +kernel
theorem d_Model_place_78 : decode b_Model_place 78 = .ok (.goto (-44), 3) := by decide +kernel
theorem d_Model_place_81 : decode b_Model_place 81 = .ok (.iload_n 3, 1) := by decide +kernel
theorem d_Model_place_82 : decode b_Model_place 82 = .ok (.ifCond .eq 7, 3) := by decide +kernel
theorem d_Model_place_85 : decode b_Model_place 85 = .ok (.iload_n 2, 1) := by decide +kernel
theorem d_Model_place_86 : decode b_Model_place 86 = .ok (.goto 4, 3) := by decide +kernel
theorem d_Model_place_89 : decode b_Model_place 89 = .ok (.iload_n 1, 1) := by decide +kernel
theorem d_Model_place_90 : decode b_Model_place 90 = .ok (.istore_n 1, 1) := by decide +kernel
theorem d_Model_place_91 : decode b_Model_place 91 = .ok (.iinc 2 1, 3) := by decide +kernel
theorem d_Model_place_94 : decode b_Model_place 94 = .ok (.goto (-90), 3) := by decide +kernel
theorem d_Model_place_97 : decode b_Model_place 97 = .ok (.iload_n 1, 1) := by decide +kernel
theorem d_Model_place_98 : decode b_Model_place 98 = .ok (.ireturn, 1) := by decide +kernel
theorem d_Model_known_0 : decode b_Model_known 0 = .ok (.aload_n 0, 1) := by decide +kernel
theorem d_Model_known_1 : decode b_Model_known 1 = .ok (.invokevirtual 34, 3) := by decide +kernel
theorem d_Model_known_4 : decode b_Model_known 4 = .ok (.istore_n 1, 1) := by decide +kernel
theorem d_Model_known_5 : decode b_Model_known 5 = .ok (.iload_n 1, 1) := by decide +kernel
theorem d_Model_known_6 : decode b_Model_known 6 = .ok (.ifCond .ge 19, 3) := by decide +kernel
theorem d_Model_known_9 : decode b_Model_known 9 = .ok (.aload_n 0, 1) := by decide +kernel
theorem d_Model_known_10 : decode b_Model_known 10 = .ok (.getfield 31, 3) := by decide +kernel
theorem d_Model_known_13 : decode b_Model_known 13 = .ok (.sipush 200, 3) := by decide +kernel
theorem d_Model_known_16 : decode b_Model_known 16 = .ok (.if_icmp .ne 9, 3) := by decide +kernel
theorem d_Model_known_19 : decode b_Model_known 19 = .ok (.bipush (-2), 2) := by decide +kernel
theorem d_Model_known_21 : decode b_Model_known 21 = .ok (.istore_n 1, 1) := by decide +kernel
theorem d_Model_known_22 : decode b_Model_known 22 = .ok (.goto 79, 3) := by decide +kernel
theorem d_Model_known_25 : decode b_Model_known 25 = .ok (.iload_n 1, 1) := by decide +kernel
theorem d_Model_known_26 : decode b_Model_known 26 = .ok (.ifCond .ge 75, 3) := by decide +kernel
theorem d_Model_known_29 : decode b_Model_known 29 = .ok (.aload_n 0, 1) := by decide +kernel
theorem d_Model_known_30 : decode b_Model_known 30 = .ok (.getfield 31, 3) := by decide +kernel
theorem d_Model_known_33 : decode b_Model_known 33 = .ok (.istore_n 1, 1) := by decide +kernel
theorem d_Model_known_34 : decode b_Model_known 34 = .ok (.aload_n 0, 1) := by decide +kernel
theorem d_Model_known_35 : decode b_Model_known 35 = .ok (.getfield 16, 3) := by decide +kernel
theorem d_Model_known_38 : decode b_Model_known 38 = .ok (.iload_n 1, 1) := by decide +kernel
theorem d_Model_known_39 : decode b_Model_known 39 = .ok (.aload_n 0, 1) := by decide +kernel
theorem d_Model_known_40 : decode b_Model_known 40 = .ok (.getfield 25, 3) := by decide +kernel
theorem d_Model_known_43 : decode b_Model_known 43 = .ok (.iastore, 1) := by decide +kernel
theorem d_Model_known_44 : decode b_Model_known 44 = .ok (.iconst 0, 1) := by decide +kernel
theorem d_Model_known_45 : decode b_Model_known 45 = .ok (.istore_n 2, 1) := by decide +kernel
theorem d_Model_known_46 : decode b_Model_known 46 = .ok (.iload_n 2, 1) := by decide +kernel
theorem d_Model_known_47 : decode b_Model_known 47 = .ok (.aload_n 0, 1) := by decide +kernel
theorem d_Model_known_48 : decode b_Model_known 48 = .ok (.getfield 25, 3) := by decide +kernel
theorem d_Model_known_51 : decode b_Model_known 51 = .ok (.if_icmp .ge 26, 3) := by decide +kernel
theorem d_Model_known_54 : decode b_Model_known 54 = .ok (.aload_n 0, 1) := by decide +kernel
theorem d_Model_known_55 : decode b_Model_known 55 = .ok (.getfield 13, 3) := by decide +kernel
theorem d_Model_known_58 : decode b_Model_known 58 = .ok (.bipush 60, 2) := by decide +kernel
theorem d_Model_known_60 : decode b_Model_known 60 = .ok (.iload_n 1, 1) := by decide +kernel
theorem d_Model_known_61 : decode b_Model_known 61 = .ok (.imul, 1) := by decide +kernel
theorem d_Model_known_62 : decode b_Model_known 62 = .ok (.iload_n 2, 1) := by decide +kernel
theorem d_Model_known_63 : decode b_Model_known 63 = .ok (.iadd, 1) := by decide +kernel
theorem d_Model_known_64 : decode b_Model_known 64 = .ok (.aload_n 0, 1) := by decide +kernel
theorem d_Model_known_65 : decode b_Model_known 65 = .ok (.getfield 7, 3) := by decide +kernel
theorem d_Model_known_68 : decode b_Model_known 68 = .ok (.iload_n 2, 1) := by decide +kernel
theorem d_Model_known_69 : decode b_Model_known 69 = .ok (.iaload, 1) := by decide +kernel
theorem d_Model_known_70 : decode b_Model_known 70 = .ok (.iastore, 1) := by decide +kernel
theorem d_Model_known_71 : decode b_Model_known 71 = .ok (.iinc 2 1, 3) := by decide +kernel
theorem d_Model_known_74 : decode b_Model_known 74 = .ok (.goto (-28), 3) := by decide +kernel
theorem d_Model_known_77 : decode b_Model_known 77 = .ok (.aload_n 0, 1) := by decide +kernel
theorem d_Model_known_78 : decode b_Model_known 78 = .ok (.getfield 19, 3) := by decide +kernel
theorem d_Model_known_81 : decode b_Model_known 81 = .ok (.iload_n 1, 1) := by decide +kernel
theorem d_Model_known_82 : decode b_Model_known 82 = .ok (.iconst 0, 1) := by decide +kernel
theorem d_Model_known_83 : decode b_Model_known 83 = .ok (.iastore, 1) := by decide +kernel
theorem d_Model_known_84 : decode b_Model_known 84 = .ok (.aload_n 0, 1) := by decide +kernel
theorem d_Model_known_85 : decode b_Model_known 85 = .ok (.getfield 22, 3) := by decide +kernel
theorem d_Model_known_88 : decode b_Model_known 88 = .ok (.iload_n 1, 1) := by decide +kernel
theorem d_Model_known_89 : decode b_Model_known 89 = .ok (.iconst 0, 1) := by decide +kernel
theorem d_Model_known_90 : decode b_Model_known 90 = .ok (.iastore, 1) := by decide +kernel
theorem d_Model_known_91 : decode b_Model_known 91 = .ok (.aload_n 0, 1) := by decide +kernel
theorem d_Model_known_92 : decode b_Model_known 92 = .ok (.dup, 1) := by decide +kernel
theorem d_Model_known_93 : decode b_Model_known 93 = .ok (.getfield 31, 3) := by decide +kernel
theorem d_Model_known_96 : decode b_Model_known 96 = .ok (.iconst 1, 1) := by decide +kernel
theorem d_Model_known_97 : decode b_Model_known 97 = .ok (.iadd, 1) := by decide +kernel
theorem d_Model_known_98 : decode b_Model_known 98 = .ok (.putfield 31, 3) := by decide +kernel
theorem d_Model_known_101 : decode b_Model_known 101 = .ok (.aload_n 0, 1) := by decide +kernel
theorem d_Model_known_102 : decode b_Model_known 102 = .ok (.iconst 0, 1) := by decide +kernel
theorem d_Model_known_103 : decode b_Model_known 103 = .ok (.putfield 25, 3) := by decide +kernel
theorem d_Model_known_106 : decode b_Model_known 106 = .ok (.iload_n 1, 1) := by decide +kernel
theorem d_Model_known_107 : decode b_Model_known 107 = .ok (.ireturn, 1) := by decide +kernel
theorem d_Model_give_0 : decode b_Model_give 0 = .ok (.aload_n 0, 1) := by decide +kernel
theorem d_Model_give_1 : decode b_Model_give 1 = .ok (.getfield 25, 3) := by decide +kernel
theorem d_Model_give_4 : decode b_Model_give 4 = .ok (.ifCond .ne 6, 3) := by decide +kernel
theorem d_Model_give_7 : decode b_Model_give 7 = .ok (.bipush (-3), 2) := by decide +kernel
theorem d_Model_give_9 : decode b_Model_give 9 = .ok (.ireturn, 1) := by decide +kernel
theorem d_Model_give_10 : decode b_Model_give 10 = .ok (.aload_n 0, 1) := by decide +kernel
theorem d_Model_give_11 : decode b_Model_give 11 = .ok (.invokevirtual 38, 3) := by decide +kernel
theorem d_Model_give_14 : decode b_Model_give 14 = .ok (.istore_n 1, 1) := by decide +kernel
theorem d_Model_give_15 : decode b_Model_give 15 = .ok (.iload_n 1, 1) := by decide +kernel
theorem d_Model_give_16 : decode b_Model_give 16 = .ok (.ifCond .ge 5, 3) := by decide +kernel
theorem d_Model_give_19 : decode b_Model_give 19 = .ok (.iload_n 1, 1) := by decide +kernel
theorem d_Model_give_20 : decode b_Model_give 20 = .ok (.ireturn, 1) := by decide +kernel
theorem d_Model_give_21 : decode b_Model_give 21 = .ok (.aload_n 0, 1) := by decide +kernel
theorem d_Model_give_22 : decode b_Model_give 22 = .ok (.getfield 19, 3) := by decide +kernel
theorem d_Model_give_25 : decode b_Model_give 25 = .ok (.iload_n 1, 1) := by decide +kernel
theorem d_Model_give_26 : decode b_Model_give 26 = .ok (.aload_n 0, 1) := by decide +kernel
theorem d_Model_give_27 : decode b_Model_give 27 = .ok (.getfield 19, 3) := by decide +kernel
theorem d_Model_give_30 : decode b_Model_give 30 = .ok (.iload_n 1, 1) := by decide +kernel
theorem d_Model_give_31 : decode b_Model_give 31 = .ok (.iaload, 1) := by decide +kernel
theorem d_Model_give_32 : decode b_Model_give 32 = .ok (.iconst 1, 1) := by decide +kernel
theorem d_Model_give_33 : decode b_Model_give 33 = .ok (.iadd, 1) := by decide +kernel
theorem d_Model_give_34 : decode b_Model_give 34 = .ok (.iastore, 1) := by decide +kernel
theorem d_Model_give_35 : decode b_Model_give 35 = .ok (.aload_n 0, 1) := by decide +kernel
theorem d_Model_give_36 : decode b_Model_give 36 = .ok (.getfield 19, 3) := by decide +kernel
theorem d_Model_give_39 : decode b_Model_give 39 = .ok (.iload_n 1, 1) := by decide +kernel
theorem d_Model_give_40 : decode b_Model_give 40 = .ok (.iaload, 1) := by decide +kernel
theorem d_Model_give_41 : decode b_Model_give 41 = .ok (.iconst 1, 1) := by decide +kernel
theorem d_Model_give_42 : decode b_Model_give 42 = .ok (.if_icmp .ne 7, 3) := by decide +kernel
theorem d_Model_give_45 : decode b_Model_give 45 = .ok (.iload_n 1, 1) := by decide +kernel
theorem d_Model_give_46 : decode b_Model_give 46 = .ok (.goto 4, 3) := by decide +kernel
theorem d_Model_give_49 : decode b_Model_give 49 = .ok (.iconst (-1), 1) := by decide +kernel
theorem d_Model_give_50 : decode b_Model_give 50 = .ok (.ireturn, 1) := by decide +kernel
theorem d_Model_refer_0 : decode b_Model_refer 0 = .ok (.aload_n 0, 1) := by decide +kernel
theorem d_Model_refer_1 : decode b_Model_refer 1 = .ok (.getfield 25, 3) := by decide +kernel
theorem d_Model_refer_4 : decode b_Model_refer 4 = .ok (.ifCond .ne 6, 3) := by decide +kernel
theorem d_Model_refer_7 : decode b_Model_refer 7 = .ok (.bipush (-3), 2) := by decide +kernel
theorem d_Model_refer_9 : decode b_Model_refer 9 = .ok (.ireturn, 1) := by decide +kernel
theorem d_Model_refer_10 : decode b_Model_refer 10 = .ok (.aload_n 0, 1) := by decide +kernel
theorem d_Model_refer_11 : decode b_Model_refer 11 = .ok (.invokevirtual 38, 3) := by decide +kernel
theorem d_Model_refer_14 : decode b_Model_refer 14 = .ok (.istore_n 1, 1) := by decide +kernel
theorem d_Model_refer_15 : decode b_Model_refer 15 = .ok (.iload_n 1, 1) := by decide +kernel
theorem d_Model_refer_16 : decode b_Model_refer 16 = .ok (.ifCond .lt 17, 3) := by decide +kernel
theorem d_Model_refer_19 : decode b_Model_refer 19 = .ok (.aload_n 0, 1) := by decide +kernel
theorem d_Model_refer_20 : decode b_Model_refer 20 = .ok (.getfield 22, 3) := by decide +kernel
theorem d_Model_refer_23 : decode b_Model_refer 23 = .ok (.iload_n 1, 1) := by decide +kernel
theorem d_Model_refer_24 : decode b_Model_refer 24 = .ok (.aload_n 0, 1) := by decide +kernel
theorem d_Model_refer_25 : decode b_Model_refer 25 = .ok (.getfield 22, 3) := by decide +kernel
theorem d_Model_refer_28 : decode b_Model_refer 28 = .ok (.iload_n 1, 1) := by decide +kernel
theorem d_Model_refer_29 : decode b_Model_refer 29 = .ok (.iaload, 1) := by decide +kernel
theorem d_Model_refer_30 : decode b_Model_refer 30 = .ok (.iconst 1, 1) := by decide +kernel
theorem d_Model_refer_31 : decode b_Model_refer 31 = .ok (.iadd, 1) := by decide +kernel
theorem d_Model_refer_32 : decode b_Model_refer 32 = .ok (.iastore, 1) := by decide +kernel
theorem d_Model_refer_33 : decode b_Model_refer 33 = .ok (.iload_n 1, 1) := by decide +kernel
theorem d_Model_refer_34 : decode b_Model_refer 34 = .ok (.ireturn, 1) := by decide +kernel
theorem d_Model_find_0 : decode b_Model_find 0 = .ok (.aload_n 0, 1) := by decide +kernel
theorem d_Model_find_1 : decode b_Model_find 1 = .ok (.getfield 25, 3) := by decide +kernel
theorem d_Model_find_4 : decode b_Model_find 4 = .ok (.ifCond .ne 7, 3) := by decide +kernel
theorem d_Model_find_7 : decode b_Model_find 7 = .ok (.iconst (-1), 1) := by decide +kernel
theorem d_Model_find_8 : decode b_Model_find 8 = .ok (.goto 7, 3) := by decide +kernel
theorem d_Model_find_11 : decode b_Model_find 11 = .ok (.aload_n 0, 1) := by decide +kernel
theorem d_Model_find_12 : decode b_Model_find 12 = .ok (.invokevirtual 34, 3) := by decide +kernel
theorem d_Model_find_15 : decode b_Model_find 15 = .ok (.ireturn, 1) := by decide +kernel
theorem d_Model_isMissing_0 : decode b_Model_isMissing 0 = .ok (.aload_n 0, 1) := by decide +kernel
theorem d_Model_isMissing_1 : decode b_Model_isMissing 1 = .ok (.getfield 22, 3) := by decide +kernel
theorem d_Model_isMissing_4 : decode b_Model_isMissing 4 = .ok (.iload_n 1, 1) := by decide +kernel
theorem d_Model_isMissing_5 : decode b_Model_isMissing 5 = .ok (.iaload, 1) := by decide +kernel
theorem d_Model_isMissing_6 : decode b_Model_isMissing 6 = .ok (.ifCond .le 16, 3) := by decide +kernel
theorem d_Model_isMissing_9 : decode b_Model_isMissing 9 = .ok (.aload_n 0, 1) := by decide +kernel
theorem d_Model_isMissing_10 : decode b_Model_isMissing 10 = .ok (.getfield 19, 3) := by decide +kernel
theorem d_Model_isMissing_13 : decode b_Model_isMissing 13 = .ok (.iload_n 1, 1) := by decide +kernel
theorem d_Model_isMissing_14 : decode b_Model_isMissing 14 = .ok (.iaload, 1) := by decide +kernel
theorem d_Model_isMissing_15 : decode b_Model_isMissing 15 = .ok (.ifCond .ne 7, 3) := by decide +kernel
theorem d_Model_isMissing_18 : decode b_Model_isMissing 18 = .ok (.iconst 1, 1) := by decide +kernel
theorem d_Model_isMissing_19 : decode b_Model_isMissing 19 = .ok (.goto 4, 3) := by decide +kernel
theorem d_Model_isMissing_22 : decode b_Model_isMissing 22 = .ok (.iconst 0, 1) := by decide +kernel
theorem d_Model_isMissing_23 : decode b_Model_isMissing 23 = .ok (.ireturn, 1) := by decide +kernel
theorem d_Model_missingFrom_0 : decode b_Model_missingFrom 0 = .ok (.iconst (-1), 1) := by decide +kernel
theorem d_Model_missingFrom_1 : decode b_Model_missingFrom 1 = .ok (.istore_n 2, 1) := by decide +kernel
theorem d_Model_missingFrom_2 : decode b_Model_missingFrom 2 = .ok (.aload_n 0, 1) := by decide +kernel
theorem d_Model_missingFrom_3 : decode b_Model_missingFrom 3 = .ok (.getfield 31, 3) := by decide +kernel
theorem d_Model_missingFrom_6 : decode b_Model_missingFrom 6 = .ok (.iconst 1, 1) := by decide +kernel
theorem d_Model_missingFrom_7 : decode b_Model_missingFrom 7 = .ok (.isub, 1) := by decide +kernel
theorem d_Model_missingFrom_8 : decode b_Model_missingFrom 8 = .ok (.istore_n 3, 1) := by decide +kernel
theorem d_Model_missingFrom_9 : decode b_Model_missingFrom 9 = .ok (.iload_n 3, 1) := by decide +kernel
theorem d_Model_missingFrom_10 : decode b_Model_missingFrom 10 = .ok (.iload_n 1, 1) := by decide +kernel
theorem d_Model_missingFrom_11 : decode b_Model_missingFrom 11 = .ok (.if_icmp .lt 23, 3) := by decide +kernel
theorem d_Model_missingFrom_14 : decode b_Model_missingFrom 14 = .ok (.aload_n 0, 1) := by decide +kernel
theorem d_Model_missingFrom_15 : decode b_Model_missingFrom 15 = .ok (.iload_n 3, 1) := by decide +kernel
theorem d_Model_missingFrom_16 : decode b_Model_missingFrom 16 = .ok (.invokevirtual 40, 3) := by decide +kernel
theorem d_Model_missingFrom_19 : decode b_Model_missingFrom 19 = .ok (.ifCond .eq 7, 3) := by decide +kernel
theorem d_Model_missingFrom_22 : decode b_Model_missingFrom 22 = .ok (.iload_n 3, 1) := by decide +kernel
theorem d_Model_missingFrom_23 : decode b_Model_missingFrom 23 = .ok (.goto 4, 3) := by decide +kernel
theorem d_Model_missingFrom_26 : decode b_Model_missingFrom 26 = .ok (.iload_n 2, 1) := by decide +kernel
theorem d_Model_missingFrom_27 : decode b_Model_missingFrom 27 = .ok (.istore_n 2, 1) := by decide +kernel
theorem d_Model_missingFrom_28 : decode b_Model_missingFrom 28 = .ok (.iinc 3 (-1), 3) := by decide +kernel
theorem d_Model_missingFrom_31 : decode b_Model_missingFrom 31 = .ok (.goto (-22), 3) := by decide +kernel
theorem d_Model_missingFrom_34 : decode b_Model_missingFrom 34 = .ok (.iload_n 2, 1) := by decide +kernel
theorem d_Model_missingFrom_35 : decode b_Model_missingFrom 35 = .ok (.ireturn, 1) := by decide +kernel
theorem d_Model_look_0 : decode b_Model_look 0 = .ok (.iload_n 1, 1) := by decide +kernel
theorem d_Model_look_1 : decode b_Model_look 1 = .ok (.ifCond .lt 20, 3) := by decide +kernel
theorem d_Model_look_4 : decode b_Model_look 4 = .ok (.iload_n 1, 1) := by decide +kernel
theorem d_Model_look_5 : decode b_Model_look 5 = .ok (.aload_n 0, 1) := by decide +kernel
theorem d_Model_look_6 : decode b_Model_look 6 = .ok (.getfield 31, 3) := by decide +kernel
theorem d_Model_look_9 : decode b_Model_look 9 = .ok (.if_icmp .ge 12, 3) := by decide +kernel
theorem d_Model_look_12 : decode b_Model_look 12 = .ok (.iload_n 2, 1) := by decide +kernel
theorem d_Model_look_13 : decode b_Model_look 13 = .ok (.ifCond .lt 8, 3) := by decide +kernel
theorem d_Model_look_16 : decode b_Model_look 16 = .ok (.iload_n 2, 1) := by decide +kernel
theorem d_Model_look_17 : decode b_Model_look 17 = .ok (.iconst 3, 1) := by decide +kernel
theorem d_Model_look_18 : decode b_Model_look 18 = .ok (.if_icmp .le 5, 3) := by decide +kernel
theorem d_Model_look_21 : decode b_Model_look 21 = .ok (.iconst (-1), 1) := by decide +kernel
theorem d_Model_look_22 : decode b_Model_look 22 = .ok (.ireturn, 1) := by decide +kernel
theorem d_Model_look_23 : decode b_Model_look 23 = .ok (.iload_n 2, 1) := by decide +kernel
theorem d_Model_look_24 : decode b_Model_look 24 = .ok (.iconst 3, 1) := by decide +kernel
theorem d_Model_look_25 : decode b_Model_look 25 = .ok (.if_icmp .ne 11, 3) := by decide +kernel
theorem d_Model_look_28 : decode b_Model_look 28 = .ok (.aload_n 0, 1) := by decide +kernel
theorem d_Model_look_29 : decode b_Model_look 29 = .ok (.iload_n 1, 1) := by decide +kernel
theorem d_Model_look_30 : decode b_Model_look 30 = .ok (.iconst 1, 1) := by decide +kernel
theorem d_Model_look_31 : decode b_Model_look 31 = .ok (.iadd, 1) := by decide +kernel
theorem d_Model_look_32 : decode b_Model_look 32 = .ok (.invokevirtual 44, 3) := by decide +kernel
theorem d_Model_look_35 : decode b_Model_look 35 = .ok (.ireturn, 1) := by decide +kernel
theorem d_Model_look_36 : decode b_Model_look 36 = .ok (.iload_n 2, 1) := by decide +kernel
theorem d_Model_look_37 : decode b_Model_look 37 = .ok (.ifCond .ne 12, 3) := by decide +kernel
theorem d_Model_look_40 : decode b_Model_look 40 = .ok (.aload_n 0, 1) := by decide +kernel
theorem d_Model_look_41 : decode b_Model_look 41 = .ok (.getfield 19, 3) := by decide +kernel
theorem d_Model_look_44 : decode b_Model_look 44 = .ok (.iload_n 1, 1) := by decide +kernel
theorem d_Model_look_45 : decode b_Model_look 45 = .ok (.iaload, 1) := by decide +kernel
theorem d_Model_look_46 : decode b_Model_look 46 = .ok (.goto 23, 3) := by decide +kernel
theorem d_Model_look_49 : decode b_Model_look 49 = .ok (.iload_n 2, 1) := by decide +kernel
theorem d_Model_look_50 : decode b_Model_look 50 = .ok (.iconst 1, 1) := by decide +kernel
theorem d_Model_look_51 : decode b_Model_look 51 = .ok (.if_icmp .ne 12, 3) := by decide +kernel
theorem d_Model_look_54 : decode b_Model_look 54 = .ok (.aload_n 0, 1) := by decide +kernel
theorem d_Model_look_55 : decode b_Model_look 55 = .ok (.getfield 22, 3) := by decide +kernel
theorem d_Model_look_58 : decode b_Model_look 58 = .ok (.iload_n 1, 1) := by decide +kernel
theorem d_Model_look_59 : decode b_Model_look 59 = .ok (.iaload, 1) := by decide +kernel
theorem d_Model_look_60 : decode b_Model_look 60 = .ok (.goto 9, 3) := by decide +kernel
theorem d_Model_look_63 : decode b_Model_look 63 = .ok (.aload_n 0, 1) := by decide +kernel
theorem d_Model_look_64 : decode b_Model_look 64 = .ok (.getfield 16, 3) := by decide +kernel
theorem d_Model_look_67 : decode b_Model_look 67 = .ok (.iload_n 1, 1) := by decide +kernel
theorem d_Model_look_68 : decode b_Model_look 68 = .ok (.iaload, 1) := by decide +kernel
theorem d_Model_look_69 : decode b_Model_look 69 = .ok (.ireturn, 1) := by decide +kernel
theorem d_Model_byteOf_0 : decode b_Model_byteOf 0 = .ok (.iload_n 1, 1) := by decide +kernel
theorem d_Model_byteOf_1 : decode b_Model_byteOf 1 = .ok (.ifCond .lt 25, 3) := by decide +kernel
theorem d_Model_byteOf_4 : decode b_Model_byteOf 4 = .ok (.iload_n 1, 1) := by decide +kernel
theorem d_Model_byteOf_5 : decode b_Model_byteOf 5 = .ok (.aload_n 0, 1) := by decide +kernel
theorem d_Model_byteOf_6 : decode b_Model_byteOf 6 = .ok (.getfield 31, 3) := by decide +kernel
theorem d_Model_byteOf_9 : decode b_Model_byteOf 9 = .ok (.if_icmp .ge 17, 3) := by decide +kernel
theorem d_Model_byteOf_12 : decode b_Model_byteOf 12 = .ok (.iload_n 2, 1) := by decide +kernel
theorem d_Model_byteOf_13 : decode b_Model_byteOf 13 = .ok (.ifCond .lt 13, 3) := by decide +kernel
theorem d_Model_byteOf_16 : decode b_Model_byteOf 16 = .ok (.iload_n 2, 1) := by decide +kernel
theorem d_Model_byteOf_17 : decode b_Model_byteOf 17 = .ok (.aload_n 0, 1) := by decide +kernel
theorem d_Model_byteOf_18 : decode b_Model_byteOf 18 = .ok (.getfield 16, 3) := by decide +kernel
theorem d_Model_byteOf_21 : decode b_Model_byteOf 21 = .ok (.iload_n 1, 1) := by decide +kernel
theorem d_Model_byteOf_22 : decode b_Model_byteOf 22 = .ok (.iaload, 1) := by decide +kernel
theorem d_Model_byteOf_23 : decode b_Model_byteOf 23 = .ok (.if_icmp .lt 5, 3) := by decide +kernel
theorem d_Model_byteOf_26 : decode b_Model_byteOf 26 = .ok (.iconst (-1), 1) := by decide +kernel
theorem d_Model_byteOf_27 : decode b_Model_byteOf 27 = .ok (.ireturn, 1) := by decide +kernel
theorem d_Model_byteOf_28 : decode b_Model_byteOf 28 = .ok (.aload_n 0, 1) := by decide +kernel
theorem d_Model_byteOf_29 : decode b_Model_byteOf 29 = .ok (.getfield 13, 3) := by decide +kernel
theorem d_Model_byteOf_32 : decode b_Model_byteOf 32 = .ok (.bipush 60, 2) := by decide +kernel
theorem d_Model_byteOf_34 : decode b_Model_byteOf 34 = .ok (.iload_n 1, 1) := by decide +kernel
theorem d_Model_byteOf_35 : decode b_Model_byteOf 35 = .ok (.imul, 1) := by decide +kernel
theorem d_Model_byteOf_36 : decode b_Model_byteOf 36 = .ok (.iload_n 2, 1) := by decide +kernel
theorem d_Model_byteOf_37 : decode b_Model_byteOf 37 = .ok (.iadd, 1) := by decide +kernel
theorem d_Model_byteOf_38 : decode b_Model_byteOf 38 = .ok (.iaload, 1) := by decide +kernel
theorem d_Model_byteOf_39 : decode b_Model_byteOf 39 = .ok (.ireturn, 1) := by decide +kernel
theorem d_Model_count_0 : decode b_Model_count 0 = .ok (.iconst 0, 1) := by decide +kernel
theorem d_Model_count_1 : decode b_Model_count 1 = .ok (.istore_n 2, 1) := by decide +kernel
theorem d_Model_count_2 : decode b_Model_count 2 = .ok (.iconst 0, 1) := by decide +kernel
theorem d_Model_count_3 : decode b_Model_count 3 = .ok (.istore_n 3, 1) := by decide +kernel
theorem d_Model_count_4 : decode b_Model_count 4 = .ok (.iconst 0, 1) := by decide +kernel
theorem d_Model_count_5 : decode b_Model_count 5 = .ok (.istore 4, 2) := by decide +kernel
theorem d_Model_count_7 : decode b_Model_count 7 = .ok (.iconst 0, 1) := by decide +kernel
theorem d_Model_count_8 : decode b_Model_count 8 = .ok (.istore 5, 2) := by decide +kernel
theorem d_Model_count_10 : decode b_Model_count 10 = .ok (.iload 5, 2) := by decide +kernel
theorem d_Model_count_12 : decode b_Model_count 12 = .ok (.aload_n 0, 1) := by decide +kernel
theorem d_Model_count_13 : decode b_Model_count 13 = .ok (.getfield 31, 3) := by decide +kernel
theorem d_Model_count_16 : decode b_Model_count 16 = .ok (.if_icmp .ge 74, 3) := by decide +kernel
theorem d_Model_count_19 : decode b_Model_count 19 = .ok (.aload_n 0, 1) := by decide +kernel
theorem d_Model_count_20 : decode b_Model_count 20 = .ok (.getfield 19, 3) := by decide +kernel
theorem d_Model_count_23 : decode b_Model_count 23 = .ok (.iload 5, 2) := by decide +kernel
theorem d_Model_count_25 : decode b_Model_count 25 = .ok (.iaload, 1) := by decide +kernel
theorem d_Model_count_26 : decode b_Model_count 26 = .ok (.ifCond .le 9, 3) := by decide +kernel
theorem d_Model_count_29 : decode b_Model_count 29 = .ok (.iload_n 2, 1) := by decide +kernel
theorem d_Model_count_30 : decode b_Model_count 30 = .ok (.iconst 1, 1) := by decide +kernel
theorem d_Model_count_31 : decode b_Model_count 31 = .ok (.iadd, 1) := by decide +kernel
theorem d_Model_count_32 : decode b_Model_count 32 = .ok (.goto 4, 3) := by decide +kernel
theorem d_Model_count_35 : decode b_Model_count 35 = .ok (.iload_n 2, 1) := by decide +kernel
theorem d_Model_count_36 : decode b_Model_count 36 = .ok (.istore_n 2, 1) := by decide +kernel
theorem d_Model_count_37 : decode b_Model_count 37 = .ok (.aload_n 0, 1) := by decide +kernel
theorem d_Model_count_38 : decode b_Model_count 38 = .ok (.iload 5, 2) := by decide +kernel
theorem d_Model_count_40 : decode b_Model_count 40 = .ok (.invokevirtual 40, 3) := by decide +kernel
theorem d_Model_count_43 : decode b_Model_count 43 = .ok (.ifCond .eq 9, 3) := by decide +kernel
theorem d_Model_count_46 : decode b_Model_count 46 = .ok (.iload_n 3, 1) := by decide +kernel
theorem d_Model_count_47 : decode b_Model_count 47 = .ok (.iconst 1, 1) := by decide +kernel
theorem d_Model_count_48 : decode b_Model_count 48 = .ok (.iadd, 1) := by decide +kernel
theorem d_Model_count_49 : decode b_Model_count 49 = .ok (.goto 4, 3) := by decide +kernel
theorem d_Model_count_52 : decode b_Model_count 52 = .ok (.iload_n 3, 1) := by decide +kernel
theorem d_Model_count_53 : decode b_Model_count 53 = .ok (.istore_n 3, 1) := by decide +kernel
theorem d_Model_count_54 : decode b_Model_count 54 = .ok (.aload_n 0, 1) := by decide +kernel
theorem d_Model_count_55 : decode b_Model_count 55 = .ok (.getfield 19, 3) := by decide +kernel
theorem d_Model_count_58 : decode b_Model_count 58 = .ok (.iload 5, 2) := by decide +kernel
theorem d_Model_count_60 : decode b_Model_count 60 = .ok (.iaload, 1) := by decide +kernel
theorem d_Model_count_61 : decode b_Model_count 61 = .ok (.iconst 1, 1) := by decide +kernel
theorem d_Model_count_62 : decode b_Model_count 62 = .ok (.if_icmp .le 18, 3) := by decide +kernel
theorem d_Model_count_65 : decode b_Model_count 65 = .ok (.iload 4, 2) := by decide +kernel
theorem d_Model_count_67 : decode b_Model_count 67 = .ok (.aload_n 0, 1) := by decide +kernel
theorem d_Model_count_68 : decode b_Model_count 68 = .ok (.getfield 19, 3) := by decide +kernel
theorem d_Model_count_71 : decode b_Model_count 71 = .ok (.iload 5, 2) := by decide +kernel
theorem d_Model_count_73 : decode b_Model_count 73 = .ok (.iaload, 1) := by decide +kernel
theorem d_Model_count_74 : decode b_Model_count 74 = .ok (.iadd, 1) := by decide +kernel
theorem d_Model_count_75 : decode b_Model_count 75 = .ok (.iconst 1, 1) := by decide +kernel
theorem d_Model_count_76 : decode b_Model_count 76 = .ok (.isub, 1) := by decide +kernel
theorem d_Model_count_77 : decode b_Model_count 77 = .ok (.goto 5, 3) := by decide +kernel
theorem d_Model_count_80 : decode b_Model_count 80 = .ok (.iload 4, 2) := by decide +kernel
theorem d_Model_count_82 : decode b_Model_count 82 = .ok (.istore 4, 2) := by decide +kernel
theorem d_Model_count_84 : decode b_Model_count 84 = .ok (.iinc 5 1, 3) := by decide +kernel
theorem d_Model_count_87 : decode b_Model_count 87 = .ok (.goto (-77), 3) := by decide +kernel
theorem d_Model_count_90 : decode b_Model_count 90 = .ok (.iload_n 1, 1) := by decide +kernel
theorem d_Model_count_91 : decode b_Model_count 91 = .ok (.ifCond .ne 10, 3) := by decide +kernel
theorem d_Model_count_94 : decode b_Model_count 94 = .ok (.aload_n 0, 1) := by decide +kernel
theorem d_Model_count_95 : decode b_Model_count 95 = .ok (.getfield 31, 3) := by decide +kernel
theorem d_Model_count_98 : decode b_Model_count 98 = .ok (.goto 57, 3) := by decide +kernel
theorem d_Model_count_101 : decode b_Model_count 101 = .ok (.iload_n 1, 1) := by decide +kernel
theorem d_Model_count_102 : decode b_Model_count 102 = .ok (.iconst 1, 1) := by decide +kernel
theorem d_Model_count_103 : decode b_Model_count 103 = .ok (.if_icmp .ne 7, 3) := by decide +kernel
theorem d_Model_count_106 : decode b_Model_count 106 = .ok (.iload_n 2, 1) := by decide +kernel
theorem d_Model_count_107 : decode b_Model_count 107 = .ok (.goto 48, 3) := by decide +kernel
theorem d_Model_count_110 : decode b_Model_count 110 = .ok (.iload_n 1, 1) := by decide +kernel
theorem d_Model_count_111 : decode b_Model_count 111 = .ok (.iconst 2, 1) := by decide +kernel
theorem d_Model_count_112 : decode b_Model_count 112 = .ok (.if_icmp .ne 7, 3) := by decide +kernel
theorem d_Model_count_115 : decode b_Model_count 115 = .ok (.iload_n 3, 1) := by decide +kernel
theorem d_Model_count_116 : decode b_Model_count 116 = .ok (.goto 39, 3) := by decide +kernel
theorem d_Model_count_119 : decode b_Model_count 119 = .ok (.iload_n 1, 1) := by decide +kernel
theorem d_Model_count_120 : decode b_Model_count 120 = .ok (.iconst 3, 1) := by decide +kernel
theorem d_Model_count_121 : decode b_Model_count 121 = .ok (.if_icmp .ne 8, 3) := by decide +kernel
theorem d_Model_count_124 : decode b_Model_count 124 = .ok (.iload 4, 2) := by decide +kernel
theorem d_Model_count_126 : decode b_Model_count 126 = .ok (.goto 29, 3) := by decide +kernel
theorem d_Model_count_129 : decode b_Model_count 129 = .ok (.iload_n 1, 1) := by decide +kernel
theorem d_Model_count_130 : decode b_Model_count 130 = .ok (.iconst 4, 1) := by decide +kernel
theorem d_Model_count_131 : decode b_Model_count 131 = .ok (.if_icmp .ne 10, 3) := by decide +kernel
theorem d_Model_count_134 : decode b_Model_count 134 = .ok (.aload_n 0, 1) := by decide +kernel
theorem d_Model_count_135 : decode b_Model_count 135 = .ok (.getfield 25, 3) := by decide +kernel
theorem d_Model_count_138 : decode b_Model_count 138 = .ok (.goto 17, 3) := by decide +kernel
theorem d_Model_count_141 : decode b_Model_count 141 = .ok (.iload_n 1, 1) := by decide +kernel
theorem d_Model_count_142 : decode b_Model_count 142 = .ok (.iconst 5, 1) := by decide +kernel
theorem d_Model_count_143 : decode b_Model_count 143 = .ok (.if_icmp .ne 11, 3) := by decide +kernel
theorem d_Model_count_146 : decode b_Model_count 146 = .ok (.aload_n 0, 1) := by decide +kernel
theorem d_Model_count_147 : decode b_Model_count 147 = .ok (.iconst 0, 1) := by decide +kernel
theorem d_Model_count_148 : decode b_Model_count 148 = .ok (.invokevirtual 44, 3) := by decide +kernel
theorem d_Model_count_151 : decode b_Model_count 151 = .ok (.goto 4, 3) := by decide +kernel
theorem d_Model_count_154 : decode b_Model_count 154 = .ok (.iconst (-1), 1) := by decide +kernel
theorem d_Model_count_155 : decode b_Model_count 155 = .ok (.ireturn, 1) := by decide +kernel
theorem d_Model_clear_0 : decode b_Model_clear 0 = .ok (.aload_n 0, 1) := by decide +kernel
theorem d_Model_clear_1 : decode b_Model_clear 1 = .ok (.getfield 31, 3) := by decide +kernel
theorem d_Model_clear_4 : decode b_Model_clear 4 = .ok (.istore_n 1, 1) := by decide +kernel
theorem d_Model_clear_5 : decode b_Model_clear 5 = .ok (.aload_n 0, 1) := by decide +kernel
theorem d_Model_clear_6 : decode b_Model_clear 6 = .ok (.iconst 0, 1) := by decide +kernel
theorem d_Model_clear_7 : decode b_Model_clear 7 = .ok (.putfield 31, 3) := by decide +kernel
theorem d_Model_clear_10 : decode b_Model_clear 10 = .ok (.aload_n 0, 1) := by decide +kernel
theorem d_Model_clear_11 : decode b_Model_clear 11 = .ok (.iconst 0, 1) := by decide +kernel
theorem d_Model_clear_12 : decode b_Model_clear 12 = .ok (.putfield 25, 3) := by decide +kernel
theorem d_Model_clear_15 : decode b_Model_clear 15 = .ok (.iload_n 1, 1) := by decide +kernel
theorem d_Model_clear_16 : decode b_Model_clear 16 = .ok (.ireturn, 1) := by decide +kernel
set_option maxHeartbeats 4000000 in
set_option maxRecDepth 100000 in
/-- put(v, n), of the reference -/
theorem c_Model_put (l : Launch) (g : GT) (sz : Nat) (d d0 d1 d2 d3 d4 : Nat) (kv : Int32) (mh : Nat → Int32) (v : Int64) (j0 : Int32) (h : Nat) (nb : Nat → Nat) (hH : HOk h nb) (hf : ∀ i, i < h → mh i = nI (nb i)) : Met l y_Model_put w_Model_put ({ frames := 0, cells := 0, slots := 0, locals := 0 } : Room) (PcW [.ref d, .long v, .int j0] sz g [(d, .inr (3, [.ref d0, .int (nI h), .ref d1, .ref d2, .ref d3, .ref d4, .int kv])), (d0, .inl (cIn g, 60, .inl mh))]) (va_Qi (fun (r : Int32) (u : (Nat → Int32)) => (r = if putN h j0 = 0 then 0 else 1) ∧ ∀ i, i < h + putN h j0 → u i = nI (putH h nb v (putN h j0) i)) (BW g (va_A [(d, .inr (3, [.ref d0, .int (nI h), .ref d1, .ref d2, .ref d3, .ref d4, .int kv])), (d0, .inl (cIn g, 60, .inl mh))] sz) (fun u : (Nat → Int32) => [(d, .inr (3, [.ref d0, .int (nI (h + putN h j0)), .ref d1, .ref d2, .ref d3, .ref d4, .int kv])), (d0, .inl (cIn g, 60, .inl u))])) (va_A [(d, .inr (3, [.ref d0, .int (nI h), .ref d1, .ref d2, .ref d3, .ref d4, .int kv])), (d0, .inl (cIn g, 60, .inl mh))] sz)) 0 0 (va_A [(d, .inr (3, [.ref d0, .int (nI h), .ref d1, .ref d2, .ref d3, .ref d4, .int kv])), (d0, .inl (cIn g, 60, .inl mh))] sz) := by
  refine Met.ofW (cc := b_Model_put) (maxL := 8) (ret := (some .boolean)) (by decide) rfl ?_
  intro p e s m args below meth c s₁ B hml hv
  obtain ⟨rfl, hsz, hP, hK, hN, hD⟩ := hv
  have hx := B.exec
  have hb := B.bytes
  have hr := B.returns
  have hc : ∀ w ∈ cmn, w.before ([.ref d, .long v, .int j0] : List Value).toArray s = true := fun w h => atoms_spec (ws := w_Model_put) B.pre w (List.mem_cons_of_mem _ h)
  have hown : s.vm.findClass R_Model = some m.cls := findClass_of_methodNamed B.named
  have hlocks := B.notSynchronized
  subst hsz
  have hD := hD.self (sz := s.heap.size)
  have hS : va_S (va_A [(d, .inr (3, [.ref d0, .int (nI h), .ref d1, .ref d2, .ref d3, .ref d4, .int kv])), (d0, .inl (cIn g, 60, .inl mh))] s.heap.size) s.heap s.heap [] := va_S.rf
  have hA : ∀ q : Nat, s.heap.size ≤ q → va_A [(d, .inr (3, [.ref d0, .int (nI h), .ref d1, .ref d2, .ref d3, .ref d4, .int kv])), (d0, .inl (cIn g, 60, .inl mh))] s.heap.size q := fun q h => Or.inr h
  generalize va_A [(d, .inr (3, [.ref d0, .int (nI h), .ref d1, .ref d2, .ref d3, .ref d4, .int kv])), (d0, .inl (cIn g, 60, .inl mh))] s.heap.size = A at hD hS hA ⊢
  have hP : va_P g.1 classes [(d, .inr (3, [.ref d0, .int (nI h), .ref d1, .ref d2, .ref d3, .ref d4, .int kv])), (d0, .inl (cIn g, 60, .inl mh))] s.heap := hP
  have hD : va_D A [(d, .inr (3, [.ref d0, .int (nI h), .ref d1, .ref d2, .ref d3, .ref d4, .int kv])), (d0, .inl (cIn g, 60, .inl mh))] := hD
  have hl := lv_entry ([.ref d, .long v, .int j0]) (n := 8) (Nat.le_of_ble_eq_true rfl)
  rw [lg_entry_eq]
  generalize (lg_sl ([.ref d, .long v, .int j0]) ++ List.replicate (8 - (lg_sl ([.ref d, .long v, .int j0])).length) Slot.unset).toArray = ls at hl ⊢
  have hl : lv_has ls 8 [(0, .ref d), (1, .long v), (3, .int j0)] := hl
  have hh := hH.1
  rcases putN_in (p := j0) hH.1 with ⟨e0, hbad⟩ | ⟨h1, h8, h60, ep⟩
  · rw [e0]
    refine lv_iload_n hx hb d_Model_put_0 rfl (lv_at hl 2 rfl) ?_
    refine lv_iconst (v := 1) hx hb d_Model_put_1 (by decide) ?_
    refine lv_icmp_lt (tgt := 22) hx hb d_Model_put_2 (by decide) (fun c1 => ?_) (fun c1 => ?_)
    · refine lv_iconst (v := 0) hx hb d_Model_put_22 (by decide) ?_
      exact W.zret (v := 0) hx hb hr (rfl) (fun t9 ht9 hW9 => ⟨⟨_, mh, rfl, ⟨rfl, put_badT hf v⟩, by rw [ht9]; exact hP, hD⟩, hS.F ht9⟩) hS.2.2 d_Model_put_23
    · refine lv_iload_n hx hb d_Model_put_5 rfl (lv_at hl 2 rfl) ?_
      refine lv_bipush (v := 8) hx hb d_Model_put_6 (by decide) ?_
      refine lv_icmp_gt (tgt := 22) hx hb d_Model_put_8 (by decide) (fun c2 => ?_) (fun c2 => ?_)
      · refine lv_iconst (v := 0) hx hb d_Model_put_22 (by decide) ?_
        exact W.zret (v := 0) hx hb hr (rfl) (fun t9 ht9 hW9 => ⟨⟨_, mh, rfl, ⟨rfl, put_badT hf v⟩, by rw [ht9]; exact hP, hD⟩, hS.F ht9⟩) hS.2.2 d_Model_put_23
      · refine lv_aload_n hx hb d_Model_put_11 rfl (lv_at hl 0 rfl) ?_
        refine va_get (D := g.1) (ci := 3) (v := .int (nI h)) (C := R_Model) (T := F_Model) (N := 7) hx hb hc i_Model hown hK hP 0 rfl rfl 1 (by decide) (hc _ kf_Model_25) (fun _ h9 => h9) rfl d_Model_put_12 ?_
        refine lv_iload_n hx hb d_Model_put_15 rfl (lv_at hl 2 rfl) ?_
        refine lv_iadd hx hb d_Model_put_16 ?_
        refine lv_bipush (v := 60) hx hb d_Model_put_17 (by decide) ?_
        refine lv_icmp_le (tgt := 24) hx hb d_Model_put_19 (by decide) (fun c3 => ?_) (fun c3 => ?_)
        · rcases hbad with q | q | q
          · exact absurd q c1
          · exact absurd q c2
          · exact absurd q (Int32.not_lt.mpr c3)
        · refine lv_iconst (v := 0) hx hb d_Model_put_22 (by decide) ?_
          exact W.zret (v := 0) hx hb hr (rfl) (fun t9 ht9 hW9 => ⟨⟨_, mh, rfl, ⟨rfl, put_badT hf v⟩, by rw [ht9]; exact hP, hD⟩, hS.F ht9⟩) hS.2.2 d_Model_put_23
  · generalize putN h j0 = j at *
    subst ep
    refine lv_iload_n hx hb d_Model_put_0 rfl (lv_at hl 2 rfl) ?_
    refine lv_iconst (v := 1) hx hb d_Model_put_1 (by decide) ?_
    refine lv_icmp_lt (tgt := 22) hx hb d_Model_put_2 (by decide) (fun c1 => ?_) (fun c1 => ?_)
    · exact absurd ((nI_ltI (a := j) (b := 1) (by omega) (by decide)).mp c1) (by omega)
    · refine lv_iload_n hx hb d_Model_put_5 rfl (lv_at hl 2 rfl) ?_
      refine lv_bipush (v := 8) hx hb d_Model_put_6 (by decide) ?_
      refine lv_icmp_gt (tgt := 22) hx hb d_Model_put_8 (by decide) (fun c2 => ?_) (fun c2 => ?_)
      · exact absurd ((nI_ltI (a := 8) (b := j) (by decide) (by omega)).mp c2) (by omega)
      · refine lv_aload_n hx hb d_Model_put_11 rfl (lv_at hl 0 rfl) ?_
        refine va_get (D := g.1) (ci := 3) (v := .int (nI h)) (C := R_Model) (T := F_Model) (N := 7) hx hb hc i_Model hown hK hP 0 rfl rfl 1 (by decide) (hc _ kf_Model_25) (fun _ h9 => h9) rfl d_Model_put_12 ?_
        refine lv_iload_n hx hb d_Model_put_15 rfl (lv_at hl 2 rfl) ?_
        refine lv_iadd hx hb d_Model_put_16 ?_
        refine x_top (y := nI (h + j)) (nI_add h j) ?_
        refine lv_bipush (v := 60) hx hb d_Model_put_17 (by decide) ?_
        refine lv_icmp_le (tgt := 24) hx hb d_Model_put_19 (by decide) (fun c3 => ?_) (fun c3 => ?_)
        · refine lv_iconst (v := 0) hx hb d_Model_put_24 (by decide) ?_
          refine lv_istore (lv' := [(4, .int 0), (0, .ref d), (1, .long v), (3, .int (nI j))]) hx hb d_Model_put_25 hl (by decide) rfl (fun ls hl => ?_)
          refine x_loop (σ := Nat) (fun x => j - x) (fun x H1 locs1 ls1 => x ≤ j ∧ (∃ f1 : Nat → Int32, (∀ i, i < h + x → f1 i = nI (putH h nb v j i)) ∧ va_P g.1 classes [(d, .inr (3, [.ref d0, .int (nI h), .ref d1, .ref d2, .ref d3, .ref d4, .int kv])), (d0, .inl (cIn g, 60, .inl f1))] H1 ∧ va_D A [(d, .inr (3, [.ref d0, .int (nI h), .ref d1, .ref d2, .ref d3, .ref d4, .int kv])), (d0, .inl (cIn g, 60, .inl f1))]) ∧ va_S A s.heap H1 locs1 ∧ lv_has ls1 8 [(0, .ref d), (1, .long v), (3, .int (nI j)), (4, .int (nI x))]) ?_ 0 ⟨Nat.zero_le _, ⟨mh, ?_, hP, hD⟩, hS, lv_sub hl [1, 2, 3, 0] rfl⟩
          · rintro k H locs ls ⟨hkj, ⟨f1, hf1, hP, hD⟩, hS, hl⟩ ih
            refine lv_iload hx hb d_Model_put_27 (lv_at hl 3 rfl) ?_
            refine lv_iload_n hx hb d_Model_put_29 rfl (lv_at hl 2 rfl) ?_
            refine lv_icmp_ge (tgt := 86) hx hb d_Model_put_30 (by decide) (fun c4 => ?_) (fun c4 => ?_)
            · rw [nI_leI (by omega) (by omega)] at c4
              obtain rfl : k = j := by omega
              refine lv_aload_n hx hb d_Model_put_86 rfl (lv_at hl 0 rfl) ?_
              refine lv_aload_n hx hb d_Model_put_87 rfl (lv_at hl 0 rfl) ?_
              refine va_get (D := g.1) (ci := 3) (v := .int (nI h)) (C := R_Model) (T := F_Model) (N := 7) hx hb hc i_Model hown hK hP 0 rfl rfl 1 (by decide) (hc _ kf_Model_25) (fun _ h9 => h9) rfl d_Model_put_88 ?_
              refine lv_iload_n hx hb d_Model_put_91 rfl (lv_at hl 2 rfl) ?_
              refine lv_iadd hx hb d_Model_put_92 ?_
              refine x_top (y := nI (h + k)) (nI_add _ _) ?_
              refine va_put (D := g.1) (ci := 3) (v := .int (nI (h + k))) (ty := .int) (C := R_Model) (T := F_Model) (N := 7) hx hb hc i_Model t_Model t_Model_ok n_Model hown hK hP hD hS 0 rfl rfl 1 (by decide) (hc _ kf_Model_25) (fun _ h9 => h9) rfl (by decide +kernel) rfl rfl (Nat.le_of_ble_eq_true rfl) d_Model_put_93 (fun H locs hP hD hS => ?_)
              have hP : va_P g.1 classes [(d, .inr (3, [.ref d0, .int (nI (h + k)), .ref d1, .ref d2, .ref d3, .ref d4, .int kv])), (d0, .inl (cIn g, 60, .inl f1))] H := hP
              have hD : va_D A [(d, .inr (3, [.ref d0, .int (nI (h + k)), .ref d1, .ref d2, .ref d3, .ref d4, .int kv])), (d0, .inl (cIn g, 60, .inl f1))] := hD
              refine lv_iconst (v := 1) hx hb d_Model_put_96 (by decide) ?_
              exact W.zret (v := 1) hx hb hr (rfl) (fun t9 ht9 hW9 => ⟨⟨_, f1, rfl, ⟨(if_neg (by omega)).symm, hf1⟩, by rw [ht9]; exact hP, hD⟩, hS.F ht9⟩) hS.2.2 d_Model_put_97
            · rw [nI_leI (by omega) (by omega)] at c4
              refine lv_lload_n hx hb d_Model_put_33 rfl (lv_at hl 1 rfl) ?_
              refine lv_lstore (lv' := [(5, .long v), (0, .ref d), (1, .long v), (3, .int (nI j)), (4, .int (nI k))]) hx hb d_Model_put_34 hl (by decide) rfl (fun ls hl => ?_)
              refine lv_iload hx hb d_Model_put_36 (lv_at hl 4 rfl) ?_
              refine lv_iconst (v := 1) hx hb d_Model_put_38 (by decide) ?_
              refine lv_iadd hx hb d_Model_put_39 ?_
              refine x_top (y := nI (k + 1)) (nI_1 k) ?_
              refine lv_istore (lv' := [(7, .int (nI (k + 1))), (5, .long v), (0, .ref d), (1, .long v), (3, .int (nI j)), (4, .int (nI k))]) hx hb d_Model_put_40 hl (by decide) rfl (fun ls hl => ?_)
              refine x_loopR (σ := Nat) (fun x => j - x) (fun x ls1 => k + 1 + x ≤ j ∧ lv_has ls1 8 [(0, .ref d), (1, .long v), (3, .int (nI j)), (4, .int (nI k)), (5, .long (shn v x)), (7, .int (nI (k + 1 + x)))]) ?_ 0 ⟨by omega, lv_sub hl [2, 3, 4, 5, 1, 0] rfl⟩
              rintro x ls ⟨hx1, hl⟩ ih2
              refine lv_iload hx hb d_Model_put_42 (lv_at hl 5 rfl) ?_
              refine lv_iload_n hx hb d_Model_put_44 rfl (lv_at hl 2 rfl) ?_
              refine lv_icmp_ge (tgt := 61) hx hb d_Model_put_45 (by decide) (fun c5 => ?_) (fun c5 => ?_)
              · rw [nI_leI (by omega) (by omega)] at c5
                obtain rfl : x = j - 1 - k := by omega
                refine lv_aload_n hx hb d_Model_put_61 rfl (lv_at hl 0 rfl) ?_
                refine va_get (D := g.1) (ci := 3) (v := .ref d0) (C := R_Model) (T := F_Model) (N := 7) hx hb hc i_Model hown hK hP 0 rfl rfl 0 (by decide) (hc _ kf_Model_7) (fun _ h9 => h9) rfl d_Model_put_62 ?_
                refine lv_aload_n hx hb d_Model_put_65 rfl (lv_at hl 0 rfl) ?_
                refine va_get (D := g.1) (ci := 3) (v := .int (nI h)) (C := R_Model) (T := F_Model) (N := 7) hx hb hc i_Model hown hK hP 0 rfl rfl 1 (by decide) (hc _ kf_Model_25) (fun _ h9 => h9) rfl d_Model_put_66 ?_
                refine lv_iload hx hb d_Model_put_69 (lv_at hl 3 rfl) ?_
                refine lv_iadd hx hb d_Model_put_71 ?_
                refine x_top (y := nI (h + k)) (nI_add _ _) ?_
                refine lv_lload hx hb d_Model_put_72 (lv_at hl 4 rfl) ?_
                refine lv_ldc2 (v := 255) hx hb hown (hc _ kq_Model_29) d_Model_put_74 ?_
                refine lv_land hx hb d_Model_put_77 ?_
                refine lv_l2i (v := ((shn v (j - 1 - k)) &&& 255).toInt32) hx hb d_Model_put_78 rfl ?_
                refine x_top (y := nI (vb v (j - 1 - k))) (put_nat v (by omega)) ?_
                refine x_iast hx hb hK hP hD hS 1 rfl (k := (h + k)) (by omega) (by decide) d_Model_put_79 (fun H locs hP hD hS => ?_)
                have hP : va_P g.1 classes [(d, .inr (3, [.ref d0, .int (nI h), .ref d1, .ref d2, .ref d3, .ref d4, .int kv])), (d0, .inl (cIn g, 60, .inl (upd f1 (h + k) (nI (vb v (j - 1 - k))))))] H := hP
                have hD : va_D A [(d, .inr (3, [.ref d0, .int (nI h), .ref d1, .ref d2, .ref d3, .ref d4, .int kv])), (d0, .inl (cIn g, 60, .inl (upd f1 (h + k) (nI (vb v (j - 1 - k))))))] := hD
                refine lv_iinc (v := nI (k + 1)) (lv' := [(4, .int (nI (k + 1))), (0, .ref d), (1, .long v), (3, .int (nI j)), (5, .long (shn v (j - 1 - k))), (7, .int (nI (k + 1 + (j - 1 - k))))]) hx hb d_Model_put_80 hl (k := 3) rfl (nI_1 k) (by decide) rfl (fun ls hl => ?_)
                refine lv_goto (tgt := 27) hx hb d_Model_put_83 (by decide) ?_
                exact ih (k + 1) H locs ls ⟨by omega, ⟨_, put_stepT (by omega) hf1, hP, hD⟩, hS, lv_sub hl [1, 2, 3, 0] rfl⟩ (by omega)
              · rw [nI_leI (by omega) (by omega)] at c5
                refine lv_lload hx hb d_Model_put_48 (lv_at hl 4 rfl) ?_
                refine lv_bipush (v := 8) hx hb d_Model_put_50 (by decide) ?_
                refine lv_lshr (v := (shn v x) >>> ((8 : Int32).toInt64 &&& 63)) hx hb d_Model_put_52 rfl ?_
                refine x_topl (y := shn v (x + 1)) (rfl) ?_
                refine lv_lstore (lv' := [(5, .long (shn v (x + 1))), (0, .ref d), (1, .long v), (3, .int (nI j)), (4, .int (nI k)), (7, .int (nI (k + 1 + x)))]) hx hb d_Model_put_53 hl (by decide) rfl (fun ls hl => ?_)
                refine lv_iinc (v := nI (k + 1 + (x + 1))) (lv' := [(7, .int (nI (k + 1 + (x + 1)))), (5, .long (shn v (x + 1))), (0, .ref d), (1, .long v), (3, .int (nI j)), (4, .int (nI k))]) hx hb d_Model_put_55 hl (k := 5) rfl (nI_1 _) (by decide) rfl (fun ls hl => ?_)
                refine lv_goto (tgt := 42) hx hb d_Model_put_58 (by decide) ?_
                exact ih2 (x + 1) ls ⟨by omega, lv_sub hl [2, 3, 4, 5, 1, 0] rfl⟩ (by omega)
          · intro i hi
            unfold putH
            rw [if_pos (by omega)]
            exact hf i (by omega)
        · exact absurd ((nI_leI (a := h + j) (b := 60) (by omega) (by decide)).mpr h60) c3
set_option maxHeartbeats 4000000 in
set_option maxRecDepth 100000 in
/-- place(): where the name in the hand stands -/
theorem c_Model_place (l : Launch) (g : GT) (sz : Nat) (d d0 d1 d2 d3 d4 : Nat) (mh mb mz mg mr : Nat → Int32) (V : AS) (Bd h : Nat) (nb : Nat → Nat) (hV : AOk V Bd) (hBd : Bd < 2 ^ 30) (hH : HOk h nb) (hf : ∀ i, i < h → mh i = nI (nb i)) (hI : TInv V mb mz mg mr (nI (aN V))) (pl : Option Nat) (hp : PlIs V h nb pl) : Met l y_Model_place w_Model_place ({ frames := 0, cells := 0, slots := 0, locals := 0 } : Room) (PcW [.ref d] sz g [(d, .inr (3, [.ref d0, .int (nI h), .ref d1, .ref d2, .ref d3, .ref d4, .int (nI (aN V))])), (d0, .inl (cIn g, 60, .inl mh)), (d1, .inl (cIn g, 12000, .inl mb)), (d2, .inl (cIn g, 200, .inl mz))]) (va_Qi (fun (r : Int32) (_ : Unit) => r = fR pl) BR (va_A [] sz)) 0 0 (va_A [] sz) := by
  refine Met.ofW (cc := b_Model_place) (maxL := 5) (ret := (some .int)) (by decide) rfl ?_
  intro p e s m args below meth c s₁ B hml hv
  obtain ⟨rfl, hsz, hP, hK, hN, hD⟩ := hv
  have hx := B.exec
  have hb := B.bytes
  have hr := B.returns
  have hc : ∀ w ∈ cmn, w.before ([.ref d] : List Value).toArray s = true := fun w h => atoms_spec (ws := w_Model_place) B.pre w (List.mem_cons_of_mem _ h)
  have hown : s.vm.findClass R_Model = some m.cls := findClass_of_methodNamed B.named
  have hlocks := B.notSynchronized
  subst hsz
  have hS : va_S (va_A [] s.heap.size) s.heap s.heap [] := va_S.rf
  have hA : ∀ q : Nat, s.heap.size ≤ q → va_A [] s.heap.size q := fun q h => Or.inr h
  generalize va_A [] s.heap.size = A at hS hA ⊢
  have hP : va_P g.1 classes [(d, .inr (3, [.ref d0, .int (nI h), .ref d1, .ref d2, .ref d3, .ref d4, .int (nI (aN V))])), (d0, .inl (cIn g, 60, .inl mh)), (d1, .inl (cIn g, 12000, .inl mb)), (d2, .inl (cIn g, 200, .inl mz))] s.heap := hP
  have hl := lv_entry ([.ref d]) (n := 5) (Nat.le_of_ble_eq_true rfl)
  rw [lg_entry_eq]
  generalize (lg_sl ([.ref d]) ++ List.replicate (5 - (lg_sl ([.ref d])).length) Slot.unset).toArray = ls at hl ⊢
  have hl : lv_has ls 5 [(0, .ref d)] := hl
  have hn := hV.1
  have hh := hH.1
  refine lv_iconst (v := (-1)) hx hb d_Model_place_0 (by decide) ?_
  refine lv_istore_n (lv' := [(1, .int (-1)), (0, .ref d)]) hx hb d_Model_place_1 rfl hl (by decide) rfl (fun ls hl => ?_)
  refine lv_iconst (v := 0) hx hb d_Model_place_2 (by decide) ?_
  refine lv_istore_n (lv' := [(2, .int 0), (1, .int (-1)), (0, .ref d)]) hx hb d_Model_place_3 rfl hl (by decide) rfl (fun ls hl => ?_)
  refine x_loopR (σ := Nat × Int32) (fun x => aN V - x.1) (fun x ls1 => x.1 ≤ aN V ∧ FndIs V h nb x.1 x.2 ∧ lv_has ls1 5 [(0, .ref d), (1, .int x.2), (2, .int (nI x.1))]) ?_ (0, -1) ⟨Nat.zero_le _, Or.inr ⟨fun j hj => absurd hj (Nat.not_lt_zero _), rfl⟩, lv_sub hl [2, 1, 0] rfl⟩
  rintro ⟨k, fv⟩ ls ⟨hk, hfv, hl⟩ ih
  dsimp only at hk hfv hl
  refine lv_iload_n hx hb d_Model_place_4 rfl (lv_at hl 2 rfl) ?_
  refine lv_aload_n hx hb d_Model_place_5 rfl (lv_at hl 0 rfl) ?_
  refine va_get (D := g.1) (ci := 3) (v := .int (nI (aN V))) (C := R_Model) (T := F_Model) (N := 7) hx hb hc i_Model hown hK hP 0 rfl rfl 6 (by decide) (hc _ kf_Model_31) (fun _ h9 => h9) rfl d_Model_place_6 ?_
  refine lv_icmp_ge (tgt := 97) hx hb d_Model_place_9 (by decide) (fun c1 => ?_) (fun c1 => ?_)
  · rw [nI_leI (by omega) (by omega)] at c1
    obtain rfl : k = aN V := by omega
    refine lv_iload_n hx hb d_Model_place_97 rfl (lv_at hl 1 rfl) ?_
    exact W.iret (v := fv) hx hb hr (fun t9 ht9 hW9 => ⟨⟨_, (), rfl, FndIs_end hV hp hfv, trivial⟩, hS.F ht9⟩) hS.2.2 d_Model_place_98
  · rw [nI_leI (by omega) (by omega)] at c1
    obtain ⟨ez, -, -, eb⟩ := hI.2 k (by omega)
    have hz := hV.2.1 k (by omega)
    refine lv_aload_n hx hb d_Model_place_12 rfl (lv_at hl 0 rfl) ?_
    refine va_get (D := g.1) (ci := 3) (v := .ref d2) (C := R_Model) (T := F_Model) (N := 7) hx hb hc i_Model hown hK hP 0 rfl rfl 3 (by decide) (hc _ kf_Model_16) (fun _ h9 => h9) rfl d_Model_place_13 ?_
    refine lv_iload_n hx hb d_Model_place_16 rfl (lv_at hl 2 rfl) ?_
    refine x_iald hx hb hK hP 3 rfl (k := k) (by omega) (by decide) d_Model_place_17 ?_
    refine x_top (y := nI (aZ V k)) (ez) ?_
    refine lv_aload_n hx hb d_Model_place_18 rfl (lv_at hl 0 rfl) ?_
    refine va_get (D := g.1) (ci := 3) (v := .int (nI h)) (C := R_Model) (T := F_Model) (N := 7) hx hb hc i_Model hown hK hP 0 rfl rfl 1 (by decide) (hc _ kf_Model_25) (fun _ h9 => h9) rfl d_Model_place_19 ?_
    refine x_join (rest := []) 30 (fun v => YN v (aZ V k = h)) (fun v hv => ?_) (fun kj => ?_)
    · refine lv_istore_n (lv' := [(3, .int v), (0, .ref d), (1, .int fv), (2, .int (nI k))]) hx hb d_Model_place_30 rfl hl (by decide) rfl (fun ls hl => ?_)
      refine lv_iconst (v := 0) hx hb d_Model_place_31 (by decide) ?_
      refine lv_istore (lv' := [(4, .int 0), (3, .int v), (0, .ref d), (1, .int fv), (2, .int (nI k))]) hx hb d_Model_place_32 hl (by decide) rfl (fun ls hl => ?_)
      refine x_loopR (σ := Nat × Int32) (fun x => h - x.1) (fun x ls1 => x.1 ≤ h ∧ YN x.2 (aZ V k = h ∧ ∀ j, j < x.1 → aB V k j = nb j) ∧ lv_has ls1 5 [(0, .ref d), (1, .int fv), (2, .int (nI k)), (3, .int x.2), (4, .int (nI x.1))]) ?_ (0, v) ⟨Nat.zero_le _, YN.to hv ⟨fun q => ⟨q, fun j hj => absurd hj (Nat.not_lt_zero _)⟩, fun q => q.1⟩, lv_sub hl [2, 3, 4, 1, 0] rfl⟩
      rintro ⟨i, v⟩ ls ⟨hi, hv, hl⟩ ih2
      dsimp only at hi hv hl
      refine lv_iload hx hb d_Model_place_34 (lv_at hl 4 rfl) ?_
      refine lv_aload_n hx hb d_Model_place_36 rfl (lv_at hl 0 rfl) ?_
      refine va_get (D := g.1) (ci := 3) (v := .int (nI h)) (C := R_Model) (T := F_Model) (N := 7) hx hb hc i_Model hown hK hP 0 rfl rfl 1 (by decide) (hc _ kf_Model_25) (fun _ h9 => h9) rfl d_Model_place_37 ?_
      refine lv_icmp_ge (tgt := 81) hx hb d_Model_place_40 (by decide) (fun c3 => ?_) (fun c3 => ?_)
      · rw [nI_leI (by omega) (by omega)] at c3
        obtain rfl : i = h := by omega
        have hv : YN v (Mt V i nb k) := hv
        refine lv_iload_n hx hb d_Model_place_81 rfl (lv_at hl 3 rfl) ?_
        refine x_join (rest := []) 90 (fun v3 => FndIs V i nb (k + 1) v3) (fun v3 hv3 => ?_) (fun kj => ?_)
        · refine lv_istore_n (lv' := [(1, .int v3), (0, .ref d), (2, .int (nI k)), (3, .int v), (4, .int (nI i))]) hx hb d_Model_place_90 rfl hl (by decide) rfl (fun ls hl => ?_)
          refine lv_iinc (v := nI (k + 1)) (lv' := [(2, .int (nI (k + 1))), (1, .int v3), (0, .ref d), (3, .int v), (4, .int (nI i))]) hx hb d_Model_place_91 hl (k := 2) rfl (nI_1 k) (by decide) rfl (fun ls hl => ?_)
          refine lv_goto (tgt := 4) hx hb d_Model_place_94 (by decide) ?_
          exact ih (k + 1, v3) ls ⟨by show k + 1 ≤ aN V; omega, hv3, lv_sub hl [2, 1, 0] rfl⟩ (by show aN V - (k + 1) < aN V - k; omega)
        · refine lv_if_eq (tgt := 89) hx hb d_Model_place_82 (by decide) (fun c4 => ?_) (fun c4 => ?_)
          · refine lv_iload_n hx hb d_Model_place_89 rfl (lv_at hl 1 rfl) ?_
            refine kj fv ?_
            rcases hfv with ⟨j, hj, hm, e⟩ | ⟨hno, e⟩
            · exact Or.inl ⟨j, by omega, hm, e⟩
            · refine Or.inr ⟨fun j hj => ?_, e⟩
              rcases Nat.lt_or_ge j k with z1 | z1
              · exact hno j z1
              · rw [show j = k by omega]
                exact hv.no c4
          · refine lv_iload_n hx hb d_Model_place_85 rfl (lv_at hl 2 rfl) ?_
            refine lv_goto (tgt := 90) hx hb d_Model_place_86 (by decide) ?_
            exact kj (nI k) (Or.inl ⟨k, Nat.lt_succ_self _, hv.yes c4, rfl⟩)
      · rw [nI_leI (by omega) (by omega)] at c3
        refine x_join (rest := []) 74 (fun v2 => YN v2 (aZ V k = h ∧ ∀ j, j < i + 1 → aB V k j = nb j)) (fun v2 hv2 => ?_) (fun kj => ?_)
        · refine lv_istore_n (lv' := [(3, .int v2), (0, .ref d), (1, .int fv), (2, .int (nI k)), (4, .int (nI i))]) hx hb d_Model_place_74 rfl hl (by decide) rfl (fun ls hl => ?_)
          refine lv_iinc (v := nI (i + 1)) (lv' := [(4, .int (nI (i + 1))), (3, .int v2), (0, .ref d), (1, .int fv), (2, .int (nI k))]) hx hb d_Model_place_75 hl (k := 4) rfl (nI_1 i) (by decide) rfl (fun ls hl => ?_)
          refine lv_goto (tgt := 34) hx hb d_Model_place_78 (by decide) ?_
          exact ih2 (i + 1, v2) ls ⟨by show i + 1 ≤ h; omega, hv2, lv_sub hl [2, 3, 4, 1, 0] rfl⟩ (by show h - (i + 1) < h - i; omega)
        · refine lv_iload_n hx hb d_Model_place_43 rfl (lv_at hl 3 rfl) ?_
          refine lv_if_eq (tgt := 73) hx hb d_Model_place_44 (by decide) (fun c4 => ?_) (fun c4 => ?_)
          · refine lv_iconst (v := 0) hx hb d_Model_place_73 (by decide) ?_
            exact kj 0 (Or.inr ⟨rfl, fun q => hv.no c4 ⟨q.1, fun j hj => q.2 j (by omega)⟩⟩)
          · obtain ⟨ezh, hall⟩ := hv.yes c4
            have hb1 := hz.2.2.2.2 i (by omega)
            have hb2 := hH.2 i (by omega)
            refine lv_aload_n hx hb d_Model_place_47 rfl (lv_at hl 0 rfl) ?_
            refine va_get (D := g.1) (ci := 3) (v := .ref d1) (C := R_Model) (T := F_Model) (N := 7) hx hb hc i_Model hown hK hP 0 rfl rfl 2 (by decide) (hc _ kf_Model_13) (fun _ h9 => h9) rfl d_Model_place_48 ?_
            refine lv_bipush (v := 60) hx hb d_Model_place_51 (by decide) ?_
            refine lv_iload_n hx hb d_Model_place_53 rfl (lv_at hl 2 rfl) ?_
            refine lv_imul hx hb d_Model_place_54 ?_
            refine x_top (y := nI (60 * k)) (pk_mul 60 k) ?_
            refine lv_iload hx hb d_Model_place_55 (lv_at hl 4 rfl) ?_
            refine lv_iadd hx hb d_Model_place_57 ?_
            refine x_top (y := nI (60 * k + i)) (nI_add _ _) ?_
            refine x_iald hx hb hK hP 2 rfl (k := (60 * k + i)) (by omega) (by decide) d_Model_place_58 ?_
            refine x_top (y := nI (aB V k i)) (eb i (by omega)) ?_
            refine lv_aload_n hx hb d_Model_place_59 rfl (lv_at hl 0 rfl) ?_
            refine va_get (D := g.1) (ci := 3) (v := .ref d0) (C := R_Model) (T := F_Model) (N := 7) hx hb hc i_Model hown hK hP 0 rfl rfl 0 (by decide) (hc _ kf_Model_7) (fun _ h9 => h9) rfl d_Model_place_60 ?_
            refine lv_iload hx hb d_Model_place_63 (lv_at hl 4 rfl) ?_
            refine x_iald hx hb hK hP 1 rfl (k := i) (by omega) (by decide) d_Model_place_65 ?_
            refine x_top (y := nI (nb i)) (hf i (by omega)) ?_
            refine lv_icmp_ne (tgt := 73) hx hb d_Model_place_66 (by decide) (fun c5 => ?_) (fun c5 => ?_)
            · rw [nI_eq (by omega) (by omega)] at c5
              refine lv_iconst (v := 0) hx hb d_Model_place_73 (by decide) ?_
              exact kj 0 (Or.inr ⟨rfl, fun q => c5 (q.2 i (by omega))⟩)
            · rw [nI_eq (by omega) (by omega)] at c5
              refine lv_iconst (v := 1) hx hb d_Model_place_69 (by decide) ?_
              refine lv_goto (tgt := 74) hx hb d_Model_place_70 (by decide) ?_
              refine kj 1 (Or.inl ⟨rfl, ezh, fun j hj => ?_⟩)
              rcases Nat.lt_or_ge j i with z1 | z1
              · exact hall j z1
              · rw [show j = i by omega]
                exact c5
    · refine lv_icmp_ne (tgt := 29) hx hb d_Model_place_22 (by decide) (fun c2 => ?_) (fun c2 => ?_)
      · rw [nI_eq (by omega) (by omega)] at c2
        refine lv_iconst (v := 0) hx hb d_Model_place_29 (by decide) ?_
        exact kj 0 (Or.inr ⟨rfl, c2⟩)
      · rw [nI_eq (by omega) (by omega)] at c2
        refine lv_iconst (v := 1) hx hb d_Model_place_25 (by decide) ?_
        refine lv_goto (tgt := 30) hx hb d_Model_place_26 (by decide) ?_
        exact kj 1 (Or.inl ⟨rfl, c2⟩)
set_option maxHeartbeats 4000000 in
set_option maxRecDepth 100000 in
/-- known(): the name in the hand is in the list from now on -/
theorem c_Model_known (l : Launch) (g : GT) (sz : Nat) (d d0 d1 d2 d3 d4 : Nat) (mh mb mz mg mr : Nat → Int32) (kv : Int32) (V : AS) (Bd h : Nat) (nb : Nat → Nat) (hV : AOk V Bd) (hBd : Bd < 2 ^ 30) (hH : HOk h nb) (hf : ∀ i, i < h → mh i = nI (nb i)) (hI : TInv V mb mz mg mr kv) (pl : Option Nat) (hp : PlIs V h nb pl) : Met l y_Model_known w_Model_known ({ frames := 1, cells := 0, slots := 0, locals := 24 } : Room) (PcW [.ref d] sz g [(d, .inr (3, [.ref d0, .int (nI h), .ref d1, .ref d2, .ref d3, .ref d4, .int kv])), (d0, .inl (cIn g, 60, .inl mh)), (d1, .inl (cIn g, 12000, .inl mb)), (d2, .inl (cIn g, 200, .inl mz)), (d3, .inl (cIn g, 200, .inl mg)), (d4, .inl (cIn g, 200, .inl mr))]) (va_Qi (fun (r : Int32) (u : (Nat → Int32) × (Nat → Int32) × (Nat → Int32) × (Nat → Int32) × Int32) => r = kR (kK V pl) ∧ TInv (kA V h nb pl) u.1 u.2.1 u.2.2.1 u.2.2.2.1 u.2.2.2.2) (BW g (va_A [(d, .inr (3, [.ref d0, .int (nI h), .ref d1, .ref d2, .ref d3, .ref d4, .int kv])), (d0, .inl (cIn g, 60, .inl mh)), (d1, .inl (cIn g, 12000, .inl mb)), (d2, .inl (cIn g, 200, .inl mz)), (d3, .inl (cIn g, 200, .inl mg)), (d4, .inl (cIn g, 200, .inl mr))] sz) (fun u : (Nat → Int32) × (Nat → Int32) × (Nat → Int32) × (Nat → Int32) × Int32 => [(d, .inr (3, [.ref d0, .int 0, .ref d1, .ref d2, .ref d3, .ref d4, .int u.2.2.2.2])), (d0, .inl (cIn g, 60, .inl mh)), (d1, .inl (cIn g, 12000, .inl u.1)), (d2, .inl (cIn g, 200, .inl u.2.1)), (d3, .inl (cIn g, 200, .inl u.2.2.1)), (d4, .inl (cIn g, 200, .inl u.2.2.2.1))])) (va_A [(d, .inr (3, [.ref d0, .int (nI h), .ref d1, .ref d2, .ref d3, .ref d4, .int kv])), (d0, .inl (cIn g, 60, .inl mh)), (d1, .inl (cIn g, 12000, .inl mb)), (d2, .inl (cIn g, 200, .inl mz)), (d3, .inl (cIn g, 200, .inl mg)), (d4, .inl (cIn g, 200, .inl mr))] sz)) 0 0 (va_A [(d, .inr (3, [.ref d0, .int (nI h), .ref d1, .ref d2, .ref d3, .ref d4, .int kv])), (d0, .inl (cIn g, 60, .inl mh)), (d1, .inl (cIn g, 12000, .inl mb)), (d2, .inl (cIn g, 200, .inl mz)), (d3, .inl (cIn g, 200, .inl mg)), (d4, .inl (cIn g, 200, .inl mr))] sz) := by
  refine Met.ofW (cc := b_Model_known) (maxL := 3) (ret := (some .int)) (by decide) rfl ?_
  intro p e s m args below meth c s₁ B hml hv
  obtain ⟨rfl, hsz, hP, hK, hN, hD⟩ := hv
  have hx := B.exec
  have hb := B.bytes
  have hr := B.returns
  have hc : ∀ w ∈ cmn, w.before ([.ref d] : List Value).toArray s = true := fun w h => atoms_spec (ws := w_Model_known) B.pre w (List.mem_cons_of_mem _ h)
  have hown : s.vm.findClass R_Model = some m.cls := findClass_of_methodNamed B.named
  have hlocks := B.notSynchronized
  subst hsz
  have hD := hD.self (sz := s.heap.size)
  have hS : va_S (va_A [(d, .inr (3, [.ref d0, .int (nI h), .ref d1, .ref d2, .ref d3, .ref d4, .int kv])), (d0, .inl (cIn g, 60, .inl mh)), (d1, .inl (cIn g, 12000, .inl mb)), (d2, .inl (cIn g, 200, .inl mz)), (d3, .inl (cIn g, 200, .inl mg)), (d4, .inl (cIn g, 200, .inl mr))] s.heap.size) s.heap s.heap [] := va_S.rf
  have hA : ∀ q : Nat, s.heap.size ≤ q → va_A [(d, .inr (3, [.ref d0, .int (nI h), .ref d1, .ref d2, .ref d3, .ref d4, .int kv])), (d0, .inl (cIn g, 60, .inl mh)), (d1, .inl (cIn g, 12000, .inl mb)), (d2, .inl (cIn g, 200, .inl mz)), (d3, .inl (cIn g, 200, .inl mg)), (d4, .inl (cIn g, 200, .inl mr))] s.heap.size q := fun q h => Or.inr h
  generalize va_A [(d, .inr (3, [.ref d0, .int (nI h), .ref d1, .ref d2, .ref d3, .ref d4, .int kv])), (d0, .inl (cIn g, 60, .inl mh)), (d1, .inl (cIn g, 12000, .inl mb)), (d2, .inl (cIn g, 200, .inl mz)), (d3, .inl (cIn g, 200, .inl mg)), (d4, .inl (cIn g, 200, .inl mr))] s.heap.size = A at hD hS hA ⊢
  have hP : va_P g.1 classes [(d, .inr (3, [.ref d0, .int (nI h), .ref d1, .ref d2, .ref d3, .ref d4, .int kv])), (d0, .inl (cIn g, 60, .inl mh)), (d1, .inl (cIn g, 12000, .inl mb)), (d2, .inl (cIn g, 200, .inl mz)), (d3, .inl (cIn g, 200, .inl mg)), (d4, .inl (cIn g, 200, .inl mr))] s.heap := hP
  have hD : va_D A [(d, .inr (3, [.ref d0, .int (nI h), .ref d1, .ref d2, .ref d3, .ref d4, .int kv])), (d0, .inl (cIn g, 60, .inl mh)), (d1, .inl (cIn g, 12000, .inl mb)), (d2, .inl (cIn g, 200, .inl mz)), (d3, .inl (cIn g, 200, .inl mg)), (d4, .inl (cIn g, 200, .inl mr))] := hD
  have hl := lv_entry ([.ref d]) (n := 3) (Nat.le_of_ble_eq_true rfl)
  rw [lg_entry_eq]
  generalize (lg_sl ([.ref d]) ++ List.replicate (3 - (lg_sl ([.ref d])).length) Slot.unset).toArray = ls at hl ⊢
  have hl : lv_has ls 3 [(0, .ref d)] := hl
  have hn := hV.1
  have hh := hH.1
  have ekv := hI.1
  subst ekv
  refine lv_aload_n hx hb d_Model_known_0 rfl (lv_at hl 0 rfl) ?_
  refine x_cri (x_runV (As := []) (rest := []) ⟨hx, hb, hml, hown, hc⟩ (c_Model_place l g _ d d0 d1 d2 d3 d4 mh mb mz mg mr V Bd h nb hV hBd hH hf hI pl hp) (cwV 0 hc (good_V km_Model_34 ki_Model_place ks_Model_place kn_Model kc_Model_place) rfl rfl rfl (by decide +kernel) ⟨Nat.le_of_ble_eq_true rfl, Nat.le_of_ble_eq_true rfl⟩) hP hD hK hN [0, 1, 2, 3] (by decide) rfl (va_recv hK hP (ci := 3) (q0 := 0) rfl rfl) rfl hl.1 rfl (Nat.le_of_ble_eq_true rfl) d_Model_known_1 ⟨Nat.le_of_ble_eq_true rfl, Nat.le_of_ble_eq_true rfl⟩) hP hS hA (fun r0 H locs hw0 hP hS => ?_)
  have hw0 : r0 = fR pl := hw0
  rcases pl with _ | k
  · obtain rfl : r0 = -1 := hw0
    refine lv_istore_n (lv' := [(1, .int (-1)), (0, .ref d)]) hx hb d_Model_known_4 rfl hl (by decide) rfl (fun ls hl => ?_)
    refine lv_iload_n hx hb d_Model_known_5 rfl (lv_at hl 0 rfl) ?_
    refine lv_if_ge (tgt := 25) hx hb d_Model_known_6 (by decide) (fun c1 => ?_) (fun c1 => ?_)
    · exact absurd c1 (by decide)
    · refine lv_aload_n hx hb d_Model_known_9 rfl (lv_at hl 1 rfl) ?_
      refine va_get (D := g.1) (ci := 3) (v := .int (nI (aN V))) (C := R_Model) (T := F_Model) (N := 7) hx hb hc i_Model hown hK hP 0 rfl rfl 6 (by decide) (hc _ kf_Model_31) (fun _ h9 => h9) rfl d_Model_known_10 ?_
      refine lv_sipush (v := 200) hx hb d_Model_known_13 (by decide) ?_
      refine lv_icmp_ne (tgt := 25) hx hb d_Model_known_16 (by decide) (fun c2 => ?_) (fun c2 => ?_)
      · have c2 : ¬ aN V = 200 := fun z => c2 (by rw [z]; rfl)
        refine lv_iload_n hx hb d_Model_known_25 rfl (lv_at hl 0 rfl) ?_
        refine lv_if_ge (tgt := 101) hx hb d_Model_known_26 (by decide) (fun c3 => ?_) (fun c3 => ?_)
        · exact absurd c3 (by decide)
        · refine lv_aload_n hx hb d_Model_known_29 rfl (lv_at hl 1 rfl) ?_
          refine va_get (D := g.1) (ci := 3) (v := .int (nI (aN V))) (C := R_Model) (T := F_Model) (N := 7) hx hb hc i_Model hown hK hP 0 rfl rfl 6 (by decide) (hc _ kf_Model_31) (fun _ h9 => h9) rfl d_Model_known_30 ?_
          refine lv_istore_n (lv' := [(1, .int (nI (aN V))), (0, .ref d)]) hx hb d_Model_known_33 rfl hl (by decide) rfl (fun ls hl => ?_)
          refine lv_aload_n hx hb d_Model_known_34 rfl (lv_at hl 1 rfl) ?_
          refine va_get (D := g.1) (ci := 3) (v := .ref d2) (C := R_Model) (T := F_Model) (N := 7) hx hb hc i_Model hown hK hP 0 rfl rfl 3 (by decide) (hc _ kf_Model_16) (fun _ h9 => h9) rfl d_Model_known_35 ?_
          refine lv_iload_n hx hb d_Model_known_38 rfl (lv_at hl 0 rfl) ?_
          refine lv_aload_n hx hb d_Model_known_39 rfl (lv_at hl 1 rfl) ?_
          refine va_get (D := g.1) (ci := 3) (v := .int (nI h)) (C := R_Model) (T := F_Model) (N := 7) hx hb hc i_Model hown hK hP 0 rfl rfl 1 (by decide) (hc _ kf_Model_25) (fun _ h9 => h9) rfl d_Model_known_40 ?_
          refine x_iast hx hb hK hP hD hS 3 rfl (k := (aN V)) (by omega) (by decide) d_Model_known_43 (fun H locs hP hD hS => ?_)
          have hP : va_P g.1 classes [(d, .inr (3, [.ref d0, .int (nI h), .ref d1, .ref d2, .ref d3, .ref d4, .int (nI (aN V))])), (d0, .inl (cIn g, 60, .inl mh)), (d1, .inl (cIn g, 12000, .inl mb)), (d2, .inl (cIn g, 200, .inl (upd mz (aN V) (nI h)))), (d3, .inl (cIn g, 200, .inl mg)), (d4, .inl (cIn g, 200, .inl mr))] H := hP
          have hD : va_D A [(d, .inr (3, [.ref d0, .int (nI h), .ref d1, .ref d2, .ref d3, .ref d4, .int (nI (aN V))])), (d0, .inl (cIn g, 60, .inl mh)), (d1, .inl (cIn g, 12000, .inl mb)), (d2, .inl (cIn g, 200, .inl (upd mz (aN V) (nI h)))), (d3, .inl (cIn g, 200, .inl mg)), (d4, .inl (cIn g, 200, .inl mr))] := hD
          refine lv_iconst (v := 0) hx hb d_Model_known_44 (by decide) ?_
          refine lv_istore_n (lv' := [(2, .int 0), (1, .int (nI (aN V))), (0, .ref d)]) hx hb d_Model_known_45 rfl hl (by decide) rfl (fun ls hl => ?_)
          refine x_loop (σ := Nat) (fun x => h - x) (fun x H1 locs1 ls1 => x ≤ h ∧ (∃ f1 : Nat → Int32, (∀ i, i < x → f1 (60 * aN V + i) = nI (nb i)) ∧ (∀ y, y < 60 * aN V → f1 y = mb y) ∧ va_P g.1 classes [(d, .inr (3, [.ref d0, .int (nI h), .ref d1, .ref d2, .ref d3, .ref d4, .int (nI (aN V))])), (d0, .inl (cIn g, 60, .inl mh)), (d1, .inl (cIn g, 12000, .inl f1)), (d2, .inl (cIn g, 200, .inl (upd mz (aN V) (nI h)))), (d3, .inl (cIn g, 200, .inl mg)), (d4, .inl (cIn g, 200, .inl mr))] H1 ∧ va_D A [(d, .inr (3, [.ref d0, .int (nI h), .ref d1, .ref d2, .ref d3, .ref d4, .int (nI (aN V))])), (d0, .inl (cIn g, 60, .inl mh)), (d1, .inl (cIn g, 12000, .inl f1)), (d2, .inl (cIn g, 200, .inl (upd mz (aN V) (nI h)))), (d3, .inl (cIn g, 200, .inl mg)), (d4, .inl (cIn g, 200, .inl mr))]) ∧ va_S A s.heap H1 locs1 ∧ lv_has ls1 3 [(0, .ref d), (1, .int (nI (aN V))), (2, .int (nI x))]) ?_ 0 ⟨Nat.zero_le _, ⟨mb, fun i hi => absurd hi (Nat.not_lt_zero _), fun _ _ => rfl, hP, hD⟩, hS, lv_sub hl [2, 1, 0] rfl⟩
          rintro x H locs ls ⟨hxh, ⟨f1, hf1, hf2, hP, hD⟩, hS, hl⟩ ih
          refine lv_iload_n hx hb d_Model_known_46 rfl (lv_at hl 2 rfl) ?_
          refine lv_aload_n hx hb d_Model_known_47 rfl (lv_at hl 0 rfl) ?_
          refine va_get (D := g.1) (ci := 3) (v := .int (nI h)) (C := R_Model) (T := F_Model) (N := 7) hx hb hc i_Model hown hK hP 0 rfl rfl 1 (by decide) (hc _ kf_Model_25) (fun _ h9 => h9) rfl d_Model_known_48 ?_
          refine lv_icmp_ge (tgt := 77) hx hb d_Model_known_51 (by decide) (fun c4 => ?_) (fun c4 => ?_)
          · rw [nI_leI (by omega) (by omega)] at c4
            refine lv_aload_n hx hb d_Model_known_77 rfl (lv_at hl 0 rfl) ?_
            refine va_get (D := g.1) (ci := 3) (v := .ref d3) (C := R_Model) (T := F_Model) (N := 7) hx hb hc i_Model hown hK hP 0 rfl rfl 4 (by decide) (hc _ kf_Model_19) (fun _ h9 => h9) rfl d_Model_known_78 ?_
            refine lv_iload_n hx hb d_Model_known_81 rfl (lv_at hl 1 rfl) ?_
            refine lv_iconst (v := 0) hx hb d_Model_known_82 (by decide) ?_
            refine x_iast hx hb hK hP hD hS 4 rfl (k := (aN V)) (by omega) (by decide) d_Model_known_83 (fun H locs hP hD hS => ?_)
            have hP : va_P g.1 classes [(d, .inr (3, [.ref d0, .int (nI h), .ref d1, .ref d2, .ref d3, .ref d4, .int (nI (aN V))])), (d0, .inl (cIn g, 60, .inl mh)), (d1, .inl (cIn g, 12000, .inl f1)), (d2, .inl (cIn g, 200, .inl (upd mz (aN V) (nI h)))), (d3, .inl (cIn g, 200, .inl (upd mg (aN V) 0))), (d4, .inl (cIn g, 200, .inl mr))] H := hP
            have hD : va_D A [(d, .inr (3, [.ref d0, .int (nI h), .ref d1, .ref d2, .ref d3, .ref d4, .int (nI (aN V))])), (d0, .inl (cIn g, 60, .inl mh)), (d1, .inl (cIn g, 12000, .inl f1)), (d2, .inl (cIn g, 200, .inl (upd mz (aN V) (nI h)))), (d3, .inl (cIn g, 200, .inl (upd mg (aN V) 0))), (d4, .inl (cIn g, 200, .inl mr))] := hD
            refine lv_aload_n hx hb d_Model_known_84 rfl (lv_at hl 0 rfl) ?_
            refine va_get (D := g.1) (ci := 3) (v := .ref d4) (C := R_Model) (T := F_Model) (N := 7) hx hb hc i_Model hown hK hP 0 rfl rfl 5 (by decide) (hc _ kf_Model_22) (fun _ h9 => h9) rfl d_Model_known_85 ?_
            refine lv_iload_n hx hb d_Model_known_88 rfl (lv_at hl 1 rfl) ?_
            refine lv_iconst (v := 0) hx hb d_Model_known_89 (by decide) ?_
            refine x_iast hx hb hK hP hD hS 5 rfl (k := (aN V)) (by omega) (by decide) d_Model_known_90 (fun H locs hP hD hS => ?_)
            have hP : va_P g.1 classes [(d, .inr (3, [.ref d0, .int (nI h), .ref d1, .ref d2, .ref d3, .ref d4, .int (nI (aN V))])), (d0, .inl (cIn g, 60, .inl mh)), (d1, .inl (cIn g, 12000, .inl f1)), (d2, .inl (cIn g, 200, .inl (upd mz (aN V) (nI h)))), (d3, .inl (cIn g, 200, .inl (upd mg (aN V) 0))), (d4, .inl (cIn g, 200, .inl (upd mr (aN V) 0)))] H := hP
            have hD : va_D A [(d, .inr (3, [.ref d0, .int (nI h), .ref d1, .ref d2, .ref d3, .ref d4, .int (nI (aN V))])), (d0, .inl (cIn g, 60, .inl mh)), (d1, .inl (cIn g, 12000, .inl f1)), (d2, .inl (cIn g, 200, .inl (upd mz (aN V) (nI h)))), (d3, .inl (cIn g, 200, .inl (upd mg (aN V) 0))), (d4, .inl (cIn g, 200, .inl (upd mr (aN V) 0)))] := hD
            refine lv_aload_n hx hb d_Model_known_91 rfl (lv_at hl 0 rfl) ?_
            refine lv_dup hx hb d_Model_known_92 rfl ?_
            refine va_get (D := g.1) (ci := 3) (v := .int (nI (aN V))) (C := R_Model) (T := F_Model) (N := 7) hx hb hc i_Model hown hK hP 0 rfl rfl 6 (by decide) (hc _ kf_Model_31) (fun _ h9 => h9) rfl d_Model_known_93 ?_
            refine lv_iconst (v := 1) hx hb d_Model_known_96 (by decide) ?_
            refine lv_iadd hx hb d_Model_known_97 ?_
            refine x_top (y := nI (aN V + 1)) (nI_1 _) ?_
            refine va_put (D := g.1) (ci := 3) (v := .int (nI (aN V + 1))) (ty := .int) (C := R_Model) (T := F_Model) (N := 7) hx hb hc i_Model t_Model t_Model_ok n_Model hown hK hP hD hS 0 rfl rfl 6 (by decide) (hc _ kf_Model_31) (fun _ h9 => h9) rfl (by decide +kernel) rfl rfl (Nat.le_of_ble_eq_true rfl) d_Model_known_98 (fun H locs hP hD hS => ?_)
            have hP : va_P g.1 classes [(d, .inr (3, [.ref d0, .int (nI h), .ref d1, .ref d2, .ref d3, .ref d4, .int (nI (aN V + 1))])), (d0, .inl (cIn g, 60, .inl mh)), (d1, .inl (cIn g, 12000, .inl f1)), (d2, .inl (cIn g, 200, .inl (upd mz (aN V) (nI h)))), (d3, .inl (cIn g, 200, .inl (upd mg (aN V) 0))), (d4, .inl (cIn g, 200, .inl (upd mr (aN V) 0)))] H := hP
            have hD : va_D A [(d, .inr (3, [.ref d0, .int (nI h), .ref d1, .ref d2, .ref d3, .ref d4, .int (nI (aN V + 1))])), (d0, .inl (cIn g, 60, .inl mh)), (d1, .inl (cIn g, 12000, .inl f1)), (d2, .inl (cIn g, 200, .inl (upd mz (aN V) (nI h)))), (d3, .inl (cIn g, 200, .inl (upd mg (aN V) 0))), (d4, .inl (cIn g, 200, .inl (upd mr (aN V) 0)))] := hD
            refine lv_aload_n hx hb d_Model_known_101 rfl (lv_at hl 0 rfl) ?_
            refine lv_iconst (v := 0) hx hb d_Model_known_102 (by decide) ?_
            refine va_put (D := g.1) (ci := 3) (v := .int 0) (ty := .int) (C := R_Model) (T := F_Model) (N := 7) hx hb hc i_Model t_Model t_Model_ok n_Model hown hK hP hD hS 0 rfl rfl 1 (by decide) (hc _ kf_Model_25) (fun _ h9 => h9) rfl (by decide +kernel) rfl rfl (Nat.le_of_ble_eq_true rfl) d_Model_known_103 (fun H locs hP hD hS => ?_)
            have hP : va_P g.1 classes [(d, .inr (3, [.ref d0, .int 0, .ref d1, .ref d2, .ref d3, .ref d4, .int (nI (aN V + 1))])), (d0, .inl (cIn g, 60, .inl mh)), (d1, .inl (cIn g, 12000, .inl f1)), (d2, .inl (cIn g, 200, .inl (upd mz (aN V) (nI h)))), (d3, .inl (cIn g, 200, .inl (upd mg (aN V) 0))), (d4, .inl (cIn g, 200, .inl (upd mr (aN V) 0)))] H := hP
            have hD : va_D A [(d, .inr (3, [.ref d0, .int 0, .ref d1, .ref d2, .ref d3, .ref d4, .int (nI (aN V + 1))])), (d0, .inl (cIn g, 60, .inl mh)), (d1, .inl (cIn g, 12000, .inl f1)), (d2, .inl (cIn g, 200, .inl (upd mz (aN V) (nI h)))), (d3, .inl (cIn g, 200, .inl (upd mg (aN V) 0))), (d4, .inl (cIn g, 200, .inl (upd mr (aN V) 0)))] := hD
            refine lv_iload_n hx hb d_Model_known_106 rfl (lv_at hl 1 rfl) ?_
            exact W.iret (v := nI (aN V)) hx hb hr (fun t9 ht9 hW9 => ⟨⟨_, (_, _, _, _, _), rfl, ⟨by show nI (aN V) = kR (kK V none); unfold kK; rw [if_neg c2]; rfl, knowT_inv hI c2 (fun k hk => (hV.2.1 k hk).2.1) (fun i hi => hf1 i (by omega)) hf2⟩, by rw [ht9]; exact hP, hD⟩, hS.F ht9⟩) hS.2.2 d_Model_known_107
          · rw [nI_leI (by omega) (by omega)] at c4
            refine lv_aload_n hx hb d_Model_known_54 rfl (lv_at hl 0 rfl) ?_
            refine va_get (D := g.1) (ci := 3) (v := .ref d1) (C := R_Model) (T := F_Model) (N := 7) hx hb hc i_Model hown hK hP 0 rfl rfl 2 (by decide) (hc _ kf_Model_13) (fun _ h9 => h9) rfl d_Model_known_55 ?_
            refine lv_bipush (v := 60) hx hb d_Model_known_58 (by decide) ?_
            refine lv_iload_n hx hb d_Model_known_60 rfl (lv_at hl 1 rfl) ?_
            refine lv_imul hx hb d_Model_known_61 ?_
            refine x_top (y := nI (60 * aN V)) (pk_mul 60 _) ?_
            refine lv_iload_n hx hb d_Model_known_62 rfl (lv_at hl 2 rfl) ?_
            refine lv_iadd hx hb d_Model_known_63 ?_
            refine x_top (y := nI (60 * aN V + x)) (nI_add _ _) ?_
            refine lv_aload_n hx hb d_Model_known_64 rfl (lv_at hl 0 rfl) ?_
            refine va_get (D := g.1) (ci := 3) (v := .ref d0) (C := R_Model) (T := F_Model) (N := 7) hx hb hc i_Model hown hK hP 0 rfl rfl 0 (by decide) (hc _ kf_Model_7) (fun _ h9 => h9) rfl d_Model_known_65 ?_
            refine lv_iload_n hx hb d_Model_known_68 rfl (lv_at hl 2 rfl) ?_
            refine x_iald hx hb hK hP 1 rfl (k := x) (by omega) (by decide) d_Model_known_69 ?_
            refine x_top (y := nI (nb x)) (hf x (by omega)) ?_
            refine x_iast hx hb hK hP hD hS 2 rfl (k := (60 * aN V + x)) (by omega) (by decide) d_Model_known_70 (fun H locs hP hD hS => ?_)
            have hP : va_P g.1 classes [(d, .inr (3, [.ref d0, .int (nI h), .ref d1, .ref d2, .ref d3, .ref d4, .int (nI (aN V))])), (d0, .inl (cIn g, 60, .inl mh)), (d1, .inl (cIn g, 12000, .inl (upd f1 (60 * aN V + x) (nI (nb x))))), (d2, .inl (cIn g, 200, .inl (upd mz (aN V) (nI h)))), (d3, .inl (cIn g, 200, .inl mg)), (d4, .inl (cIn g, 200, .inl mr))] H := hP
            have hD : va_D A [(d, .inr (3, [.ref d0, .int (nI h), .ref d1, .ref d2, .ref d3, .ref d4, .int (nI (aN V))])), (d0, .inl (cIn g, 60, .inl mh)), (d1, .inl (cIn g, 12000, .inl (upd f1 (60 * aN V + x) (nI (nb x))))), (d2, .inl (cIn g, 200, .inl (upd mz (aN V) (nI h)))), (d3, .inl (cIn g, 200, .inl mg)), (d4, .inl (cIn g, 200, .inl mr))] := hD
            refine lv_iinc (v := nI (x + 1)) (lv' := [(2, .int (nI (x + 1))), (0, .ref d), (1, .int (nI (aN V)))]) hx hb d_Model_known_71 hl (k := 2) rfl (nI_1 x) (by decide) rfl (fun ls hl => ?_)
            refine lv_goto (tgt := 46) hx hb d_Model_known_74 (by decide) ?_
            refine ih (x + 1) H locs ls ⟨by omega, ⟨_, fun i hi => ?_, fun y hy => ?_, hP, hD⟩, hS, lv_sub hl [1, 2, 0] rfl⟩ (by omega)
            · by_cases e1 : i = x
              · subst e1; exact pk_us
              · rw [pk_un (by omega)]; exact hf1 i (by omega)
            · rw [pk_un (by omega)]; exact hf2 y hy
      · have c2 : aN V = 200 := (nI_eq (a := aN V) (b := 200) (by omega) (by decide)).mp c2
        refine lv_bipush (v := (-2)) hx hb d_Model_known_19 (by decide) ?_
        refine lv_istore_n (lv' := [(1, .int (-2)), (0, .ref d)]) hx hb d_Model_known_21 rfl hl (by decide) rfl (fun ls hl => ?_)
        refine lv_goto (tgt := 101) hx hb d_Model_known_22 (by decide) ?_
        refine lv_aload_n hx hb d_Model_known_101 rfl (lv_at hl 1 rfl) ?_
        refine lv_iconst (v := 0) hx hb d_Model_known_102 (by decide) ?_
        refine va_put (D := g.1) (ci := 3) (v := .int 0) (ty := .int) (C := R_Model) (T := F_Model) (N := 7) hx hb hc i_Model t_Model t_Model_ok n_Model hown hK hP hD hS 0 rfl rfl 1 (by decide) (hc _ kf_Model_25) (fun _ h9 => h9) rfl (by decide +kernel) rfl rfl (Nat.le_of_ble_eq_true rfl) d_Model_known_103 (fun H locs hP hD hS => ?_)
        have hP : va_P g.1 classes [(d, .inr (3, [.ref d0, .int 0, .ref d1, .ref d2, .ref d3, .ref d4, .int (nI (aN V))])), (d0, .inl (cIn g, 60, .inl mh)), (d1, .inl (cIn g, 12000, .inl mb)), (d2, .inl (cIn g, 200, .inl mz)), (d3, .inl (cIn g, 200, .inl mg)), (d4, .inl (cIn g, 200, .inl mr))] H := hP
        have hD : va_D A [(d, .inr (3, [.ref d0, .int 0, .ref d1, .ref d2, .ref d3, .ref d4, .int (nI (aN V))])), (d0, .inl (cIn g, 60, .inl mh)), (d1, .inl (cIn g, 12000, .inl mb)), (d2, .inl (cIn g, 200, .inl mz)), (d3, .inl (cIn g, 200, .inl mg)), (d4, .inl (cIn g, 200, .inl mr))] := hD
        refine lv_iload_n hx hb d_Model_known_106 rfl (lv_at hl 0 rfl) ?_
        exact W.iret (v := (-2)) hx hb hr (fun t9 ht9 hW9 => ⟨⟨_, (mb, mz, mg, mr, nI (aN V)), rfl, ⟨by show -2 = kR (kK V none); unfold kK; rw [if_pos c2]; rfl, by show TInv (kA V h nb none) mb mz mg mr (nI (aN V)); unfold kA; rw [if_pos c2]; exact hI⟩, by rw [ht9]; exact hP, hD⟩, hS.F ht9⟩) hS.2.2 d_Model_known_107
  · obtain rfl : r0 = nI k := hw0
    have hk := hp.1
    refine lv_istore_n (lv' := [(1, .int (nI k)), (0, .ref d)]) hx hb d_Model_known_4 rfl hl (by decide) rfl (fun ls hl => ?_)
    refine lv_iload_n hx hb d_Model_known_5 rfl (lv_at hl 0 rfl) ?_
    refine lv_if_ge (tgt := 25) hx hb d_Model_known_6 (by decide) (fun c1 => ?_) (fun c1 => ?_)
    · refine lv_iload_n hx hb d_Model_known_25 rfl (lv_at hl 0 rfl) ?_
      refine lv_if_ge (tgt := 101) hx hb d_Model_known_26 (by decide) (fun c2 => ?_) (fun c2 => ?_)
      · refine lv_aload_n hx hb d_Model_known_101 rfl (lv_at hl 1 rfl) ?_
        refine lv_iconst (v := 0) hx hb d_Model_known_102 (by decide) ?_
        refine va_put (D := g.1) (ci := 3) (v := .int 0) (ty := .int) (C := R_Model) (T := F_Model) (N := 7) hx hb hc i_Model t_Model t_Model_ok n_Model hown hK hP hD hS 0 rfl rfl 1 (by decide) (hc _ kf_Model_25) (fun _ h9 => h9) rfl (by decide +kernel) rfl rfl (Nat.le_of_ble_eq_true rfl) d_Model_known_103 (fun H locs hP hD hS => ?_)
        have hP : va_P g.1 classes [(d, .inr (3, [.ref d0, .int 0, .ref d1, .ref d2, .ref d3, .ref d4, .int (nI (aN V))])), (d0, .inl (cIn g, 60, .inl mh)), (d1, .inl (cIn g, 12000, .inl mb)), (d2, .inl (cIn g, 200, .inl mz)), (d3, .inl (cIn g, 200, .inl mg)), (d4, .inl (cIn g, 200, .inl mr))] H := hP
        have hD : va_D A [(d, .inr (3, [.ref d0, .int 0, .ref d1, .ref d2, .ref d3, .ref d4, .int (nI (aN V))])), (d0, .inl (cIn g, 60, .inl mh)), (d1, .inl (cIn g, 12000, .inl mb)), (d2, .inl (cIn g, 200, .inl mz)), (d3, .inl (cIn g, 200, .inl mg)), (d4, .inl (cIn g, 200, .inl mr))] := hD
        refine lv_iload_n hx hb d_Model_known_106 rfl (lv_at hl 0 rfl) ?_
        exact W.iret (v := nI k) hx hb hr (fun t9 ht9 hW9 => ⟨⟨_, (mb, mz, mg, mr, nI (aN V)), rfl, ⟨rfl, hI⟩, by rw [ht9]; exact hP, hD⟩, hS.F ht9⟩) hS.2.2 d_Model_known_107
      · exact absurd (nI_pos' (by omega)) c2
    · exact absurd (nI_pos' (by omega)) c1
set_option maxHeartbeats 4000000 in
set_option maxRecDepth 100000 in
/-- give(), of the reference -/
theorem c_Model_give (l : Launch) (g : GT) (sz : Nat) (d d0 d1 d2 d3 d4 : Nat) (mh mb mz mg mr : Nat → Int32) (kv : Int32) (V : AS) (Bd h : Nat) (nb : Nat → Nat) (hV : AOk V Bd) (hBd : Bd < 2 ^ 30) (hH : HOk h nb) (hf : ∀ i, i < h → mh i = nI (nb i)) (hI : TInv V mb mz mg mr kv) (pl : Option Nat) (hp : PlIs V h nb pl) : Met l y_Model_give w_Model_give ({ frames := 2, cells := 0, slots := 0, locals := 46 } : Room) (PcW [.ref d] sz g [(d, .inr (3, [.ref d0, .int (nI h), .ref d1, .ref d2, .ref d3, .ref d4, .int kv])), (d0, .inl (cIn g, 60, .inl mh)), (d1, .inl (cIn g, 12000, .inl mb)), (d2, .inl (cIn g, 200, .inl mz)), (d3, .inl (cIn g, 200, .inl mg)), (d4, .inl (cIn g, 200, .inl mr))]) (va_Qi (fun (r : Int32) (u : (Nat → Int32) × (Nat → Int32) × (Nat → Int32) × (Nat → Int32) × Int32) => (r = if h = 0 then -3 else giveR V h nb pl) ∧ TInv (if h = 0 then V else giveA V h nb pl) u.1 u.2.1 u.2.2.1 u.2.2.2.1 u.2.2.2.2) (BW g (va_A [(d, .inr (3, [.ref d0, .int (nI h), .ref d1, .ref d2, .ref d3, .ref d4, .int kv])), (d0, .inl (cIn g, 60, .inl mh)), (d1, .inl (cIn g, 12000, .inl mb)), (d2, .inl (cIn g, 200, .inl mz)), (d3, .inl (cIn g, 200, .inl mg)), (d4, .inl (cIn g, 200, .inl mr))] sz) (fun u : (Nat → Int32) × (Nat → Int32) × (Nat → Int32) × (Nat → Int32) × Int32 => [(d, .inr (3, [.ref d0, .int 0, .ref d1, .ref d2, .ref d3, .ref d4, .int u.2.2.2.2])), (d0, .inl (cIn g, 60, .inl mh)), (d1, .inl (cIn g, 12000, .inl u.1)), (d2, .inl (cIn g, 200, .inl u.2.1)), (d3, .inl (cIn g, 200, .inl u.2.2.1)), (d4, .inl (cIn g, 200, .inl u.2.2.2.1))])) (va_A [(d, .inr (3, [.ref d0, .int (nI h), .ref d1, .ref d2, .ref d3, .ref d4, .int kv])), (d0, .inl (cIn g, 60, .inl mh)), (d1, .inl (cIn g, 12000, .inl mb)), (d2, .inl (cIn g, 200, .inl mz)), (d3, .inl (cIn g, 200, .inl mg)), (d4, .inl (cIn g, 200, .inl mr))] sz)) 0 0 (va_A [(d, .inr (3, [.ref d0, .int (nI h), .ref d1, .ref d2, .ref d3, .ref d4, .int kv])), (d0, .inl (cIn g, 60, .inl mh)), (d1, .inl (cIn g, 12000, .inl mb)), (d2, .inl (cIn g, 200, .inl mz)), (d3, .inl (cIn g, 200, .inl mg)), (d4, .inl (cIn g, 200, .inl mr))] sz) := by
  refine Met.ofW (cc := b_Model_give) (maxL := 2) (ret := (some .int)) (by decide) rfl ?_
  intro p e s m args below meth c s₁ B hml hv
  obtain ⟨rfl, hsz, hP, hK, hN, hD⟩ := hv
  have hx := B.exec
  have hb := B.bytes
  have hr := B.returns
  have hc : ∀ w ∈ cmn, w.before ([.ref d] : List Value).toArray s = true := fun w h => atoms_spec (ws := w_Model_give) B.pre w (List.mem_cons_of_mem _ h)
  have hown : s.vm.findClass R_Model = some m.cls := findClass_of_methodNamed B.named
  have hlocks := B.notSynchronized
  subst hsz
  have hD := hD.self (sz := s.heap.size)
  have hS : va_S (va_A [(d, .inr (3, [.ref d0, .int (nI h), .ref d1, .ref d2, .ref d3, .ref d4, .int kv])), (d0, .inl (cIn g, 60, .inl mh)), (d1, .inl (cIn g, 12000, .inl mb)), (d2, .inl (cIn g, 200, .inl mz)), (d3, .inl (cIn g, 200, .inl mg)), (d4, .inl (cIn g, 200, .inl mr))] s.heap.size) s.heap s.heap [] := va_S.rf
  have hA : ∀ q : Nat, s.heap.size ≤ q → va_A [(d, .inr (3, [.ref d0, .int (nI h), .ref d1, .ref d2, .ref d3, .ref d4, .int kv])), (d0, .inl (cIn g, 60, .inl mh)), (d1, .inl (cIn g, 12000, .inl mb)), (d2, .inl (cIn g, 200, .inl mz)), (d3, .inl (cIn g, 200, .inl mg)), (d4, .inl (cIn g, 200, .inl mr))] s.heap.size q := fun q h => Or.inr h
  generalize va_A [(d, .inr (3, [.ref d0, .int (nI h), .ref d1, .ref d2, .ref d3, .ref d4, .int kv])), (d0, .inl (cIn g, 60, .inl mh)), (d1, .inl (cIn g, 12000, .inl mb)), (d2, .inl (cIn g, 200, .inl mz)), (d3, .inl (cIn g, 200, .inl mg)), (d4, .inl (cIn g, 200, .inl mr))] s.heap.size = A at hD hS hA ⊢
  have hP : va_P g.1 classes [(d, .inr (3, [.ref d0, .int (nI h), .ref d1, .ref d2, .ref d3, .ref d4, .int kv])), (d0, .inl (cIn g, 60, .inl mh)), (d1, .inl (cIn g, 12000, .inl mb)), (d2, .inl (cIn g, 200, .inl mz)), (d3, .inl (cIn g, 200, .inl mg)), (d4, .inl (cIn g, 200, .inl mr))] s.heap := hP
  have hD : va_D A [(d, .inr (3, [.ref d0, .int (nI h), .ref d1, .ref d2, .ref d3, .ref d4, .int kv])), (d0, .inl (cIn g, 60, .inl mh)), (d1, .inl (cIn g, 12000, .inl mb)), (d2, .inl (cIn g, 200, .inl mz)), (d3, .inl (cIn g, 200, .inl mg)), (d4, .inl (cIn g, 200, .inl mr))] := hD
  have hl := lv_entry ([.ref d]) (n := 2) (Nat.le_of_ble_eq_true rfl)
  rw [lg_entry_eq]
  generalize (lg_sl ([.ref d]) ++ List.replicate (2 - (lg_sl ([.ref d])).length) Slot.unset).toArray = ls at hl ⊢
  have hl : lv_has ls 2 [(0, .ref d)] := hl
  have hn := hV.1
  have hh := hH.1
  refine lv_aload_n hx hb d_Model_give_0 rfl (lv_at hl 0 rfl) ?_
  refine va_get (D := g.1) (ci := 3) (v := .int (nI h)) (C := R_Model) (T := F_Model) (N := 7) hx hb hc i_Model hown hK hP 0 rfl rfl 1 (by decide) (hc _ kf_Model_25) (fun _ h9 => h9) rfl d_Model_give_1 ?_
  refine lv_if_ne (tgt := 10) hx hb d_Model_give_4 (by decide) (fun c1 => ?_) (fun c1 => ?_)
  · have c1 : ¬ h = 0 := fun z => c1 (by rw [z]; rfl)
    rw [if_neg c1, if_neg c1]
    refine lv_aload_n hx hb d_Model_give_10 rfl (lv_at hl 0 rfl) ?_
    refine x_cmi (wr := []) (x_runV (As := []) (rest := []) ⟨hx, hb, hml, hown, hc⟩ (c_Model_known l g _ d d0 d1 d2 d3 d4 mh mb mz mg mr kv V Bd h nb hV hBd hH hf hI pl hp) (cwV 0 hc (good_V km_Model_38 ki_Model_known ks_Model_known kn_Model kc_Model_known) rfl rfl rfl (by decide +kernel) ⟨Nat.le_of_ble_eq_true rfl, Nat.le_of_ble_eq_true rfl⟩) hP hD hK hN [0, 1, 2, 3, 4, 5] (by decide) rfl (va_recv hK hP (ci := 3) (q0 := 0) rfl rfl) rfl hl.1 rfl (Nat.le_of_ble_eq_true rfl) d_Model_give_11 ⟨Nat.le_of_ble_eq_true rfl, Nat.le_of_ble_eq_true rfl⟩) hP hD hS hA [0, 1, 2, 3, 4, 5] [] rfl rfl (by decide) (by decide) (fun r0 u H locs hw hP hD hS => ?_)
    obtain ⟨mb1, mz1, mg1, mr1, kv1⟩ := u
    have hP := hP.sub (ws' := [(d, .inr (3, [.ref d0, .int 0, .ref d1, .ref d2, .ref d3, .ref d4, .int kv1])), (d0, .inl (cIn g, 60, .inl mh)), (d1, .inl (cIn g, 12000, .inl mb1)), (d2, .inl (cIn g, 200, .inl mz1)), (d3, .inl (cIn g, 200, .inl mg1)), (d4, .inl (cIn g, 200, .inl mr1))]) [0, 1, 2, 3, 4, 5] rfl
    have hD := hD.sub (ws' := [(d, .inr (3, [.ref d0, .int 0, .ref d1, .ref d2, .ref d3, .ref d4, .int kv1])), (d0, .inl (cIn g, 60, .inl mh)), (d1, .inl (cIn g, 12000, .inl mb1)), (d2, .inl (cIn g, 200, .inl mz1)), (d3, .inl (cIn g, 200, .inl mg1)), (d4, .inl (cIn g, 200, .inl mr1))]) [0, 1, 2, 3, 4, 5] (by decide) rfl
    obtain ⟨er, hI1⟩ : r0 = kR (kK V pl) ∧ TInv (kA V h nb pl) mb1 mz1 mg1 mr1 kv1 := hw
    have hV2 := AOk_kA hV hH (by omega) hp
    cases ek : kK V pl
    · obtain rfl : r0 = -2 := by rw [er, ek]; rfl
      refine lv_istore_n (lv' := [(1, .int (-2)), (0, .ref d)]) hx hb d_Model_give_14 rfl hl (by decide) rfl (fun ls hl => ?_)
      refine lv_iload_n hx hb d_Model_give_15 rfl (lv_at hl 0 rfl) ?_
      refine lv_if_ge (tgt := 21) hx hb d_Model_give_16 (by decide) (fun c2 => ?_) (fun c2 => ?_)
      · exact absurd (show (0 : Int32) ≤ -2 from c2) (by decide)
      · refine lv_iload_n hx hb d_Model_give_19 rfl (lv_at hl 0 rfl) ?_
        exact W.iret (v := (-2)) hx hb hr (fun t9 ht9 hW9 => ⟨⟨_, (mb1, mz1, mg1, mr1, kv1), rfl, ⟨by show -2 = giveR V h nb pl; simp only [giveR, ek], by show TInv (giveA V h nb pl) mb1 mz1 mg1 mr1 kv1; simp only [giveA, ek]; exact hI1⟩, by rw [ht9]; exact hP, hD⟩, hS.F ht9⟩) hS.2.2 d_Model_give_20
    · rename_i k
      obtain rfl : r0 = nI k := by rw [er, ek]; rfl
      have hk1 := kK_lt hV hp ek
      have hV21 := hV2.1
      have eA : giveA V h nb pl = gA (kA V h nb pl) k := by simp only [giveA, ek]
      have eR : giveR V h nb pl = if aG (kA V h nb pl) k = 0 then nI k else -1 := by simp only [giveR, ek]
      rw [eA, eR]
      generalize kA V h nb pl = V1 at *
      obtain ⟨-, hg1, hr1, -⟩ := hI1.2 k hk1
      have hb1 := hV2.2.1 k hk1
      refine lv_istore_n (lv' := [(1, .int (nI k)), (0, .ref d)]) hx hb d_Model_give_14 rfl hl (by decide) rfl (fun ls hl => ?_)
      refine lv_iload_n hx hb d_Model_give_15 rfl (lv_at hl 0 rfl) ?_
      refine lv_if_ge (tgt := 21) hx hb d_Model_give_16 (by decide) (fun c2 => ?_) (fun c2 => ?_)
      · refine lv_aload_n hx hb d_Model_give_21 rfl (lv_at hl 1 rfl) ?_
        refine va_get (D := g.1) (ci := 3) (v := .ref d3) (C := R_Model) (T := F_Model) (N := 7) hx hb hc i_Model hown hK hP 0 rfl rfl 4 (by decide) (hc _ kf_Model_19) (fun _ h9 => h9) rfl d_Model_give_22 ?_
        refine lv_iload_n hx hb d_Model_give_25 rfl (lv_at hl 0 rfl) ?_
        refine lv_aload_n hx hb d_Model_give_26 rfl (lv_at hl 1 rfl) ?_
        refine va_get (D := g.1) (ci := 3) (v := .ref d3) (C := R_Model) (T := F_Model) (N := 7) hx hb hc i_Model hown hK hP 0 rfl rfl 4 (by decide) (hc _ kf_Model_19) (fun _ h9 => h9) rfl d_Model_give_27 ?_
        refine lv_iload_n hx hb d_Model_give_30 rfl (lv_at hl 0 rfl) ?_
        refine x_iald hx hb hK hP 4 rfl (k := k) (by omega) (by decide) d_Model_give_31 ?_
        refine x_top (y := nI (aG V1 k)) (hg1) ?_
        refine lv_iconst (v := 1) hx hb d_Model_give_32 (by decide) ?_
        refine lv_iadd hx hb d_Model_give_33 ?_
        refine x_top (y := nI (aG V1 k + 1)) (nI_1 _) ?_
        refine x_iast hx hb hK hP hD hS 4 rfl (k := k) (by omega) (by decide) d_Model_give_34 (fun H locs hP hD hS => ?_)
        have hP : va_P g.1 classes [(d, .inr (3, [.ref d0, .int 0, .ref d1, .ref d2, .ref d3, .ref d4, .int kv1])), (d0, .inl (cIn g, 60, .inl mh)), (d1, .inl (cIn g, 12000, .inl mb1)), (d2, .inl (cIn g, 200, .inl mz1)), (d3, .inl (cIn g, 200, .inl (upd mg1 k (nI (aG V1 k + 1))))), (d4, .inl (cIn g, 200, .inl mr1))] H := hP
        have hD : va_D A [(d, .inr (3, [.ref d0, .int 0, .ref d1, .ref d2, .ref d3, .ref d4, .int kv1])), (d0, .inl (cIn g, 60, .inl mh)), (d1, .inl (cIn g, 12000, .inl mb1)), (d2, .inl (cIn g, 200, .inl mz1)), (d3, .inl (cIn g, 200, .inl (upd mg1 k (nI (aG V1 k + 1))))), (d4, .inl (cIn g, 200, .inl mr1))] := hD
        refine lv_aload_n hx hb d_Model_give_35 rfl (lv_at hl 1 rfl) ?_
        refine va_get (D := g.1) (ci := 3) (v := .ref d3) (C := R_Model) (T := F_Model) (N := 7) hx hb hc i_Model hown hK hP 0 rfl rfl 4 (by decide) (hc _ kf_Model_19) (fun _ h9 => h9) rfl d_Model_give_36 ?_
        refine lv_iload_n hx hb d_Model_give_39 rfl (lv_at hl 0 rfl) ?_
        refine x_iald hx hb hK hP 4 rfl (k := k) (by omega) (by decide) d_Model_give_40 ?_
        refine x_top (y := nI (aG V1 k + 1)) (pk_us) ?_
        refine lv_iconst (v := 1) hx hb d_Model_give_41 (by decide) ?_
        refine lv_icmp_ne (tgt := 49) hx hb d_Model_give_42 (by decide) (fun c3 => ?_) (fun c3 => ?_)
        · have c3 : ¬ aG V1 k = 0 := fun z => c3 (by rw [z]; rfl)
          refine lv_iconst (v := (-1)) hx hb d_Model_give_49 (by decide) ?_
          exact W.iret (v := (-1)) hx hb hr (fun t9 ht9 hW9 => ⟨⟨_, (_, _, _, _, _), rfl, ⟨(if_neg c3).symm, giveT_inv hI1⟩, by rw [ht9]; exact hP, hD⟩, hS.F ht9⟩) hS.2.2 d_Model_give_50
        · have c3 : aG V1 k + 1 = 1 := (nI_eq (a := aG V1 k + 1) (b := 1) (by omega) (by decide)).mp c3
          refine lv_iload_n hx hb d_Model_give_45 rfl (lv_at hl 0 rfl) ?_
          refine lv_goto (tgt := 50) hx hb d_Model_give_46 (by decide) ?_
          exact W.iret (v := nI k) hx hb hr (fun t9 ht9 hW9 => ⟨⟨_, (_, _, _, _, _), rfl, ⟨(if_pos (by omega)).symm, giveT_inv hI1⟩, by rw [ht9]; exact hP, hD⟩, hS.F ht9⟩) hS.2.2 d_Model_give_50
      · exact absurd (nI_pos' (by omega)) c2
  · have c1 : h = 0 := (nI_eq (a := h) (b := 0) (by omega) (by decide)).mp c1
    subst c1
    refine lv_bipush (v := (-3)) hx hb d_Model_give_7 (by decide) ?_
    exact W.iret (v := (-3)) hx hb hr (fun t9 ht9 hW9 => ⟨⟨_, (mb, mz, mg, mr, kv), rfl, ⟨rfl, hI⟩, by rw [ht9]; exact hP, hD⟩, hS.F ht9⟩) hS.2.2 d_Model_give_9
set_option maxHeartbeats 4000000 in
set_option maxRecDepth 100000 in
/-- refer(), of the reference -/
theorem c_Model_refer (l : Launch) (g : GT) (sz : Nat) (d d0 d1 d2 d3 d4 : Nat) (mh mb mz mg mr : Nat → Int32) (kv : Int32) (V : AS) (Bd h : Nat) (nb : Nat → Nat) (hV : AOk V Bd) (hBd : Bd < 2 ^ 30) (hH : HOk h nb) (hf : ∀ i, i < h → mh i = nI (nb i)) (hI : TInv V mb mz mg mr kv) (pl : Option Nat) (hp : PlIs V h nb pl) : Met l y_Model_refer w_Model_refer ({ frames := 2, cells := 0, slots := 0, locals := 46 } : Room) (PcW [.ref d] sz g [(d, .inr (3, [.ref d0, .int (nI h), .ref d1, .ref d2, .ref d3, .ref d4, .int kv])), (d0, .inl (cIn g, 60, .inl mh)), (d1, .inl (cIn g, 12000, .inl mb)), (d2, .inl (cIn g, 200, .inl mz)), (d3, .inl (cIn g, 200, .inl mg)), (d4, .inl (cIn g, 200, .inl mr))]) (va_Qi (fun (r : Int32) (u : (Nat → Int32) × (Nat → Int32) × (Nat → Int32) × (Nat → Int32) × Int32) => (r = if h = 0 then -3 else kR (kK V pl)) ∧ TInv (if h = 0 then V else referA V h nb pl) u.1 u.2.1 u.2.2.1 u.2.2.2.1 u.2.2.2.2) (BW g (va_A [(d, .inr (3, [.ref d0, .int (nI h), .ref d1, .ref d2, .ref d3, .ref d4, .int kv])), (d0, .inl (cIn g, 60, .inl mh)), (d1, .inl (cIn g, 12000, .inl mb)), (d2, .inl (cIn g, 200, .inl mz)), (d3, .inl (cIn g, 200, .inl mg)), (d4, .inl (cIn g, 200, .inl mr))] sz) (fun u : (Nat → Int32) × (Nat → Int32) × (Nat → Int32) × (Nat → Int32) × Int32 => [(d, .inr (3, [.ref d0, .int 0, .ref d1, .ref d2, .ref d3, .ref d4, .int u.2.2.2.2])), (d0, .inl (cIn g, 60, .inl mh)), (d1, .inl (cIn g, 12000, .inl u.1)), (d2, .inl (cIn g, 200, .inl u.2.1)), (d3, .inl (cIn g, 200, .inl u.2.2.1)), (d4, .inl (cIn g, 200, .inl u.2.2.2.1))])) (va_A [(d, .inr (3, [.ref d0, .int (nI h), .ref d1, .ref d2, .ref d3, .ref d4, .int kv])), (d0, .inl (cIn g, 60, .inl mh)), (d1, .inl (cIn g, 12000, .inl mb)), (d2, .inl (cIn g, 200, .inl mz)), (d3, .inl (cIn g, 200, .inl mg)), (d4, .inl (cIn g, 200, .inl mr))] sz)) 0 0 (va_A [(d, .inr (3, [.ref d0, .int (nI h), .ref d1, .ref d2, .ref d3, .ref d4, .int kv])), (d0, .inl (cIn g, 60, .inl mh)), (d1, .inl (cIn g, 12000, .inl mb)), (d2, .inl (cIn g, 200, .inl mz)), (d3, .inl (cIn g, 200, .inl mg)), (d4, .inl (cIn g, 200, .inl mr))] sz) := by
  refine Met.ofW (cc := b_Model_refer) (maxL := 2) (ret := (some .int)) (by decide) rfl ?_
  intro p e s m args below meth c s₁ B hml hv
  obtain ⟨rfl, hsz, hP, hK, hN, hD⟩ := hv
  have hx := B.exec
  have hb := B.bytes
  have hr := B.returns
  have hc : ∀ w ∈ cmn, w.before ([.ref d] : List Value).toArray s = true := fun w h => atoms_spec (ws := w_Model_refer) B.pre w (List.mem_cons_of_mem _ h)
  have hown : s.vm.findClass R_Model = some m.cls := findClass_of_methodNamed B.named
  have hlocks := B.notSynchronized
  subst hsz
  have hD := hD.self (sz := s.heap.size)
  have hS : va_S (va_A [(d, .inr (3, [.ref d0, .int (nI h), .ref d1, .ref d2, .ref d3, .ref d4, .int kv])), (d0, .inl (cIn g, 60, .inl mh)), (d1, .inl (cIn g, 12000, .inl mb)), (d2, .inl (cIn g, 200, .inl mz)), (d3, .inl (cIn g, 200, .inl mg)), (d4, .inl (cIn g, 200, .inl mr))] s.heap.size) s.heap s.heap [] := va_S.rf
  have hA : ∀ q : Nat, s.heap.size ≤ q → va_A [(d, .inr (3, [.ref d0, .int (nI h), .ref d1, .ref d2, .ref d3, .ref d4, .int kv])), (d0, .inl (cIn g, 60, .inl mh)), (d1, .inl (cIn g, 12000, .inl mb)), (d2, .inl (cIn g, 200, .inl mz)), (d3, .inl (cIn g, 200, .inl mg)), (d4, .inl (cIn g, 200, .inl mr))] s.heap.size q := fun q h => Or.inr h
  generalize va_A [(d, .inr (3, [.ref d0, .int (nI h), .ref d1, .ref d2, .ref d3, .ref d4, .int kv])), (d0, .inl (cIn g, 60, .inl mh)), (d1, .inl (cIn g, 12000, .inl mb)), (d2, .inl (cIn g, 200, .inl mz)), (d3, .inl (cIn g, 200, .inl mg)), (d4, .inl (cIn g, 200, .inl mr))] s.heap.size = A at hD hS hA ⊢
  have hP : va_P g.1 classes [(d, .inr (3, [.ref d0, .int (nI h), .ref d1, .ref d2, .ref d3, .ref d4, .int kv])), (d0, .inl (cIn g, 60, .inl mh)), (d1, .inl (cIn g, 12000, .inl mb)), (d2, .inl (cIn g, 200, .inl mz)), (d3, .inl (cIn g, 200, .inl mg)), (d4, .inl (cIn g, 200, .inl mr))] s.heap := hP
  have hD : va_D A [(d, .inr (3, [.ref d0, .int (nI h), .ref d1, .ref d2, .ref d3, .ref d4, .int kv])), (d0, .inl (cIn g, 60, .inl mh)), (d1, .inl (cIn g, 12000, .inl mb)), (d2, .inl (cIn g, 200, .inl mz)), (d3, .inl (cIn g, 200, .inl mg)), (d4, .inl (cIn g, 200, .inl mr))] := hD
  have hl := lv_entry ([.ref d]) (n := 2) (Nat.le_of_ble_eq_true rfl)
  rw [lg_entry_eq]
  generalize (lg_sl ([.ref d]) ++ List.replicate (2 - (lg_sl ([.ref d])).length) Slot.unset).toArray = ls at hl ⊢
  have hl : lv_has ls 2 [(0, .ref d)] := hl
  have hn := hV.1
  have hh := hH.1
  refine lv_aload_n hx hb d_Model_refer_0 rfl (lv_at hl 0 rfl) ?_
  refine va_get (D := g.1) (ci := 3) (v := .int (nI h)) (C := R_Model) (T := F_Model) (N := 7) hx hb hc i_Model hown hK hP 0 rfl rfl 1 (by decide) (hc _ kf_Model_25) (fun _ h9 => h9) rfl d_Model_refer_1 ?_
  refine lv_if_ne (tgt := 10) hx hb d_Model_refer_4 (by decide) (fun c1 => ?_) (fun c1 => ?_)
  · have c1 : ¬ h = 0 := fun z => c1 (by rw [z]; rfl)
    rw [if_neg c1, if_neg c1]
    refine lv_aload_n hx hb d_Model_refer_10 rfl (lv_at hl 0 rfl) ?_
    refine x_cmi (wr := []) (x_runV (As := []) (rest := []) ⟨hx, hb, hml, hown, hc⟩ (c_Model_known l g _ d d0 d1 d2 d3 d4 mh mb mz mg mr kv V Bd h nb hV hBd hH hf hI pl hp) (cwV 0 hc (good_V km_Model_38 ki_Model_known ks_Model_known kn_Model kc_Model_known) rfl rfl rfl (by decide +kernel) ⟨Nat.le_of_ble_eq_true rfl, Nat.le_of_ble_eq_true rfl⟩) hP hD hK hN [0, 1, 2, 3, 4, 5] (by decide) rfl (va_recv hK hP (ci := 3) (q0 := 0) rfl rfl) rfl hl.1 rfl (Nat.le_of_ble_eq_true rfl) d_Model_refer_11 ⟨Nat.le_of_ble_eq_true rfl, Nat.le_of_ble_eq_true rfl⟩) hP hD hS hA [0, 1, 2, 3, 4, 5] [] rfl rfl (by decide) (by decide) (fun r0 u H locs hw hP hD hS => ?_)
    obtain ⟨mb1, mz1, mg1, mr1, kv1⟩ := u
    have hP := hP.sub (ws' := [(d, .inr (3, [.ref d0, .int 0, .ref d1, .ref d2, .ref d3, .ref d4, .int kv1])), (d0, .inl (cIn g, 60, .inl mh)), (d1, .inl (cIn g, 12000, .inl mb1)), (d2, .inl (cIn g, 200, .inl mz1)), (d3, .inl (cIn g, 200, .inl mg1)), (d4, .inl (cIn g, 200, .inl mr1))]) [0, 1, 2, 3, 4, 5] rfl
    have hD := hD.sub (ws' := [(d, .inr (3, [.ref d0, .int 0, .ref d1, .ref d2, .ref d3, .ref d4, .int kv1])), (d0, .inl (cIn g, 60, .inl mh)), (d1, .inl (cIn g, 12000, .inl mb1)), (d2, .inl (cIn g, 200, .inl mz1)), (d3, .inl (cIn g, 200, .inl mg1)), (d4, .inl (cIn g, 200, .inl mr1))]) [0, 1, 2, 3, 4, 5] (by decide) rfl
    obtain ⟨er, hI1⟩ : r0 = kR (kK V pl) ∧ TInv (kA V h nb pl) mb1 mz1 mg1 mr1 kv1 := hw
    have hV2 := AOk_kA hV hH (by omega) hp
    cases ek : kK V pl
    · obtain rfl : r0 = -2 := by rw [er, ek]; rfl
      refine lv_istore_n (lv' := [(1, .int (-2)), (0, .ref d)]) hx hb d_Model_refer_14 rfl hl (by decide) rfl (fun ls hl => ?_)
      refine lv_iload_n hx hb d_Model_refer_15 rfl (lv_at hl 0 rfl) ?_
      refine lv_if_lt (tgt := 33) hx hb d_Model_refer_16 (by decide) (fun c2 => ?_) (fun c2 => ?_)
      · refine lv_iload_n hx hb d_Model_refer_33 rfl (lv_at hl 0 rfl) ?_
        exact W.iret (v := (-2)) hx hb hr (fun t9 ht9 hW9 => ⟨⟨_, (mb1, mz1, mg1, mr1, kv1), rfl, ⟨rfl, by show TInv (referA V h nb pl) mb1 mz1 mg1 mr1 kv1; simp only [referA, ek]; exact hI1⟩, by rw [ht9]; exact hP, hD⟩, hS.F ht9⟩) hS.2.2 d_Model_refer_34
      · exact absurd (show (-2 : Int32) < 0 by decide) c2
    · rename_i k
      obtain rfl : r0 = nI k := by rw [er, ek]; rfl
      have hk1 := kK_lt hV hp ek
      have hV21 := hV2.1
      have eA : referA V h nb pl = rA (kA V h nb pl) k := by simp only [referA, ek]
      rw [eA]
      generalize kA V h nb pl = V1 at *
      obtain ⟨-, hg1, hr1, -⟩ := hI1.2 k hk1
      have hb1 := hV2.2.1 k hk1
      refine lv_istore_n (lv' := [(1, .int (nI k)), (0, .ref d)]) hx hb d_Model_refer_14 rfl hl (by decide) rfl (fun ls hl => ?_)
      refine lv_iload_n hx hb d_Model_refer_15 rfl (lv_at hl 0 rfl) ?_
      refine lv_if_lt (tgt := 33) hx hb d_Model_refer_16 (by decide) (fun c2 => ?_) (fun c2 => ?_)
      · exact absurd c2 (nI_pos (by omega))
      · refine lv_aload_n hx hb d_Model_refer_19 rfl (lv_at hl 1 rfl) ?_
        refine va_get (D := g.1) (ci := 3) (v := .ref d4) (C := R_Model) (T := F_Model) (N := 7) hx hb hc i_Model hown hK hP 0 rfl rfl 5 (by decide) (hc _ kf_Model_22) (fun _ h9 => h9) rfl d_Model_refer_20 ?_
        refine lv_iload_n hx hb d_Model_refer_23 rfl (lv_at hl 0 rfl) ?_
        refine lv_aload_n hx hb d_Model_refer_24 rfl (lv_at hl 1 rfl) ?_
        refine va_get (D := g.1) (ci := 3) (v := .ref d4) (C := R_Model) (T := F_Model) (N := 7) hx hb hc i_Model hown hK hP 0 rfl rfl 5 (by decide) (hc _ kf_Model_22) (fun _ h9 => h9) rfl d_Model_refer_25 ?_
        refine lv_iload_n hx hb d_Model_refer_28 rfl (lv_at hl 0 rfl) ?_
        refine x_iald hx hb hK hP 5 rfl (k := k) (by omega) (by decide) d_Model_refer_29 ?_
        refine x_top (y := nI (aR V1 k)) (hr1) ?_
        refine lv_iconst (v := 1) hx hb d_Model_refer_30 (by decide) ?_
        refine lv_iadd hx hb d_Model_refer_31 ?_
        refine x_top (y := nI (aR V1 k + 1)) (nI_1 _) ?_
        refine x_iast hx hb hK hP hD hS 5 rfl (k := k) (by omega) (by decide) d_Model_refer_32 (fun H locs hP hD hS => ?_)
        have hP : va_P g.1 classes [(d, .inr (3, [.ref d0, .int 0, .ref d1, .ref d2, .ref d3, .ref d4, .int kv1])), (d0, .inl (cIn g, 60, .inl mh)), (d1, .inl (cIn g, 12000, .inl mb1)), (d2, .inl (cIn g, 200, .inl mz1)), (d3, .inl (cIn g, 200, .inl mg1)), (d4, .inl (cIn g, 200, .inl (upd mr1 k (nI (aR V1 k + 1)))))] H := hP
        have hD : va_D A [(d, .inr (3, [.ref d0, .int 0, .ref d1, .ref d2, .ref d3, .ref d4, .int kv1])), (d0, .inl (cIn g, 60, .inl mh)), (d1, .inl (cIn g, 12000, .inl mb1)), (d2, .inl (cIn g, 200, .inl mz1)), (d3, .inl (cIn g, 200, .inl mg1)), (d4, .inl (cIn g, 200, .inl (upd mr1 k (nI (aR V1 k + 1)))))] := hD
        refine lv_iload_n hx hb d_Model_refer_33 rfl (lv_at hl 0 rfl) ?_
        exact W.iret (v := nI k) hx hb hr (fun t9 ht9 hW9 => ⟨⟨_, (_, _, _, _, _), rfl, ⟨rfl, referT_inv hI1⟩, by rw [ht9]; exact hP, hD⟩, hS.F ht9⟩) hS.2.2 d_Model_refer_34
  · have c1 : h = 0 := (nI_eq (a := h) (b := 0) (by omega) (by decide)).mp c1
    subst c1
    refine lv_bipush (v := (-3)) hx hb d_Model_refer_7 (by decide) ?_
    exact W.iret (v := (-3)) hx hb hr (fun t9 ht9 hW9 => ⟨⟨_, (mb, mz, mg, mr, kv), rfl, ⟨rfl, hI⟩, by rw [ht9]; exact hP, hD⟩, hS.F ht9⟩) hS.2.2 d_Model_refer_9
set_option maxHeartbeats 4000000 in
set_option maxRecDepth 100000 in
/-- find(), of the reference -/
theorem c_Model_find (l : Launch) (g : GT) (sz : Nat) (d d0 d1 d2 d3 d4 : Nat) (mh mb mz mg mr : Nat → Int32) (kv : Int32) (V : AS) (Bd h : Nat) (nb : Nat → Nat) (hV : AOk V Bd) (hBd : Bd < 2 ^ 30) (hH : HOk h nb) (hf : ∀ i, i < h → mh i = nI (nb i)) (hI : TInv V mb mz mg mr kv) (pl : Option Nat) (hp : PlIs V h nb pl) : Met l y_Model_find w_Model_find ({ frames := 1, cells := 0, slots := 0, locals := 24 } : Room) (PcW [.ref d] sz g [(d, .inr (3, [.ref d0, .int (nI h), .ref d1, .ref d2, .ref d3, .ref d4, .int kv])), (d0, .inl (cIn g, 60, .inl mh)), (d1, .inl (cIn g, 12000, .inl mb)), (d2, .inl (cIn g, 200, .inl mz))]) (va_Qi (fun (r : Int32) (_ : Unit) => r = if h = 0 then -1 else fR pl) BR (va_A [] sz)) 0 0 (va_A [] sz) := by
  refine Met.ofW (cc := b_Model_find) (maxL := 1) (ret := (some .int)) (by decide) rfl ?_
  intro p e s m args below meth c s₁ B hml hv
  obtain ⟨rfl, hsz, hP, hK, hN, hD⟩ := hv
  have hx := B.exec
  have hb := B.bytes
  have hr := B.returns
  have hc : ∀ w ∈ cmn, w.before ([.ref d] : List Value).toArray s = true := fun w h => atoms_spec (ws := w_Model_find) B.pre w (List.mem_cons_of_mem _ h)
  have hown : s.vm.findClass R_Model = some m.cls := findClass_of_methodNamed B.named
  have hlocks := B.notSynchronized
  subst hsz
  have hS : va_S (va_A [] s.heap.size) s.heap s.heap [] := va_S.rf
  have hA : ∀ q : Nat, s.heap.size ≤ q → va_A [] s.heap.size q := fun q h => Or.inr h
  generalize va_A [] s.heap.size = A at hS hA ⊢
  have hP : va_P g.1 classes [(d, .inr (3, [.ref d0, .int (nI h), .ref d1, .ref d2, .ref d3, .ref d4, .int kv])), (d0, .inl (cIn g, 60, .inl mh)), (d1, .inl (cIn g, 12000, .inl mb)), (d2, .inl (cIn g, 200, .inl mz))] s.heap := hP
  have hl := lv_entry ([.ref d]) (n := 1) (Nat.le_of_ble_eq_true rfl)
  rw [lg_entry_eq]
  generalize (lg_sl ([.ref d]) ++ List.replicate (1 - (lg_sl ([.ref d])).length) Slot.unset).toArray = ls at hl ⊢
  have hl : lv_has ls 1 [(0, .ref d)] := hl
  have hh := hH.1
  have ekv := hI.1
  subst ekv
  refine lv_aload_n hx hb d_Model_find_0 rfl (lv_at hl 0 rfl) ?_
  refine va_get (D := g.1) (ci := 3) (v := .int (nI h)) (C := R_Model) (T := F_Model) (N := 7) hx hb hc i_Model hown hK hP 0 rfl rfl 1 (by decide) (hc _ kf_Model_25) (fun _ h9 => h9) rfl d_Model_find_1 ?_
  refine lv_if_ne (tgt := 11) hx hb d_Model_find_4 (by decide) (fun c1 => ?_) (fun c1 => ?_)
  · have c1 : ¬ h = 0 := fun z => c1 (by rw [z]; rfl)
    rw [if_neg c1]
    refine lv_aload_n hx hb d_Model_find_11 rfl (lv_at hl 0 rfl) ?_
    refine x_cri (x_runV (As := []) (rest := []) ⟨hx, hb, hml, hown, hc⟩ (c_Model_place l g _ d d0 d1 d2 d3 d4 mh mb mz mg mr V Bd h nb hV hBd hH hf hI pl hp) (cwV 0 hc (good_V km_Model_34 ki_Model_place ks_Model_place kn_Model kc_Model_place) rfl rfl rfl (by decide +kernel) ⟨Nat.le_of_ble_eq_true rfl, Nat.le_of_ble_eq_true rfl⟩) hP hD hK hN [0, 1, 2, 3] (by decide) rfl (va_recv hK hP (ci := 3) (q0 := 0) rfl rfl) rfl hl.1 rfl (Nat.le_of_ble_eq_true rfl) d_Model_find_12 ⟨Nat.le_of_ble_eq_true rfl, Nat.le_of_ble_eq_true rfl⟩) hP hS hA (fun r0 H locs hw hP hS => ?_)
    exact W.iret (v := r0) hx hb hr (fun t9 ht9 hW9 => ⟨⟨_, (), rfl, hw, trivial⟩, hS.F ht9⟩) hS.2.2 d_Model_find_15
  · have c1 : h = 0 := (nI_eq (a := h) (b := 0) (by omega) (by decide)).mp c1
    rw [if_pos c1]
    refine lv_iconst (v := (-1)) hx hb d_Model_find_7 (by decide) ?_
    refine lv_goto (tgt := 15) hx hb d_Model_find_8 (by decide) ?_
    exact W.iret (v := (-1)) hx hb hr (fun t9 ht9 hW9 => ⟨⟨_, (), rfl, rfl, trivial⟩, hS.F ht9⟩) hS.2.2 d_Model_find_15
set_option maxHeartbeats 4000000 in
set_option maxRecDepth 100000 in
/-- isMissing(k) -/
theorem c_Model_isMissing (l : Launch) (g : GT) (sz : Nat) (d d0 d1 d2 d3 d4 : Nat) (mb mz mg mr : Nat → Int32) (iv kv : Int32) (V : AS) (Bd : Nat) (hV : AOk V Bd) (hBd : Bd < 2 ^ 30) (hI : TInv V mb mz mg mr kv) (k : Nat) (hk : k < aN V) : Met l y_Model_isMissing w_Model_isMissing ({ frames := 0, cells := 0, slots := 0, locals := 0 } : Room) (PcW [.ref d, .int (nI k)] sz g [(d, .inr (3, [.ref d0, .int iv, .ref d1, .ref d2, .ref d3, .ref d4, .int kv])), (d3, .inl (cIn g, 200, .inl mg)), (d4, .inl (cIn g, 200, .inl mr))]) (va_Qi (fun (r : Int32) (_ : Unit) => YN r (mis V k = true)) BR (va_A [] sz)) 0 0 (va_A [] sz) := by
  refine Met.ofW (cc := b_Model_isMissing) (maxL := 2) (ret := (some .boolean)) (by decide) rfl ?_
  intro p e s m args below meth c s₁ B hml hv
  obtain ⟨rfl, hsz, hP, hK, hN, hD⟩ := hv
  have hx := B.exec
  have hb := B.bytes
  have hr := B.returns
  have hc : ∀ w ∈ cmn, w.before ([.ref d, .int (nI k)] : List Value).toArray s = true := fun w h => atoms_spec (ws := w_Model_isMissing) B.pre w (List.mem_cons_of_mem _ h)
  have hown : s.vm.findClass R_Model = some m.cls := findClass_of_methodNamed B.named
  have hlocks := B.notSynchronized
  subst hsz
  have hS : va_S (va_A [] s.heap.size) s.heap s.heap [] := va_S.rf
  have hA : ∀ q : Nat, s.heap.size ≤ q → va_A [] s.heap.size q := fun q h => Or.inr h
  generalize va_A [] s.heap.size = A at hS hA ⊢
  have hP : va_P g.1 classes [(d, .inr (3, [.ref d0, .int iv, .ref d1, .ref d2, .ref d3, .ref d4, .int kv])), (d3, .inl (cIn g, 200, .inl mg)), (d4, .inl (cIn g, 200, .inl mr))] s.heap := hP
  have hl := lv_entry ([.ref d, .int (nI k)]) (n := 2) (Nat.le_of_ble_eq_true rfl)
  rw [lg_entry_eq]
  generalize (lg_sl ([.ref d, .int (nI k)]) ++ List.replicate (2 - (lg_sl ([.ref d, .int (nI k)])).length) Slot.unset).toArray = ls at hl ⊢
  have hl : lv_has ls 2 [(0, .ref d), (1, .int (nI k))] := hl
  have hn := hV.1
  obtain ⟨-, eg, er, -⟩ := hI.2 k hk
  have hb1 := hV.2.1 k hk
  refine lv_aload_n hx hb d_Model_isMissing_0 rfl (lv_at hl 0 rfl) ?_
  refine va_get (D := g.1) (ci := 3) (v := .ref d4) (C := R_Model) (T := F_Model) (N := 7) hx hb hc i_Model hown hK hP 0 rfl rfl 5 (by decide) (hc _ kf_Model_22) (fun _ h9 => h9) rfl d_Model_isMissing_1 ?_
  refine lv_iload_n hx hb d_Model_isMissing_4 rfl (lv_at hl 1 rfl) ?_
  refine x_iald hx hb hK hP 2 rfl (k := k) (by omega) (by decide) d_Model_isMissing_5 ?_
  refine x_top (y := nI (aR V k)) (er) ?_
  refine lv_if_le (tgt := 22) hx hb d_Model_isMissing_6 (by decide) (fun c1 => ?_) (fun c1 => ?_)
  · have c1 := (nI_leI (a := aR V k) (b := 0) (by omega) (by decide)).mp c1
    refine lv_iconst (v := 0) hx hb d_Model_isMissing_22 (by decide) ?_
    exact W.zret (v := 0) hx hb hr (rfl) (fun t9 ht9 hW9 => ⟨⟨_, (), rfl, Or.inr ⟨rfl, fun q => by have := (of_decide_eq_true q).2; omega⟩, trivial⟩, hS.F ht9⟩) hS.2.2 d_Model_isMissing_23
  · have c1 : ¬ aR V k ≤ 0 := fun z => c1 ((nI_leI (a := aR V k) (b := 0) (by omega) (by decide)).mpr z)
    refine lv_aload_n hx hb d_Model_isMissing_9 rfl (lv_at hl 0 rfl) ?_
    refine va_get (D := g.1) (ci := 3) (v := .ref d3) (C := R_Model) (T := F_Model) (N := 7) hx hb hc i_Model hown hK hP 0 rfl rfl 4 (by decide) (hc _ kf_Model_19) (fun _ h9 => h9) rfl d_Model_isMissing_10 ?_
    refine lv_iload_n hx hb d_Model_isMissing_13 rfl (lv_at hl 1 rfl) ?_
    refine x_iald hx hb hK hP 1 rfl (k := k) (by omega) (by decide) d_Model_isMissing_14 ?_
    refine x_top (y := nI (aG V k)) (eg) ?_
    refine lv_if_ne (tgt := 22) hx hb d_Model_isMissing_15 (by decide) (fun c2 => ?_) (fun c2 => ?_)
    · have c2 : ¬ aG V k = 0 := fun z => c2 (by rw [z]; rfl)
      refine lv_iconst (v := 0) hx hb d_Model_isMissing_22 (by decide) ?_
      exact W.zret (v := 0) hx hb hr (rfl) (fun t9 ht9 hW9 => ⟨⟨_, (), rfl, Or.inr ⟨rfl, fun q => c2 (of_decide_eq_true q).1⟩, trivial⟩, hS.F ht9⟩) hS.2.2 d_Model_isMissing_23
    · have c2 := (nI_eq (a := aG V k) (b := 0) (by omega) (by decide)).mp c2
      refine lv_iconst (v := 1) hx hb d_Model_isMissing_18 (by decide) ?_
      refine lv_goto (tgt := 23) hx hb d_Model_isMissing_19 (by decide) ?_
      exact W.zret (v := 1) hx hb hr (rfl) (fun t9 ht9 hW9 => ⟨⟨_, (), rfl, Or.inl ⟨rfl, decide_eq_true ⟨c2, by omega⟩⟩, trivial⟩, hS.F ht9⟩) hS.2.2 d_Model_isMissing_23
set_option maxHeartbeats 4000000 in
set_option maxRecDepth 100000 in
/-- missingFrom(c), of the reference -/
theorem c_Model_missingFrom (l : Launch) (g : GT) (sz : Nat) (d d0 d1 d2 d3 d4 : Nat) (mb mz mg mr : Nat → Int32) (iv kv : Int32) (V : AS) (Bd : Nat) (hV : AOk V Bd) (hBd : Bd < 2 ^ 30) (hI : TInv V mb mz mg mr kv) (c0 : Nat) (hc0 : c0 ≤ aN V) : Met l y_Model_missingFrom w_Model_missingFrom ({ frames := 1, cells := 0, slots := 0, locals := 21 } : Room) (PcW [.ref d, .int (nI c0)] sz g [(d, .inr (3, [.ref d0, .int iv, .ref d1, .ref d2, .ref d3, .ref d4, .int kv])), (d3, .inl (cIn g, 200, .inl mg)), (d4, .inl (cIn g, 200, .inl mr))]) (va_Qi (fun (r : Int32) (_ : Unit) => r = mff (mis V) c0 (aN V - c0)) BR (va_A [] sz)) 0 0 (va_A [] sz) := by
  refine Met.ofW (cc := b_Model_missingFrom) (maxL := 4) (ret := (some .int)) (by decide) rfl ?_
  intro p e s m args below meth c s₁ B hml hv
  obtain ⟨rfl, hsz, hP, hK, hN, hD⟩ := hv
  have hx := B.exec
  have hb := B.bytes
  have hr := B.returns
  have hc : ∀ w ∈ cmn, w.before ([.ref d, .int (nI c0)] : List Value).toArray s = true := fun w h => atoms_spec (ws := w_Model_missingFrom) B.pre w (List.mem_cons_of_mem _ h)
  have hown : s.vm.findClass R_Model = some m.cls := findClass_of_methodNamed B.named
  have hlocks := B.notSynchronized
  subst hsz
  have hS : va_S (va_A [] s.heap.size) s.heap s.heap [] := va_S.rf
  have hA : ∀ q : Nat, s.heap.size ≤ q → va_A [] s.heap.size q := fun q h => Or.inr h
  generalize va_A [] s.heap.size = A at hS hA ⊢
  have hP : va_P g.1 classes [(d, .inr (3, [.ref d0, .int iv, .ref d1, .ref d2, .ref d3, .ref d4, .int kv])), (d3, .inl (cIn g, 200, .inl mg)), (d4, .inl (cIn g, 200, .inl mr))] s.heap := hP
  have hl := lv_entry ([.ref d, .int (nI c0)]) (n := 4) (Nat.le_of_ble_eq_true rfl)
  rw [lg_entry_eq]
  generalize (lg_sl ([.ref d, .int (nI c0)]) ++ List.replicate (4 - (lg_sl ([.ref d, .int (nI c0)])).length) Slot.unset).toArray = ls at hl ⊢
  have hl : lv_has ls 4 [(0, .ref d), (1, .int (nI c0))] := hl
  have hn := hV.1
  have ekv := hI.1
  subst ekv
  refine lv_iconst (v := (-1)) hx hb d_Model_missingFrom_0 (by decide) ?_
  refine lv_istore_n (lv' := [(2, .int (-1)), (0, .ref d), (1, .int (nI c0))]) hx hb d_Model_missingFrom_1 rfl hl (by decide) rfl (fun ls hl => ?_)
  refine lv_aload_n hx hb d_Model_missingFrom_2 rfl (lv_at hl 1 rfl) ?_
  refine va_get (D := g.1) (ci := 3) (v := .int (nI (aN V))) (C := R_Model) (T := F_Model) (N := 7) hx hb hc i_Model hown hK hP 0 rfl rfl 6 (by decide) (hc _ kf_Model_31) (fun _ h9 => h9) rfl d_Model_missingFrom_3 ?_
  refine lv_iconst (v := 1) hx hb d_Model_missingFrom_6 (by decide) ?_
  refine lv_isub hx hb d_Model_missingFrom_7 ?_
  refine lv_istore_n (lv' := [(3, .int ((nI (aN V)) - 1)), (2, .int (-1)), (0, .ref d), (1, .int (nI c0))]) hx hb d_Model_missingFrom_8 rfl hl (by decide) rfl (fun ls hl => ?_)
  refine x_loop (σ := Nat) (fun x => x) (fun x H1 locs1 ls1 => c0 ≤ x ∧ x ≤ aN V ∧ va_P g.1 classes [(d, .inr (3, [.ref d0, .int iv, .ref d1, .ref d2, .ref d3, .ref d4, .int (nI (aN V))])), (d3, .inl (cIn g, 200, .inl mg)), (d4, .inl (cIn g, 200, .inl mr))] H1 ∧ va_S A s.heap H1 locs1 ∧ lv_has ls1 4 [(0, .ref d), (1, .int (nI c0)), (2, .int (mff (mis V) x (aN V - x))), (3, .int (nI x - 1))]) ?_ (aN V) ⟨hc0, Nat.le_refl _, hP, hS, by rw [mff_end]; exact lv_sub hl [2, 3, 1, 0] rfl⟩
  rintro x H locs ls ⟨hx1, hx2, hP, hS, hl⟩ ih
  cases x
  · obtain rfl : c0 = 0 := by omega
    refine lv_iload_n hx hb d_Model_missingFrom_9 rfl (lv_at hl 3 rfl) ?_
    refine lv_iload_n hx hb d_Model_missingFrom_10 rfl (lv_at hl 1 rfl) ?_
    refine lv_icmp_lt (tgt := 34) hx hb d_Model_missingFrom_11 (by decide) (fun c1 => ?_) (fun c1 => ?_)
    · refine lv_iload_n hx hb d_Model_missingFrom_34 rfl (lv_at hl 2 rfl) ?_
      exact W.iret (v := mff (mis V) 0 (aN V - 0)) hx hb hr (fun t9 ht9 hW9 => ⟨⟨_, (), rfl, rfl, trivial⟩, hS.F ht9⟩) hS.2.2 d_Model_missingFrom_35
    · exact absurd (show nI 0 - 1 < nI 0 by decide) c1
  · rename_i k
    rw [nI_pred] at hl
    refine lv_iload_n hx hb d_Model_missingFrom_9 rfl (lv_at hl 3 rfl) ?_
    refine lv_iload_n hx hb d_Model_missingFrom_10 rfl (lv_at hl 1 rfl) ?_
    refine lv_icmp_lt (tgt := 34) hx hb d_Model_missingFrom_11 (by decide) (fun c1 => ?_) (fun c1 => ?_)
    · rw [nI_ltI (by omega) (by omega)] at c1
      obtain rfl : c0 = k + 1 := by omega
      refine lv_iload_n hx hb d_Model_missingFrom_34 rfl (lv_at hl 2 rfl) ?_
      exact W.iret (v := mff (mis V) (k + 1) (aN V - (k + 1))) hx hb hr (fun t9 ht9 hW9 => ⟨⟨_, (), rfl, rfl, trivial⟩, hS.F ht9⟩) hS.2.2 d_Model_missingFrom_35
    · rw [nI_ltI (by omega) (by omega)] at c1
      refine lv_aload_n hx hb d_Model_missingFrom_14 rfl (lv_at hl 0 rfl) ?_
      refine lv_iload_n hx hb d_Model_missingFrom_15 rfl (lv_at hl 3 rfl) ?_
      refine x_cri (x_runV (As := [.int (nI k)]) (rest := []) ⟨hx, hb, hml, hown, hc⟩ (c_Model_isMissing l g _ d d0 d1 d2 d3 d4 mb mz mg mr iv (nI (aN V)) V Bd hV hBd hI k (by omega)) (cwV 1 hc (good_V km_Model_40 ki_Model_isMissing ks_Model_isMissing kn_Model kc_Model_isMissing) rfl rfl rfl (by decide +kernel) ⟨Nat.le_of_ble_eq_true rfl, Nat.le_of_ble_eq_true rfl⟩) hP hD hK hN [0, 1, 2] (by decide) rfl (va_recv hK hP (ci := 3) (q0 := 0) rfl rfl) rfl hl.1 rfl (Nat.le_of_ble_eq_true rfl) d_Model_missingFrom_16 ⟨Nat.le_of_ble_eq_true rfl, Nat.le_of_ble_eq_true rfl⟩) hP hS hA (fun r0 H locs hw0 hP hS => ?_)
      have hw0 : YN r0 (mis V k = true) := hw0
      refine x_join (rest := []) 27 (fun v => v = mff (mis V) k (aN V - k)) (fun v hv => ?_) (fun kj => ?_)
      · subst hv
        refine lv_istore_n (lv' := [(2, .int (mff (mis V) k (aN V - k))), (0, .ref d), (1, .int (nI c0)), (3, .int (nI k))]) hx hb d_Model_missingFrom_27 rfl hl (by decide) rfl (fun ls hl => ?_)
        refine lv_iinc (v := nI k - 1) (lv' := [(3, .int (nI k - 1)), (2, .int (mff (mis V) k (aN V - k))), (0, .ref d), (1, .int (nI c0))]) hx hb d_Model_missingFrom_28 hl (k := 3) rfl (dec1 _) (by decide) rfl (fun ls hl => ?_)
        refine lv_goto (tgt := 9) hx hb d_Model_missingFrom_31 (by decide) ?_
        exact ih k H locs ls ⟨by omega, by omega, hP, hS, lv_sub hl [2, 3, 1, 0] rfl⟩ (Nat.lt_succ_self _)
      · refine lv_if_eq (tgt := 26) hx hb d_Model_missingFrom_19 (by decide) (fun c2 => ?_) (fun c2 => ?_)
        · refine lv_iload_n hx hb d_Model_missingFrom_26 rfl (lv_at hl 2 rfl) ?_
          exact kj _ (mff_miss (by have q := hw0.no c2; cases e9 : mis V k with | false => rfl | true => exact absurd e9 q) (by omega)).symm
        · refine lv_iload_n hx hb d_Model_missingFrom_22 rfl (lv_at hl 3 rfl) ?_
          refine lv_goto (tgt := 27) hx hb d_Model_missingFrom_23 (by decide) ?_
          exact kj _ (mff_hit (hw0.yes c2) (by omega)).symm
set_option maxHeartbeats 4000000 in
set_option maxRecDepth 100000 in
/-- look(x, y), of the reference -/
theorem c_Model_look (l : Launch) (g : GT) (sz : Nat) (d d0 d1 d2 d3 d4 : Nat) (mb mz mg mr : Nat → Int32) (iv kv : Int32) (V : AS) (Bd : Nat) (hV : AOk V Bd) (hBd : Bd < 2 ^ 30) (hI : TInv V mb mz mg mr kv) (x y : Int32) : Met l y_Model_look w_Model_look ({ frames := 2, cells := 0, slots := 0, locals := 44 } : Room) (PcW [.ref d, .int x, .int y] sz g [(d, .inr (3, [.ref d0, .int iv, .ref d1, .ref d2, .ref d3, .ref d4, .int kv])), (d2, .inl (cIn g, 200, .inl mz)), (d3, .inl (cIn g, 200, .inl mg)), (d4, .inl (cIn g, 200, .inl mr))]) (va_Qi (fun (r : Int32) (_ : Unit) => r = lookR V x y) BR (va_A [] sz)) 0 0 (va_A [] sz) := by
  refine Met.ofW (cc := b_Model_look) (maxL := 3) (ret := (some .int)) (by decide) rfl ?_
  intro p e s m args below meth c s₁ B hml hv
  obtain ⟨rfl, hsz, hP, hK, hN, hD⟩ := hv
  have hx := B.exec
  have hb := B.bytes
  have hr := B.returns
  have hc : ∀ w ∈ cmn, w.before ([.ref d, .int x, .int y] : List Value).toArray s = true := fun w h => atoms_spec (ws := w_Model_look) B.pre w (List.mem_cons_of_mem _ h)
  have hown : s.vm.findClass R_Model = some m.cls := findClass_of_methodNamed B.named
  have hlocks := B.notSynchronized
  subst hsz
  have hS : va_S (va_A [] s.heap.size) s.heap s.heap [] := va_S.rf
  have hA : ∀ q : Nat, s.heap.size ≤ q → va_A [] s.heap.size q := fun q h => Or.inr h
  generalize va_A [] s.heap.size = A at hS hA ⊢
  have hP : va_P g.1 classes [(d, .inr (3, [.ref d0, .int iv, .ref d1, .ref d2, .ref d3, .ref d4, .int kv])), (d2, .inl (cIn g, 200, .inl mz)), (d3, .inl (cIn g, 200, .inl mg)), (d4, .inl (cIn g, 200, .inl mr))] s.heap := hP
  have hl := lv_entry ([.ref d, .int x, .int y]) (n := 3) (Nat.le_of_ble_eq_true rfl)
  rw [lg_entry_eq]
  generalize (lg_sl ([.ref d, .int x, .int y]) ++ List.replicate (3 - (lg_sl ([.ref d, .int x, .int y])).length) Slot.unset).toArray = ls at hl ⊢
  have hl : lv_has ls 3 [(0, .ref d), (1, .int x), (2, .int y)] := hl
  have hn := hV.1
  have ekv := hI.1
  subst ekv
  refine lv_iload_n hx hb d_Model_look_0 rfl (lv_at hl 1 rfl) ?_
  refine lv_if_lt (tgt := 21) hx hb d_Model_look_1 (by decide) (fun c1 => ?_) (fun c1 => ?_)
  · refine lv_iconst (v := (-1)) hx hb d_Model_look_21 (by decide) ?_
    exact W.iret (v := (-1)) hx hb hr (fun t9 ht9 hW9 => ⟨⟨_, (), rfl, (if_pos (Or.inl c1)).symm, trivial⟩, hS.F ht9⟩) hS.2.2 d_Model_look_22
  · refine lv_iload_n hx hb d_Model_look_4 rfl (lv_at hl 1 rfl) ?_
    refine lv_aload_n hx hb d_Model_look_5 rfl (lv_at hl 0 rfl) ?_
    refine va_get (D := g.1) (ci := 3) (v := .int (nI (aN V))) (C := R_Model) (T := F_Model) (N := 7) hx hb hc i_Model hown hK hP 0 rfl rfl 6 (by decide) (hc _ kf_Model_31) (fun _ h9 => h9) rfl d_Model_look_6 ?_
    refine lv_icmp_ge (tgt := 21) hx hb d_Model_look_9 (by decide) (fun c2 => ?_) (fun c2 => ?_)
    · refine lv_iconst (v := (-1)) hx hb d_Model_look_21 (by decide) ?_
      exact W.iret (v := (-1)) hx hb hr (fun t9 ht9 hW9 => ⟨⟨_, (), rfl, (if_pos (Or.inr c2)).symm, trivial⟩, hS.F ht9⟩) hS.2.2 d_Model_look_22
    · obtain ⟨k, hk, rfl⟩ := known_ix (by omega) (fun q => q.elim c1 c2)
      rw [lookR_in hk hn]
      obtain ⟨ez, eg, er, -⟩ := hI.2 k hk
      refine lv_iload_n hx hb d_Model_look_12 rfl (lv_at hl 2 rfl) ?_
      refine lv_if_lt (tgt := 21) hx hb d_Model_look_13 (by decide) (fun c3 => ?_) (fun c3 => ?_)
      · refine lv_iconst (v := (-1)) hx hb d_Model_look_21 (by decide) ?_
        have z0 : ¬ y = 0 := fun q => absurd c3 (by rw [q]; decide)
        have z1 : ¬ y = 1 := fun q => absurd c3 (by rw [q]; decide)
        have z2 : ¬ y = 2 := fun q => absurd c3 (by rw [q]; decide)
        have z3 : ¬ y = 3 := fun q => absurd c3 (by rw [q]; decide)
        exact W.iret (v := (-1)) hx hb hr (fun t9 ht9 hW9 => ⟨⟨_, (), rfl, by rw [if_neg z0, if_neg z1, if_neg z2, if_neg z3], trivial⟩, hS.F ht9⟩) hS.2.2 d_Model_look_22
      · refine lv_iload_n hx hb d_Model_look_16 rfl (lv_at hl 2 rfl) ?_
        refine lv_iconst (v := 3) hx hb d_Model_look_17 (by decide) ?_
        refine lv_icmp_le (tgt := 23) hx hb d_Model_look_18 (by decide) (fun c4 => ?_) (fun c4 => ?_)
        · refine lv_iload_n hx hb d_Model_look_23 rfl (lv_at hl 2 rfl) ?_
          refine lv_iconst (v := 3) hx hb d_Model_look_24 (by decide) ?_
          refine lv_icmp_ne (tgt := 36) hx hb d_Model_look_25 (by decide) (fun c5 => ?_) (fun c5 => ?_)
          · refine lv_iload_n hx hb d_Model_look_36 rfl (lv_at hl 2 rfl) ?_
            refine lv_if_ne (tgt := 49) hx hb d_Model_look_37 (by decide) (fun c6 => ?_) (fun c6 => ?_)
            · refine lv_iload_n hx hb d_Model_look_49 rfl (lv_at hl 2 rfl) ?_
              refine lv_iconst (v := 1) hx hb d_Model_look_50 (by decide) ?_
              refine lv_icmp_ne (tgt := 63) hx hb d_Model_look_51 (by decide) (fun c7 => ?_) (fun c7 => ?_)
              · have z2 : y = 2 := by
                  have y0 := lv_neT c6 (a := 0) (by decide)
                  have y1 := lv_neT c7 (a := 1) (by decide)
                  have y3 := lv_neT c5 (a := 3) (by decide)
                  have q1 : ¬ y.toInt < 0 := fun q => c3 (Int32.lt_iff_toInt_lt.mpr q)
                  have q2 : y.toInt ≤ 3 := Int32.le_iff_toInt_le.mp c4
                  exact Int32.toInt_inj.mp (show y.toInt = 2 by omega)
                refine lv_aload_n hx hb d_Model_look_63 rfl (lv_at hl 0 rfl) ?_
                refine va_get (D := g.1) (ci := 3) (v := .ref d2) (C := R_Model) (T := F_Model) (N := 7) hx hb hc i_Model hown hK hP 0 rfl rfl 3 (by decide) (hc _ kf_Model_16) (fun _ h9 => h9) rfl d_Model_look_64 ?_
                refine lv_iload_n hx hb d_Model_look_67 rfl (lv_at hl 1 rfl) ?_
                refine x_iald hx hb hK hP 1 rfl (k := k) (by omega) (by decide) d_Model_look_68 ?_
                exact W.iret (v := mz k) hx hb hr (fun t9 ht9 hW9 => ⟨⟨_, (), rfl, by rw [if_neg c6, if_neg c7, if_pos z2]; exact ez, trivial⟩, hS.F ht9⟩) hS.2.2 d_Model_look_69
              · refine lv_aload_n hx hb d_Model_look_54 rfl (lv_at hl 0 rfl) ?_
                refine va_get (D := g.1) (ci := 3) (v := .ref d4) (C := R_Model) (T := F_Model) (N := 7) hx hb hc i_Model hown hK hP 0 rfl rfl 5 (by decide) (hc _ kf_Model_22) (fun _ h9 => h9) rfl d_Model_look_55 ?_
                refine lv_iload_n hx hb d_Model_look_58 rfl (lv_at hl 1 rfl) ?_
                refine x_iald hx hb hK hP 3 rfl (k := k) (by omega) (by decide) d_Model_look_59 ?_
                refine lv_goto (tgt := 69) hx hb d_Model_look_60 (by decide) ?_
                exact W.iret (v := mr k) hx hb hr (fun t9 ht9 hW9 => ⟨⟨_, (), rfl, by rw [if_neg c6, if_pos c7]; exact er, trivial⟩, hS.F ht9⟩) hS.2.2 d_Model_look_69
            · refine lv_aload_n hx hb d_Model_look_40 rfl (lv_at hl 0 rfl) ?_
              refine va_get (D := g.1) (ci := 3) (v := .ref d3) (C := R_Model) (T := F_Model) (N := 7) hx hb hc i_Model hown hK hP 0 rfl rfl 4 (by decide) (hc _ kf_Model_19) (fun _ h9 => h9) rfl d_Model_look_41 ?_
              refine lv_iload_n hx hb d_Model_look_44 rfl (lv_at hl 1 rfl) ?_
              refine x_iald hx hb hK hP 2 rfl (k := k) (by omega) (by decide) d_Model_look_45 ?_
              refine lv_goto (tgt := 69) hx hb d_Model_look_46 (by decide) ?_
              exact W.iret (v := mg k) hx hb hr (fun t9 ht9 hW9 => ⟨⟨_, (), rfl, by rw [if_pos c6]; exact eg, trivial⟩, hS.F ht9⟩) hS.2.2 d_Model_look_69
          · subst c5
            refine lv_aload_n hx hb d_Model_look_28 rfl (lv_at hl 0 rfl) ?_
            refine lv_iload_n hx hb d_Model_look_29 rfl (lv_at hl 1 rfl) ?_
            refine lv_iconst (v := 1) hx hb d_Model_look_30 (by decide) ?_
            refine lv_iadd hx hb d_Model_look_31 ?_
            refine x_top (y := nI (k + 1)) (nI_1 k) ?_
            refine x_cri (x_runV (As := [.int (nI (k + 1))]) (rest := []) ⟨hx, hb, hml, hown, hc⟩ (c_Model_missingFrom l g _ d d0 d1 d2 d3 d4 mb mz mg mr iv (nI (aN V)) V Bd hV hBd hI (k + 1) hk) (cwV 1 hc (good_V km_Model_44 ki_Model_missingFrom ks_Model_missingFrom kn_Model kc_Model_missingFrom) rfl rfl rfl (by decide +kernel) ⟨Nat.le_of_ble_eq_true rfl, Nat.le_of_ble_eq_true rfl⟩) hP hD hK hN [0, 2, 3] (by decide) rfl (va_recv hK hP (ci := 3) (q0 := 0) rfl rfl) rfl hl.1 rfl (Nat.le_of_ble_eq_true rfl) d_Model_look_32 ⟨Nat.le_of_ble_eq_true rfl, Nat.le_of_ble_eq_true rfl⟩) hP hS hA (fun r1 H locs hw1 hP hS => ?_)
            exact W.iret (v := r1) hx hb hr (fun t9 ht9 hW9 => ⟨⟨_, (), rfl, hw1, trivial⟩, hS.F ht9⟩) hS.2.2 d_Model_look_35
        · have z0 : ¬ y = 0 := fun q => absurd c4 (by rw [q]; decide)
          have z1 : ¬ y = 1 := fun q => absurd c4 (by rw [q]; decide)
          have z2 : ¬ y = 2 := fun q => absurd c4 (by rw [q]; decide)
          have z3 : ¬ y = 3 := fun q => absurd c4 (by rw [q]; decide)
          refine lv_iconst (v := (-1)) hx hb d_Model_look_21 (by decide) ?_
          exact W.iret (v := (-1)) hx hb hr (fun t9 ht9 hW9 => ⟨⟨_, (), rfl, by rw [if_neg z0, if_neg z1, if_neg z2, if_neg z3], trivial⟩, hS.F ht9⟩) hS.2.2 d_Model_look_22
set_option maxHeartbeats 4000000 in
set_option maxRecDepth 100000 in
/-- byteOf(x, y), of the reference -/
theorem c_Model_byteOf (l : Launch) (g : GT) (sz : Nat) (d d0 d1 d2 d3 d4 : Nat) (mb mz mg mr : Nat → Int32) (iv kv : Int32) (V : AS) (Bd : Nat) (hV : AOk V Bd) (hBd : Bd < 2 ^ 30) (hI : TInv V mb mz mg mr kv) (x y : Int32) : Met l y_Model_byteOf w_Model_byteOf ({ frames := 0, cells := 0, slots := 0, locals := 0 } : Room) (PcW [.ref d, .int x, .int y] sz g [(d, .inr (3, [.ref d0, .int iv, .ref d1, .ref d2, .ref d3, .ref d4, .int kv])), (d1, .inl (cIn g, 12000, .inl mb)), (d2, .inl (cIn g, 200, .inl mz))]) (va_Qi (fun (r : Int32) (_ : Unit) => r = byteR V x y) BR (va_A [] sz)) 0 0 (va_A [] sz) := by
  refine Met.ofW (cc := b_Model_byteOf) (maxL := 3) (ret := (some .int)) (by decide) rfl ?_
  intro p e s m args below meth c s₁ B hml hv
  obtain ⟨rfl, hsz, hP, hK, hN, hD⟩ := hv
  have hx := B.exec
  have hb := B.bytes
  have hr := B.returns
  have hc : ∀ w ∈ cmn, w.before ([.ref d, .int x, .int y] : List Value).toArray s = true := fun w h => atoms_spec (ws := w_Model_byteOf) B.pre w (List.mem_cons_of_mem _ h)
  have hown : s.vm.findClass R_Model = some m.cls := findClass_of_methodNamed B.named
  have hlocks := B.notSynchronized
  subst hsz
  have hS : va_S (va_A [] s.heap.size) s.heap s.heap [] := va_S.rf
  have hA : ∀ q : Nat, s.heap.size ≤ q → va_A [] s.heap.size q := fun q h => Or.inr h
  generalize va_A [] s.heap.size = A at hS hA ⊢
  have hP : va_P g.1 classes [(d, .inr (3, [.ref d0, .int iv, .ref d1, .ref d2, .ref d3, .ref d4, .int kv])), (d1, .inl (cIn g, 12000, .inl mb)), (d2, .inl (cIn g, 200, .inl mz))] s.heap := hP
  have hl := lv_entry ([.ref d, .int x, .int y]) (n := 3) (Nat.le_of_ble_eq_true rfl)
  rw [lg_entry_eq]
  generalize (lg_sl ([.ref d, .int x, .int y]) ++ List.replicate (3 - (lg_sl ([.ref d, .int x, .int y])).length) Slot.unset).toArray = ls at hl ⊢
  have hl : lv_has ls 3 [(0, .ref d), (1, .int x), (2, .int y)] := hl
  have hn := hV.1
  have ekv := hI.1
  subst ekv
  refine lv_iload_n hx hb d_Model_byteOf_0 rfl (lv_at hl 1 rfl) ?_
  refine lv_if_lt (tgt := 26) hx hb d_Model_byteOf_1 (by decide) (fun c1 => ?_) (fun c1 => ?_)
  · refine lv_iconst (v := (-1)) hx hb d_Model_byteOf_26 (by decide) ?_
    exact W.iret (v := (-1)) hx hb hr (fun t9 ht9 hW9 => ⟨⟨_, (), rfl, (if_pos (Or.inl c1)).symm, trivial⟩, hS.F ht9⟩) hS.2.2 d_Model_byteOf_27
  · refine lv_iload_n hx hb d_Model_byteOf_4 rfl (lv_at hl 1 rfl) ?_
    refine lv_aload_n hx hb d_Model_byteOf_5 rfl (lv_at hl 0 rfl) ?_
    refine va_get (D := g.1) (ci := 3) (v := .int (nI (aN V))) (C := R_Model) (T := F_Model) (N := 7) hx hb hc i_Model hown hK hP 0 rfl rfl 6 (by decide) (hc _ kf_Model_31) (fun _ h9 => h9) rfl d_Model_byteOf_6 ?_
    refine lv_icmp_ge (tgt := 26) hx hb d_Model_byteOf_9 (by decide) (fun c2 => ?_) (fun c2 => ?_)
    · refine lv_iconst (v := (-1)) hx hb d_Model_byteOf_26 (by decide) ?_
      exact W.iret (v := (-1)) hx hb hr (fun t9 ht9 hW9 => ⟨⟨_, (), rfl, (if_pos (Or.inr c2)).symm, trivial⟩, hS.F ht9⟩) hS.2.2 d_Model_byteOf_27
    · obtain ⟨k, hk, rfl⟩ := known_ix (by omega) (fun q => q.elim c1 c2)
      rw [byteR_in hk hn]
      obtain ⟨ez, -, -, eb⟩ := hI.2 k hk
      have hz := hV.2.1 k hk
      refine lv_iload_n hx hb d_Model_byteOf_12 rfl (lv_at hl 2 rfl) ?_
      refine lv_if_lt (tgt := 26) hx hb d_Model_byteOf_13 (by decide) (fun c3 => ?_) (fun c3 => ?_)
      · refine lv_iconst (v := (-1)) hx hb d_Model_byteOf_26 (by decide) ?_
        exact W.iret (v := (-1)) hx hb hr (fun t9 ht9 hW9 => ⟨⟨_, (), rfl, (if_pos (Or.inl c3)).symm, trivial⟩, hS.F ht9⟩) hS.2.2 d_Model_byteOf_27
      · refine lv_iload_n hx hb d_Model_byteOf_16 rfl (lv_at hl 2 rfl) ?_
        refine lv_aload_n hx hb d_Model_byteOf_17 rfl (lv_at hl 0 rfl) ?_
        refine va_get (D := g.1) (ci := 3) (v := .ref d2) (C := R_Model) (T := F_Model) (N := 7) hx hb hc i_Model hown hK hP 0 rfl rfl 3 (by decide) (hc _ kf_Model_16) (fun _ h9 => h9) rfl d_Model_byteOf_18 ?_
        refine lv_iload_n hx hb d_Model_byteOf_21 rfl (lv_at hl 1 rfl) ?_
        refine x_iald hx hb hK hP 2 rfl (k := k) (by omega) (by decide) d_Model_byteOf_22 ?_
        refine x_top (y := nI (aZ V k)) (ez) ?_
        refine lv_icmp_lt (tgt := 28) hx hb d_Model_byteOf_23 (by decide) (fun c4 => ?_) (fun c4 => ?_)
        · have c4 := Int32.not_le.mpr c4
          rw [if_neg (fun q => q.elim c3 c4)]
          obtain ⟨i, hi, rfl⟩ := known_ix (n := aZ V k) (by omega) (fun q => q.elim c3 c4)
          rw [nI_clamp (by omega)]
          refine lv_aload_n hx hb d_Model_byteOf_28 rfl (lv_at hl 0 rfl) ?_
          refine va_get (D := g.1) (ci := 3) (v := .ref d1) (C := R_Model) (T := F_Model) (N := 7) hx hb hc i_Model hown hK hP 0 rfl rfl 2 (by decide) (hc _ kf_Model_13) (fun _ h9 => h9) rfl d_Model_byteOf_29 ?_
          refine lv_bipush (v := 60) hx hb d_Model_byteOf_32 (by decide) ?_
          refine lv_iload_n hx hb d_Model_byteOf_34 rfl (lv_at hl 1 rfl) ?_
          refine lv_imul hx hb d_Model_byteOf_35 ?_
          refine x_top (y := nI (60 * k)) (pk_mul 60 k) ?_
          refine lv_iload_n hx hb d_Model_byteOf_36 rfl (lv_at hl 2 rfl) ?_
          refine lv_iadd hx hb d_Model_byteOf_37 ?_
          refine x_top (y := nI (60 * k + i)) (nI_add _ _) ?_
          refine x_iald hx hb hK hP 1 rfl (k := (60 * k + i)) (by omega) (by decide) d_Model_byteOf_38 ?_
          exact W.iret (v := mb (60 * k + i)) hx hb hr (fun t9 ht9 hW9 => ⟨⟨_, (), rfl, eb i hi, trivial⟩, hS.F ht9⟩) hS.2.2 d_Model_byteOf_39
        · refine lv_iconst (v := (-1)) hx hb d_Model_byteOf_26 (by decide) ?_
          exact W.iret (v := (-1)) hx hb hr (fun t9 ht9 hW9 => ⟨⟨_, (), rfl, (if_pos (Or.inr (Int32.not_lt.mp c4))).symm, trivial⟩, hS.F ht9⟩) hS.2.2 d_Model_byteOf_27
set_option maxHeartbeats 4000000 in
set_option maxRecDepth 100000 in
/-- count(x), of the reference -/
theorem c_Model_count (l : Launch) (g : GT) (sz : Nat) (d d0 d1 d2 d3 d4 : Nat) (h : Nat) (mb mz mg mr : Nat → Int32) (kv : Int32) (V : AS) (Bd : Nat) (hV : AOk V Bd) (hBd : Bd < 2 ^ 30) (hI : TInv V mb mz mg mr kv) (x : Int32) : Met l y_Model_count w_Model_count ({ frames := 2, cells := 0, slots := 0, locals := 44 } : Room) (PcW [.ref d, .int x] sz g [(d, .inr (3, [.ref d0, .int (nI h), .ref d1, .ref d2, .ref d3, .ref d4, .int kv])), (d3, .inl (cIn g, 200, .inl mg)), (d4, .inl (cIn g, 200, .inl mr))]) (va_Qi (fun (r : Int32) (_ : Unit) => r = countR V h x) BR (va_A [] sz)) 0 0 (va_A [] sz) := by
  refine Met.ofW (cc := b_Model_count) (maxL := 6) (ret := (some .int)) (by decide) rfl ?_
  intro p e s m args below meth c s₁ B hml hv
  obtain ⟨rfl, hsz, hP, hK, hN, hD⟩ := hv
  have hx := B.exec
  have hb := B.bytes
  have hr := B.returns
  have hc : ∀ w ∈ cmn, w.before ([.ref d, .int x] : List Value).toArray s = true := fun w h => atoms_spec (ws := w_Model_count) B.pre w (List.mem_cons_of_mem _ h)
  have hown : s.vm.findClass R_Model = some m.cls := findClass_of_methodNamed B.named
  have hlocks := B.notSynchronized
  subst hsz
  have hS : va_S (va_A [] s.heap.size) s.heap s.heap [] := va_S.rf
  have hA : ∀ q : Nat, s.heap.size ≤ q → va_A [] s.heap.size q := fun q h => Or.inr h
  generalize va_A [] s.heap.size = A at hS hA ⊢
  have hP : va_P g.1 classes [(d, .inr (3, [.ref d0, .int (nI h), .ref d1, .ref d2, .ref d3, .ref d4, .int kv])), (d3, .inl (cIn g, 200, .inl mg)), (d4, .inl (cIn g, 200, .inl mr))] s.heap := hP
  have hl := lv_entry ([.ref d, .int x]) (n := 6) (Nat.le_of_ble_eq_true rfl)
  rw [lg_entry_eq]
  generalize (lg_sl ([.ref d, .int x]) ++ List.replicate (6 - (lg_sl ([.ref d, .int x])).length) Slot.unset).toArray = ls at hl ⊢
  have hl : lv_has ls 6 [(0, .ref d), (1, .int x)] := hl
  have hn := hV.1
  have ekv := hI.1
  subst ekv
  refine lv_iconst (v := 0) hx hb d_Model_count_0 (by decide) ?_
  refine lv_istore_n (lv' := [(2, .int 0), (0, .ref d), (1, .int x)]) hx hb d_Model_count_1 rfl hl (by decide) rfl (fun ls hl => ?_)
  refine lv_iconst (v := 0) hx hb d_Model_count_2 (by decide) ?_
  refine lv_istore_n (lv' := [(3, .int 0), (2, .int 0), (0, .ref d), (1, .int x)]) hx hb d_Model_count_3 rfl hl (by decide) rfl (fun ls hl => ?_)
  refine lv_iconst (v := 0) hx hb d_Model_count_4 (by decide) ?_
  refine lv_istore (lv' := [(4, .int 0), (3, .int 0), (2, .int 0), (0, .ref d), (1, .int x)]) hx hb d_Model_count_5 hl (by decide) rfl (fun ls hl => ?_)
  refine lv_iconst (v := 0) hx hb d_Model_count_7 (by decide) ?_
  refine lv_istore (lv' := [(5, .int 0), (4, .int 0), (3, .int 0), (2, .int 0), (0, .ref d), (1, .int x)]) hx hb d_Model_count_8 hl (by decide) rfl (fun ls hl => ?_)
  refine x_loop (σ := Nat) (fun k => aN V - k) (fun k H1 locs1 ls1 => k ≤ aN V ∧ va_P g.1 classes [(d, .inr (3, [.ref d0, .int (nI h), .ref d1, .ref d2, .ref d3, .ref d4, .int (nI (aN V))])), (d3, .inl (cIn g, 200, .inl mg)), (d4, .inl (cIn g, 200, .inl mr))] H1 ∧ va_S A s.heap H1 locs1 ∧ lv_has ls1 6 [(0, .ref d), (1, .int x), (2, .int (nI (cnt (fun k => decide (0 < aG V k)) k))), (3, .int (nI (cnt (mis V) k))), (4, .int (nI (vns (aG V) k))), (5, .int (nI k))]) ?_ 0 ⟨Nat.zero_le _, hP, hS, lv_sub hl [4, 5, 3, 2, 1, 0] rfl⟩
  rintro k H locs ls ⟨hk, hP, hS, hl⟩ ih
  refine lv_iload hx hb d_Model_count_10 (lv_at hl 5 rfl) ?_
  refine lv_aload_n hx hb d_Model_count_12 rfl (lv_at hl 0 rfl) ?_
  refine va_get (D := g.1) (ci := 3) (v := .int (nI (aN V))) (C := R_Model) (T := F_Model) (N := 7) hx hb hc i_Model hown hK hP 0 rfl rfl 6 (by decide) (hc _ kf_Model_31) (fun _ h9 => h9) rfl d_Model_count_13 ?_
  refine lv_icmp_ge (tgt := 90) hx hb d_Model_count_16 (by decide) (fun c1 => ?_) (fun c1 => ?_)
  · rw [nI_leI (by omega) (by omega)] at c1
    obtain rfl : k = aN V := by omega
    clear ih
    refine lv_iload_n hx hb d_Model_count_90 rfl (lv_at hl 1 rfl) ?_
    refine lv_if_ne (tgt := 101) hx hb d_Model_count_91 (by decide) (fun z0 => ?_) (fun z0 => ?_)
    · refine lv_iload_n hx hb d_Model_count_101 rfl (lv_at hl 1 rfl) ?_
      refine lv_iconst (v := 1) hx hb d_Model_count_102 (by decide) ?_
      refine lv_icmp_ne (tgt := 110) hx hb d_Model_count_103 (by decide) (fun z1 => ?_) (fun z1 => ?_)
      · refine lv_iload_n hx hb d_Model_count_110 rfl (lv_at hl 1 rfl) ?_
        refine lv_iconst (v := 2) hx hb d_Model_count_111 (by decide) ?_
        refine lv_icmp_ne (tgt := 119) hx hb d_Model_count_112 (by decide) (fun z2 => ?_) (fun z2 => ?_)
        · refine lv_iload_n hx hb d_Model_count_119 rfl (lv_at hl 1 rfl) ?_
          refine lv_iconst (v := 3) hx hb d_Model_count_120 (by decide) ?_
          refine lv_icmp_ne (tgt := 129) hx hb d_Model_count_121 (by decide) (fun z3 => ?_) (fun z3 => ?_)
          · refine lv_iload_n hx hb d_Model_count_129 rfl (lv_at hl 1 rfl) ?_
            refine lv_iconst (v := 4) hx hb d_Model_count_130 (by decide) ?_
            refine lv_icmp_ne (tgt := 141) hx hb d_Model_count_131 (by decide) (fun z4 => ?_) (fun z4 => ?_)
            · refine lv_iload_n hx hb d_Model_count_141 rfl (lv_at hl 1 rfl) ?_
              refine lv_iconst (v := 5) hx hb d_Model_count_142 (by decide) ?_
              refine lv_icmp_ne (tgt := 154) hx hb d_Model_count_143 (by decide) (fun z5 => ?_) (fun z5 => ?_)
              · refine lv_iconst (v := (-1)) hx hb d_Model_count_154 (by decide) ?_
                exact W.iret (v := (-1)) hx hb hr (fun t9 ht9 hW9 => ⟨⟨_, (), rfl, by unfold countR; rw [if_neg z0, if_neg z1, if_neg z2, if_neg z3, if_neg z4, if_neg z5], trivial⟩, hS.F ht9⟩) hS.2.2 d_Model_count_155
              · refine lv_aload_n hx hb d_Model_count_146 rfl (lv_at hl 0 rfl) ?_
                refine lv_iconst (v := 0) hx hb d_Model_count_147 (by decide) ?_
                refine x_top (y := nI 0) (rfl) ?_
                refine x_cri (x_runV (As := [.int (nI 0)]) (rest := []) ⟨hx, hb, hml, hown, hc⟩ (c_Model_missingFrom l g _ d d0 d1 d2 d3 d4 mb mz mg mr (nI h) (nI (aN V)) V Bd hV hBd hI 0 (Nat.zero_le _)) (cwV 1 hc (good_V km_Model_44 ki_Model_missingFrom ks_Model_missingFrom kn_Model kc_Model_missingFrom) rfl rfl rfl (by decide +kernel) ⟨Nat.le_of_ble_eq_true rfl, Nat.le_of_ble_eq_true rfl⟩) hP hD hK hN [0, 1, 2] (by decide) rfl (va_recv hK hP (ci := 3) (q0 := 0) rfl rfl) rfl hl.1 rfl (Nat.le_of_ble_eq_true rfl) d_Model_count_148 ⟨Nat.le_of_ble_eq_true rfl, Nat.le_of_ble_eq_true rfl⟩) hP hS hA (fun r1 H locs hw1 hP hS => ?_)
                refine lv_goto (tgt := 155) hx hb d_Model_count_151 (by decide) ?_
                exact W.iret (v := r1) hx hb hr (fun t9 ht9 hW9 => ⟨⟨_, (), rfl, (show r1 = mff (mis V) 0 (aN V - 0) from hw1).trans (by unfold countR; rw [if_neg z0, if_neg z1, if_neg z2, if_neg z3, if_neg z4, if_pos z5, Nat.sub_zero]), trivial⟩, hS.F ht9⟩) hS.2.2 d_Model_count_155
            · refine lv_aload_n hx hb d_Model_count_134 rfl (lv_at hl 0 rfl) ?_
              refine va_get (D := g.1) (ci := 3) (v := .int (nI h)) (C := R_Model) (T := F_Model) (N := 7) hx hb hc i_Model hown hK hP 0 rfl rfl 1 (by decide) (hc _ kf_Model_25) (fun _ h9 => h9) rfl d_Model_count_135 ?_
              refine lv_goto (tgt := 155) hx hb d_Model_count_138 (by decide) ?_
              exact W.iret (v := nI h) hx hb hr (fun t9 ht9 hW9 => ⟨⟨_, (), rfl, by unfold countR; rw [if_neg z0, if_neg z1, if_neg z2, if_neg z3, if_pos z4], trivial⟩, hS.F ht9⟩) hS.2.2 d_Model_count_155
          · refine lv_iload hx hb d_Model_count_124 (lv_at hl 4 rfl) ?_
            refine lv_goto (tgt := 155) hx hb d_Model_count_126 (by decide) ?_
            exact W.iret (v := nI (vns (aG V) (aN V))) hx hb hr (fun t9 ht9 hW9 => ⟨⟨_, (), rfl, by unfold countR; rw [if_neg z0, if_neg z1, if_neg z2, if_pos z3], trivial⟩, hS.F ht9⟩) hS.2.2 d_Model_count_155
        · refine lv_iload_n hx hb d_Model_count_115 rfl (lv_at hl 3 rfl) ?_
          refine lv_goto (tgt := 155) hx hb d_Model_count_116 (by decide) ?_
          exact W.iret (v := nI (cnt (mis V) (aN V))) hx hb hr (fun t9 ht9 hW9 => ⟨⟨_, (), rfl, by unfold countR; rw [if_neg z0, if_neg z1, if_pos z2], trivial⟩, hS.F ht9⟩) hS.2.2 d_Model_count_155
      · refine lv_iload_n hx hb d_Model_count_106 rfl (lv_at hl 2 rfl) ?_
        refine lv_goto (tgt := 155) hx hb d_Model_count_107 (by decide) ?_
        exact W.iret (v := nI (cnt (fun k => decide (0 < aG V k)) (aN V))) hx hb hr (fun t9 ht9 hW9 => ⟨⟨_, (), rfl, by unfold countR; rw [if_neg z0, if_pos z1], trivial⟩, hS.F ht9⟩) hS.2.2 d_Model_count_155
    · refine lv_aload_n hx hb d_Model_count_94 rfl (lv_at hl 0 rfl) ?_
      refine va_get (D := g.1) (ci := 3) (v := .int (nI (aN V))) (C := R_Model) (T := F_Model) (N := 7) hx hb hc i_Model hown hK hP 0 rfl rfl 6 (by decide) (hc _ kf_Model_31) (fun _ h9 => h9) rfl d_Model_count_95 ?_
      refine lv_goto (tgt := 155) hx hb d_Model_count_98 (by decide) ?_
      exact W.iret (v := nI (aN V)) hx hb hr (fun t9 ht9 hW9 => ⟨⟨_, (), rfl, by unfold countR; rw [if_pos z0], trivial⟩, hS.F ht9⟩) hS.2.2 d_Model_count_155
  · rw [nI_leI (by omega) (by omega)] at c1
    obtain ⟨-, eg, -, -⟩ := hI.2 k (by omega)
    have hb1 := hV.2.1 k (by omega)
    refine lv_aload_n hx hb d_Model_count_19 rfl (lv_at hl 0 rfl) ?_
    refine va_get (D := g.1) (ci := 3) (v := .ref d3) (C := R_Model) (T := F_Model) (N := 7) hx hb hc i_Model hown hK hP 0 rfl rfl 4 (by decide) (hc _ kf_Model_19) (fun _ h9 => h9) rfl d_Model_count_20 ?_
    refine lv_iload hx hb d_Model_count_23 (lv_at hl 5 rfl) ?_
    refine x_iald hx hb hK hP 1 rfl (k := k) (by omega) (by decide) d_Model_count_25 ?_
    refine x_top (y := nI (aG V k)) (eg) ?_
    refine x_join (rest := []) 36 (fun v => v = nI (cnt (fun k => decide (0 < aG V k)) (k + 1))) (fun v hv => ?_) (fun kj => ?_)
    · subst hv
      refine lv_istore_n (lv' := [(2, .int (nI (cnt (fun k => decide (0 < aG V k)) (k + 1)))), (0, .ref d), (1, .int x), (3, .int (nI (cnt (mis V) k))), (4, .int (nI (vns (aG V) k))), (5, .int (nI k))]) hx hb d_Model_count_36 rfl hl (by decide) rfl (fun ls hl => ?_)
      refine lv_aload_n hx hb d_Model_count_37 rfl (lv_at hl 1 rfl) ?_
      refine lv_iload hx hb d_Model_count_38 (lv_at hl 5 rfl) ?_
      refine x_cri (x_runV (As := [.int (nI k)]) (rest := []) ⟨hx, hb, hml, hown, hc⟩ (c_Model_isMissing l g _ d d0 d1 d2 d3 d4 mb mz mg mr (nI h) (nI (aN V)) V Bd hV hBd hI k (by omega)) (cwV 1 hc (good_V km_Model_40 ki_Model_isMissing ks_Model_isMissing kn_Model kc_Model_isMissing) rfl rfl rfl (by decide +kernel) ⟨Nat.le_of_ble_eq_true rfl, Nat.le_of_ble_eq_true rfl⟩) hP hD hK hN [0, 1, 2] (by decide) rfl (va_recv hK hP (ci := 3) (q0 := 0) rfl rfl) rfl hl.1 rfl (Nat.le_of_ble_eq_true rfl) d_Model_count_40 ⟨Nat.le_of_ble_eq_true rfl, Nat.le_of_ble_eq_true rfl⟩) hP hS hA (fun r0 H locs hw0 hP hS => ?_)
      have hw0 : YN r0 (mis V k = true) := hw0
      refine x_join (rest := []) 53 (fun v => v = nI (cnt (mis V) (k + 1))) (fun v hv => ?_) (fun kj => ?_)
      · subst hv
        refine lv_istore_n (lv' := [(3, .int (nI (cnt (mis V) (k + 1)))), (2, .int (nI (cnt (fun k => decide (0 < aG V k)) (k + 1)))), (0, .ref d), (1, .int x), (4, .int (nI (vns (aG V) k))), (5, .int (nI k))]) hx hb d_Model_count_53 rfl hl (by decide) rfl (fun ls hl => ?_)
        refine lv_aload_n hx hb d_Model_count_54 rfl (lv_at hl 2 rfl) ?_
        refine va_get (D := g.1) (ci := 3) (v := .ref d3) (C := R_Model) (T := F_Model) (N := 7) hx hb hc i_Model hown hK hP 0 rfl rfl 4 (by decide) (hc _ kf_Model_19) (fun _ h9 => h9) rfl d_Model_count_55 ?_
        refine lv_iload hx hb d_Model_count_58 (lv_at hl 5 rfl) ?_
        refine x_iald hx hb hK hP 1 rfl (k := k) (by omega) (by decide) d_Model_count_60 ?_
        refine x_top (y := nI (aG V k)) (eg) ?_
        refine lv_iconst (v := 1) hx hb d_Model_count_61 (by decide) ?_
        refine x_join (rest := []) 82 (fun v => v = nI (vns (aG V) (k + 1))) (fun v hv => ?_) (fun kj => ?_)
        · subst hv
          refine lv_istore (lv' := [(4, .int (nI (vns (aG V) (k + 1)))), (3, .int (nI (cnt (mis V) (k + 1)))), (2, .int (nI (cnt (fun k => decide (0 < aG V k)) (k + 1)))), (0, .ref d), (1, .int x), (5, .int (nI k))]) hx hb d_Model_count_82 hl (by decide) rfl (fun ls hl => ?_)
          refine lv_iinc (v := nI (k + 1)) (lv' := [(5, .int (nI (k + 1))), (4, .int (nI (vns (aG V) (k + 1)))), (3, .int (nI (cnt (mis V) (k + 1)))), (2, .int (nI (cnt (fun k => decide (0 < aG V k)) (k + 1)))), (0, .ref d), (1, .int x)]) hx hb d_Model_count_84 hl (k := 5) rfl (nI_1 k) (by decide) rfl (fun ls hl => ?_)
          refine lv_goto (tgt := 10) hx hb d_Model_count_87 (by decide) ?_
          exact ih (k + 1) H locs ls ⟨by omega, hP, hS, lv_sub hl [4, 5, 3, 2, 1, 0] rfl⟩ (by omega)
        · refine lv_icmp_le (tgt := 80) hx hb d_Model_count_62 (by decide) (fun c4 => ?_) (fun c4 => ?_)
          · have c4 := (nI_leI (a := aG V k) (b := 1) (by omega) (by decide)).mp c4
            refine lv_iload hx hb d_Model_count_80 (lv_at hl 4 rfl) ?_
            exact kj _ (by rw [vns_s, show aG V k - 1 = 0 by omega]; rfl)
          · have c4 : ¬ aG V k ≤ 1 := fun z => c4 ((nI_leI (a := aG V k) (b := 1) (by omega) (by decide)).mpr z)
            refine lv_iload hx hb d_Model_count_65 (lv_at hl 4 rfl) ?_
            refine lv_aload_n hx hb d_Model_count_67 rfl (lv_at hl 2 rfl) ?_
            refine va_get (D := g.1) (ci := 3) (v := .ref d3) (C := R_Model) (T := F_Model) (N := 7) hx hb hc i_Model hown hK hP 0 rfl rfl 4 (by decide) (hc _ kf_Model_19) (fun _ h9 => h9) rfl d_Model_count_68 ?_
            refine lv_iload hx hb d_Model_count_71 (lv_at hl 5 rfl) ?_
            refine x_iald hx hb hK hP 1 rfl (k := k) (by omega) (by decide) d_Model_count_73 ?_
            refine x_top (y := nI (aG V k)) (eg) ?_
            refine lv_iadd hx hb d_Model_count_74 ?_
            refine x_top (y := nI (vns (aG V) k + aG V k)) (nI_add _ _) ?_
            refine lv_iconst (v := 1) hx hb d_Model_count_75 (by decide) ?_
            refine lv_isub hx hb d_Model_count_76 ?_
            refine lv_goto (tgt := 82) hx hb d_Model_count_77 (by decide) ?_
            exact kj _ ((pk_sub (a := vns (aG V) k + aG V k) (b := 1) (by omega)).trans (by rw [vns_s]; congr 1; omega))
      · refine lv_if_eq (tgt := 52) hx hb d_Model_count_43 (by decide) (fun c3 => ?_) (fun c3 => ?_)
        · refine lv_iload_n hx hb d_Model_count_52 rfl (lv_at hl 3 rfl) ?_
          exact kj _ (by rw [cnt_s, show mis V k = false by have q := hw0.no c3; cases e9 : mis V k with | false => rfl | true => exact absurd e9 q]; rfl)
        · refine lv_iload_n hx hb d_Model_count_46 rfl (lv_at hl 3 rfl) ?_
          refine lv_iconst (v := 1) hx hb d_Model_count_47 (by decide) ?_
          refine lv_iadd hx hb d_Model_count_48 ?_
          refine lv_goto (tgt := 53) hx hb d_Model_count_49 (by decide) ?_
          exact kj _ (by rw [cnt_s, hw0.yes c3]; exact nI_1 _)
    · refine lv_if_le (tgt := 35) hx hb d_Model_count_26 (by decide) (fun c2 => ?_) (fun c2 => ?_)
      · have c2 := (nI_leI (a := aG V k) (b := 0) (by omega) (by decide)).mp c2
        refine lv_iload_n hx hb d_Model_count_35 rfl (lv_at hl 2 rfl) ?_
        exact kj _ (by rw [cnt_s, decide_eq_false (by omega)]; rfl)
      · have c2 : ¬ aG V k ≤ 0 := fun z => c2 ((nI_leI (a := aG V k) (b := 0) (by omega) (by decide)).mpr z)
        refine lv_iload_n hx hb d_Model_count_29 rfl (lv_at hl 2 rfl) ?_
        refine lv_iconst (v := 1) hx hb d_Model_count_30 (by decide) ?_
        refine lv_iadd hx hb d_Model_count_31 ?_
        refine lv_goto (tgt := 36) hx hb d_Model_count_32 (by decide) ?_
        exact kj _ (by rw [cnt_s, decide_eq_true (by omega)]; exact nI_1 _)
set_option maxHeartbeats 4000000 in
set_option maxRecDepth 100000 in
/-- clear(), of the reference -/
theorem c_Model_clear (l : Launch) (g : GT) (sz : Nat) (d d0 d1 d2 d3 d4 : Nat) (iv : Int32) (V : AS) : Met l y_Model_clear w_Model_clear ({ frames := 0, cells := 0, slots := 0, locals := 0 } : Room) (PcW [.ref d] sz g [(d, .inr (3, [.ref d0, .int iv, .ref d1, .ref d2, .ref d3, .ref d4, .int (nI (aN V))]))]) (va_Qi (fun (r : Int32) (u : Unit) => r = nI (aN V)) (BW g (va_A [(d, .inr (3, [.ref d0, .int iv, .ref d1, .ref d2, .ref d3, .ref d4, .int (nI (aN V))]))] sz) (fun u : Unit => [(d, .inr (3, [.ref d0, .int 0, .ref d1, .ref d2, .ref d3, .ref d4, .int 0]))])) (va_A [(d, .inr (3, [.ref d0, .int iv, .ref d1, .ref d2, .ref d3, .ref d4, .int (nI (aN V))]))] sz)) 0 0 (va_A [(d, .inr (3, [.ref d0, .int iv, .ref d1, .ref d2, .ref d3, .ref d4, .int (nI (aN V))]))] sz) := by
  refine Met.ofW (cc := b_Model_clear) (maxL := 2) (ret := (some .int)) (by decide) rfl ?_
  intro p e s m args below meth c s₁ B hml hv
  obtain ⟨rfl, hsz, hP, hK, hN, hD⟩ := hv
  have hx := B.exec
  have hb := B.bytes
  have hr := B.returns
  have hc : ∀ w ∈ cmn, w.before ([.ref d] : List Value).toArray s = true := fun w h => atoms_spec (ws := w_Model_clear) B.pre w (List.mem_cons_of_mem _ h)
  have hown : s.vm.findClass R_Model = some m.cls := findClass_of_methodNamed B.named
  have hlocks := B.notSynchronized
  subst hsz
  have hD := hD.self (sz := s.heap.size)
  have hS : va_S (va_A [(d, .inr (3, [.ref d0, .int iv, .ref d1, .ref d2, .ref d3, .ref d4, .int (nI (aN V))]))] s.heap.size) s.heap s.heap [] := va_S.rf
  have hA : ∀ q : Nat, s.heap.size ≤ q → va_A [(d, .inr (3, [.ref d0, .int iv, .ref d1, .ref d2, .ref d3, .ref d4, .int (nI (aN V))]))] s.heap.size q := fun q h => Or.inr h
  generalize va_A [(d, .inr (3, [.ref d0, .int iv, .ref d1, .ref d2, .ref d3, .ref d4, .int (nI (aN V))]))] s.heap.size = A at hD hS hA ⊢
  have hP : va_P g.1 classes [(d, .inr (3, [.ref d0, .int iv, .ref d1, .ref d2, .ref d3, .ref d4, .int (nI (aN V))]))] s.heap := hP
  have hD : va_D A [(d, .inr (3, [.ref d0, .int iv, .ref d1, .ref d2, .ref d3, .ref d4, .int (nI (aN V))]))] := hD
  have hl := lv_entry ([.ref d]) (n := 2) (Nat.le_of_ble_eq_true rfl)
  rw [lg_entry_eq]
  generalize (lg_sl ([.ref d]) ++ List.replicate (2 - (lg_sl ([.ref d])).length) Slot.unset).toArray = ls at hl ⊢
  have hl : lv_has ls 2 [(0, .ref d)] := hl
  refine lv_aload_n hx hb d_Model_clear_0 rfl (lv_at hl 0 rfl) ?_
  refine va_get (D := g.1) (ci := 3) (v := .int (nI (aN V))) (C := R_Model) (T := F_Model) (N := 7) hx hb hc i_Model hown hK hP 0 rfl rfl 6 (by decide) (hc _ kf_Model_31) (fun _ h9 => h9) rfl d_Model_clear_1 ?_
  refine lv_istore_n (lv' := [(1, .int (nI (aN V))), (0, .ref d)]) hx hb d_Model_clear_4 rfl hl (by decide) rfl (fun ls hl => ?_)
  refine lv_aload_n hx hb d_Model_clear_5 rfl (lv_at hl 1 rfl) ?_
  refine lv_iconst (v := 0) hx hb d_Model_clear_6 (by decide) ?_
  refine va_put (D := g.1) (ci := 3) (v := .int 0) (ty := .int) (C := R_Model) (T := F_Model) (N := 7) hx hb hc i_Model t_Model t_Model_ok n_Model hown hK hP hD hS 0 rfl rfl 6 (by decide) (hc _ kf_Model_31) (fun _ h9 => h9) rfl (by decide +kernel) rfl rfl (Nat.le_of_ble_eq_true rfl) d_Model_clear_7 (fun H locs hP hD hS => ?_)
  have hP : va_P g.1 classes [(d, .inr (3, [.ref d0, .int iv, .ref d1, .ref d2, .ref d3, .ref d4, .int 0]))] H := hP
  have hD : va_D A [(d, .inr (3, [.ref d0, .int iv, .ref d1, .ref d2, .ref d3, .ref d4, .int 0]))] := hD
  refine lv_aload_n hx hb d_Model_clear_10 rfl (lv_at hl 1 rfl) ?_
  refine lv_iconst (v := 0) hx hb d_Model_clear_11 (by decide) ?_
  refine va_put (D := g.1) (ci := 3) (v := .int 0) (ty := .int) (C := R_Model) (T := F_Model) (N := 7) hx hb hc i_Model t_Model t_Model_ok n_Model hown hK hP hD hS 0 rfl rfl 1 (by decide) (hc _ kf_Model_25) (fun _ h9 => h9) rfl (by decide +kernel) rfl rfl (Nat.le_of_ble_eq_true rfl) d_Model_clear_12 (fun H locs hP hD hS => ?_)
  have hP : va_P g.1 classes [(d, .inr (3, [.ref d0, .int 0, .ref d1, .ref d2, .ref d3, .ref d4, .int 0]))] H := hP
  have hD : va_D A [(d, .inr (3, [.ref d0, .int 0, .ref d1, .ref d2, .ref d3, .ref d4, .int 0]))] := hD
  refine lv_iload_n hx hb d_Model_clear_15 rfl (lv_at hl 0 rfl) ?_
  exact W.iret (v := nI (aN V)) hx hb hr (fun t9 ht9 hW9 => ⟨⟨_, (), rfl, rfl, by rw [ht9]; exact hP, hD⟩, hS.F ht9⟩) hS.2.2 d_Model_clear_16
set_option maxHeartbeats 4000000 in
set_option maxRecDepth 100000 in
/-- ReferredNamesModel(): five arrays come -/
theorem c_Model_init (l : Launch) (g : GT) (sz : Nat) (d : Nat) : Met l y_Model_init w_Model_init ({ frames := 1, cells := 5, slots := 12660, locals := 12 } : Room) (PcW [.ref d] sz g [(d, .inr (3, [.null, .int 0, .null, .null, .null, .null, .int 0]))]) (va_Qv (fun (u : Nat × Nat × Nat × Nat × Nat) => True) (BW g (va_A [(d, .inr (3, [.null, .int 0, .null, .null, .null, .null, .int 0]))] sz) (fun u : Nat × Nat × Nat × Nat × Nat => [(d, .inr (3, [.ref u.1, .int 0, .ref u.2.1, .ref u.2.2.1, .ref u.2.2.2.1, .ref u.2.2.2.2, .int 0])), (u.1, .inl (cIn g, 60, .inl (fun _ => 0))), (u.2.1, .inl (cIn g, 12000, .inl (fun _ => 0))), (u.2.2.1, .inl (cIn g, 200, .inl (fun _ => 0))), (u.2.2.2.1, .inl (cIn g, 200, .inl (fun _ => 0))), (u.2.2.2.2, .inl (cIn g, 200, .inl (fun _ => 0)))])) (va_A [(d, .inr (3, [.null, .int 0, .null, .null, .null, .null, .int 0]))] sz)) 5 12660 (va_A [(d, .inr (3, [.null, .int 0, .null, .null, .null, .null, .int 0]))] sz) := by
  refine Met.ofW (cc := b_Model_init) (maxL := 1) (ret := none) (by decide) rfl ?_
  intro p e s m args below meth c s₁ B hml hv
  obtain ⟨rfl, hsz, hP, hK, hN, hD⟩ := hv
  have hx := B.exec
  have hb := B.bytes
  have hr := B.returns
  have hc : ∀ w ∈ cmn, w.before ([.ref d] : List Value).toArray s = true := fun w h => atoms_spec (ws := w_Model_init) B.pre w (List.mem_cons_of_mem _ h)
  have hown : s.vm.findClass R_Model = some m.cls := findClass_of_methodNamed B.named
  have hlocks := B.notSynchronized
  have hin : meth.name = "<init>" := (name_of_methodNamed B.named B.method).1
  subst hsz
  have hD := hD.self (sz := s.heap.size)
  have hS : va_S (va_A [(d, .inr (3, [.null, .int 0, .null, .null, .null, .null, .int 0]))] s.heap.size) s.heap s.heap [] := va_S.rf
  have hA : ∀ q : Nat, s.heap.size ≤ q → va_A [(d, .inr (3, [.null, .int 0, .null, .null, .null, .null, .int 0]))] s.heap.size q := fun q h => Or.inr h
  generalize va_A [(d, .inr (3, [.null, .int 0, .null, .null, .null, .null, .int 0]))] s.heap.size = A at hD hS hA ⊢
  have hP : va_P g.1 classes [(d, .inr (3, [.null, .int 0, .null, .null, .null, .null, .int 0]))] s.heap := hP
  have hD : va_D A [(d, .inr (3, [.null, .int 0, .null, .null, .null, .null, .int 0]))] := hD
  have hl := lv_entry ([.ref d]) (n := 1) (Nat.le_of_ble_eq_true rfl)
  rw [lg_entry_eq]
  generalize (lg_sl ([.ref d]) ++ List.replicate (1 - (lg_sl ([.ref d])).length) Slot.unset).toArray = ls at hl ⊢
  have hl : lv_has ls 1 [(0, .ref d)] := hl
  refine lv_aload_n hx hb d_Model_init_0 rfl (lv_at hl 0 rfl) ?_
  refine W.objInit hx hb hown (hc _ km_Model_1) (hc _ ki_Obj_init) (hc _ kc_Obj_init) rfl (by rw [hml]; exact hl.1) rfl d_Model_init_1 (Nat.le_of_ble_eq_true rfl) (Nat.le_of_ble_eq_true rfl) ?_
  refine W.eq (g2 := F0 m 4 ls []) rfl ?_
  refine lv_aload_n hx hb d_Model_init_4 rfl (lv_at hl 0 rfl) ?_
  refine lv_bipush (v := 60) hx hb d_Model_init_5 (by decide) ?_
  refine x_newa (atype := .int) (N' := 60) (a0 := (60, .inl (fun _ => 0))) hx hb (hc _ ka_int) hK hP hD hS hA 1 rfl (fun h => h) (fun _ => rfl) (by decide) (by decide) (by decide) (Nat.le_of_ble_eq_true rfl) (Nat.le_of_ble_eq_true rfl) d_Model_init_7 (fun q0 H hP hD hS => ?_)
  have hP : va_P g.1 classes [(d, .inr (3, [.null, .int 0, .null, .null, .null, .null, .int 0])), (q0, .inl (cIn g, 60, .inl (fun _ => 0)))] H := hP
  have hD : va_D A [(d, .inr (3, [.null, .int 0, .null, .null, .null, .null, .int 0])), (q0, .inl (cIn g, 60, .inl (fun _ => 0)))] := hD
  refine va_putF (D := g.1) (ci := 3) (v := .ref q0) (ty := .array .int) (C := R_Model) (T := F_Model) (N := 7) hx hb hc i_Model t_Model t_Model_ok n_Model hown hK hP hD hS 0 rfl rfl 0 (by decide) (hc _ kf_Model_7) (fun _ h9 => h9) rfl hin rfl (by decide +kernel) rfl rfl (Nat.le_of_ble_eq_true rfl) d_Model_init_9 (fun H locs hP hD hS => ?_)
  have hP : va_P g.1 classes [(d, .inr (3, [.ref q0, .int 0, .null, .null, .null, .null, .int 0])), (q0, .inl (cIn g, 60, .inl (fun _ => 0)))] H := hP
  have hD : va_D A [(d, .inr (3, [.ref q0, .int 0, .null, .null, .null, .null, .int 0])), (q0, .inl (cIn g, 60, .inl (fun _ => 0)))] := hD
  refine lv_aload_n hx hb d_Model_init_12 rfl (lv_at hl 0 rfl) ?_
  refine lv_sipush (v := 12000) hx hb d_Model_init_13 (by decide) ?_
  refine x_newa (atype := .int) (N' := 12000) (a0 := (12000, .inl (fun _ => 0))) hx hb (hc _ ka_int) hK hP hD hS hA 1 rfl (fun h => h) (fun _ => rfl) (by decide) (by decide) (by decide) (Nat.le_of_ble_eq_true rfl) (Nat.le_of_ble_eq_true rfl) d_Model_init_16 (fun q1 H hP hD hS => ?_)
  have hP : va_P g.1 classes [(d, .inr (3, [.ref q0, .int 0, .null, .null, .null, .null, .int 0])), (q0, .inl (cIn g, 60, .inl (fun _ => 0))), (q1, .inl (cIn g, 12000, .inl (fun _ => 0)))] H := hP
  have hD : va_D A [(d, .inr (3, [.ref q0, .int 0, .null, .null, .null, .null, .int 0])), (q0, .inl (cIn g, 60, .inl (fun _ => 0))), (q1, .inl (cIn g, 12000, .inl (fun _ => 0)))] := hD
  refine va_putF (D := g.1) (ci := 3) (v := .ref q1) (ty := .array .int) (C := R_Model) (T := F_Model) (N := 7) hx hb hc i_Model t_Model t_Model_ok n_Model hown hK hP hD hS 0 rfl rfl 2 (by decide) (hc _ kf_Model_13) (fun _ h9 => h9) rfl hin rfl (by decide +kernel) rfl rfl (Nat.le_of_ble_eq_true rfl) d_Model_init_18 (fun H locs hP hD hS => ?_)
  have hP : va_P g.1 classes [(d, .inr (3, [.ref q0, .int 0, .ref q1, .null, .null, .null, .int 0])), (q0, .inl (cIn g, 60, .inl (fun _ => 0))), (q1, .inl (cIn g, 12000, .inl (fun _ => 0)))] H := hP
  have hD : va_D A [(d, .inr (3, [.ref q0, .int 0, .ref q1, .null, .null, .null, .int 0])), (q0, .inl (cIn g, 60, .inl (fun _ => 0))), (q1, .inl (cIn g, 12000, .inl (fun _ => 0)))] := hD
  refine lv_aload_n hx hb d_Model_init_21 rfl (lv_at hl 0 rfl) ?_
  refine lv_sipush (v := 200) hx hb d_Model_init_22 (by decide) ?_
  refine x_newa (atype := .int) (N' := 200) (a0 := (200, .inl (fun _ => 0))) hx hb (hc _ ka_int) hK hP hD hS hA 1 rfl (fun h => h) (fun _ => rfl) (by decide) (by decide) (by decide) (Nat.le_of_ble_eq_true rfl) (Nat.le_of_ble_eq_true rfl) d_Model_init_25 (fun q2 H hP hD hS => ?_)
  have hP : va_P g.1 classes [(d, .inr (3, [.ref q0, .int 0, .ref q1, .null, .null, .null, .int 0])), (q0, .inl (cIn g, 60, .inl (fun _ => 0))), (q1, .inl (cIn g, 12000, .inl (fun _ => 0))), (q2, .inl (cIn g, 200, .inl (fun _ => 0)))] H := hP
  have hD : va_D A [(d, .inr (3, [.ref q0, .int 0, .ref q1, .null, .null, .null, .int 0])), (q0, .inl (cIn g, 60, .inl (fun _ => 0))), (q1, .inl (cIn g, 12000, .inl (fun _ => 0))), (q2, .inl (cIn g, 200, .inl (fun _ => 0)))] := hD
  refine va_putF (D := g.1) (ci := 3) (v := .ref q2) (ty := .array .int) (C := R_Model) (T := F_Model) (N := 7) hx hb hc i_Model t_Model t_Model_ok n_Model hown hK hP hD hS 0 rfl rfl 3 (by decide) (hc _ kf_Model_16) (fun _ h9 => h9) rfl hin rfl (by decide +kernel) rfl rfl (Nat.le_of_ble_eq_true rfl) d_Model_init_27 (fun H locs hP hD hS => ?_)
  have hP : va_P g.1 classes [(d, .inr (3, [.ref q0, .int 0, .ref q1, .ref q2, .null, .null, .int 0])), (q0, .inl (cIn g, 60, .inl (fun _ => 0))), (q1, .inl (cIn g, 12000, .inl (fun _ => 0))), (q2, .inl (cIn g, 200, .inl (fun _ => 0)))] H := hP
  have hD : va_D A [(d, .inr (3, [.ref q0, .int 0, .ref q1, .ref q2, .null, .null, .int 0])), (q0, .inl (cIn g, 60, .inl (fun _ => 0))), (q1, .inl (cIn g, 12000, .inl (fun _ => 0))), (q2, .inl (cIn g, 200, .inl (fun _ => 0)))] := hD
  refine lv_aload_n hx hb d_Model_init_30 rfl (lv_at hl 0 rfl) ?_
  refine lv_sipush (v := 200) hx hb d_Model_init_31 (by decide) ?_
  refine x_newa (atype := .int) (N' := 200) (a0 := (200, .inl (fun _ => 0))) hx hb (hc _ ka_int) hK hP hD hS hA 1 rfl (fun h => h) (fun _ => rfl) (by decide) (by decide) (by decide) (Nat.le_of_ble_eq_true rfl) (Nat.le_of_ble_eq_true rfl) d_Model_init_34 (fun q3 H hP hD hS => ?_)
  have hP : va_P g.1 classes [(d, .inr (3, [.ref q0, .int 0, .ref q1, .ref q2, .null, .null, .int 0])), (q0, .inl (cIn g, 60, .inl (fun _ => 0))), (q1, .inl (cIn g, 12000, .inl (fun _ => 0))), (q2, .inl (cIn g, 200, .inl (fun _ => 0))), (q3, .inl (cIn g, 200, .inl (fun _ => 0)))] H := hP
  have hD : va_D A [(d, .inr (3, [.ref q0, .int 0, .ref q1, .ref q2, .null, .null, .int 0])), (q0, .inl (cIn g, 60, .inl (fun _ => 0))), (q1, .inl (cIn g, 12000, .inl (fun _ => 0))), (q2, .inl (cIn g, 200, .inl (fun _ => 0))), (q3, .inl (cIn g, 200, .inl (fun _ => 0)))] := hD
  refine va_putF (D := g.1) (ci := 3) (v := .ref q3) (ty := .array .int) (C := R_Model) (T := F_Model) (N := 7) hx hb hc i_Model t_Model t_Model_ok n_Model hown hK hP hD hS 0 rfl rfl 4 (by decide) (hc _ kf_Model_19) (fun _ h9 => h9) rfl hin rfl (by decide +kernel) rfl rfl (Nat.le_of_ble_eq_true rfl) d_Model_init_36 (fun H locs hP hD hS => ?_)
  have hP : va_P g.1 classes [(d, .inr (3, [.ref q0, .int 0, .ref q1, .ref q2, .ref q3, .null, .int 0])), (q0, .inl (cIn g, 60, .inl (fun _ => 0))), (q1, .inl (cIn g, 12000, .inl (fun _ => 0))), (q2, .inl (cIn g, 200, .inl (fun _ => 0))), (q3, .inl (cIn g, 200, .inl (fun _ => 0)))] H := hP
  have hD : va_D A [(d, .inr (3, [.ref q0, .int 0, .ref q1, .ref q2, .ref q3, .null, .int 0])), (q0, .inl (cIn g, 60, .inl (fun _ => 0))), (q1, .inl (cIn g, 12000, .inl (fun _ => 0))), (q2, .inl (cIn g, 200, .inl (fun _ => 0))), (q3, .inl (cIn g, 200, .inl (fun _ => 0)))] := hD
  refine lv_aload_n hx hb d_Model_init_39 rfl (lv_at hl 0 rfl) ?_
  refine lv_sipush (v := 200) hx hb d_Model_init_40 (by decide) ?_
  refine x_newa (atype := .int) (N' := 200) (a0 := (200, .inl (fun _ => 0))) hx hb (hc _ ka_int) hK hP hD hS hA 1 rfl (fun h => h) (fun _ => rfl) (by decide) (by decide) (by decide) (Nat.le_of_ble_eq_true rfl) (Nat.le_of_ble_eq_true rfl) d_Model_init_43 (fun q4 H hP hD hS => ?_)
  have hP : va_P g.1 classes [(d, .inr (3, [.ref q0, .int 0, .ref q1, .ref q2, .ref q3, .null, .int 0])), (q0, .inl (cIn g, 60, .inl (fun _ => 0))), (q1, .inl (cIn g, 12000, .inl (fun _ => 0))), (q2, .inl (cIn g, 200, .inl (fun _ => 0))), (q3, .inl (cIn g, 200, .inl (fun _ => 0))), (q4, .inl (cIn g, 200, .inl (fun _ => 0)))] H := hP
  have hD : va_D A [(d, .inr (3, [.ref q0, .int 0, .ref q1, .ref q2, .ref q3, .null, .int 0])), (q0, .inl (cIn g, 60, .inl (fun _ => 0))), (q1, .inl (cIn g, 12000, .inl (fun _ => 0))), (q2, .inl (cIn g, 200, .inl (fun _ => 0))), (q3, .inl (cIn g, 200, .inl (fun _ => 0))), (q4, .inl (cIn g, 200, .inl (fun _ => 0)))] := hD
  refine va_putF (D := g.1) (ci := 3) (v := .ref q4) (ty := .array .int) (C := R_Model) (T := F_Model) (N := 7) hx hb hc i_Model t_Model t_Model_ok n_Model hown hK hP hD hS 0 rfl rfl 5 (by decide) (hc _ kf_Model_22) (fun _ h9 => h9) rfl hin rfl (by decide +kernel) rfl rfl (Nat.le_of_ble_eq_true rfl) d_Model_init_45 (fun H locs hP hD hS => ?_)
  have hP : va_P g.1 classes [(d, .inr (3, [.ref q0, .int 0, .ref q1, .ref q2, .ref q3, .ref q4, .int 0])), (q0, .inl (cIn g, 60, .inl (fun _ => 0))), (q1, .inl (cIn g, 12000, .inl (fun _ => 0))), (q2, .inl (cIn g, 200, .inl (fun _ => 0))), (q3, .inl (cIn g, 200, .inl (fun _ => 0))), (q4, .inl (cIn g, 200, .inl (fun _ => 0)))] H := hP
  have hD : va_D A [(d, .inr (3, [.ref q0, .int 0, .ref q1, .ref q2, .ref q3, .ref q4, .int 0])), (q0, .inl (cIn g, 60, .inl (fun _ => 0))), (q1, .inl (cIn g, 12000, .inl (fun _ => 0))), (q2, .inl (cIn g, 200, .inl (fun _ => 0))), (q3, .inl (cIn g, 200, .inl (fun _ => 0))), (q4, .inl (cIn g, 200, .inl (fun _ => 0)))] := hD
  refine W.widen (k := 5) (n := 12660) (Nat.le_of_ble_eq_true rfl) (Nat.le_of_ble_eq_true rfl) ?_
  exact W.vret hx hb hr (fun t9 ht9 hW9 => ⟨⟨(q0, q1, q2, q3, q4), rfl, trivial, by rw [ht9]; exact hP, hD⟩, hS.F ht9⟩) hS.2.2 d_Model_init_48
end
section
/-! THE CLAIM OUT OF ONE WALK OF THE LAW'S BODY. Your part is whole_start (and what it stands on); all else here is the same for every law, but numbers. -/
def lw_P (b : Addr) (xs : List Int32) (args : Array Value) (s : State) : Prop := args = #[.ref b] ∧ s.IntsAt b xs ∧ xs.length ≤ 2048 ∧ (Jvm.Cond.and given_1 narrow_1).before args s = true
def lw_Q (_ : Array Value) (s : State) (o : Outcome) (t : State) : Prop := o = .returned (some (.int 1)) ∧ Framed s o t [] 16 25856
def lw_Z (below : List Frame) (a : Array Value) (s : State) : State → Prop := fun t => ∃ o, t.status = .running ∧ Ended t below o ∧ lw_Q a s o t
/-- the law's own end, with 1 on the stack, nothing written that was there before, its room as the claim has it -/
theorem lw_ret {p : Program} {l : Launch} {e : Env} {s : State} {m : MethodId} {below : List Frame} {meth : Method} {c : Code} {b : Nat} (hx : p.tables.exec = Jvm.exec) (hb : c.code = code) (hr : meth.sig.returnType = ret) (hlocks : meth.locks = false) {pc : Nat} {H : Heap} {ls : Array Slot} (hdg : decode code pc = .ok (.ireturn, 1)) : W p l e room_1 s m #[Value.ref b] below meth c H [] 16 25856 (lw_Z below #[Value.ref b] s) (F0 m pc ls [.int 1]) := by
  intro T hT X
  obtain ⟨fs, hret, hrun, hended, hW, hframe⟩ := X.leave (v := some (.int 1)) (hlocks := hlocks) (fun h => by rw [hr] at h; cases h)
  have hmeth' : T.vm.method? m = some meth := X.method'
  refine ⟨T.setFrames fs, ?_, .returned (some (.int 1)), hrun, hended, rfl, ⟨_, rfl⟩, hW, hframe⟩
  jvm_step X.here [X.here.top, hx, hb, hdg, hmeth', hr, ret, narrow_b1]
  (try refine ⟨rfl, ?_⟩); (try refine ⟨rfl, ?_⟩)
  first | (intro acts; rw [hret _ acts rfl rfl rfl]) | rw [hret _ _ rfl rfl rfl]
  exact Steps.refl _
/-- what holds at the law's entry: the machine, the code, the tables' words (any of lw_tbl by 'hts w (by decide +kernel)'), the script of L ints xs at the cell b, what the Statement gives of the start (any of its parts by flat_of_before) -/
def lw_At (p : Program) (s : State) (m : MethodId) (meth : Method) (c : Code) (b L : Nat) (xs : Nat → Int32) : Prop :=
  p.tables.exec = Jvm.exec ∧ c.code = code ∧ meth.sig.returnType = ret ∧ c.maxLocals = 4 ∧ s.vm.findClass R_law = some m.cls ∧ (∀ w ∈ lw_tbl, w.before #[Value.ref b] s = true) ∧ va_X b L xs s s.heap ∧ b < s.heap.size ∧ meth.locks = false ∧ (Jvm.Cond.and given_1 narrow_1).before #[Value.ref b] s = true
/-! THE LAW: what it starts from -/
theorem x_cls {args : Array Value} {s : State} {ty : FieldType} (h : (Cond.arrayClass ty).before args s = true) (hra : ∀ {U : State} {x : ClassId}, U.vm.findClass ("[" ++ ty.toString) = some x → va_RA U x ty) : ∃ cA : ClassId, ArrOfT s cA ty ∧ va_RA s cA ty := by
  obtain ⟨cA, kA, comp, h1, h2, h3⟩ := Cond.arrayClass_spec h
  exact ⟨cA, fun n z => ⟨fun k h => (by cases h), kA, h2, comp, h3⟩, hra h1⟩
theorem x_known {args : Array Value} {s : State} (hc : ∀ w ∈ cmn, w.before args s = true) : ∃ g : GT, va_K g.1 classes (tysG g) s := by
  obtain ⟨c0, iS0, hKn0⟩ := u_known (C := R_RN) (T := F_RN) (N := 2) (n := 2) hc i_RN (hc _ kz_RN)
  obtain ⟨c1, iS1, hKn1⟩ := u_known (C := R_Hand) (T := F_Hand) (N := 2) (n := 2) hc i_Hand (hc _ kz_Hand)
  obtain ⟨c2, iS2, hKn2⟩ := u_known (C := R_Marks) (T := F_Marks) (N := 8) (n := 8) hc i_Marks (hc _ kz_Marks)
  obtain ⟨c3, iS3, hKn3⟩ := u_known (C := R_Model) (T := F_Model) (N := 7) (n := 7) hc i_Model (hc _ kz_Model)
  obtain ⟨cB, hB⟩ := x_cls (hc _ ka_byte) (fun h => h)
  obtain ⟨cI, hI⟩ := x_cls (hc _ ka_int) (fun h => h)
  obtain ⟨cS, hS⟩ := x_cls (hc _ ka_short) (fun h => h)
  obtain ⟨cL, hL⟩ := x_cls (hc _ ka_long) (fun h => h)
  refine ⟨((fun k => if k = 0 then c0 else if k = 1 then c1 else if k = 2 then c2 else c3, fun k => if k = 0 then iS0 else if k = 1 then iS1 else if k = 2 then iS2 else iS3), cB, cI, cS, cL), ?_, ?_⟩
  · intro k q hq
    match k, hq with
    | 0, hq => cases hq; exact hKn0
    | 1, hq => cases hq; exact hKn1
    | 2, hq => cases hq; exact hKn2
    | 3, hq => cases hq; exact hKn3
    | k + 4, hq => simp [classes] at hq
  · intro k q hq
    match k, hq with
    | 0, hq => cases hq; exact hB
    | 1, hq => cases hq; exact hI
    | 2, hq => cases hq; exact hS
    | 3, hq => cases hq; exact hL
    | k + 4, hq => simp [tysG] at hq
theorem x_sld {p : Program} {l : Launch} {e : Env} {R : Room} {s : State} {m : MethodId} {args : Array Value} {below : List Frame} {meth : Method} {c : Code} {H : Heap} {locs : List Loc} {cells slots : Nat} {Q : State → Prop} {cc : ByteArray} {pc : Nat} {ls : Array Slot} {rest : List Value} {A : Nat → Prop} (hexec : p.tables.exec = Jvm.exec) (hb : c.code = cc) {b L : Nat} {xs : Nat → Int32} (hX : va_X b L xs s s.heap) (hbl : b < s.heap.size) (hbA : ¬ A b) (hS : va_S A s.heap H locs) {k : Nat} (hk : k < L) (hL : L < 2 ^ 31) (hdg : decode cc pc = .ok (.iaload, 1))
    (kk : W p l e R s m args below meth c H locs cells slots Q (F0 m (pc + 1) ls (.int (xs k) :: rest))) : W p l e R s m args below meth c H locs cells slots Q (F0 m pc ls (.int (nI k) :: .ref b :: rest)) :=
  va_sld hexec hb hX hbl hbA hS (vp_in_nI hk hL) hdg (by rw [nI_clamp (Nat.lt_trans hk hL)]; exact kk)
theorem law_end {L i : Nat} (hL : L ≤ 2048) (hi : i ≤ L + 4) : (nI L - 4 < nI i ↔ L < i + 4) := by
  rcases Nat.lt_or_ge L 4 with h | h
  · have h1 : nI L - 4 < 0 := pk_sneg (a := L) (b := 4) (by decide) h
    exact ⟨fun _ => by omega, fun _ => Int32.lt_of_lt_of_le h1 (nI_pos' (by omega))⟩
  · have h1 : nI L - 4 = nI (L - 4) := pk_sub (a := L) (b := 4) h
    rw [h1, nI_ltI (by omega) (by omega)]
    omega
theorem d_law_0 : decode code 0 = .ok (.new 7, 3) := by decide +kernel
theorem d_law_3 : decode code 3 = .ok (.dup, 1) := by decide +kernel
theorem d_law_4 : decode code 4 = .ok (.invokespecial 9, 3) := by decide +kernel
theorem d_law_7 : decode code 7 = .ok (.astore_n 1, 1) := by decide +kernel
theorem d_law_8 : decode code 8 = .ok (.new 10, 3) := by decide +kernel
theorem d_law_11 : decode code 11 = .ok (.dup, 1) := by decide +kernel
theorem d_law_12 : decode code 12 = .ok (.invokespecial 12, 3) := by decide +kernel
theorem d_law_15 : decode code 15 = .ok (.astore_n 2, 1) := by decide +kernel
theorem d_law_16 : decode code 16 = .ok (.iconst 0, 1) := by decide +kernel
theorem d_law_17 : decode code 17 = .ok (.istore_n 3, 1) := by decide +kernel
theorem d_law_18 : decode code 18 = .ok (.iload_n 3, 1) := by decide +kernel
theorem d_law_19 : decode code 19 = .ok (.aload_n 0, 1) := by decide +kernel
theorem d_law_20 : decode code 20 = .ok (.arraylength, 1) := by decide +kernel
theorem d_law_21 : decode code 21 = .ok (.iconst 4, 1) := by decide +kernel
theorem d_law_22 : decode code 22 = .ok (.isub, 1) := by decide +kernel
theorem d_law_23 : decode code 23 = .ok (.if_icmp .gt 267, 3) := by decide +kernel
theorem d_law_26 : decode code 26 = .ok (.aload_n 0, 1) := by decide +kernel
theorem d_law_27 : decode code 27 = .ok (.iload_n 3, 1) := by decide +kernel
theorem d_law_28 : decode code 28 = .ok (.iaload, 1) := by decide +kernel
theorem d_law_29 : decode code 29 = .ok (.bipush 7, 2) := by decide +kernel
theorem d_law_31 : decode code 31 = .ok (.iand, 1) := by decide +kernel
theorem d_law_32 : decode code 32 = .ok (.tableswitch 252 0 7 #[48, 111, 124, 137, 150, 183, 216, 239], 48) := by decide +kernel
theorem d_law_80 : decode code 80 = .ok (.aload_n 1, 1) := by decide +kernel
theorem d_law_81 : decode code 81 = .ok (.aload_n 0, 1) := by decide +kernel
theorem d_law_82 : decode code 82 = .ok (.iload_n 3, 1) := by decide +kernel
theorem d_law_83 : decode code 83 = .ok (.iconst 1, 1) := by decide +kernel
theorem d_law_84 : decode code 84 = .ok (.iadd, 1) := by decide +kernel
theorem d_law_85 : decode code 85 = .ok (.iaload, 1) := by decide +kernel
theorem d_law_86 : decode code 86 = .ok (.i2l, 1) := by decide +kernel
theorem d_law_87 : decode code 87 = .ok (.bipush 32, 2) := by decide +kernel
theorem d_law_89 : decode code 89 = .ok (.lshl, 1) := by decide +kernel
theorem d_law_90 : decode code 90 = .ok (.aload_n 0, 1) := by decide +kernel
theorem d_law_91 : decode code 91 = .ok (.iload_n 3, 1) := by decide +kernel
theorem d_law_92 : decode code 92 = .ok (.iconst 2, 1) := by decide +kernel
theorem d_law_93 : decode code 93 = .ok (.iadd, 1) := by decide +kernel
theorem d_law_94 : decode code 94 = .ok (.iaload, 1) := by decide +kernel
theorem d_law_95 : decode code 95 = .ok (.i2l, 1) := by decide +kernel
theorem d_law_96 : decode code 96 = .ok (.ldc2_w 13, 3) := by decide +kernel
theorem d_law_99 : decode code 99 = .ok (.land, 1) := by decide +kernel
theorem d_law_100 : decode code 100 = .ok (.lor, 1) := by decide +kernel
theorem d_law_101 : decode code 101 = .ok (.aload_n 0, 1) := by decide +kernel
theorem d_law_102 : decode code 102 = .ok (.iload_n 3, 1) := by decide +kernel
theorem d_law_103 : decode code 103 = .ok (.iconst 3, 1) := by decide +kernel
theorem d_law_104 : decode code 104 = .ok (.iadd, 1) := by decide +kernel
theorem d_law_105 : decode code 105 = .ok (.iaload, 1) := by decide +kernel
theorem d_law_106 : decode code 106 = .ok (.invokevirtual 15, 3) := by decide +kernel
theorem d_law_109 : decode code 109 = .ok (.aload_n 2, 1) := by decide +kernel
theorem d_law_110 : decode code 110 = .ok (.aload_n 0, 1) := by decide +kernel
theorem d_law_111 : decode code 111 = .ok (.iload_n 3, 1) := by decide +kernel
theorem d_law_112 : decode code 112 = .ok (.iconst 1, 1) := by decide +kernel
theorem d_law_113 : decode code 113 = .ok (.iadd, 1) := by decide +kernel
theorem d_law_114 : decode code 114 = .ok (.iaload, 1) := by decide +kernel
theorem d_law_115 : decode code 115 = .ok (.i2l, 1) := by decide +kernel
theorem d_law_116 : decode code 116 = .ok (.bipush 32, 2) := by decide +kernel
theorem d_law_118 : decode code 118 = .ok (.lshl, 1) := by decide +kernel
theorem d_law_119 : decode code 119 = .ok (.aload_n 0, 1) := by decide +kernel
theorem d_law_120 : decode code 120 = .ok (.iload_n 3, 1) := by decide +kernel
theorem d_law_121 : decode code 121 = .ok (.iconst 2, 1) := by decide +kernel
theorem d_law_122 : decode code 122 = .ok (.iadd, 1) := by decide +kernel
theorem d_law_123 : decode code 123 = .ok (.iaload, 1) := by decide +kernel
theorem d_law_124 : decode code 124 = .ok (.i2l, 1) := by decide +kernel
theorem d_law_125 : decode code 125 = .ok (.ldc2_w 13, 3) := by decide +kernel
theorem d_law_128 : decode code 128 = .ok (.land, 1) := by decide +kernel
theorem d_law_129 : decode code 129 = .ok (.lor, 1) := by decide +kernel
theorem d_law_130 : decode code 130 = .ok (.aload_n 0, 1) := by decide +kernel
theorem d_law_131 : decode code 131 = .ok (.iload_n 3, 1) := by decide +kernel
theorem d_law_132 : decode code 132 = .ok (.iconst 3, 1) := by decide +kernel
theorem d_law_133 : decode code 133 = .ok (.iadd, 1) := by decide +kernel
theorem d_law_134 : decode code 134 = .ok (.iaload, 1) := by decide +kernel
theorem d_law_135 : decode code 135 = .ok (.invokevirtual 19, 3) := by decide +kernel
theorem d_law_138 : decode code 138 = .ok (.if_icmp .eq 146, 3) := by decide +kernel
theorem d_law_141 : decode code 141 = .ok (.iconst 0, 1) := by decide +kernel
theorem d_law_142 : decode code 142 = .ok (.ireturn, 1) := by decide +kernel
theorem d_law_143 : decode code 143 = .ok (.aload_n 1, 1) := by decide +kernel
theorem d_law_144 : decode code 144 = .ok (.invokevirtual 20, 3) := by decide +kernel
theorem d_law_147 : decode code 147 = .ok (.aload_n 2, 1) := by decide +kernel
theorem d_law_148 : decode code 148 = .ok (.invokevirtual 24, 3) := by decide +kernel
theorem d_law_151 : decode code 151 = .ok (.if_icmp .eq 133, 3) := by decide +kernel
theorem d_law_154 : decode code 154 = .ok (.iconst 0, 1) := by decide +kernel
theorem d_law_155 : decode code 155 = .ok (.ireturn, 1) := by decide +kernel
theorem d_law_156 : decode code 156 = .ok (.aload_n 1, 1) := by decide +kernel
theorem d_law_157 : decode code 157 = .ok (.invokevirtual 25, 3) := by decide +kernel
theorem d_law_160 : decode code 160 = .ok (.aload_n 2, 1) := by decide +kernel
theorem d_law_161 : decode code 161 = .ok (.invokevirtual 28, 3) := by decide +kernel
theorem d_law_164 : decode code 164 = .ok (.if_icmp .eq 120, 3) := by decide +kernel
theorem d_law_167 : decode code 167 = .ok (.iconst 0, 1) := by decide +kernel
theorem d_law_168 : decode code 168 = .ok (.ireturn, 1) := by decide +kernel
theorem d_law_169 : decode code 169 = .ok (.aload_n 1, 1) := by decide +kernel
theorem d_law_170 : decode code 170 = .ok (.invokevirtual 29, 3) := by decide +kernel
theorem d_law_173 : decode code 173 = .ok (.aload_n 2, 1) := by decide +kernel
theorem d_law_174 : decode code 174 = .ok (.invokevirtual 32, 3) := by decide +kernel
theorem d_law_177 : decode code 177 = .ok (.if_icmp .eq 107, 3) := by decide +kernel
theorem d_law_180 : decode code 180 = .ok (.iconst 0, 1) := by decide +kernel
theorem d_law_181 : decode code 181 = .ok (.ireturn, 1) := by decide +kernel
theorem d_law_182 : decode code 182 = .ok (.aload_n 1, 1) := by decide +kernel
theorem d_law_183 : decode code 183 = .ok (.aload_n 0, 1) := by decide +kernel
theorem d_law_184 : decode code 184 = .ok (.iload_n 3, 1) := by decide +kernel
theorem d_law_185 : decode code 185 = .ok (.iconst 1, 1) := by decide +kernel
theorem d_law_186 : decode code 186 = .ok (.iadd, 1) := by decide +kernel
theorem d_law_187 : decode code 187 = .ok (.iaload, 1) := by decide +kernel
theorem d_law_188 : decode code 188 = .ok (.aload_n 0, 1) := by decide +kernel
theorem d_law_189 : decode code 189 = .ok (.iload_n 3, 1) := by decide +kernel
theorem d_law_190 : decode code 190 = .ok (.iconst 2, 1) := by decide +kernel
theorem d_law_191 : decode code 191 = .ok (.iadd, 1) := by decide +kernel
theorem d_law_192 : decode code 192 = .ok (.iaload, 1) := by decide +kernel
theorem d_law_193 : decode code 193 = .ok (.invokevirtual 33, 3) := by decide +kernel
theorem d_law_196 : decode code 196 = .ok (.aload_n 2, 1) := by decide +kernel
theorem d_law_197 : decode code 197 = .ok (.aload_n 0, 1) := by decide +kernel
theorem d_law_198 : decode code 198 = .ok (.iload_n 3, 1) := by decide +kernel
theorem d_law_199 : decode code 199 = .ok (.iconst 1, 1) := by decide +kernel
theorem d_law_200 : decode code 200 = .ok (.iadd, 1) := by decide +kernel
theorem d_law_201 : decode code 201 = .ok (.iaload, 1) := by decide +kernel
theorem d_law_202 : decode code 202 = .ok (.aload_n 0, 1) := by decide +kernel
theorem d_law_203 : decode code 203 = .ok (.iload_n 3, 1) := by decide +kernel
theorem d_law_204 : decode code 204 = .ok (.iconst 2, 1) := by decide +kernel
theorem d_law_205 : decode code 205 = .ok (.iadd, 1) := by decide +kernel
theorem d_law_206 : decode code 206 = .ok (.iaload, 1) := by decide +kernel
theorem d_law_207 : decode code 207 = .ok (.invokevirtual 37, 3) := by decide +kernel
theorem d_law_210 : decode code 210 = .ok (.if_icmp .eq 74, 3) := by decide +kernel
theorem d_law_213 : decode code 213 = .ok (.iconst 0, 1) := by decide +kernel
theorem d_law_214 : decode code 214 = .ok (.ireturn, 1) := by decide +kernel
theorem d_law_215 : decode code 215 = .ok (.aload_n 1, 1) := by decide +kernel
theorem d_law_216 : decode code 216 = .ok (.aload_n 0, 1) := by decide +kernel
theorem d_law_217 : decode code 217 = .ok (.iload_n 3, 1) := by decide +kernel
theorem d_law_218 : decode code 218 = .ok (.iconst 1, 1) := by decide +kernel
theorem d_law_219 : decode code 219 = .ok (.iadd, 1) := by decide +kernel
theorem d_law_220 : decode code 220 = .ok (.iaload, 1) := by decide +kernel
theorem d_law_221 : decode code 221 = .ok (.aload_n 0, 1) := by decide +kernel
theorem d_law_222 : decode code 222 = .ok (.iload_n 3, 1) := by decide +kernel
theorem d_law_223 : decode code 223 = .ok (.iconst 2, 1) := by decide +kernel
theorem d_law_224 : decode code 224 = .ok (.iadd, 1) := by decide +kernel
theorem d_law_225 : decode code 225 = .ok (.iaload, 1) := by decide +kernel
theorem d_law_226 : decode code 226 = .ok (.invokevirtual 38, 3) := by decide +kernel
theorem d_law_229 : decode code 229 = .ok (.aload_n 2, 1) := by decide +kernel
theorem d_law_230 : decode code 230 = .ok (.aload_n 0, 1) := by decide +kernel
theorem d_law_231 : decode code 231 = .ok (.iload_n 3, 1) := by decide +kernel
theorem d_law_232 : decode code 232 = .ok (.iconst 1, 1) := by decide +kernel
theorem d_law_233 : decode code 233 = .ok (.iadd, 1) := by decide +kernel
theorem d_law_234 : decode code 234 = .ok (.iaload, 1) := by decide +kernel
theorem d_law_235 : decode code 235 = .ok (.aload_n 0, 1) := by decide +kernel
theorem d_law_236 : decode code 236 = .ok (.iload_n 3, 1) := by decide +kernel
theorem d_law_237 : decode code 237 = .ok (.iconst 2, 1) := by decide +kernel
theorem d_law_238 : decode code 238 = .ok (.iadd, 1) := by decide +kernel
theorem d_law_239 : decode code 239 = .ok (.iaload, 1) := by decide +kernel
theorem d_law_240 : decode code 240 = .ok (.invokevirtual 41, 3) := by decide +kernel
theorem d_law_243 : decode code 243 = .ok (.if_icmp .eq 41, 3) := by decide +kernel
theorem d_law_246 : decode code 246 = .ok (.iconst 0, 1) := by decide +kernel
theorem d_law_247 : decode code 247 = .ok (.ireturn, 1) := by decide +kernel
theorem d_law_248 : decode code 248 = .ok (.aload_n 1, 1) := by decide +kernel
theorem d_law_249 : decode code 249 = .ok (.aload_n 0, 1) := by decide +kernel
theorem d_law_250 : decode code 250 = .ok (.iload_n 3, 1) := by decide +kernel
theorem d_law_251 : decode code 251 = .ok (.iconst 1, 1) := by decide +kernel
theorem d_law_252 : decode code 252 = .ok (.iadd, 1) := by decide +kernel
theorem d_law_253 : decode code 253 = .ok (.iaload, 1) := by decide +kernel
theorem d_law_254 : decode code 254 = .ok (.invokevirtual 42, 3) := by decide +kernel
theorem d_law_257 : decode code 257 = .ok (.aload_n 2, 1) := by decide +kernel
theorem d_law_258 : decode code 258 = .ok (.aload_n 0, 1) := by decide +kernel
theorem d_law_259 : decode code 259 = .ok (.iload_n 3, 1) := by decide +kernel
theorem d_law_260 : decode code 260 = .ok (.iconst 1, 1) := by decide +kernel
theorem d_law_261 : decode code 261 = .ok (.iadd, 1) := by decide +kernel
theorem d_law_262 : decode code 262 = .ok (.iaload, 1) := by decide +kernel
theorem d_law_263 : decode code 263 = .ok (.invokevirtual 46, 3) := by decide +kernel
theorem d_law_266 : decode code 266 = .ok (.if_icmp .eq 18, 3) := by decide +kernel
theorem d_law_269 : decode code 269 = .ok (.iconst 0, 1) := by decide +kernel
theorem d_law_270 : decode code 270 = .ok (.ireturn, 1) := by decide +kernel
theorem d_law_271 : decode code 271 = .ok (.aload_n 1, 1) := by decide +kernel
theorem d_law_272 : decode code 272 = .ok (.invokevirtual 47, 3) := by decide +kernel
theorem d_law_275 : decode code 275 = .ok (.aload_n 2, 1) := by decide +kernel
theorem d_law_276 : decode code 276 = .ok (.invokevirtual 50, 3) := by decide +kernel
theorem d_law_279 : decode code 279 = .ok (.if_icmp .eq 5, 3) := by decide +kernel
theorem d_law_282 : decode code 282 = .ok (.iconst 0, 1) := by decide +kernel
theorem d_law_283 : decode code 283 = .ok (.ireturn, 1) := by decide +kernel
theorem d_law_284 : decode code 284 = .ok (.iinc 3 4, 3) := by decide +kernel
theorem d_law_287 : decode code 287 = .ok (.goto (-269), 3) := by decide +kernel
theorem d_law_290 : decode code 290 = .ok (.iconst 1, 1) := by decide +kernel
theorem d_law_291 : decode code 291 = .ok (.ireturn, 1) := by decide +kernel
def LInv (g : GT) (A : Nat → Prop) (o a a0 a1 a2 a3 a4 a5 y y0 d d0 d1 d2 d3 d4 i : Nat) (H : Heap) : Prop := ∃ (V : AS) (h : Nat) (nb : Nat → Nat) (fb bg fg fr sl f mh mb mz mg mr : Nat → Int32) (ms : Nat → Int64) (sv vv kv : Int32), AOk V i ∧ HOk h nb ∧ (∀ k, k < h → f k = sb_b (nb k)) ∧ MInv V fb bg fg fr sl ms sv vv ∧ (∀ k, k < h → mh k = nI (nb k)) ∧ TInv V mb mz mg mr kv ∧ va_P g.1 classes [(o, .inr (0, [.ref y, .ref a])), (y, .inr (1, [.ref y0, .int (nI h)])), (y0, .inl (cBy g, 60, .inl f)), (a, .inr (2, [.ref a0, .ref a1, .ref a2, .ref a3, .ref a4, .ref a5, .int sv, .int vv])), (a0, .inl (cBy g, 12000, .inl fb)), (a1, .inl (cIn g, 201, .inl bg)), (a2, .inl (cIn g, 200, .inl fg)), (a3, .inl (cIn g, 200, .inl fr)), (a4, .inl (cSh g, 512, .inl sl)), (a5, .inl (cLo g, 4, .inr (.inl ms))), (d, .inr (3, [.ref d0, .int (nI h), .ref d1, .ref d2, .ref d3, .ref d4, .int kv])), (d0, .inl (cIn g, 60, .inl mh)), (d1, .inl (cIn g, 12000, .inl mb)), (d2, .inl (cIn g, 200, .inl mz)), (d3, .inl (cIn g, 200, .inl mg)), (d4, .inl (cIn g, 200, .inl mr))] H ∧ va_D A [(o, .inr (0, [.ref y, .ref a])), (y, .inr (1, [.ref y0, .int (nI h)])), (y0, .inl (cBy g, 60, .inl f)), (a, .inr (2, [.ref a0, .ref a1, .ref a2, .ref a3, .ref a4, .ref a5, .int sv, .int vv])), (a0, .inl (cBy g, 12000, .inl fb)), (a1, .inl (cIn g, 201, .inl bg)), (a2, .inl (cIn g, 200, .inl fg)), (a3, .inl (cIn g, 200, .inl fr)), (a4, .inl (cSh g, 512, .inl sl)), (a5, .inl (cLo g, 4, .inr (.inl ms))), (d, .inr (3, [.ref d0, .int (nI h), .ref d1, .ref d2, .ref d3, .ref d4, .int kv])), (d0, .inl (cIn g, 60, .inl mh)), (d1, .inl (cIn g, 12000, .inl mb)), (d2, .inl (cIn g, 200, .inl mz)), (d3, .inl (cIn g, 200, .inl mg)), (d4, .inl (cIn g, 200, .inl mr))]
theorem law_V0 : AOk (0, fun _ => 0, fun _ _ => 0, fun _ => 0, fun _ => 0) 0 := ⟨Nat.zero_le _, fun k hk => absurd hk (Nat.not_lt_zero _), fun j k hj => absurd hj (Nat.not_lt_zero _)⟩
theorem law_M0 {sl : Nat → Int32} {ms : Nat → Int64} (h1 : ∀ s1, s1 < 512 → sl s1 = -1) (h2 : ∀ x, x < 4 → ms x = 0) : MInv (0, fun _ => 0, fun _ _ => 0, fun _ => 0, fun _ => 0) (fun _ => 0) (fun _ => 0) (fun _ => 0) (fun _ => 0) sl ms 0 0 := by
  refine ⟨rfl, rfl, ⟨fun k hk => ?_, fun k hk => absurd hk (Nat.not_lt_zero _)⟩, fun k hk => absurd hk (Nat.not_lt_zero _), fun k hk => ?_, fun s1 hs => Or.inl (h1 s1 hs), fun k hk => absurd hk (Nat.not_lt_zero _), ?_⟩
  · obtain rfl : k = 0 := Nat.le_zero.mp hk
    rfl
  · rw [h2 (k / 64) (by omega), misN_n (Nat.zero_le _)]
    exact BitVec.getLsbD_zero
  · refine cnt_all 512 (fun k hk => ?_)
    rw [h1 k hk]
    decide
theorem law_T0 : TInv (0, fun _ => 0, fun _ _ => 0, fun _ => 0, fun _ => 0) (fun _ => 0) (fun _ => 0) (fun _ => 0) (fun _ => 0) 0 := ⟨rfl, fun k hk => absurd hk (Nat.not_lt_zero _)⟩
set_option maxHeartbeats 8000000 in
set_option maxRecDepth 100000 in
/-- the law, from its entry -/
theorem whole_start {p : Program} {e : Env} {s : State} {m : MethodId} {below : List Frame} {meth : Method} {c : Code} (l : Launch) {b L : Nat} {xs : Nat → Int32} (hL : L ≤ 2048) (C0 : lw_At p s m meth c b L xs) : W p l e room_1 s m #[Value.ref b] below meth c s.heap [] 0 0 (lw_Z below #[Value.ref b] s) (entryFrame m ([Value.ref b] : List Value).toArray 4) := by
  obtain ⟨hx, hb, hr, hml, hown, hts, hX, hbl, hlocks, hgv⟩ := C0
  have hc : ∀ w ∈ cmn, w.before #[Value.ref b] s = true := fun w h => hts w (cmn_t h).1
  have hN : NW s := NW.of hts
  obtain ⟨g, hK⟩ := x_known hc
  obtain ⟨A, hAe⟩ : ∃ A : Nat → Prop, A = fun q => s.heap.size ≤ q := ⟨_, rfl⟩
  have hA : ∀ q : Nat, s.heap.size ≤ q → A q := by rw [hAe]; exact fun _ h => h
  have hbA : ¬ A b := by rw [hAe]; exact Nat.not_le.mpr hbl
  have hS : va_S A s.heap s.heap [] := va_S.rf
  have hP : va_P g.1 classes [] s.heap := fun k q h => by simp at h
  have hD : va_D A [] := ⟨fun i j p q h => by simp at h, fun k q h => by simp at h⟩
  have hl := lv_entry ([.ref b]) (n := 4) (Nat.le_of_ble_eq_true rfl)
  rw [lg_entry_eq]
  generalize (lg_sl ([.ref b]) ++ List.replicate (4 - (lg_sl ([.ref b])).length) Slot.unset).toArray = ls at hl ⊢
  have hl : lv_has ls 4 [(0, .ref b)] := hl
  refine va_new (ci := 0) (fs := [.null, .null]) (C := R_RN) (T := F_RN) (N := 2) hx hb hc i_RN t_RN t_RN_ok hown (hc _ kl_law_7) (hc _ kz_RN) (hc _ kn_RN) hK hP hD hS hA rfl (fun j hj => by rcases (show j = 0 ∨ j = 1 by omega) with rfl | rfl <;> rfl) (Nat.le_of_ble_eq_true rfl) (Nat.le_of_ble_eq_true rfl) d_law_0 (fun o H hP hD hS => ?_)
  have hP : va_P g.1 classes [(o, .inr (0, [.null, .null]))] H := hP
  have hD : va_D A [(o, .inr (0, [.null, .null]))] := hD
  refine lv_dup hx hb d_law_3 rfl ?_
  refine x_cmv (wr := []) (x_runI (As := []) (rest := [.ref o]) ⟨hx, hb, hml, hown, hc⟩ (c_RN_init l g _ o) (cwI 0 hc (good_cmn kc_RN_init) rfl rfl rfl (hc _ kn_RN) (hc _ km_law_9) (hc _ ki_RN_init) rfl (by decide +kernel) ⟨Nat.le_of_ble_eq_true rfl, Nat.le_of_ble_eq_true rfl⟩) hP hD hK hN [0] (by decide) rfl rfl hl.1 rfl (Nat.le_of_ble_eq_true rfl) d_law_4 ⟨Nat.le_of_ble_eq_true rfl, Nat.le_of_ble_eq_true rfl⟩) hP hD hS hA [0] [] rfl rfl (by decide) (by decide) (fun u H locs hw hP hD hS => ?_)
  obtain ⟨⟨y, y0, a⟩, ⟨a0, a1, a2, a3, a4, a5⟩, sl, ms⟩ := u
  have hP := hP.sub (ws' := [(o, .inr (0, [.ref y, .ref a])), (y, .inr (1, [.ref y0, .int 0])), (y0, .inl (cBy g, 60, .inl (fun _ => 0))), (a, .inr (2, [.ref a0, .ref a1, .ref a2, .ref a3, .ref a4, .ref a5, .int 0, .int 0])), (a0, .inl (cBy g, 12000, .inl (fun _ => 0))), (a1, .inl (cIn g, 201, .inl (fun _ => 0))), (a2, .inl (cIn g, 200, .inl (fun _ => 0))), (a3, .inl (cIn g, 200, .inl (fun _ => 0))), (a4, .inl (cSh g, 512, .inl sl)), (a5, .inl (cLo g, 4, .inr (.inl ms)))]) [0, 1, 2, 3, 4, 5, 6, 7, 8, 9] rfl
  have hD := hD.sub (ws' := [(o, .inr (0, [.ref y, .ref a])), (y, .inr (1, [.ref y0, .int 0])), (y0, .inl (cBy g, 60, .inl (fun _ => 0))), (a, .inr (2, [.ref a0, .ref a1, .ref a2, .ref a3, .ref a4, .ref a5, .int 0, .int 0])), (a0, .inl (cBy g, 12000, .inl (fun _ => 0))), (a1, .inl (cIn g, 201, .inl (fun _ => 0))), (a2, .inl (cIn g, 200, .inl (fun _ => 0))), (a3, .inl (cIn g, 200, .inl (fun _ => 0))), (a4, .inl (cSh g, 512, .inl sl)), (a5, .inl (cLo g, 4, .inr (.inl ms)))]) [0, 1, 2, 3, 4, 5, 6, 7, 8, 9] (by decide) rfl
  obtain ⟨hw1, hw2⟩ : (∀ s1, s1 < 512 → sl s1 = -1) ∧ ∀ x, x < 4 → ms x = 0 := hw
  refine lv_astore_n (lv' := [(1, .ref o), (0, .ref b)]) hx hb d_law_7 rfl hl (by decide) rfl (fun ls hl => ?_)
  refine va_new (ci := 3) (fs := [.null, .int 0, .null, .null, .null, .null, .int 0]) (C := R_Model) (T := F_Model) (N := 7) hx hb hc i_Model t_Model t_Model_ok hown (hc _ kl_law_10) (hc _ kz_Model) (hc _ kn_Model) hK hP hD hS hA rfl (fun j hj => by rcases (show j = 0 ∨ j = 1 ∨ j = 2 ∨ j = 3 ∨ j = 4 ∨ j = 5 ∨ j = 6 by omega) with rfl | rfl | rfl | rfl | rfl | rfl | rfl <;> rfl) (Nat.le_of_ble_eq_true rfl) (Nat.le_of_ble_eq_true rfl) d_law_8 (fun d H hP hD hS => ?_)
  have hP : va_P g.1 classes [(o, .inr (0, [.ref y, .ref a])), (y, .inr (1, [.ref y0, .int 0])), (y0, .inl (cBy g, 60, .inl (fun _ => 0))), (a, .inr (2, [.ref a0, .ref a1, .ref a2, .ref a3, .ref a4, .ref a5, .int 0, .int 0])), (a0, .inl (cBy g, 12000, .inl (fun _ => 0))), (a1, .inl (cIn g, 201, .inl (fun _ => 0))), (a2, .inl (cIn g, 200, .inl (fun _ => 0))), (a3, .inl (cIn g, 200, .inl (fun _ => 0))), (a4, .inl (cSh g, 512, .inl sl)), (a5, .inl (cLo g, 4, .inr (.inl ms))), (d, .inr (3, [.null, .int 0, .null, .null, .null, .null, .int 0]))] H := hP
  have hD : va_D A [(o, .inr (0, [.ref y, .ref a])), (y, .inr (1, [.ref y0, .int 0])), (y0, .inl (cBy g, 60, .inl (fun _ => 0))), (a, .inr (2, [.ref a0, .ref a1, .ref a2, .ref a3, .ref a4, .ref a5, .int 0, .int 0])), (a0, .inl (cBy g, 12000, .inl (fun _ => 0))), (a1, .inl (cIn g, 201, .inl (fun _ => 0))), (a2, .inl (cIn g, 200, .inl (fun _ => 0))), (a3, .inl (cIn g, 200, .inl (fun _ => 0))), (a4, .inl (cSh g, 512, .inl sl)), (a5, .inl (cLo g, 4, .inr (.inl ms))), (d, .inr (3, [.null, .int 0, .null, .null, .null, .null, .int 0]))] := hD
  refine lv_dup hx hb d_law_11 rfl ?_
  refine x_cmv (wr := [(o, .inr (0, [.ref y, .ref a])), (y, .inr (1, [.ref y0, .int 0])), (y0, .inl (cBy g, 60, .inl (fun _ => 0))), (a, .inr (2, [.ref a0, .ref a1, .ref a2, .ref a3, .ref a4, .ref a5, .int 0, .int 0])), (a0, .inl (cBy g, 12000, .inl (fun _ => 0))), (a1, .inl (cIn g, 201, .inl (fun _ => 0))), (a2, .inl (cIn g, 200, .inl (fun _ => 0))), (a3, .inl (cIn g, 200, .inl (fun _ => 0))), (a4, .inl (cSh g, 512, .inl sl)), (a5, .inl (cLo g, 4, .inr (.inl ms)))]) (x_runI (As := []) (rest := [.ref d]) ⟨hx, hb, hml, hown, hc⟩ (c_Model_init l g _ d) (cwI 0 hc (good_cmn kc_Model_init) rfl rfl rfl (hc _ kn_Model) (hc _ km_law_12) (hc _ ki_Model_init) rfl (by decide +kernel) ⟨Nat.le_of_ble_eq_true rfl, Nat.le_of_ble_eq_true rfl⟩) hP hD hK hN [10] (by decide) rfl rfl hl.1 rfl (Nat.le_of_ble_eq_true rfl) d_law_12 ⟨Nat.le_of_ble_eq_true rfl, Nat.le_of_ble_eq_true rfl⟩) hP hD hS hA [10] [0, 1, 2, 3, 4, 5, 6, 7, 8, 9] rfl rfl (by decide) (by decide) (fun u H locs hw3 hP hD hS => ?_)
  obtain ⟨d0, d1, d2, d3, d4⟩ := u
  have hP := hP.sub (ws' := [(o, .inr (0, [.ref y, .ref a])), (y, .inr (1, [.ref y0, .int 0])), (y0, .inl (cBy g, 60, .inl (fun _ => 0))), (a, .inr (2, [.ref a0, .ref a1, .ref a2, .ref a3, .ref a4, .ref a5, .int 0, .int 0])), (a0, .inl (cBy g, 12000, .inl (fun _ => 0))), (a1, .inl (cIn g, 201, .inl (fun _ => 0))), (a2, .inl (cIn g, 200, .inl (fun _ => 0))), (a3, .inl (cIn g, 200, .inl (fun _ => 0))), (a4, .inl (cSh g, 512, .inl sl)), (a5, .inl (cLo g, 4, .inr (.inl ms))), (d, .inr (3, [.ref d0, .int 0, .ref d1, .ref d2, .ref d3, .ref d4, .int 0])), (d0, .inl (cIn g, 60, .inl (fun _ => 0))), (d1, .inl (cIn g, 12000, .inl (fun _ => 0))), (d2, .inl (cIn g, 200, .inl (fun _ => 0))), (d3, .inl (cIn g, 200, .inl (fun _ => 0))), (d4, .inl (cIn g, 200, .inl (fun _ => 0)))]) [0, 1, 2, 3, 4, 5, 6, 7, 8, 9, 10, 11, 12, 13, 14, 15] rfl
  have hD := hD.sub (ws' := [(o, .inr (0, [.ref y, .ref a])), (y, .inr (1, [.ref y0, .int 0])), (y0, .inl (cBy g, 60, .inl (fun _ => 0))), (a, .inr (2, [.ref a0, .ref a1, .ref a2, .ref a3, .ref a4, .ref a5, .int 0, .int 0])), (a0, .inl (cBy g, 12000, .inl (fun _ => 0))), (a1, .inl (cIn g, 201, .inl (fun _ => 0))), (a2, .inl (cIn g, 200, .inl (fun _ => 0))), (a3, .inl (cIn g, 200, .inl (fun _ => 0))), (a4, .inl (cSh g, 512, .inl sl)), (a5, .inl (cLo g, 4, .inr (.inl ms))), (d, .inr (3, [.ref d0, .int 0, .ref d1, .ref d2, .ref d3, .ref d4, .int 0])), (d0, .inl (cIn g, 60, .inl (fun _ => 0))), (d1, .inl (cIn g, 12000, .inl (fun _ => 0))), (d2, .inl (cIn g, 200, .inl (fun _ => 0))), (d3, .inl (cIn g, 200, .inl (fun _ => 0))), (d4, .inl (cIn g, 200, .inl (fun _ => 0)))]) [0, 1, 2, 3, 4, 5, 6, 7, 8, 9, 10, 11, 12, 13, 14, 15] (by decide) rfl
  refine lv_astore_n (lv' := [(2, .ref d), (1, .ref o), (0, .ref b)]) hx hb d_law_15 rfl hl (by decide) rfl (fun ls hl => ?_)
  refine lv_iconst (v := 0) hx hb d_law_16 (by decide) ?_
  refine lv_istore_n (lv' := [(3, .int 0), (2, .ref d), (1, .ref o), (0, .ref b)]) hx hb d_law_17 rfl hl (by decide) rfl (fun ls hl => ?_)
  refine W.widen (k := 16) (n := 25856) (Nat.le_of_ble_eq_true rfl) (Nat.le_of_ble_eq_true rfl) ?_
  refine x_loop (σ := Nat) (fun i => L + 4 - i) (fun i H1 locs1 ls1 => i ≤ L + 4 ∧ LInv g A o a a0 a1 a2 a3 a4 a5 y y0 d d0 d1 d2 d3 d4 i H1 ∧ va_S A s.heap H1 locs1 ∧ lv_has ls1 4 [(0, .ref b), (1, .ref o), (2, .ref d), (3, .int (nI i))]) ?_ 0 ⟨Nat.zero_le _, ⟨(0, fun _ => 0, fun _ _ => 0, fun _ => 0, fun _ => 0), 0, fun _ => 0, _, _, _, _, _, _, _, _, _, _, _, _, _, _, _, law_V0, ⟨Nat.zero_le _, fun k hk => absurd hk (Nat.not_lt_zero _)⟩, fun k hk => absurd hk (Nat.not_lt_zero _), law_M0 hw1 hw2, fun k hk => absurd hk (Nat.not_lt_zero _), law_T0, hP, hD⟩, hS, lv_sub hl [3, 2, 1, 0] rfl⟩
  clear hP hD hS hl hw1 hw2 hw3
  rintro i H locs ls ⟨hi, ⟨V, h, nb, fb, bg, fg, fr, sl, f, mh, mb, mz, mg, mr, ms, sv, vv, kv, hV, hH, hf, hI, hmh, hTI, hP, hD⟩, hS, hl⟩ ih
  have hBd : i < 2 ^ 30 := by omega
  refine lv_iload_n hx hb d_law_18 rfl (lv_at hl 3 rfl) ?_
  refine lv_aload_n hx hb d_law_19 rfl (lv_at hl 0 rfl) ?_
  refine va_slen hx hb hX hbl hbA hS d_law_20 ?_
  refine x_top (y := nI L) (rfl) ?_
  refine lv_iconst (v := 4) hx hb d_law_21 (by decide) ?_
  refine lv_isub hx hb d_law_22 ?_
  refine lv_icmp_gt (tgt := 290) hx hb d_law_23 (by decide) (fun c1 => ?_) (fun c1 => ?_)
  · refine lv_iconst (v := 1) hx hb d_law_290 (by decide) ?_
    refine va_forget (fun q hq => by have z := hS.2.2 q hq; rw [hAe] at z; exact z) ?_
    exact lw_ret hx hb hr hlocks d_law_291
  · have c1 : i + 4 ≤ L := by rw [law_end hL hi] at c1; omega
    refine lv_aload_n hx hb d_law_26 rfl (lv_at hl 0 rfl) ?_
    refine lv_iload_n hx hb d_law_27 rfl (lv_at hl 3 rfl) ?_
    refine x_sld hx hb hX hbl hbA hS (k := i) (by omega) (by omega) d_law_28 ?_
    refine lv_bipush (v := 7) hx hb d_law_29 (by decide) ?_
    refine lv_iand hx hb d_law_31 ?_
    obtain ⟨j, hj, ej⟩ := pk_andE (xs i) (m := 7) 3 (by decide)
    refine x_top (y := nI j) (ej) ?_
    rcases (show j = 0 ∨ j = 1 ∨ j = 2 ∨ j = 3 ∨ j = 4 ∨ j = 5 ∨ j = 6 ∨ j = 7 by omega) with rfl | rfl | rfl | rfl | rfl | rfl | rfl | rfl
    · refine lv_tableIn (off := 48) (tgt := 80) hx hb d_law_32 (by decide) (by decide) (by decide) (by decide) ?_
      refine lv_aload_n hx hb d_law_80 rfl (lv_at hl 1 rfl) ?_
      refine lv_aload_n hx hb d_law_81 rfl (lv_at hl 0 rfl) ?_
      refine lv_iload_n hx hb d_law_82 rfl (lv_at hl 3 rfl) ?_
      refine lv_iconst (v := 1) hx hb d_law_83 (by decide) ?_
      refine lv_iadd hx hb d_law_84 ?_
      refine x_top (y := nI (i + 1)) (nI_add _ _) ?_
      refine x_sld hx hb hX hbl hbA hS (k := (i + 1)) (by omega) (by omega) d_law_85 ?_
      refine lv_i2l (v := (xs (i + 1)).toInt64) hx hb d_law_86 rfl ?_
      refine lv_bipush (v := 32) hx hb d_law_87 (by decide) ?_
      refine lv_lshl (v := ((xs (i + 1)).toInt64) <<< ((32 : Int32).toInt64 &&& 63)) hx hb d_law_89 rfl ?_
      refine lv_aload_n hx hb d_law_90 rfl (lv_at hl 0 rfl) ?_
      refine lv_iload_n hx hb d_law_91 rfl (lv_at hl 3 rfl) ?_
      refine lv_iconst (v := 2) hx hb d_law_92 (by decide) ?_
      refine lv_iadd hx hb d_law_93 ?_
      refine x_top (y := nI (i + 2)) (nI_add _ _) ?_
      refine x_sld hx hb hX hbl hbA hS (k := (i + 2)) (by omega) (by omega) d_law_94 ?_
      refine lv_i2l (v := (xs (i + 2)).toInt64) hx hb d_law_95 rfl ?_
      refine lv_ldc2 (v := 4294967295) hx hb hown (hc _ kq_law_13) d_law_96 ?_
      refine lv_land hx hb d_law_99 ?_
      refine lv_lor hx hb d_law_100 ?_
      refine lv_topl (fun v1 ev1 => ?_)
      refine lv_aload_n hx hb d_law_101 rfl (lv_at hl 0 rfl) ?_
      refine lv_iload_n hx hb d_law_102 rfl (lv_at hl 3 rfl) ?_
      refine lv_iconst (v := 3) hx hb d_law_103 (by decide) ?_
      refine lv_iadd hx hb d_law_104 ?_
      refine x_top (y := nI (i + 3)) (nI_add _ _) ?_
      refine x_sld hx hb hX hbl hbA hS (k := (i + 3)) (by omega) (by omega) d_law_105 ?_
      refine x_cmi (wr := [(a, .inr (2, [.ref a0, .ref a1, .ref a2, .ref a3, .ref a4, .ref a5, .int sv, .int vv])), (a0, .inl (cBy g, 12000, .inl fb)), (a1, .inl (cIn g, 201, .inl bg)), (a2, .inl (cIn g, 200, .inl fg)), (a3, .inl (cIn g, 200, .inl fr)), (a4, .inl (cSh g, 512, .inl sl)), (a5, .inl (cLo g, 4, .inr (.inl ms))), (d, .inr (3, [.ref d0, .int (nI h), .ref d1, .ref d2, .ref d3, .ref d4, .int kv])), (d0, .inl (cIn g, 60, .inl mh)), (d1, .inl (cIn g, 12000, .inl mb)), (d2, .inl (cIn g, 200, .inl mz)), (d3, .inl (cIn g, 200, .inl mg)), (d4, .inl (cIn g, 200, .inl mr))]) (x_runV (As := [.long v1, .int (xs (i + 3))]) (rest := []) ⟨hx, hb, hml, hown, hc⟩ (c_RN_put l g _ o a y y0 f v1 (xs (i + 3)) h nb hH hf) (cwV 2 hc (good_V km_law_15 ki_RN_put ks_RN_put kn_RN kc_RN_put) rfl rfl rfl (by decide +kernel) ⟨Nat.le_of_ble_eq_true rfl, Nat.le_of_ble_eq_true rfl⟩) hP hD hK hN [0, 1, 2] (by decide) rfl (va_recv hK hP (ci := 0) (q0 := 0) rfl rfl) rfl hl.1 rfl (Nat.le_of_ble_eq_true rfl) d_law_106 ⟨Nat.le_of_ble_eq_true rfl, Nat.le_of_ble_eq_true rfl⟩) hP hD hS hA [0, 1, 2] [3, 4, 5, 6, 7, 8, 9, 10, 11, 12, 13, 14, 15] rfl rfl (by decide) (by decide) (fun r1 f1 H locs hw1 hP hD hS => ?_)
      have hP := hP.sub (ws' := [(o, .inr (0, [.ref y, .ref a])), (y, .inr (1, [.ref y0, .int (nI (h + putN h (xs (i + 3))))])), (y0, .inl (cBy g, 60, .inl f1)), (a, .inr (2, [.ref a0, .ref a1, .ref a2, .ref a3, .ref a4, .ref a5, .int sv, .int vv])), (a0, .inl (cBy g, 12000, .inl fb)), (a1, .inl (cIn g, 201, .inl bg)), (a2, .inl (cIn g, 200, .inl fg)), (a3, .inl (cIn g, 200, .inl fr)), (a4, .inl (cSh g, 512, .inl sl)), (a5, .inl (cLo g, 4, .inr (.inl ms))), (d, .inr (3, [.ref d0, .int (nI h), .ref d1, .ref d2, .ref d3, .ref d4, .int kv])), (d0, .inl (cIn g, 60, .inl mh)), (d1, .inl (cIn g, 12000, .inl mb)), (d2, .inl (cIn g, 200, .inl mz)), (d3, .inl (cIn g, 200, .inl mg)), (d4, .inl (cIn g, 200, .inl mr))]) [13, 14, 15, 0, 1, 2, 3, 4, 5, 6, 7, 8, 9, 10, 11, 12] rfl
      have hD := hD.sub (ws' := [(o, .inr (0, [.ref y, .ref a])), (y, .inr (1, [.ref y0, .int (nI (h + putN h (xs (i + 3))))])), (y0, .inl (cBy g, 60, .inl f1)), (a, .inr (2, [.ref a0, .ref a1, .ref a2, .ref a3, .ref a4, .ref a5, .int sv, .int vv])), (a0, .inl (cBy g, 12000, .inl fb)), (a1, .inl (cIn g, 201, .inl bg)), (a2, .inl (cIn g, 200, .inl fg)), (a3, .inl (cIn g, 200, .inl fr)), (a4, .inl (cSh g, 512, .inl sl)), (a5, .inl (cLo g, 4, .inr (.inl ms))), (d, .inr (3, [.ref d0, .int (nI h), .ref d1, .ref d2, .ref d3, .ref d4, .int kv])), (d0, .inl (cIn g, 60, .inl mh)), (d1, .inl (cIn g, 12000, .inl mb)), (d2, .inl (cIn g, 200, .inl mz)), (d3, .inl (cIn g, 200, .inl mg)), (d4, .inl (cIn g, 200, .inl mr))]) [13, 14, 15, 0, 1, 2, 3, 4, 5, 6, 7, 8, 9, 10, 11, 12] (by decide) rfl
      refine lv_aload_n hx hb d_law_109 rfl (lv_at hl 2 rfl) ?_
      refine lv_aload_n hx hb d_law_110 rfl (lv_at hl 0 rfl) ?_
      refine lv_iload_n hx hb d_law_111 rfl (lv_at hl 3 rfl) ?_
      refine lv_iconst (v := 1) hx hb d_law_112 (by decide) ?_
      refine lv_iadd hx hb d_law_113 ?_
      refine x_top (y := nI (i + 1)) (nI_add _ _) ?_
      refine x_sld hx hb hX hbl hbA hS (k := (i + 1)) (by omega) (by omega) d_law_114 ?_
      refine lv_i2l (v := (xs (i + 1)).toInt64) hx hb d_law_115 rfl ?_
      refine lv_bipush (v := 32) hx hb d_law_116 (by decide) ?_
      refine lv_lshl (v := ((xs (i + 1)).toInt64) <<< ((32 : Int32).toInt64 &&& 63)) hx hb d_law_118 rfl ?_
      refine lv_aload_n hx hb d_law_119 rfl (lv_at hl 0 rfl) ?_
      refine lv_iload_n hx hb d_law_120 rfl (lv_at hl 3 rfl) ?_
      refine lv_iconst (v := 2) hx hb d_law_121 (by decide) ?_
      refine lv_iadd hx hb d_law_122 ?_
      refine x_top (y := nI (i + 2)) (nI_add _ _) ?_
      refine x_sld hx hb hX hbl hbA hS (k := (i + 2)) (by omega) (by omega) d_law_123 ?_
      refine lv_i2l (v := (xs (i + 2)).toInt64) hx hb d_law_124 rfl ?_
      refine lv_ldc2 (v := 4294967295) hx hb hown (hc _ kq_law_13) d_law_125 ?_
      refine lv_land hx hb d_law_128 ?_
      refine lv_lor hx hb d_law_129 ?_
      refine lv_topl (fun v2 ev2 => ?_)
      have ev3 : v2 = v1 := ev2.trans ev1.symm
      rw [ev3]
      refine lv_aload_n hx hb d_law_130 rfl (lv_at hl 0 rfl) ?_
      refine lv_iload_n hx hb d_law_131 rfl (lv_at hl 3 rfl) ?_
      refine lv_iconst (v := 3) hx hb d_law_132 (by decide) ?_
      refine lv_iadd hx hb d_law_133 ?_
      refine x_top (y := nI (i + 3)) (nI_add _ _) ?_
      refine x_sld hx hb hX hbl hbA hS (k := (i + 3)) (by omega) (by omega) d_law_134 ?_
      refine x_cmi (wr := [(o, .inr (0, [.ref y, .ref a])), (y, .inr (1, [.ref y0, .int (nI (h + putN h (xs (i + 3))))])), (y0, .inl (cBy g, 60, .inl f1)), (a, .inr (2, [.ref a0, .ref a1, .ref a2, .ref a3, .ref a4, .ref a5, .int sv, .int vv])), (a0, .inl (cBy g, 12000, .inl fb)), (a1, .inl (cIn g, 201, .inl bg)), (a2, .inl (cIn g, 200, .inl fg)), (a3, .inl (cIn g, 200, .inl fr)), (a4, .inl (cSh g, 512, .inl sl)), (a5, .inl (cLo g, 4, .inr (.inl ms))), (d1, .inl (cIn g, 12000, .inl mb)), (d2, .inl (cIn g, 200, .inl mz)), (d3, .inl (cIn g, 200, .inl mg)), (d4, .inl (cIn g, 200, .inl mr))]) (x_runV (As := [.long v1, .int (xs (i + 3))]) (rest := [.int r1]) ⟨hx, hb, hml, hown, hc⟩ (c_Model_put l g _ d d0 d1 d2 d3 d4 kv mh v1 (xs (i + 3)) h nb hH hmh) (cwV 2 hc (good_V km_law_19 ki_Model_put ks_Model_put kn_Model kc_Model_put) rfl rfl rfl (by decide +kernel) ⟨Nat.le_of_ble_eq_true rfl, Nat.le_of_ble_eq_true rfl⟩) hP hD hK hN [10, 11] (by decide) rfl (va_recv hK hP (ci := 3) (q0 := 10) rfl rfl) rfl hl.1 rfl (Nat.le_of_ble_eq_true rfl) d_law_135 ⟨Nat.le_of_ble_eq_true rfl, Nat.le_of_ble_eq_true rfl⟩) hP hD hS hA [10, 11] [0, 1, 2, 3, 4, 5, 6, 7, 8, 9, 12, 13, 14, 15] rfl rfl (by decide) (by decide) (fun r2 mh1 H locs hw2 hP hD hS => ?_)
      have hP := hP.sub (ws' := [(o, .inr (0, [.ref y, .ref a])), (y, .inr (1, [.ref y0, .int (nI (h + putN h (xs (i + 3))))])), (y0, .inl (cBy g, 60, .inl f1)), (a, .inr (2, [.ref a0, .ref a1, .ref a2, .ref a3, .ref a4, .ref a5, .int sv, .int vv])), (a0, .inl (cBy g, 12000, .inl fb)), (a1, .inl (cIn g, 201, .inl bg)), (a2, .inl (cIn g, 200, .inl fg)), (a3, .inl (cIn g, 200, .inl fr)), (a4, .inl (cSh g, 512, .inl sl)), (a5, .inl (cLo g, 4, .inr (.inl ms))), (d, .inr (3, [.ref d0, .int (nI (h + putN h (xs (i + 3)))), .ref d1, .ref d2, .ref d3, .ref d4, .int kv])), (d0, .inl (cIn g, 60, .inl mh1)), (d1, .inl (cIn g, 12000, .inl mb)), (d2, .inl (cIn g, 200, .inl mz)), (d3, .inl (cIn g, 200, .inl mg)), (d4, .inl (cIn g, 200, .inl mr))]) [0, 1, 2, 3, 4, 5, 6, 7, 8, 9, 14, 15, 10, 11, 12, 13] rfl
      have hD := hD.sub (ws' := [(o, .inr (0, [.ref y, .ref a])), (y, .inr (1, [.ref y0, .int (nI (h + putN h (xs (i + 3))))])), (y0, .inl (cBy g, 60, .inl f1)), (a, .inr (2, [.ref a0, .ref a1, .ref a2, .ref a3, .ref a4, .ref a5, .int sv, .int vv])), (a0, .inl (cBy g, 12000, .inl fb)), (a1, .inl (cIn g, 201, .inl bg)), (a2, .inl (cIn g, 200, .inl fg)), (a3, .inl (cIn g, 200, .inl fr)), (a4, .inl (cSh g, 512, .inl sl)), (a5, .inl (cLo g, 4, .inr (.inl ms))), (d, .inr (3, [.ref d0, .int (nI (h + putN h (xs (i + 3)))), .ref d1, .ref d2, .ref d3, .ref d4, .int kv])), (d0, .inl (cIn g, 60, .inl mh1)), (d1, .inl (cIn g, 12000, .inl mb)), (d2, .inl (cIn g, 200, .inl mz)), (d3, .inl (cIn g, 200, .inl mg)), (d4, .inl (cIn g, 200, .inl mr))]) [0, 1, 2, 3, 4, 5, 6, 7, 8, 9, 14, 15, 10, 11, 12, 13] (by decide) rfl
      refine lv_icmp_eq (tgt := 284) hx hb d_law_138 (by decide) (fun c2 => ?_) (fun c2 => ?_)
      · refine lv_iinc (v := nI (i + 4)) (lv' := [(3, .int (nI (i + 4))), (0, .ref b), (1, .ref o), (2, .ref d)]) hx hb d_law_284 hl (k := 3) rfl (nI_add i 4) (by decide) rfl (fun ls hl => ?_)
        refine lv_goto (tgt := 18) hx hb d_law_287 (by decide) ?_
        exact ih (i + 4) H locs ls ⟨by omega, ⟨V, h + putN h (xs (i + 3)), putH h nb v1 (putN h (xs (i + 3))), _, _, _, _, _, _, _, _, _, _, _, _, _, _, _, hV.mono (by omega), HOk_put hH v1 (xs (i + 3)), hw1.2, hI, hw2.2, hTI, hP, hD⟩, hS, lv_sub hl [1, 2, 3, 0] rfl⟩ (by omega)
      · exact absurd (hw1.1.trans hw2.1.symm) c2
    · refine lv_tableIn (off := 111) (tgt := 143) hx hb d_law_32 (by decide) (by decide) (by decide) (by decide) ?_
      obtain ⟨pl, hp⟩ := PlIs_ex V h nb
      refine lv_aload_n hx hb d_law_143 rfl (lv_at hl 1 rfl) ?_
      refine x_cmi (wr := [(d, .inr (3, [.ref d0, .int (nI h), .ref d1, .ref d2, .ref d3, .ref d4, .int kv])), (d0, .inl (cIn g, 60, .inl mh)), (d1, .inl (cIn g, 12000, .inl mb)), (d2, .inl (cIn g, 200, .inl mz)), (d3, .inl (cIn g, 200, .inl mg)), (d4, .inl (cIn g, 200, .inl mr))]) (x_runV (As := []) (rest := []) ⟨hx, hb, hml, hown, hc⟩ (c_RN_give l g _ o a a0 a1 a2 a3 a4 a5 y y0 sv vv fb bg fg fr sl f ms V i h nb hV hBd hH hf hI pl hp) (cwV 0 hc (good_V km_law_20 ki_RN_give ks_RN_give kn_RN kc_RN_give) rfl rfl rfl (by decide +kernel) ⟨Nat.le_of_ble_eq_true rfl, Nat.le_of_ble_eq_true rfl⟩) hP hD hK hN [0, 1, 2, 3, 4, 5, 6, 7, 8, 9] (by decide) rfl (va_recv hK hP (ci := 0) (q0 := 0) rfl rfl) rfl hl.1 rfl (Nat.le_of_ble_eq_true rfl) d_law_144 ⟨Nat.le_of_ble_eq_true rfl, Nat.le_of_ble_eq_true rfl⟩) hP hD hS hA [0, 1, 2, 3, 4, 5, 6, 7, 8, 9] [10, 11, 12, 13, 14, 15] rfl rfl (by decide) (by decide) (fun r1 u H locs hw1 hP hD hS => ?_)
      obtain ⟨fb1, bg1, fg1, fr1, sl1, ms1, sv1, vv1⟩ := u
      have hP := hP.sub (ws' := [(o, .inr (0, [.ref y, .ref a])), (y, .inr (1, [.ref y0, .int 0])), (y0, .inl (cBy g, 60, .inl f)), (a, .inr (2, [.ref a0, .ref a1, .ref a2, .ref a3, .ref a4, .ref a5, .int sv1, .int vv1])), (a0, .inl (cBy g, 12000, .inl fb1)), (a1, .inl (cIn g, 201, .inl bg1)), (a2, .inl (cIn g, 200, .inl fg1)), (a3, .inl (cIn g, 200, .inl fr1)), (a4, .inl (cSh g, 512, .inl sl1)), (a5, .inl (cLo g, 4, .inr (.inl ms1))), (d, .inr (3, [.ref d0, .int (nI h), .ref d1, .ref d2, .ref d3, .ref d4, .int kv])), (d0, .inl (cIn g, 60, .inl mh)), (d1, .inl (cIn g, 12000, .inl mb)), (d2, .inl (cIn g, 200, .inl mz)), (d3, .inl (cIn g, 200, .inl mg)), (d4, .inl (cIn g, 200, .inl mr))]) [6, 7, 8, 9, 10, 11, 12, 13, 14, 15, 0, 1, 2, 3, 4, 5] rfl
      have hD := hD.sub (ws' := [(o, .inr (0, [.ref y, .ref a])), (y, .inr (1, [.ref y0, .int 0])), (y0, .inl (cBy g, 60, .inl f)), (a, .inr (2, [.ref a0, .ref a1, .ref a2, .ref a3, .ref a4, .ref a5, .int sv1, .int vv1])), (a0, .inl (cBy g, 12000, .inl fb1)), (a1, .inl (cIn g, 201, .inl bg1)), (a2, .inl (cIn g, 200, .inl fg1)), (a3, .inl (cIn g, 200, .inl fr1)), (a4, .inl (cSh g, 512, .inl sl1)), (a5, .inl (cLo g, 4, .inr (.inl ms1))), (d, .inr (3, [.ref d0, .int (nI h), .ref d1, .ref d2, .ref d3, .ref d4, .int kv])), (d0, .inl (cIn g, 60, .inl mh)), (d1, .inl (cIn g, 12000, .inl mb)), (d2, .inl (cIn g, 200, .inl mz)), (d3, .inl (cIn g, 200, .inl mg)), (d4, .inl (cIn g, 200, .inl mr))]) [6, 7, 8, 9, 10, 11, 12, 13, 14, 15, 0, 1, 2, 3, 4, 5] (by decide) rfl
      refine lv_aload_n hx hb d_law_147 rfl (lv_at hl 2 rfl) ?_
      refine x_cmi (wr := [(o, .inr (0, [.ref y, .ref a])), (y, .inr (1, [.ref y0, .int 0])), (y0, .inl (cBy g, 60, .inl f)), (a, .inr (2, [.ref a0, .ref a1, .ref a2, .ref a3, .ref a4, .ref a5, .int sv1, .int vv1])), (a0, .inl (cBy g, 12000, .inl fb1)), (a1, .inl (cIn g, 201, .inl bg1)), (a2, .inl (cIn g, 200, .inl fg1)), (a3, .inl (cIn g, 200, .inl fr1)), (a4, .inl (cSh g, 512, .inl sl1)), (a5, .inl (cLo g, 4, .inr (.inl ms1)))]) (x_runV (As := []) (rest := [.int r1]) ⟨hx, hb, hml, hown, hc⟩ (c_Model_give l g _ d d0 d1 d2 d3 d4 mh mb mz mg mr kv V i h nb hV hBd hH hmh hTI pl hp) (cwV 0 hc (good_V km_law_24 ki_Model_give ks_Model_give kn_Model kc_Model_give) rfl rfl rfl (by decide +kernel) ⟨Nat.le_of_ble_eq_true rfl, Nat.le_of_ble_eq_true rfl⟩) hP hD hK hN [10, 11, 12, 13, 14, 15] (by decide) rfl (va_recv hK hP (ci := 3) (q0 := 10) rfl rfl) rfl hl.1 rfl (Nat.le_of_ble_eq_true rfl) d_law_148 ⟨Nat.le_of_ble_eq_true rfl, Nat.le_of_ble_eq_true rfl⟩) hP hD hS hA [10, 11, 12, 13, 14, 15] [0, 1, 2, 3, 4, 5, 6, 7, 8, 9] rfl rfl (by decide) (by decide) (fun r2 u H locs hw2 hP hD hS => ?_)
      obtain ⟨mb1, mz1, mg1, mr1, kv1⟩ := u
      have hP := hP.sub (ws' := [(o, .inr (0, [.ref y, .ref a])), (y, .inr (1, [.ref y0, .int 0])), (y0, .inl (cBy g, 60, .inl f)), (a, .inr (2, [.ref a0, .ref a1, .ref a2, .ref a3, .ref a4, .ref a5, .int sv1, .int vv1])), (a0, .inl (cBy g, 12000, .inl fb1)), (a1, .inl (cIn g, 201, .inl bg1)), (a2, .inl (cIn g, 200, .inl fg1)), (a3, .inl (cIn g, 200, .inl fr1)), (a4, .inl (cSh g, 512, .inl sl1)), (a5, .inl (cLo g, 4, .inr (.inl ms1))), (d, .inr (3, [.ref d0, .int 0, .ref d1, .ref d2, .ref d3, .ref d4, .int kv1])), (d0, .inl (cIn g, 60, .inl mh)), (d1, .inl (cIn g, 12000, .inl mb1)), (d2, .inl (cIn g, 200, .inl mz1)), (d3, .inl (cIn g, 200, .inl mg1)), (d4, .inl (cIn g, 200, .inl mr1))]) [0, 1, 2, 3, 4, 5, 6, 7, 8, 9, 10, 11, 12, 13, 14, 15] rfl
      have hD := hD.sub (ws' := [(o, .inr (0, [.ref y, .ref a])), (y, .inr (1, [.ref y0, .int 0])), (y0, .inl (cBy g, 60, .inl f)), (a, .inr (2, [.ref a0, .ref a1, .ref a2, .ref a3, .ref a4, .ref a5, .int sv1, .int vv1])), (a0, .inl (cBy g, 12000, .inl fb1)), (a1, .inl (cIn g, 201, .inl bg1)), (a2, .inl (cIn g, 200, .inl fg1)), (a3, .inl (cIn g, 200, .inl fr1)), (a4, .inl (cSh g, 512, .inl sl1)), (a5, .inl (cLo g, 4, .inr (.inl ms1))), (d, .inr (3, [.ref d0, .int 0, .ref d1, .ref d2, .ref d3, .ref d4, .int kv1])), (d0, .inl (cIn g, 60, .inl mh)), (d1, .inl (cIn g, 12000, .inl mb1)), (d2, .inl (cIn g, 200, .inl mz1)), (d3, .inl (cIn g, 200, .inl mg1)), (d4, .inl (cIn g, 200, .inl mr1))]) [0, 1, 2, 3, 4, 5, 6, 7, 8, 9, 10, 11, 12, 13, 14, 15] (by decide) rfl
      have hV2 : AOk (if h = 0 then V else giveA V h nb pl) (i + 4) := by
        by_cases z : h = 0
        · rw [if_pos z]
          exact hV.mono (by omega)
        · rw [if_neg z]
          exact (AOk_give hV hH (by omega) hp).mono (by omega)
      refine lv_icmp_eq (tgt := 284) hx hb d_law_151 (by decide) (fun c2 => ?_) (fun c2 => ?_)
      · refine lv_iinc (v := nI (i + 4)) (lv' := [(3, .int (nI (i + 4))), (0, .ref b), (1, .ref o), (2, .ref d)]) hx hb d_law_284 hl (k := 3) rfl (nI_add i 4) (by decide) rfl (fun ls hl => ?_)
        refine lv_goto (tgt := 18) hx hb d_law_287 (by decide) ?_
        exact ih (i + 4) H locs ls ⟨by omega, ⟨_, 0, nb, _, _, _, _, _, _, _, _, _, _, _, _, _, _, _, hV2, ⟨Nat.zero_le _, fun k hk => absurd hk (Nat.not_lt_zero _)⟩, fun k hk => absurd hk (Nat.not_lt_zero _), hw1.2, fun k hk => absurd hk (Nat.not_lt_zero _), hw2.2, hP, hD⟩, hS, lv_sub hl [1, 2, 3, 0] rfl⟩ (by omega)
      · exact absurd (hw1.1.trans hw2.1.symm) c2
    · refine lv_tableIn (off := 124) (tgt := 156) hx hb d_law_32 (by decide) (by decide) (by decide) (by decide) ?_
      obtain ⟨pl, hp⟩ := PlIs_ex V h nb
      refine lv_aload_n hx hb d_law_156 rfl (lv_at hl 1 rfl) ?_
      refine x_cmi (wr := [(d, .inr (3, [.ref d0, .int (nI h), .ref d1, .ref d2, .ref d3, .ref d4, .int kv])), (d0, .inl (cIn g, 60, .inl mh)), (d1, .inl (cIn g, 12000, .inl mb)), (d2, .inl (cIn g, 200, .inl mz)), (d3, .inl (cIn g, 200, .inl mg)), (d4, .inl (cIn g, 200, .inl mr))]) (x_runV (As := []) (rest := []) ⟨hx, hb, hml, hown, hc⟩ (c_RN_refer l g _ o a a0 a1 a2 a3 a4 a5 y y0 sv vv fb bg fg fr sl f ms V i h nb hV hBd hH hf hI pl hp) (cwV 0 hc (good_V km_law_25 ki_RN_refer ks_RN_refer kn_RN kc_RN_refer) rfl rfl rfl (by decide +kernel) ⟨Nat.le_of_ble_eq_true rfl, Nat.le_of_ble_eq_true rfl⟩) hP hD hK hN [0, 1, 2, 3, 4, 5, 6, 7, 8, 9] (by decide) rfl (va_recv hK hP (ci := 0) (q0 := 0) rfl rfl) rfl hl.1 rfl (Nat.le_of_ble_eq_true rfl) d_law_157 ⟨Nat.le_of_ble_eq_true rfl, Nat.le_of_ble_eq_true rfl⟩) hP hD hS hA [0, 1, 2, 3, 4, 5, 6, 7, 8, 9] [10, 11, 12, 13, 14, 15] rfl rfl (by decide) (by decide) (fun r1 u H locs hw1 hP hD hS => ?_)
      obtain ⟨fb1, bg1, fg1, fr1, sl1, ms1, sv1, vv1⟩ := u
      have hP := hP.sub (ws' := [(o, .inr (0, [.ref y, .ref a])), (y, .inr (1, [.ref y0, .int 0])), (y0, .inl (cBy g, 60, .inl f)), (a, .inr (2, [.ref a0, .ref a1, .ref a2, .ref a3, .ref a4, .ref a5, .int sv1, .int vv1])), (a0, .inl (cBy g, 12000, .inl fb1)), (a1, .inl (cIn g, 201, .inl bg1)), (a2, .inl (cIn g, 200, .inl fg1)), (a3, .inl (cIn g, 200, .inl fr1)), (a4, .inl (cSh g, 512, .inl sl1)), (a5, .inl (cLo g, 4, .inr (.inl ms1))), (d, .inr (3, [.ref d0, .int (nI h), .ref d1, .ref d2, .ref d3, .ref d4, .int kv])), (d0, .inl (cIn g, 60, .inl mh)), (d1, .inl (cIn g, 12000, .inl mb)), (d2, .inl (cIn g, 200, .inl mz)), (d3, .inl (cIn g, 200, .inl mg)), (d4, .inl (cIn g, 200, .inl mr))]) [6, 7, 8, 9, 10, 11, 12, 13, 14, 15, 0, 1, 2, 3, 4, 5] rfl
      have hD := hD.sub (ws' := [(o, .inr (0, [.ref y, .ref a])), (y, .inr (1, [.ref y0, .int 0])), (y0, .inl (cBy g, 60, .inl f)), (a, .inr (2, [.ref a0, .ref a1, .ref a2, .ref a3, .ref a4, .ref a5, .int sv1, .int vv1])), (a0, .inl (cBy g, 12000, .inl fb1)), (a1, .inl (cIn g, 201, .inl bg1)), (a2, .inl (cIn g, 200, .inl fg1)), (a3, .inl (cIn g, 200, .inl fr1)), (a4, .inl (cSh g, 512, .inl sl1)), (a5, .inl (cLo g, 4, .inr (.inl ms1))), (d, .inr (3, [.ref d0, .int (nI h), .ref d1, .ref d2, .ref d3, .ref d4, .int kv])), (d0, .inl (cIn g, 60, .inl mh)), (d1, .inl (cIn g, 12000, .inl mb)), (d2, .inl (cIn g, 200, .inl mz)), (d3, .inl (cIn g, 200, .inl mg)), (d4, .inl (cIn g, 200, .inl mr))]) [6, 7, 8, 9, 10, 11, 12, 13, 14, 15, 0, 1, 2, 3, 4, 5] (by decide) rfl
      refine lv_aload_n hx hb d_law_160 rfl (lv_at hl 2 rfl) ?_
      refine x_cmi (wr := [(o, .inr (0, [.ref y, .ref a])), (y, .inr (1, [.ref y0, .int 0])), (y0, .inl (cBy g, 60, .inl f)), (a, .inr (2, [.ref a0, .ref a1, .ref a2, .ref a3, .ref a4, .ref a5, .int sv1, .int vv1])), (a0, .inl (cBy g, 12000, .inl fb1)), (a1, .inl (cIn g, 201, .inl bg1)), (a2, .inl (cIn g, 200, .inl fg1)), (a3, .inl (cIn g, 200, .inl fr1)), (a4, .inl (cSh g, 512, .inl sl1)), (a5, .inl (cLo g, 4, .inr (.inl ms1)))]) (x_runV (As := []) (rest := [.int r1]) ⟨hx, hb, hml, hown, hc⟩ (c_Model_refer l g _ d d0 d1 d2 d3 d4 mh mb mz mg mr kv V i h nb hV hBd hH hmh hTI pl hp) (cwV 0 hc (good_V km_law_28 ki_Model_refer ks_Model_refer kn_Model kc_Model_refer) rfl rfl rfl (by decide +kernel) ⟨Nat.le_of_ble_eq_true rfl, Nat.le_of_ble_eq_true rfl⟩) hP hD hK hN [10, 11, 12, 13, 14, 15] (by decide) rfl (va_recv hK hP (ci := 3) (q0 := 10) rfl rfl) rfl hl.1 rfl (Nat.le_of_ble_eq_true rfl) d_law_161 ⟨Nat.le_of_ble_eq_true rfl, Nat.le_of_ble_eq_true rfl⟩) hP hD hS hA [10, 11, 12, 13, 14, 15] [0, 1, 2, 3, 4, 5, 6, 7, 8, 9] rfl rfl (by decide) (by decide) (fun r2 u H locs hw2 hP hD hS => ?_)
      obtain ⟨mb1, mz1, mg1, mr1, kv1⟩ := u
      have hP := hP.sub (ws' := [(o, .inr (0, [.ref y, .ref a])), (y, .inr (1, [.ref y0, .int 0])), (y0, .inl (cBy g, 60, .inl f)), (a, .inr (2, [.ref a0, .ref a1, .ref a2, .ref a3, .ref a4, .ref a5, .int sv1, .int vv1])), (a0, .inl (cBy g, 12000, .inl fb1)), (a1, .inl (cIn g, 201, .inl bg1)), (a2, .inl (cIn g, 200, .inl fg1)), (a3, .inl (cIn g, 200, .inl fr1)), (a4, .inl (cSh g, 512, .inl sl1)), (a5, .inl (cLo g, 4, .inr (.inl ms1))), (d, .inr (3, [.ref d0, .int 0, .ref d1, .ref d2, .ref d3, .ref d4, .int kv1])), (d0, .inl (cIn g, 60, .inl mh)), (d1, .inl (cIn g, 12000, .inl mb1)), (d2, .inl (cIn g, 200, .inl mz1)), (d3, .inl (cIn g, 200, .inl mg1)), (d4, .inl (cIn g, 200, .inl mr1))]) [0, 1, 2, 3, 4, 5, 6, 7, 8, 9, 10, 11, 12, 13, 14, 15] rfl
      have hD := hD.sub (ws' := [(o, .inr (0, [.ref y, .ref a])), (y, .inr (1, [.ref y0, .int 0])), (y0, .inl (cBy g, 60, .inl f)), (a, .inr (2, [.ref a0, .ref a1, .ref a2, .ref a3, .ref a4, .ref a5, .int sv1, .int vv1])), (a0, .inl (cBy g, 12000, .inl fb1)), (a1, .inl (cIn g, 201, .inl bg1)), (a2, .inl (cIn g, 200, .inl fg1)), (a3, .inl (cIn g, 200, .inl fr1)), (a4, .inl (cSh g, 512, .inl sl1)), (a5, .inl (cLo g, 4, .inr (.inl ms1))), (d, .inr (3, [.ref d0, .int 0, .ref d1, .ref d2, .ref d3, .ref d4, .int kv1])), (d0, .inl (cIn g, 60, .inl mh)), (d1, .inl (cIn g, 12000, .inl mb1)), (d2, .inl (cIn g, 200, .inl mz1)), (d3, .inl (cIn g, 200, .inl mg1)), (d4, .inl (cIn g, 200, .inl mr1))]) [0, 1, 2, 3, 4, 5, 6, 7, 8, 9, 10, 11, 12, 13, 14, 15] (by decide) rfl
      have hV2 : AOk (if h = 0 then V else referA V h nb pl) (i + 4) := by
        by_cases z : h = 0
        · rw [if_pos z]
          exact hV.mono (by omega)
        · rw [if_neg z]
          exact (AOk_refer hV hH (by omega) hp).mono (by omega)
      refine lv_icmp_eq (tgt := 284) hx hb d_law_164 (by decide) (fun c2 => ?_) (fun c2 => ?_)
      · refine lv_iinc (v := nI (i + 4)) (lv' := [(3, .int (nI (i + 4))), (0, .ref b), (1, .ref o), (2, .ref d)]) hx hb d_law_284 hl (k := 3) rfl (nI_add i 4) (by decide) rfl (fun ls hl => ?_)
        refine lv_goto (tgt := 18) hx hb d_law_287 (by decide) ?_
        exact ih (i + 4) H locs ls ⟨by omega, ⟨_, 0, nb, _, _, _, _, _, _, _, _, _, _, _, _, _, _, _, hV2, ⟨Nat.zero_le _, fun k hk => absurd hk (Nat.not_lt_zero _)⟩, fun k hk => absurd hk (Nat.not_lt_zero _), hw1.2, fun k hk => absurd hk (Nat.not_lt_zero _), hw2.2, hP, hD⟩, hS, lv_sub hl [1, 2, 3, 0] rfl⟩ (by omega)
      · exact absurd (hw1.1.trans hw2.1.symm) c2
    · refine lv_tableIn (off := 137) (tgt := 169) hx hb d_law_32 (by decide) (by decide) (by decide) (by decide) ?_
      obtain ⟨pl, hp⟩ := PlIs_ex V h nb
      refine lv_aload_n hx hb d_law_169 rfl (lv_at hl 1 rfl) ?_
      refine x_cri (x_runV (As := []) (rest := []) ⟨hx, hb, hml, hown, hc⟩ (c_RN_find l g _ o a a0 a1 a2 a3 a4 a5 y y0 sv vv fb bg sl f V i h nb hV hH hf hI.2.2.1 hI.2.2.2.2.2 pl hp) (cwV 0 hc (good_V km_law_29 ki_RN_find ks_RN_find kn_RN kc_RN_find) rfl rfl rfl (by decide +kernel) ⟨Nat.le_of_ble_eq_true rfl, Nat.le_of_ble_eq_true rfl⟩) hP hD hK hN [0, 1, 2, 3, 4, 5, 8] (by decide) rfl (va_recv hK hP (ci := 0) (q0 := 0) rfl rfl) rfl hl.1 rfl (Nat.le_of_ble_eq_true rfl) d_law_170 ⟨Nat.le_of_ble_eq_true rfl, Nat.le_of_ble_eq_true rfl⟩) hP hS hA (fun r1 H locs hw1 hP hS => ?_)
      refine lv_aload_n hx hb d_law_173 rfl (lv_at hl 2 rfl) ?_
      refine x_cri (x_runV (As := []) (rest := [.int r1]) ⟨hx, hb, hml, hown, hc⟩ (c_Model_find l g _ d d0 d1 d2 d3 d4 mh mb mz mg mr kv V i h nb hV hBd hH hmh hTI pl hp) (cwV 0 hc (good_V km_law_32 ki_Model_find ks_Model_find kn_Model kc_Model_find) rfl rfl rfl (by decide +kernel) ⟨Nat.le_of_ble_eq_true rfl, Nat.le_of_ble_eq_true rfl⟩) hP hD hK hN [10, 11, 12, 13] (by decide) rfl (va_recv hK hP (ci := 3) (q0 := 10) rfl rfl) rfl hl.1 rfl (Nat.le_of_ble_eq_true rfl) d_law_174 ⟨Nat.le_of_ble_eq_true rfl, Nat.le_of_ble_eq_true rfl⟩) hP hS hA (fun r2 H locs hw2 hP hS => ?_)
      refine lv_icmp_eq (tgt := 284) hx hb d_law_177 (by decide) (fun c2 => ?_) (fun c2 => ?_)
      · refine lv_iinc (v := nI (i + 4)) (lv' := [(3, .int (nI (i + 4))), (0, .ref b), (1, .ref o), (2, .ref d)]) hx hb d_law_284 hl (k := 3) rfl (nI_add i 4) (by decide) rfl (fun ls hl => ?_)
        refine lv_goto (tgt := 18) hx hb d_law_287 (by decide) ?_
        exact ih (i + 4) H locs ls ⟨by omega, ⟨V, h, nb, _, _, _, _, _, _, _, _, _, _, _, _, _, _, _, hV.mono (by omega), hH, hf, hI, hmh, hTI, hP, hD⟩, hS, lv_sub hl [1, 2, 3, 0] rfl⟩ (by omega)
      · exact absurd (Eq.trans hw1 (Eq.symm hw2)) c2
    · refine lv_tableIn (off := 150) (tgt := 182) hx hb d_law_32 (by decide) (by decide) (by decide) (by decide) ?_
      refine lv_aload_n hx hb d_law_182 rfl (lv_at hl 1 rfl) ?_
      refine lv_aload_n hx hb d_law_183 rfl (lv_at hl 0 rfl) ?_
      refine lv_iload_n hx hb d_law_184 rfl (lv_at hl 3 rfl) ?_
      refine lv_iconst (v := 1) hx hb d_law_185 (by decide) ?_
      refine lv_iadd hx hb d_law_186 ?_
      refine x_top (y := nI (i + 1)) (nI_add _ _) ?_
      refine x_sld hx hb hX hbl hbA hS (k := (i + 1)) (by omega) (by omega) d_law_187 ?_
      refine lv_aload_n hx hb d_law_188 rfl (lv_at hl 0 rfl) ?_
      refine lv_iload_n hx hb d_law_189 rfl (lv_at hl 3 rfl) ?_
      refine lv_iconst (v := 2) hx hb d_law_190 (by decide) ?_
      refine lv_iadd hx hb d_law_191 ?_
      refine x_top (y := nI (i + 2)) (nI_add _ _) ?_
      refine x_sld hx hb hX hbl hbA hS (k := (i + 2)) (by omega) (by omega) d_law_192 ?_
      refine x_cri (x_runV (As := [.int (xs (i + 1)), .int (xs (i + 2))]) (rest := []) ⟨hx, hb, hml, hown, hc⟩ (c_RN_look l g _ o a a0 a1 a2 a3 a4 a5 y sv vv fb bg fg fr sl ms (xs (i + 1)) (xs (i + 2)) V i hV hBd hI) (cwV 2 hc (good_V km_law_33 ki_RN_look ks_RN_look kn_RN kc_RN_look) rfl rfl rfl (by decide +kernel) ⟨Nat.le_of_ble_eq_true rfl, Nat.le_of_ble_eq_true rfl⟩) hP hD hK hN [0, 3, 5, 6, 7, 9] (by decide) rfl (va_recv hK hP (ci := 0) (q0 := 0) rfl rfl) rfl hl.1 rfl (Nat.le_of_ble_eq_true rfl) d_law_193 ⟨Nat.le_of_ble_eq_true rfl, Nat.le_of_ble_eq_true rfl⟩) hP hS hA (fun r1 H locs hw1 hP hS => ?_)
      refine lv_aload_n hx hb d_law_196 rfl (lv_at hl 2 rfl) ?_
      refine lv_aload_n hx hb d_law_197 rfl (lv_at hl 0 rfl) ?_
      refine lv_iload_n hx hb d_law_198 rfl (lv_at hl 3 rfl) ?_
      refine lv_iconst (v := 1) hx hb d_law_199 (by decide) ?_
      refine lv_iadd hx hb d_law_200 ?_
      refine x_top (y := nI (i + 1)) (nI_add _ _) ?_
      refine x_sld hx hb hX hbl hbA hS (k := (i + 1)) (by omega) (by omega) d_law_201 ?_
      refine lv_aload_n hx hb d_law_202 rfl (lv_at hl 0 rfl) ?_
      refine lv_iload_n hx hb d_law_203 rfl (lv_at hl 3 rfl) ?_
      refine lv_iconst (v := 2) hx hb d_law_204 (by decide) ?_
      refine lv_iadd hx hb d_law_205 ?_
      refine x_top (y := nI (i + 2)) (nI_add _ _) ?_
      refine x_sld hx hb hX hbl hbA hS (k := (i + 2)) (by omega) (by omega) d_law_206 ?_
      refine x_cri (x_runV (As := [.int (xs (i + 1)), .int (xs (i + 2))]) (rest := [.int r1]) ⟨hx, hb, hml, hown, hc⟩ (c_Model_look l g _ d d0 d1 d2 d3 d4 mb mz mg mr (nI h) kv V i hV hBd hTI (xs (i + 1)) (xs (i + 2))) (cwV 2 hc (good_V km_law_37 ki_Model_look ks_Model_look kn_Model kc_Model_look) rfl rfl rfl (by decide +kernel) ⟨Nat.le_of_ble_eq_true rfl, Nat.le_of_ble_eq_true rfl⟩) hP hD hK hN [10, 13, 14, 15] (by decide) rfl (va_recv hK hP (ci := 3) (q0 := 10) rfl rfl) rfl hl.1 rfl (Nat.le_of_ble_eq_true rfl) d_law_207 ⟨Nat.le_of_ble_eq_true rfl, Nat.le_of_ble_eq_true rfl⟩) hP hS hA (fun r2 H locs hw2 hP hS => ?_)
      refine lv_icmp_eq (tgt := 284) hx hb d_law_210 (by decide) (fun c2 => ?_) (fun c2 => ?_)
      · refine lv_iinc (v := nI (i + 4)) (lv' := [(3, .int (nI (i + 4))), (0, .ref b), (1, .ref o), (2, .ref d)]) hx hb d_law_284 hl (k := 3) rfl (nI_add i 4) (by decide) rfl (fun ls hl => ?_)
        refine lv_goto (tgt := 18) hx hb d_law_287 (by decide) ?_
        exact ih (i + 4) H locs ls ⟨by omega, ⟨V, h, nb, _, _, _, _, _, _, _, _, _, _, _, _, _, _, _, hV.mono (by omega), hH, hf, hI, hmh, hTI, hP, hD⟩, hS, lv_sub hl [1, 2, 3, 0] rfl⟩ (by omega)
      · exact absurd (Eq.trans hw1 (Eq.symm hw2)) c2
    · refine lv_tableIn (off := 183) (tgt := 215) hx hb d_law_32 (by decide) (by decide) (by decide) (by decide) ?_
      refine lv_aload_n hx hb d_law_215 rfl (lv_at hl 1 rfl) ?_
      refine lv_aload_n hx hb d_law_216 rfl (lv_at hl 0 rfl) ?_
      refine lv_iload_n hx hb d_law_217 rfl (lv_at hl 3 rfl) ?_
      refine lv_iconst (v := 1) hx hb d_law_218 (by decide) ?_
      refine lv_iadd hx hb d_law_219 ?_
      refine x_top (y := nI (i + 1)) (nI_add _ _) ?_
      refine x_sld hx hb hX hbl hbA hS (k := (i + 1)) (by omega) (by omega) d_law_220 ?_
      refine lv_aload_n hx hb d_law_221 rfl (lv_at hl 0 rfl) ?_
      refine lv_iload_n hx hb d_law_222 rfl (lv_at hl 3 rfl) ?_
      refine lv_iconst (v := 2) hx hb d_law_223 (by decide) ?_
      refine lv_iadd hx hb d_law_224 ?_
      refine x_top (y := nI (i + 2)) (nI_add _ _) ?_
      refine x_sld hx hb hX hbl hbA hS (k := (i + 2)) (by omega) (by omega) d_law_225 ?_
      refine x_cri (x_runV (As := [.int (xs (i + 1)), .int (xs (i + 2))]) (rest := []) ⟨hx, hb, hml, hown, hc⟩ (c_RN_byteOf l g _ o a a0 a1 a2 a3 a4 a5 y sv vv fb bg fg fr sl ms (xs (i + 1)) (xs (i + 2)) V i hV hBd hI) (cwV 2 hc (good_V km_law_38 ki_RN_byteOf ks_RN_byteOf kn_RN kc_RN_byteOf) rfl rfl rfl (by decide +kernel) ⟨Nat.le_of_ble_eq_true rfl, Nat.le_of_ble_eq_true rfl⟩) hP hD hK hN [0, 3, 4, 5] (by decide) rfl (va_recv hK hP (ci := 0) (q0 := 0) rfl rfl) rfl hl.1 rfl (Nat.le_of_ble_eq_true rfl) d_law_226 ⟨Nat.le_of_ble_eq_true rfl, Nat.le_of_ble_eq_true rfl⟩) hP hS hA (fun r1 H locs hw1 hP hS => ?_)
      refine lv_aload_n hx hb d_law_229 rfl (lv_at hl 2 rfl) ?_
      refine lv_aload_n hx hb d_law_230 rfl (lv_at hl 0 rfl) ?_
      refine lv_iload_n hx hb d_law_231 rfl (lv_at hl 3 rfl) ?_
      refine lv_iconst (v := 1) hx hb d_law_232 (by decide) ?_
      refine lv_iadd hx hb d_law_233 ?_
      refine x_top (y := nI (i + 1)) (nI_add _ _) ?_
      refine x_sld hx hb hX hbl hbA hS (k := (i + 1)) (by omega) (by omega) d_law_234 ?_
      refine lv_aload_n hx hb d_law_235 rfl (lv_at hl 0 rfl) ?_
      refine lv_iload_n hx hb d_law_236 rfl (lv_at hl 3 rfl) ?_
      refine lv_iconst (v := 2) hx hb d_law_237 (by decide) ?_
      refine lv_iadd hx hb d_law_238 ?_
      refine x_top (y := nI (i + 2)) (nI_add _ _) ?_
      refine x_sld hx hb hX hbl hbA hS (k := (i + 2)) (by omega) (by omega) d_law_239 ?_
      refine x_cri (x_runV (As := [.int (xs (i + 1)), .int (xs (i + 2))]) (rest := [.int r1]) ⟨hx, hb, hml, hown, hc⟩ (c_Model_byteOf l g _ d d0 d1 d2 d3 d4 mb mz mg mr (nI h) kv V i hV hBd hTI (xs (i + 1)) (xs (i + 2))) (cwV 2 hc (good_V km_law_41 ki_Model_byteOf ks_Model_byteOf kn_Model kc_Model_byteOf) rfl rfl rfl (by decide +kernel) ⟨Nat.le_of_ble_eq_true rfl, Nat.le_of_ble_eq_true rfl⟩) hP hD hK hN [10, 12, 13] (by decide) rfl (va_recv hK hP (ci := 3) (q0 := 10) rfl rfl) rfl hl.1 rfl (Nat.le_of_ble_eq_true rfl) d_law_240 ⟨Nat.le_of_ble_eq_true rfl, Nat.le_of_ble_eq_true rfl⟩) hP hS hA (fun r2 H locs hw2 hP hS => ?_)
      refine lv_icmp_eq (tgt := 284) hx hb d_law_243 (by decide) (fun c2 => ?_) (fun c2 => ?_)
      · refine lv_iinc (v := nI (i + 4)) (lv' := [(3, .int (nI (i + 4))), (0, .ref b), (1, .ref o), (2, .ref d)]) hx hb d_law_284 hl (k := 3) rfl (nI_add i 4) (by decide) rfl (fun ls hl => ?_)
        refine lv_goto (tgt := 18) hx hb d_law_287 (by decide) ?_
        exact ih (i + 4) H locs ls ⟨by omega, ⟨V, h, nb, _, _, _, _, _, _, _, _, _, _, _, _, _, _, _, hV.mono (by omega), hH, hf, hI, hmh, hTI, hP, hD⟩, hS, lv_sub hl [1, 2, 3, 0] rfl⟩ (by omega)
      · exact absurd (Eq.trans hw1 (Eq.symm hw2)) c2
    · refine lv_tableIn (off := 216) (tgt := 248) hx hb d_law_32 (by decide) (by decide) (by decide) (by decide) ?_
      refine lv_aload_n hx hb d_law_248 rfl (lv_at hl 1 rfl) ?_
      refine lv_aload_n hx hb d_law_249 rfl (lv_at hl 0 rfl) ?_
      refine lv_iload_n hx hb d_law_250 rfl (lv_at hl 3 rfl) ?_
      refine lv_iconst (v := 1) hx hb d_law_251 (by decide) ?_
      refine lv_iadd hx hb d_law_252 ?_
      refine x_top (y := nI (i + 1)) (nI_add _ _) ?_
      refine x_sld hx hb hX hbl hbA hS (k := (i + 1)) (by omega) (by omega) d_law_253 ?_
      refine x_cri (x_runV (As := [.int (xs (i + 1))]) (rest := []) ⟨hx, hb, hml, hown, hc⟩ (c_RN_count l g _ o a a0 a1 a2 a3 a4 a5 y y0 h sv vv fb bg fg fr sl ms (xs (i + 1)) V i hV hBd hI) (cwV 1 hc (good_V km_law_42 ki_RN_count ks_RN_count kn_RN kc_RN_count) rfl rfl rfl (by decide +kernel) ⟨Nat.le_of_ble_eq_true rfl, Nat.le_of_ble_eq_true rfl⟩) hP hD hK hN [0, 1, 3, 6, 9] (by decide) rfl (va_recv hK hP (ci := 0) (q0 := 0) rfl rfl) rfl hl.1 rfl (Nat.le_of_ble_eq_true rfl) d_law_254 ⟨Nat.le_of_ble_eq_true rfl, Nat.le_of_ble_eq_true rfl⟩) hP hS hA (fun r1 H locs hw1 hP hS => ?_)
      refine lv_aload_n hx hb d_law_257 rfl (lv_at hl 2 rfl) ?_
      refine lv_aload_n hx hb d_law_258 rfl (lv_at hl 0 rfl) ?_
      refine lv_iload_n hx hb d_law_259 rfl (lv_at hl 3 rfl) ?_
      refine lv_iconst (v := 1) hx hb d_law_260 (by decide) ?_
      refine lv_iadd hx hb d_law_261 ?_
      refine x_top (y := nI (i + 1)) (nI_add _ _) ?_
      refine x_sld hx hb hX hbl hbA hS (k := (i + 1)) (by omega) (by omega) d_law_262 ?_
      refine x_cri (x_runV (As := [.int (xs (i + 1))]) (rest := [.int r1]) ⟨hx, hb, hml, hown, hc⟩ (c_Model_count l g _ d d0 d1 d2 d3 d4 h mb mz mg mr kv V i hV hBd hTI (xs (i + 1))) (cwV 1 hc (good_V km_law_46 ki_Model_count ks_Model_count kn_Model kc_Model_count) rfl rfl rfl (by decide +kernel) ⟨Nat.le_of_ble_eq_true rfl, Nat.le_of_ble_eq_true rfl⟩) hP hD hK hN [10, 14, 15] (by decide) rfl (va_recv hK hP (ci := 3) (q0 := 10) rfl rfl) rfl hl.1 rfl (Nat.le_of_ble_eq_true rfl) d_law_263 ⟨Nat.le_of_ble_eq_true rfl, Nat.le_of_ble_eq_true rfl⟩) hP hS hA (fun r2 H locs hw2 hP hS => ?_)
      refine lv_icmp_eq (tgt := 284) hx hb d_law_266 (by decide) (fun c2 => ?_) (fun c2 => ?_)
      · refine lv_iinc (v := nI (i + 4)) (lv' := [(3, .int (nI (i + 4))), (0, .ref b), (1, .ref o), (2, .ref d)]) hx hb d_law_284 hl (k := 3) rfl (nI_add i 4) (by decide) rfl (fun ls hl => ?_)
        refine lv_goto (tgt := 18) hx hb d_law_287 (by decide) ?_
        exact ih (i + 4) H locs ls ⟨by omega, ⟨V, h, nb, _, _, _, _, _, _, _, _, _, _, _, _, _, _, _, hV.mono (by omega), hH, hf, hI, hmh, hTI, hP, hD⟩, hS, lv_sub hl [1, 2, 3, 0] rfl⟩ (by omega)
      · exact absurd (Eq.trans hw1 (Eq.symm hw2)) c2
    · refine lv_tableIn (off := 239) (tgt := 271) hx hb d_law_32 (by decide) (by decide) (by decide) (by decide) ?_
      refine lv_aload_n hx hb d_law_271 rfl (lv_at hl 1 rfl) ?_
      refine x_cmi (wr := [(y0, .inl (cBy g, 60, .inl f)), (a0, .inl (cBy g, 12000, .inl fb)), (a1, .inl (cIn g, 201, .inl bg)), (a2, .inl (cIn g, 200, .inl fg)), (a3, .inl (cIn g, 200, .inl fr)), (d, .inr (3, [.ref d0, .int (nI h), .ref d1, .ref d2, .ref d3, .ref d4, .int kv])), (d0, .inl (cIn g, 60, .inl mh)), (d1, .inl (cIn g, 12000, .inl mb)), (d2, .inl (cIn g, 200, .inl mz)), (d3, .inl (cIn g, 200, .inl mg)), (d4, .inl (cIn g, 200, .inl mr))]) (x_runV (As := []) (rest := []) ⟨hx, hb, hml, hown, hc⟩ (c_RN_clear l g _ o a a0 a1 a2 a3 a4 a5 y y0 sv vv (nI h) fb bg fg fr sl f ms V hI) (cwV 0 hc (good_V km_law_47 ki_RN_clear ks_RN_clear kn_RN kc_RN_clear) rfl rfl rfl (by decide +kernel) ⟨Nat.le_of_ble_eq_true rfl, Nat.le_of_ble_eq_true rfl⟩) hP hD hK hN [0, 1, 3, 8, 9] (by decide) rfl (va_recv hK hP (ci := 0) (q0 := 0) rfl rfl) rfl hl.1 rfl (Nat.le_of_ble_eq_true rfl) d_law_272 ⟨Nat.le_of_ble_eq_true rfl, Nat.le_of_ble_eq_true rfl⟩) hP hD hS hA [0, 1, 3, 8, 9] [2, 4, 5, 6, 7, 10, 11, 12, 13, 14, 15] rfl rfl (by decide) (by decide) (fun r1 u H locs hw1 hP hD hS => ?_)
      obtain ⟨sl1, ms1⟩ := u
      have hP := hP.sub (ws' := [(o, .inr (0, [.ref y, .ref a])), (y, .inr (1, [.ref y0, .int 0])), (y0, .inl (cBy g, 60, .inl f)), (a, .inr (2, [.ref a0, .ref a1, .ref a2, .ref a3, .ref a4, .ref a5, .int 0, .int 0])), (a0, .inl (cBy g, 12000, .inl fb)), (a1, .inl (cIn g, 201, .inl bg)), (a2, .inl (cIn g, 200, .inl fg)), (a3, .inl (cIn g, 200, .inl fr)), (a4, .inl (cSh g, 512, .inl sl1)), (a5, .inl (cLo g, 4, .inr (.inl ms1))), (d, .inr (3, [.ref d0, .int (nI h), .ref d1, .ref d2, .ref d3, .ref d4, .int kv])), (d0, .inl (cIn g, 60, .inl mh)), (d1, .inl (cIn g, 12000, .inl mb)), (d2, .inl (cIn g, 200, .inl mz)), (d3, .inl (cIn g, 200, .inl mg)), (d4, .inl (cIn g, 200, .inl mr))]) [11, 12, 0, 13, 1, 2, 3, 4, 14, 15, 5, 6, 7, 8, 9, 10] rfl
      have hD := hD.sub (ws' := [(o, .inr (0, [.ref y, .ref a])), (y, .inr (1, [.ref y0, .int 0])), (y0, .inl (cBy g, 60, .inl f)), (a, .inr (2, [.ref a0, .ref a1, .ref a2, .ref a3, .ref a4, .ref a5, .int 0, .int 0])), (a0, .inl (cBy g, 12000, .inl fb)), (a1, .inl (cIn g, 201, .inl bg)), (a2, .inl (cIn g, 200, .inl fg)), (a3, .inl (cIn g, 200, .inl fr)), (a4, .inl (cSh g, 512, .inl sl1)), (a5, .inl (cLo g, 4, .inr (.inl ms1))), (d, .inr (3, [.ref d0, .int (nI h), .ref d1, .ref d2, .ref d3, .ref d4, .int kv])), (d0, .inl (cIn g, 60, .inl mh)), (d1, .inl (cIn g, 12000, .inl mb)), (d2, .inl (cIn g, 200, .inl mz)), (d3, .inl (cIn g, 200, .inl mg)), (d4, .inl (cIn g, 200, .inl mr))]) [11, 12, 0, 13, 1, 2, 3, 4, 14, 15, 5, 6, 7, 8, 9, 10] (by decide) rfl
      refine lv_aload_n hx hb d_law_275 rfl (lv_at hl 2 rfl) ?_
      obtain rfl : kv = nI (aN V) := hTI.1
      refine x_cmi (wr := [(o, .inr (0, [.ref y, .ref a])), (y, .inr (1, [.ref y0, .int 0])), (y0, .inl (cBy g, 60, .inl f)), (a, .inr (2, [.ref a0, .ref a1, .ref a2, .ref a3, .ref a4, .ref a5, .int 0, .int 0])), (a0, .inl (cBy g, 12000, .inl fb)), (a1, .inl (cIn g, 201, .inl bg)), (a2, .inl (cIn g, 200, .inl fg)), (a3, .inl (cIn g, 200, .inl fr)), (a4, .inl (cSh g, 512, .inl sl1)), (a5, .inl (cLo g, 4, .inr (.inl ms1))), (d0, .inl (cIn g, 60, .inl mh)), (d1, .inl (cIn g, 12000, .inl mb)), (d2, .inl (cIn g, 200, .inl mz)), (d3, .inl (cIn g, 200, .inl mg)), (d4, .inl (cIn g, 200, .inl mr))]) (x_runV (As := []) (rest := [.int r1]) ⟨hx, hb, hml, hown, hc⟩ (c_Model_clear l g _ d d0 d1 d2 d3 d4 (nI h) V) (cwV 0 hc (good_V km_law_50 ki_Model_clear ks_Model_clear kn_Model kc_Model_clear) rfl rfl rfl (by decide +kernel) ⟨Nat.le_of_ble_eq_true rfl, Nat.le_of_ble_eq_true rfl⟩) hP hD hK hN [10] (by decide) rfl (va_recv hK hP (ci := 3) (q0 := 10) rfl rfl) rfl hl.1 rfl (Nat.le_of_ble_eq_true rfl) d_law_276 ⟨Nat.le_of_ble_eq_true rfl, Nat.le_of_ble_eq_true rfl⟩) hP hD hS hA [10] [0, 1, 2, 3, 4, 5, 6, 7, 8, 9, 11, 12, 13, 14, 15] rfl rfl (by decide) (by decide) (fun r2 u2 H locs hw2 hP hD hS => ?_)
      have hP := hP.sub (ws' := [(o, .inr (0, [.ref y, .ref a])), (y, .inr (1, [.ref y0, .int 0])), (y0, .inl (cBy g, 60, .inl f)), (a, .inr (2, [.ref a0, .ref a1, .ref a2, .ref a3, .ref a4, .ref a5, .int 0, .int 0])), (a0, .inl (cBy g, 12000, .inl fb)), (a1, .inl (cIn g, 201, .inl bg)), (a2, .inl (cIn g, 200, .inl fg)), (a3, .inl (cIn g, 200, .inl fr)), (a4, .inl (cSh g, 512, .inl sl1)), (a5, .inl (cLo g, 4, .inr (.inl ms1))), (d, .inr (3, [.ref d0, .int 0, .ref d1, .ref d2, .ref d3, .ref d4, .int 0])), (d0, .inl (cIn g, 60, .inl mh)), (d1, .inl (cIn g, 12000, .inl mb)), (d2, .inl (cIn g, 200, .inl mz)), (d3, .inl (cIn g, 200, .inl mg)), (d4, .inl (cIn g, 200, .inl mr))]) [0, 1, 2, 3, 4, 5, 6, 7, 8, 9, 15, 10, 11, 12, 13, 14] rfl
      have hD := hD.sub (ws' := [(o, .inr (0, [.ref y, .ref a])), (y, .inr (1, [.ref y0, .int 0])), (y0, .inl (cBy g, 60, .inl f)), (a, .inr (2, [.ref a0, .ref a1, .ref a2, .ref a3, .ref a4, .ref a5, .int 0, .int 0])), (a0, .inl (cBy g, 12000, .inl fb)), (a1, .inl (cIn g, 201, .inl bg)), (a2, .inl (cIn g, 200, .inl fg)), (a3, .inl (cIn g, 200, .inl fr)), (a4, .inl (cSh g, 512, .inl sl1)), (a5, .inl (cLo g, 4, .inr (.inl ms1))), (d, .inr (3, [.ref d0, .int 0, .ref d1, .ref d2, .ref d3, .ref d4, .int 0])), (d0, .inl (cIn g, 60, .inl mh)), (d1, .inl (cIn g, 12000, .inl mb)), (d2, .inl (cIn g, 200, .inl mz)), (d3, .inl (cIn g, 200, .inl mg)), (d4, .inl (cIn g, 200, .inl mr))]) [0, 1, 2, 3, 4, 5, 6, 7, 8, 9, 15, 10, 11, 12, 13, 14] (by decide) rfl
      refine lv_icmp_eq (tgt := 284) hx hb d_law_279 (by decide) (fun c2 => ?_) (fun c2 => ?_)
      · refine lv_iinc (v := nI (i + 4)) (lv' := [(3, .int (nI (i + 4))), (0, .ref b), (1, .ref o), (2, .ref d)]) hx hb d_law_284 hl (k := 3) rfl (nI_add i 4) (by decide) rfl (fun ls hl => ?_)
        refine lv_goto (tgt := 18) hx hb d_law_287 (by decide) ?_
        exact ih (i + 4) H locs ls ⟨by omega, ⟨clrA V, 0, nb, _, _, _, _, _, _, _, _, _, _, _, _, _, _, _, AOk_clr _, ⟨Nat.zero_le _, fun k hk => absurd hk (Nat.not_lt_zero _)⟩, fun k hk => absurd hk (Nat.not_lt_zero _), hw1.2, fun k hk => absurd hk (Nat.not_lt_zero _), ⟨rfl, fun k hk => absurd hk (Nat.not_lt_zero _)⟩, hP, hD⟩, hS, lv_sub hl [1, 2, 3, 0] rfl⟩ (by omega)
      · exact absurd (Eq.trans hw1.1 (Eq.symm hw2)) c2
end
section
-- ===== YOUR PART ENDS =====
set_option maxHeartbeats 4000000 in
theorem lw_walk (l : Launch) (b : Addr) (xs : List Int32) : MetFree l x (headSpec (Jvm.Cond.code x code maxLocals ret :: tables_1) room_1) (lw_P b xs) (fun _ _ _ _ _ => True) lw_Q := by
  refine MetFree.of_bodyS (code := code) (maxLocals := maxLocals) (ret := ret) (by decide) ?_ ?_
  · intro args s m h hn
    obtain ⟨meth, c, h1, h2, h3, h4, h5, h6, -, -⟩ := Cond.code_spec hn (atoms_spec (ws := Jvm.Cond.code x code maxLocals ret :: tables_1) h _ List.mem_cons_self)
    exact ⟨meth, c, h1, h2, h3, h4, h5, h6⟩
  · intro p e s m args below meth c s₁ B hml0 hP _
    obtain ⟨rfl, hx, hbd, hgv⟩ := hP
    obtain ⟨scr, harrAt, hlist, hof, hsmall⟩ := hx
    obtain ⟨hcb, hkn, -, -⟩ := State.arrayAt?_spec harrAt
    have hown : s.vm.findClass R_law = some m.cls := findClass_of_methodNamed B.named
    have hts0 : ∀ c ∈ (Jvm.Cond.code x code maxLocals ret :: tables_1), c.before #[Value.ref b] s = true := atoms_spec (ws := Jvm.Cond.code x code maxLocals ret :: tables_1) B.pre
    have hts : ∀ w ∈ lw_tbl, w.before #[Value.ref b] s = true := k2_hts_sels lw_privs (fun w hw => hts0 w (List.mem_cons_of_mem _ hw)) lw_privs_ok
    have hml : c.maxLocals = 4 := B.maxLocals_eq (hts0 _ List.mem_cons_self)
    have X₀ : Stand p l e room_1 s m #[Value.ref b] below meth c s₁ [] 0 0 := Stand.of_body B
    have hh0 : s₁.heap = s.heap := by rw [B.state]; rfl
    have hsz : scr.slots.size = xs.length := by rw [← Array.length_toList, hlist, List.length_map]
    have hval : ∀ j : Nat, j < xs.length → scr.slots[j]? = some (.int (xs.getD j 0)) := fun j hj => by
      rw [← Array.getElem?_toList, hlist]
      simp [hj]
    have hbl : b < s.heap.size := (Array.getElem?_eq_some_iff.mp hcb).1
    have hX : va_X b xs.length (fun j => xs.getD j 0) s s.heap := ⟨scr, hcb, hof, hkn, hsz, hval⟩
    have K : W p l e room_1 s m #[Value.ref b] below meth c s₁.heap [] 0 0 (lw_Z below #[Value.ref b] s) (entryFrame m ([Value.ref b] : List Value).toArray 4) := by
      rw [hh0]
      exact whole_start l hbd ⟨B.exec, B.bytes, B.returns, hml, hown, hts, hX, hbl, B.notSynchronized, hgv⟩
    obtain ⟨t, a1, o, b1, b2, b3⟩ := K s₁ rfl X₀
    exact ⟨t, o, a1, b1, b2, b3⟩
theorem lw_pre_spec {args : Array Value} {s : State} (h : (Jvm.Cond.and given_1 narrow_1).before args s = true) (hr : rest_1_c.before args s = true) : ∃ (b : Addr) (xs : List Int32), lw_P b xs args s := by
  have hs := flat_of_before _ h
  have hq := flat_of_before _ hr
  have hc : (Cond.count 1).before args s = true := hs _ (by decide +kernel)
  have harr : (Cond.arrayOf (.arg 0) .int).before args s = true := hs _ (by decide +kernel)
  have hle : (Cond.le (.length (.arg 0)) (.int 2048)).before args s = true := hs _ (by decide +kernel)
  have hlen : (Cond.isInt (.length (.arg 0))).before args s = true := hq _ (by decide +kernel)
  have hall : (Cond.all (.arg 0) (.isInt (.elem (.arg 0) (.index 0)))).before args s = true := hq _ (by decide +kernel)
  obtain ⟨b, xs, hb, hx⟩ := State.ints_of_pre rfl harr hlen hall
  have hsm : xs.length < 2 ^ 31 := hx.choose_spec.2.2.2
  have hev : (Term.length (.arg 0)).eval args s none [] s = some (.int xs.length.toInt32) := hx.length_eval hb
  have hv := Cond.le_ints hev (show (Term.int 2048).eval args s none [] s = some (.int 2048) from rfl)
  have hd : xs.length.toInt32 ≤ 2048 := by
    simpa [Cond.before, Cond.holds, hv] using hle
  have hN : xs.length ≤ 2048 := (Int32.ofNat_le_ofNat hsm (by decide)).mp (show Int32.ofNat xs.length ≤ Int32.ofNat 2048 from hd)
  exact ⟨b, xs, Cond.one_arg hc (show args[0]? = some (.ref b) from hb), hx, hN, h⟩
theorem lw_comes (l : Launch) : Comes l x (Jvm.Cond.code x code maxLocals ret :: tables_1) room_1 (fun tb e args s => Calls_1 tb e args s ∧ rest_1 tb e args s ∧ Pre_1 tb e args s)
    (fun _ _ args s o t => lw_Q args s o t) := by
  intro p e ha hc hk s m args below hf hfit hheap happ hpre
  obtain ⟨b, xs, hP⟩ := lw_pre_spec hpre.2.2 hpre.2.1
  obtain ⟨k, o, h1, h2, h3, hQ⟩ := lw_walk l b xs p e ha hc hk s m args below hf ((Spec.applies_iff_loose hf).mp happ).1 hP trivial
  exact ⟨k, o, h1, h2, h3, hQ⟩
theorem lw_frame {s t : State} {o : Outcome} {args : Array Value} (h : Framed s o t [] 16 25856) :
    Framed s o t (fieldLocs frame_1_writes args s ++ arrayLocs frame_1_arrays args s ++ staticLocs frame_1_statics s) 16 25856 := h
theorem lw_limb (L : Cond) (hL : ∀ (args : Array Value) (s t : State), L.after args s (.returned (some (.int 1))) t = true) :
    ArmFor flags0 classFile x code maxLocals ret World_1 tables_1 room_1 Calls_1 rest_1 Pre_1
      (fun tb e a s o t => postC L tb e a s o t ∧ Framed s o t (fieldLocs frame_1_writes a s ++ arrayLocs frame_1_arrays a s ++ staticLocs frame_1_statics s) 16 25856) := by
  intro l _ _ _ p e ha hc hk s m args below hf hfit hheap happ hpre
  obtain ⟨k, o, h1, h2, h3, rfl, hF⟩ := lw_comes l p e ha hc hk s m args below hf hfit hheap happ hpre
  exact ⟨k, _, h1, h2, h3, hL args s _, lw_frame hF⟩
theorem i_vc : Claimed_1_1 ∧ Claimed_1_2 := ⟨lw_limb limb_1_1 (fun args s t => by simp [limb_1_1, Cond.after, Cond.holds, Cond.value]), lw_limb limb_1_2 (fun args s t => Cond.after_iff.mpr (by
  first | (rw [show limb_1_2 = Cond.eq .result (.int 1) from rfl, Cond.eq_ints (x := 1) (y := 1) rfl rfl]; simp; done) | (simp [limb_1_2, Cond.value, Term.eval]; done)))⟩
end
