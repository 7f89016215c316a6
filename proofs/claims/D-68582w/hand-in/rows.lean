section
-- ===== PART A: goes FIRST, ahead of the names: the tables' words, and 'selects' of the private methods out of them =====
/-- a private method of a class that the tables say can be made, by its rows of tables_1 -/
def lw_okq (q : MethodName × Nat) : Prop := (q.1.cls ≠ "java/lang/invoke/MethodHandle" ∧ q.1.cls ≠ "java/lang/invoke/VarHandle") ∧ Cond.instantiable q.1.cls q.2 ∈ tables_1 ∧ Cond.privateMethod q.1 ∈ tables_1 ∧ Cond.instanceMethod q.1 ∈ tables_1
theorem lw_p0 : lw_okq (⟨"KeySums$Digest", "mix", "()V"⟩, 8) := ⟨⟨by decide +kernel, by decide +kernel⟩, List.mem_of_getElem? (i := 14) (by decide +kernel), List.mem_of_getElem? (i := 93) (by decide +kernel), List.mem_of_getElem? (i := 94) (by decide +kernel)⟩
theorem lw_p1 : lw_okq (⟨"KeySumsModel", "anew", "()V"⟩, 14) := ⟨⟨by decide +kernel, by decide +kernel⟩, List.mem_of_getElem? (i := 126) (by decide +kernel), List.mem_of_getElem? (i := 200) (by decide +kernel), List.mem_of_getElem? (i := 201) (by decide +kernel)⟩
theorem lw_p2 : lw_okq (⟨"KeySumsModel", "lay", "(I)V"⟩, 14) := ⟨⟨by decide +kernel, by decide +kernel⟩, List.mem_of_getElem? (i := 126) (by decide +kernel), List.mem_of_getElem? (i := 251) (by decide +kernel), List.mem_of_getElem? (i := 252) (by decide +kernel)⟩
theorem lw_p3 : lw_okq (⟨"KeySumsModel", "come", "(I)V"⟩, 14) := ⟨⟨by decide +kernel, by decide +kernel⟩, List.mem_of_getElem? (i := 126) (by decide +kernel), List.mem_of_getElem? (i := 263) (by decide +kernel), List.mem_of_getElem? (i := 264) (by decide +kernel)⟩
theorem lw_p4 : lw_okq (⟨"KeySumsModel", "step", "(I)V"⟩, 14) := ⟨⟨by decide +kernel, by decide +kernel⟩, List.mem_of_getElem? (i := 126) (by decide +kernel), List.mem_of_getElem? (i := 267) (by decide +kernel), List.mem_of_getElem? (i := 268) (by decide +kernel)⟩
theorem lw_p5 : lw_okq (⟨"KeySumsModel", "mixed", "(I)I"⟩, 14) := ⟨⟨by decide +kernel, by decide +kernel⟩, List.mem_of_getElem? (i := 126) (by decide +kernel), List.mem_of_getElem? (i := 271) (by decide +kernel), List.mem_of_getElem? (i := 272) (by decide +kernel)⟩
theorem lw_p6 : lw_okq (⟨"KeySumsModel", "word", "(I)I"⟩, 14) := ⟨⟨by decide +kernel, by decide +kernel⟩, List.mem_of_getElem? (i := 126) (by decide +kernel), List.mem_of_getElem? (i := 275) (by decide +kernel), List.mem_of_getElem? (i := 276) (by decide +kernel)⟩
def lw_privs_1 : List (MethodName × Nat) := [(⟨"KeySums$Digest", "mix", "()V"⟩, 8), (⟨"KeySumsModel", "anew", "()V"⟩, 14), (⟨"KeySumsModel", "lay", "(I)V"⟩, 14), (⟨"KeySumsModel", "come", "(I)V"⟩, 14), (⟨"KeySumsModel", "step", "(I)V"⟩, 14), (⟨"KeySumsModel", "mixed", "(I)I"⟩, 14), (⟨"KeySumsModel", "word", "(I)I"⟩, 14)]
theorem lw_r1 : ∀ q ∈ lw_privs_1, lw_okq q := List.forall_mem_cons.mpr ⟨lw_p0, List.forall_mem_cons.mpr ⟨lw_p1, List.forall_mem_cons.mpr ⟨lw_p2, List.forall_mem_cons.mpr ⟨lw_p3, List.forall_mem_cons.mpr ⟨lw_p4, List.forall_mem_cons.mpr ⟨lw_p5, List.forall_mem_cons.mpr ⟨lw_p6, fun _ h => absurd h List.not_mem_nil⟩⟩⟩⟩⟩⟩⟩
def lw_privs : List (MethodName × Nat) := lw_privs_1
def lw_tbl : List Cond := k2_sels lw_privs ++ tables_1
theorem lw_privs_ok : ∀ q ∈ lw_privs, lw_okq q := lw_r1
-- NAMES: classes, fields in the order of the slots, their types
def F_Digest : u_T := fun k => match k with
  | 0 => ("KeySums$Digest", "block", "[B", true)
  | 1 => ("KeySums$Digest", "words", "[I", true)
  | 2 => ("KeySums$Digest", "a", "I", false)
  | 3 => ("KeySums$Digest", "b", "I", false)
  | 4 => ("KeySums$Digest", "c", "I", false)
  | 5 => ("KeySums$Digest", "d", "I", false)
  | 6 => ("KeySums$Digest", "held", "I", false)
  | _ => ("KeySums$Digest", "many", "J", false)
def t_Digest : Nat → FieldType := fun k => match k with
  | 0 => .array .byte
  | 1 => .array .int
  | 2 => .int
  | 3 => .int
  | 4 => .int
  | 5 => .int
  | 6 => .int
  | _ => .long
abbrev w_Digest : List Cond := u_ws "KeySums$Digest" F_Digest 8
def F_KeySums : u_T := fun k => match k with
  | 0 => ("KeySums", "digest", "LKeySums$Digest;", true)
  | 1 => ("KeySums", "key", "[B", true)
  | 2 => ("KeySums", "sum", "[B", true)
  | 3 => ("KeySums", "has", "Z", false)
  | 4 => ("KeySums", "many", "I", false)
  | 5 => ("KeySums", "tape", "[B", true)
  | _ => ("KeySums", "length", "I", false)
def t_KeySums : Nat → FieldType := fun k => match k with
  | 0 => .object "KeySums$Digest"
  | 1 => .array .byte
  | 2 => .array .byte
  | 3 => .boolean
  | 4 => .int
  | 5 => .array .byte
  | _ => .int
abbrev w_KeySums : List Cond := u_ws "KeySums" F_KeySums 7
def F_Model : u_T := fun k => match k with
  | 0 => ("KeySumsModel", "constant", "[I", true)
  | 1 => ("KeySumsModel", "turns", "[I", true)
  | 2 => ("KeySumsModel", "begin", "[I", true)
  | 3 => ("KeySumsModel", "times", "[I", true)
  | 4 => ("KeySumsModel", "more", "[I", true)
  | 5 => ("KeySumsModel", "tape", "[I", true)
  | 6 => ("KeySumsModel", "size", "I", false)
  | 7 => ("KeySumsModel", "key", "[I", true)
  | 8 => ("KeySumsModel", "block", "[I", true)
  | 9 => ("KeySumsModel", "four", "[I", true)
  | 10 => ("KeySumsModel", "now", "[I", true)
  | 11 => ("KeySumsModel", "many", "I", false)
  | 12 => ("KeySumsModel", "result", "[I", true)
  | _ => ("KeySumsModel", "isSummed", "Z", false)
def t_Model : Nat → FieldType := fun k => match k with
  | 0 => .array .int
  | 1 => .array .int
  | 2 => .array .int
  | 3 => .array .int
  | 4 => .array .int
  | 5 => .array .int
  | 6 => .int
  | 7 => .array .int
  | 8 => .array .int
  | 9 => .array .int
  | 10 => .array .int
  | 11 => .int
  | 12 => .array .int
  | _ => .boolean
abbrev w_Model : List Cond := u_ws "KeySumsModel" F_Model 14
abbrev classes : List vw_C := [("KeySums$Digest", F_Digest, 8), ("KeySums", F_KeySums, 7), ("KeySumsModel", F_Model, 14)]
abbrev b_KeySums_init : ByteArray := prog_1_method_1_code
def y_KeySums_init : MethodName := ⟨"KeySums", "<init>", "()V"⟩
abbrev b_Digest_init : ByteArray := prog_2_method_1_code
def y_Digest_init : MethodName := ⟨"KeySums$Digest", "<init>", "()V"⟩
abbrev b_Digest_begin : ByteArray := prog_2_method_2_code
def y_Digest_begin : MethodName := ⟨"KeySums$Digest", "begin", "()V"⟩
abbrev b_KeySums_feed : ByteArray := prog_1_method_2_code
def y_KeySums_feed : MethodName := ⟨"KeySums", "feed", "(IIIII)Z"⟩
abbrev b_KeySums_end : ByteArray := prog_1_method_3_code
def y_KeySums_end : MethodName := ⟨"KeySums", "end", "(I)Z"⟩
abbrev b_KeySums_add : ByteArray := prog_1_method_4_code
def y_KeySums_add : MethodName := ⟨"KeySums", "add", "()I"⟩
abbrev b_Digest_add : ByteArray := prog_2_method_3_code
def y_Digest_add : MethodName := ⟨"KeySums$Digest", "add", "(I)V"⟩
abbrev b_Digest_mix : ByteArray := prog_2_method_4_code
def y_Digest_mix : MethodName := ⟨"KeySums$Digest", "mix", "()V"⟩
abbrev b_Integer_rotateLeft : ByteArray := prog_5_method_50_code
def y_Integer_rotateLeft : MethodName := ⟨"java/lang/Integer", "rotateLeft", "(II)I"⟩
abbrev b_KeySums_fill : ByteArray := prog_1_method_5_code
def y_KeySums_fill : MethodName := ⟨"KeySums", "fill", "(II)I"⟩
abbrev b_KeySums_key : ByteArray := prog_1_method_6_code
def y_KeySums_key : MethodName := ⟨"KeySums", "key", "()I"⟩
abbrev b_KeySums_sum : ByteArray := prog_1_method_7_code
def y_KeySums_sum : MethodName := ⟨"KeySums", "sum", "(Z)I"⟩
abbrev b_Digest_end : ByteArray := prog_2_method_5_code
def y_Digest_end : MethodName := ⟨"KeySums$Digest", "end", "([BI)V"⟩
abbrev b_KeySums_sumAt : ByteArray := prog_1_method_8_code
def y_KeySums_sumAt : MethodName := ⟨"KeySums", "sumAt", "(I)I"⟩
abbrev b_Model_init : ByteArray := prog_4_method_1_code
def y_Model_init : MethodName := ⟨"KeySumsModel", "<init>", "()V"⟩
abbrev b_Model_anew : ByteArray := prog_4_method_3_code
def y_Model_anew : MethodName := ⟨"KeySumsModel", "anew", "()V"⟩
abbrev b_Model_feed : ByteArray := prog_4_method_5_code
def y_Model_feed : MethodName := ⟨"KeySumsModel", "feed", "(IIIII)Z"⟩
abbrev b_Model_lay : ByteArray := prog_4_method_4_code
def y_Model_lay : MethodName := ⟨"KeySumsModel", "lay", "(I)V"⟩
abbrev b_Model_end : ByteArray := prog_4_method_6_code
def y_Model_end : MethodName := ⟨"KeySumsModel", "end", "(I)Z"⟩
abbrev b_Model_add : ByteArray := prog_4_method_11_code
def y_Model_add : MethodName := ⟨"KeySumsModel", "add", "()I"⟩
abbrev b_Model_come : ByteArray := prog_4_method_10_code
def y_Model_come : MethodName := ⟨"KeySumsModel", "come", "(I)V"⟩
abbrev b_Model_step : ByteArray := prog_4_method_9_code
def y_Model_step : MethodName := ⟨"KeySumsModel", "step", "(I)V"⟩
abbrev b_Model_mixed : ByteArray := prog_4_method_8_code
def y_Model_mixed : MethodName := ⟨"KeySumsModel", "mixed", "(I)I"⟩
abbrev b_Model_word : ByteArray := prog_4_method_7_code
def y_Model_word : MethodName := ⟨"KeySumsModel", "word", "(I)I"⟩
abbrev b_Model_fill : ByteArray := prog_4_method_12_code
def y_Model_fill : MethodName := ⟨"KeySumsModel", "fill", "(II)I"⟩
abbrev b_Model_key : ByteArray := prog_4_method_13_code
def y_Model_key : MethodName := ⟨"KeySumsModel", "key", "()I"⟩
abbrev b_Model_sum : ByteArray := prog_4_method_14_code
def y_Model_sum : MethodName := ⟨"KeySumsModel", "sum", "(Z)I"⟩
abbrev b_Model_sumAt : ByteArray := prog_4_method_15_code
def y_Model_sumAt : MethodName := ⟨"KeySumsModel", "sumAt", "(I)I"⟩
/-- the words of the tables that stay true at any later state: one list for all methods -/
def cm : List Cond := lw_tbl.filter goodWord
theorem cm_in {w : Cond} (h : w ∈ lw_tbl) (hg : goodWord w = true) : w ∈ cm := List.mem_filter.mpr ⟨h, hg⟩
theorem cm_good {w : Cond} (h : w ∈ cm) : goodWord w = true := (List.mem_filter.mp h).2
theorem cm_tbl {w : Cond} (h : w ∈ cm) : w ∈ lw_tbl := (List.mem_filter.mp h).1
abbrev w_KeySums_init : List Cond := Cond.code y_KeySums_init b_KeySums_init 1 none :: cm
abbrev w_Digest_init : List Cond := Cond.code y_Digest_init b_Digest_init 1 none :: cm
abbrev w_Digest_begin : List Cond := Cond.code y_Digest_begin b_Digest_begin 1 none :: cm
abbrev w_KeySums_feed : List Cond := Cond.code y_KeySums_feed b_KeySums_feed 8 (some .boolean) :: cm
abbrev w_KeySums_end : List Cond := Cond.code y_KeySums_end b_KeySums_end 2 (some .boolean) :: cm
abbrev w_KeySums_add : List Cond := Cond.code y_KeySums_add b_KeySums_add 2 (some .int) :: cm
abbrev w_Digest_add : List Cond := Cond.code y_Digest_add b_Digest_add 2 none :: cm
abbrev w_Digest_mix : List Cond := Cond.code y_Digest_mix b_Digest_mix 9 none :: cm
abbrev w_Integer_rotateLeft : List Cond := Cond.code y_Integer_rotateLeft b_Integer_rotateLeft 2 (some .int) :: cm
abbrev w_KeySums_fill : List Cond := Cond.code y_KeySums_fill b_KeySums_fill 4 (some .int) :: cm
abbrev w_KeySums_key : List Cond := Cond.code y_KeySums_key b_KeySums_key 3 (some .int) :: cm
abbrev w_KeySums_sum : List Cond := Cond.code y_KeySums_sum b_KeySums_sum 7 (some .int) :: cm
abbrev w_Digest_end : List Cond := Cond.code y_Digest_end b_Digest_end 6 none :: cm
abbrev w_KeySums_sumAt : List Cond := Cond.code y_KeySums_sumAt b_KeySums_sumAt 2 (some .int) :: cm
abbrev w_Model_init : List Cond := Cond.code y_Model_init b_Model_init 1 none :: cm
abbrev w_Model_anew : List Cond := Cond.code y_Model_anew b_Model_anew 2 none :: cm
abbrev w_Model_feed : List Cond := Cond.code y_Model_feed b_Model_feed 6 (some .boolean) :: cm
abbrev w_Model_lay : List Cond := Cond.code y_Model_lay b_Model_lay 3 none :: cm
abbrev w_Model_end : List Cond := Cond.code y_Model_end b_Model_end 2 (some .boolean) :: cm
abbrev w_Model_add : List Cond := Cond.code y_Model_add b_Model_add 2 (some .int) :: cm
abbrev w_Model_come : List Cond := Cond.code y_Model_come b_Model_come 3 none :: cm
abbrev w_Model_step : List Cond := Cond.code y_Model_step b_Model_step 5 none :: cm
abbrev w_Model_mixed : List Cond := Cond.code y_Model_mixed b_Model_mixed 5 (some .int) :: cm
abbrev w_Model_word : List Cond := Cond.code y_Model_word b_Model_word 2 (some .int) :: cm
abbrev w_Model_fill : List Cond := Cond.code y_Model_fill b_Model_fill 4 (some .int) :: cm
abbrev w_Model_key : List Cond := Cond.code y_Model_key b_Model_key 3 (some .int) :: cm
abbrev w_Model_sum : List Cond := Cond.code y_Model_sum b_Model_sum 6 (some .int) :: cm
abbrev w_Model_sumAt : List Cond := Cond.code y_Model_sumAt b_Model_sumAt 2 (some .int) :: cm
theorem n_Digest : ∀ a, a < 8 → ∀ b, b < 8 → a ≠ b → (F_Digest a).2.1 ≠ (F_Digest b).2.1 := by decide +kernel
theorem t_Digest_ok : ∀ k, k < 8 → parseFieldDescriptor (F_Digest k).2.2.1 = some (t_Digest k) := by decide +kernel
theorem i_Digest_0 : ∀ w ∈ w_Digest, w ∈ lw_tbl ∧ goodWord w = true := by decide +kernel
theorem i_Digest : ∀ w ∈ w_Digest, w ∈ cm := fun w h => cm_in (i_Digest_0 w h).1 (i_Digest_0 w h).2
theorem n_KeySums : ∀ a, a < 7 → ∀ b, b < 7 → a ≠ b → (F_KeySums a).2.1 ≠ (F_KeySums b).2.1 := by decide +kernel
theorem t_KeySums_ok : ∀ k, k < 7 → parseFieldDescriptor (F_KeySums k).2.2.1 = some (t_KeySums k) := by decide +kernel
theorem i_KeySums_0 : ∀ w ∈ w_KeySums, w ∈ lw_tbl ∧ goodWord w = true := by decide +kernel
theorem i_KeySums : ∀ w ∈ w_KeySums, w ∈ cm := fun w h => cm_in (i_KeySums_0 w h).1 (i_KeySums_0 w h).2
theorem n_Model : ∀ a, a < 14 → ∀ b, b < 14 → a ≠ b → (F_Model a).2.1 ≠ (F_Model b).2.1 := by decide +kernel
theorem t_Model_ok : ∀ k, k < 14 → parseFieldDescriptor (F_Model k).2.2.1 = some (t_Model k) := by decide +kernel
theorem i_Model_0 : ∀ w ∈ w_Model, w ∈ lw_tbl ∧ goodWord w = true := by decide +kernel
theorem i_Model : ∀ w ∈ w_Model, w ∈ cm := fun w h => cm_in (i_Model_0 w h).1 (i_Model_0 w h).2
theorem kw_0 : Cond.selects "KeySums$Digest" y_Digest_mix y_Digest_mix ∈ cm := cm_in (List.mem_of_getElem? (i := 0) (by decide +kernel)) rfl
theorem kw_1 : Cond.selects "KeySumsModel" y_Model_anew y_Model_anew ∈ cm := cm_in (List.mem_of_getElem? (i := 1) (by decide +kernel)) rfl
theorem kw_2 : Cond.selects "KeySumsModel" y_Model_lay y_Model_lay ∈ cm := cm_in (List.mem_of_getElem? (i := 2) (by decide +kernel)) rfl
theorem kw_3 : Cond.selects "KeySumsModel" y_Model_come y_Model_come ∈ cm := cm_in (List.mem_of_getElem? (i := 3) (by decide +kernel)) rfl
theorem kw_4 : Cond.selects "KeySumsModel" y_Model_step y_Model_step ∈ cm := cm_in (List.mem_of_getElem? (i := 4) (by decide +kernel)) rfl
theorem kw_5 : Cond.selects "KeySumsModel" y_Model_mixed y_Model_mixed ∈ cm := cm_in (List.mem_of_getElem? (i := 5) (by decide +kernel)) rfl
theorem kw_6 : Cond.selects "KeySumsModel" y_Model_word y_Model_word ∈ cm := cm_in (List.mem_of_getElem? (i := 6) (by decide +kernel)) rfl
theorem kw_7 : Cond.initialized "KeySumsLaw" ∈ cm := cm_in (List.mem_of_getElem? (i := 7) (by decide +kernel)) rfl
theorem kw_8 : Cond.initialized "KeySums" ∈ cm := cm_in (List.mem_of_getElem? (i := 8) (by decide +kernel)) rfl
theorem kw_9 : Cond.initialized "KeySums$Digest" ∈ cm := cm_in (List.mem_of_getElem? (i := 9) (by decide +kernel)) rfl
theorem kw_10 : Cond.initialized "KeySumsModel" ∈ cm := cm_in (List.mem_of_getElem? (i := 10) (by decide +kernel)) rfl
theorem kw_11 : Cond.initialized "java/lang/Integer" ∈ cm := cm_in (List.mem_of_getElem? (i := 11) (by decide +kernel)) rfl
theorem kw_12 : Cond.classLink "KeySumsLaw" 7 "KeySums" ∈ cm := cm_in (List.mem_of_getElem? (i := 12) (by decide +kernel)) rfl
theorem kw_13 : Cond.instantiable "KeySums" 7 ∈ cm := cm_in (List.mem_of_getElem? (i := 13) (by decide +kernel)) rfl
theorem kw_14 : Cond.methodLink "KeySumsLaw" 9 y_KeySums_init ∈ cm := cm_in (List.mem_of_getElem? (i := 14) (by decide +kernel)) rfl
theorem kw_15 : Cond.instanceMethod y_KeySums_init ∈ cm := cm_in (List.mem_of_getElem? (i := 15) (by decide +kernel)) rfl
theorem kw_16 : Cond.code y_KeySums_init prog_1_method_1_code 1 none ∈ cm := cm_in (List.mem_of_getElem? (i := 16) rfl) rfl
theorem kw_17 : Cond.methodLink "KeySums" 1 objectInit ∈ cm := cm_in (List.mem_of_getElem? (i := 17) (by decide +kernel)) rfl
theorem kw_18 : Cond.instanceMethod objectInit ∈ cm := cm_in (List.mem_of_getElem? (i := 18) (by decide +kernel)) rfl
theorem kw_19 : Cond.code objectInit object_method_1_code 1 none ∈ cm := cm_in (List.mem_of_getElem? (i := 19) rfl) rfl
theorem kw_20 : Cond.classLink "KeySums" 7 "KeySums$Digest" ∈ cm := cm_in (List.mem_of_getElem? (i := 20) (by decide +kernel)) rfl
theorem kw_21 : Cond.instantiable "KeySums$Digest" 8 ∈ cm := cm_in (List.mem_of_getElem? (i := 21) (by decide +kernel)) rfl
theorem kw_23 : Cond.instanceMethod y_Digest_init ∈ cm := cm_in (List.mem_of_getElem? (i := 23) (by decide +kernel)) rfl
theorem kw_24 : Cond.code y_Digest_init prog_2_method_1_code 1 none ∈ cm := cm_in (List.mem_of_getElem? (i := 24) rfl) rfl
theorem kw_25 : Cond.methodLink "KeySums$Digest" 1 objectInit ∈ cm := cm_in (List.mem_of_getElem? (i := 25) (by decide +kernel)) rfl
theorem kw_26 : Cond.fieldLink "KeySums$Digest" 7 "KeySums$Digest" "block" "[B" ∈ cm := cm_in (List.mem_of_getElem? (i := 26) (by decide +kernel)) rfl
theorem kw_27 : Cond.fieldLink "KeySums$Digest" 13 "KeySums$Digest" "words" "[I" ∈ cm := cm_in (List.mem_of_getElem? (i := 27) (by decide +kernel)) rfl
theorem kw_28 : Cond.fieldLink "KeySums$Digest" 18 "KeySums$Digest" "a" "I" ∈ cm := cm_in (List.mem_of_getElem? (i := 28) (by decide +kernel)) rfl
theorem kw_29 : Cond.fieldLink "KeySums$Digest" 23 "KeySums$Digest" "b" "I" ∈ cm := cm_in (List.mem_of_getElem? (i := 29) (by decide +kernel)) rfl
theorem kw_30 : Cond.fieldLink "KeySums$Digest" 27 "KeySums$Digest" "c" "I" ∈ cm := cm_in (List.mem_of_getElem? (i := 30) (by decide +kernel)) rfl
theorem kw_31 : Cond.fieldLink "KeySums$Digest" 31 "KeySums$Digest" "d" "I" ∈ cm := cm_in (List.mem_of_getElem? (i := 31) (by decide +kernel)) rfl
theorem kw_32 : Cond.fieldLink "KeySums$Digest" 34 "KeySums$Digest" "held" "I" ∈ cm := cm_in (List.mem_of_getElem? (i := 32) (by decide +kernel)) rfl
theorem kw_33 : Cond.fieldLink "KeySums$Digest" 37 "KeySums$Digest" "many" "J" ∈ cm := cm_in (List.mem_of_getElem? (i := 33) (by decide +kernel)) rfl
theorem kw_51 : Cond.arrayClass .byte ∈ cm := cm_in (List.mem_of_getElem? (i := 51) (by decide +kernel)) rfl
theorem kw_52 : Cond.arrayClass .int ∈ cm := cm_in (List.mem_of_getElem? (i := 52) (by decide +kernel)) rfl
theorem kw_53 : Cond.methodLink "KeySums" 26 y_Digest_begin ∈ cm := cm_in (List.mem_of_getElem? (i := 53) (by decide +kernel)) rfl
theorem kw_54 : Cond.instanceMethod y_Digest_begin ∈ cm := cm_in (List.mem_of_getElem? (i := 54) (by decide +kernel)) rfl
theorem kw_55 : Cond.selects "KeySums$Digest" y_Digest_begin y_Digest_begin ∈ cm := cm_in (List.mem_of_getElem? (i := 55) (by decide +kernel)) rfl
theorem kw_56 : Cond.code y_Digest_begin prog_2_method_2_code 1 none ∈ cm := cm_in (List.mem_of_getElem? (i := 56) rfl) rfl
theorem kw_57 : Cond.constant "KeySums$Digest" 17 1732584193 ∈ cm := cm_in (List.mem_of_getElem? (i := 57) (by decide +kernel)) rfl
theorem kw_58 : Cond.constant "KeySums$Digest" 22 (-271733879) ∈ cm := cm_in (List.mem_of_getElem? (i := 58) (by decide +kernel)) rfl
theorem kw_59 : Cond.constant "KeySums$Digest" 26 (-1732584194) ∈ cm := cm_in (List.mem_of_getElem? (i := 59) (by decide +kernel)) rfl
theorem kw_60 : Cond.constant "KeySums$Digest" 30 271733878 ∈ cm := cm_in (List.mem_of_getElem? (i := 60) (by decide +kernel)) rfl
theorem kw_61 : Cond.fieldLink "KeySums" 10 "KeySums" "digest" "LKeySums$Digest;" ∈ cm := cm_in (List.mem_of_getElem? (i := 61) (by decide +kernel)) rfl
theorem kw_62 : Cond.fieldLink "KeySums" 16 "KeySums" "key" "[B" ∈ cm := cm_in (List.mem_of_getElem? (i := 62) (by decide +kernel)) rfl
theorem kw_63 : Cond.fieldLink "KeySums" 20 "KeySums" "sum" "[B" ∈ cm := cm_in (List.mem_of_getElem? (i := 63) (by decide +kernel)) rfl
theorem kw_64 : Cond.fieldLink "KeySums" 44 "KeySums" "has" "Z" ∈ cm := cm_in (List.mem_of_getElem? (i := 64) (by decide +kernel)) rfl
theorem kw_65 : Cond.fieldLink "KeySums" 37 "KeySums" "many" "I" ∈ cm := cm_in (List.mem_of_getElem? (i := 65) (by decide +kernel)) rfl
theorem kw_66 : Cond.fieldLink "KeySums" 23 "KeySums" "tape" "[B" ∈ cm := cm_in (List.mem_of_getElem? (i := 66) (by decide +kernel)) rfl
theorem kw_67 : Cond.fieldLink "KeySums" 29 "KeySums" "length" "I" ∈ cm := cm_in (List.mem_of_getElem? (i := 67) (by decide +kernel)) rfl
theorem kw_83 : Cond.methodLink "KeySumsLaw" 13 y_KeySums_feed ∈ cm := cm_in (List.mem_of_getElem? (i := 83) (by decide +kernel)) rfl
theorem kw_84 : Cond.instanceMethod y_KeySums_feed ∈ cm := cm_in (List.mem_of_getElem? (i := 84) (by decide +kernel)) rfl
theorem kw_85 : Cond.selects "KeySums" y_KeySums_feed y_KeySums_feed ∈ cm := cm_in (List.mem_of_getElem? (i := 85) (by decide +kernel)) rfl
theorem kw_86 : Cond.code y_KeySums_feed prog_1_method_2_code 8 (some .boolean) ∈ cm := cm_in (List.mem_of_getElem? (i := 86) rfl) rfl
theorem kw_87 : Cond.methodLink "KeySumsLaw" 18 y_KeySums_end ∈ cm := cm_in (List.mem_of_getElem? (i := 87) (by decide +kernel)) rfl
theorem kw_88 : Cond.instanceMethod y_KeySums_end ∈ cm := cm_in (List.mem_of_getElem? (i := 88) (by decide +kernel)) rfl
theorem kw_89 : Cond.selects "KeySums" y_KeySums_end y_KeySums_end ∈ cm := cm_in (List.mem_of_getElem? (i := 89) (by decide +kernel)) rfl
theorem kw_90 : Cond.code y_KeySums_end prog_1_method_3_code 2 (some .boolean) ∈ cm := cm_in (List.mem_of_getElem? (i := 90) rfl) rfl
theorem kw_91 : Cond.methodLink "KeySumsLaw" 23 y_KeySums_add ∈ cm := cm_in (List.mem_of_getElem? (i := 91) (by decide +kernel)) rfl
theorem kw_92 : Cond.instanceMethod y_KeySums_add ∈ cm := cm_in (List.mem_of_getElem? (i := 92) (by decide +kernel)) rfl
theorem kw_93 : Cond.selects "KeySums" y_KeySums_add y_KeySums_add ∈ cm := cm_in (List.mem_of_getElem? (i := 93) (by decide +kernel)) rfl
theorem kw_94 : Cond.code y_KeySums_add prog_1_method_4_code 2 (some .int) ∈ cm := cm_in (List.mem_of_getElem? (i := 94) rfl) rfl
theorem kw_95 : Cond.methodLink "KeySums" 33 y_Digest_add ∈ cm := cm_in (List.mem_of_getElem? (i := 95) (by decide +kernel)) rfl
theorem kw_96 : Cond.instanceMethod y_Digest_add ∈ cm := cm_in (List.mem_of_getElem? (i := 96) (by decide +kernel)) rfl
theorem kw_97 : Cond.selects "KeySums$Digest" y_Digest_add y_Digest_add ∈ cm := cm_in (List.mem_of_getElem? (i := 97) (by decide +kernel)) rfl
theorem kw_98 : Cond.code y_Digest_add prog_2_method_3_code 2 none ∈ cm := cm_in (List.mem_of_getElem? (i := 98) rfl) rfl
theorem kw_99 : Cond.methodLink "KeySums$Digest" 41 y_Digest_mix ∈ cm := cm_in (List.mem_of_getElem? (i := 99) (by decide +kernel)) rfl
theorem kw_101 : Cond.instanceMethod y_Digest_mix ∈ cm := cm_in (List.mem_of_getElem? (i := 101) (by decide +kernel)) rfl
theorem kw_102 : Cond.code y_Digest_mix prog_2_method_4_code 9 none ∈ cm := cm_in (List.mem_of_getElem? (i := 102) rfl) rfl
theorem kw_103 : Cond.fieldLink "KeySums$Digest" 44 "KeySums$Digest" "K" "[I" ∈ cm := cm_in (List.mem_of_getElem? (i := 103) (by decide +kernel)) rfl
theorem kw_105 : Cond.fieldLink "KeySums$Digest" 47 "KeySums$Digest" "TURNS" "[I" ∈ cm := cm_in (List.mem_of_getElem? (i := 105) (by decide +kernel)) rfl
theorem kw_107 : Cond.methodLink "KeySums$Digest" 50 y_Integer_rotateLeft ∈ cm := cm_in (List.mem_of_getElem? (i := 107) (by decide +kernel)) rfl
theorem kw_108 : Cond.static y_Integer_rotateLeft ∈ cm := cm_in (List.mem_of_getElem? (i := 108) (by decide +kernel)) rfl
theorem kw_109 : Cond.code y_Integer_rotateLeft prog_5_method_50_code 2 (some .int) ∈ cm := cm_in (List.mem_of_getElem? (i := 109) rfl) rfl
theorem kw_110 : Cond.methodLink "KeySumsLaw" 28 y_KeySums_fill ∈ cm := cm_in (List.mem_of_getElem? (i := 110) (by decide +kernel)) rfl
theorem kw_111 : Cond.instanceMethod y_KeySums_fill ∈ cm := cm_in (List.mem_of_getElem? (i := 111) (by decide +kernel)) rfl
theorem kw_112 : Cond.selects "KeySums" y_KeySums_fill y_KeySums_fill ∈ cm := cm_in (List.mem_of_getElem? (i := 112) (by decide +kernel)) rfl
theorem kw_113 : Cond.code y_KeySums_fill prog_1_method_5_code 4 (some .int) ∈ cm := cm_in (List.mem_of_getElem? (i := 113) rfl) rfl
theorem kw_114 : Cond.methodLink "KeySumsLaw" 33 y_KeySums_key ∈ cm := cm_in (List.mem_of_getElem? (i := 114) (by decide +kernel)) rfl
theorem kw_115 : Cond.instanceMethod y_KeySums_key ∈ cm := cm_in (List.mem_of_getElem? (i := 115) (by decide +kernel)) rfl
theorem kw_116 : Cond.selects "KeySums" y_KeySums_key y_KeySums_key ∈ cm := cm_in (List.mem_of_getElem? (i := 116) (by decide +kernel)) rfl
theorem kw_117 : Cond.code y_KeySums_key prog_1_method_6_code 3 (some .int) ∈ cm := cm_in (List.mem_of_getElem? (i := 117) rfl) rfl
theorem kw_118 : Cond.methodLink "KeySumsLaw" 37 y_KeySums_sum ∈ cm := cm_in (List.mem_of_getElem? (i := 118) (by decide +kernel)) rfl
theorem kw_119 : Cond.instanceMethod y_KeySums_sum ∈ cm := cm_in (List.mem_of_getElem? (i := 119) (by decide +kernel)) rfl
theorem kw_120 : Cond.selects "KeySums" y_KeySums_sum y_KeySums_sum ∈ cm := cm_in (List.mem_of_getElem? (i := 120) (by decide +kernel)) rfl
theorem kw_121 : Cond.code y_KeySums_sum prog_1_method_7_code 7 (some .int) ∈ cm := cm_in (List.mem_of_getElem? (i := 121) rfl) rfl
theorem kw_122 : Cond.methodLink "KeySums" 40 y_Digest_end ∈ cm := cm_in (List.mem_of_getElem? (i := 122) (by decide +kernel)) rfl
theorem kw_123 : Cond.instanceMethod y_Digest_end ∈ cm := cm_in (List.mem_of_getElem? (i := 123) (by decide +kernel)) rfl
theorem kw_124 : Cond.selects "KeySums$Digest" y_Digest_end y_Digest_end ∈ cm := cm_in (List.mem_of_getElem? (i := 124) (by decide +kernel)) rfl
theorem kw_125 : Cond.code y_Digest_end prog_2_method_5_code 6 none ∈ cm := cm_in (List.mem_of_getElem? (i := 125) rfl) rfl
theorem kw_126 : Cond.constantLong "KeySums$Digest" 56 8 ∈ cm := cm_in (List.mem_of_getElem? (i := 126) (by decide +kernel)) rfl
theorem kw_127 : Cond.methodLink "KeySums$Digest" 58 y_Digest_add ∈ cm := cm_in (List.mem_of_getElem? (i := 127) (by decide +kernel)) rfl
theorem kw_128 : Cond.methodLink "KeySumsLaw" 42 y_KeySums_sumAt ∈ cm := cm_in (List.mem_of_getElem? (i := 128) (by decide +kernel)) rfl
theorem kw_129 : Cond.instanceMethod y_KeySums_sumAt ∈ cm := cm_in (List.mem_of_getElem? (i := 129) (by decide +kernel)) rfl
theorem kw_130 : Cond.selects "KeySums" y_KeySums_sumAt y_KeySums_sumAt ∈ cm := cm_in (List.mem_of_getElem? (i := 130) (by decide +kernel)) rfl
theorem kw_131 : Cond.code y_KeySums_sumAt prog_1_method_8_code 2 (some .int) ∈ cm := cm_in (List.mem_of_getElem? (i := 131) rfl) rfl
theorem kw_132 : Cond.classLink "KeySumsLaw" 10 "KeySumsModel" ∈ cm := cm_in (List.mem_of_getElem? (i := 132) (by decide +kernel)) rfl
theorem kw_133 : Cond.instantiable "KeySumsModel" 14 ∈ cm := cm_in (List.mem_of_getElem? (i := 133) (by decide +kernel)) rfl
theorem kw_134 : Cond.methodLink "KeySumsLaw" 12 y_Model_init ∈ cm := cm_in (List.mem_of_getElem? (i := 134) (by decide +kernel)) rfl
theorem kw_135 : Cond.instanceMethod y_Model_init ∈ cm := cm_in (List.mem_of_getElem? (i := 135) (by decide +kernel)) rfl
theorem kw_136 : Cond.code y_Model_init prog_4_method_1_code 1 none ∈ cm := cm_in (List.mem_of_getElem? (i := 136) rfl) rfl
theorem kw_137 : Cond.methodLink "KeySumsModel" 1 objectInit ∈ cm := cm_in (List.mem_of_getElem? (i := 137) (by decide +kernel)) rfl
theorem kw_138 : Cond.constant "KeySumsModel" 7 (-680876936) ∈ cm := cm_in (List.mem_of_getElem? (i := 138) (by decide +kernel)) rfl
theorem kw_139 : Cond.constant "KeySumsModel" 8 (-389564586) ∈ cm := cm_in (List.mem_of_getElem? (i := 139) (by decide +kernel)) rfl
theorem kw_140 : Cond.constant "KeySumsModel" 9 606105819 ∈ cm := cm_in (List.mem_of_getElem? (i := 140) (by decide +kernel)) rfl
theorem kw_141 : Cond.constant "KeySumsModel" 10 (-1044525330) ∈ cm := cm_in (List.mem_of_getElem? (i := 141) (by decide +kernel)) rfl
theorem kw_142 : Cond.constant "KeySumsModel" 11 (-176418897) ∈ cm := cm_in (List.mem_of_getElem? (i := 142) (by decide +kernel)) rfl
theorem kw_143 : Cond.constant "KeySumsModel" 12 1200080426 ∈ cm := cm_in (List.mem_of_getElem? (i := 143) (by decide +kernel)) rfl
theorem kw_144 : Cond.constant "KeySumsModel" 13 (-1473231341) ∈ cm := cm_in (List.mem_of_getElem? (i := 144) (by decide +kernel)) rfl
theorem kw_145 : Cond.constant "KeySumsModel" 14 (-45705983) ∈ cm := cm_in (List.mem_of_getElem? (i := 145) (by decide +kernel)) rfl
theorem kw_146 : Cond.constant "KeySumsModel" 15 1770035416 ∈ cm := cm_in (List.mem_of_getElem? (i := 146) (by decide +kernel)) rfl
theorem kw_147 : Cond.constant "KeySumsModel" 16 (-1958414417) ∈ cm := cm_in (List.mem_of_getElem? (i := 147) (by decide +kernel)) rfl
theorem kw_148 : Cond.constant "KeySumsModel" 17 (-42063) ∈ cm := cm_in (List.mem_of_getElem? (i := 148) (by decide +kernel)) rfl
theorem kw_149 : Cond.constant "KeySumsModel" 18 (-1990404162) ∈ cm := cm_in (List.mem_of_getElem? (i := 149) (by decide +kernel)) rfl
theorem kw_150 : Cond.constant "KeySumsModel" 19 1804603682 ∈ cm := cm_in (List.mem_of_getElem? (i := 150) (by decide +kernel)) rfl
theorem kw_151 : Cond.constant "KeySumsModel" 20 (-40341101) ∈ cm := cm_in (List.mem_of_getElem? (i := 151) (by decide +kernel)) rfl
theorem kw_152 : Cond.constant "KeySumsModel" 21 (-1502002290) ∈ cm := cm_in (List.mem_of_getElem? (i := 152) (by decide +kernel)) rfl
theorem kw_153 : Cond.constant "KeySumsModel" 22 1236535329 ∈ cm := cm_in (List.mem_of_getElem? (i := 153) (by decide +kernel)) rfl
theorem kw_154 : Cond.constant "KeySumsModel" 23 (-165796510) ∈ cm := cm_in (List.mem_of_getElem? (i := 154) (by decide +kernel)) rfl
theorem kw_155 : Cond.constant "KeySumsModel" 24 (-1069501632) ∈ cm := cm_in (List.mem_of_getElem? (i := 155) (by decide +kernel)) rfl
theorem kw_156 : Cond.constant "KeySumsModel" 25 643717713 ∈ cm := cm_in (List.mem_of_getElem? (i := 156) (by decide +kernel)) rfl
theorem kw_157 : Cond.constant "KeySumsModel" 26 (-373897302) ∈ cm := cm_in (List.mem_of_getElem? (i := 157) (by decide +kernel)) rfl
theorem kw_158 : Cond.constant "KeySumsModel" 27 (-701558691) ∈ cm := cm_in (List.mem_of_getElem? (i := 158) (by decide +kernel)) rfl
theorem kw_159 : Cond.constant "KeySumsModel" 28 38016083 ∈ cm := cm_in (List.mem_of_getElem? (i := 159) (by decide +kernel)) rfl
theorem kw_160 : Cond.constant "KeySumsModel" 29 (-660478335) ∈ cm := cm_in (List.mem_of_getElem? (i := 160) (by decide +kernel)) rfl
theorem kw_161 : Cond.constant "KeySumsModel" 30 (-405537848) ∈ cm := cm_in (List.mem_of_getElem? (i := 161) (by decide +kernel)) rfl
theorem kw_162 : Cond.constant "KeySumsModel" 31 568446438 ∈ cm := cm_in (List.mem_of_getElem? (i := 162) (by decide +kernel)) rfl
theorem kw_163 : Cond.constant "KeySumsModel" 32 (-1019803690) ∈ cm := cm_in (List.mem_of_getElem? (i := 163) (by decide +kernel)) rfl
theorem kw_164 : Cond.constant "KeySumsModel" 33 (-187363961) ∈ cm := cm_in (List.mem_of_getElem? (i := 164) (by decide +kernel)) rfl
theorem kw_165 : Cond.constant "KeySumsModel" 34 1163531501 ∈ cm := cm_in (List.mem_of_getElem? (i := 165) (by decide +kernel)) rfl
theorem kw_166 : Cond.constant "KeySumsModel" 35 (-1444681467) ∈ cm := cm_in (List.mem_of_getElem? (i := 166) (by decide +kernel)) rfl
theorem kw_167 : Cond.constant "KeySumsModel" 36 (-51403784) ∈ cm := cm_in (List.mem_of_getElem? (i := 167) (by decide +kernel)) rfl
theorem kw_168 : Cond.constant "KeySumsModel" 37 1735328473 ∈ cm := cm_in (List.mem_of_getElem? (i := 168) (by decide +kernel)) rfl
theorem kw_169 : Cond.constant "KeySumsModel" 38 (-1926607734) ∈ cm := cm_in (List.mem_of_getElem? (i := 169) (by decide +kernel)) rfl
theorem kw_170 : Cond.constant "KeySumsModel" 39 (-378558) ∈ cm := cm_in (List.mem_of_getElem? (i := 170) (by decide +kernel)) rfl
theorem kw_171 : Cond.constant "KeySumsModel" 40 (-2022574463) ∈ cm := cm_in (List.mem_of_getElem? (i := 171) (by decide +kernel)) rfl
theorem kw_172 : Cond.constant "KeySumsModel" 41 1839030562 ∈ cm := cm_in (List.mem_of_getElem? (i := 172) (by decide +kernel)) rfl
theorem kw_173 : Cond.constant "KeySumsModel" 42 (-35309556) ∈ cm := cm_in (List.mem_of_getElem? (i := 173) (by decide +kernel)) rfl
theorem kw_174 : Cond.constant "KeySumsModel" 43 (-1530992060) ∈ cm := cm_in (List.mem_of_getElem? (i := 174) (by decide +kernel)) rfl
theorem kw_175 : Cond.constant "KeySumsModel" 44 1272893353 ∈ cm := cm_in (List.mem_of_getElem? (i := 175) (by decide +kernel)) rfl
theorem kw_176 : Cond.constant "KeySumsModel" 45 (-155497632) ∈ cm := cm_in (List.mem_of_getElem? (i := 176) (by decide +kernel)) rfl
theorem kw_177 : Cond.constant "KeySumsModel" 46 (-1094730640) ∈ cm := cm_in (List.mem_of_getElem? (i := 177) (by decide +kernel)) rfl
theorem kw_178 : Cond.constant "KeySumsModel" 47 681279174 ∈ cm := cm_in (List.mem_of_getElem? (i := 178) (by decide +kernel)) rfl
theorem kw_179 : Cond.constant "KeySumsModel" 48 (-358537222) ∈ cm := cm_in (List.mem_of_getElem? (i := 179) (by decide +kernel)) rfl
theorem kw_180 : Cond.constant "KeySumsModel" 49 (-722521979) ∈ cm := cm_in (List.mem_of_getElem? (i := 180) (by decide +kernel)) rfl
theorem kw_181 : Cond.constant "KeySumsModel" 50 76029189 ∈ cm := cm_in (List.mem_of_getElem? (i := 181) (by decide +kernel)) rfl
theorem kw_182 : Cond.constant "KeySumsModel" 51 (-640364487) ∈ cm := cm_in (List.mem_of_getElem? (i := 182) (by decide +kernel)) rfl
theorem kw_183 : Cond.constant "KeySumsModel" 52 (-421815835) ∈ cm := cm_in (List.mem_of_getElem? (i := 183) (by decide +kernel)) rfl
theorem kw_184 : Cond.constant "KeySumsModel" 53 530742520 ∈ cm := cm_in (List.mem_of_getElem? (i := 184) (by decide +kernel)) rfl
theorem kw_185 : Cond.constant "KeySumsModel" 54 (-995338651) ∈ cm := cm_in (List.mem_of_getElem? (i := 185) (by decide +kernel)) rfl
theorem kw_186 : Cond.constant "KeySumsModel" 55 (-198630844) ∈ cm := cm_in (List.mem_of_getElem? (i := 186) (by decide +kernel)) rfl
theorem kw_187 : Cond.constant "KeySumsModel" 56 1126891415 ∈ cm := cm_in (List.mem_of_getElem? (i := 187) (by decide +kernel)) rfl
theorem kw_188 : Cond.constant "KeySumsModel" 57 (-1416354905) ∈ cm := cm_in (List.mem_of_getElem? (i := 188) (by decide +kernel)) rfl
theorem kw_189 : Cond.constant "KeySumsModel" 58 (-57434055) ∈ cm := cm_in (List.mem_of_getElem? (i := 189) (by decide +kernel)) rfl
theorem kw_190 : Cond.constant "KeySumsModel" 59 1700485571 ∈ cm := cm_in (List.mem_of_getElem? (i := 190) (by decide +kernel)) rfl
theorem kw_191 : Cond.constant "KeySumsModel" 60 (-1894986606) ∈ cm := cm_in (List.mem_of_getElem? (i := 191) (by decide +kernel)) rfl
theorem kw_192 : Cond.constant "KeySumsModel" 61 (-1051523) ∈ cm := cm_in (List.mem_of_getElem? (i := 192) (by decide +kernel)) rfl
theorem kw_193 : Cond.constant "KeySumsModel" 62 (-2054922799) ∈ cm := cm_in (List.mem_of_getElem? (i := 193) (by decide +kernel)) rfl
theorem kw_194 : Cond.constant "KeySumsModel" 63 1873313359 ∈ cm := cm_in (List.mem_of_getElem? (i := 194) (by decide +kernel)) rfl
theorem kw_195 : Cond.constant "KeySumsModel" 64 (-30611744) ∈ cm := cm_in (List.mem_of_getElem? (i := 195) (by decide +kernel)) rfl
theorem kw_196 : Cond.constant "KeySumsModel" 65 (-1560198380) ∈ cm := cm_in (List.mem_of_getElem? (i := 196) (by decide +kernel)) rfl
theorem kw_197 : Cond.constant "KeySumsModel" 66 1309151649 ∈ cm := cm_in (List.mem_of_getElem? (i := 197) (by decide +kernel)) rfl
theorem kw_198 : Cond.constant "KeySumsModel" 67 (-145523070) ∈ cm := cm_in (List.mem_of_getElem? (i := 198) (by decide +kernel)) rfl
theorem kw_199 : Cond.constant "KeySumsModel" 68 (-1120210379) ∈ cm := cm_in (List.mem_of_getElem? (i := 199) (by decide +kernel)) rfl
theorem kw_200 : Cond.constant "KeySumsModel" 69 718787259 ∈ cm := cm_in (List.mem_of_getElem? (i := 200) (by decide +kernel)) rfl
theorem kw_201 : Cond.constant "KeySumsModel" 70 (-343485551) ∈ cm := cm_in (List.mem_of_getElem? (i := 201) (by decide +kernel)) rfl
theorem kw_202 : Cond.constant "KeySumsModel" 80 1732584193 ∈ cm := cm_in (List.mem_of_getElem? (i := 202) (by decide +kernel)) rfl
theorem kw_203 : Cond.constant "KeySumsModel" 81 (-271733879) ∈ cm := cm_in (List.mem_of_getElem? (i := 203) (by decide +kernel)) rfl
theorem kw_204 : Cond.constant "KeySumsModel" 82 (-1732584194) ∈ cm := cm_in (List.mem_of_getElem? (i := 204) (by decide +kernel)) rfl
theorem kw_205 : Cond.constant "KeySumsModel" 83 271733878 ∈ cm := cm_in (List.mem_of_getElem? (i := 205) (by decide +kernel)) rfl
theorem kw_206 : Cond.methodLink "KeySumsModel" 111 y_Model_anew ∈ cm := cm_in (List.mem_of_getElem? (i := 206) (by decide +kernel)) rfl
theorem kw_208 : Cond.instanceMethod y_Model_anew ∈ cm := cm_in (List.mem_of_getElem? (i := 208) (by decide +kernel)) rfl
theorem kw_209 : Cond.code y_Model_anew prog_4_method_3_code 2 none ∈ cm := cm_in (List.mem_of_getElem? (i := 209) rfl) rfl
theorem kw_210 : Cond.fieldLink "KeySumsModel" 71 "KeySumsModel" "constant" "[I" ∈ cm := cm_in (List.mem_of_getElem? (i := 210) (by decide +kernel)) rfl
theorem kw_211 : Cond.fieldLink "KeySumsModel" 77 "KeySumsModel" "turns" "[I" ∈ cm := cm_in (List.mem_of_getElem? (i := 211) (by decide +kernel)) rfl
theorem kw_212 : Cond.fieldLink "KeySumsModel" 84 "KeySumsModel" "begin" "[I" ∈ cm := cm_in (List.mem_of_getElem? (i := 212) (by decide +kernel)) rfl
theorem kw_213 : Cond.fieldLink "KeySumsModel" 87 "KeySumsModel" "times" "[I" ∈ cm := cm_in (List.mem_of_getElem? (i := 213) (by decide +kernel)) rfl
theorem kw_214 : Cond.fieldLink "KeySumsModel" 90 "KeySumsModel" "more" "[I" ∈ cm := cm_in (List.mem_of_getElem? (i := 214) (by decide +kernel)) rfl
theorem kw_215 : Cond.fieldLink "KeySumsModel" 93 "KeySumsModel" "tape" "[I" ∈ cm := cm_in (List.mem_of_getElem? (i := 215) (by decide +kernel)) rfl
theorem kw_216 : Cond.fieldLink "KeySumsModel" 118 "KeySumsModel" "size" "I" ∈ cm := cm_in (List.mem_of_getElem? (i := 216) (by decide +kernel)) rfl
theorem kw_217 : Cond.fieldLink "KeySumsModel" 96 "KeySumsModel" "key" "[I" ∈ cm := cm_in (List.mem_of_getElem? (i := 217) (by decide +kernel)) rfl
theorem kw_218 : Cond.fieldLink "KeySumsModel" 99 "KeySumsModel" "block" "[I" ∈ cm := cm_in (List.mem_of_getElem? (i := 218) (by decide +kernel)) rfl
theorem kw_219 : Cond.fieldLink "KeySumsModel" 102 "KeySumsModel" "four" "[I" ∈ cm := cm_in (List.mem_of_getElem? (i := 219) (by decide +kernel)) rfl
theorem kw_220 : Cond.fieldLink "KeySumsModel" 105 "KeySumsModel" "now" "[I" ∈ cm := cm_in (List.mem_of_getElem? (i := 220) (by decide +kernel)) rfl
theorem kw_221 : Cond.fieldLink "KeySumsModel" 114 "KeySumsModel" "many" "I" ∈ cm := cm_in (List.mem_of_getElem? (i := 221) (by decide +kernel)) rfl
theorem kw_222 : Cond.fieldLink "KeySumsModel" 108 "KeySumsModel" "result" "[I" ∈ cm := cm_in (List.mem_of_getElem? (i := 222) (by decide +kernel)) rfl
theorem kw_223 : Cond.fieldLink "KeySumsModel" 140 "KeySumsModel" "isSummed" "Z" ∈ cm := cm_in (List.mem_of_getElem? (i := 223) (by decide +kernel)) rfl
theorem kw_253 : Cond.methodLink "KeySumsLaw" 17 y_Model_feed ∈ cm := cm_in (List.mem_of_getElem? (i := 253) (by decide +kernel)) rfl
theorem kw_254 : Cond.instanceMethod y_Model_feed ∈ cm := cm_in (List.mem_of_getElem? (i := 254) (by decide +kernel)) rfl
theorem kw_255 : Cond.selects "KeySumsModel" y_Model_feed y_Model_feed ∈ cm := cm_in (List.mem_of_getElem? (i := 255) (by decide +kernel)) rfl
theorem kw_256 : Cond.code y_Model_feed prog_4_method_5_code 6 (some .boolean) ∈ cm := cm_in (List.mem_of_getElem? (i := 256) rfl) rfl
theorem kw_257 : Cond.methodLink "KeySumsModel" 121 y_Model_lay ∈ cm := cm_in (List.mem_of_getElem? (i := 257) (by decide +kernel)) rfl
theorem kw_259 : Cond.instanceMethod y_Model_lay ∈ cm := cm_in (List.mem_of_getElem? (i := 259) (by decide +kernel)) rfl
theorem kw_260 : Cond.code y_Model_lay prog_4_method_4_code 3 none ∈ cm := cm_in (List.mem_of_getElem? (i := 260) rfl) rfl
theorem kw_261 : Cond.methodLink "KeySumsLaw" 22 y_Model_end ∈ cm := cm_in (List.mem_of_getElem? (i := 261) (by decide +kernel)) rfl
theorem kw_262 : Cond.instanceMethod y_Model_end ∈ cm := cm_in (List.mem_of_getElem? (i := 262) (by decide +kernel)) rfl
theorem kw_263 : Cond.selects "KeySumsModel" y_Model_end y_Model_end ∈ cm := cm_in (List.mem_of_getElem? (i := 263) (by decide +kernel)) rfl
theorem kw_264 : Cond.code y_Model_end prog_4_method_6_code 2 (some .boolean) ∈ cm := cm_in (List.mem_of_getElem? (i := 264) rfl) rfl
theorem kw_265 : Cond.methodLink "KeySumsLaw" 27 y_Model_add ∈ cm := cm_in (List.mem_of_getElem? (i := 265) (by decide +kernel)) rfl
theorem kw_266 : Cond.instanceMethod y_Model_add ∈ cm := cm_in (List.mem_of_getElem? (i := 266) (by decide +kernel)) rfl
theorem kw_267 : Cond.selects "KeySumsModel" y_Model_add y_Model_add ∈ cm := cm_in (List.mem_of_getElem? (i := 267) (by decide +kernel)) rfl
theorem kw_268 : Cond.code y_Model_add prog_4_method_11_code 2 (some .int) ∈ cm := cm_in (List.mem_of_getElem? (i := 268) rfl) rfl
theorem kw_269 : Cond.methodLink "KeySumsModel" 135 y_Model_come ∈ cm := cm_in (List.mem_of_getElem? (i := 269) (by decide +kernel)) rfl
theorem kw_271 : Cond.instanceMethod y_Model_come ∈ cm := cm_in (List.mem_of_getElem? (i := 271) (by decide +kernel)) rfl
theorem kw_272 : Cond.code y_Model_come prog_4_method_10_code 3 none ∈ cm := cm_in (List.mem_of_getElem? (i := 272) rfl) rfl
theorem kw_273 : Cond.methodLink "KeySumsModel" 132 y_Model_step ∈ cm := cm_in (List.mem_of_getElem? (i := 273) (by decide +kernel)) rfl
theorem kw_275 : Cond.instanceMethod y_Model_step ∈ cm := cm_in (List.mem_of_getElem? (i := 275) (by decide +kernel)) rfl
theorem kw_276 : Cond.code y_Model_step prog_4_method_9_code 5 none ∈ cm := cm_in (List.mem_of_getElem? (i := 276) rfl) rfl
theorem kw_277 : Cond.methodLink "KeySumsModel" 125 y_Model_mixed ∈ cm := cm_in (List.mem_of_getElem? (i := 277) (by decide +kernel)) rfl
theorem kw_279 : Cond.instanceMethod y_Model_mixed ∈ cm := cm_in (List.mem_of_getElem? (i := 279) (by decide +kernel)) rfl
theorem kw_280 : Cond.code y_Model_mixed prog_4_method_8_code 5 (some .int) ∈ cm := cm_in (List.mem_of_getElem? (i := 280) rfl) rfl
theorem kw_281 : Cond.methodLink "KeySumsModel" 129 y_Model_word ∈ cm := cm_in (List.mem_of_getElem? (i := 281) (by decide +kernel)) rfl
theorem kw_283 : Cond.instanceMethod y_Model_word ∈ cm := cm_in (List.mem_of_getElem? (i := 283) (by decide +kernel)) rfl
theorem kw_284 : Cond.code y_Model_word prog_4_method_7_code 2 (some .int) ∈ cm := cm_in (List.mem_of_getElem? (i := 284) rfl) rfl
theorem kw_285 : Cond.methodLink "KeySumsLaw" 32 y_Model_fill ∈ cm := cm_in (List.mem_of_getElem? (i := 285) (by decide +kernel)) rfl
theorem kw_286 : Cond.instanceMethod y_Model_fill ∈ cm := cm_in (List.mem_of_getElem? (i := 286) (by decide +kernel)) rfl
theorem kw_287 : Cond.selects "KeySumsModel" y_Model_fill y_Model_fill ∈ cm := cm_in (List.mem_of_getElem? (i := 287) (by decide +kernel)) rfl
theorem kw_288 : Cond.code y_Model_fill prog_4_method_12_code 4 (some .int) ∈ cm := cm_in (List.mem_of_getElem? (i := 288) rfl) rfl
theorem kw_289 : Cond.methodLink "KeySumsLaw" 36 y_Model_key ∈ cm := cm_in (List.mem_of_getElem? (i := 289) (by decide +kernel)) rfl
theorem kw_290 : Cond.instanceMethod y_Model_key ∈ cm := cm_in (List.mem_of_getElem? (i := 290) (by decide +kernel)) rfl
theorem kw_291 : Cond.selects "KeySumsModel" y_Model_key y_Model_key ∈ cm := cm_in (List.mem_of_getElem? (i := 291) (by decide +kernel)) rfl
theorem kw_292 : Cond.code y_Model_key prog_4_method_13_code 3 (some .int) ∈ cm := cm_in (List.mem_of_getElem? (i := 292) rfl) rfl
theorem kw_293 : Cond.methodLink "KeySumsLaw" 41 y_Model_sum ∈ cm := cm_in (List.mem_of_getElem? (i := 293) (by decide +kernel)) rfl
theorem kw_294 : Cond.instanceMethod y_Model_sum ∈ cm := cm_in (List.mem_of_getElem? (i := 294) (by decide +kernel)) rfl
theorem kw_295 : Cond.selects "KeySumsModel" y_Model_sum y_Model_sum ∈ cm := cm_in (List.mem_of_getElem? (i := 295) (by decide +kernel)) rfl
theorem kw_296 : Cond.code y_Model_sum prog_4_method_14_code 6 (some .int) ∈ cm := cm_in (List.mem_of_getElem? (i := 296) rfl) rfl
theorem kw_297 : Cond.constantLong "KeySumsModel" 138 8 ∈ cm := cm_in (List.mem_of_getElem? (i := 297) (by decide +kernel)) rfl
theorem kw_298 : Cond.methodLink "KeySumsLaw" 46 y_Model_sumAt ∈ cm := cm_in (List.mem_of_getElem? (i := 298) (by decide +kernel)) rfl
theorem kw_299 : Cond.instanceMethod y_Model_sumAt ∈ cm := cm_in (List.mem_of_getElem? (i := 299) (by decide +kernel)) rfl
theorem kw_300 : Cond.selects "KeySumsModel" y_Model_sumAt y_Model_sumAt ∈ cm := cm_in (List.mem_of_getElem? (i := 300) (by decide +kernel)) rfl
theorem kw_301 : Cond.code y_Model_sumAt prog_4_method_15_code 2 (some .int) ∈ cm := cm_in (List.mem_of_getElem? (i := 301) rfl) rfl
theorem gd_c {c2 : Cond} (h : c2 ∈ cm) : GoodIn cm (c2 :: cm) := fun w hw => by
  rcases List.mem_cons.mp hw with h1 | h1
  · subst h1; exact ⟨h, good_of_word (cm_good h)⟩
  · exact ⟨h1, good_of_word (cm_good h1)⟩
theorem gd_V {c2 : Cond} {own : String} {idx : Nat} {C : String} {y : MethodName} (h1 : Cond.methodLink own idx y ∈ cm) (h2 : Cond.instanceMethod y ∈ cm) (h3 : Cond.selects C y y ∈ cm) (h4 : Cond.initialized C ∈ cm) (h : c2 ∈ cm) : GoodIn cm (wsV own idx C y (c2 :: cm)) := fun w hw => by
  unfold wsV at hw
  rcases List.mem_append.mp hw with h9 | h9
  · simp only [List.mem_cons, List.not_mem_nil, or_false] at h9
    rcases h9 with rfl | rfl | rfl | rfl
    · exact ⟨h1, good_of_word (cm_good h1)⟩
    · exact ⟨h2, good_of_word (cm_good h2)⟩
    · exact ⟨h3, good_of_word (cm_good h3)⟩
    · exact ⟨h4, good_of_word (cm_good h4)⟩
  · exact gd_c h w h9
theorem gd_S {c2 : Cond} {own : String} {idx : Nat} {y : MethodName} (h1 : Cond.methodLink own idx y ∈ cm) (h2 : Cond.static y ∈ cm) (h3 : Cond.initialized y.cls ∈ cm) (h : c2 ∈ cm) : GoodIn cm (va_wsS own idx y (c2 :: cm)) := fun w hw => by
  unfold va_wsS at hw
  rcases List.mem_append.mp hw with h9 | h9
  · simp only [List.mem_cons, List.not_mem_nil, or_false] at h9
    rcases h9 with rfl | rfl | rfl
    · exact ⟨h1, good_of_word (cm_good h1)⟩
    · exact ⟨h2, good_of_word (cm_good h2)⟩
    · exact ⟨h3, good_of_word (cm_good h3)⟩
  · exact gd_c h w h9
end
section
-- PURE: the sum, as a value: a block of bytes, four words, a count
abbrev V4 : Type := Int32 × Int32 × Int32 × Int32
abbrev Dg : Type := (Nat → Int32) × V4 × Nat
def md_Kl : List Int32 := [-680876936, -389564586, 606105819, -1044525330, -176418897, 1200080426, -1473231341, -45705983, 1770035416, -1958414417, -42063, -1990404162, 1804603682, -40341101, -1502002290, 1236535329, -165796510, -1069501632, 643717713, -373897302, -701558691, 38016083, -660478335, -405537848, 568446438, -1019803690, -187363961, 1163531501, -1444681467, -51403784, 1735328473, -1926607734, -378558, -2022574463, 1839030562, -35309556, -1530992060, 1272893353, -155497632, -1094730640, 681279174, -358537222, -722521979, 76029189, -640364487, -421815835, 530742520, -995338651, -198630844, 1126891415, -1416354905, -57434055, 1700485571, -1894986606, -1051523, -2054922799, 1873313359, -30611744, -1560198380, 1309151649, -145523070, -1120210379, 718787259, -343485551]
def md_K (j : Nat) : Int32 := md_Kl.getD j 0
def md_Tl : List Int32 := [7, 12, 17, 22, 5, 9, 14, 20, 4, 11, 16, 23, 6, 10, 15, 21]
def md_T (j : Nat) : Int32 := md_Tl.getD j 0
def h4 (v : V4) : Nat → Int32 := fun j => match j with
  | 0 => v.1
  | 1 => v.2.1
  | 2 => v.2.2.1
  | _ => v.2.2.2
def md_B : V4 := (1732584193, -271733879, -1732584194, 271733878)
def md_ti : Nat → Nat := fun j => match j with
  | 0 => 1
  | 1 => 5
  | 2 => 3
  | _ => 7
def md_mo : Nat → Nat := fun j => match j with
  | 0 => 0
  | 1 => 1
  | 2 => 5
  | _ => 0
/-- the mixing of round r -/
def md_f (r : Nat) (b c d : Int32) : Int32 := match r with
  | 0 => (b &&& c) ||| ((b ^^^ (-1)) &&& d)
  | 1 => (d &&& b) ||| ((d ^^^ (-1)) &&& c)
  | 2 => b ^^^ c ^^^ d
  | _ => c ^^^ (b ||| (d ^^^ (-1)))
def md_g (i : Nat) : Nat := (md_ti (i / 16) * i + md_mo (i / 16)) % 16
def md_rot (x d : Int32) : Int32 := (x <<< (d &&& 31)) ||| (x.toUInt32 >>> ((-d).toUInt32 &&& Int32.toUInt32 31)).toInt32
def md_step (w : Nat → Int32) (i : Nat) (v : V4) : V4 := (v.2.2.2, v.2.1 + md_rot (v.1 + md_f (i / 16) v.2.1 v.2.2.1 v.2.2.2 + md_K i + w (md_g i)) (md_T (4 * (i / 16) + i % 4)), v.2.1, v.2.2.1)
def md_run (w : Nat → Int32) (v : V4) : Nat → V4
  | 0 => v
  | k + 1 => md_step w k (md_run w v k)
def md_word (b : Nat → Int32) (i : Nat) : Int32 := ((b (4 * i) ||| (b (4 * i + 1) <<< (nI 8 &&& 31))) ||| (b (4 * i + 2) <<< (nI 16 &&& 31))) ||| (b (4 * i + 3) <<< (nI 24 &&& 31))
def md_add (h v : V4) : V4 := (h.1 + v.1, h.2.1 + v.2.1, h.2.2.1 + v.2.2.1, h.2.2.2 + v.2.2.2)
def md_blk (b : Nat → Int32) (h : V4) : V4 := md_add h (md_run (md_word b) h 64)
/-- a byte comes -/
def md_come (g : Dg) (v : Int32) : Dg := (upd g.1 (g.2.2 % 64) (v &&& nI 255), if (g.2.2 + 1) % 64 = 0 then md_blk (upd g.1 (g.2.2 % 64) (v &&& nI 255)) g.2.1 else g.2.1, g.2.2 + 1)
def md_feed (g : Dg) (f : Nat → Int32) : Nat → Dg
  | 0 => g
  | k + 1 => md_come (md_feed g f k) (f k)
def md_pad (g : Dg) (k : Nat) : Dg := md_feed g (fun _ => nI 0) k
/-- how many zeros are wanting until the count is 56 in a block -/
def md_rem (n : Nat) : Nat := (120 - n % 64) % 64
def md_bit (bits : Int64) (k : Nat) : Int32 := (bits >>> ((nI 8 * nI k).toInt64 &&& 63)).toInt32
/-- the end: 128, zeros, the count of bits -/
def md_pd (g : Dg) : Dg := md_pad (md_come g (nI 128)) (md_rem (g.2.2 + 1))
def md_end (g : Dg) : Dg := md_feed (md_pd g) (md_bit (8 * lN g.2.2)) 8
def md_res (h : V4) (k : Nat) : Int32 := (h4 h (k / 4) >>> ((nI 8 * nI (k % 4)) &&& 31)) &&& nI 255
/-- the five ints of a feed, and their bytes -/
def md_sel (a b c d e : Int32) (k : Nat) : Int32 := match k with
  | 0 => a
  | 1 => b
  | 2 => c
  | 3 => d
  | _ => e
def md_by (x : Int32) (k : Nat) : Int32 := (x >>> (nI (24 - 8 * k) &&& 31)) &&& nI 255
def md_tp (t : Nat → Int32) (n : Nat) (a b c d e : Int32) : Nat → Nat → Int32
  | 0 => t
  | k + 1 => upd (md_tp t n a b c d e k) (n + k) (md_by (md_sel a b c d e (k / 4)) (k % 4))
def md_lay (t : Nat → Int32) (n : Nat) (v : Int32) : Nat → Int32 := upd (upd (upd (upd t n (md_by v 0)) (n + 1) (md_by v 1)) (n + 2) (md_by v 2)) (n + 3) (md_by v 3)
/-- a key laid up to i out of a tape of n -/
def md_key (t k : Nat → Int32) (n i : Nat) : Nat → Int32 := fun j => if j < i then (if j < n then t j else nI 0) else k j
theorem md_come_n (g : Dg) (v : Int32) : (md_come g v).2.2 = g.2.2 + 1 := rfl
theorem md_feed_n (g : Dg) (f : Nat → Int32) (k : Nat) : (md_feed g f k).2.2 = g.2.2 + k := by
  induction k with
  | zero => rfl
  | succ k ih => show (md_feed g f k).2.2 + 1 = _; rw [ih]; rfl
theorem md_come_eq (g : Dg) {v w : Int32} (h : v &&& nI 255 = w &&& nI 255) : md_come g v = md_come g w := by
  unfold md_come
  rw [h]
theorem and_idem (v : Int32) : (v &&& nI 255) &&& nI 255 = v &&& nI 255 := by
  rw [Int32.and_assoc]; rfl
theorem md_come_and (g : Dg) (v : Int32) : md_come g (v &&& nI 255) = md_come g v := md_come_eq g (and_idem v)
theorem md_feed_eq (g : Dg) {f h : Nat → Int32} {k : Nat} (e : ∀ j, j < k → f j &&& nI 255 = h j &&& nI 255) : md_feed g f k = md_feed g h k := by
  induction k with
  | zero => rfl
  | succ k ih =>
    show md_come (md_feed g f k) (f k) = md_come (md_feed g h k) (h k)
    rw [ih (fun j hj => e j (Nat.lt_succ_of_lt hj))]
    exact md_come_eq _ (e k (Nat.lt_succ_self k))
theorem md_feed_and (g : Dg) (f : Nat → Int32) (k : Nat) : md_feed g (fun j => f j &&& nI 255) k = md_feed g f k := md_feed_eq g (fun j _ => and_idem (f j))
theorem md_pad_s (g : Dg) (k : Nat) : md_pad g (k + 1) = md_pad (md_come g (nI 0)) k := by
  induction k with
  | zero => rfl
  | succ k ih =>
    show md_come (md_pad g (k + 1)) (nI 0) = md_come (md_pad (md_come g (nI 0)) k) (nI 0)
    rw [ih]
theorem md_rem_0 {n : Nat} (h : n % 64 = 56) : md_rem n = 0 := by unfold md_rem; omega
theorem md_rem_s {n : Nat} (h : n % 64 ≠ 56) : md_rem n = md_rem (n + 1) + 1 := by unfold md_rem; omega
theorem md_rem_lt (n : Nat) : md_rem n < 64 := Nat.mod_lt _ (by decide)
theorem md_rem_lo {n : Nat} (h : md_rem n = 0) : n % 64 = 56 := by unfold md_rem at h; omega
theorem md_T_turn : ∀ j, j < 16 → (nI 32 - md_T j).toUInt32 &&& Int32.toUInt32 31 = (-(md_T j)).toUInt32 &&& Int32.toUInt32 31 := by decide +kernel
theorem md_rot_m {x s : Int32} {j : Nat} (hj : j < 16) (hs : s = md_T j) : (x <<< (s &&& 31)) ||| (x.toUInt32 >>> ((nI 32 - s).toUInt32 &&& Int32.toUInt32 31)).toInt32 = md_rot x s := by
  subst hs
  unfold md_rot
  rw [md_T_turn j hj]
-- bytes
theorem by_nar (x : Int32) : vp_nar .byte x = x.toInt8.toInt32 := rfl
theorem by_and (x : Int32) : x.toInt8.toInt32 &&& nI 255 = x &&& nI 255 := by
  show x.toInt8.toInt32 &&& 255 = x &&& 255
  apply Int32.toBitVec_inj.mp
  rw [Int32.toBitVec_and, Int32.toBitVec_and, Int8.toBitVec_toInt32, Int32.toBitVec_toInt8]
  apply BitVec.eq_of_getLsbD_eq
  intro i hi
  rw [BitVec.getLsbD_and, BitVec.getLsbD_and]
  have hm : ∀ i < 32, 8 ≤ i → (255 : Int32).toBitVec.getLsbD i = false := by decide
  rcases Nat.lt_or_ge i 8 with z | z
  · rw [BitVec.getLsbD_signExtend, BitVec.getLsbD_signExtend, if_pos z, if_pos hi]
    simp only [z, hi, decide_true, Bool.true_and]
  · rw [hm i hi z]; simp
theorem by_nand (x : Int32) : vp_nar .byte x &&& nI 255 = x &&& nI 255 := by_and x
theorem by_n2 (x : Int32) : vp_nar .byte x.toInt8.toInt32 &&& nI 255 = x &&& nI 255 := by rw [by_nand, by_and]
theorem by_sh24 (x : Int32) : x <<< (nI 24 &&& 31) = (x &&& nI 255) <<< (nI 24 &&& 31) := by
  have h : ∀ b : BitVec 32, b <<< 24 = (b &&& 255#32) <<< 24 := by
    intro b
    apply BitVec.eq_of_getLsbD_eq
    intro i hi
    have e : ∀ i, i < 8 → (255#32 : BitVec 32).getLsbD i = true := by decide +kernel
    rw [BitVec.getLsbD_shiftLeft, BitVec.getLsbD_shiftLeft, BitVec.getLsbD_and]
    by_cases h24 : i < 24
    · simp [h24]
    · rw [e (i - 24) (by omega), Bool.and_true]
  exact Int32.toBitVec_inj.mp (h x.toBitVec)
theorem by_0 : nI 0 &&& nI 255 = nI 0 := by decide +kernel
end
section
-- ROWS: the context of a walk, contracts of one form, calls of one form
abbrev tyL (cB cI : ClassId) : List (ClassId × FieldType) := [(cB, .byte), (cI, .int)]
/-- what stays of the start: the two static tables, outside A; the nest mate's link -/
def st_ok (kt tt : Nat) (A : Nat → Prop) (U : State) (H : Heap) : Prop :=
  va_Z "KeySums$Digest" "K" "[I" (.ref kt) A U H ∧ va_T .int kt 64 (fun j => .int (md_K j)) A U H ∧ va_Z "KeySums$Digest" "TURNS" "[I" (.ref tt) A U H ∧ va_T .int tt 16 (fun j => .int (md_T j)) A U H ∧ va_Nw (.methodLinkNest "KeySums" 9 y_Digest_init "KeySums") U
theorem st_ok.moved {kt tt : Nat} {A : Nat → Prop} {u U : State} {H : Heap} (hW : u.WarmedH U.vm) (h : st_ok kt tt A u H) : st_ok kt tt A U H :=
  ⟨h.1.moved hW.alike, h.2.1.moved hW.alike, h.2.2.1.moved hW.alike, h.2.2.2.1.moved hW.alike, va_Nw.warmM hW h.2.2.2.2⟩
theorem st_ok.same {kt tt : Nat} {A : Nat → Prop} {u U : State} {H : Heap} (hW : u.vm = U.vm) (h : st_ok kt tt A u H) : st_ok kt tt A U H := by
  have ha : u.vm.Alike U.vm := by rw [hW]; exact Vm.Alike.refl U.vm
  exact ⟨h.1.moved ha, h.2.1.moved ha, h.2.2.1.moved ha, h.2.2.2.1.moved ha, va_Nw.same rfl hW h.2.2.2.2⟩
theorem st_ok.kept {kt tt : Nat} {A : Nat → Prop} {U : State} {H H1 : Heap} (h : st_ok kt tt A U H) (hq : ∀ a : Nat, a < H.size → ¬ A a → H1[a]? = H[a]?) : st_ok kt tt A U H1 :=
  ⟨h.1.kept hq, h.2.1.kept hq, h.2.2.1.kept hq, h.2.2.2.1.kept hq, h.2.2.2.2⟩
theorem st_ok.narrow {kt tt : Nat} {A B : Nat → Prop} {U : State} {H : Heap} (h : st_ok kt tt A U H) (hAB : ∀ q, B q → A q) : st_ok kt tt B U H :=
  ⟨h.1.narrow hAB, h.2.1.narrow hAB, h.2.2.1.narrow hAB, h.2.2.2.1.narrow hAB, h.2.2.2.2⟩
/-- a method's start -/
def pk_R (D : va_G) (tys : List (ClassId × FieldType)) (kt tt : Nat) (ws : va_W) (sz : Nat) (U : State) : Prop :=
  U.heap.size = sz ∧ va_P D classes ws U.heap ∧ va_K D classes tys U ∧ va_D (fun _ => True) ws ∧ st_ok kt tt (va_A ws sz) U U.heap
/-- a method's end -/
def pk_E {S : Type} (D : va_G) (tys : List (ClassId × FieldType)) (A : Nat → Prop) (w1 : S → va_W) (u : S) (t : State) : Prop :=
  va_P D classes (w1 u) t.heap ∧ va_K D classes tys t ∧ va_D A (w1 u)
def CtV (l : Launch) (y : MethodName) (ws : List Cond) (rm : Room) (av : List Value) (D : va_G) (tys : List (ClassId × FieldType)) (kt tt : Nat) (wc : va_W) {S : Type} (post : S → Prop) (w1 : S → va_W) : Prop :=
  ∀ sz : Nat, Met l y ws rm (va_Pc av (pk_R D tys kt tt wc sz)) (va_Qv post (pk_E D tys (va_A wc sz) w1) (va_A wc sz)) rm.cells rm.slots (va_A wc sz)
def CtI (l : Launch) (y : MethodName) (ws : List Cond) (rm : Room) (av : List Value) (D : va_G) (tys : List (ClassId × FieldType)) (kt tt : Nat) (wc : va_W) {S : Type} (post : Int32 → S → Prop) (w1 : S → va_W) : Prop :=
  ∀ sz : Nat, Met l y ws rm (va_Pc av (pk_R D tys kt tt wc sz)) (va_Qi post (pk_E D tys (va_A wc sz) w1) (va_A wc sz)) rm.cells rm.slots (va_A wc sz)
/-- the context of a walk -/
def Cx (p : Program) (s : State) (m : MethodId) (args : Array Value) (c : Code) (cc : ByteArray) (maxL : Nat) (own : String) (D : va_G) (tys : List (ClassId × FieldType)) (A : Nat → Prop) (kt tt : Nat) : Prop :=
  p.tables.exec = Jvm.exec ∧ c.code = cc ∧ c.maxLocals = maxL ∧ s.vm.findClass own = some m.cls ∧ (∀ w ∈ cm, w.before args s = true) ∧ va_K D classes tys s ∧ (∀ q, s.heap.size ≤ q → A q) ∧ st_ok kt tt A s s.heap
/-- a contract out of its walk -/
theorem ctV_of {l : Launch} {y : MethodName} {cc : ByteArray} {maxL : Nat} {rm : Room} {av : List Value} {D : va_G} {tys : List (ClassId × FieldType)} {kt tt : Nat} {wc : va_W} {S : Type} {post : S → Prop} {w1 : S → va_W} (hy : plainName y.cls = true) (hlen : (lg_sl av).length ≤ maxL)
    (body : ∀ (p : Program) (e : Env) (s : State) (m : MethodId) (below : List Frame) (meth : Method) (c : Code) (A : Nat → Prop) (ls : Array Slot), Cx p s m av.toArray c cc maxL y.cls D tys A kt tt → meth.sig.returnType = none → meth.locks = false → meth.name = y.name → va_P D classes wc s.heap → va_D A wc → lv_has ls maxL (lv_args 0 av) →
      W p l e rm s m av.toArray below meth c s.heap [] 0 0 (MQ below (va_Qv post (pk_E D tys A w1) A) av.toArray s rm.cells rm.slots A) (F0 m 0 ls [])) : CtV l y (Cond.code y cc maxL none :: cm) rm av D tys kt tt wc post w1 := by
  intro sz
  refine Met.ofW (cc := cc) (maxL := maxL) (ret := none) hy rfl ?_
  intro p e s m args below meth c s₁ B hml hv
  obtain ⟨rfl, hsz, hP, hK, hD0, hZ⟩ := hv
  have hts := atoms_spec (ws := Cond.code y cc maxL none :: cm) B.pre
  subst hsz
  have hD := hD0.self (sz := s.heap.size)
  have hl := lv_entry av (n := maxL) hlen
  rw [lg_entry_eq]
  generalize (lg_sl av ++ List.replicate (maxL - (lg_sl av).length) Slot.unset).toArray = ls at hl ⊢
  exact body p e s m below meth c _ ls ⟨B.exec, B.bytes, hml, findClass_of_methodNamed B.named, fun w hw => hts w (List.mem_cons_of_mem _ hw), hK, fun q h => Or.inr h, hZ⟩ B.returns B.notSynchronized (name_of_methodNamed B.named B.method).1 hP hD hl
theorem ctI_of {l : Launch} {y : MethodName} {cc : ByteArray} {maxL : Nat} {ty : FieldType} {rm : Room} {av : List Value} {D : va_G} {tys : List (ClassId × FieldType)} {kt tt : Nat} {wc : va_W} {S : Type} {post : Int32 → S → Prop} {w1 : S → va_W} (hy : plainName y.cls = true) (hlen : (lg_sl av).length ≤ maxL)
    (body : ∀ (p : Program) (e : Env) (s : State) (m : MethodId) (below : List Frame) (meth : Method) (c : Code) (A : Nat → Prop) (ls : Array Slot), Cx p s m av.toArray c cc maxL y.cls D tys A kt tt → meth.sig.returnType = some ty → meth.locks = false → meth.name = y.name → va_P D classes wc s.heap → va_D A wc → lv_has ls maxL (lv_args 0 av) →
      W p l e rm s m av.toArray below meth c s.heap [] 0 0 (MQ below (va_Qi post (pk_E D tys A w1) A) av.toArray s rm.cells rm.slots A) (F0 m 0 ls [])) : CtI l y (Cond.code y cc maxL (some ty) :: cm) rm av D tys kt tt wc post w1 := by
  intro sz
  refine Met.ofW (cc := cc) (maxL := maxL) (ret := some ty) hy rfl ?_
  intro p e s m args below meth c s₁ B hml hv
  obtain ⟨rfl, hsz, hP, hK, hD0, hZ⟩ := hv
  have hts := atoms_spec (ws := Cond.code y cc maxL (some ty) :: cm) B.pre
  subst hsz
  have hD := hD0.self (sz := s.heap.size)
  have hl := lv_entry av (n := maxL) hlen
  rw [lg_entry_eq]
  generalize (lg_sl av ++ List.replicate (maxL - (lg_sl av).length) Slot.unset).toArray = ls at hl ⊢
  exact body p e s m below meth c _ ls ⟨B.exec, B.bytes, hml, findClass_of_methodNamed B.named, fun w hw => hts w (List.mem_cons_of_mem _ hw), hK, fun q h => Or.inr h, hZ⟩ B.returns B.notSynchronized (name_of_methodNamed B.named B.method).1 hP hD hl
/-- before a call -/
theorem pk_pre {D : va_G} {tys : List (ClassId × FieldType)} {ws wc : va_W} {H : Heap} {s : State} {A : Nat → Prop} {kt tt : Nat} {locs : List Loc} (hK : va_K D classes tys s) (hP : va_P D classes ws H) (hD : va_D A ws) (hS : va_S A s.heap H locs) (hA : ∀ q, s.heap.size ≤ q → A q) (hZ : st_ok kt tt A s s.heap) (isC : List Nat) (hn : va_nd isC = true) (hC : isC.map (fun i => ws[i]?) = wc.map some) (av : List Value) :
    FrameBlind (va_Pc av (pk_R D tys kt tt wc H.size)) ∧ (∀ U : State, U.heap = H → s.WarmedH U.vm → va_Pc av (pk_R D tys kt tt wc H.size) av.toArray U) ∧ (∀ q, va_A wc H.size q → A q) ∧ va_P D classes wc H := by
  have hF := va_free (wc := wc) hD hS hA isC hC
  have hPc : va_P D classes wc H := by
    intro k q hk
    have h1 : (isC.map (fun i => ws[i]?))[k]? = some (some q) := by rw [hC, List.getElem?_map, hk]; rfl
    rw [List.getElem?_map] at h1
    cases hi : isC[k]? with
    | none => rw [hi] at h1; cases h1
    | some i => rw [hi] at h1; exact hP i q (Option.some.inj h1)
  have hDc : va_D (fun _ => True) wc := (hD.sub isC hn hC).weaken (fun _ _ _ _ => trivial)
  refine ⟨fun a U g mk q => ?_, fun U hU hW => ?_, hF, hPc⟩
  · obtain ⟨q0, q1, qP, qK, qD, qZ⟩ := q
    exact ⟨q0, q1, qP, va_K.moved (u := U) (U := U.calling g mk a) (Vm.Alike.refl U.vm) qK, qD, qZ.same (U := U.calling g mk a) rfl⟩
  · refine ⟨rfl, by rw [hU], by rw [hU]; exact hPc, va_K.moved hW.alike hK, hDc, ?_⟩
    rw [hU]
    exact ((hZ.kept hS.2.1).narrow hF).moved hW
section KR
variable {p : Program} {l : Launch} {e : Env} {R : Room} {s : State} {m : MethodId} {args : Array Value} {below : List Frame} {meth : Method} {c : Code} {H : Heap} {locs : List Loc} {cells slots : Nat} {Q : State → Prop}
variable {cc : ByteArray} {maxL : Nat} {own : String} {pc : Nat} {ls : Array Slot} {rest : List Value} {D : va_G} {A : Nat → Prop} {tys : List (ClassId × FieldType)} {ws : va_W} {kt tt : Nat}
theorem cl_Vv (C0 : Cx p s m args c cc maxL own D tys A kt tt) {y : MethodName} {bytes : ByteArray} {mL n index : Nat} {ty : FieldType} {rm : Room} {S : Type} {post : S → Prop} {w1 : S → va_W} {wc wr : va_W} {b : Addr} (As : List Value) {st0 : List Value} {C : String} {ci : Nat} {T : u_T} {N : Nat} {fs : List Value}
    (hM : CtV l y (Cond.code y bytes mL none :: cm) rm (.ref b :: As) D tys kt tt wc post w1) (cw : CallW R s args own C index y bytes mL none (Cond.code y bytes mL none :: cm) rm rm.cells rm.slots n)
    (hP : va_P D classes ws H) (hD : va_D A ws) (hS : va_S A s.heap H locs) (isC isR : List Nat) (hC : isC.map (fun i => ws[i]?) = wc.map some) (hR : isR.map (fun i => ws[i]?) = wr.map some) (hnC : va_nd isC = true) (hnR : va_nd isR = true) (hdis : ∀ i ∈ isR, i ∉ isC)
    (hci : classes[ci]? = some (C, T, N)) (q0 : Nat) (hb0 : wc[q0]? = some (b, .inr (ci, fs))) (hst : st0 = As.reverse ++ .ref b :: rest) (hn : As.length = n) (hsz : ls.size = maxL) (hrm : (rest.map fun v => v.category).sum ≤ 8) (hdg : decode cc pc = .ok (.invokevirtual index, 3)) (hf : cells + rm.cells ≤ R.cells ∧ slots + rm.slots ≤ R.slots)
    (kk : ∀ (u : S) (H1 : Heap) (locs1 : List Loc), post u → va_P D classes (wr ++ w1 u) H1 → va_D A (wr ++ w1 u) → va_S A s.heap H1 locs1 → W p l e R s m args below meth c H1 locs1 (cells + rm.cells) (slots + rm.slots) Q (F0 m (pc + 3) ls rest)) : W p l e R s m args below meth c H locs cells slots Q (F0 m pc ls st0) := by
  obtain ⟨hx, hb, hml, hown, hcm, hK, hA, hZ⟩ := C0
  obtain ⟨h1, h2, hF, hPc⟩ := pk_pre hK hP hD hS hA hZ isC hnC hC (.ref b :: As)
  refine va_callv (va_runV (As := As) (rest := rest) ⟨hx, hb, hml, hown, hcm⟩ (hM H.size) cw ⟨h1, va_recv hK hPc (ci := ci) (q0 := q0) hci hb0, h2⟩ rfl hn hsz hst (lv_room hrm) hdg hf) hS (fun q _ h => hF q h) hF (fun u t H1 locs1 ht hvm hw hB hz1 hk1 hS1 => ?_)
  obtain ⟨hP1, hK1, hD1⟩ := hB
  rw [ht] at hP1
  obtain ⟨hP2, hD2⟩ := va_join (wr := wr) (w1 := w1 u) hP hD isC isR hC hR hnR hdis hk1 hF hP1 hD1
  exact kk u H1 locs1 hw hP2 hD2 hS1
theorem cl_Vi (C0 : Cx p s m args c cc maxL own D tys A kt tt) {y : MethodName} {bytes : ByteArray} {mL n index : Nat} {ty : FieldType} {rm : Room} {S : Type} {post : Int32 → S → Prop} {w1 : S → va_W} {wc wr : va_W} {b : Addr} (As : List Value) {st0 : List Value} {C : String} {ci : Nat} {T : u_T} {N : Nat} {fs : List Value}
    (hM : CtI l y (Cond.code y bytes mL (some ty) :: cm) rm (.ref b :: As) D tys kt tt wc post w1) (cw : CallW R s args own C index y bytes mL (some ty) (Cond.code y bytes mL (some ty) :: cm) rm rm.cells rm.slots n)
    (hP : va_P D classes ws H) (hD : va_D A ws) (hS : va_S A s.heap H locs) (isC isR : List Nat) (hC : isC.map (fun i => ws[i]?) = wc.map some) (hR : isR.map (fun i => ws[i]?) = wr.map some) (hnC : va_nd isC = true) (hnR : va_nd isR = true) (hdis : ∀ i ∈ isR, i ∉ isC)
    (hci : classes[ci]? = some (C, T, N)) (q0 : Nat) (hb0 : wc[q0]? = some (b, .inr (ci, fs))) (hst : st0 = As.reverse ++ .ref b :: rest) (hn : As.length = n) (hsz : ls.size = maxL) (hrm : (rest.map fun v => v.category).sum ≤ 8) (hdg : decode cc pc = .ok (.invokevirtual index, 3)) (hf : cells + rm.cells ≤ R.cells ∧ slots + rm.slots ≤ R.slots)
    (kk : ∀ (r : Int32) (u : S) (H1 : Heap) (locs1 : List Loc), post r u → va_P D classes (wr ++ w1 u) H1 → va_D A (wr ++ w1 u) → va_S A s.heap H1 locs1 → W p l e R s m args below meth c H1 locs1 (cells + rm.cells) (slots + rm.slots) Q (F0 m (pc + 3) ls (.int r :: rest))) : W p l e R s m args below meth c H locs cells slots Q (F0 m pc ls st0) := by
  obtain ⟨hx, hb, hml, hown, hcm, hK, hA, hZ⟩ := C0
  obtain ⟨h1, h2, hF, hPc⟩ := pk_pre hK hP hD hS hA hZ isC hnC hC (.ref b :: As)
  refine va_calli (va_runV (As := As) (rest := rest) ⟨hx, hb, hml, hown, hcm⟩ (hM H.size) cw ⟨h1, va_recv hK hPc (ci := ci) (q0 := q0) hci hb0, h2⟩ rfl hn hsz hst (lv_room hrm) hdg hf) hS (fun q _ h => hF q h) hF (fun r u t H1 locs1 ht hvm hw hB hz1 hk1 hS1 => ?_)
  obtain ⟨hP1, hK1, hD1⟩ := hB
  rw [ht] at hP1
  obtain ⟨hP2, hD2⟩ := va_join (wr := wr) (w1 := w1 u) hP hD isC isR hC hR hnR hdis hk1 hF hP1 hD1
  exact kk r u H1 locs1 hw hP2 hD2 hS1
theorem cl_Si (C0 : Cx p s m args c cc maxL own D tys A kt tt) {y : MethodName} {bytes : ByteArray} {mL n index : Nat} {ty : FieldType} {rm : Room} {S : Type} {post : Int32 → S → Prop} {w1 : S → va_W} {wc wr : va_W} (As : List Value) {st0 : List Value}
    (hM : CtI l y (Cond.code y bytes mL (some ty) :: cm) rm As D tys kt tt wc post w1) (cw : CallB R s args own index y bytes mL (some ty) (Cond.code y bytes mL (some ty) :: cm) rm rm.cells rm.slots n ∧ (Cond.static y).before args s = true)
    (hP : va_P D classes ws H) (hD : va_D A ws) (hS : va_S A s.heap H locs) (isC isR : List Nat) (hC : isC.map (fun i => ws[i]?) = wc.map some) (hR : isR.map (fun i => ws[i]?) = wr.map some) (hnC : va_nd isC = true) (hnR : va_nd isR = true) (hdis : ∀ i ∈ isR, i ∉ isC)
    (hst : st0 = As.reverse ++ rest) (hn : As.length = n) (hsz : ls.size = maxL) (hrm : (rest.map fun v => v.category).sum ≤ 8) (hdg : decode cc pc = .ok (.invokestatic index, 3)) (hf : cells + rm.cells ≤ R.cells ∧ slots + rm.slots ≤ R.slots)
    (kk : ∀ (r : Int32) (u : S) (H1 : Heap) (locs1 : List Loc), post r u → va_P D classes (wr ++ w1 u) H1 → va_D A (wr ++ w1 u) → va_S A s.heap H1 locs1 → W p l e R s m args below meth c H1 locs1 (cells + rm.cells) (slots + rm.slots) Q (F0 m (pc + 3) ls (.int r :: rest))) : W p l e R s m args below meth c H locs cells slots Q (F0 m pc ls st0) := by
  obtain ⟨hx, hb, hml, hown, hcm, hK, hA, hZ⟩ := C0
  obtain ⟨h1, h2, hF, hPc⟩ := pk_pre hK hP hD hS hA hZ isC hnC hC As
  refine va_calli (va_runS (As := As) (rest := rest) ⟨hx, hb, hml, hown, hcm⟩ (hM H.size) cw ⟨h1, h2⟩ rfl hn hsz hst (lv_room hrm) hdg hf) hS (fun q _ h => hF q h) hF (fun r u t H1 locs1 ht hvm hw hB hz1 hk1 hS1 => ?_)
  obtain ⟨hP1, hK1, hD1⟩ := hB
  rw [ht] at hP1
  obtain ⟨hP2, hD2⟩ := va_join (wr := wr) (w1 := w1 u) hP hD isC isR hC hR hnR hdis hk1 hF hP1 hD1
  exact kk r u H1 locs1 hw hP2 hD2 hS1
theorem cl_I (C0 : Cx p s m args c cc maxL own D tys A kt tt) {y : MethodName} {bytes : ByteArray} {mL n index : Nat} {ty : FieldType} {rm : Room} {S : Type} {post : S → Prop} {w1 : S → va_W} {wc wr : va_W} {b : Addr} (As : List Value) {st0 : List Value}
    (hM : CtV l y (Cond.code y bytes mL none :: cm) rm (.ref b :: As) D tys kt tt wc post w1) (cw : CallB R s args own index y bytes mL none (Cond.code y bytes mL none :: cm) rm rm.cells rm.slots n ∧ y.name = "<init>" ∧ (Cond.instanceMethod y).before args s = true)
    (hP : va_P D classes ws H) (hD : va_D A ws) (hS : va_S A s.heap H locs) (isC isR : List Nat) (hC : isC.map (fun i => ws[i]?) = wc.map some) (hR : isR.map (fun i => ws[i]?) = wr.map some) (hnC : va_nd isC = true) (hnR : va_nd isR = true) (hdis : ∀ i ∈ isR, i ∉ isC)
    (hst : st0 = As.reverse ++ .ref b :: rest) (hn : As.length = n) (hsz : ls.size = maxL) (hrm : (rest.map fun v => v.category).sum ≤ 8) (hdg : decode cc pc = .ok (.invokespecial index, 3)) (hf : cells + rm.cells ≤ R.cells ∧ slots + rm.slots ≤ R.slots)
    (kk : ∀ (u : S) (H1 : Heap) (locs1 : List Loc), post u → va_P D classes (wr ++ w1 u) H1 → va_D A (wr ++ w1 u) → va_S A s.heap H1 locs1 → W p l e R s m args below meth c H1 locs1 (cells + rm.cells) (slots + rm.slots) Q (F0 m (pc + 3) ls rest)) : W p l e R s m args below meth c H locs cells slots Q (F0 m pc ls st0) := by
  obtain ⟨hx, hb, hml, hown, hcm, hK, hA, hZ⟩ := C0
  obtain ⟨h1, h2, hF, hPc⟩ := pk_pre hK hP hD hS hA hZ isC hnC hC (.ref b :: As)
  refine va_callv (va_runI (As := As) (rest := rest) ⟨hx, hb, hml, hown, hcm⟩ (hM H.size) cw ⟨h1, h2⟩ rfl hn hsz hst (lv_room hrm) hdg hf) hS (fun q _ h => hF q h) hF (fun u t H1 locs1 ht hvm hw hB hz1 hk1 hS1 => ?_)
  obtain ⟨hP1, hK1, hD1⟩ := hB
  rw [ht] at hP1
  obtain ⟨hP2, hD2⟩ := va_join (wr := wr) (w1 := w1 u) hP hD isC isR hC hR hnR hdis hk1 hF hP1 hD1
  exact kk u H1 locs1 hw hP2 hD2 hS1
theorem cl_IN (C0 : Cx p s m args c cc maxL own D tys A kt tt) {y : MethodName} {bytes : ByteArray} {mL n index : Nat} {ty : FieldType} {rm : Room} {S : Type} {post : S → Prop} {w1 : S → va_W} {wc wr : va_W} {b : Addr} (As : List Value) {st0 : List Value} {host : String}
    (hM : CtV l y (Cond.code y bytes mL none :: cm) rm (.ref b :: As) D tys kt tt wc post w1) (cw : va_CN R s args own index y host bytes mL none (Cond.code y bytes mL none :: cm) rm rm.cells rm.slots n ∧ y.name = "<init>" ∧ (Cond.instanceMethod y).before args s = true)
    (hP : va_P D classes ws H) (hD : va_D A ws) (hS : va_S A s.heap H locs) (isC isR : List Nat) (hC : isC.map (fun i => ws[i]?) = wc.map some) (hR : isR.map (fun i => ws[i]?) = wr.map some) (hnC : va_nd isC = true) (hnR : va_nd isR = true) (hdis : ∀ i ∈ isR, i ∉ isC)
    (hst : st0 = As.reverse ++ .ref b :: rest) (hn : As.length = n) (hsz : ls.size = maxL) (hrm : (rest.map fun v => v.category).sum ≤ 8) (hdg : decode cc pc = .ok (.invokespecial index, 3)) (hf : cells + rm.cells ≤ R.cells ∧ slots + rm.slots ≤ R.slots)
    (kk : ∀ (u : S) (H1 : Heap) (locs1 : List Loc), post u → va_P D classes (wr ++ w1 u) H1 → va_D A (wr ++ w1 u) → va_S A s.heap H1 locs1 → W p l e R s m args below meth c H1 locs1 (cells + rm.cells) (slots + rm.slots) Q (F0 m (pc + 3) ls rest)) : W p l e R s m args below meth c H locs cells slots Q (F0 m pc ls st0) := by
  obtain ⟨hx, hb, hml, hown, hcm, hK, hA, hZ⟩ := C0
  obtain ⟨h1, h2, hF, hPc⟩ := pk_pre hK hP hD hS hA hZ isC hnC hC (.ref b :: As)
  refine va_callv (va_runIN (As := As) (rest := rest) ⟨hx, hb, hml, hown, hcm⟩ (hM H.size) cw ⟨h1, h2⟩ rfl hn hsz hst (lv_room hrm) hdg hf) hS (fun q _ h => hF q h) hF (fun u t H1 locs1 ht hvm hw hB hz1 hk1 hS1 => ?_)
  obtain ⟨hP1, hK1, hD1⟩ := hB
  rw [ht] at hP1
  obtain ⟨hP2, hD2⟩ := va_join (wr := wr) (w1 := w1 u) hP hD isC isR hC hR hnR hdis hk1 hF hP1 hD1
  exact kk u H1 locs1 hw hP2 hD2 hS1
/-- ends -/
theorem kr_vret (C0 : Cx p s m args c cc maxL own D tys A kt tt) {S : Type} {post : S → Prop} {w1 : S → va_W} (u : S) (hr : meth.sig.returnType = none) (hlk : meth.locks = false) (hp : post u) (hP : va_P D classes (w1 u) H) (hD : va_D A (w1 u)) (hS : va_S A s.heap H locs) (hdg : decode cc pc = .ok (.return_, 1)) : W p l e R s m args below meth c H locs cells slots (MQ below (va_Qv post (pk_E D tys A w1) A) args s cells slots A) (F0 m pc ls []) := by
  obtain ⟨hx, hb, -, -, -, hK, -, -⟩ := C0
  exact W.vret hx hb hr (fun t ht hW => ⟨⟨u, rfl, hp, by rw [ht]; exact hP, va_K.moved hW.alike hK, hD⟩, hS.F ht⟩) hS.2.2 hdg hlk
theorem kr_iret (C0 : Cx p s m args c cc maxL own D tys A kt tt) {S : Type} {post : Int32 → S → Prop} {w1 : S → va_W} {v : Int32} {ty : FieldType} (u : S) (hr : meth.sig.returnType = some ty) (hn : narrow ty (.int v) = .int v) (hlk : meth.locks = false) (hp : post v u) (hP : va_P D classes (w1 u) H) (hD : va_D A (w1 u)) (hS : va_S A s.heap H locs) (hdg : decode cc pc = .ok (.ireturn, 1)) : W p l e R s m args below meth c H locs cells slots (MQ below (va_Qi post (pk_E D tys A w1) A) args s cells slots A) (F0 m pc ls [.int v]) := by
  obtain ⟨hx, hb, -, -, -, hK, -, -⟩ := C0
  exact W.zret hx hb hr hn (fun t ht hW => ⟨⟨v, u, rfl, hp, by rw [ht]; exact hP, va_K.moved hW.alike hK, hD⟩, hS.F ht⟩) hS.2.2 hdg hlk
/-- the number on top, said otherwise -/
theorem kt_i {x y : Int32} (h : x = y) (k : W p l e R s m args below meth c H locs cells slots Q (F0 m pc ls (.int y :: rest))) : W p l e R s m args below meth c H locs cells slots Q (F0 m pc ls (.int x :: rest)) := by
  subst h
  exact k
theorem kt_l {x y : Int64} (h : x = y) (k : W p l e R s m args below meth c H locs cells slots Q (F0 m pc ls (.long y :: rest))) : W p l e R s m args below meth c H locs cells slots Q (F0 m pc ls (.long x :: rest)) := by
  subst h
  exact k
theorem kt_j {x y : Int32} {v : Value} (h : x = y) (k : W p l e R s m args below meth c H locs cells slots Q (F0 m pc ls (v :: .int y :: rest))) : W p l e R s m args below meth c H locs cells slots Q (F0 m pc ls (v :: .int x :: rest)) := by
  subst h
  exact k
theorem kr_iald (C0 : Cx p s m args c cc maxL own D tys A kt tt) (hP : va_P D classes ws H) (q0 t0 : Nat) {a : Nat} {cA : ClassId} {n : Nat} {f : Nat → Int32} (ha : ws[q0]? = some (a, .inl (cA, n, .inl f))) (ht : tys[t0]? = some (cA, .int)) {k : Nat} (hk : k < n) (hn : n < 2 ^ 31) (hdg : decode cc pc = .ok (.iaload, 1)) (kk : W p l e R s m args below meth c H locs cells slots Q (F0 m (pc + 1) ls (.int (f k) :: rest))) : W p l e R s m args below meth c H locs cells slots Q (F0 m pc ls (.int (nI k) :: .ref a :: rest)) := by
  refine va_iald C0.1 C0.2.1 C0.2.2.2.2.2.1 hP q0 t0 ha ht (vp_in_nI hk hn) hdg ?_
  rw [nI_clamp (Nat.lt_trans hk hn)]
  exact kk
theorem kr_bald (C0 : Cx p s m args c cc maxL own D tys A kt tt) (hP : va_P D classes ws H) (q0 t0 : Nat) {a : Nat} {cA : ClassId} {n : Nat} {f : Nat → Int32} (ha : ws[q0]? = some (a, .inl (cA, n, .inl f))) (ht : tys[t0]? = some (cA, .byte)) {k : Nat} (hk : k < n) (hn : n < 2 ^ 31) (hdg : decode cc pc = .ok (.baload, 1)) (kk : W p l e R s m args below meth c H locs cells slots Q (F0 m (pc + 1) ls (.int (f k) :: rest))) : W p l e R s m args below meth c H locs cells slots Q (F0 m pc ls (.int (nI k) :: .ref a :: rest)) := by
  refine va_bald C0.1 C0.2.1 C0.2.2.2.2.2.1 hP q0 t0 ha ht (vp_in_nI hk hn) hdg ?_
  rw [nI_clamp (Nat.lt_trans hk hn)]
  exact kk
theorem kr_iast (C0 : Cx p s m args c cc maxL own D tys A kt tt) (hP : va_P D classes ws H) (hD : va_D A ws) (hS : va_S A s.heap H locs) (q0 t0 : Nat) {a : Nat} {cA : ClassId} {n : Nat} {f : Nat → Int32} (ha : ws[q0]? = some (a, .inl (cA, n, .inl f))) (ht : tys[t0]? = some (cA, .int)) {k : Nat} {x : Int32} (hk : k < n) (hn : n < 2 ^ 31) (hdg : decode cc pc = .ok (.iastore, 1))
    (kk : ∀ (H1 : Heap) (locs1 : List Loc), va_P D classes (ws.set q0 (a, .inl (cA, n, .inl (upd f k x)))) H1 → va_D A (ws.set q0 (a, .inl (cA, n, .inl (upd f k x)))) → va_S A s.heap H1 locs1 → W p l e R s m args below meth c H1 locs1 cells slots Q (F0 m (pc + 1) ls rest)) : W p l e R s m args below meth c H locs cells slots Q (F0 m pc ls (.int x :: .int (nI k) :: .ref a :: rest)) := by
  refine va_iast C0.1 C0.2.1 C0.2.2.2.2.2.1 hP hD hS q0 t0 ha ht (vp_in_nI hk hn) hdg ?_
  rw [nI_clamp (Nat.lt_trans hk hn)]
  exact kk
theorem kr_bast (C0 : Cx p s m args c cc maxL own D tys A kt tt) (hP : va_P D classes ws H) (hD : va_D A ws) (hS : va_S A s.heap H locs) (q0 t0 : Nat) {a : Nat} {cA : ClassId} {n : Nat} {f : Nat → Int32} (ha : ws[q0]? = some (a, .inl (cA, n, .inl f))) (ht : tys[t0]? = some (cA, .byte)) {k : Nat} {x : Int32} (hk : k < n) (hn : n < 2 ^ 31) (hdg : decode cc pc = .ok (.bastore, 1))
    (kk : ∀ (H1 : Heap) (locs1 : List Loc), va_P D classes (ws.set q0 (a, .inl (cA, n, .inl (upd f k (vp_nar .byte x))))) H1 → va_D A (ws.set q0 (a, .inl (cA, n, .inl (upd f k (vp_nar .byte x))))) → va_S A s.heap H1 locs1 → W p l e R s m args below meth c H1 locs1 cells slots Q (F0 m (pc + 1) ls rest)) : W p l e R s m args below meth c H locs cells slots Q (F0 m pc ls (.int x :: .int (nI k) :: .ref a :: rest)) := by
  refine va_bast C0.1 C0.2.1 C0.2.2.2.2.2.1 hP hD hS q0 t0 ha ht (vp_in_nI hk hn) hdg ?_
  rw [nI_clamp (Nat.lt_trans hk hn)]
  exact kk
/-- a static table is read -/
theorem kr_ti (C0 : Cx p s m args c cc maxL own D tys A kt tt) (hS : va_S A s.heap H locs) {t N : Nat} {f : Nat → Int32} (hT : va_T .int t N (fun j => .int (f j)) A s s.heap) {k : Nat} (hk : k < N) (hn : N < 2 ^ 31) (hdg : decode cc pc = .ok (.iaload, 1)) (kk : W p l e R s m args below meth c H locs cells slots Q (F0 m (pc + 1) ls (.int (f k) :: rest))) : W p l e R s m args below meth c H locs cells slots Q (F0 m pc ls (.int (nI k) :: .ref t :: rest)) := by
  refine va_ti C0.1 C0.2.1 hT hS (vp_in_nI hk hn) (v := .int (f k)) ?_ hdg kk
  rw [nI_clamp (Nat.lt_trans hk hn)]
/-- branches on counts -/
theorem kr_icmp_ge (C0 : Cx p s m args c cc maxL own D tys A kt tt) {a b : Nat} (ha : a < 2 ^ 31) (hb : b < 2 ^ 31) {off : Int} {tgt : Nat} (hdg : decode cc pc = .ok (.if_icmp .ge off, 3)) (ht : (pc : Int) + off = (tgt : Int)) (k1 : b ≤ a → W p l e R s m args below meth c H locs cells slots Q (F0 m tgt ls rest)) (k2 : a < b → W p l e R s m args below meth c H locs cells slots Q (F0 m (pc + 3) ls rest)) : W p l e R s m args below meth c H locs cells slots Q (F0 m pc ls (.int (nI b) :: .int (nI a) :: rest)) :=
  lv_icmp_ge C0.1 C0.2.1 hdg ht (fun h => k1 ((nI_leI hb ha).mp h)) (fun h => k2 (Nat.lt_of_not_le fun q => h ((nI_leI hb ha).mpr q)))
theorem kr_icmp_le (C0 : Cx p s m args c cc maxL own D tys A kt tt) {a b : Nat} (ha : a < 2 ^ 31) (hb : b < 2 ^ 31) {off : Int} {tgt : Nat} (hdg : decode cc pc = .ok (.if_icmp .le off, 3)) (ht : (pc : Int) + off = (tgt : Int)) (k1 : a ≤ b → W p l e R s m args below meth c H locs cells slots Q (F0 m tgt ls rest)) (k2 : b < a → W p l e R s m args below meth c H locs cells slots Q (F0 m (pc + 3) ls rest)) : W p l e R s m args below meth c H locs cells slots Q (F0 m pc ls (.int (nI b) :: .int (nI a) :: rest)) :=
  lv_icmp_le C0.1 C0.2.1 hdg ht (fun h => k1 ((nI_leI ha hb).mp h)) (fun h => k2 (Nat.lt_of_not_le fun q => h ((nI_leI ha hb).mpr q)))
theorem kr_icmp_eq (C0 : Cx p s m args c cc maxL own D tys A kt tt) {a b : Nat} (ha : a < 2 ^ 31) (hb : b < 2 ^ 31) {off : Int} {tgt : Nat} (hdg : decode cc pc = .ok (.if_icmp .eq off, 3)) (ht : (pc : Int) + off = (tgt : Int)) (k1 : a = b → W p l e R s m args below meth c H locs cells slots Q (F0 m tgt ls rest)) (k2 : a ≠ b → W p l e R s m args below meth c H locs cells slots Q (F0 m (pc + 3) ls rest)) : W p l e R s m args below meth c H locs cells slots Q (F0 m pc ls (.int (nI b) :: .int (nI a) :: rest)) :=
  lv_icmp_eq C0.1 C0.2.1 hdg ht (fun h => k1 ((nI_eq ha hb).mp h)) (fun h => k2 (fun q => h ((nI_eq ha hb).mpr q)))
/-- new arrays, of the classes that are known -/
theorem kr_newI {cB cI : ClassId} (C0 : Cx p s m args c cc maxL own D (tyL cB cI) A kt tt) (hP : va_P D classes ws H) (hD : va_D A ws) (hS : va_S A s.heap H locs) {k : Nat} (hk : k ≤ 100000) (hcells : cells + 1 ≤ R.cells) (hslots : slots + k ≤ R.slots) (hdg : decode cc pc = .ok (.newarray .int, 2))
    (kk : ∀ (q : Nat) (H1 : Heap), va_P D classes (ws ++ [(q, .inl (cI, k, .inl (fun _ => 0)))]) H1 → va_D A (ws ++ [(q, .inl (cI, k, .inl (fun _ => 0)))]) → va_S A s.heap H1 locs → W p l e R s m args below meth c H1 locs (cells + 1) (slots + k) Q (F0 m (pc + 2) ls (.ref q :: rest))) : W p l e R s m args below meth c H locs cells slots Q (F0 m pc ls (.int (nI k) :: rest)) := by
  obtain ⟨hx, hb, hml, hown, hcm, hK, hA, hZ⟩ := C0
  refine va_newa (atype := .int) (ty := .int) hx hb (hcm _ kw_52) rfl hK hP hD hS hA (n := nI k) (N' := k) (a0 := (k, .inl (fun _ => 0))) (fun cA => rfl) (nI_pos (by omega)) (nI_clamp (by omega)) (by show k * 4 ≤ _; omega) hcells hslots hdg (fun q cA H1 hK1 hP1 hD1 hS1 => ?_)
  have h1 : cA = cI := Option.some.inj ((show s.vm.findClass _ = some cA from (hK1.2 2 _ rfl).2).symm.trans (hK.2 1 _ rfl).2)
  subst h1
  exact kk q H1 hP1 hD1 hS1
theorem kr_newB {cB cI : ClassId} (C0 : Cx p s m args c cc maxL own D (tyL cB cI) A kt tt) (hP : va_P D classes ws H) (hD : va_D A ws) (hS : va_S A s.heap H locs) {k : Nat} (hk : k ≤ 100000) (hcells : cells + 1 ≤ R.cells) (hslots : slots + k ≤ R.slots) (hdg : decode cc pc = .ok (.newarray .byte, 2))
    (kk : ∀ (q : Nat) (H1 : Heap), va_P D classes (ws ++ [(q, .inl (cB, k, .inl (fun _ => 0)))]) H1 → va_D A (ws ++ [(q, .inl (cB, k, .inl (fun _ => 0)))]) → va_S A s.heap H1 locs → W p l e R s m args below meth c H1 locs (cells + 1) (slots + k) Q (F0 m (pc + 2) ls (.ref q :: rest))) : W p l e R s m args below meth c H locs cells slots Q (F0 m pc ls (.int (nI k) :: rest)) := by
  obtain ⟨hx, hb, hml, hown, hcm, hK, hA, hZ⟩ := C0
  refine va_newa (atype := .byte) (ty := .byte) hx hb (hcm _ kw_51) rfl hK hP hD hS hA (n := nI k) (N' := k) (a0 := (k, .inl (fun _ => 0))) (fun cA => rfl) (nI_pos (by omega)) (nI_clamp (by omega)) (by show k * 1 ≤ _; omega) hcells hslots hdg (fun q cA H1 hK1 hP1 hD1 hS1 => ?_)
  have h1 : cA = cB := Option.some.inj ((show s.vm.findClass _ = some cA from (hK1.2 2 _ rfl).2).symm.trans (hK.2 0 _ rfl).2)
  subst h1
  exact kk q H1 hP1 hD1 hS1
end KR
/-- an array's contents, said otherwise -/
theorem kr_cell {cA : ClassId} {n : Nat} {f g : Nat → Int32} (he : ∀ j, j < n → f j = g j) : vp_cell cA (n, .inl f) = vp_cell cA (n, .inl g) := by
  rw [vp_cell_i, vp_cell_i]
  unfold arrV
  congr 1
  congr 1
  funext j
  show Value.int (f j.val) = Value.int (g j.val)
  rw [he j.val j.isLt]
theorem kr_ext {D : va_G} {cl : List vw_C} {ws : va_W} {H : Heap} {A : Nat → Prop} (hP : va_P D cl ws H) (hD : va_D A ws) (q0 : Nat) {a : Nat} {cA : ClassId} {n : Nat} {f : Nat → Int32} (g : Nat → Int32) (ha : ws[q0]? = some (a, .inl (cA, n, .inl f))) (he : ∀ j, j < n → f j = g j) :
    va_P D cl (ws.set q0 (a, .inl (cA, n, .inl g))) H ∧ va_D A (ws.set q0 (a, .inl (cA, n, .inl g))) := by
  refine ⟨hP.set hD ha ?_ (fun _ _ => rfl), hD.set ha⟩
  have h : H[a]? = some (vp_cell cA (n, .inl f)) := hP q0 _ ha
  show H[a]? = some (vp_cell cA (n, .inl g))
  rw [h, kr_cell he]
end
section
theorem d_Integer_rotateLeft_0 : decode b_Integer_rotateLeft 0 = .ok (.iload_n 0, 1) := by decide +kernel
theorem d_Integer_rotateLeft_1 : decode b_Integer_rotateLeft 1 = .ok (.iload_n 1, 1) := by decide +kernel
theorem d_Integer_rotateLeft_2 : decode b_Integer_rotateLeft 2 = .ok (.ishl, 1) := by decide +kernel
theorem d_Integer_rotateLeft_3 : decode b_Integer_rotateLeft 3 = .ok (.iload_n 0, 1) := by decide +kernel
theorem d_Integer_rotateLeft_4 : decode b_Integer_rotateLeft 4 = .ok (.iload_n 1, 1) := by decide +kernel
theorem d_Integer_rotateLeft_5 : decode b_Integer_rotateLeft 5 = .ok (.ineg, 1) := by decide +kernel
theorem d_Integer_rotateLeft_6 : decode b_Integer_rotateLeft 6 = .ok (.iushr, 1) := by decide +kernel
theorem d_Integer_rotateLeft_7 : decode b_Integer_rotateLeft 7 = .ok (.ior, 1) := by decide +kernel
theorem d_Integer_rotateLeft_8 : decode b_Integer_rotateLeft 8 = .ok (.ireturn, 1) := by decide +kernel
theorem d_Digest_init_0 : decode b_Digest_init 0 = .ok (.aload_n 0, 1) := by decide +kernel
theorem d_Digest_init_1 : decode b_Digest_init 1 = .ok (.invokespecial 1, 3) := by decide +kernel
theorem d_Digest_init_4 : decode b_Digest_init 4 = .ok (.aload_n 0, 1) := by decide +kernel
theorem d_Digest_init_5 : decode b_Digest_init 5 = .ok (.bipush 64, 2) := by decide +kernel
theorem d_Digest_init_7 : decode b_Digest_init 7 = .ok (.newarray .byte, 2) := by decide +kernel
theorem d_Digest_init_9 : decode b_Digest_init 9 = .ok (.putfield 7, 3) := by decide +kernel
theorem d_Digest_init_12 : decode b_Digest_init 12 = .ok (.aload_n 0, 1) := by decide +kernel
theorem d_Digest_init_13 : decode b_Digest_init 13 = .ok (.bipush 16, 2) := by decide +kernel
theorem d_Digest_init_15 : decode b_Digest_init 15 = .ok (.newarray .int, 2) := by decide +kernel
theorem d_Digest_init_17 : decode b_Digest_init 17 = .ok (.putfield 13, 3) := by decide +kernel
theorem d_Digest_init_20 : decode b_Digest_init 20 = .ok (.return_, 1) := by decide +kernel
theorem d_Digest_begin_0 : decode b_Digest_begin 0 = .ok (.aload_n 0, 1) := by decide +kernel
theorem d_Digest_begin_1 : decode b_Digest_begin 1 = .ok (.ldc 17, 2) := by decide +kernel
theorem d_Digest_begin_3 : decode b_Digest_begin 3 = .ok (.putfield 18, 3) := by decide +kernel
theorem d_Digest_begin_6 : decode b_Digest_begin 6 = .ok (.aload_n 0, 1) := by decide +kernel
theorem d_Digest_begin_7 : decode b_Digest_begin 7 = .ok (.ldc 22, 2) := by decide +kernel
theorem d_Digest_begin_9 : decode b_Digest_begin 9 = .ok (.putfield 23, 3) := by decide +kernel
theorem d_Digest_begin_12 : decode b_Digest_begin 12 = .ok (.aload_n 0, 1) := by decide +kernel
theorem d_Digest_begin_13 : decode b_Digest_begin 13 = .ok (.ldc 26, 2) := by decide +kernel
theorem d_Digest_begin_15 : decode b_Digest_begin 15 = .ok (.putfield 27, 3) := by decide +kernel
theorem d_Digest_begin_18 : decode b_Digest_begin 18 = .ok (.aload_n 0, 1) := by decide +kernel
theorem d_Digest_begin_19 : decode b_Digest_begin 19 = .ok (.ldc 30, 2) := by decide +kernel
theorem d_Digest_begin_21 : decode b_Digest_begin 21 = .ok (.putfield 31, 3) := by decide +kernel
theorem d_Digest_begin_24 : decode b_Digest_begin 24 = .ok (.aload_n 0, 1) := by decide +kernel
theorem d_Digest_begin_25 : decode b_Digest_begin 25 = .ok (.iconst 0, 1) := by decide +kernel
theorem d_Digest_begin_26 : decode b_Digest_begin 26 = .ok (.putfield 34, 3) := by decide +kernel
theorem d_Digest_begin_29 : decode b_Digest_begin 29 = .ok (.aload_n 0, 1) := by decide +kernel
theorem d_Digest_begin_30 : decode b_Digest_begin 30 = .ok (.lconst 0, 1) := by decide +kernel
theorem d_Digest_begin_31 : decode b_Digest_begin 31 = .ok (.putfield 37, 3) := by decide +kernel
theorem d_Digest_begin_34 : decode b_Digest_begin 34 = .ok (.return_, 1) := by decide +kernel
theorem d_Digest_add_0 : decode b_Digest_add 0 = .ok (.aload_n 0, 1) := by decide +kernel
theorem d_Digest_add_1 : decode b_Digest_add 1 = .ok (.getfield 7, 3) := by decide +kernel
theorem d_Digest_add_4 : decode b_Digest_add 4 = .ok (.aload_n 0, 1) := by decide +kernel
theorem d_Digest_add_5 : decode b_Digest_add 5 = .ok (.getfield 34, 3) := by decide +kernel
theorem d_Digest_add_8 : decode b_Digest_add 8 = .ok (.iload_n 1, 1) := by decide +kernel
theorem d_Digest_add_9 : decode b_Digest_add 9 = .ok (.i2b, 1) := by decide +kernel
theorem d_Digest_add_10 : decode b_Digest_add 10 = .ok (.bastore, 1) := by decide +kernel
theorem d_Digest_add_11 : decode b_Digest_add 11 = .ok (.aload_n 0, 1) := by decide +kernel
theorem d_Digest_add_12 : decode b_Digest_add 12 = .ok (.dup, 1) := by decide +kernel
theorem d_Digest_add_13 : decode b_Digest_add 13 = .ok (.getfield 34, 3) := by decide +kernel
theorem d_Digest_add_16 : decode b_Digest_add 16 = .ok (.iconst 1, 1) := by decide +kernel
theorem d_Digest_add_17 : decode b_Digest_add 17 = .ok (.iadd, 1) := by decide +kernel
theorem d_Digest_add_18 : decode b_Digest_add 18 = .ok (.putfield 34, 3) := by decide +kernel
theorem d_Digest_add_21 : decode b_Digest_add 21 = .ok (.aload_n 0, 1) := by decide +kernel
theorem d_Digest_add_22 : decode b_Digest_add 22 = .ok (.dup, 1) := by decide +kernel
theorem d_Digest_add_23 : decode b_Digest_add 23 = .ok (.getfield 37, 3) := by decide +kernel
theorem d_Digest_add_26 : decode b_Digest_add 26 = .ok (.lconst 1, 1) := by decide +kernel
theorem d_Digest_add_27 : decode b_Digest_add 27 = .ok (.ladd, 1) := by decide +kernel
theorem d_Digest_add_28 : decode b_Digest_add 28 = .ok (.putfield 37, 3) := by decide +kernel
theorem d_Digest_add_31 : decode b_Digest_add 31 = .ok (.aload_n 0, 1) := by decide +kernel
theorem d_Digest_add_32 : decode b_Digest_add 32 = .ok (.getfield 34, 3) := by decide +kernel
theorem d_Digest_add_35 : decode b_Digest_add 35 = .ok (.bipush 64, 2) := by decide +kernel
theorem d_Digest_add_37 : decode b_Digest_add 37 = .ok (.if_icmp .ge 4, 3) := by decide +kernel
theorem d_Digest_add_40 : decode b_Digest_add 40 = .ok (.return_, 1) := by decide +kernel
theorem d_Digest_add_41 : decode b_Digest_add 41 = .ok (.aload_n 0, 1) := by decide +kernel
theorem d_Digest_add_42 : decode b_Digest_add 42 = .ok (.iconst 0, 1) := by decide +kernel
theorem d_Digest_add_43 : decode b_Digest_add 43 = .ok (.putfield 34, 3) := by decide +kernel
theorem d_Digest_add_46 : decode b_Digest_add 46 = .ok (.aload_n 0, 1) := by decide +kernel
theorem d_Digest_add_47 : decode b_Digest_add 47 = .ok (.invokevirtual 41, 3) := by decide +kernel
theorem d_Digest_add_50 : decode b_Digest_add 50 = .ok (.return_, 1) := by decide +kernel
theorem d_Digest_mix_0 : decode b_Digest_mix 0 = .ok (.iconst 0, 1) := by decide +kernel
theorem d_Digest_mix_1 : decode b_Digest_mix 1 = .ok (.istore_n 1, 1) := by decide +kernel
theorem d_Digest_mix_2 : decode b_Digest_mix 2 = .ok (.iload_n 1, 1) := by decide +kernel
theorem d_Digest_mix_3 : decode b_Digest_mix 3 = .ok (.bipush 16, 2) := by decide +kernel
theorem d_Digest_mix_5 : decode b_Digest_mix 5 = .ok (.if_icmp .ge 77, 3) := by decide +kernel
theorem d_Digest_mix_8 : decode b_Digest_mix 8 = .ok (.aload_n 0, 1) := by decide +kernel
theorem d_Digest_mix_9 : decode b_Digest_mix 9 = .ok (.getfield 13, 3) := by decide +kernel
theorem d_Digest_mix_12 : decode b_Digest_mix 12 = .ok (.iload_n 1, 1) := by decide +kernel
theorem d_Digest_mix_13 : decode b_Digest_mix 13 = .ok (.aload_n 0, 1) := by decide +kernel
theorem d_Digest_mix_14 : decode b_Digest_mix 14 = .ok (.getfield 7, 3) := by decide +kernel
theorem d_Digest_mix_17 : decode b_Digest_mix 17 = .ok (.iconst 4, 1) := by decide +kernel
theorem d_Digest_mix_18 : decode b_Digest_mix 18 = .ok (.iload_n 1, 1) := by decide +kernel
theorem d_Digest_mix_19 : decode b_Digest_mix 19 = .ok (.imul, 1) := by decide +kernel
theorem d_Digest_mix_20 : decode b_Digest_mix 20 = .ok (.baload, 1) := by decide +kernel
theorem d_Digest_mix_21 : decode b_Digest_mix 21 = .ok (.sipush 255, 3) := by decide +kernel
theorem d_Digest_mix_24 : decode b_Digest_mix 24 = .ok (.iand, 1) := by decide +kernel
theorem d_Digest_mix_25 : decode b_Digest_mix 25 = .ok (.aload_n 0, 1) := by decide +kernel
theorem d_Digest_mix_26 : decode b_Digest_mix 26 = .ok (.getfield 7, 3) := by decide +kernel
theorem d_Digest_mix_29 : decode b_Digest_mix 29 = .ok (.iconst 4, 1) := by decide +kernel
theorem d_Digest_mix_30 : decode b_Digest_mix 30 = .ok (.iload_n 1, 1) := by decide +kernel
theorem d_Digest_mix_31 : decode b_Digest_mix 31 = .ok (.imul, 1) := by decide +kernel
theorem d_Digest_mix_32 : decode b_Digest_mix 32 = .ok (.iconst 1, 1) := by decide +kernel
theorem d_Digest_mix_33 : decode b_Digest_mix 33 = .ok (.iadd, 1) := by decide +kernel
theorem d_Digest_mix_34 : decode b_Digest_mix 34 = .ok (.baload, 1) := by decide +kernel
theorem d_Digest_mix_35 : decode b_Digest_mix 35 = .ok (.sipush 255, 3) := by decide +kernel
theorem d_Digest_mix_38 : decode b_Digest_mix 38 = .ok (.iand, 1) := by decide +kernel
theorem d_Digest_mix_39 : decode b_Digest_mix 39 = .ok (.bipush 8, 2) := by decide +kernel
theorem d_Digest_mix_41 : decode b_Digest_mix 41 = .ok (.ishl, 1) := by decide +kernel
theorem d_Digest_mix_42 : decode b_Digest_mix 42 = .ok (.ior, 1) := by decide +kernel
theorem d_Digest_mix_43 : decode b_Digest_mix 43 = .ok (.aload_n 0, 1) := by decide +kernel
theorem d_Digest_mix_44 : decode b_Digest_mix 44 = .ok (.getfield 7, 3) := by decide +kernel
theorem d_Digest_mix_47 : decode b_Digest_mix 47 = .ok (.iconst 4, 1) := by decide +kernel
theorem d_Digest_mix_48 : decode b_Digest_mix 48 = .ok (.iload_n 1, 1) := by decide +kernel
theorem d_Digest_mix_49 : decode b_Digest_mix 49 = .ok (.imul, 1) := by decide +kernel
theorem d_Digest_mix_50 : decode b_Digest_mix 50 = .ok (.iconst 2, 1) := by decide +kernel
theorem d_Digest_mix_51 : decode b_Digest_mix 51 = .ok (.iadd, 1) := by decide +kernel
theorem d_Digest_mix_52 : decode b_Digest_mix 52 = .ok (.baload, 1) := by decide +kernel
theorem d_Digest_mix_53 : decode b_Digest_mix 53 = .ok (.sipush 255, 3) := by decide +kernel
theorem d_Digest_mix_56 : decode b_Digest_mix 56 = .ok (.iand, 1) := by decide +kernel
theorem d_Digest_mix_57 : decode b_Digest_mix 57 = .ok (.bipush 16, 2) := by decide +kernel
theorem d_Digest_mix_59 : decode b_Digest_mix 59 = .ok (.ishl, 1) := by decide +kernel
theorem d_Digest_mix_60 : decode b_Digest_mix 60 = .ok (.ior, 1) := by decide +kernel
theorem d_Digest_mix_61 : decode b_Digest_mix 61 = .ok (.aload_n 0, 1) := by decide +kernel
theorem d_Digest_mix_62 : decode b_Digest_mix 62 = .ok (.getfield 7, 3) := by decide +kernel
theorem d_Digest_mix_65 : decode b_Digest_mix 65 = .ok (.iconst 4, 1) := by decide +kernel
theorem d_Digest_mix_66 : decode b_Digest_mix 66 = .ok (.iload_n 1, 1) := by decide +kernel
theorem d_Digest_mix_67 : decode b_Digest_mix 67 = .ok (.imul, 1) := by decide +kernel
theorem d_Digest_mix_68 : decode b_Digest_mix 68 = .ok (.iconst 3, 1) := by decide +kernel
theorem d_Digest_mix_69 : decode b_Digest_mix 69 = .ok (.iadd, 1) := by decide +kernel
theorem d_Digest_mix_70 : decode b_Digest_mix 70 = .ok (.baload, 1) := by decide +kernel
theorem d_Digest_mix_71 : decode b_Digest_mix 71 = .ok (.bipush 24, 2) := by decide +kernel
theorem d_Digest_mix_73 : decode b_Digest_mix 73 = .ok (.ishl, 1) := by decide +kernel
theorem d_Digest_mix_74 : decode b_Digest_mix 74 = .ok (.ior, 1) := by decide +kernel
theorem d_Digest_mix_75 : decode b_Digest_mix 75 = .ok (.iastore, 1) := by decide +kernel
theorem d_Digest_mix_76 : decode b_Digest_mix 76 = .ok (.iinc 1 1, 3) := by decide +kernel
theorem d_Digest_mix_79 : decode b_Digest_mix 79 = .ok (.goto (-77), 3) := by decide +kernel
theorem d_Digest_mix_82 : decode b_Digest_mix 82 = .ok (.aload_n 0, 1) := by decide +kernel
theorem d_Digest_mix_83 : decode b_Digest_mix 83 = .ok (.getfield 18, 3) := by decide +kernel
theorem d_Digest_mix_86 : decode b_Digest_mix 86 = .ok (.istore_n 1, 1) := by decide +kernel
theorem d_Digest_mix_87 : decode b_Digest_mix 87 = .ok (.aload_n 0, 1) := by decide +kernel
theorem d_Digest_mix_88 : decode b_Digest_mix 88 = .ok (.getfield 23, 3) := by decide +kernel
theorem d_Digest_mix_91 : decode b_Digest_mix 91 = .ok (.istore_n 2, 1) := by decide +kernel
theorem d_Digest_mix_92 : decode b_Digest_mix 92 = .ok (.aload_n 0, 1) := by decide +kernel
theorem d_Digest_mix_93 : decode b_Digest_mix 93 = .ok (.getfield 27, 3) := by decide +kernel
theorem d_Digest_mix_96 : decode b_Digest_mix 96 = .ok (.istore_n 3, 1) := by decide +kernel
theorem d_Digest_mix_97 : decode b_Digest_mix 97 = .ok (.aload_n 0, 1) := by decide +kernel
theorem d_Digest_mix_98 : decode b_Digest_mix 98 = .ok (.getfield 31, 3) := by decide +kernel
theorem d_Digest_mix_101 : decode b_Digest_mix 101 = .ok (.istore 4, 2) := by decide +kernel
theorem d_Digest_mix_103 : decode b_Digest_mix 103 = .ok (.iconst 0, 1) := by decide +kernel
theorem d_Digest_mix_104 : decode b_Digest_mix 104 = .ok (.istore 5, 2) := by decide +kernel
theorem d_Digest_mix_106 : decode b_Digest_mix 106 = .ok (.iload 5, 2) := by decide +kernel
theorem d_Digest_mix_108 : decode b_Digest_mix 108 = .ok (.bipush 64, 2) := by decide +kernel
theorem d_Digest_mix_110 : decode b_Digest_mix 110 = .ok (.if_icmp .ge 175, 3) := by decide +kernel
theorem d_Digest_mix_113 : decode b_Digest_mix 113 = .ok (.iload 5, 2) := by decide +kernel
theorem d_Digest_mix_115 : decode b_Digest_mix 115 = .ok (.bipush 16, 2) := by decide +kernel
theorem d_Digest_mix_117 : decode b_Digest_mix 117 = .ok (.idiv, 1) := by decide +kernel
theorem d_Digest_mix_118 : decode b_Digest_mix 118 = .ok (.tableswitch 88 0 2 #[26, 45, 69], 26) := by decide +kernel
theorem d_Digest_mix_144 : decode b_Digest_mix 144 = .ok (.iload_n 2, 1) := by decide +kernel
theorem d_Digest_mix_145 : decode b_Digest_mix 145 = .ok (.iload_n 3, 1) := by decide +kernel
theorem d_Digest_mix_146 : decode b_Digest_mix 146 = .ok (.iand, 1) := by decide +kernel
theorem d_Digest_mix_147 : decode b_Digest_mix 147 = .ok (.iload_n 2, 1) := by decide +kernel
theorem d_Digest_mix_148 : decode b_Digest_mix 148 = .ok (.iconst (-1), 1) := by decide +kernel
theorem d_Digest_mix_149 : decode b_Digest_mix 149 = .ok (.ixor, 1) := by decide +kernel
theorem d_Digest_mix_150 : decode b_Digest_mix 150 = .ok (.iload 4, 2) := by decide +kernel
theorem d_Digest_mix_152 : decode b_Digest_mix 152 = .ok (.iand, 1) := by decide +kernel
theorem d_Digest_mix_153 : decode b_Digest_mix 153 = .ok (.ior, 1) := by decide +kernel
theorem d_Digest_mix_154 : decode b_Digest_mix 154 = .ok (.istore 6, 2) := by decide +kernel
theorem d_Digest_mix_156 : decode b_Digest_mix 156 = .ok (.iload 5, 2) := by decide +kernel
theorem d_Digest_mix_158 : decode b_Digest_mix 158 = .ok (.istore 7, 2) := by decide +kernel
theorem d_Digest_mix_160 : decode b_Digest_mix 160 = .ok (.goto 63, 3) := by decide +kernel
theorem d_Digest_mix_163 : decode b_Digest_mix 163 = .ok (.iload 4, 2) := by decide +kernel
theorem d_Digest_mix_165 : decode b_Digest_mix 165 = .ok (.iload_n 2, 1) := by decide +kernel
theorem d_Digest_mix_166 : decode b_Digest_mix 166 = .ok (.iand, 1) := by decide +kernel
theorem d_Digest_mix_167 : decode b_Digest_mix 167 = .ok (.iload 4, 2) := by decide +kernel
theorem d_Digest_mix_169 : decode b_Digest_mix 169 = .ok (.iconst (-1), 1) := by decide +kernel
theorem d_Digest_mix_170 : decode b_Digest_mix 170 = .ok (.ixor, 1) := by decide +kernel
theorem d_Digest_mix_171 : decode b_Digest_mix 171 = .ok (.iload_n 3, 1) := by decide +kernel
theorem d_Digest_mix_172 : decode b_Digest_mix 172 = .ok (.iand, 1) := by decide +kernel
theorem d_Digest_mix_173 : decode b_Digest_mix 173 = .ok (.ior, 1) := by decide +kernel
theorem d_Digest_mix_174 : decode b_Digest_mix 174 = .ok (.istore 6, 2) := by decide +kernel
theorem d_Digest_mix_176 : decode b_Digest_mix 176 = .ok (.iconst 5, 1) := by decide +kernel
theorem d_Digest_mix_177 : decode b_Digest_mix 177 = .ok (.iload 5, 2) := by decide +kernel
theorem d_Digest_mix_179 : decode b_Digest_mix 179 = .ok (.imul, 1) := by decide +kernel
theorem d_Digest_mix_180 : decode b_Digest_mix 180 = .ok (.iconst 1, 1) := by decide +kernel
theorem d_Digest_mix_181 : decode b_Digest_mix 181 = .ok (.iadd, 1) := by decide +kernel
theorem d_Digest_mix_182 : decode b_Digest_mix 182 = .ok (.istore 7, 2) := by decide +kernel
theorem d_Digest_mix_184 : decode b_Digest_mix 184 = .ok (.goto 39, 3) := by decide +kernel
theorem d_Digest_mix_187 : decode b_Digest_mix 187 = .ok (.iload_n 2, 1) := by decide +kernel
theorem d_Digest_mix_188 : decode b_Digest_mix 188 = .ok (.iload_n 3, 1) := by decide +kernel
theorem d_Digest_mix_189 : decode b_Digest_mix 189 = .ok (.ixor, 1) := by decide +kernel
theorem d_Digest_mix_190 : decode b_Digest_mix 190 = .ok (.iload 4, 2) := by decide +kernel
theorem d_Digest_mix_192 : decode b_Digest_mix 192 = .ok (.ixor, 1) := by decide +kernel
theorem d_Digest_mix_193 : decode b_Digest_mix 193 = .ok (.istore 6, 2) := by decide +kernel
theorem d_Digest_mix_195 : decode b_Digest_mix 195 = .ok (.iconst 3, 1) := by decide +kernel
theorem d_Digest_mix_196 : decode b_Digest_mix 196 = .ok (.iload 5, 2) := by decide +kernel
theorem d_Digest_mix_198 : decode b_Digest_mix 198 = .ok (.imul, 1) := by decide +kernel
theorem d_Digest_mix_199 : decode b_Digest_mix 199 = .ok (.iconst 5, 1) := by decide +kernel
theorem d_Digest_mix_200 : decode b_Digest_mix 200 = .ok (.iadd, 1) := by decide +kernel
theorem d_Digest_mix_201 : decode b_Digest_mix 201 = .ok (.istore 7, 2) := by decide +kernel
theorem d_Digest_mix_203 : decode b_Digest_mix 203 = .ok (.goto 20, 3) := by decide +kernel
theorem d_Digest_mix_206 : decode b_Digest_mix 206 = .ok (.iload_n 3, 1) := by decide +kernel
theorem d_Digest_mix_207 : decode b_Digest_mix 207 = .ok (.iload_n 2, 1) := by decide +kernel
theorem d_Digest_mix_208 : decode b_Digest_mix 208 = .ok (.iload 4, 2) := by decide +kernel
theorem d_Digest_mix_210 : decode b_Digest_mix 210 = .ok (.iconst (-1), 1) := by decide +kernel
theorem d_Digest_mix_211 : decode b_Digest_mix 211 = .ok (.ixor, 1) := by decide +kernel
theorem d_Digest_mix_212 : decode b_Digest_mix 212 = .ok (.ior, 1) := by decide +kernel
theorem d_Digest_mix_213 : decode b_Digest_mix 213 = .ok (.ixor, 1) := by decide +kernel
theorem d_Digest_mix_214 : decode b_Digest_mix 214 = .ok (.istore 6, 2) := by decide +kernel
theorem d_Digest_mix_216 : decode b_Digest_mix 216 = .ok (.bipush 7, 2) := by decide +kernel
theorem d_Digest_mix_218 : decode b_Digest_mix 218 = .ok (.iload 5, 2) := by decide +kernel
theorem d_Digest_mix_220 : decode b_Digest_mix 220 = .ok (.imul, 1) := by decide +kernel
theorem d_Digest_mix_221 : decode b_Digest_mix 221 = .ok (.istore 7, 2) := by decide +kernel
theorem d_Digest_mix_223 : decode b_Digest_mix 223 = .ok (.iload_n 2, 1) := by decide +kernel
theorem d_Digest_mix_224 : decode b_Digest_mix 224 = .ok (.iload_n 1, 1) := by decide +kernel
theorem d_Digest_mix_225 : decode b_Digest_mix 225 = .ok (.iload 6, 2) := by decide +kernel
theorem d_Digest_mix_227 : decode b_Digest_mix 227 = .ok (.iadd, 1) := by decide +kernel
theorem d_Digest_mix_228 : decode b_Digest_mix 228 = .ok (.getstatic 44, 3) := by decide +kernel
theorem d_Digest_mix_231 : decode b_Digest_mix 231 = .ok (.iload 5, 2) := by decide +kernel
theorem d_Digest_mix_233 : decode b_Digest_mix 233 = .ok (.iaload, 1) := by decide +kernel
theorem d_Digest_mix_234 : decode b_Digest_mix 234 = .ok (.iadd, 1) := by decide +kernel
theorem d_Digest_mix_235 : decode b_Digest_mix 235 = .ok (.aload_n 0, 1) := by decide +kernel
theorem d_Digest_mix_236 : decode b_Digest_mix 236 = .ok (.getfield 13, 3) := by decide +kernel
theorem d_Digest_mix_239 : decode b_Digest_mix 239 = .ok (.iload 7, 2) := by decide +kernel
theorem d_Digest_mix_241 : decode b_Digest_mix 241 = .ok (.bipush 16, 2) := by decide +kernel
theorem d_Digest_mix_243 : decode b_Digest_mix 243 = .ok (.irem, 1) := by decide +kernel
theorem d_Digest_mix_244 : decode b_Digest_mix 244 = .ok (.iaload, 1) := by decide +kernel
theorem d_Digest_mix_245 : decode b_Digest_mix 245 = .ok (.iadd, 1) := by decide +kernel
theorem d_Digest_mix_246 : decode b_Digest_mix 246 = .ok (.getstatic 47, 3) := by decide +kernel
theorem d_Digest_mix_249 : decode b_Digest_mix 249 = .ok (.iconst 4, 1) := by decide +kernel
theorem d_Digest_mix_250 : decode b_Digest_mix 250 = .ok (.iload 5, 2) := by decide +kernel
theorem d_Digest_mix_252 : decode b_Digest_mix 252 = .ok (.bipush 16, 2) := by decide +kernel
theorem d_Digest_mix_254 : decode b_Digest_mix 254 = .ok (.idiv, 1) := by decide +kernel
theorem d_Digest_mix_255 : decode b_Digest_mix 255 = .ok (.imul, 1) := by decide +kernel
theorem d_Digest_mix_256 : decode b_Digest_mix 256 = .ok (.iload 5, 2) := by decide +kernel
theorem d_Digest_mix_258 : decode b_Digest_mix 258 = .ok (.iconst 4, 1) := by decide +kernel
theorem d_Digest_mix_259 : decode b_Digest_mix 259 = .ok (.irem, 1) := by decide +kernel
theorem d_Digest_mix_260 : decode b_Digest_mix 260 = .ok (.iadd, 1) := by decide +kernel
theorem d_Digest_mix_261 : decode b_Digest_mix 261 = .ok (.iaload, 1) := by decide +kernel
theorem d_Digest_mix_262 : decode b_Digest_mix 262 = .ok (.invokestatic 50, 3) := by decide +kernel
theorem d_Digest_mix_265 : decode b_Digest_mix 265 = .ok (.iadd, 1) := by decide +kernel
theorem d_Digest_mix_266 : decode b_Digest_mix 266 = .ok (.istore 8, 2) := by decide +kernel
theorem d_Digest_mix_268 : decode b_Digest_mix 268 = .ok (.iload 4, 2) := by decide +kernel
theorem d_Digest_mix_270 : decode b_Digest_mix 270 = .ok (.istore_n 1, 1) := by decide +kernel
theorem d_Digest_mix_271 : decode b_Digest_mix 271 = .ok (.iload_n 3, 1) := by decide +kernel
theorem d_Digest_mix_272 : decode b_Digest_mix 272 = .ok (.istore 4, 2) := by decide +kernel
theorem d_Digest_mix_274 : decode b_Digest_mix 274 = .ok (.iload_n 2, 1) := by decide +kernel
theorem d_Digest_mix_275 : decode b_Digest_mix 275 = .ok (.istore_n 3, 1) := by decide +kernel
theorem d_Digest_mix_276 : decode b_Digest_mix 276 = .ok (.iload 8, 2) := by decide +kernel
theorem d_Digest_mix_278 : decode b_Digest_mix 278 = .ok (.istore_n 2, 1) := by decide +kernel
theorem d_Digest_mix_279 : decode b_Digest_mix 279 = .ok (.iinc 5 1, 3) := by decide +kernel
theorem d_Digest_mix_282 : decode b_Digest_mix 282 = .ok (.goto (-176), 3) := by decide +kernel
theorem d_Digest_mix_285 : decode b_Digest_mix 285 = .ok (.aload_n 0, 1) := by decide +kernel
theorem d_Digest_mix_286 : decode b_Digest_mix 286 = .ok (.dup, 1) := by decide +kernel
theorem d_Digest_mix_287 : decode b_Digest_mix 287 = .ok (.getfield 18, 3) := by decide +kernel
theorem d_Digest_mix_290 : decode b_Digest_mix 290 = .ok (.iload_n 1, 1) := by decide +kernel
theorem d_Digest_mix_291 : decode b_Digest_mix 291 = .ok (.iadd, 1) := by decide +kernel
theorem d_Digest_mix_292 : decode b_Digest_mix 292 = .ok (.putfield 18, 3) := by decide +kernel
theorem d_Digest_mix_295 : decode b_Digest_mix 295 = .ok (.aload_n 0, 1) := by decide +kernel
theorem d_Digest_mix_296 : decode b_Digest_mix 296 = .ok (.dup, 1) := by decide +kernel
theorem d_Digest_mix_297 : decode b_Digest_mix 297 = .ok (.getfield 23, 3) := by decide +kernel
theorem d_Digest_mix_300 : decode b_Digest_mix 300 = .ok (.iload_n 2, 1) := by decide +kernel
theorem d_Digest_mix_301 : decode b_Digest_mix 301 = .ok (.iadd, 1) := by decide +kernel
theorem d_Digest_mix_302 : decode b_Digest_mix 302 = .ok (.putfield 23, 3) := by decide +kernel
theorem d_Digest_mix_305 : decode b_Digest_mix 305 = .ok (.aload_n 0, 1) := by decide +kernel
theorem d_Digest_mix_306 : decode b_Digest_mix 306 = .ok (.dup, 1) := by decide +kernel
theorem d_Digest_mix_307 : decode b_Digest_mix 307 = .ok (.getfield 27, 3) := by decide +kernel
theorem d_Digest_mix_310 : decode b_Digest_mix 310 = .ok (.iload_n 3, 1) := by decide +kernel
theorem d_Digest_mix_311 : decode b_Digest_mix 311 = .ok (.iadd, 1) := by decide +kernel
theorem d_Digest_mix_312 : decode b_Digest_mix 312 = .ok (.putfield 27, 3) := by decide +kernel
theorem d_Digest_mix_315 : decode b_Digest_mix 315 = .ok (.aload_n 0, 1) := by decide +kernel
theorem d_Digest_mix_316 : decode b_Digest_mix 316 = .ok (.dup, 1) := by decide +kernel
theorem d_Digest_mix_317 : decode b_Digest_mix 317 = .ok (.getfield 31, 3) := by decide +kernel
theorem d_Digest_mix_320 : decode b_Digest_mix 320 = .ok (.iload 4, 2) := by decide +kernel
theorem d_Digest_mix_322 : decode b_Digest_mix 322 = .ok (.iadd, 1) := by decide +kernel
theorem d_Digest_mix_323 : decode b_Digest_mix 323 = .ok (.putfield 31, 3) := by decide +kernel
theorem d_Digest_mix_326 : decode b_Digest_mix 326 = .ok (.return_, 1) := by decide +kernel
theorem d_Digest_end_0 : decode b_Digest_end 0 = .ok (.ldc2_w 56, 3) := by decide +kernel
theorem d_Digest_end_3 : decode b_Digest_end 3 = .ok (.aload_n 0, 1) := by decide +kernel
theorem d_Digest_end_4 : decode b_Digest_end 4 = .ok (.getfield 37, 3) := by decide +kernel
theorem d_Digest_end_7 : decode b_Digest_end 7 = .ok (.lmul, 1) := by decide +kernel
theorem d_Digest_end_8 : decode b_Digest_end 8 = .ok (.lstore_n 3, 1) := by decide +kernel
theorem d_Digest_end_9 : decode b_Digest_end 9 = .ok (.aload_n 0, 1) := by decide +kernel
theorem d_Digest_end_10 : decode b_Digest_end 10 = .ok (.sipush 128, 3) := by decide +kernel
theorem d_Digest_end_13 : decode b_Digest_end 13 = .ok (.invokevirtual 58, 3) := by decide +kernel
theorem d_Digest_end_16 : decode b_Digest_end 16 = .ok (.aload_n 0, 1) := by decide +kernel
theorem d_Digest_end_17 : decode b_Digest_end 17 = .ok (.getfield 34, 3) := by decide +kernel
theorem d_Digest_end_20 : decode b_Digest_end 20 = .ok (.bipush 56, 2) := by decide +kernel
theorem d_Digest_end_22 : decode b_Digest_end 22 = .ok (.if_icmp .eq 11, 3) := by decide +kernel
theorem d_Digest_end_25 : decode b_Digest_end 25 = .ok (.aload_n 0, 1) := by decide +kernel
theorem d_Digest_end_26 : decode b_Digest_end 26 = .ok (.iconst 0, 1) := by decide +kernel
theorem d_Digest_end_27 : decode b_Digest_end 27 = .ok (.invokevirtual 58, 3) := by decide +kernel
theorem d_Digest_end_30 : decode b_Digest_end 30 = .ok (.goto (-14), 3) := by decide +kernel
theorem d_Digest_end_33 : decode b_Digest_end 33 = .ok (.iconst 0, 1) := by decide +kernel
theorem d_Digest_end_34 : decode b_Digest_end 34 = .ok (.istore 5, 2) := by decide +kernel
theorem d_Digest_end_36 : decode b_Digest_end 36 = .ok (.iload 5, 2) := by decide +kernel
theorem d_Digest_end_38 : decode b_Digest_end 38 = .ok (.bipush 8, 2) := by decide +kernel
theorem d_Digest_end_40 : decode b_Digest_end 40 = .ok (.if_icmp .ge 21, 3) := by decide +kernel
theorem d_Digest_end_43 : decode b_Digest_end 43 = .ok (.aload_n 0, 1) := by decide +kernel
theorem d_Digest_end_44 : decode b_Digest_end 44 = .ok (.lload_n 3, 1) := by decide +kernel
theorem d_Digest_end_45 : decode b_Digest_end 45 = .ok (.bipush 8, 2) := by decide +kernel
theorem d_Digest_end_47 : decode b_Digest_end 47 = .ok (.iload 5, 2) := by decide +kernel
theorem d_Digest_end_49 : decode b_Digest_end 49 = .ok (.imul, 1) := by decide +kernel
theorem d_Digest_end_50 : decode b_Digest_end 50 = .ok (.lshr, 1) := by decide +kernel
theorem d_Digest_end_51 : decode b_Digest_end 51 = .ok (.l2i, 1) := by decide +kernel
theorem d_Digest_end_52 : decode b_Digest_end 52 = .ok (.invokevirtual 58, 3) := by decide +kernel
theorem d_Digest_end_55 : decode b_Digest_end 55 = .ok (.iinc 5 1, 3) := by decide +kernel
theorem d_Digest_end_58 : decode b_Digest_end 58 = .ok (.goto (-22), 3) := by decide +kernel
theorem d_Digest_end_61 : decode b_Digest_end 61 = .ok (.iconst 0, 1) := by decide +kernel
theorem d_Digest_end_62 : decode b_Digest_end 62 = .ok (.istore 5, 2) := by decide +kernel
theorem d_Digest_end_64 : decode b_Digest_end 64 = .ok (.iload 5, 2) := by decide +kernel
theorem d_Digest_end_66 : decode b_Digest_end 66 = .ok (.bipush 16, 2) := by decide +kernel
theorem d_Digest_end_68 : decode b_Digest_end 68 = .ok (.if_icmp .ge 69, 3) := by decide +kernel
theorem d_Digest_end_71 : decode b_Digest_end 71 = .ok (.aload_n 1, 1) := by decide +kernel
theorem d_Digest_end_72 : decode b_Digest_end 72 = .ok (.iload_n 2, 1) := by decide +kernel
theorem d_Digest_end_73 : decode b_Digest_end 73 = .ok (.iload 5, 2) := by decide +kernel
theorem d_Digest_end_75 : decode b_Digest_end 75 = .ok (.iadd, 1) := by decide +kernel
theorem d_Digest_end_76 : decode b_Digest_end 76 = .ok (.iload 5, 2) := by decide +kernel
theorem d_Digest_end_78 : decode b_Digest_end 78 = .ok (.iconst 4, 1) := by decide +kernel
theorem d_Digest_end_79 : decode b_Digest_end 79 = .ok (.if_icmp .ge 10, 3) := by decide +kernel
theorem d_Digest_end_82 : decode b_Digest_end 82 = .ok (.aload_n 0, 1) := by decide +kernel
theorem d_Digest_end_83 : decode b_Digest_end 83 = .ok (.getfield 18, 3) := by decide +kernel
theorem d_Digest_end_86 : decode b_Digest_end 86 = .ok (.goto 35, 3) := by decide +kernel
theorem d_Digest_end_89 : decode b_Digest_end 89 = .ok (.iload 5, 2) := by decide +kernel
theorem d_Digest_end_91 : decode b_Digest_end 91 = .ok (.bipush 8, 2) := by decide +kernel
theorem d_Digest_end_93 : decode b_Digest_end 93 = .ok (.if_icmp .ge 10, 3) := by decide +kernel
theorem d_Digest_end_96 : decode b_Digest_end 96 = .ok (.aload_n 0, 1) := by decide +kernel
theorem d_Digest_end_97 : decode b_Digest_end 97 = .ok (.getfield 23, 3) := by decide +kernel
theorem d_Digest_end_100 : decode b_Digest_end 100 = .ok (.goto 21, 3) := by decide +kernel
theorem d_Digest_end_103 : decode b_Digest_end 103 = .ok (.iload 5, 2) := by decide +kernel
theorem d_Digest_end_105 : decode b_Digest_end 105 = .ok (.bipush 12, 2) := by decide +kernel
theorem d_Digest_end_107 : decode b_Digest_end 107 = .ok (.if_icmp .ge 10, 3) := by decide +kernel
theorem d_Digest_end_110 : decode b_Digest_end 110 = .ok (.aload_n 0, 1) := by decide +kernel
theorem d_Digest_end_111 : decode b_Digest_end 111 = .ok (.getfield 27, 3) := by decide +kernel
theorem d_Digest_end_114 : decode b_Digest_end 114 = .ok (.goto 7, 3) := by decide +kernel
theorem d_Digest_end_117 : decode b_Digest_end 117 = .ok (.aload_n 0, 1) := by decide +kernel
theorem d_Digest_end_118 : decode b_Digest_end 118 = .ok (.getfield 31, 3) := by decide +kernel
theorem d_Digest_end_121 : decode b_Digest_end 121 = .ok (.bipush 8, 2) := by decide +kernel
theorem d_Digest_end_123 : decode b_Digest_end 123 = .ok (.iload 5, 2) := by decide +kernel
theorem d_Digest_end_125 : decode b_Digest_end 125 = .ok (.iconst 4, 1) := by decide +kernel
theorem d_Digest_end_126 : decode b_Digest_end 126 = .ok (.irem, 1) := by decide +kernel
theorem d_Digest_end_127 : decode b_Digest_end 127 = .ok (.imul, 1) := by decide +kernel
theorem d_Digest_end_128 : decode b_Digest_end 128 = .ok (.ishr, 1) := by decide +kernel
theorem d_Digest_end_129 : decode b_Digest_end 129 = .ok (.i2b, 1) := by decide +kernel
theorem d_Digest_end_130 : decode b_Digest_end 130 = .ok (.bastore, 1) := by decide +kernel
theorem d_Digest_end_131 : decode b_Digest_end 131 = .ok (.iinc 5 1, 3) := by decide +kernel
theorem d_Digest_end_134 : decode b_Digest_end 134 = .ok (.goto (-70), 3) := by decide +kernel
theorem d_Digest_end_137 : decode b_Digest_end 137 = .ok (.return_, 1) := by decide +kernel
end
section
theorem d_KeySums_init_0 : decode b_KeySums_init 0 = .ok (.aload_n 0, 1) := by decide +kernel
theorem d_KeySums_init_1 : decode b_KeySums_init 1 = .ok (.invokespecial 1, 3) := by decide +kernel
theorem d_KeySums_init_4 : decode b_KeySums_init 4 = .ok (.aload_n 0, 1) := by decide +kernel
theorem d_KeySums_init_5 : decode b_KeySums_init 5 = .ok (.new 7, 3) := by decide +kernel
theorem d_KeySums_init_8 : decode b_KeySums_init 8 = .ok (.dup, 1) := by decide +kernel
theorem d_KeySums_init_9 : decode b_KeySums_init 9 = .ok (.invokespecial 9, 3) := by decide +kernel
theorem d_KeySums_init_12 : decode b_KeySums_init 12 = .ok (.putfield 10, 3) := by decide +kernel
theorem d_KeySums_init_15 : decode b_KeySums_init 15 = .ok (.aload_n 0, 1) := by decide +kernel
theorem d_KeySums_init_16 : decode b_KeySums_init 16 = .ok (.bipush 16, 2) := by decide +kernel
theorem d_KeySums_init_18 : decode b_KeySums_init 18 = .ok (.newarray .byte, 2) := by decide +kernel
theorem d_KeySums_init_20 : decode b_KeySums_init 20 = .ok (.putfield 16, 3) := by decide +kernel
theorem d_KeySums_init_23 : decode b_KeySums_init 23 = .ok (.aload_n 0, 1) := by decide +kernel
theorem d_KeySums_init_24 : decode b_KeySums_init 24 = .ok (.bipush 16, 2) := by decide +kernel
theorem d_KeySums_init_26 : decode b_KeySums_init 26 = .ok (.newarray .byte, 2) := by decide +kernel
theorem d_KeySums_init_28 : decode b_KeySums_init 28 = .ok (.putfield 20, 3) := by decide +kernel
theorem d_KeySums_init_31 : decode b_KeySums_init 31 = .ok (.aload_n 0, 1) := by decide +kernel
theorem d_KeySums_init_32 : decode b_KeySums_init 32 = .ok (.sipush 2000, 3) := by decide +kernel
theorem d_KeySums_init_35 : decode b_KeySums_init 35 = .ok (.newarray .byte, 2) := by decide +kernel
theorem d_KeySums_init_37 : decode b_KeySums_init 37 = .ok (.putfield 23, 3) := by decide +kernel
theorem d_KeySums_init_40 : decode b_KeySums_init 40 = .ok (.aload_n 0, 1) := by decide +kernel
theorem d_KeySums_init_41 : decode b_KeySums_init 41 = .ok (.getfield 10, 3) := by decide +kernel
theorem d_KeySums_init_44 : decode b_KeySums_init 44 = .ok (.invokevirtual 26, 3) := by decide +kernel
theorem d_KeySums_init_47 : decode b_KeySums_init 47 = .ok (.return_, 1) := by decide +kernel
theorem d_KeySums_feed_0 : decode b_KeySums_feed 0 = .ok (.aload_n 0, 1) := by decide +kernel
theorem d_KeySums_feed_1 : decode b_KeySums_feed 1 = .ok (.getfield 29, 3) := by decide +kernel
theorem d_KeySums_feed_4 : decode b_KeySums_feed 4 = .ok (.bipush 20, 2) := by decide +kernel
theorem d_KeySums_feed_6 : decode b_KeySums_feed 6 = .ok (.iadd, 1) := by decide +kernel
theorem d_KeySums_feed_7 : decode b_KeySums_feed 7 = .ok (.sipush 2000, 3) := by decide +kernel
theorem d_KeySums_feed_10 : decode b_KeySums_feed 10 = .ok (.if_icmp .le 5, 3) := by decide +kernel
theorem d_KeySums_feed_13 : decode b_KeySums_feed 13 = .ok (.iconst 0, 1) := by decide +kernel
theorem d_KeySums_feed_14 : decode b_KeySums_feed 14 = .ok (.ireturn, 1) := by decide +kernel
theorem d_KeySums_feed_15 : decode b_KeySums_feed 15 = .ok (.iconst 0, 1) := by decide +kernel
theorem d_KeySums_feed_16 : decode b_KeySums_feed 16 = .ok (.istore 6, 2) := by decide +kernel
theorem d_KeySums_feed_18 : decode b_KeySums_feed 18 = .ok (.iload 6, 2) := by decide +kernel
theorem d_KeySums_feed_20 : decode b_KeySums_feed 20 = .ok (.bipush 20, 2) := by decide +kernel
theorem d_KeySums_feed_22 : decode b_KeySums_feed 22 = .ok (.if_icmp .ge 90, 3) := by decide +kernel
theorem d_KeySums_feed_25 : decode b_KeySums_feed 25 = .ok (.iload 6, 2) := by decide +kernel
theorem d_KeySums_feed_27 : decode b_KeySums_feed 27 = .ok (.iconst 4, 1) := by decide +kernel
theorem d_KeySums_feed_28 : decode b_KeySums_feed 28 = .ok (.if_icmp .ge 7, 3) := by decide +kernel
theorem d_KeySums_feed_31 : decode b_KeySums_feed 31 = .ok (.iload_n 1, 1) := by decide +kernel
theorem d_KeySums_feed_32 : decode b_KeySums_feed 32 = .ok (.goto 39, 3) := by decide +kernel
theorem d_KeySums_feed_35 : decode b_KeySums_feed 35 = .ok (.iload 6, 2) := by decide +kernel
theorem d_KeySums_feed_37 : decode b_KeySums_feed 37 = .ok (.bipush 8, 2) := by decide +kernel
theorem d_KeySums_feed_39 : decode b_KeySums_feed 39 = .ok (.if_icmp .ge 7, 3) := by decide +kernel
theorem d_KeySums_feed_42 : decode b_KeySums_feed 42 = .ok (.iload_n 2, 1) := by decide +kernel
theorem d_KeySums_feed_43 : decode b_KeySums_feed 43 = .ok (.goto 28, 3) := by decide +kernel
theorem d_KeySums_feed_46 : decode b_KeySums_feed 46 = .ok (.iload 6, 2) := by decide +kernel
theorem d_KeySums_feed_48 : decode b_KeySums_feed 48 = .ok (.bipush 12, 2) := by decide +kernel
theorem d_KeySums_feed_50 : decode b_KeySums_feed 50 = .ok (.if_icmp .ge 7, 3) := by decide +kernel
theorem d_KeySums_feed_53 : decode b_KeySums_feed 53 = .ok (.iload_n 3, 1) := by decide +kernel
theorem d_KeySums_feed_54 : decode b_KeySums_feed 54 = .ok (.goto 17, 3) := by decide +kernel
theorem d_KeySums_feed_57 : decode b_KeySums_feed 57 = .ok (.iload 6, 2) := by decide +kernel
theorem d_KeySums_feed_59 : decode b_KeySums_feed 59 = .ok (.bipush 16, 2) := by decide +kernel
theorem d_KeySums_feed_61 : decode b_KeySums_feed 61 = .ok (.if_icmp .ge 8, 3) := by decide +kernel
theorem d_KeySums_feed_64 : decode b_KeySums_feed 64 = .ok (.iload 4, 2) := by decide +kernel
theorem d_KeySums_feed_66 : decode b_KeySums_feed 66 = .ok (.goto 5, 3) := by decide +kernel
theorem d_KeySums_feed_69 : decode b_KeySums_feed 69 = .ok (.iload 5, 2) := by decide +kernel
theorem d_KeySums_feed_71 : decode b_KeySums_feed 71 = .ok (.istore 7, 2) := by decide +kernel
theorem d_KeySums_feed_73 : decode b_KeySums_feed 73 = .ok (.aload_n 0, 1) := by decide +kernel
theorem d_KeySums_feed_74 : decode b_KeySums_feed 74 = .ok (.getfield 23, 3) := by decide +kernel
theorem d_KeySums_feed_77 : decode b_KeySums_feed 77 = .ok (.aload_n 0, 1) := by decide +kernel
theorem d_KeySums_feed_78 : decode b_KeySums_feed 78 = .ok (.getfield 29, 3) := by decide +kernel
theorem d_KeySums_feed_81 : decode b_KeySums_feed 81 = .ok (.iload 7, 2) := by decide +kernel
theorem d_KeySums_feed_83 : decode b_KeySums_feed 83 = .ok (.bipush 24, 2) := by decide +kernel
theorem d_KeySums_feed_85 : decode b_KeySums_feed 85 = .ok (.bipush 8, 2) := by decide +kernel
theorem d_KeySums_feed_87 : decode b_KeySums_feed 87 = .ok (.iload 6, 2) := by decide +kernel
theorem d_KeySums_feed_89 : decode b_KeySums_feed 89 = .ok (.iconst 4, 1) := by decide +kernel
theorem d_KeySums_feed_90 : decode b_KeySums_feed 90 = .ok (.irem, 1) := by decide +kernel
theorem d_KeySums_feed_91 : decode b_KeySums_feed 91 = .ok (.imul, 1) := by decide +kernel
theorem d_KeySums_feed_92 : decode b_KeySums_feed 92 = .ok (.isub, 1) := by decide +kernel
theorem d_KeySums_feed_93 : decode b_KeySums_feed 93 = .ok (.ishr, 1) := by decide +kernel
theorem d_KeySums_feed_94 : decode b_KeySums_feed 94 = .ok (.i2b, 1) := by decide +kernel
theorem d_KeySums_feed_95 : decode b_KeySums_feed 95 = .ok (.bastore, 1) := by decide +kernel
theorem d_KeySums_feed_96 : decode b_KeySums_feed 96 = .ok (.aload_n 0, 1) := by decide +kernel
theorem d_KeySums_feed_97 : decode b_KeySums_feed 97 = .ok (.dup, 1) := by decide +kernel
theorem d_KeySums_feed_98 : decode b_KeySums_feed 98 = .ok (.getfield 29, 3) := by decide +kernel
theorem d_KeySums_feed_101 : decode b_KeySums_feed 101 = .ok (.iconst 1, 1) := by decide +kernel
theorem d_KeySums_feed_102 : decode b_KeySums_feed 102 = .ok (.iadd, 1) := by decide +kernel
theorem d_KeySums_feed_103 : decode b_KeySums_feed 103 = .ok (.putfield 29, 3) := by decide +kernel
theorem d_KeySums_feed_106 : decode b_KeySums_feed 106 = .ok (.iinc 6 1, 3) := by decide +kernel
theorem d_KeySums_feed_109 : decode b_KeySums_feed 109 = .ok (.goto (-91), 3) := by decide +kernel
theorem d_KeySums_feed_112 : decode b_KeySums_feed 112 = .ok (.iconst 1, 1) := by decide +kernel
theorem d_KeySums_feed_113 : decode b_KeySums_feed 113 = .ok (.ireturn, 1) := by decide +kernel
theorem d_KeySums_end_0 : decode b_KeySums_end 0 = .ok (.iload_n 1, 1) := by decide +kernel
theorem d_KeySums_end_1 : decode b_KeySums_end 1 = .ok (.ifCond .lt 11, 3) := by decide +kernel
theorem d_KeySums_end_4 : decode b_KeySums_end 4 = .ok (.iload_n 1, 1) := by decide +kernel
theorem d_KeySums_end_5 : decode b_KeySums_end 5 = .ok (.aload_n 0, 1) := by decide +kernel
theorem d_KeySums_end_6 : decode b_KeySums_end 6 = .ok (.getfield 29, 3) := by decide +kernel
theorem d_KeySums_end_9 : decode b_KeySums_end 9 = .ok (.if_icmp .le 5, 3) := by decide +kernel
theorem d_KeySums_end_12 : decode b_KeySums_end 12 = .ok (.iconst 0, 1) := by decide +kernel
theorem d_KeySums_end_13 : decode b_KeySums_end 13 = .ok (.ireturn, 1) := by decide +kernel
theorem d_KeySums_end_14 : decode b_KeySums_end 14 = .ok (.aload_n 0, 1) := by decide +kernel
theorem d_KeySums_end_15 : decode b_KeySums_end 15 = .ok (.iload_n 1, 1) := by decide +kernel
theorem d_KeySums_end_16 : decode b_KeySums_end 16 = .ok (.putfield 29, 3) := by decide +kernel
theorem d_KeySums_end_19 : decode b_KeySums_end 19 = .ok (.iconst 1, 1) := by decide +kernel
theorem d_KeySums_end_20 : decode b_KeySums_end 20 = .ok (.ireturn, 1) := by decide +kernel
theorem d_KeySums_add_0 : decode b_KeySums_add 0 = .ok (.iconst 0, 1) := by decide +kernel
theorem d_KeySums_add_1 : decode b_KeySums_add 1 = .ok (.istore_n 1, 1) := by decide +kernel
theorem d_KeySums_add_2 : decode b_KeySums_add 2 = .ok (.iload_n 1, 1) := by decide +kernel
theorem d_KeySums_add_3 : decode b_KeySums_add 3 = .ok (.aload_n 0, 1) := by decide +kernel
theorem d_KeySums_add_4 : decode b_KeySums_add 4 = .ok (.getfield 29, 3) := by decide +kernel
theorem d_KeySums_add_7 : decode b_KeySums_add 7 = .ok (.if_icmp .ge 22, 3) := by decide +kernel
theorem d_KeySums_add_10 : decode b_KeySums_add 10 = .ok (.aload_n 0, 1) := by decide +kernel
theorem d_KeySums_add_11 : decode b_KeySums_add 11 = .ok (.getfield 10, 3) := by decide +kernel
theorem d_KeySums_add_14 : decode b_KeySums_add 14 = .ok (.aload_n 0, 1) := by decide +kernel
theorem d_KeySums_add_15 : decode b_KeySums_add 15 = .ok (.getfield 23, 3) := by decide +kernel
theorem d_KeySums_add_18 : decode b_KeySums_add 18 = .ok (.iload_n 1, 1) := by decide +kernel
theorem d_KeySums_add_19 : decode b_KeySums_add 19 = .ok (.baload, 1) := by decide +kernel
theorem d_KeySums_add_20 : decode b_KeySums_add 20 = .ok (.invokevirtual 33, 3) := by decide +kernel
theorem d_KeySums_add_23 : decode b_KeySums_add 23 = .ok (.iinc 1 1, 3) := by decide +kernel
theorem d_KeySums_add_26 : decode b_KeySums_add 26 = .ok (.goto (-24), 3) := by decide +kernel
theorem d_KeySums_add_29 : decode b_KeySums_add 29 = .ok (.aload_n 0, 1) := by decide +kernel
theorem d_KeySums_add_30 : decode b_KeySums_add 30 = .ok (.dup, 1) := by decide +kernel
theorem d_KeySums_add_31 : decode b_KeySums_add 31 = .ok (.getfield 37, 3) := by decide +kernel
theorem d_KeySums_add_34 : decode b_KeySums_add 34 = .ok (.aload_n 0, 1) := by decide +kernel
theorem d_KeySums_add_35 : decode b_KeySums_add 35 = .ok (.getfield 29, 3) := by decide +kernel
theorem d_KeySums_add_38 : decode b_KeySums_add 38 = .ok (.iadd, 1) := by decide +kernel
theorem d_KeySums_add_39 : decode b_KeySums_add 39 = .ok (.putfield 37, 3) := by decide +kernel
theorem d_KeySums_add_42 : decode b_KeySums_add 42 = .ok (.aload_n 0, 1) := by decide +kernel
theorem d_KeySums_add_43 : decode b_KeySums_add 43 = .ok (.iconst 0, 1) := by decide +kernel
theorem d_KeySums_add_44 : decode b_KeySums_add 44 = .ok (.putfield 29, 3) := by decide +kernel
theorem d_KeySums_add_47 : decode b_KeySums_add 47 = .ok (.aload_n 0, 1) := by decide +kernel
theorem d_KeySums_add_48 : decode b_KeySums_add 48 = .ok (.getfield 37, 3) := by decide +kernel
theorem d_KeySums_add_51 : decode b_KeySums_add 51 = .ok (.ireturn, 1) := by decide +kernel
theorem d_KeySums_fill_0 : decode b_KeySums_fill 0 = .ok (.iload_n 1, 1) := by decide +kernel
theorem d_KeySums_fill_1 : decode b_KeySums_fill 1 = .ok (.ifCond .lt 10, 3) := by decide +kernel
theorem d_KeySums_fill_4 : decode b_KeySums_fill 4 = .ok (.iload_n 1, 1) := by decide +kernel
theorem d_KeySums_fill_5 : decode b_KeySums_fill 5 = .ok (.sipush 4000, 3) := by decide +kernel
theorem d_KeySums_fill_8 : decode b_KeySums_fill 8 = .ok (.if_icmp .le 5, 3) := by decide +kernel
theorem d_KeySums_fill_11 : decode b_KeySums_fill 11 = .ok (.iconst (-1), 1) := by decide +kernel
theorem d_KeySums_fill_12 : decode b_KeySums_fill 12 = .ok (.ireturn, 1) := by decide +kernel
theorem d_KeySums_fill_13 : decode b_KeySums_fill 13 = .ok (.iconst 0, 1) := by decide +kernel
theorem d_KeySums_fill_14 : decode b_KeySums_fill 14 = .ok (.istore_n 3, 1) := by decide +kernel
theorem d_KeySums_fill_15 : decode b_KeySums_fill 15 = .ok (.iload_n 3, 1) := by decide +kernel
theorem d_KeySums_fill_16 : decode b_KeySums_fill 16 = .ok (.iload_n 1, 1) := by decide +kernel
theorem d_KeySums_fill_17 : decode b_KeySums_fill 17 = .ok (.if_icmp .ge 21, 3) := by decide +kernel
theorem d_KeySums_fill_20 : decode b_KeySums_fill 20 = .ok (.aload_n 0, 1) := by decide +kernel
theorem d_KeySums_fill_21 : decode b_KeySums_fill 21 = .ok (.getfield 10, 3) := by decide +kernel
theorem d_KeySums_fill_24 : decode b_KeySums_fill 24 = .ok (.iload_n 2, 1) := by decide +kernel
theorem d_KeySums_fill_25 : decode b_KeySums_fill 25 = .ok (.iconst 3, 1) := by decide +kernel
theorem d_KeySums_fill_26 : decode b_KeySums_fill 26 = .ok (.iload_n 3, 1) := by decide +kernel
theorem d_KeySums_fill_27 : decode b_KeySums_fill 27 = .ok (.imul, 1) := by decide +kernel
theorem d_KeySums_fill_28 : decode b_KeySums_fill 28 = .ok (.iadd, 1) := by decide +kernel
theorem d_KeySums_fill_29 : decode b_KeySums_fill 29 = .ok (.invokevirtual 33, 3) := by decide +kernel
theorem d_KeySums_fill_32 : decode b_KeySums_fill 32 = .ok (.iinc 3 1, 3) := by decide +kernel
theorem d_KeySums_fill_35 : decode b_KeySums_fill 35 = .ok (.goto (-20), 3) := by decide +kernel
theorem d_KeySums_fill_38 : decode b_KeySums_fill 38 = .ok (.aload_n 0, 1) := by decide +kernel
theorem d_KeySums_fill_39 : decode b_KeySums_fill 39 = .ok (.dup, 1) := by decide +kernel
theorem d_KeySums_fill_40 : decode b_KeySums_fill 40 = .ok (.getfield 37, 3) := by decide +kernel
theorem d_KeySums_fill_43 : decode b_KeySums_fill 43 = .ok (.iload_n 1, 1) := by decide +kernel
theorem d_KeySums_fill_44 : decode b_KeySums_fill 44 = .ok (.iadd, 1) := by decide +kernel
theorem d_KeySums_fill_45 : decode b_KeySums_fill 45 = .ok (.putfield 37, 3) := by decide +kernel
theorem d_KeySums_fill_48 : decode b_KeySums_fill 48 = .ok (.aload_n 0, 1) := by decide +kernel
theorem d_KeySums_fill_49 : decode b_KeySums_fill 49 = .ok (.getfield 37, 3) := by decide +kernel
theorem d_KeySums_fill_52 : decode b_KeySums_fill 52 = .ok (.ireturn, 1) := by decide +kernel
theorem d_KeySums_key_0 : decode b_KeySums_key 0 = .ok (.aload_n 0, 1) := by decide +kernel
theorem d_KeySums_key_1 : decode b_KeySums_key 1 = .ok (.getfield 29, 3) := by decide +kernel
theorem d_KeySums_key_4 : decode b_KeySums_key 4 = .ok (.istore_n 1, 1) := by decide +kernel
theorem d_KeySums_key_5 : decode b_KeySums_key 5 = .ok (.aload_n 0, 1) := by decide +kernel
theorem d_KeySums_key_6 : decode b_KeySums_key 6 = .ok (.iconst 0, 1) := by decide +kernel
theorem d_KeySums_key_7 : decode b_KeySums_key 7 = .ok (.putfield 29, 3) := by decide +kernel
theorem d_KeySums_key_10 : decode b_KeySums_key 10 = .ok (.iload_n 1, 1) := by decide +kernel
theorem d_KeySums_key_11 : decode b_KeySums_key 11 = .ok (.bipush 16, 2) := by decide +kernel
theorem d_KeySums_key_13 : decode b_KeySums_key 13 = .ok (.if_icmp .le 5, 3) := by decide +kernel
theorem d_KeySums_key_16 : decode b_KeySums_key 16 = .ok (.iconst (-1), 1) := by decide +kernel
theorem d_KeySums_key_17 : decode b_KeySums_key 17 = .ok (.ireturn, 1) := by decide +kernel
theorem d_KeySums_key_18 : decode b_KeySums_key 18 = .ok (.iconst 0, 1) := by decide +kernel
theorem d_KeySums_key_19 : decode b_KeySums_key 19 = .ok (.istore_n 2, 1) := by decide +kernel
theorem d_KeySums_key_20 : decode b_KeySums_key 20 = .ok (.iload_n 2, 1) := by decide +kernel
theorem d_KeySums_key_21 : decode b_KeySums_key 21 = .ok (.bipush 16, 2) := by decide +kernel
theorem d_KeySums_key_23 : decode b_KeySums_key 23 = .ok (.if_icmp .ge 30, 3) := by decide +kernel
theorem d_KeySums_key_26 : decode b_KeySums_key 26 = .ok (.aload_n 0, 1) := by decide +kernel
theorem d_KeySums_key_27 : decode b_KeySums_key 27 = .ok (.getfield 16, 3) := by decide +kernel
theorem d_KeySums_key_30 : decode b_KeySums_key 30 = .ok (.iload_n 2, 1) := by decide +kernel
theorem d_KeySums_key_31 : decode b_KeySums_key 31 = .ok (.iload_n 2, 1) := by decide +kernel
theorem d_KeySums_key_32 : decode b_KeySums_key 32 = .ok (.iload_n 1, 1) := by decide +kernel
theorem d_KeySums_key_33 : decode b_KeySums_key 33 = .ok (.if_icmp .ge 12, 3) := by decide +kernel
theorem d_KeySums_key_36 : decode b_KeySums_key 36 = .ok (.aload_n 0, 1) := by decide +kernel
theorem d_KeySums_key_37 : decode b_KeySums_key 37 = .ok (.getfield 23, 3) := by decide +kernel
theorem d_KeySums_key_40 : decode b_KeySums_key 40 = .ok (.iload_n 2, 1) := by decide +kernel
theorem d_KeySums_key_41 : decode b_KeySums_key 41 = .ok (.baload, 1) := by decide +kernel
theorem d_KeySums_key_42 : decode b_KeySums_key 42 = .ok (.goto 4, 3) := by decide +kernel
theorem d_KeySums_key_45 : decode b_KeySums_key 45 = .ok (.iconst 0, 1) := by decide +kernel
theorem d_KeySums_key_46 : decode b_KeySums_key 46 = .ok (.bastore, 1) := by decide +kernel
theorem d_KeySums_key_47 : decode b_KeySums_key 47 = .ok (.iinc 2 1, 3) := by decide +kernel
theorem d_KeySums_key_50 : decode b_KeySums_key 50 = .ok (.goto (-30), 3) := by decide +kernel
theorem d_KeySums_key_53 : decode b_KeySums_key 53 = .ok (.iload_n 1, 1) := by decide +kernel
theorem d_KeySums_key_54 : decode b_KeySums_key 54 = .ok (.ireturn, 1) := by decide +kernel
theorem d_KeySums_sum_0 : decode b_KeySums_sum 0 = .ok (.aload_n 0, 1) := by decide +kernel
theorem d_KeySums_sum_1 : decode b_KeySums_sum 1 = .ok (.getfield 37, 3) := by decide +kernel
theorem d_KeySums_sum_4 : decode b_KeySums_sum 4 = .ok (.istore_n 2, 1) := by decide +kernel
theorem d_KeySums_sum_5 : decode b_KeySums_sum 5 = .ok (.iload_n 1, 1) := by decide +kernel
theorem d_KeySums_sum_6 : decode b_KeySums_sum 6 = .ok (.ifCond .eq 43, 3) := by decide +kernel
theorem d_KeySums_sum_9 : decode b_KeySums_sum 9 = .ok (.aload_n 0, 1) := by decide +kernel
theorem d_KeySums_sum_10 : decode b_KeySums_sum 10 = .ok (.getfield 16, 3) := by decide +kernel
theorem d_KeySums_sum_13 : decode b_KeySums_sum 13 = .ok (.astore_n 3, 1) := by decide +kernel
theorem d_KeySums_sum_14 : decode b_KeySums_sum 14 = .ok (.aload_n 3, 1) := by decide +kernel
theorem d_KeySums_sum_15 : decode b_KeySums_sum 15 = .ok (.arraylength, 1) := by decide +kernel
theorem d_KeySums_sum_16 : decode b_KeySums_sum 16 = .ok (.istore 4, 2) := by decide +kernel
theorem d_KeySums_sum_18 : decode b_KeySums_sum 18 = .ok (.iconst 0, 1) := by decide +kernel
theorem d_KeySums_sum_19 : decode b_KeySums_sum 19 = .ok (.istore 5, 2) := by decide +kernel
theorem d_KeySums_sum_21 : decode b_KeySums_sum 21 = .ok (.iload 5, 2) := by decide +kernel
theorem d_KeySums_sum_23 : decode b_KeySums_sum 23 = .ok (.iload 4, 2) := by decide +kernel
theorem d_KeySums_sum_25 : decode b_KeySums_sum 25 = .ok (.if_icmp .ge 24, 3) := by decide +kernel
theorem d_KeySums_sum_28 : decode b_KeySums_sum 28 = .ok (.aload_n 3, 1) := by decide +kernel
theorem d_KeySums_sum_29 : decode b_KeySums_sum 29 = .ok (.iload 5, 2) := by decide +kernel
theorem d_KeySums_sum_31 : decode b_KeySums_sum 31 = .ok (.baload, 1) := by decide +kernel
theorem d_KeySums_sum_32 : decode b_KeySums_sum 32 = .ok (.istore 6, 2) := by decide +kernel
theorem d_KeySums_sum_34 : decode b_KeySums_sum 34 = .ok (.aload_n 0, 1) := by decide +kernel
theorem d_KeySums_sum_35 : decode b_KeySums_sum 35 = .ok (.getfield 10, 3) := by decide +kernel
theorem d_KeySums_sum_38 : decode b_KeySums_sum 38 = .ok (.iload 6, 2) := by decide +kernel
theorem d_KeySums_sum_40 : decode b_KeySums_sum 40 = .ok (.invokevirtual 33, 3) := by decide +kernel
theorem d_KeySums_sum_43 : decode b_KeySums_sum 43 = .ok (.iinc 5 1, 3) := by decide +kernel
theorem d_KeySums_sum_46 : decode b_KeySums_sum 46 = .ok (.goto (-25), 3) := by decide +kernel
theorem d_KeySums_sum_49 : decode b_KeySums_sum 49 = .ok (.aload_n 0, 1) := by decide +kernel
theorem d_KeySums_sum_50 : decode b_KeySums_sum 50 = .ok (.getfield 10, 3) := by decide +kernel
theorem d_KeySums_sum_53 : decode b_KeySums_sum 53 = .ok (.aload_n 0, 1) := by decide +kernel
theorem d_KeySums_sum_54 : decode b_KeySums_sum 54 = .ok (.getfield 20, 3) := by decide +kernel
theorem d_KeySums_sum_57 : decode b_KeySums_sum 57 = .ok (.iconst 0, 1) := by decide +kernel
theorem d_KeySums_sum_58 : decode b_KeySums_sum 58 = .ok (.invokevirtual 40, 3) := by decide +kernel
theorem d_KeySums_sum_61 : decode b_KeySums_sum 61 = .ok (.aload_n 0, 1) := by decide +kernel
theorem d_KeySums_sum_62 : decode b_KeySums_sum 62 = .ok (.iconst 1, 1) := by decide +kernel
theorem d_KeySums_sum_63 : decode b_KeySums_sum 63 = .ok (.putfield 44, 3) := by decide +kernel
theorem d_KeySums_sum_66 : decode b_KeySums_sum 66 = .ok (.aload_n 0, 1) := by decide +kernel
theorem d_KeySums_sum_67 : decode b_KeySums_sum 67 = .ok (.getfield 10, 3) := by decide +kernel
theorem d_KeySums_sum_70 : decode b_KeySums_sum 70 = .ok (.invokevirtual 26, 3) := by decide +kernel
theorem d_KeySums_sum_73 : decode b_KeySums_sum 73 = .ok (.aload_n 0, 1) := by decide +kernel
theorem d_KeySums_sum_74 : decode b_KeySums_sum 74 = .ok (.iconst 0, 1) := by decide +kernel
theorem d_KeySums_sum_75 : decode b_KeySums_sum 75 = .ok (.putfield 37, 3) := by decide +kernel
theorem d_KeySums_sum_78 : decode b_KeySums_sum 78 = .ok (.iload_n 2, 1) := by decide +kernel
theorem d_KeySums_sum_79 : decode b_KeySums_sum 79 = .ok (.ireturn, 1) := by decide +kernel
theorem d_KeySums_sumAt_0 : decode b_KeySums_sumAt 0 = .ok (.aload_n 0, 1) := by decide +kernel
theorem d_KeySums_sumAt_1 : decode b_KeySums_sumAt 1 = .ok (.getfield 44, 3) := by decide +kernel
theorem d_KeySums_sumAt_4 : decode b_KeySums_sumAt 4 = .ok (.ifCond .eq 26, 3) := by decide +kernel
theorem d_KeySums_sumAt_7 : decode b_KeySums_sumAt 7 = .ok (.iload_n 1, 1) := by decide +kernel
theorem d_KeySums_sumAt_8 : decode b_KeySums_sumAt 8 = .ok (.ifCond .lt 22, 3) := by decide +kernel
theorem d_KeySums_sumAt_11 : decode b_KeySums_sumAt 11 = .ok (.iload_n 1, 1) := by decide +kernel
theorem d_KeySums_sumAt_12 : decode b_KeySums_sumAt 12 = .ok (.bipush 16, 2) := by decide +kernel
theorem d_KeySums_sumAt_14 : decode b_KeySums_sumAt 14 = .ok (.if_icmp .ge 16, 3) := by decide +kernel
theorem d_KeySums_sumAt_17 : decode b_KeySums_sumAt 17 = .ok (.aload_n 0, 1) := by decide +kernel
theorem d_KeySums_sumAt_18 : decode b_KeySums_sumAt 18 = .ok (.getfield 20, 3) := by decide +kernel
theorem d_KeySums_sumAt_21 : decode b_KeySums_sumAt 21 = .ok (.iload_n 1, 1) := by decide +kernel
theorem d_KeySums_sumAt_22 : decode b_KeySums_sumAt 22 = .ok (.baload, 1) := by decide +kernel
theorem d_KeySums_sumAt_23 : decode b_KeySums_sumAt 23 = .ok (.sipush 255, 3) := by decide +kernel
theorem d_KeySums_sumAt_26 : decode b_KeySums_sumAt 26 = .ok (.iand, 1) := by decide +kernel
theorem d_KeySums_sumAt_27 : decode b_KeySums_sumAt 27 = .ok (.goto 4, 3) := by decide +kernel
theorem d_KeySums_sumAt_30 : decode b_KeySums_sumAt 30 = .ok (.iconst (-1), 1) := by decide +kernel
theorem d_KeySums_sumAt_31 : decode b_KeySums_sumAt 31 = .ok (.ireturn, 1) := by decide +kernel
end
section
theorem d_Model_anew_0 : decode b_Model_anew 0 = .ok (.aload_n 0, 1) := by decide +kernel
theorem d_Model_anew_1 : decode b_Model_anew 1 = .ok (.iconst 0, 1) := by decide +kernel
theorem d_Model_anew_2 : decode b_Model_anew 2 = .ok (.putfield 114, 3) := by decide +kernel
theorem d_Model_anew_5 : decode b_Model_anew 5 = .ok (.iconst 0, 1) := by decide +kernel
theorem d_Model_anew_6 : decode b_Model_anew 6 = .ok (.istore_n 1, 1) := by decide +kernel
theorem d_Model_anew_7 : decode b_Model_anew 7 = .ok (.iload_n 1, 1) := by decide +kernel
theorem d_Model_anew_8 : decode b_Model_anew 8 = .ok (.iconst 4, 1) := by decide +kernel
theorem d_Model_anew_9 : decode b_Model_anew 9 = .ok (.if_icmp .ge 21, 3) := by decide +kernel
theorem d_Model_anew_12 : decode b_Model_anew 12 = .ok (.aload_n 0, 1) := by decide +kernel
theorem d_Model_anew_13 : decode b_Model_anew 13 = .ok (.getfield 102, 3) := by decide +kernel
theorem d_Model_anew_16 : decode b_Model_anew 16 = .ok (.iload_n 1, 1) := by decide +kernel
theorem d_Model_anew_17 : decode b_Model_anew 17 = .ok (.aload_n 0, 1) := by decide +kernel
theorem d_Model_anew_18 : decode b_Model_anew 18 = .ok (.getfield 84, 3) := by decide +kernel
theorem d_Model_anew_21 : decode b_Model_anew 21 = .ok (.iload_n 1, 1) := by decide +kernel
theorem d_Model_anew_22 : decode b_Model_anew 22 = .ok (.iaload, 1) := by decide +kernel
theorem d_Model_anew_23 : decode b_Model_anew 23 = .ok (.iastore, 1) := by decide +kernel
theorem d_Model_anew_24 : decode b_Model_anew 24 = .ok (.iinc 1 1, 3) := by decide +kernel
theorem d_Model_anew_27 : decode b_Model_anew 27 = .ok (.goto (-20), 3) := by decide +kernel
theorem d_Model_anew_30 : decode b_Model_anew 30 = .ok (.return_, 1) := by decide +kernel
theorem d_Model_lay_0 : decode b_Model_lay 0 = .ok (.bipush 24, 2) := by decide +kernel
theorem d_Model_lay_2 : decode b_Model_lay 2 = .ok (.istore_n 2, 1) := by decide +kernel
theorem d_Model_lay_3 : decode b_Model_lay 3 = .ok (.iload_n 2, 1) := by decide +kernel
theorem d_Model_lay_4 : decode b_Model_lay 4 = .ok (.ifCond .lt 35, 3) := by decide +kernel
theorem d_Model_lay_7 : decode b_Model_lay 7 = .ok (.aload_n 0, 1) := by decide +kernel
theorem d_Model_lay_8 : decode b_Model_lay 8 = .ok (.getfield 93, 3) := by decide +kernel
theorem d_Model_lay_11 : decode b_Model_lay 11 = .ok (.aload_n 0, 1) := by decide +kernel
theorem d_Model_lay_12 : decode b_Model_lay 12 = .ok (.getfield 118, 3) := by decide +kernel
theorem d_Model_lay_15 : decode b_Model_lay 15 = .ok (.iload_n 1, 1) := by decide +kernel
theorem d_Model_lay_16 : decode b_Model_lay 16 = .ok (.iload_n 2, 1) := by decide +kernel
theorem d_Model_lay_17 : decode b_Model_lay 17 = .ok (.ishr, 1) := by decide +kernel
theorem d_Model_lay_18 : decode b_Model_lay 18 = .ok (.sipush 255, 3) := by decide +kernel
theorem d_Model_lay_21 : decode b_Model_lay 21 = .ok (.iand, 1) := by decide +kernel
theorem d_Model_lay_22 : decode b_Model_lay 22 = .ok (.iastore, 1) := by decide +kernel
theorem d_Model_lay_23 : decode b_Model_lay 23 = .ok (.aload_n 0, 1) := by decide +kernel
theorem d_Model_lay_24 : decode b_Model_lay 24 = .ok (.dup, 1) := by decide +kernel
theorem d_Model_lay_25 : decode b_Model_lay 25 = .ok (.getfield 118, 3) := by decide +kernel
theorem d_Model_lay_28 : decode b_Model_lay 28 = .ok (.iconst 1, 1) := by decide +kernel
theorem d_Model_lay_29 : decode b_Model_lay 29 = .ok (.iadd, 1) := by decide +kernel
theorem d_Model_lay_30 : decode b_Model_lay 30 = .ok (.putfield 118, 3) := by decide +kernel
theorem d_Model_lay_33 : decode b_Model_lay 33 = .ok (.iinc 2 (-8), 3) := by decide +kernel
theorem d_Model_lay_36 : decode b_Model_lay 36 = .ok (.goto (-33), 3) := by decide +kernel
theorem d_Model_lay_39 : decode b_Model_lay 39 = .ok (.return_, 1) := by decide +kernel
theorem d_Model_feed_0 : decode b_Model_feed 0 = .ok (.aload_n 0, 1) := by decide +kernel
theorem d_Model_feed_1 : decode b_Model_feed 1 = .ok (.getfield 118, 3) := by decide +kernel
theorem d_Model_feed_4 : decode b_Model_feed 4 = .ok (.bipush 20, 2) := by decide +kernel
theorem d_Model_feed_6 : decode b_Model_feed 6 = .ok (.iadd, 1) := by decide +kernel
theorem d_Model_feed_7 : decode b_Model_feed 7 = .ok (.sipush 2000, 3) := by decide +kernel
theorem d_Model_feed_10 : decode b_Model_feed 10 = .ok (.if_icmp .le 5, 3) := by decide +kernel
theorem d_Model_feed_13 : decode b_Model_feed 13 = .ok (.iconst 0, 1) := by decide +kernel
theorem d_Model_feed_14 : decode b_Model_feed 14 = .ok (.ireturn, 1) := by decide +kernel
theorem d_Model_feed_15 : decode b_Model_feed 15 = .ok (.aload_n 0, 1) := by decide +kernel
theorem d_Model_feed_16 : decode b_Model_feed 16 = .ok (.iload_n 1, 1) := by decide +kernel
theorem d_Model_feed_17 : decode b_Model_feed 17 = .ok (.invokevirtual 121, 3) := by decide +kernel
theorem d_Model_feed_20 : decode b_Model_feed 20 = .ok (.aload_n 0, 1) := by decide +kernel
theorem d_Model_feed_21 : decode b_Model_feed 21 = .ok (.iload_n 2, 1) := by decide +kernel
theorem d_Model_feed_22 : decode b_Model_feed 22 = .ok (.invokevirtual 121, 3) := by decide +kernel
theorem d_Model_feed_25 : decode b_Model_feed 25 = .ok (.aload_n 0, 1) := by decide +kernel
theorem d_Model_feed_26 : decode b_Model_feed 26 = .ok (.iload_n 3, 1) := by decide +kernel
theorem d_Model_feed_27 : decode b_Model_feed 27 = .ok (.invokevirtual 121, 3) := by decide +kernel
theorem d_Model_feed_30 : decode b_Model_feed 30 = .ok (.aload_n 0, 1) := by decide +kernel
theorem d_Model_feed_31 : decode b_Model_feed 31 = .ok (.iload 4, 2) := by decide +kernel
theorem d_Model_feed_33 : decode b_Model_feed 33 = .ok (.invokevirtual 121, 3) := by decide +kernel
theorem d_Model_feed_36 : decode b_Model_feed 36 = .ok (.aload_n 0, 1) := by decide +kernel
theorem d_Model_feed_37 : decode b_Model_feed 37 = .ok (.iload 5, 2) := by decide +kernel
theorem d_Model_feed_39 : decode b_Model_feed 39 = .ok (.invokevirtual 121, 3) := by decide +kernel
theorem d_Model_feed_42 : decode b_Model_feed 42 = .ok (.iconst 1, 1) := by decide +kernel
theorem d_Model_feed_43 : decode b_Model_feed 43 = .ok (.ireturn, 1) := by decide +kernel
theorem d_Model_end_0 : decode b_Model_end 0 = .ok (.iload_n 1, 1) := by decide +kernel
theorem d_Model_end_1 : decode b_Model_end 1 = .ok (.ifCond .lt 11, 3) := by decide +kernel
theorem d_Model_end_4 : decode b_Model_end 4 = .ok (.iload_n 1, 1) := by decide +kernel
theorem d_Model_end_5 : decode b_Model_end 5 = .ok (.aload_n 0, 1) := by decide +kernel
theorem d_Model_end_6 : decode b_Model_end 6 = .ok (.getfield 118, 3) := by decide +kernel
theorem d_Model_end_9 : decode b_Model_end 9 = .ok (.if_icmp .le 5, 3) := by decide +kernel
theorem d_Model_end_12 : decode b_Model_end 12 = .ok (.iconst 0, 1) := by decide +kernel
theorem d_Model_end_13 : decode b_Model_end 13 = .ok (.ireturn, 1) := by decide +kernel
theorem d_Model_end_14 : decode b_Model_end 14 = .ok (.aload_n 0, 1) := by decide +kernel
theorem d_Model_end_15 : decode b_Model_end 15 = .ok (.iload_n 1, 1) := by decide +kernel
theorem d_Model_end_16 : decode b_Model_end 16 = .ok (.putfield 118, 3) := by decide +kernel
theorem d_Model_end_19 : decode b_Model_end 19 = .ok (.iconst 1, 1) := by decide +kernel
theorem d_Model_end_20 : decode b_Model_end 20 = .ok (.ireturn, 1) := by decide +kernel
theorem d_Model_word_0 : decode b_Model_word 0 = .ok (.aload_n 0, 1) := by decide +kernel
theorem d_Model_word_1 : decode b_Model_word 1 = .ok (.getfield 99, 3) := by decide +kernel
theorem d_Model_word_4 : decode b_Model_word 4 = .ok (.iconst 4, 1) := by decide +kernel
theorem d_Model_word_5 : decode b_Model_word 5 = .ok (.iload_n 1, 1) := by decide +kernel
theorem d_Model_word_6 : decode b_Model_word 6 = .ok (.imul, 1) := by decide +kernel
theorem d_Model_word_7 : decode b_Model_word 7 = .ok (.iaload, 1) := by decide +kernel
theorem d_Model_word_8 : decode b_Model_word 8 = .ok (.aload_n 0, 1) := by decide +kernel
theorem d_Model_word_9 : decode b_Model_word 9 = .ok (.getfield 99, 3) := by decide +kernel
theorem d_Model_word_12 : decode b_Model_word 12 = .ok (.iconst 4, 1) := by decide +kernel
theorem d_Model_word_13 : decode b_Model_word 13 = .ok (.iload_n 1, 1) := by decide +kernel
theorem d_Model_word_14 : decode b_Model_word 14 = .ok (.imul, 1) := by decide +kernel
theorem d_Model_word_15 : decode b_Model_word 15 = .ok (.iconst 1, 1) := by decide +kernel
theorem d_Model_word_16 : decode b_Model_word 16 = .ok (.iadd, 1) := by decide +kernel
theorem d_Model_word_17 : decode b_Model_word 17 = .ok (.iaload, 1) := by decide +kernel
theorem d_Model_word_18 : decode b_Model_word 18 = .ok (.bipush 8, 2) := by decide +kernel
theorem d_Model_word_20 : decode b_Model_word 20 = .ok (.ishl, 1) := by decide +kernel
theorem d_Model_word_21 : decode b_Model_word 21 = .ok (.ior, 1) := by decide +kernel
theorem d_Model_word_22 : decode b_Model_word 22 = .ok (.aload_n 0, 1) := by decide +kernel
theorem d_Model_word_23 : decode b_Model_word 23 = .ok (.getfield 99, 3) := by decide +kernel
theorem d_Model_word_26 : decode b_Model_word 26 = .ok (.iconst 4, 1) := by decide +kernel
theorem d_Model_word_27 : decode b_Model_word 27 = .ok (.iload_n 1, 1) := by decide +kernel
theorem d_Model_word_28 : decode b_Model_word 28 = .ok (.imul, 1) := by decide +kernel
theorem d_Model_word_29 : decode b_Model_word 29 = .ok (.iconst 2, 1) := by decide +kernel
theorem d_Model_word_30 : decode b_Model_word 30 = .ok (.iadd, 1) := by decide +kernel
theorem d_Model_word_31 : decode b_Model_word 31 = .ok (.iaload, 1) := by decide +kernel
theorem d_Model_word_32 : decode b_Model_word 32 = .ok (.bipush 16, 2) := by decide +kernel
theorem d_Model_word_34 : decode b_Model_word 34 = .ok (.ishl, 1) := by decide +kernel
theorem d_Model_word_35 : decode b_Model_word 35 = .ok (.ior, 1) := by decide +kernel
theorem d_Model_word_36 : decode b_Model_word 36 = .ok (.aload_n 0, 1) := by decide +kernel
theorem d_Model_word_37 : decode b_Model_word 37 = .ok (.getfield 99, 3) := by decide +kernel
theorem d_Model_word_40 : decode b_Model_word 40 = .ok (.iconst 4, 1) := by decide +kernel
theorem d_Model_word_41 : decode b_Model_word 41 = .ok (.iload_n 1, 1) := by decide +kernel
theorem d_Model_word_42 : decode b_Model_word 42 = .ok (.imul, 1) := by decide +kernel
theorem d_Model_word_43 : decode b_Model_word 43 = .ok (.iconst 3, 1) := by decide +kernel
theorem d_Model_word_44 : decode b_Model_word 44 = .ok (.iadd, 1) := by decide +kernel
theorem d_Model_word_45 : decode b_Model_word 45 = .ok (.iaload, 1) := by decide +kernel
theorem d_Model_word_46 : decode b_Model_word 46 = .ok (.bipush 24, 2) := by decide +kernel
theorem d_Model_word_48 : decode b_Model_word 48 = .ok (.ishl, 1) := by decide +kernel
theorem d_Model_word_49 : decode b_Model_word 49 = .ok (.ior, 1) := by decide +kernel
theorem d_Model_word_50 : decode b_Model_word 50 = .ok (.ireturn, 1) := by decide +kernel
theorem d_Model_mixed_0 : decode b_Model_mixed 0 = .ok (.aload_n 0, 1) := by decide +kernel
theorem d_Model_mixed_1 : decode b_Model_mixed 1 = .ok (.getfield 105, 3) := by decide +kernel
theorem d_Model_mixed_4 : decode b_Model_mixed 4 = .ok (.iconst 1, 1) := by decide +kernel
theorem d_Model_mixed_5 : decode b_Model_mixed 5 = .ok (.iaload, 1) := by decide +kernel
theorem d_Model_mixed_6 : decode b_Model_mixed 6 = .ok (.istore_n 2, 1) := by decide +kernel
theorem d_Model_mixed_7 : decode b_Model_mixed 7 = .ok (.aload_n 0, 1) := by decide +kernel
theorem d_Model_mixed_8 : decode b_Model_mixed 8 = .ok (.getfield 105, 3) := by decide +kernel
theorem d_Model_mixed_11 : decode b_Model_mixed 11 = .ok (.iconst 2, 1) := by decide +kernel
theorem d_Model_mixed_12 : decode b_Model_mixed 12 = .ok (.iaload, 1) := by decide +kernel
theorem d_Model_mixed_13 : decode b_Model_mixed 13 = .ok (.istore_n 3, 1) := by decide +kernel
theorem d_Model_mixed_14 : decode b_Model_mixed 14 = .ok (.aload_n 0, 1) := by decide +kernel
theorem d_Model_mixed_15 : decode b_Model_mixed 15 = .ok (.getfield 105, 3) := by decide +kernel
theorem d_Model_mixed_18 : decode b_Model_mixed 18 = .ok (.iconst 3, 1) := by decide +kernel
theorem d_Model_mixed_19 : decode b_Model_mixed 19 = .ok (.iaload, 1) := by decide +kernel
theorem d_Model_mixed_20 : decode b_Model_mixed 20 = .ok (.istore 4, 2) := by decide +kernel
theorem d_Model_mixed_22 : decode b_Model_mixed 22 = .ok (.iload_n 1, 1) := by decide +kernel
theorem d_Model_mixed_23 : decode b_Model_mixed 23 = .ok (.tableswitch 55 0 2 #[25, 36, 48], 25) := by decide +kernel
theorem d_Model_mixed_48 : decode b_Model_mixed 48 = .ok (.iload_n 2, 1) := by decide +kernel
theorem d_Model_mixed_49 : decode b_Model_mixed 49 = .ok (.iload_n 3, 1) := by decide +kernel
theorem d_Model_mixed_50 : decode b_Model_mixed 50 = .ok (.iand, 1) := by decide +kernel
theorem d_Model_mixed_51 : decode b_Model_mixed 51 = .ok (.iload_n 2, 1) := by decide +kernel
theorem d_Model_mixed_52 : decode b_Model_mixed 52 = .ok (.iconst (-1), 1) := by decide +kernel
theorem d_Model_mixed_53 : decode b_Model_mixed 53 = .ok (.ixor, 1) := by decide +kernel
theorem d_Model_mixed_54 : decode b_Model_mixed 54 = .ok (.iload 4, 2) := by decide +kernel
theorem d_Model_mixed_56 : decode b_Model_mixed 56 = .ok (.iand, 1) := by decide +kernel
theorem d_Model_mixed_57 : decode b_Model_mixed 57 = .ok (.ior, 1) := by decide +kernel
theorem d_Model_mixed_58 : decode b_Model_mixed 58 = .ok (.ireturn, 1) := by decide +kernel
theorem d_Model_mixed_59 : decode b_Model_mixed 59 = .ok (.iload 4, 2) := by decide +kernel
theorem d_Model_mixed_61 : decode b_Model_mixed 61 = .ok (.iload_n 2, 1) := by decide +kernel
theorem d_Model_mixed_62 : decode b_Model_mixed 62 = .ok (.iand, 1) := by decide +kernel
theorem d_Model_mixed_63 : decode b_Model_mixed 63 = .ok (.iload 4, 2) := by decide +kernel
theorem d_Model_mixed_65 : decode b_Model_mixed 65 = .ok (.iconst (-1), 1) := by decide +kernel
theorem d_Model_mixed_66 : decode b_Model_mixed 66 = .ok (.ixor, 1) := by decide +kernel
theorem d_Model_mixed_67 : decode b_Model_mixed 67 = .ok (.iload_n 3, 1) := by decide +kernel
theorem d_Model_mixed_68 : decode b_Model_mixed 68 = .ok (.iand, 1) := by decide +kernel
theorem d_Model_mixed_69 : decode b_Model_mixed 69 = .ok (.ior, 1) := by decide +kernel
theorem d_Model_mixed_70 : decode b_Model_mixed 70 = .ok (.ireturn, 1) := by decide +kernel
theorem d_Model_mixed_71 : decode b_Model_mixed 71 = .ok (.iload_n 2, 1) := by decide +kernel
theorem d_Model_mixed_72 : decode b_Model_mixed 72 = .ok (.iload_n 3, 1) := by decide +kernel
theorem d_Model_mixed_73 : decode b_Model_mixed 73 = .ok (.ixor, 1) := by decide +kernel
theorem d_Model_mixed_74 : decode b_Model_mixed 74 = .ok (.iload 4, 2) := by decide +kernel
theorem d_Model_mixed_76 : decode b_Model_mixed 76 = .ok (.ixor, 1) := by decide +kernel
theorem d_Model_mixed_77 : decode b_Model_mixed 77 = .ok (.ireturn, 1) := by decide +kernel
theorem d_Model_mixed_78 : decode b_Model_mixed 78 = .ok (.iload_n 3, 1) := by decide +kernel
theorem d_Model_mixed_79 : decode b_Model_mixed 79 = .ok (.iload_n 2, 1) := by decide +kernel
theorem d_Model_mixed_80 : decode b_Model_mixed 80 = .ok (.iload 4, 2) := by decide +kernel
theorem d_Model_mixed_82 : decode b_Model_mixed 82 = .ok (.iconst (-1), 1) := by decide +kernel
theorem d_Model_mixed_83 : decode b_Model_mixed 83 = .ok (.ixor, 1) := by decide +kernel
theorem d_Model_mixed_84 : decode b_Model_mixed 84 = .ok (.ior, 1) := by decide +kernel
theorem d_Model_mixed_85 : decode b_Model_mixed 85 = .ok (.ixor, 1) := by decide +kernel
theorem d_Model_mixed_86 : decode b_Model_mixed 86 = .ok (.ireturn, 1) := by decide +kernel
theorem d_Model_step_0 : decode b_Model_step 0 = .ok (.iload_n 1, 1) := by decide +kernel
theorem d_Model_step_1 : decode b_Model_step 1 = .ok (.bipush 16, 2) := by decide +kernel
theorem d_Model_step_3 : decode b_Model_step 3 = .ok (.idiv, 1) := by decide +kernel
theorem d_Model_step_4 : decode b_Model_step 4 = .ok (.istore_n 2, 1) := by decide +kernel
theorem d_Model_step_5 : decode b_Model_step 5 = .ok (.aload_n 0, 1) := by decide +kernel
theorem d_Model_step_6 : decode b_Model_step 6 = .ok (.getfield 77, 3) := by decide +kernel
theorem d_Model_step_9 : decode b_Model_step 9 = .ok (.iconst 4, 1) := by decide +kernel
theorem d_Model_step_10 : decode b_Model_step 10 = .ok (.iload_n 2, 1) := by decide +kernel
theorem d_Model_step_11 : decode b_Model_step 11 = .ok (.imul, 1) := by decide +kernel
theorem d_Model_step_12 : decode b_Model_step 12 = .ok (.iload_n 1, 1) := by decide +kernel
theorem d_Model_step_13 : decode b_Model_step 13 = .ok (.iconst 4, 1) := by decide +kernel
theorem d_Model_step_14 : decode b_Model_step 14 = .ok (.irem, 1) := by decide +kernel
theorem d_Model_step_15 : decode b_Model_step 15 = .ok (.iadd, 1) := by decide +kernel
theorem d_Model_step_16 : decode b_Model_step 16 = .ok (.iaload, 1) := by decide +kernel
theorem d_Model_step_17 : decode b_Model_step 17 = .ok (.istore_n 3, 1) := by decide +kernel
theorem d_Model_step_18 : decode b_Model_step 18 = .ok (.aload_n 0, 1) := by decide +kernel
theorem d_Model_step_19 : decode b_Model_step 19 = .ok (.getfield 105, 3) := by decide +kernel
theorem d_Model_step_22 : decode b_Model_step 22 = .ok (.iconst 0, 1) := by decide +kernel
theorem d_Model_step_23 : decode b_Model_step 23 = .ok (.iaload, 1) := by decide +kernel
theorem d_Model_step_24 : decode b_Model_step 24 = .ok (.aload_n 0, 1) := by decide +kernel
theorem d_Model_step_25 : decode b_Model_step 25 = .ok (.iload_n 2, 1) := by decide +kernel
theorem d_Model_step_26 : decode b_Model_step 26 = .ok (.invokevirtual 125, 3) := by decide +kernel
theorem d_Model_step_29 : decode b_Model_step 29 = .ok (.iadd, 1) := by decide +kernel
theorem d_Model_step_30 : decode b_Model_step 30 = .ok (.aload_n 0, 1) := by decide +kernel
theorem d_Model_step_31 : decode b_Model_step 31 = .ok (.getfield 71, 3) := by decide +kernel
theorem d_Model_step_34 : decode b_Model_step 34 = .ok (.iload_n 1, 1) := by decide +kernel
theorem d_Model_step_35 : decode b_Model_step 35 = .ok (.iaload, 1) := by decide +kernel
theorem d_Model_step_36 : decode b_Model_step 36 = .ok (.iadd, 1) := by decide +kernel
theorem d_Model_step_37 : decode b_Model_step 37 = .ok (.aload_n 0, 1) := by decide +kernel
theorem d_Model_step_38 : decode b_Model_step 38 = .ok (.aload_n 0, 1) := by decide +kernel
theorem d_Model_step_39 : decode b_Model_step 39 = .ok (.getfield 87, 3) := by decide +kernel
theorem d_Model_step_42 : decode b_Model_step 42 = .ok (.iload_n 2, 1) := by decide +kernel
theorem d_Model_step_43 : decode b_Model_step 43 = .ok (.iaload, 1) := by decide +kernel
theorem d_Model_step_44 : decode b_Model_step 44 = .ok (.iload_n 1, 1) := by decide +kernel
theorem d_Model_step_45 : decode b_Model_step 45 = .ok (.imul, 1) := by decide +kernel
theorem d_Model_step_46 : decode b_Model_step 46 = .ok (.aload_n 0, 1) := by decide +kernel
theorem d_Model_step_47 : decode b_Model_step 47 = .ok (.getfield 90, 3) := by decide +kernel
theorem d_Model_step_50 : decode b_Model_step 50 = .ok (.iload_n 2, 1) := by decide +kernel
theorem d_Model_step_51 : decode b_Model_step 51 = .ok (.iaload, 1) := by decide +kernel
theorem d_Model_step_52 : decode b_Model_step 52 = .ok (.iadd, 1) := by decide +kernel
theorem d_Model_step_53 : decode b_Model_step 53 = .ok (.bipush 16, 2) := by decide +kernel
theorem d_Model_step_55 : decode b_Model_step 55 = .ok (.irem, 1) := by decide +kernel
theorem d_Model_step_56 : decode b_Model_step 56 = .ok (.invokevirtual 129, 3) := by decide +kernel
theorem d_Model_step_59 : decode b_Model_step 59 = .ok (.iadd, 1) := by decide +kernel
theorem d_Model_step_60 : decode b_Model_step 60 = .ok (.istore 4, 2) := by decide +kernel
theorem d_Model_step_62 : decode b_Model_step 62 = .ok (.aload_n 0, 1) := by decide +kernel
theorem d_Model_step_63 : decode b_Model_step 63 = .ok (.getfield 105, 3) := by decide +kernel
theorem d_Model_step_66 : decode b_Model_step 66 = .ok (.iconst 0, 1) := by decide +kernel
theorem d_Model_step_67 : decode b_Model_step 67 = .ok (.aload_n 0, 1) := by decide +kernel
theorem d_Model_step_68 : decode b_Model_step 68 = .ok (.getfield 105, 3) := by decide +kernel
theorem d_Model_step_71 : decode b_Model_step 71 = .ok (.iconst 3, 1) := by decide +kernel
theorem d_Model_step_72 : decode b_Model_step 72 = .ok (.iaload, 1) := by decide +kernel
theorem d_Model_step_73 : decode b_Model_step 73 = .ok (.iastore, 1) := by decide +kernel
theorem d_Model_step_74 : decode b_Model_step 74 = .ok (.aload_n 0, 1) := by decide +kernel
theorem d_Model_step_75 : decode b_Model_step 75 = .ok (.getfield 105, 3) := by decide +kernel
theorem d_Model_step_78 : decode b_Model_step 78 = .ok (.iconst 3, 1) := by decide +kernel
theorem d_Model_step_79 : decode b_Model_step 79 = .ok (.aload_n 0, 1) := by decide +kernel
theorem d_Model_step_80 : decode b_Model_step 80 = .ok (.getfield 105, 3) := by decide +kernel
theorem d_Model_step_83 : decode b_Model_step 83 = .ok (.iconst 2, 1) := by decide +kernel
theorem d_Model_step_84 : decode b_Model_step 84 = .ok (.iaload, 1) := by decide +kernel
theorem d_Model_step_85 : decode b_Model_step 85 = .ok (.iastore, 1) := by decide +kernel
theorem d_Model_step_86 : decode b_Model_step 86 = .ok (.aload_n 0, 1) := by decide +kernel
theorem d_Model_step_87 : decode b_Model_step 87 = .ok (.getfield 105, 3) := by decide +kernel
theorem d_Model_step_90 : decode b_Model_step 90 = .ok (.iconst 2, 1) := by decide +kernel
theorem d_Model_step_91 : decode b_Model_step 91 = .ok (.aload_n 0, 1) := by decide +kernel
theorem d_Model_step_92 : decode b_Model_step 92 = .ok (.getfield 105, 3) := by decide +kernel
theorem d_Model_step_95 : decode b_Model_step 95 = .ok (.iconst 1, 1) := by decide +kernel
theorem d_Model_step_96 : decode b_Model_step 96 = .ok (.iaload, 1) := by decide +kernel
theorem d_Model_step_97 : decode b_Model_step 97 = .ok (.iastore, 1) := by decide +kernel
theorem d_Model_step_98 : decode b_Model_step 98 = .ok (.aload_n 0, 1) := by decide +kernel
theorem d_Model_step_99 : decode b_Model_step 99 = .ok (.getfield 105, 3) := by decide +kernel
theorem d_Model_step_102 : decode b_Model_step 102 = .ok (.iconst 1, 1) := by decide +kernel
theorem d_Model_step_103 : decode b_Model_step 103 = .ok (.aload_n 0, 1) := by decide +kernel
theorem d_Model_step_104 : decode b_Model_step 104 = .ok (.getfield 105, 3) := by decide +kernel
theorem d_Model_step_107 : decode b_Model_step 107 = .ok (.iconst 1, 1) := by decide +kernel
theorem d_Model_step_108 : decode b_Model_step 108 = .ok (.iaload, 1) := by decide +kernel
theorem d_Model_step_109 : decode b_Model_step 109 = .ok (.iload 4, 2) := by decide +kernel
theorem d_Model_step_111 : decode b_Model_step 111 = .ok (.iload_n 3, 1) := by decide +kernel
theorem d_Model_step_112 : decode b_Model_step 112 = .ok (.ishl, 1) := by decide +kernel
theorem d_Model_step_113 : decode b_Model_step 113 = .ok (.iload 4, 2) := by decide +kernel
theorem d_Model_step_115 : decode b_Model_step 115 = .ok (.bipush 32, 2) := by decide +kernel
theorem d_Model_step_117 : decode b_Model_step 117 = .ok (.iload_n 3, 1) := by decide +kernel
theorem d_Model_step_118 : decode b_Model_step 118 = .ok (.isub, 1) := by decide +kernel
theorem d_Model_step_119 : decode b_Model_step 119 = .ok (.iushr, 1) := by decide +kernel
theorem d_Model_step_120 : decode b_Model_step 120 = .ok (.ior, 1) := by decide +kernel
theorem d_Model_step_121 : decode b_Model_step 121 = .ok (.iadd, 1) := by decide +kernel
theorem d_Model_step_122 : decode b_Model_step 122 = .ok (.iastore, 1) := by decide +kernel
theorem d_Model_step_123 : decode b_Model_step 123 = .ok (.return_, 1) := by decide +kernel
theorem d_Model_come_0 : decode b_Model_come 0 = .ok (.aload_n 0, 1) := by decide +kernel
theorem d_Model_come_1 : decode b_Model_come 1 = .ok (.getfield 99, 3) := by decide +kernel
theorem d_Model_come_4 : decode b_Model_come 4 = .ok (.aload_n 0, 1) := by decide +kernel
theorem d_Model_come_5 : decode b_Model_come 5 = .ok (.getfield 114, 3) := by decide +kernel
theorem d_Model_come_8 : decode b_Model_come 8 = .ok (.bipush 64, 2) := by decide +kernel
theorem d_Model_come_10 : decode b_Model_come 10 = .ok (.irem, 1) := by decide +kernel
theorem d_Model_come_11 : decode b_Model_come 11 = .ok (.iload_n 1, 1) := by decide +kernel
theorem d_Model_come_12 : decode b_Model_come 12 = .ok (.sipush 255, 3) := by decide +kernel
theorem d_Model_come_15 : decode b_Model_come 15 = .ok (.iand, 1) := by decide +kernel
theorem d_Model_come_16 : decode b_Model_come 16 = .ok (.iastore, 1) := by decide +kernel
theorem d_Model_come_17 : decode b_Model_come 17 = .ok (.aload_n 0, 1) := by decide +kernel
theorem d_Model_come_18 : decode b_Model_come 18 = .ok (.dup, 1) := by decide +kernel
theorem d_Model_come_19 : decode b_Model_come 19 = .ok (.getfield 114, 3) := by decide +kernel
theorem d_Model_come_22 : decode b_Model_come 22 = .ok (.iconst 1, 1) := by decide +kernel
theorem d_Model_come_23 : decode b_Model_come 23 = .ok (.iadd, 1) := by decide +kernel
theorem d_Model_come_24 : decode b_Model_come 24 = .ok (.putfield 114, 3) := by decide +kernel
theorem d_Model_come_27 : decode b_Model_come 27 = .ok (.aload_n 0, 1) := by decide +kernel
theorem d_Model_come_28 : decode b_Model_come 28 = .ok (.getfield 114, 3) := by decide +kernel
theorem d_Model_come_31 : decode b_Model_come 31 = .ok (.bipush 64, 2) := by decide +kernel
theorem d_Model_come_33 : decode b_Model_come 33 = .ok (.irem, 1) := by decide +kernel
theorem d_Model_come_34 : decode b_Model_come 34 = .ok (.ifCond .le 4, 3) := by decide +kernel
theorem d_Model_come_37 : decode b_Model_come 37 = .ok (.return_, 1) := by decide +kernel
theorem d_Model_come_38 : decode b_Model_come 38 = .ok (.iconst 0, 1) := by decide +kernel
theorem d_Model_come_39 : decode b_Model_come 39 = .ok (.istore_n 2, 1) := by decide +kernel
theorem d_Model_come_40 : decode b_Model_come 40 = .ok (.iload_n 2, 1) := by decide +kernel
theorem d_Model_come_41 : decode b_Model_come 41 = .ok (.iconst 4, 1) := by decide +kernel
theorem d_Model_come_42 : decode b_Model_come 42 = .ok (.if_icmp .ge 21, 3) := by decide +kernel
theorem d_Model_come_45 : decode b_Model_come 45 = .ok (.aload_n 0, 1) := by decide +kernel
theorem d_Model_come_46 : decode b_Model_come 46 = .ok (.getfield 105, 3) := by decide +kernel
theorem d_Model_come_49 : decode b_Model_come 49 = .ok (.iload_n 2, 1) := by decide +kernel
theorem d_Model_come_50 : decode b_Model_come 50 = .ok (.aload_n 0, 1) := by decide +kernel
theorem d_Model_come_51 : decode b_Model_come 51 = .ok (.getfield 102, 3) := by decide +kernel
theorem d_Model_come_54 : decode b_Model_come 54 = .ok (.iload_n 2, 1) := by decide +kernel
theorem d_Model_come_55 : decode b_Model_come 55 = .ok (.iaload, 1) := by decide +kernel
theorem d_Model_come_56 : decode b_Model_come 56 = .ok (.iastore, 1) := by decide +kernel
theorem d_Model_come_57 : decode b_Model_come 57 = .ok (.iinc 2 1, 3) := by decide +kernel
theorem d_Model_come_60 : decode b_Model_come 60 = .ok (.goto (-20), 3) := by decide +kernel
theorem d_Model_come_63 : decode b_Model_come 63 = .ok (.iconst 0, 1) := by decide +kernel
theorem d_Model_come_64 : decode b_Model_come 64 = .ok (.istore_n 2, 1) := by decide +kernel
theorem d_Model_come_65 : decode b_Model_come 65 = .ok (.iload_n 2, 1) := by decide +kernel
theorem d_Model_come_66 : decode b_Model_come 66 = .ok (.bipush 64, 2) := by decide +kernel
theorem d_Model_come_68 : decode b_Model_come 68 = .ok (.if_icmp .ge 14, 3) := by decide +kernel
theorem d_Model_come_71 : decode b_Model_come 71 = .ok (.aload_n 0, 1) := by decide +kernel
theorem d_Model_come_72 : decode b_Model_come 72 = .ok (.iload_n 2, 1) := by decide +kernel
theorem d_Model_come_73 : decode b_Model_come 73 = .ok (.invokevirtual 132, 3) := by decide +kernel
theorem d_Model_come_76 : decode b_Model_come 76 = .ok (.iinc 2 1, 3) := by decide +kernel
theorem d_Model_come_79 : decode b_Model_come 79 = .ok (.goto (-14), 3) := by decide +kernel
theorem d_Model_come_82 : decode b_Model_come 82 = .ok (.iconst 0, 1) := by decide +kernel
theorem d_Model_come_83 : decode b_Model_come 83 = .ok (.istore_n 2, 1) := by decide +kernel
theorem d_Model_come_84 : decode b_Model_come 84 = .ok (.iload_n 2, 1) := by decide +kernel
theorem d_Model_come_85 : decode b_Model_come 85 = .ok (.iconst 4, 1) := by decide +kernel
theorem d_Model_come_86 : decode b_Model_come 86 = .ok (.if_icmp .ge 24, 3) := by decide +kernel
theorem d_Model_come_89 : decode b_Model_come 89 = .ok (.aload_n 0, 1) := by decide +kernel
theorem d_Model_come_90 : decode b_Model_come 90 = .ok (.getfield 102, 3) := by decide +kernel
theorem d_Model_come_93 : decode b_Model_come 93 = .ok (.iload_n 2, 1) := by decide +kernel
theorem d_Model_come_94 : decode b_Model_come 94 = .ok (.dup2, 1) := by decide +kernel
theorem d_Model_come_95 : decode b_Model_come 95 = .ok (.iaload, 1) := by decide +kernel
theorem d_Model_come_96 : decode b_Model_come 96 = .ok (.aload_n 0, 1) := by decide +kernel
theorem d_Model_come_97 : decode b_Model_come 97 = .ok (.getfield 105, 3) := by decide +kernel
theorem d_Model_come_100 : decode b_Model_come 100 = .ok (.iload_n 2, 1) := by decide +kernel
theorem d_Model_come_101 : decode b_Model_come 101 = .ok (.iaload, 1) := by decide +kernel
theorem d_Model_come_102 : decode b_Model_come 102 = .ok (.iadd, 1) := by decide +kernel
theorem d_Model_come_103 : decode b_Model_come 103 = .ok (.iastore, 1) := by decide +kernel
theorem d_Model_come_104 : decode b_Model_come 104 = .ok (.iinc 2 1, 3) := by decide +kernel
theorem d_Model_come_107 : decode b_Model_come 107 = .ok (.goto (-23), 3) := by decide +kernel
theorem d_Model_come_110 : decode b_Model_come 110 = .ok (.return_, 1) := by decide +kernel
theorem d_Model_add_0 : decode b_Model_add 0 = .ok (.iconst 0, 1) := by decide +kernel
theorem d_Model_add_1 : decode b_Model_add 1 = .ok (.istore_n 1, 1) := by decide +kernel
theorem d_Model_add_2 : decode b_Model_add 2 = .ok (.iload_n 1, 1) := by decide +kernel
theorem d_Model_add_3 : decode b_Model_add 3 = .ok (.aload_n 0, 1) := by decide +kernel
theorem d_Model_add_4 : decode b_Model_add 4 = .ok (.getfield 118, 3) := by decide +kernel
theorem d_Model_add_7 : decode b_Model_add 7 = .ok (.if_icmp .ge 19, 3) := by decide +kernel
theorem d_Model_add_10 : decode b_Model_add 10 = .ok (.aload_n 0, 1) := by decide +kernel
theorem d_Model_add_11 : decode b_Model_add 11 = .ok (.aload_n 0, 1) := by decide +kernel
theorem d_Model_add_12 : decode b_Model_add 12 = .ok (.getfield 93, 3) := by decide +kernel
theorem d_Model_add_15 : decode b_Model_add 15 = .ok (.iload_n 1, 1) := by decide +kernel
theorem d_Model_add_16 : decode b_Model_add 16 = .ok (.iaload, 1) := by decide +kernel
theorem d_Model_add_17 : decode b_Model_add 17 = .ok (.invokevirtual 135, 3) := by decide +kernel
theorem d_Model_add_20 : decode b_Model_add 20 = .ok (.iinc 1 1, 3) := by decide +kernel
theorem d_Model_add_23 : decode b_Model_add 23 = .ok (.goto (-21), 3) := by decide +kernel
theorem d_Model_add_26 : decode b_Model_add 26 = .ok (.aload_n 0, 1) := by decide +kernel
theorem d_Model_add_27 : decode b_Model_add 27 = .ok (.iconst 0, 1) := by decide +kernel
theorem d_Model_add_28 : decode b_Model_add 28 = .ok (.putfield 118, 3) := by decide +kernel
theorem d_Model_add_31 : decode b_Model_add 31 = .ok (.aload_n 0, 1) := by decide +kernel
theorem d_Model_add_32 : decode b_Model_add 32 = .ok (.getfield 114, 3) := by decide +kernel
theorem d_Model_add_35 : decode b_Model_add 35 = .ok (.ireturn, 1) := by decide +kernel
theorem d_Model_fill_0 : decode b_Model_fill 0 = .ok (.iload_n 1, 1) := by decide +kernel
theorem d_Model_fill_1 : decode b_Model_fill 1 = .ok (.ifCond .lt 10, 3) := by decide +kernel
theorem d_Model_fill_4 : decode b_Model_fill 4 = .ok (.iload_n 1, 1) := by decide +kernel
theorem d_Model_fill_5 : decode b_Model_fill 5 = .ok (.sipush 4000, 3) := by decide +kernel
theorem d_Model_fill_8 : decode b_Model_fill 8 = .ok (.if_icmp .le 5, 3) := by decide +kernel
theorem d_Model_fill_11 : decode b_Model_fill 11 = .ok (.iconst (-1), 1) := by decide +kernel
theorem d_Model_fill_12 : decode b_Model_fill 12 = .ok (.ireturn, 1) := by decide +kernel
theorem d_Model_fill_13 : decode b_Model_fill 13 = .ok (.iconst 0, 1) := by decide +kernel
theorem d_Model_fill_14 : decode b_Model_fill 14 = .ok (.istore_n 3, 1) := by decide +kernel
theorem d_Model_fill_15 : decode b_Model_fill 15 = .ok (.iload_n 3, 1) := by decide +kernel
theorem d_Model_fill_16 : decode b_Model_fill 16 = .ok (.iload_n 1, 1) := by decide +kernel
theorem d_Model_fill_17 : decode b_Model_fill 17 = .ok (.if_icmp .ge 18, 3) := by decide +kernel
theorem d_Model_fill_20 : decode b_Model_fill 20 = .ok (.aload_n 0, 1) := by decide +kernel
theorem d_Model_fill_21 : decode b_Model_fill 21 = .ok (.iload_n 2, 1) := by decide +kernel
theorem d_Model_fill_22 : decode b_Model_fill 22 = .ok (.iconst 3, 1) := by decide +kernel
theorem d_Model_fill_23 : decode b_Model_fill 23 = .ok (.iload_n 3, 1) := by decide +kernel
theorem d_Model_fill_24 : decode b_Model_fill 24 = .ok (.imul, 1) := by decide +kernel
theorem d_Model_fill_25 : decode b_Model_fill 25 = .ok (.iadd, 1) := by decide +kernel
theorem d_Model_fill_26 : decode b_Model_fill 26 = .ok (.invokevirtual 135, 3) := by decide +kernel
theorem d_Model_fill_29 : decode b_Model_fill 29 = .ok (.iinc 3 1, 3) := by decide +kernel
theorem d_Model_fill_32 : decode b_Model_fill 32 = .ok (.goto (-17), 3) := by decide +kernel
theorem d_Model_fill_35 : decode b_Model_fill 35 = .ok (.aload_n 0, 1) := by decide +kernel
theorem d_Model_fill_36 : decode b_Model_fill 36 = .ok (.getfield 114, 3) := by decide +kernel
theorem d_Model_fill_39 : decode b_Model_fill 39 = .ok (.ireturn, 1) := by decide +kernel
theorem d_Model_key_0 : decode b_Model_key 0 = .ok (.aload_n 0, 1) := by decide +kernel
theorem d_Model_key_1 : decode b_Model_key 1 = .ok (.getfield 118, 3) := by decide +kernel
theorem d_Model_key_4 : decode b_Model_key 4 = .ok (.istore_n 1, 1) := by decide +kernel
theorem d_Model_key_5 : decode b_Model_key 5 = .ok (.aload_n 0, 1) := by decide +kernel
theorem d_Model_key_6 : decode b_Model_key 6 = .ok (.iconst 0, 1) := by decide +kernel
theorem d_Model_key_7 : decode b_Model_key 7 = .ok (.putfield 118, 3) := by decide +kernel
theorem d_Model_key_10 : decode b_Model_key 10 = .ok (.iload_n 1, 1) := by decide +kernel
theorem d_Model_key_11 : decode b_Model_key 11 = .ok (.bipush 16, 2) := by decide +kernel
theorem d_Model_key_13 : decode b_Model_key 13 = .ok (.if_icmp .le 5, 3) := by decide +kernel
theorem d_Model_key_16 : decode b_Model_key 16 = .ok (.iconst (-1), 1) := by decide +kernel
theorem d_Model_key_17 : decode b_Model_key 17 = .ok (.ireturn, 1) := by decide +kernel
theorem d_Model_key_18 : decode b_Model_key 18 = .ok (.iconst 0, 1) := by decide +kernel
theorem d_Model_key_19 : decode b_Model_key 19 = .ok (.istore_n 2, 1) := by decide +kernel
theorem d_Model_key_20 : decode b_Model_key 20 = .ok (.iload_n 2, 1) := by decide +kernel
theorem d_Model_key_21 : decode b_Model_key 21 = .ok (.bipush 16, 2) := by decide +kernel
theorem d_Model_key_23 : decode b_Model_key 23 = .ok (.if_icmp .ge 30, 3) := by decide +kernel
theorem d_Model_key_26 : decode b_Model_key 26 = .ok (.aload_n 0, 1) := by decide +kernel
theorem d_Model_key_27 : decode b_Model_key 27 = .ok (.getfield 96, 3) := by decide +kernel
theorem d_Model_key_30 : decode b_Model_key 30 = .ok (.iload_n 2, 1) := by decide +kernel
theorem d_Model_key_31 : decode b_Model_key 31 = .ok (.iload_n 2, 1) := by decide +kernel
theorem d_Model_key_32 : decode b_Model_key 32 = .ok (.iload_n 1, 1) := by decide +kernel
theorem d_Model_key_33 : decode b_Model_key 33 = .ok (.if_icmp .ge 12, 3) := by decide +kernel
theorem d_Model_key_36 : decode b_Model_key 36 = .ok (.aload_n 0, 1) := by decide +kernel
theorem d_Model_key_37 : decode b_Model_key 37 = .ok (.getfield 93, 3) := by decide +kernel
theorem d_Model_key_40 : decode b_Model_key 40 = .ok (.iload_n 2, 1) := by decide +kernel
theorem d_Model_key_41 : decode b_Model_key 41 = .ok (.iaload, 1) := by decide +kernel
theorem d_Model_key_42 : decode b_Model_key 42 = .ok (.goto 4, 3) := by decide +kernel
theorem d_Model_key_45 : decode b_Model_key 45 = .ok (.iconst 0, 1) := by decide +kernel
theorem d_Model_key_46 : decode b_Model_key 46 = .ok (.iastore, 1) := by decide +kernel
theorem d_Model_key_47 : decode b_Model_key 47 = .ok (.iinc 2 1, 3) := by decide +kernel
theorem d_Model_key_50 : decode b_Model_key 50 = .ok (.goto (-30), 3) := by decide +kernel
theorem d_Model_key_53 : decode b_Model_key 53 = .ok (.iload_n 1, 1) := by decide +kernel
theorem d_Model_key_54 : decode b_Model_key 54 = .ok (.ireturn, 1) := by decide +kernel
theorem d_Model_sum_0 : decode b_Model_sum 0 = .ok (.aload_n 0, 1) := by decide +kernel
theorem d_Model_sum_1 : decode b_Model_sum 1 = .ok (.getfield 114, 3) := by decide +kernel
theorem d_Model_sum_4 : decode b_Model_sum 4 = .ok (.istore_n 2, 1) := by decide +kernel
theorem d_Model_sum_5 : decode b_Model_sum 5 = .ok (.iconst 0, 1) := by decide +kernel
theorem d_Model_sum_6 : decode b_Model_sum 6 = .ok (.istore_n 3, 1) := by decide +kernel
theorem d_Model_sum_7 : decode b_Model_sum 7 = .ok (.iload_n 3, 1) := by decide +kernel
theorem d_Model_sum_8 : decode b_Model_sum 8 = .ok (.bipush 16, 2) := by decide +kernel
theorem d_Model_sum_10 : decode b_Model_sum 10 = .ok (.if_icmp .ge 23, 3) := by decide +kernel
theorem d_Model_sum_13 : decode b_Model_sum 13 = .ok (.iload_n 1, 1) := by decide +kernel
theorem d_Model_sum_14 : decode b_Model_sum 14 = .ok (.ifCond .eq 19, 3) := by decide +kernel
theorem d_Model_sum_17 : decode b_Model_sum 17 = .ok (.aload_n 0, 1) := by decide +kernel
theorem d_Model_sum_18 : decode b_Model_sum 18 = .ok (.aload_n 0, 1) := by decide +kernel
theorem d_Model_sum_19 : decode b_Model_sum 19 = .ok (.getfield 96, 3) := by decide +kernel
theorem d_Model_sum_22 : decode b_Model_sum 22 = .ok (.iload_n 3, 1) := by decide +kernel
theorem d_Model_sum_23 : decode b_Model_sum 23 = .ok (.iaload, 1) := by decide +kernel
theorem d_Model_sum_24 : decode b_Model_sum 24 = .ok (.invokevirtual 135, 3) := by decide +kernel
theorem d_Model_sum_27 : decode b_Model_sum 27 = .ok (.iinc 3 1, 3) := by decide +kernel
theorem d_Model_sum_30 : decode b_Model_sum 30 = .ok (.goto (-23), 3) := by decide +kernel
theorem d_Model_sum_33 : decode b_Model_sum 33 = .ok (.ldc2_w 138, 3) := by decide +kernel
theorem d_Model_sum_36 : decode b_Model_sum 36 = .ok (.aload_n 0, 1) := by decide +kernel
theorem d_Model_sum_37 : decode b_Model_sum 37 = .ok (.getfield 114, 3) := by decide +kernel
theorem d_Model_sum_40 : decode b_Model_sum 40 = .ok (.i2l, 1) := by decide +kernel
theorem d_Model_sum_41 : decode b_Model_sum 41 = .ok (.lmul, 1) := by decide +kernel
theorem d_Model_sum_42 : decode b_Model_sum 42 = .ok (.lstore_n 3, 1) := by decide +kernel
theorem d_Model_sum_43 : decode b_Model_sum 43 = .ok (.aload_n 0, 1) := by decide +kernel
theorem d_Model_sum_44 : decode b_Model_sum 44 = .ok (.sipush 128, 3) := by decide +kernel
theorem d_Model_sum_47 : decode b_Model_sum 47 = .ok (.invokevirtual 135, 3) := by decide +kernel
theorem d_Model_sum_50 : decode b_Model_sum 50 = .ok (.aload_n 0, 1) := by decide +kernel
theorem d_Model_sum_51 : decode b_Model_sum 51 = .ok (.getfield 114, 3) := by decide +kernel
theorem d_Model_sum_54 : decode b_Model_sum 54 = .ok (.bipush 64, 2) := by decide +kernel
theorem d_Model_sum_56 : decode b_Model_sum 56 = .ok (.irem, 1) := by decide +kernel
theorem d_Model_sum_57 : decode b_Model_sum 57 = .ok (.bipush 56, 2) := by decide +kernel
theorem d_Model_sum_59 : decode b_Model_sum 59 = .ok (.if_icmp .eq 11, 3) := by decide +kernel
theorem d_Model_sum_62 : decode b_Model_sum 62 = .ok (.aload_n 0, 1) := by decide +kernel
theorem d_Model_sum_63 : decode b_Model_sum 63 = .ok (.iconst 0, 1) := by decide +kernel
theorem d_Model_sum_64 : decode b_Model_sum 64 = .ok (.invokevirtual 135, 3) := by decide +kernel
theorem d_Model_sum_67 : decode b_Model_sum 67 = .ok (.goto (-17), 3) := by decide +kernel
theorem d_Model_sum_70 : decode b_Model_sum 70 = .ok (.iconst 0, 1) := by decide +kernel
theorem d_Model_sum_71 : decode b_Model_sum 71 = .ok (.istore 5, 2) := by decide +kernel
theorem d_Model_sum_73 : decode b_Model_sum 73 = .ok (.iload 5, 2) := by decide +kernel
theorem d_Model_sum_75 : decode b_Model_sum 75 = .ok (.bipush 8, 2) := by decide +kernel
theorem d_Model_sum_77 : decode b_Model_sum 77 = .ok (.if_icmp .ge 25, 3) := by decide +kernel
theorem d_Model_sum_80 : decode b_Model_sum 80 = .ok (.aload_n 0, 1) := by decide +kernel
theorem d_Model_sum_81 : decode b_Model_sum 81 = .ok (.lload_n 3, 1) := by decide +kernel
theorem d_Model_sum_82 : decode b_Model_sum 82 = .ok (.bipush 8, 2) := by decide +kernel
theorem d_Model_sum_84 : decode b_Model_sum 84 = .ok (.iload 5, 2) := by decide +kernel
theorem d_Model_sum_86 : decode b_Model_sum 86 = .ok (.imul, 1) := by decide +kernel
theorem d_Model_sum_87 : decode b_Model_sum 87 = .ok (.lshr, 1) := by decide +kernel
theorem d_Model_sum_88 : decode b_Model_sum 88 = .ok (.l2i, 1) := by decide +kernel
theorem d_Model_sum_89 : decode b_Model_sum 89 = .ok (.sipush 255, 3) := by decide +kernel
theorem d_Model_sum_92 : decode b_Model_sum 92 = .ok (.iand, 1) := by decide +kernel
theorem d_Model_sum_93 : decode b_Model_sum 93 = .ok (.invokevirtual 135, 3) := by decide +kernel
theorem d_Model_sum_96 : decode b_Model_sum 96 = .ok (.iinc 5 1, 3) := by decide +kernel
theorem d_Model_sum_99 : decode b_Model_sum 99 = .ok (.goto (-26), 3) := by decide +kernel
theorem d_Model_sum_102 : decode b_Model_sum 102 = .ok (.iconst 0, 1) := by decide +kernel
theorem d_Model_sum_103 : decode b_Model_sum 103 = .ok (.istore 5, 2) := by decide +kernel
theorem d_Model_sum_105 : decode b_Model_sum 105 = .ok (.iload 5, 2) := by decide +kernel
theorem d_Model_sum_107 : decode b_Model_sum 107 = .ok (.bipush 16, 2) := by decide +kernel
theorem d_Model_sum_109 : decode b_Model_sum 109 = .ok (.if_icmp .ge 37, 3) := by decide +kernel
theorem d_Model_sum_112 : decode b_Model_sum 112 = .ok (.aload_n 0, 1) := by decide +kernel
theorem d_Model_sum_113 : decode b_Model_sum 113 = .ok (.getfield 108, 3) := by decide +kernel
theorem d_Model_sum_116 : decode b_Model_sum 116 = .ok (.iload 5, 2) := by decide +kernel
theorem d_Model_sum_118 : decode b_Model_sum 118 = .ok (.aload_n 0, 1) := by decide +kernel
theorem d_Model_sum_119 : decode b_Model_sum 119 = .ok (.getfield 102, 3) := by decide +kernel
theorem d_Model_sum_122 : decode b_Model_sum 122 = .ok (.iload 5, 2) := by decide +kernel
theorem d_Model_sum_124 : decode b_Model_sum 124 = .ok (.iconst 4, 1) := by decide +kernel
theorem d_Model_sum_125 : decode b_Model_sum 125 = .ok (.idiv, 1) := by decide +kernel
theorem d_Model_sum_126 : decode b_Model_sum 126 = .ok (.iaload, 1) := by decide +kernel
theorem d_Model_sum_127 : decode b_Model_sum 127 = .ok (.bipush 8, 2) := by decide +kernel
theorem d_Model_sum_129 : decode b_Model_sum 129 = .ok (.iload 5, 2) := by decide +kernel
theorem d_Model_sum_131 : decode b_Model_sum 131 = .ok (.iconst 4, 1) := by decide +kernel
theorem d_Model_sum_132 : decode b_Model_sum 132 = .ok (.irem, 1) := by decide +kernel
theorem d_Model_sum_133 : decode b_Model_sum 133 = .ok (.imul, 1) := by decide +kernel
theorem d_Model_sum_134 : decode b_Model_sum 134 = .ok (.ishr, 1) := by decide +kernel
theorem d_Model_sum_135 : decode b_Model_sum 135 = .ok (.sipush 255, 3) := by decide +kernel
theorem d_Model_sum_138 : decode b_Model_sum 138 = .ok (.iand, 1) := by decide +kernel
theorem d_Model_sum_139 : decode b_Model_sum 139 = .ok (.iastore, 1) := by decide +kernel
theorem d_Model_sum_140 : decode b_Model_sum 140 = .ok (.iinc 5 1, 3) := by decide +kernel
theorem d_Model_sum_143 : decode b_Model_sum 143 = .ok (.goto (-38), 3) := by decide +kernel
theorem d_Model_sum_146 : decode b_Model_sum 146 = .ok (.aload_n 0, 1) := by decide +kernel
theorem d_Model_sum_147 : decode b_Model_sum 147 = .ok (.iconst 1, 1) := by decide +kernel
theorem d_Model_sum_148 : decode b_Model_sum 148 = .ok (.putfield 140, 3) := by decide +kernel
theorem d_Model_sum_151 : decode b_Model_sum 151 = .ok (.aload_n 0, 1) := by decide +kernel
theorem d_Model_sum_152 : decode b_Model_sum 152 = .ok (.invokevirtual 111, 3) := by decide +kernel
theorem d_Model_sum_155 : decode b_Model_sum 155 = .ok (.iload_n 2, 1) := by decide +kernel
theorem d_Model_sum_156 : decode b_Model_sum 156 = .ok (.ireturn, 1) := by decide +kernel
theorem d_Model_sumAt_0 : decode b_Model_sumAt 0 = .ok (.aload_n 0, 1) := by decide +kernel
theorem d_Model_sumAt_1 : decode b_Model_sumAt 1 = .ok (.getfield 140, 3) := by decide +kernel
theorem d_Model_sumAt_4 : decode b_Model_sumAt 4 = .ok (.ifCond .eq 22, 3) := by decide +kernel
theorem d_Model_sumAt_7 : decode b_Model_sumAt 7 = .ok (.iload_n 1, 1) := by decide +kernel
theorem d_Model_sumAt_8 : decode b_Model_sumAt 8 = .ok (.ifCond .lt 18, 3) := by decide +kernel
theorem d_Model_sumAt_11 : decode b_Model_sumAt 11 = .ok (.iload_n 1, 1) := by decide +kernel
theorem d_Model_sumAt_12 : decode b_Model_sumAt 12 = .ok (.bipush 16, 2) := by decide +kernel
theorem d_Model_sumAt_14 : decode b_Model_sumAt 14 = .ok (.if_icmp .ge 12, 3) := by decide +kernel
theorem d_Model_sumAt_17 : decode b_Model_sumAt 17 = .ok (.aload_n 0, 1) := by decide +kernel
theorem d_Model_sumAt_18 : decode b_Model_sumAt 18 = .ok (.getfield 108, 3) := by decide +kernel
theorem d_Model_sumAt_21 : decode b_Model_sumAt 21 = .ok (.iload_n 1, 1) := by decide +kernel
theorem d_Model_sumAt_22 : decode b_Model_sumAt 22 = .ok (.iaload, 1) := by decide +kernel
theorem d_Model_sumAt_23 : decode b_Model_sumAt 23 = .ok (.goto 4, 3) := by decide +kernel
theorem d_Model_sumAt_26 : decode b_Model_sumAt 26 = .ok (.iconst (-1), 1) := by decide +kernel
theorem d_Model_sumAt_27 : decode b_Model_sumAt 27 = .ok (.ireturn, 1) := by decide +kernel
end
section
theorem d_Model_init_0 : decode b_Model_init 0 = .ok (.aload_n 0, 1) := by decide +kernel
theorem d_Model_init_1 : decode b_Model_init 1 = .ok (.invokespecial 1, 3) := by decide +kernel
theorem d_Model_init_4 : decode b_Model_init 4 = .ok (.aload_n 0, 1) := by decide +kernel
theorem d_Model_init_5 : decode b_Model_init 5 = .ok (.bipush 64, 2) := by decide +kernel
theorem d_Model_init_7 : decode b_Model_init 7 = .ok (.newarray .int, 2) := by decide +kernel
theorem d_Model_init_9 : decode b_Model_init 9 = .ok (.dup, 1) := by decide +kernel
theorem d_Model_init_10 : decode b_Model_init 10 = .ok (.iconst 0, 1) := by decide +kernel
theorem d_Model_init_11 : decode b_Model_init 11 = .ok (.ldc 7, 2) := by decide +kernel
theorem d_Model_init_13 : decode b_Model_init 13 = .ok (.iastore, 1) := by decide +kernel
theorem d_Model_init_14 : decode b_Model_init 14 = .ok (.dup, 1) := by decide +kernel
theorem d_Model_init_15 : decode b_Model_init 15 = .ok (.iconst 1, 1) := by decide +kernel
theorem d_Model_init_16 : decode b_Model_init 16 = .ok (.ldc 8, 2) := by decide +kernel
theorem d_Model_init_18 : decode b_Model_init 18 = .ok (.iastore, 1) := by decide +kernel
theorem d_Model_init_19 : decode b_Model_init 19 = .ok (.dup, 1) := by decide +kernel
theorem d_Model_init_20 : decode b_Model_init 20 = .ok (.iconst 2, 1) := by decide +kernel
theorem d_Model_init_21 : decode b_Model_init 21 = .ok (.ldc 9, 2) := by decide +kernel
theorem d_Model_init_23 : decode b_Model_init 23 = .ok (.iastore, 1) := by decide +kernel
theorem d_Model_init_24 : decode b_Model_init 24 = .ok (.dup, 1) := by decide +kernel
theorem d_Model_init_25 : decode b_Model_init 25 = .ok (.iconst 3, 1) := by decide +kernel
theorem d_Model_init_26 : decode b_Model_init 26 = .ok (.ldc 10, 2) := by decide +kernel
theorem d_Model_init_28 : decode b_Model_init 28 = .ok (.iastore, 1) := by decide +kernel
theorem d_Model_init_29 : decode b_Model_init 29 = .ok (.dup, 1) := by decide +kernel
theorem d_Model_init_30 : decode b_Model_init 30 = .ok (.iconst 4, 1) := by decide +kernel
theorem d_Model_init_31 : decode b_Model_init 31 = .ok (.ldc 11, 2) := by decide +kernel
theorem d_Model_init_33 : decode b_Model_init 33 = .ok (.iastore, 1) := by decide +kernel
theorem d_Model_init_34 : decode b_Model_init 34 = .ok (.dup, 1) := by decide +kernel
theorem d_Model_init_35 : decode b_Model_init 35 = .ok (.iconst 5, 1) := by decide +kernel
theorem d_Model_init_36 : decode b_Model_init 36 = .ok (.ldc 12, 2) := by decide +kernel
theorem d_Model_init_38 : decode b_Model_init 38 = .ok (.iastore, 1) := by decide +kernel
theorem d_Model_init_39 : decode b_Model_init 39 = .ok (.dup, 1) := by decide +kernel
theorem d_Model_init_40 : decode b_Model_init 40 = .ok (.bipush 6, 2) := by decide +kernel
theorem d_Model_init_42 : decode b_Model_init 42 = .ok (.ldc 13, 2) := by decide +kernel
theorem d_Model_init_44 : decode b_Model_init 44 = .ok (.iastore, 1) := by decide +kernel
theorem d_Model_init_45 : decode b_Model_init 45 = .ok (.dup, 1) := by decide +kernel
theorem d_Model_init_46 : decode b_Model_init 46 = .ok (.bipush 7, 2) := by decide +kernel
theorem d_Model_init_48 : decode b_Model_init 48 = .ok (.ldc 14, 2) := by decide +kernel
theorem d_Model_init_50 : decode b_Model_init 50 = .ok (.iastore, 1) := by decide +kernel
theorem d_Model_init_51 : decode b_Model_init 51 = .ok (.dup, 1) := by decide +kernel
theorem d_Model_init_52 : decode b_Model_init 52 = .ok (.bipush 8, 2) := by decide +kernel
theorem d_Model_init_54 : decode b_Model_init 54 = .ok (.ldc 15, 2) := by decide +kernel
theorem d_Model_init_56 : decode b_Model_init 56 = .ok (.iastore, 1) := by decide +kernel
theorem d_Model_init_57 : decode b_Model_init 57 = .ok (.dup, 1) := by decide +kernel
theorem d_Model_init_58 : decode b_Model_init 58 = .ok (.bipush 9, 2) := by decide +kernel
theorem d_Model_init_60 : decode b_Model_init 60 = .ok (.ldc 16, 2) := by decide +kernel
theorem d_Model_init_62 : decode b_Model_init 62 = .ok (.iastore, 1) := by decide +kernel
theorem d_Model_init_63 : decode b_Model_init 63 = .ok (.dup, 1) := by decide +kernel
theorem d_Model_init_64 : decode b_Model_init 64 = .ok (.bipush 10, 2) := by decide +kernel
theorem d_Model_init_66 : decode b_Model_init 66 = .ok (.ldc 17, 2) := by decide +kernel
theorem d_Model_init_68 : decode b_Model_init 68 = .ok (.iastore, 1) := by decide +kernel
theorem d_Model_init_69 : decode b_Model_init 69 = .ok (.dup, 1) := by decide +kernel
theorem d_Model_init_70 : decode b_Model_init 70 = .ok (.bipush 11, 2) := by decide +kernel
theorem d_Model_init_72 : decode b_Model_init 72 = .ok (.ldc 18, 2) := by decide +kernel
theorem d_Model_init_74 : decode b_Model_init 74 = .ok (.iastore, 1) := by decide +kernel
theorem d_Model_init_75 : decode b_Model_init 75 = .ok (.dup, 1) := by decide +kernel
theorem d_Model_init_76 : decode b_Model_init 76 = .ok (.bipush 12, 2) := by decide +kernel
theorem d_Model_init_78 : decode b_Model_init 78 = .ok (.ldc 19, 2) := by decide +kernel
theorem d_Model_init_80 : decode b_Model_init 80 = .ok (.iastore, 1) := by decide +kernel
theorem d_Model_init_81 : decode b_Model_init 81 = .ok (.dup, 1) := by decide +kernel
theorem d_Model_init_82 : decode b_Model_init 82 = .ok (.bipush 13, 2) := by decide +kernel
theorem d_Model_init_84 : decode b_Model_init 84 = .ok (.ldc 20, 2) := by decide +kernel
theorem d_Model_init_86 : decode b_Model_init 86 = .ok (.iastore, 1) := by decide +kernel
theorem d_Model_init_87 : decode b_Model_init 87 = .ok (.dup, 1) := by decide +kernel
theorem d_Model_init_88 : decode b_Model_init 88 = .ok (.bipush 14, 2) := by decide +kernel
theorem d_Model_init_90 : decode b_Model_init 90 = .ok (.ldc 21, 2) := by decide +kernel
theorem d_Model_init_92 : decode b_Model_init 92 = .ok (.iastore, 1) := by decide +kernel
theorem d_Model_init_93 : decode b_Model_init 93 = .ok (.dup, 1) := by decide +kernel
theorem d_Model_init_94 : decode b_Model_init 94 = .ok (.bipush 15, 2) := by decide +kernel
theorem d_Model_init_96 : decode b_Model_init 96 = .ok (.ldc 22, 2) := by decide +kernel
theorem d_Model_init_98 : decode b_Model_init 98 = .ok (.iastore, 1) := by decide +kernel
theorem d_Model_init_99 : decode b_Model_init 99 = .ok (.dup, 1) := by decide +kernel
theorem d_Model_init_100 : decode b_Model_init 100 = .ok (.bipush 16, 2) := by decide +kernel
theorem d_Model_init_102 : decode b_Model_init 102 = .ok (.ldc 23, 2) := by decide +kernel
theorem d_Model_init_104 : decode b_Model_init 104 = .ok (.iastore, 1) := by decide +kernel
theorem d_Model_init_105 : decode b_Model_init 105 = .ok (.dup, 1) := by decide +kernel
theorem d_Model_init_106 : decode b_Model_init 106 = .ok (.bipush 17, 2) := by decide +kernel
theorem d_Model_init_108 : decode b_Model_init 108 = .ok (.ldc 24, 2) := by decide +kernel
theorem d_Model_init_110 : decode b_Model_init 110 = .ok (.iastore, 1) := by decide +kernel
theorem d_Model_init_111 : decode b_Model_init 111 = .ok (.dup, 1) := by decide +kernel
theorem d_Model_init_112 : decode b_Model_init 112 = .ok (.bipush 18, 2) := by decide +kernel
theorem d_Model_init_114 : decode b_Model_init 114 = .ok (.ldc 25, 2) := by decide +kernel
theorem d_Model_init_116 : decode b_Model_init 116 = .ok (.iastore, 1) := by decide +kernel
theorem d_Model_init_117 : decode b_Model_init 117 = .ok (.dup, 1) := by decide +kernel
theorem d_Model_init_118 : decode b_Model_init 118 = .ok (.bipush 19, 2) := by decide +kernel
theorem d_Model_init_120 : decode b_Model_init 120 = .ok (.ldc 26, 2) := by decide +kernel
theorem d_Model_init_122 : decode b_Model_init 122 = .ok (.iastore, 1) := by decide +kernel
theorem d_Model_init_123 : decode b_Model_init 123 = .ok (.dup, 1) := by decide +kernel
theorem d_Model_init_124 : decode b_Model_init 124 = .ok (.bipush 20, 2) := by decide +kernel
theorem d_Model_init_126 : decode b_Model_init 126 = .ok (.ldc 27, 2) := by decide +kernel
theorem d_Model_init_128 : decode b_Model_init 128 = .ok (.iastore, 1) := by decide +kernel
theorem d_Model_init_129 : decode b_Model_init 129 = .ok (.dup, 1) := by decide +kernel
theorem d_Model_init_130 : decode b_Model_init 130 = .ok (.bipush 21, 2) := by decide +kernel
theorem d_Model_init_132 : decode b_Model_init 132 = .ok (.ldc 28, 2) := by decide +kernel
theorem d_Model_init_134 : decode b_Model_init 134 = .ok (.iastore, 1) := by decide +kernel
theorem d_Model_init_135 : decode b_Model_init 135 = .ok (.dup, 1) := by decide +kernel
theorem d_Model_init_136 : decode b_Model_init 136 = .ok (.bipush 22, 2) := by decide +kernel
theorem d_Model_init_138 : decode b_Model_init 138 = .ok (.ldc 29, 2) := by decide +kernel
theorem d_Model_init_140 : decode b_Model_init 140 = .ok (.iastore, 1) := by decide +kernel
theorem d_Model_init_141 : decode b_Model_init 141 = .ok (.dup, 1) := by decide +kernel
theorem d_Model_init_142 : decode b_Model_init 142 = .ok (.bipush 23, 2) := by decide +kernel
theorem d_Model_init_144 : decode b_Model_init 144 = .ok (.ldc 30, 2) := by decide +kernel
theorem d_Model_init_146 : decode b_Model_init 146 = .ok (.iastore, 1) := by decide +kernel
theorem d_Model_init_147 : decode b_Model_init 147 = .ok (.dup, 1) := by decide +kernel
theorem d_Model_init_148 : decode b_Model_init 148 = .ok (.bipush 24, 2) := by decide +kernel
theorem d_Model_init_150 : decode b_Model_init 150 = .ok (.ldc 31, 2) := by decide +kernel
theorem d_Model_init_152 : decode b_Model_init 152 = .ok (.iastore, 1) := by decide +kernel
end
section
theorem d_Model_init_153 : decode b_Model_init 153 = .ok (.dup, 1) := by decide +kernel
theorem d_Model_init_154 : decode b_Model_init 154 = .ok (.bipush 25, 2) := by decide +kernel
theorem d_Model_init_156 : decode b_Model_init 156 = .ok (.ldc 32, 2) := by decide +kernel
theorem d_Model_init_158 : decode b_Model_init 158 = .ok (.iastore, 1) := by decide +kernel
theorem d_Model_init_159 : decode b_Model_init 159 = .ok (.dup, 1) := by decide +kernel
theorem d_Model_init_160 : decode b_Model_init 160 = .ok (.bipush 26, 2) := by decide +kernel
theorem d_Model_init_162 : decode b_Model_init 162 = .ok (.ldc 33, 2) := by decide +kernel
theorem d_Model_init_164 : decode b_Model_init 164 = .ok (.iastore, 1) := by decide +kernel
theorem d_Model_init_165 : decode b_Model_init 165 = .ok (.dup, 1) := by decide +kernel
theorem d_Model_init_166 : decode b_Model_init 166 = .ok (.bipush 27, 2) := by decide +kernel
theorem d_Model_init_168 : decode b_Model_init 168 = .ok (.ldc 34, 2) := by decide +kernel
theorem d_Model_init_170 : decode b_Model_init 170 = .ok (.iastore, 1) := by decide +kernel
theorem d_Model_init_171 : decode b_Model_init 171 = .ok (.dup, 1) := by decide +kernel
theorem d_Model_init_172 : decode b_Model_init 172 = .ok (.bipush 28, 2) := by decide +kernel
theorem d_Model_init_174 : decode b_Model_init 174 = .ok (.ldc 35, 2) := by decide +kernel
theorem d_Model_init_176 : decode b_Model_init 176 = .ok (.iastore, 1) := by decide +kernel
theorem d_Model_init_177 : decode b_Model_init 177 = .ok (.dup, 1) := by decide +kernel
theorem d_Model_init_178 : decode b_Model_init 178 = .ok (.bipush 29, 2) := by decide +kernel
theorem d_Model_init_180 : decode b_Model_init 180 = .ok (.ldc 36, 2) := by decide +kernel
theorem d_Model_init_182 : decode b_Model_init 182 = .ok (.iastore, 1) := by decide +kernel
theorem d_Model_init_183 : decode b_Model_init 183 = .ok (.dup, 1) := by decide +kernel
theorem d_Model_init_184 : decode b_Model_init 184 = .ok (.bipush 30, 2) := by decide +kernel
theorem d_Model_init_186 : decode b_Model_init 186 = .ok (.ldc 37, 2) := by decide +kernel
theorem d_Model_init_188 : decode b_Model_init 188 = .ok (.iastore, 1) := by decide +kernel
theorem d_Model_init_189 : decode b_Model_init 189 = .ok (.dup, 1) := by decide +kernel
theorem d_Model_init_190 : decode b_Model_init 190 = .ok (.bipush 31, 2) := by decide +kernel
theorem d_Model_init_192 : decode b_Model_init 192 = .ok (.ldc 38, 2) := by decide +kernel
theorem d_Model_init_194 : decode b_Model_init 194 = .ok (.iastore, 1) := by decide +kernel
theorem d_Model_init_195 : decode b_Model_init 195 = .ok (.dup, 1) := by decide +kernel
theorem d_Model_init_196 : decode b_Model_init 196 = .ok (.bipush 32, 2) := by decide +kernel
theorem d_Model_init_198 : decode b_Model_init 198 = .ok (.ldc 39, 2) := by decide +kernel
theorem d_Model_init_200 : decode b_Model_init 200 = .ok (.iastore, 1) := by decide +kernel
theorem d_Model_init_201 : decode b_Model_init 201 = .ok (.dup, 1) := by decide +kernel
theorem d_Model_init_202 : decode b_Model_init 202 = .ok (.bipush 33, 2) := by decide +kernel
theorem d_Model_init_204 : decode b_Model_init 204 = .ok (.ldc 40, 2) := by decide +kernel
theorem d_Model_init_206 : decode b_Model_init 206 = .ok (.iastore, 1) := by decide +kernel
theorem d_Model_init_207 : decode b_Model_init 207 = .ok (.dup, 1) := by decide +kernel
theorem d_Model_init_208 : decode b_Model_init 208 = .ok (.bipush 34, 2) := by decide +kernel
theorem d_Model_init_210 : decode b_Model_init 210 = .ok (.ldc 41, 2) := by decide +kernel
theorem d_Model_init_212 : decode b_Model_init 212 = .ok (.iastore, 1) := by decide +kernel
theorem d_Model_init_213 : decode b_Model_init 213 = .ok (.dup, 1) := by decide +kernel
theorem d_Model_init_214 : decode b_Model_init 214 = .ok (.bipush 35, 2) := by decide +kernel
theorem d_Model_init_216 : decode b_Model_init 216 = .ok (.ldc 42, 2) := by decide +kernel
theorem d_Model_init_218 : decode b_Model_init 218 = .ok (.iastore, 1) := by decide +kernel
theorem d_Model_init_219 : decode b_Model_init 219 = .ok (.dup, 1) := by decide +kernel
theorem d_Model_init_220 : decode b_Model_init 220 = .ok (.bipush 36, 2) := by decide +kernel
theorem d_Model_init_222 : decode b_Model_init 222 = .ok (.ldc 43, 2) := by decide +kernel
theorem d_Model_init_224 : decode b_Model_init 224 = .ok (.iastore, 1) := by decide +kernel
theorem d_Model_init_225 : decode b_Model_init 225 = .ok (.dup, 1) := by decide +kernel
theorem d_Model_init_226 : decode b_Model_init 226 = .ok (.bipush 37, 2) := by decide +kernel
theorem d_Model_init_228 : decode b_Model_init 228 = .ok (.ldc 44, 2) := by decide +kernel
theorem d_Model_init_230 : decode b_Model_init 230 = .ok (.iastore, 1) := by decide +kernel
theorem d_Model_init_231 : decode b_Model_init 231 = .ok (.dup, 1) := by decide +kernel
theorem d_Model_init_232 : decode b_Model_init 232 = .ok (.bipush 38, 2) := by decide +kernel
theorem d_Model_init_234 : decode b_Model_init 234 = .ok (.ldc 45, 2) := by decide +kernel
theorem d_Model_init_236 : decode b_Model_init 236 = .ok (.iastore, 1) := by decide +kernel
theorem d_Model_init_237 : decode b_Model_init 237 = .ok (.dup, 1) := by decide +kernel
theorem d_Model_init_238 : decode b_Model_init 238 = .ok (.bipush 39, 2) := by decide +kernel
theorem d_Model_init_240 : decode b_Model_init 240 = .ok (.ldc 46, 2) := by decide +kernel
theorem d_Model_init_242 : decode b_Model_init 242 = .ok (.iastore, 1) := by decide +kernel
theorem d_Model_init_243 : decode b_Model_init 243 = .ok (.dup, 1) := by decide +kernel
theorem d_Model_init_244 : decode b_Model_init 244 = .ok (.bipush 40, 2) := by decide +kernel
theorem d_Model_init_246 : decode b_Model_init 246 = .ok (.ldc 47, 2) := by decide +kernel
theorem d_Model_init_248 : decode b_Model_init 248 = .ok (.iastore, 1) := by decide +kernel
theorem d_Model_init_249 : decode b_Model_init 249 = .ok (.dup, 1) := by decide +kernel
theorem d_Model_init_250 : decode b_Model_init 250 = .ok (.bipush 41, 2) := by decide +kernel
theorem d_Model_init_252 : decode b_Model_init 252 = .ok (.ldc 48, 2) := by decide +kernel
theorem d_Model_init_254 : decode b_Model_init 254 = .ok (.iastore, 1) := by decide +kernel
theorem d_Model_init_255 : decode b_Model_init 255 = .ok (.dup, 1) := by decide +kernel
theorem d_Model_init_256 : decode b_Model_init 256 = .ok (.bipush 42, 2) := by decide +kernel
theorem d_Model_init_258 : decode b_Model_init 258 = .ok (.ldc 49, 2) := by decide +kernel
theorem d_Model_init_260 : decode b_Model_init 260 = .ok (.iastore, 1) := by decide +kernel
theorem d_Model_init_261 : decode b_Model_init 261 = .ok (.dup, 1) := by decide +kernel
theorem d_Model_init_262 : decode b_Model_init 262 = .ok (.bipush 43, 2) := by decide +kernel
theorem d_Model_init_264 : decode b_Model_init 264 = .ok (.ldc 50, 2) := by decide +kernel
theorem d_Model_init_266 : decode b_Model_init 266 = .ok (.iastore, 1) := by decide +kernel
theorem d_Model_init_267 : decode b_Model_init 267 = .ok (.dup, 1) := by decide +kernel
theorem d_Model_init_268 : decode b_Model_init 268 = .ok (.bipush 44, 2) := by decide +kernel
theorem d_Model_init_270 : decode b_Model_init 270 = .ok (.ldc 51, 2) := by decide +kernel
theorem d_Model_init_272 : decode b_Model_init 272 = .ok (.iastore, 1) := by decide +kernel
theorem d_Model_init_273 : decode b_Model_init 273 = .ok (.dup, 1) := by decide +kernel
theorem d_Model_init_274 : decode b_Model_init 274 = .ok (.bipush 45, 2) := by decide +kernel
theorem d_Model_init_276 : decode b_Model_init 276 = .ok (.ldc 52, 2) := by decide +kernel
theorem d_Model_init_278 : decode b_Model_init 278 = .ok (.iastore, 1) := by decide +kernel
theorem d_Model_init_279 : decode b_Model_init 279 = .ok (.dup, 1) := by decide +kernel
theorem d_Model_init_280 : decode b_Model_init 280 = .ok (.bipush 46, 2) := by decide +kernel
theorem d_Model_init_282 : decode b_Model_init 282 = .ok (.ldc 53, 2) := by decide +kernel
theorem d_Model_init_284 : decode b_Model_init 284 = .ok (.iastore, 1) := by decide +kernel
theorem d_Model_init_285 : decode b_Model_init 285 = .ok (.dup, 1) := by decide +kernel
theorem d_Model_init_286 : decode b_Model_init 286 = .ok (.bipush 47, 2) := by decide +kernel
theorem d_Model_init_288 : decode b_Model_init 288 = .ok (.ldc 54, 2) := by decide +kernel
theorem d_Model_init_290 : decode b_Model_init 290 = .ok (.iastore, 1) := by decide +kernel
theorem d_Model_init_291 : decode b_Model_init 291 = .ok (.dup, 1) := by decide +kernel
theorem d_Model_init_292 : decode b_Model_init 292 = .ok (.bipush 48, 2) := by decide +kernel
theorem d_Model_init_294 : decode b_Model_init 294 = .ok (.ldc 55, 2) := by decide +kernel
theorem d_Model_init_296 : decode b_Model_init 296 = .ok (.iastore, 1) := by decide +kernel
theorem d_Model_init_297 : decode b_Model_init 297 = .ok (.dup, 1) := by decide +kernel
theorem d_Model_init_298 : decode b_Model_init 298 = .ok (.bipush 49, 2) := by decide +kernel
theorem d_Model_init_300 : decode b_Model_init 300 = .ok (.ldc 56, 2) := by decide +kernel
theorem d_Model_init_302 : decode b_Model_init 302 = .ok (.iastore, 1) := by decide +kernel
theorem d_Model_init_303 : decode b_Model_init 303 = .ok (.dup, 1) := by decide +kernel
theorem d_Model_init_304 : decode b_Model_init 304 = .ok (.bipush 50, 2) := by decide +kernel
theorem d_Model_init_306 : decode b_Model_init 306 = .ok (.ldc 57, 2) := by decide +kernel
theorem d_Model_init_308 : decode b_Model_init 308 = .ok (.iastore, 1) := by decide +kernel
theorem d_Model_init_309 : decode b_Model_init 309 = .ok (.dup, 1) := by decide +kernel
end
section
theorem d_Model_init_310 : decode b_Model_init 310 = .ok (.bipush 51, 2) := by decide +kernel
theorem d_Model_init_312 : decode b_Model_init 312 = .ok (.ldc 58, 2) := by decide +kernel
theorem d_Model_init_314 : decode b_Model_init 314 = .ok (.iastore, 1) := by decide +kernel
theorem d_Model_init_315 : decode b_Model_init 315 = .ok (.dup, 1) := by decide +kernel
theorem d_Model_init_316 : decode b_Model_init 316 = .ok (.bipush 52, 2) := by decide +kernel
theorem d_Model_init_318 : decode b_Model_init 318 = .ok (.ldc 59, 2) := by decide +kernel
theorem d_Model_init_320 : decode b_Model_init 320 = .ok (.iastore, 1) := by decide +kernel
theorem d_Model_init_321 : decode b_Model_init 321 = .ok (.dup, 1) := by decide +kernel
theorem d_Model_init_322 : decode b_Model_init 322 = .ok (.bipush 53, 2) := by decide +kernel
theorem d_Model_init_324 : decode b_Model_init 324 = .ok (.ldc 60, 2) := by decide +kernel
theorem d_Model_init_326 : decode b_Model_init 326 = .ok (.iastore, 1) := by decide +kernel
theorem d_Model_init_327 : decode b_Model_init 327 = .ok (.dup, 1) := by decide +kernel
theorem d_Model_init_328 : decode b_Model_init 328 = .ok (.bipush 54, 2) := by decide +kernel
theorem d_Model_init_330 : decode b_Model_init 330 = .ok (.ldc 61, 2) := by decide +kernel
theorem d_Model_init_332 : decode b_Model_init 332 = .ok (.iastore, 1) := by decide +kernel
theorem d_Model_init_333 : decode b_Model_init 333 = .ok (.dup, 1) := by decide +kernel
theorem d_Model_init_334 : decode b_Model_init 334 = .ok (.bipush 55, 2) := by decide +kernel
theorem d_Model_init_336 : decode b_Model_init 336 = .ok (.ldc 62, 2) := by decide +kernel
theorem d_Model_init_338 : decode b_Model_init 338 = .ok (.iastore, 1) := by decide +kernel
theorem d_Model_init_339 : decode b_Model_init 339 = .ok (.dup, 1) := by decide +kernel
theorem d_Model_init_340 : decode b_Model_init 340 = .ok (.bipush 56, 2) := by decide +kernel
theorem d_Model_init_342 : decode b_Model_init 342 = .ok (.ldc 63, 2) := by decide +kernel
theorem d_Model_init_344 : decode b_Model_init 344 = .ok (.iastore, 1) := by decide +kernel
theorem d_Model_init_345 : decode b_Model_init 345 = .ok (.dup, 1) := by decide +kernel
theorem d_Model_init_346 : decode b_Model_init 346 = .ok (.bipush 57, 2) := by decide +kernel
theorem d_Model_init_348 : decode b_Model_init 348 = .ok (.ldc 64, 2) := by decide +kernel
theorem d_Model_init_350 : decode b_Model_init 350 = .ok (.iastore, 1) := by decide +kernel
theorem d_Model_init_351 : decode b_Model_init 351 = .ok (.dup, 1) := by decide +kernel
theorem d_Model_init_352 : decode b_Model_init 352 = .ok (.bipush 58, 2) := by decide +kernel
theorem d_Model_init_354 : decode b_Model_init 354 = .ok (.ldc 65, 2) := by decide +kernel
theorem d_Model_init_356 : decode b_Model_init 356 = .ok (.iastore, 1) := by decide +kernel
theorem d_Model_init_357 : decode b_Model_init 357 = .ok (.dup, 1) := by decide +kernel
theorem d_Model_init_358 : decode b_Model_init 358 = .ok (.bipush 59, 2) := by decide +kernel
theorem d_Model_init_360 : decode b_Model_init 360 = .ok (.ldc 66, 2) := by decide +kernel
theorem d_Model_init_362 : decode b_Model_init 362 = .ok (.iastore, 1) := by decide +kernel
theorem d_Model_init_363 : decode b_Model_init 363 = .ok (.dup, 1) := by decide +kernel
theorem d_Model_init_364 : decode b_Model_init 364 = .ok (.bipush 60, 2) := by decide +kernel
theorem d_Model_init_366 : decode b_Model_init 366 = .ok (.ldc 67, 2) := by decide +kernel
theorem d_Model_init_368 : decode b_Model_init 368 = .ok (.iastore, 1) := by decide +kernel
theorem d_Model_init_369 : decode b_Model_init 369 = .ok (.dup, 1) := by decide +kernel
theorem d_Model_init_370 : decode b_Model_init 370 = .ok (.bipush 61, 2) := by decide +kernel
theorem d_Model_init_372 : decode b_Model_init 372 = .ok (.ldc 68, 2) := by decide +kernel
theorem d_Model_init_374 : decode b_Model_init 374 = .ok (.iastore, 1) := by decide +kernel
theorem d_Model_init_375 : decode b_Model_init 375 = .ok (.dup, 1) := by decide +kernel
theorem d_Model_init_376 : decode b_Model_init 376 = .ok (.bipush 62, 2) := by decide +kernel
theorem d_Model_init_378 : decode b_Model_init 378 = .ok (.ldc 69, 2) := by decide +kernel
theorem d_Model_init_380 : decode b_Model_init 380 = .ok (.iastore, 1) := by decide +kernel
theorem d_Model_init_381 : decode b_Model_init 381 = .ok (.dup, 1) := by decide +kernel
theorem d_Model_init_382 : decode b_Model_init 382 = .ok (.bipush 63, 2) := by decide +kernel
theorem d_Model_init_384 : decode b_Model_init 384 = .ok (.ldc 70, 2) := by decide +kernel
theorem d_Model_init_386 : decode b_Model_init 386 = .ok (.iastore, 1) := by decide +kernel
theorem d_Model_init_387 : decode b_Model_init 387 = .ok (.putfield 71, 3) := by decide +kernel
theorem d_Model_init_390 : decode b_Model_init 390 = .ok (.aload_n 0, 1) := by decide +kernel
theorem d_Model_init_391 : decode b_Model_init 391 = .ok (.bipush 16, 2) := by decide +kernel
theorem d_Model_init_393 : decode b_Model_init 393 = .ok (.newarray .int, 2) := by decide +kernel
theorem d_Model_init_395 : decode b_Model_init 395 = .ok (.dup, 1) := by decide +kernel
theorem d_Model_init_396 : decode b_Model_init 396 = .ok (.iconst 0, 1) := by decide +kernel
theorem d_Model_init_397 : decode b_Model_init 397 = .ok (.bipush 7, 2) := by decide +kernel
theorem d_Model_init_399 : decode b_Model_init 399 = .ok (.iastore, 1) := by decide +kernel
theorem d_Model_init_400 : decode b_Model_init 400 = .ok (.dup, 1) := by decide +kernel
theorem d_Model_init_401 : decode b_Model_init 401 = .ok (.iconst 1, 1) := by decide +kernel
theorem d_Model_init_402 : decode b_Model_init 402 = .ok (.bipush 12, 2) := by decide +kernel
theorem d_Model_init_404 : decode b_Model_init 404 = .ok (.iastore, 1) := by decide +kernel
theorem d_Model_init_405 : decode b_Model_init 405 = .ok (.dup, 1) := by decide +kernel
theorem d_Model_init_406 : decode b_Model_init 406 = .ok (.iconst 2, 1) := by decide +kernel
theorem d_Model_init_407 : decode b_Model_init 407 = .ok (.bipush 17, 2) := by decide +kernel
theorem d_Model_init_409 : decode b_Model_init 409 = .ok (.iastore, 1) := by decide +kernel
theorem d_Model_init_410 : decode b_Model_init 410 = .ok (.dup, 1) := by decide +kernel
theorem d_Model_init_411 : decode b_Model_init 411 = .ok (.iconst 3, 1) := by decide +kernel
theorem d_Model_init_412 : decode b_Model_init 412 = .ok (.bipush 22, 2) := by decide +kernel
theorem d_Model_init_414 : decode b_Model_init 414 = .ok (.iastore, 1) := by decide +kernel
theorem d_Model_init_415 : decode b_Model_init 415 = .ok (.dup, 1) := by decide +kernel
theorem d_Model_init_416 : decode b_Model_init 416 = .ok (.iconst 4, 1) := by decide +kernel
theorem d_Model_init_417 : decode b_Model_init 417 = .ok (.iconst 5, 1) := by decide +kernel
theorem d_Model_init_418 : decode b_Model_init 418 = .ok (.iastore, 1) := by decide +kernel
theorem d_Model_init_419 : decode b_Model_init 419 = .ok (.dup, 1) := by decide +kernel
theorem d_Model_init_420 : decode b_Model_init 420 = .ok (.iconst 5, 1) := by decide +kernel
theorem d_Model_init_421 : decode b_Model_init 421 = .ok (.bipush 9, 2) := by decide +kernel
theorem d_Model_init_423 : decode b_Model_init 423 = .ok (.iastore, 1) := by decide +kernel
theorem d_Model_init_424 : decode b_Model_init 424 = .ok (.dup, 1) := by decide +kernel
theorem d_Model_init_425 : decode b_Model_init 425 = .ok (.bipush 6, 2) := by decide +kernel
theorem d_Model_init_427 : decode b_Model_init 427 = .ok (.bipush 14, 2) := by decide +kernel
theorem d_Model_init_429 : decode b_Model_init 429 = .ok (.iastore, 1) := by decide +kernel
theorem d_Model_init_430 : decode b_Model_init 430 = .ok (.dup, 1) := by decide +kernel
theorem d_Model_init_431 : decode b_Model_init 431 = .ok (.bipush 7, 2) := by decide +kernel
theorem d_Model_init_433 : decode b_Model_init 433 = .ok (.bipush 20, 2) := by decide +kernel
theorem d_Model_init_435 : decode b_Model_init 435 = .ok (.iastore, 1) := by decide +kernel
theorem d_Model_init_436 : decode b_Model_init 436 = .ok (.dup, 1) := by decide +kernel
theorem d_Model_init_437 : decode b_Model_init 437 = .ok (.bipush 8, 2) := by decide +kernel
theorem d_Model_init_439 : decode b_Model_init 439 = .ok (.iconst 4, 1) := by decide +kernel
theorem d_Model_init_440 : decode b_Model_init 440 = .ok (.iastore, 1) := by decide +kernel
theorem d_Model_init_441 : decode b_Model_init 441 = .ok (.dup, 1) := by decide +kernel
theorem d_Model_init_442 : decode b_Model_init 442 = .ok (.bipush 9, 2) := by decide +kernel
theorem d_Model_init_444 : decode b_Model_init 444 = .ok (.bipush 11, 2) := by decide +kernel
theorem d_Model_init_446 : decode b_Model_init 446 = .ok (.iastore, 1) := by decide +kernel
theorem d_Model_init_447 : decode b_Model_init 447 = .ok (.dup, 1) := by decide +kernel
theorem d_Model_init_448 : decode b_Model_init 448 = .ok (.bipush 10, 2) := by decide +kernel
theorem d_Model_init_450 : decode b_Model_init 450 = .ok (.bipush 16, 2) := by decide +kernel
theorem d_Model_init_452 : decode b_Model_init 452 = .ok (.iastore, 1) := by decide +kernel
theorem d_Model_init_453 : decode b_Model_init 453 = .ok (.dup, 1) := by decide +kernel
theorem d_Model_init_454 : decode b_Model_init 454 = .ok (.bipush 11, 2) := by decide +kernel
theorem d_Model_init_456 : decode b_Model_init 456 = .ok (.bipush 23, 2) := by decide +kernel
theorem d_Model_init_458 : decode b_Model_init 458 = .ok (.iastore, 1) := by decide +kernel
theorem d_Model_init_459 : decode b_Model_init 459 = .ok (.dup, 1) := by decide +kernel
theorem d_Model_init_460 : decode b_Model_init 460 = .ok (.bipush 12, 2) := by decide +kernel
end
section
theorem d_Model_init_462 : decode b_Model_init 462 = .ok (.bipush 6, 2) := by decide +kernel
theorem d_Model_init_464 : decode b_Model_init 464 = .ok (.iastore, 1) := by decide +kernel
theorem d_Model_init_465 : decode b_Model_init 465 = .ok (.dup, 1) := by decide +kernel
theorem d_Model_init_466 : decode b_Model_init 466 = .ok (.bipush 13, 2) := by decide +kernel
theorem d_Model_init_468 : decode b_Model_init 468 = .ok (.bipush 10, 2) := by decide +kernel
theorem d_Model_init_470 : decode b_Model_init 470 = .ok (.iastore, 1) := by decide +kernel
theorem d_Model_init_471 : decode b_Model_init 471 = .ok (.dup, 1) := by decide +kernel
theorem d_Model_init_472 : decode b_Model_init 472 = .ok (.bipush 14, 2) := by decide +kernel
theorem d_Model_init_474 : decode b_Model_init 474 = .ok (.bipush 15, 2) := by decide +kernel
theorem d_Model_init_476 : decode b_Model_init 476 = .ok (.iastore, 1) := by decide +kernel
theorem d_Model_init_477 : decode b_Model_init 477 = .ok (.dup, 1) := by decide +kernel
theorem d_Model_init_478 : decode b_Model_init 478 = .ok (.bipush 15, 2) := by decide +kernel
theorem d_Model_init_480 : decode b_Model_init 480 = .ok (.bipush 21, 2) := by decide +kernel
theorem d_Model_init_482 : decode b_Model_init 482 = .ok (.iastore, 1) := by decide +kernel
theorem d_Model_init_483 : decode b_Model_init 483 = .ok (.putfield 77, 3) := by decide +kernel
theorem d_Model_init_486 : decode b_Model_init 486 = .ok (.aload_n 0, 1) := by decide +kernel
theorem d_Model_init_487 : decode b_Model_init 487 = .ok (.iconst 4, 1) := by decide +kernel
theorem d_Model_init_488 : decode b_Model_init 488 = .ok (.newarray .int, 2) := by decide +kernel
theorem d_Model_init_490 : decode b_Model_init 490 = .ok (.dup, 1) := by decide +kernel
theorem d_Model_init_491 : decode b_Model_init 491 = .ok (.iconst 0, 1) := by decide +kernel
theorem d_Model_init_492 : decode b_Model_init 492 = .ok (.ldc 80, 2) := by decide +kernel
theorem d_Model_init_494 : decode b_Model_init 494 = .ok (.iastore, 1) := by decide +kernel
theorem d_Model_init_495 : decode b_Model_init 495 = .ok (.dup, 1) := by decide +kernel
theorem d_Model_init_496 : decode b_Model_init 496 = .ok (.iconst 1, 1) := by decide +kernel
theorem d_Model_init_497 : decode b_Model_init 497 = .ok (.ldc 81, 2) := by decide +kernel
theorem d_Model_init_499 : decode b_Model_init 499 = .ok (.iastore, 1) := by decide +kernel
theorem d_Model_init_500 : decode b_Model_init 500 = .ok (.dup, 1) := by decide +kernel
theorem d_Model_init_501 : decode b_Model_init 501 = .ok (.iconst 2, 1) := by decide +kernel
theorem d_Model_init_502 : decode b_Model_init 502 = .ok (.ldc 82, 2) := by decide +kernel
theorem d_Model_init_504 : decode b_Model_init 504 = .ok (.iastore, 1) := by decide +kernel
theorem d_Model_init_505 : decode b_Model_init 505 = .ok (.dup, 1) := by decide +kernel
theorem d_Model_init_506 : decode b_Model_init 506 = .ok (.iconst 3, 1) := by decide +kernel
theorem d_Model_init_507 : decode b_Model_init 507 = .ok (.ldc 83, 2) := by decide +kernel
theorem d_Model_init_509 : decode b_Model_init 509 = .ok (.iastore, 1) := by decide +kernel
theorem d_Model_init_510 : decode b_Model_init 510 = .ok (.putfield 84, 3) := by decide +kernel
theorem d_Model_init_513 : decode b_Model_init 513 = .ok (.aload_n 0, 1) := by decide +kernel
theorem d_Model_init_514 : decode b_Model_init 514 = .ok (.iconst 4, 1) := by decide +kernel
theorem d_Model_init_515 : decode b_Model_init 515 = .ok (.newarray .int, 2) := by decide +kernel
theorem d_Model_init_517 : decode b_Model_init 517 = .ok (.dup, 1) := by decide +kernel
theorem d_Model_init_518 : decode b_Model_init 518 = .ok (.iconst 0, 1) := by decide +kernel
theorem d_Model_init_519 : decode b_Model_init 519 = .ok (.iconst 1, 1) := by decide +kernel
theorem d_Model_init_520 : decode b_Model_init 520 = .ok (.iastore, 1) := by decide +kernel
theorem d_Model_init_521 : decode b_Model_init 521 = .ok (.dup, 1) := by decide +kernel
theorem d_Model_init_522 : decode b_Model_init 522 = .ok (.iconst 1, 1) := by decide +kernel
theorem d_Model_init_523 : decode b_Model_init 523 = .ok (.iconst 5, 1) := by decide +kernel
theorem d_Model_init_524 : decode b_Model_init 524 = .ok (.iastore, 1) := by decide +kernel
theorem d_Model_init_525 : decode b_Model_init 525 = .ok (.dup, 1) := by decide +kernel
theorem d_Model_init_526 : decode b_Model_init 526 = .ok (.iconst 2, 1) := by decide +kernel
theorem d_Model_init_527 : decode b_Model_init 527 = .ok (.iconst 3, 1) := by decide +kernel
theorem d_Model_init_528 : decode b_Model_init 528 = .ok (.iastore, 1) := by decide +kernel
theorem d_Model_init_529 : decode b_Model_init 529 = .ok (.dup, 1) := by decide +kernel
theorem d_Model_init_530 : decode b_Model_init 530 = .ok (.iconst 3, 1) := by decide +kernel
theorem d_Model_init_531 : decode b_Model_init 531 = .ok (.bipush 7, 2) := by decide +kernel
theorem d_Model_init_533 : decode b_Model_init 533 = .ok (.iastore, 1) := by decide +kernel
theorem d_Model_init_534 : decode b_Model_init 534 = .ok (.putfield 87, 3) := by decide +kernel
theorem d_Model_init_537 : decode b_Model_init 537 = .ok (.aload_n 0, 1) := by decide +kernel
theorem d_Model_init_538 : decode b_Model_init 538 = .ok (.iconst 4, 1) := by decide +kernel
theorem d_Model_init_539 : decode b_Model_init 539 = .ok (.newarray .int, 2) := by decide +kernel
theorem d_Model_init_541 : decode b_Model_init 541 = .ok (.dup, 1) := by decide +kernel
theorem d_Model_init_542 : decode b_Model_init 542 = .ok (.iconst 0, 1) := by decide +kernel
theorem d_Model_init_543 : decode b_Model_init 543 = .ok (.iconst 0, 1) := by decide +kernel
theorem d_Model_init_544 : decode b_Model_init 544 = .ok (.iastore, 1) := by decide +kernel
theorem d_Model_init_545 : decode b_Model_init 545 = .ok (.dup, 1) := by decide +kernel
theorem d_Model_init_546 : decode b_Model_init 546 = .ok (.iconst 1, 1) := by decide +kernel
theorem d_Model_init_547 : decode b_Model_init 547 = .ok (.iconst 1, 1) := by decide +kernel
theorem d_Model_init_548 : decode b_Model_init 548 = .ok (.iastore, 1) := by decide +kernel
theorem d_Model_init_549 : decode b_Model_init 549 = .ok (.dup, 1) := by decide +kernel
theorem d_Model_init_550 : decode b_Model_init 550 = .ok (.iconst 2, 1) := by decide +kernel
theorem d_Model_init_551 : decode b_Model_init 551 = .ok (.iconst 5, 1) := by decide +kernel
theorem d_Model_init_552 : decode b_Model_init 552 = .ok (.iastore, 1) := by decide +kernel
theorem d_Model_init_553 : decode b_Model_init 553 = .ok (.dup, 1) := by decide +kernel
theorem d_Model_init_554 : decode b_Model_init 554 = .ok (.iconst 3, 1) := by decide +kernel
theorem d_Model_init_555 : decode b_Model_init 555 = .ok (.iconst 0, 1) := by decide +kernel
theorem d_Model_init_556 : decode b_Model_init 556 = .ok (.iastore, 1) := by decide +kernel
theorem d_Model_init_557 : decode b_Model_init 557 = .ok (.putfield 90, 3) := by decide +kernel
theorem d_Model_init_560 : decode b_Model_init 560 = .ok (.aload_n 0, 1) := by decide +kernel
theorem d_Model_init_561 : decode b_Model_init 561 = .ok (.sipush 2000, 3) := by decide +kernel
theorem d_Model_init_564 : decode b_Model_init 564 = .ok (.newarray .int, 2) := by decide +kernel
theorem d_Model_init_566 : decode b_Model_init 566 = .ok (.putfield 93, 3) := by decide +kernel
theorem d_Model_init_569 : decode b_Model_init 569 = .ok (.aload_n 0, 1) := by decide +kernel
theorem d_Model_init_570 : decode b_Model_init 570 = .ok (.bipush 16, 2) := by decide +kernel
theorem d_Model_init_572 : decode b_Model_init 572 = .ok (.newarray .int, 2) := by decide +kernel
theorem d_Model_init_574 : decode b_Model_init 574 = .ok (.putfield 96, 3) := by decide +kernel
theorem d_Model_init_577 : decode b_Model_init 577 = .ok (.aload_n 0, 1) := by decide +kernel
theorem d_Model_init_578 : decode b_Model_init 578 = .ok (.bipush 64, 2) := by decide +kernel
theorem d_Model_init_580 : decode b_Model_init 580 = .ok (.newarray .int, 2) := by decide +kernel
theorem d_Model_init_582 : decode b_Model_init 582 = .ok (.putfield 99, 3) := by decide +kernel
theorem d_Model_init_585 : decode b_Model_init 585 = .ok (.aload_n 0, 1) := by decide +kernel
theorem d_Model_init_586 : decode b_Model_init 586 = .ok (.iconst 4, 1) := by decide +kernel
theorem d_Model_init_587 : decode b_Model_init 587 = .ok (.newarray .int, 2) := by decide +kernel
theorem d_Model_init_589 : decode b_Model_init 589 = .ok (.putfield 102, 3) := by decide +kernel
theorem d_Model_init_592 : decode b_Model_init 592 = .ok (.aload_n 0, 1) := by decide +kernel
theorem d_Model_init_593 : decode b_Model_init 593 = .ok (.iconst 4, 1) := by decide +kernel
theorem d_Model_init_594 : decode b_Model_init 594 = .ok (.newarray .int, 2) := by decide +kernel
theorem d_Model_init_596 : decode b_Model_init 596 = .ok (.putfield 105, 3) := by decide +kernel
theorem d_Model_init_599 : decode b_Model_init 599 = .ok (.aload_n 0, 1) := by decide +kernel
theorem d_Model_init_600 : decode b_Model_init 600 = .ok (.bipush 16, 2) := by decide +kernel
theorem d_Model_init_602 : decode b_Model_init 602 = .ok (.newarray .int, 2) := by decide +kernel
theorem d_Model_init_604 : decode b_Model_init 604 = .ok (.putfield 108, 3) := by decide +kernel
theorem d_Model_init_607 : decode b_Model_init 607 = .ok (.aload_n 0, 1) := by decide +kernel
theorem d_Model_init_608 : decode b_Model_init 608 = .ok (.invokevirtual 111, 3) := by decide +kernel
theorem d_Model_init_611 : decode b_Model_init 611 = .ok (.return_, 1) := by decide +kernel
end
section
theorem d_law_0 : decode code 0 = .ok (.new 7, 3) := by decide +kernel
theorem d_law_3 : decode code 3 = .ok (.dup, 1) := by decide +kernel
theorem d_law_4 : decode code 4 = .ok (.invokespecial 9, 3) := by decide +kernel
theorem d_law_7 : decode code 7 = .ok (.astore_n 1, 1) := by decide +kernel
theorem d_law_8 : decode code 8 = .ok (.new 10, 3) := by decide +kernel
theorem d_law_11 : decode code 11 = .ok (.dup, 1) := by decide +kernel
theorem d_law_12 : decode code 12 = .ok (.invokespecial 12, 3) := by decide +kernel
theorem d_law_15 : decode code 15 = .ok (.astore_n 2, 1) := by decide +kernel
theorem d_law_16 : decode code 16 = .ok (.iconst 0, 1) := by decide +kernel
theorem d_law_17 : decode code 17 = .ok (.istore_n 3, 1) := by decide +kernel
theorem d_law_18 : decode code 18 = .ok (.iload_n 3, 1) := by decide +kernel
theorem d_law_19 : decode code 19 = .ok (.aload_n 0, 1) := by decide +kernel
theorem d_law_20 : decode code 20 = .ok (.arraylength, 1) := by decide +kernel
theorem d_law_21 : decode code 21 = .ok (.bipush 6, 2) := by decide +kernel
theorem d_law_23 : decode code 23 = .ok (.isub, 1) := by decide +kernel
theorem d_law_24 : decode code 24 = .ok (.if_icmp .gt 265, 3) := by decide +kernel
theorem d_law_27 : decode code 27 = .ok (.aload_n 0, 1) := by decide +kernel
theorem d_law_28 : decode code 28 = .ok (.iload_n 3, 1) := by decide +kernel
theorem d_law_29 : decode code 29 = .ok (.iaload, 1) := by decide +kernel
theorem d_law_30 : decode code 30 = .ok (.bipush 7, 2) := by decide +kernel
theorem d_law_32 : decode code 32 = .ok (.iand, 1) := by decide +kernel
theorem d_law_33 : decode code 33 = .ok (.tableswitch 250 0 6 #[43, 106, 129, 142, 175, 188, 227], 43) := by decide +kernel
theorem d_law_76 : decode code 76 = .ok (.aload_n 1, 1) := by decide +kernel
theorem d_law_77 : decode code 77 = .ok (.aload_n 0, 1) := by decide +kernel
theorem d_law_78 : decode code 78 = .ok (.iload_n 3, 1) := by decide +kernel
theorem d_law_79 : decode code 79 = .ok (.iconst 1, 1) := by decide +kernel
theorem d_law_80 : decode code 80 = .ok (.iadd, 1) := by decide +kernel
theorem d_law_81 : decode code 81 = .ok (.iaload, 1) := by decide +kernel
theorem d_law_82 : decode code 82 = .ok (.aload_n 0, 1) := by decide +kernel
theorem d_law_83 : decode code 83 = .ok (.iload_n 3, 1) := by decide +kernel
theorem d_law_84 : decode code 84 = .ok (.iconst 2, 1) := by decide +kernel
theorem d_law_85 : decode code 85 = .ok (.iadd, 1) := by decide +kernel
theorem d_law_86 : decode code 86 = .ok (.iaload, 1) := by decide +kernel
theorem d_law_87 : decode code 87 = .ok (.aload_n 0, 1) := by decide +kernel
theorem d_law_88 : decode code 88 = .ok (.iload_n 3, 1) := by decide +kernel
theorem d_law_89 : decode code 89 = .ok (.iconst 3, 1) := by decide +kernel
theorem d_law_90 : decode code 90 = .ok (.iadd, 1) := by decide +kernel
theorem d_law_91 : decode code 91 = .ok (.iaload, 1) := by decide +kernel
theorem d_law_92 : decode code 92 = .ok (.aload_n 0, 1) := by decide +kernel
theorem d_law_93 : decode code 93 = .ok (.iload_n 3, 1) := by decide +kernel
theorem d_law_94 : decode code 94 = .ok (.iconst 4, 1) := by decide +kernel
theorem d_law_95 : decode code 95 = .ok (.iadd, 1) := by decide +kernel
theorem d_law_96 : decode code 96 = .ok (.iaload, 1) := by decide +kernel
theorem d_law_97 : decode code 97 = .ok (.aload_n 0, 1) := by decide +kernel
theorem d_law_98 : decode code 98 = .ok (.iload_n 3, 1) := by decide +kernel
theorem d_law_99 : decode code 99 = .ok (.iconst 5, 1) := by decide +kernel
theorem d_law_100 : decode code 100 = .ok (.iadd, 1) := by decide +kernel
theorem d_law_101 : decode code 101 = .ok (.iaload, 1) := by decide +kernel
theorem d_law_102 : decode code 102 = .ok (.invokevirtual 13, 3) := by decide +kernel
theorem d_law_105 : decode code 105 = .ok (.aload_n 2, 1) := by decide +kernel
theorem d_law_106 : decode code 106 = .ok (.aload_n 0, 1) := by decide +kernel
theorem d_law_107 : decode code 107 = .ok (.iload_n 3, 1) := by decide +kernel
theorem d_law_108 : decode code 108 = .ok (.iconst 1, 1) := by decide +kernel
theorem d_law_109 : decode code 109 = .ok (.iadd, 1) := by decide +kernel
theorem d_law_110 : decode code 110 = .ok (.iaload, 1) := by decide +kernel
theorem d_law_111 : decode code 111 = .ok (.aload_n 0, 1) := by decide +kernel
theorem d_law_112 : decode code 112 = .ok (.iload_n 3, 1) := by decide +kernel
theorem d_law_113 : decode code 113 = .ok (.iconst 2, 1) := by decide +kernel
theorem d_law_114 : decode code 114 = .ok (.iadd, 1) := by decide +kernel
theorem d_law_115 : decode code 115 = .ok (.iaload, 1) := by decide +kernel
theorem d_law_116 : decode code 116 = .ok (.aload_n 0, 1) := by decide +kernel
theorem d_law_117 : decode code 117 = .ok (.iload_n 3, 1) := by decide +kernel
theorem d_law_118 : decode code 118 = .ok (.iconst 3, 1) := by decide +kernel
theorem d_law_119 : decode code 119 = .ok (.iadd, 1) := by decide +kernel
theorem d_law_120 : decode code 120 = .ok (.iaload, 1) := by decide +kernel
theorem d_law_121 : decode code 121 = .ok (.aload_n 0, 1) := by decide +kernel
theorem d_law_122 : decode code 122 = .ok (.iload_n 3, 1) := by decide +kernel
theorem d_law_123 : decode code 123 = .ok (.iconst 4, 1) := by decide +kernel
theorem d_law_124 : decode code 124 = .ok (.iadd, 1) := by decide +kernel
theorem d_law_125 : decode code 125 = .ok (.iaload, 1) := by decide +kernel
theorem d_law_126 : decode code 126 = .ok (.aload_n 0, 1) := by decide +kernel
theorem d_law_127 : decode code 127 = .ok (.iload_n 3, 1) := by decide +kernel
theorem d_law_128 : decode code 128 = .ok (.iconst 5, 1) := by decide +kernel
theorem d_law_129 : decode code 129 = .ok (.iadd, 1) := by decide +kernel
theorem d_law_130 : decode code 130 = .ok (.iaload, 1) := by decide +kernel
theorem d_law_131 : decode code 131 = .ok (.invokevirtual 17, 3) := by decide +kernel
theorem d_law_134 : decode code 134 = .ok (.if_icmp .eq 149, 3) := by decide +kernel
theorem d_law_137 : decode code 137 = .ok (.iconst 0, 1) := by decide +kernel
theorem d_law_138 : decode code 138 = .ok (.ireturn, 1) := by decide +kernel
theorem d_law_139 : decode code 139 = .ok (.aload_n 1, 1) := by decide +kernel
theorem d_law_140 : decode code 140 = .ok (.aload_n 0, 1) := by decide +kernel
theorem d_law_141 : decode code 141 = .ok (.iload_n 3, 1) := by decide +kernel
theorem d_law_142 : decode code 142 = .ok (.iconst 1, 1) := by decide +kernel
theorem d_law_143 : decode code 143 = .ok (.iadd, 1) := by decide +kernel
theorem d_law_144 : decode code 144 = .ok (.iaload, 1) := by decide +kernel
theorem d_law_145 : decode code 145 = .ok (.invokevirtual 18, 3) := by decide +kernel
theorem d_law_148 : decode code 148 = .ok (.aload_n 2, 1) := by decide +kernel
theorem d_law_149 : decode code 149 = .ok (.aload_n 0, 1) := by decide +kernel
theorem d_law_150 : decode code 150 = .ok (.iload_n 3, 1) := by decide +kernel
theorem d_law_151 : decode code 151 = .ok (.iconst 1, 1) := by decide +kernel
theorem d_law_152 : decode code 152 = .ok (.iadd, 1) := by decide +kernel
theorem d_law_153 : decode code 153 = .ok (.iaload, 1) := by decide +kernel
theorem d_law_154 : decode code 154 = .ok (.invokevirtual 22, 3) := by decide +kernel
theorem d_law_157 : decode code 157 = .ok (.if_icmp .eq 126, 3) := by decide +kernel
theorem d_law_160 : decode code 160 = .ok (.iconst 0, 1) := by decide +kernel
theorem d_law_161 : decode code 161 = .ok (.ireturn, 1) := by decide +kernel
theorem d_law_162 : decode code 162 = .ok (.aload_n 1, 1) := by decide +kernel
theorem d_law_163 : decode code 163 = .ok (.invokevirtual 23, 3) := by decide +kernel
theorem d_law_166 : decode code 166 = .ok (.aload_n 2, 1) := by decide +kernel
theorem d_law_167 : decode code 167 = .ok (.invokevirtual 27, 3) := by decide +kernel
theorem d_law_170 : decode code 170 = .ok (.if_icmp .eq 113, 3) := by decide +kernel
theorem d_law_173 : decode code 173 = .ok (.iconst 0, 1) := by decide +kernel
theorem d_law_174 : decode code 174 = .ok (.ireturn, 1) := by decide +kernel
theorem d_law_175 : decode code 175 = .ok (.aload_n 1, 1) := by decide +kernel
theorem d_law_176 : decode code 176 = .ok (.aload_n 0, 1) := by decide +kernel
theorem d_law_177 : decode code 177 = .ok (.iload_n 3, 1) := by decide +kernel
theorem d_law_178 : decode code 178 = .ok (.iconst 1, 1) := by decide +kernel
theorem d_law_179 : decode code 179 = .ok (.iadd, 1) := by decide +kernel
theorem d_law_180 : decode code 180 = .ok (.iaload, 1) := by decide +kernel
theorem d_law_181 : decode code 181 = .ok (.aload_n 0, 1) := by decide +kernel
theorem d_law_182 : decode code 182 = .ok (.iload_n 3, 1) := by decide +kernel
theorem d_law_183 : decode code 183 = .ok (.iconst 2, 1) := by decide +kernel
theorem d_law_184 : decode code 184 = .ok (.iadd, 1) := by decide +kernel
theorem d_law_185 : decode code 185 = .ok (.iaload, 1) := by decide +kernel
theorem d_law_186 : decode code 186 = .ok (.invokevirtual 28, 3) := by decide +kernel
theorem d_law_189 : decode code 189 = .ok (.aload_n 2, 1) := by decide +kernel
theorem d_law_190 : decode code 190 = .ok (.aload_n 0, 1) := by decide +kernel
theorem d_law_191 : decode code 191 = .ok (.iload_n 3, 1) := by decide +kernel
theorem d_law_192 : decode code 192 = .ok (.iconst 1, 1) := by decide +kernel
theorem d_law_193 : decode code 193 = .ok (.iadd, 1) := by decide +kernel
theorem d_law_194 : decode code 194 = .ok (.iaload, 1) := by decide +kernel
theorem d_law_195 : decode code 195 = .ok (.aload_n 0, 1) := by decide +kernel
theorem d_law_196 : decode code 196 = .ok (.iload_n 3, 1) := by decide +kernel
theorem d_law_197 : decode code 197 = .ok (.iconst 2, 1) := by decide +kernel
theorem d_law_198 : decode code 198 = .ok (.iadd, 1) := by decide +kernel
theorem d_law_199 : decode code 199 = .ok (.iaload, 1) := by decide +kernel
theorem d_law_200 : decode code 200 = .ok (.invokevirtual 32, 3) := by decide +kernel
theorem d_law_203 : decode code 203 = .ok (.if_icmp .eq 80, 3) := by decide +kernel
theorem d_law_206 : decode code 206 = .ok (.iconst 0, 1) := by decide +kernel
theorem d_law_207 : decode code 207 = .ok (.ireturn, 1) := by decide +kernel
theorem d_law_208 : decode code 208 = .ok (.aload_n 1, 1) := by decide +kernel
theorem d_law_209 : decode code 209 = .ok (.invokevirtual 33, 3) := by decide +kernel
theorem d_law_212 : decode code 212 = .ok (.aload_n 2, 1) := by decide +kernel
theorem d_law_213 : decode code 213 = .ok (.invokevirtual 36, 3) := by decide +kernel
theorem d_law_216 : decode code 216 = .ok (.if_icmp .eq 67, 3) := by decide +kernel
theorem d_law_219 : decode code 219 = .ok (.iconst 0, 1) := by decide +kernel
theorem d_law_220 : decode code 220 = .ok (.ireturn, 1) := by decide +kernel
theorem d_law_221 : decode code 221 = .ok (.aload_n 1, 1) := by decide +kernel
theorem d_law_222 : decode code 222 = .ok (.aload_n 0, 1) := by decide +kernel
theorem d_law_223 : decode code 223 = .ok (.iload_n 3, 1) := by decide +kernel
theorem d_law_224 : decode code 224 = .ok (.iconst 1, 1) := by decide +kernel
theorem d_law_225 : decode code 225 = .ok (.iadd, 1) := by decide +kernel
theorem d_law_226 : decode code 226 = .ok (.iaload, 1) := by decide +kernel
theorem d_law_227 : decode code 227 = .ok (.ifCond .eq 7, 3) := by decide +kernel
theorem d_law_230 : decode code 230 = .ok (.iconst 1, 1) := by decide +kernel
theorem d_law_231 : decode code 231 = .ok (.goto 4, 3) := by decide +kernel
theorem d_law_234 : decode code 234 = .ok (.iconst 0, 1) := by decide +kernel
theorem d_law_235 : decode code 235 = .ok (.invokevirtual 37, 3) := by decide +kernel
theorem d_law_238 : decode code 238 = .ok (.aload_n 2, 1) := by decide +kernel
theorem d_law_239 : decode code 239 = .ok (.aload_n 0, 1) := by decide +kernel
theorem d_law_240 : decode code 240 = .ok (.iload_n 3, 1) := by decide +kernel
theorem d_law_241 : decode code 241 = .ok (.iconst 1, 1) := by decide +kernel
theorem d_law_242 : decode code 242 = .ok (.iadd, 1) := by decide +kernel
theorem d_law_243 : decode code 243 = .ok (.iaload, 1) := by decide +kernel
theorem d_law_244 : decode code 244 = .ok (.ifCond .eq 7, 3) := by decide +kernel
theorem d_law_247 : decode code 247 = .ok (.iconst 1, 1) := by decide +kernel
theorem d_law_248 : decode code 248 = .ok (.goto 4, 3) := by decide +kernel
theorem d_law_251 : decode code 251 = .ok (.iconst 0, 1) := by decide +kernel
theorem d_law_252 : decode code 252 = .ok (.invokevirtual 41, 3) := by decide +kernel
theorem d_law_255 : decode code 255 = .ok (.if_icmp .eq 28, 3) := by decide +kernel
theorem d_law_258 : decode code 258 = .ok (.iconst 0, 1) := by decide +kernel
theorem d_law_259 : decode code 259 = .ok (.ireturn, 1) := by decide +kernel
theorem d_law_260 : decode code 260 = .ok (.aload_n 1, 1) := by decide +kernel
theorem d_law_261 : decode code 261 = .ok (.aload_n 0, 1) := by decide +kernel
theorem d_law_262 : decode code 262 = .ok (.iload_n 3, 1) := by decide +kernel
theorem d_law_263 : decode code 263 = .ok (.iconst 1, 1) := by decide +kernel
theorem d_law_264 : decode code 264 = .ok (.iadd, 1) := by decide +kernel
theorem d_law_265 : decode code 265 = .ok (.iaload, 1) := by decide +kernel
theorem d_law_266 : decode code 266 = .ok (.invokevirtual 42, 3) := by decide +kernel
theorem d_law_269 : decode code 269 = .ok (.aload_n 2, 1) := by decide +kernel
theorem d_law_270 : decode code 270 = .ok (.aload_n 0, 1) := by decide +kernel
theorem d_law_271 : decode code 271 = .ok (.iload_n 3, 1) := by decide +kernel
theorem d_law_272 : decode code 272 = .ok (.iconst 1, 1) := by decide +kernel
theorem d_law_273 : decode code 273 = .ok (.iadd, 1) := by decide +kernel
theorem d_law_274 : decode code 274 = .ok (.iaload, 1) := by decide +kernel
theorem d_law_275 : decode code 275 = .ok (.invokevirtual 46, 3) := by decide +kernel
theorem d_law_278 : decode code 278 = .ok (.if_icmp .eq 5, 3) := by decide +kernel
theorem d_law_281 : decode code 281 = .ok (.iconst 0, 1) := by decide +kernel
theorem d_law_282 : decode code 282 = .ok (.ireturn, 1) := by decide +kernel
theorem d_law_283 : decode code 283 = .ok (.iinc 3 6, 3) := by decide +kernel
theorem d_law_286 : decode code 286 = .ok (.goto (-268), 3) := by decide +kernel
theorem d_law_289 : decode code 289 = .ok (.iconst 1, 1) := by decide +kernel
theorem d_law_290 : decode code 290 = .ok (.ireturn, 1) := by decide +kernel
end
section
-- WORLDS: the cells of a digest, of KeySums, of the reference
abbrev wD (h0 h1 h2 : Nat) (cB cI : ClassId) (fb fw : Nat → Int32) (a b c d held : Int32) (many : Int64) : va_W := [(h0, .inr (0, [.ref h1, .ref h2, .int a, .int b, .int c, .int d, .int held, .long many])), (h1, .inl (cB, 64, .inl fb)), (h2, .inl (cI, 16, .inl fw))]
abbrev wDg (h0 h1 h2 : Nat) (cB cI : ClassId) (fb fw : Nat → Int32) (g : Dg) : va_W := wD h0 h1 h2 cB cI fb fw g.2.1.1 g.2.1.2.1 g.2.1.2.2.1 g.2.1.2.2.2 (nI (g.2.2 % 64)) (lN g.2.2)
abbrev wE (ta h0 h1 h2 : Nat) (cB cI : ClassId) (to fb fw : Nat → Int32) (a b c d held : Int32) (many : Int64) : va_W := (ta, .inl (cB, 16, .inl to)) :: wD h0 h1 h2 cB cI fb fw a b c d held many
abbrev wEg (ta h0 h1 h2 : Nat) (cB cI : ClassId) (to fb fw : Nat → Int32) (g : Dg) : va_W := (ta, .inl (cB, 16, .inl to)) :: wDg h0 h1 h2 cB cI fb fw g
abbrev wK (q : Nat → Nat) (cB cI : ClassId) (key tape sum : Nat → Int32) (has many length : Int32) (fb fw : Nat → Int32) (a b c d held : Int32) (dm : Int64) : va_W := (q 0, .inr (1, [.ref (q 4), .ref (q 1), .ref (q 3), .int has, .int many, .ref (q 2), .int length])) :: (q 1, .inl (cB, 16, .inl key)) :: (q 2, .inl (cB, 2000, .inl tape)) :: (q 3, .inl (cB, 16, .inl sum)) :: wD (q 4) (q 5) (q 6) cB cI fb fw a b c d held dm
abbrev wKg (q : Nat → Nat) (cB cI : ClassId) (key tape sum : Nat → Int32) (has : Int32) (n ln : Nat) (fb fw : Nat → Int32) (g : Dg) : va_W := (q 0, .inr (1, [.ref (q 4), .ref (q 1), .ref (q 3), .int has, .int (nI n), .ref (q 2), .int (nI ln)])) :: (q 1, .inl (cB, 16, .inl key)) :: (q 2, .inl (cB, 2000, .inl tape)) :: (q 3, .inl (cB, 16, .inl sum)) :: wDg (q 4) (q 5) (q 6) cB cI fb fw g
abbrev wM (q : Nat → Nat) (cI : ClassId) (tape : Nat → Int32) (size : Int32) (key blk four now : Nat → Int32) (many : Int32) (result : Nat → Int32) (iss : Int32) : va_W := [(q 0, .inr (2, [.ref (q 1), .ref (q 2), .ref (q 3), .ref (q 4), .ref (q 5), .ref (q 6), .int size, .ref (q 7), .ref (q 8), .ref (q 9), .ref (q 10), .int many, .ref (q 11), .int iss])), (q 1, .inl (cI, 64, .inl md_K)), (q 2, .inl (cI, 16, .inl md_T)), (q 3, .inl (cI, 4, .inl (h4 md_B))), (q 4, .inl (cI, 4, .inl (fun j => nI (md_ti j)))), (q 5, .inl (cI, 4, .inl (fun j => nI (md_mo j)))), (q 6, .inl (cI, 2000, .inl tape)), (q 7, .inl (cI, 16, .inl key)), (q 8, .inl (cI, 64, .inl blk)), (q 9, .inl (cI, 4, .inl four)), (q 10, .inl (cI, 4, .inl now)), (q 11, .inl (cI, 16, .inl result))]
abbrev wMg (q : Nat → Nat) (cI : ClassId) (tape : Nat → Int32) (ln : Nat) (key : Nat → Int32) (g : Dg) (now : V4) (result : Nat → Int32) (iss : Int32) : va_W := wM q cI tape (nI ln) key g.1 (h4 g.2.1) (h4 now) (nI g.2.2) result iss
theorem md_come_lo {g : Dg} (v : Int32) (h : g.2.2 % 64 + 1 < 64) : md_come g v = (upd g.1 (g.2.2 % 64) (v &&& nI 255), g.2.1, g.2.2 + 1) ∧ (g.2.2 + 1) % 64 = g.2.2 % 64 + 1 := by
  have e : (g.2.2 + 1) % 64 = g.2.2 % 64 + 1 := by omega
  refine ⟨?_, e⟩
  unfold md_come
  rw [if_neg (by omega)]
theorem md_come_hi {g : Dg} (v : Int32) (h : 64 ≤ g.2.2 % 64 + 1) : md_come g v = (upd g.1 (g.2.2 % 64) (v &&& nI 255), md_blk (upd g.1 (g.2.2 % 64) (v &&& nI 255)) g.2.1, g.2.2 + 1) ∧ (g.2.2 + 1) % 64 = 0 := by
  have e : (g.2.2 + 1) % 64 = 0 := by omega
  refine ⟨?_, e⟩
  unfold md_come
  rw [if_pos e]
theorem wDg_lo (h0 h1 h2 : Nat) (cB cI : ClassId) (fb fw : Nat → Int32) {g : Dg} (v : Int32) (h : g.2.2 % 64 + 1 < 64) : wDg h0 h1 h2 cB cI fb fw (md_come g v) = wD h0 h1 h2 cB cI fb fw g.2.1.1 g.2.1.2.1 g.2.1.2.2.1 g.2.1.2.2.2 (nI (g.2.2 % 64 + 1)) (lN (g.2.2 + 1)) := by
  rw [(md_come_lo v h).1]
  show wD h0 h1 h2 cB cI fb fw g.2.1.1 g.2.1.2.1 g.2.1.2.2.1 g.2.1.2.2.2 (nI ((g.2.2 + 1) % 64)) (lN (g.2.2 + 1)) = _
  rw [(md_come_lo v h).2]
theorem wDg_hi (h0 h1 h2 : Nat) (cB cI : ClassId) (fb fw : Nat → Int32) {g : Dg} (v : Int32) (h : 64 ≤ g.2.2 % 64 + 1) {w : V4} (hw : w = md_blk (upd g.1 (g.2.2 % 64) (v &&& nI 255)) g.2.1) : wDg h0 h1 h2 cB cI fb fw (md_come g v) = wD h0 h1 h2 cB cI fb fw w.1 w.2.1 w.2.2.1 w.2.2.2 (nI 0) (lN (g.2.2 + 1)) := by
  rw [(md_come_hi v h).1, hw]
  show wD h0 h1 h2 cB cI fb fw _ _ _ _ (nI ((g.2.2 + 1) % 64)) (lN (g.2.2 + 1)) = _
  rw [(md_come_hi v h).2]
/-- a byte laid into a signed block, against the plain one -/
theorem by_upd {N : Nat} {fb blk : Nat → Int32} (h : ∀ j, j < N → fb j &&& nI 255 = blk j) (k : Nat) {x y : Int32} (hx : x &&& nI 255 = y) : ∀ j, j < N → upd fb k x j &&& nI 255 = upd blk k y j := by
  intro j hj
  by_cases e : j = k
  · subst e
    rw [pk_us, pk_us]
    exact hx
  · rw [pk_un e, pk_un e]
    exact h j hj
theorem up_lt {f g : Nat → Int32} {i : Nat} (h : ∀ j, j < i → f j = g j) : ∀ j, j < i + 1 → upd f i (g i) j = g j := by
  intro j hj
  by_cases e : j = i
  · subst e
    exact pk_us
  · rw [pk_un e]
    exact h j (by omega)
theorem up_by {f g : Nat → Int32} {i : Nat} {x : Int32} (h : ∀ j, j < i → f j &&& nI 255 = g j) (hx : x &&& nI 255 = g i) : ∀ j, j < i + 1 → upd f i x j &&& nI 255 = g j := by
  intro j hj
  by_cases e : j = i
  · subst e
    rw [pk_us]
    exact hx
  · rw [pk_un e]
    exact h j (by omega)
theorem md_g_lt (i : Nat) : md_g i < 16 := Nat.mod_lt _ (by decide)
theorem md_ti_le (r : Nat) : md_ti r ≤ 7 := by
  match r with
  | 0 => decide
  | 1 => decide
  | 2 => decide
  | _ + 3 => exact Nat.le_refl 7
theorem md_mo_le (r : Nat) : md_mo r ≤ 5 := by
  match r with
  | 0 => decide
  | 1 => decide
  | 2 => decide
  | _ + 3 => exact Nat.zero_le 5
theorem md_gb {i : Nat} (h : i < 64) : md_ti (i / 16) * i + md_mo (i / 16) < 2 ^ 31 := by
  have h1 : md_ti (i / 16) * i ≤ 7 * 64 := Nat.mul_le_mul (md_ti_le _) (by omega)
  have h2 := md_mo_le (i / 16)
  omega
end
section
set_option maxHeartbeats 4000000 in
set_option maxRecDepth 100000 in
/-- Integer.rotateLeft -/
theorem c_rot (l : Launch) (D : va_G) (tys : List (ClassId × FieldType)) (kt tt : Nat) (x d : Int32) : CtI l y_Integer_rotateLeft w_Integer_rotateLeft { frames := 0, cells := 0, slots := 0, locals := 0 } [.int x, .int d] D tys kt tt [] (fun (r : Int32) (_ : Unit) => r = md_rot x d) (fun _ => []) := by
  refine ctI_of (by decide) (Nat.le_of_ble_eq_true rfl) ?_
  intro p e s m below meth c A ls C0 hr hlk hin hP hD hl
  have C0 : Cx p s m _ c b_Integer_rotateLeft 2 "java/lang/Integer" D tys A kt tt := C0
  obtain ⟨hx, hb, hml, hown, hcm, hK, hA, hZ⟩ := id C0
  have hS : va_S A s.heap s.heap [] := va_S.rf
  have hl : lv_has ls 2 [(0, .int x), (1, .int d)] := hl
  obtain ⟨H, hH⟩ : ∃ H, H = s.heap := ⟨_, rfl⟩
  have hP0 := hP
  rw [← hH] at hP
  have hS : va_S A s.heap H [] := by rw [hH]; exact hS
  suffices hgoal : W p l e _ s m _ below meth c H [] 0 0 _ (F0 m 0 ls []) by rw [hH] at hgoal; exact hgoal
  clear hP0 hH
  refine lv_iload_n hx hb d_Integer_rotateLeft_0 rfl (lv_at hl 0 rfl) ?_
  refine lv_iload_n hx hb d_Integer_rotateLeft_1 rfl (lv_at hl 1 rfl) ?_
  refine lv_ishl hx hb d_Integer_rotateLeft_2 ?_
  refine lv_iload_n hx hb d_Integer_rotateLeft_3 rfl (lv_at hl 0 rfl) ?_
  refine lv_iload_n hx hb d_Integer_rotateLeft_4 rfl (lv_at hl 1 rfl) ?_
  refine lv_ineg hx hb d_Integer_rotateLeft_5 ?_
  refine lv_iushr hx hb d_Integer_rotateLeft_6 rfl ?_
  refine lv_ior hx hb d_Integer_rotateLeft_7 ?_
  exact kr_iret C0 () hr rfl hlk rfl hP hD hS d_Integer_rotateLeft_8
set_option maxHeartbeats 4000000 in
set_option maxRecDepth 100000 in
/-- Digest.begin -/
theorem c_Digest_begin (l : Launch) (D : va_G) (cB cI : ClassId) (kt tt : Nat) (h0 h1 h2 : Nat) (fb fw : Nat → Int32) (xa xb xc xd xh : Int32) (xm : Int64) : CtV l y_Digest_begin w_Digest_begin { frames := 0, cells := 0, slots := 0, locals := 0 } [.ref h0] D (tyL cB cI) kt tt (wD h0 h1 h2 cB cI fb fw xa xb xc xd xh xm) (fun (_ : Unit) => True) (fun _ => wD h0 h1 h2 cB cI fb fw md_B.1 md_B.2.1 md_B.2.2.1 md_B.2.2.2 (nI 0) (lN 0)) := by
  refine ctV_of (by decide) (Nat.le_of_ble_eq_true rfl) ?_
  intro p e s m below meth c A ls C0 hr hlk hin hP hD hl
  have C0 : Cx p s m _ c b_Digest_begin 1 "KeySums$Digest" D (tyL cB cI) A kt tt := C0
  obtain ⟨hx, hb, hml, hown, hcm, hK, hA, hZ⟩ := id C0
  have hS : va_S A s.heap s.heap [] := va_S.rf
  have hl : lv_has ls 1 [(0, .ref h0)] := hl
  obtain ⟨H, hH⟩ : ∃ H, H = s.heap := ⟨_, rfl⟩
  have hP0 := hP
  rw [← hH] at hP
  have hS : va_S A s.heap H [] := by rw [hH]; exact hS
  suffices hgoal : W p l e _ s m _ below meth c H [] 0 0 _ (F0 m 0 ls []) by rw [hH] at hgoal; exact hgoal
  clear hP0 hH
  refine lv_aload_n hx hb d_Digest_begin_0 rfl (lv_at hl 0 rfl) ?_
  refine lv_ldc hx hb hown (hcm _ kw_57) d_Digest_begin_1 ?_
  refine va_put (D := D) (ci := 0) (v := .int 1732584193) (ty := .int) (C := "KeySums$Digest") (T := F_Digest) (N := 8) hx hb hcm i_Digest t_Digest t_Digest_ok n_Digest hown hK hP hD hS 0 rfl rfl 2 (by decide) (hcm _ kw_28) (fun _ h9 => h9) rfl (by decide +kernel) rfl rfl (Nat.le_of_ble_eq_true rfl) d_Digest_begin_3 (fun H locs hP hD hS => ?_)
  have hP : va_P D classes (wD h0 h1 h2 cB cI fb fw 1732584193 xb xc xd xh xm) H := hP
  have hD : va_D A (wD h0 h1 h2 cB cI fb fw 1732584193 xb xc xd xh xm) := hD
  refine lv_aload_n hx hb d_Digest_begin_6 rfl (lv_at hl 0 rfl) ?_
  refine lv_ldc hx hb hown (hcm _ kw_58) d_Digest_begin_7 ?_
  refine va_put (D := D) (ci := 0) (v := .int (-271733879)) (ty := .int) (C := "KeySums$Digest") (T := F_Digest) (N := 8) hx hb hcm i_Digest t_Digest t_Digest_ok n_Digest hown hK hP hD hS 0 rfl rfl 3 (by decide) (hcm _ kw_29) (fun _ h9 => h9) rfl (by decide +kernel) rfl rfl (Nat.le_of_ble_eq_true rfl) d_Digest_begin_9 (fun H locs hP hD hS => ?_)
  have hP : va_P D classes (wD h0 h1 h2 cB cI fb fw 1732584193 (-271733879) xc xd xh xm) H := hP
  have hD : va_D A (wD h0 h1 h2 cB cI fb fw 1732584193 (-271733879) xc xd xh xm) := hD
  refine lv_aload_n hx hb d_Digest_begin_12 rfl (lv_at hl 0 rfl) ?_
  refine lv_ldc hx hb hown (hcm _ kw_59) d_Digest_begin_13 ?_
  refine va_put (D := D) (ci := 0) (v := .int (-1732584194)) (ty := .int) (C := "KeySums$Digest") (T := F_Digest) (N := 8) hx hb hcm i_Digest t_Digest t_Digest_ok n_Digest hown hK hP hD hS 0 rfl rfl 4 (by decide) (hcm _ kw_30) (fun _ h9 => h9) rfl (by decide +kernel) rfl rfl (Nat.le_of_ble_eq_true rfl) d_Digest_begin_15 (fun H locs hP hD hS => ?_)
  have hP : va_P D classes (wD h0 h1 h2 cB cI fb fw 1732584193 (-271733879) (-1732584194) xd xh xm) H := hP
  have hD : va_D A (wD h0 h1 h2 cB cI fb fw 1732584193 (-271733879) (-1732584194) xd xh xm) := hD
  refine lv_aload_n hx hb d_Digest_begin_18 rfl (lv_at hl 0 rfl) ?_
  refine lv_ldc hx hb hown (hcm _ kw_60) d_Digest_begin_19 ?_
  refine va_put (D := D) (ci := 0) (v := .int 271733878) (ty := .int) (C := "KeySums$Digest") (T := F_Digest) (N := 8) hx hb hcm i_Digest t_Digest t_Digest_ok n_Digest hown hK hP hD hS 0 rfl rfl 5 (by decide) (hcm _ kw_31) (fun _ h9 => h9) rfl (by decide +kernel) rfl rfl (Nat.le_of_ble_eq_true rfl) d_Digest_begin_21 (fun H locs hP hD hS => ?_)
  have hP : va_P D classes (wD h0 h1 h2 cB cI fb fw 1732584193 (-271733879) (-1732584194) 271733878 xh xm) H := hP
  have hD : va_D A (wD h0 h1 h2 cB cI fb fw 1732584193 (-271733879) (-1732584194) 271733878 xh xm) := hD
  refine lv_aload_n hx hb d_Digest_begin_24 rfl (lv_at hl 0 rfl) ?_
  refine lv_iconst (v := nI 0) hx hb d_Digest_begin_25 (by decide) ?_
  refine va_put (D := D) (ci := 0) (v := .int (nI 0)) (ty := .int) (C := "KeySums$Digest") (T := F_Digest) (N := 8) hx hb hcm i_Digest t_Digest t_Digest_ok n_Digest hown hK hP hD hS 0 rfl rfl 6 (by decide) (hcm _ kw_32) (fun _ h9 => h9) rfl (by decide +kernel) rfl rfl (Nat.le_of_ble_eq_true rfl) d_Digest_begin_26 (fun H locs hP hD hS => ?_)
  have hP : va_P D classes (wD h0 h1 h2 cB cI fb fw 1732584193 (-271733879) (-1732584194) 271733878 (nI 0) xm) H := hP
  have hD : va_D A (wD h0 h1 h2 cB cI fb fw 1732584193 (-271733879) (-1732584194) 271733878 (nI 0) xm) := hD
  refine lv_aload_n hx hb d_Digest_begin_29 rfl (lv_at hl 0 rfl) ?_
  refine lv_lconst (v := 0) hx hb d_Digest_begin_30 (by decide) ?_
  refine va_put (D := D) (ci := 0) (v := .long 0) (ty := .long) (C := "KeySums$Digest") (T := F_Digest) (N := 8) hx hb hcm i_Digest t_Digest t_Digest_ok n_Digest hown hK hP hD hS 0 rfl rfl 7 (by decide) (hcm _ kw_33) (fun _ h9 => h9) rfl (by decide +kernel) rfl rfl (Nat.le_of_ble_eq_true rfl) d_Digest_begin_31 (fun H locs hP hD hS => ?_)
  have hP : va_P D classes (wD h0 h1 h2 cB cI fb fw 1732584193 (-271733879) (-1732584194) 271733878 (nI 0) 0) H := hP
  have hD : va_D A (wD h0 h1 h2 cB cI fb fw 1732584193 (-271733879) (-1732584194) 271733878 (nI 0) 0) := hD
  exact kr_vret C0 () hr hlk trivial hP hD hS d_Digest_begin_34
set_option maxHeartbeats 4000000 in
set_option maxRecDepth 100000 in
/-- Digest(): two arrays come -/
theorem c_Digest_init (l : Launch) (D : va_G) (cB cI : ClassId) (kt tt : Nat) (h0 : Nat) : CtV l y_Digest_init w_Digest_init { frames := 1, cells := 2, slots := 80, locals := 12 } [.ref h0] D (tyL cB cI) kt tt [(h0, .inr (0, [.null, .null, .int 0, .int 0, .int 0, .int 0, .int 0, .long 0]))] (fun (_ : Nat × Nat) => True) (fun u => wD h0 u.1 u.2 cB cI (fun _ => 0) (fun _ => 0) 0 0 0 0 0 0) := by
  refine ctV_of (by decide) (Nat.le_of_ble_eq_true rfl) ?_
  intro p e s m below meth c A ls C0 hr hlk hin hP hD hl
  have C0 : Cx p s m _ c b_Digest_init 1 "KeySums$Digest" D (tyL cB cI) A kt tt := C0
  obtain ⟨hx, hb, hml, hown, hcm, hK, hA, hZ⟩ := id C0
  have hS : va_S A s.heap s.heap [] := va_S.rf
  have hin : meth.name = "<init>" := hin
  have hl : lv_has ls 1 [(0, .ref h0)] := hl
  obtain ⟨H, hH⟩ : ∃ H, H = s.heap := ⟨_, rfl⟩
  have hP0 := hP
  rw [← hH] at hP
  have hS : va_S A s.heap H [] := by rw [hH]; exact hS
  suffices hgoal : W p l e _ s m _ below meth c H [] 0 0 _ (F0 m 0 ls []) by rw [hH] at hgoal; exact hgoal
  clear hP0 hH
  refine lv_aload_n hx hb d_Digest_init_0 rfl (lv_at hl 0 rfl) ?_
  refine W.objInit hx hb hown (hcm _ kw_25) (hcm _ kw_18) (hcm _ kw_19) rfl (by rw [hml]; exact hl.1) rfl d_Digest_init_1 (Nat.le_of_ble_eq_true rfl) (Nat.le_of_ble_eq_true rfl) ?_
  refine W.eq (g2 := F0 m 4 ls []) rfl ?_
  refine lv_aload_n hx hb d_Digest_init_4 rfl (lv_at hl 0 rfl) ?_
  refine lv_bipush (v := nI 64) hx hb d_Digest_init_5 (by decide) ?_
  refine kr_newB C0 hP hD hS (k := 64) (by decide) (Nat.le_of_ble_eq_true rfl) (Nat.le_of_ble_eq_true rfl) d_Digest_init_7 (fun a7 H hP hD hS => ?_)
  have hP : va_P D classes [(h0, .inr (0, [.null, .null, .int 0, .int 0, .int 0, .int 0, .int 0, .long 0])), (a7, .inl (cB, 64, .inl (fun _ => 0)))] H := hP
  have hD : va_D A [(h0, .inr (0, [.null, .null, .int 0, .int 0, .int 0, .int 0, .int 0, .long 0])), (a7, .inl (cB, 64, .inl (fun _ => 0)))] := hD
  refine va_putF (D := D) (ci := 0) (v := .ref a7) (ty := .array .byte) (C := "KeySums$Digest") (T := F_Digest) (N := 8) hx hb hcm i_Digest t_Digest t_Digest_ok n_Digest hown hK hP hD hS 0 rfl rfl 0 (by decide) (hcm _ kw_26) (fun _ h9 => h9) rfl hin rfl (by decide +kernel) rfl rfl (Nat.le_of_ble_eq_true rfl) d_Digest_init_9 (fun H locs hP hD hS => ?_)
  have hP : va_P D classes [(h0, .inr (0, [.ref a7, .null, .int 0, .int 0, .int 0, .int 0, .int 0, .long 0])), (a7, .inl (cB, 64, .inl (fun _ => 0)))] H := hP
  have hD : va_D A [(h0, .inr (0, [.ref a7, .null, .int 0, .int 0, .int 0, .int 0, .int 0, .long 0])), (a7, .inl (cB, 64, .inl (fun _ => 0)))] := hD
  refine lv_aload_n hx hb d_Digest_init_12 rfl (lv_at hl 0 rfl) ?_
  refine lv_bipush (v := nI 16) hx hb d_Digest_init_13 (by decide) ?_
  refine kr_newI C0 hP hD hS (k := 16) (by decide) (Nat.le_of_ble_eq_true rfl) (Nat.le_of_ble_eq_true rfl) d_Digest_init_15 (fun a15 H hP hD hS => ?_)
  have hP : va_P D classes [(h0, .inr (0, [.ref a7, .null, .int 0, .int 0, .int 0, .int 0, .int 0, .long 0])), (a7, .inl (cB, 64, .inl (fun _ => 0))), (a15, .inl (cI, 16, .inl (fun _ => 0)))] H := hP
  have hD : va_D A [(h0, .inr (0, [.ref a7, .null, .int 0, .int 0, .int 0, .int 0, .int 0, .long 0])), (a7, .inl (cB, 64, .inl (fun _ => 0))), (a15, .inl (cI, 16, .inl (fun _ => 0)))] := hD
  refine va_putF (D := D) (ci := 0) (v := .ref a15) (ty := .array .int) (C := "KeySums$Digest") (T := F_Digest) (N := 8) hx hb hcm i_Digest t_Digest t_Digest_ok n_Digest hown hK hP hD hS 0 rfl rfl 1 (by decide) (hcm _ kw_27) (fun _ h9 => h9) rfl hin rfl (by decide +kernel) rfl rfl (Nat.le_of_ble_eq_true rfl) d_Digest_init_17 (fun H locs hP hD hS => ?_)
  have hP : va_P D classes [(h0, .inr (0, [.ref a7, .ref a15, .int 0, .int 0, .int 0, .int 0, .int 0, .long 0])), (a7, .inl (cB, 64, .inl (fun _ => 0))), (a15, .inl (cI, 16, .inl (fun _ => 0)))] H := hP
  have hD : va_D A [(h0, .inr (0, [.ref a7, .ref a15, .int 0, .int 0, .int 0, .int 0, .int 0, .long 0])), (a7, .inl (cB, 64, .inl (fun _ => 0))), (a15, .inl (cI, 16, .inl (fun _ => 0)))] := hD
  exact kr_vret C0 (a7, a15) hr hlk trivial hP hD hS d_Digest_init_20
end
section
set_option maxHeartbeats 4000000 in
set_option maxRecDepth 100000 in
/-- mix: the words are laid -/
theorem lp_mix1 {p : Program} {l : Launch} {e : Env} {s : State} {m : MethodId} {args : Array Value} {below : List Frame} {meth : Method} {c : Code} {Q : State → Prop} {D : va_G} {cB cI : ClassId} {A : Nat → Prop} {kt tt : Nat} (C0 : Cx p s m args c b_Digest_mix 9 "KeySums$Digest" D (tyL cB cI) A kt tt) (h0 h1 h2 : Nat) (fb blk : Nat → Int32) (xa xb xc xd xh : Int32) (xm : Int64) (hbl : ∀ j, j < 64 → fb j &&& nI 255 = blk j)
    (kk : ∀ (fw : Nat → Int32) (H : Heap) (locs : List Loc) (ls : Array Slot), (∀ j, j < 16 → fw j = md_word blk j) → va_P D classes (wD h0 h1 h2 cB cI fb fw xa xb xc xd xh xm) H → va_D A (wD h0 h1 h2 cB cI fb fw xa xb xc xd xh xm) → va_S A s.heap H locs → lv_has ls 9 [(0, .ref h0)] → W p l e ({ frames := 1, cells := 0, slots := 0, locals := 21 } : Room) s m args below meth c H locs 0 0 Q (F0 m 82 ls [])) :
    ∀ (n i : Nat) (fw : Nat → Int32) (H : Heap) (locs : List Loc) (ls : Array Slot), i + n = 16 → (∀ j, j < i → fw j = md_word blk j) → va_P D classes (wD h0 h1 h2 cB cI fb fw xa xb xc xd xh xm) H → va_D A (wD h0 h1 h2 cB cI fb fw xa xb xc xd xh xm) → va_S A s.heap H locs → lv_has ls 9 [(0, .ref h0), (1, .int (nI i))] → W p l e ({ frames := 1, cells := 0, slots := 0, locals := 21 } : Room) s m args below meth c H locs 0 0 Q (F0 m 2 ls []) := by
  obtain ⟨hx, hb, hml, hown, hcm, hK, hA, hZ⟩ := id C0
  intro n
  induction n with
  | zero =>
    intro i fw H locs ls hi hinv hP hD hS hl
    refine lv_iload_n hx hb d_Digest_mix_2 rfl (lv_at hl 1 rfl) ?_
    refine lv_bipush (v := nI 16) hx hb d_Digest_mix_3 (by decide) ?_
    refine kr_icmp_ge C0 (by omega) (by omega) (tgt := 82) d_Digest_mix_5 (by decide) (fun c_5 => ?_) (fun c_5 => ?_)
    · exact kk fw H locs ls (fun j hj => hinv j (by omega)) hP hD hS (lv_sub hl [0] rfl)
    · exact absurd c_5 (by omega)
  | succ n ih =>
    intro i fw H locs ls hi hinv hP hD hS hl
    refine lv_iload_n hx hb d_Digest_mix_2 rfl (lv_at hl 1 rfl) ?_
    refine lv_bipush (v := nI 16) hx hb d_Digest_mix_3 (by decide) ?_
    refine kr_icmp_ge C0 (by omega) (by omega) (tgt := 82) d_Digest_mix_5 (by decide) (fun c_5 => ?_) (fun c_5 => ?_)
    · exact absurd c_5 (by omega)
    · refine lv_aload_n hx hb d_Digest_mix_8 rfl (lv_at hl 0 rfl) ?_
      refine va_get (D := D) (ci := 0) (v := .ref h2) (C := "KeySums$Digest") (T := F_Digest) (N := 8) hx hb hcm i_Digest hown hK hP 0 rfl rfl 1 (by decide) (hcm _ kw_27) (fun _ h9 => h9) rfl d_Digest_mix_9 ?_
      refine lv_iload_n hx hb d_Digest_mix_12 rfl (lv_at hl 1 rfl) ?_
      refine lv_aload_n hx hb d_Digest_mix_13 rfl (lv_at hl 0 rfl) ?_
      refine va_get (D := D) (ci := 0) (v := .ref h1) (C := "KeySums$Digest") (T := F_Digest) (N := 8) hx hb hcm i_Digest hown hK hP 0 rfl rfl 0 (by decide) (hcm _ kw_26) (fun _ h9 => h9) rfl d_Digest_mix_14 ?_
      refine lv_iconst (v := nI 4) hx hb d_Digest_mix_17 (by decide) ?_
      refine lv_iload_n hx hb d_Digest_mix_18 rfl (lv_at hl 1 rfl) ?_
      refine lv_imul hx hb d_Digest_mix_19 ?_
      refine kt_i (y := nI (4 * i)) (pk_mul 4 i) ?_
      refine kr_bald C0 hP 1 0 rfl rfl (k := 4 * i) (by omega) (by decide) d_Digest_mix_20 ?_
      refine lv_sipush (v := nI 255) hx hb d_Digest_mix_21 (by decide) ?_
      refine lv_iand hx hb d_Digest_mix_24 ?_
      refine lv_aload_n hx hb d_Digest_mix_25 rfl (lv_at hl 0 rfl) ?_
      refine va_get (D := D) (ci := 0) (v := .ref h1) (C := "KeySums$Digest") (T := F_Digest) (N := 8) hx hb hcm i_Digest hown hK hP 0 rfl rfl 0 (by decide) (hcm _ kw_26) (fun _ h9 => h9) rfl d_Digest_mix_26 ?_
      refine lv_iconst (v := nI 4) hx hb d_Digest_mix_29 (by decide) ?_
      refine lv_iload_n hx hb d_Digest_mix_30 rfl (lv_at hl 1 rfl) ?_
      refine lv_imul hx hb d_Digest_mix_31 ?_
      refine lv_iconst (v := nI 1) hx hb d_Digest_mix_32 (by decide) ?_
      refine lv_iadd hx hb d_Digest_mix_33 ?_
      refine kt_i (y := nI (4 * i + 1)) (by rw [pk_mul, nI_add]) ?_
      refine kr_bald C0 hP 1 0 rfl rfl (k := 4 * i + 1) (by omega) (by decide) d_Digest_mix_34 ?_
      refine lv_sipush (v := nI 255) hx hb d_Digest_mix_35 (by decide) ?_
      refine lv_iand hx hb d_Digest_mix_38 ?_
      refine lv_bipush (v := nI 8) hx hb d_Digest_mix_39 (by decide) ?_
      refine lv_ishl hx hb d_Digest_mix_41 ?_
      refine lv_ior hx hb d_Digest_mix_42 ?_
      refine lv_aload_n hx hb d_Digest_mix_43 rfl (lv_at hl 0 rfl) ?_
      refine va_get (D := D) (ci := 0) (v := .ref h1) (C := "KeySums$Digest") (T := F_Digest) (N := 8) hx hb hcm i_Digest hown hK hP 0 rfl rfl 0 (by decide) (hcm _ kw_26) (fun _ h9 => h9) rfl d_Digest_mix_44 ?_
      refine lv_iconst (v := nI 4) hx hb d_Digest_mix_47 (by decide) ?_
      refine lv_iload_n hx hb d_Digest_mix_48 rfl (lv_at hl 1 rfl) ?_
      refine lv_imul hx hb d_Digest_mix_49 ?_
      refine lv_iconst (v := nI 2) hx hb d_Digest_mix_50 (by decide) ?_
      refine lv_iadd hx hb d_Digest_mix_51 ?_
      refine kt_i (y := nI (4 * i + 2)) (by rw [pk_mul, nI_add]) ?_
      refine kr_bald C0 hP 1 0 rfl rfl (k := 4 * i + 2) (by omega) (by decide) d_Digest_mix_52 ?_
      refine lv_sipush (v := nI 255) hx hb d_Digest_mix_53 (by decide) ?_
      refine lv_iand hx hb d_Digest_mix_56 ?_
      refine lv_bipush (v := nI 16) hx hb d_Digest_mix_57 (by decide) ?_
      refine lv_ishl hx hb d_Digest_mix_59 ?_
      refine lv_ior hx hb d_Digest_mix_60 ?_
      refine lv_aload_n hx hb d_Digest_mix_61 rfl (lv_at hl 0 rfl) ?_
      refine va_get (D := D) (ci := 0) (v := .ref h1) (C := "KeySums$Digest") (T := F_Digest) (N := 8) hx hb hcm i_Digest hown hK hP 0 rfl rfl 0 (by decide) (hcm _ kw_26) (fun _ h9 => h9) rfl d_Digest_mix_62 ?_
      refine lv_iconst (v := nI 4) hx hb d_Digest_mix_65 (by decide) ?_
      refine lv_iload_n hx hb d_Digest_mix_66 rfl (lv_at hl 1 rfl) ?_
      refine lv_imul hx hb d_Digest_mix_67 ?_
      refine lv_iconst (v := nI 3) hx hb d_Digest_mix_68 (by decide) ?_
      refine lv_iadd hx hb d_Digest_mix_69 ?_
      refine kt_i (y := nI (4 * i + 3)) (by rw [pk_mul, nI_add]) ?_
      refine kr_bald C0 hP 1 0 rfl rfl (k := 4 * i + 3) (by omega) (by decide) d_Digest_mix_70 ?_
      refine lv_bipush (v := nI 24) hx hb d_Digest_mix_71 (by decide) ?_
      refine lv_ishl hx hb d_Digest_mix_73 ?_
      refine lv_ior hx hb d_Digest_mix_74 ?_
      refine kt_i (y := md_word blk i) (by rw [by_sh24 (fb (4 * i + 3)), hbl (4 * i) (by omega), hbl (4 * i + 1) (by omega), hbl (4 * i + 2) (by omega), hbl (4 * i + 3) (by omega)]; rfl) ?_
      refine kr_iast C0 hP hD hS 2 1 rfl rfl (k := i) (x := md_word blk i) (by omega) (by decide) d_Digest_mix_75 (fun H locs hP hD hS => ?_)
      have hP : va_P D classes (wD h0 h1 h2 cB cI fb (upd fw i (md_word blk i)) xa xb xc xd xh xm) H := hP
      have hD : va_D A (wD h0 h1 h2 cB cI fb (upd fw i (md_word blk i)) xa xb xc xd xh xm) := hD
      refine lv_iinc (v := nI (i + 1)) (lv' := [(1, .int (nI (i + 1))), (0, .ref h0)]) hx hb d_Digest_mix_76 hl (k := 1) rfl (nI_1 i) (by decide) rfl (fun ls hl => ?_)
      refine lv_goto (tgt := 2) hx hb d_Digest_mix_79 (by decide) ?_
      exact ih (i + 1) _ H locs ls (by omega) (up_lt hinv) hP hD hS (lv_sub hl [1, 0] rfl)
set_option maxHeartbeats 4000000 in
set_option maxRecDepth 100000 in
/-- mix: one step -/
theorem lp_mixs {p : Program} {l : Launch} {e : Env} {s : State} {m : MethodId} {args : Array Value} {below : List Frame} {meth : Method} {c : Code} {Q : State → Prop} {D : va_G} {cB cI : ClassId} {A : Nat → Prop} {kt tt : Nat} (C0 : Cx p s m args c b_Digest_mix 9 "KeySums$Digest" D (tyL cB cI) A kt tt) (h0 h1 h2 : Nat) (fb fw blk : Nat → Int32) (xa xb xc xd xh : Int32) (xm : Int64) (hfw : ∀ j, j < 16 → fw j = md_word blk j) (i : Nat) (v : V4) (hi : i < 64) (H : Heap) (locs : List Loc) (hP : va_P D classes (wD h0 h1 h2 cB cI fb fw xa xb xc xd xh xm) H) (hD : va_D A (wD h0 h1 h2 cB cI fb fw xa xb xc xd xh xm)) (hS : va_S A s.heap H locs)
    (kk : ∀ (H : Heap) (locs : List Loc) (ls : Array Slot), va_P D classes (wD h0 h1 h2 cB cI fb fw xa xb xc xd xh xm) H → va_D A (wD h0 h1 h2 cB cI fb fw xa xb xc xd xh xm) → va_S A s.heap H locs → lv_has ls 9 [(0, .ref h0), (1, .int (md_step (md_word blk) i v).1), (2, .int (md_step (md_word blk) i v).2.1), (3, .int (md_step (md_word blk) i v).2.2.1), (4, .int (md_step (md_word blk) i v).2.2.2), (5, .int (nI (i + 1)))] → W p l e ({ frames := 1, cells := 0, slots := 0, locals := 21 } : Room) s m args below meth c H locs 0 0 Q (F0 m 106 ls []))
    (ls : Array Slot) (hl : lv_has ls 9 [(0, .ref h0), (1, .int v.1), (2, .int v.2.1), (3, .int v.2.2.1), (4, .int v.2.2.2), (5, .int (nI i))]) : W p l e ({ frames := 1, cells := 0, slots := 0, locals := 21 } : Room) s m args below meth c H locs 0 0 Q (F0 m 113 ls []) := by
  obtain ⟨hx, hb, hml, hown, hcm, hK, hA, hZ⟩ := id C0
  have tail : ∀ (ls : Array Slot), lv_has ls 9 [(0, .ref h0), (1, .int v.1), (2, .int v.2.1), (3, .int v.2.2.1), (4, .int v.2.2.2), (5, .int (nI i)), (6, .int (md_f (i / 16) v.2.1 v.2.2.1 v.2.2.2)), (7, .int (nI (md_ti (i / 16) * i + md_mo (i / 16))))] → W p l e ({ frames := 1, cells := 0, slots := 0, locals := 21 } : Room) s m args below meth c H locs 0 0 Q (F0 m 223 ls []) := by
    intro ls hl
    refine lv_iload_n hx hb d_Digest_mix_223 rfl (lv_at hl 2 rfl) ?_
    refine lv_iload_n hx hb d_Digest_mix_224 rfl (lv_at hl 1 rfl) ?_
    refine lv_iload hx hb d_Digest_mix_225 (lv_at hl 6 rfl) ?_
    refine lv_iadd hx hb d_Digest_mix_227 ?_
    refine va_gets hx hb hZ.1 hS hown (hcm _ kw_103) (fun _ h9 => h9) d_Digest_mix_228 ?_
    refine lv_iload hx hb d_Digest_mix_231 (lv_at hl 5 rfl) ?_
    refine kr_ti C0 hS (f := md_K) hZ.2.1 (k := i) hi (by decide) d_Digest_mix_233 ?_
    refine lv_iadd hx hb d_Digest_mix_234 ?_
    refine lv_aload_n hx hb d_Digest_mix_235 rfl (lv_at hl 0 rfl) ?_
    refine va_get (D := D) (ci := 0) (v := .ref h2) (C := "KeySums$Digest") (T := F_Digest) (N := 8) hx hb hcm i_Digest hown hK hP 0 rfl rfl 1 (by decide) (hcm _ kw_27) (fun _ h9 => h9) rfl d_Digest_mix_236 ?_
    refine lv_iload hx hb d_Digest_mix_239 (lv_at hl 7 rfl) ?_
    refine lv_bipush (v := nI 16) hx hb d_Digest_mix_241 (by decide) ?_
    refine lv_irem hx hb d_Digest_mix_243 (by decide) ?_
    refine kt_i (y := nI (md_g i)) (pk_rem (md_gb hi) (by decide) (by decide)) ?_
    refine kr_iald C0 hP 2 1 rfl rfl (k := md_g i) (md_g_lt i) (by decide) d_Digest_mix_244 ?_
    refine kt_i (y := md_word blk (md_g i)) (hfw _ (md_g_lt i)) ?_
    refine lv_iadd hx hb d_Digest_mix_245 ?_
    refine va_gets hx hb hZ.2.2.1 hS hown (hcm _ kw_105) (fun _ h9 => h9) d_Digest_mix_246 ?_
    refine lv_iconst (v := nI 4) hx hb d_Digest_mix_249 (by decide) ?_
    refine lv_iload hx hb d_Digest_mix_250 (lv_at hl 5 rfl) ?_
    refine lv_bipush (v := nI 16) hx hb d_Digest_mix_252 (by decide) ?_
    refine lv_idiv hx hb d_Digest_mix_254 (by decide) ?_
    refine kt_i (y := nI (i / 16)) (pk_div (by omega) (by decide) (by decide)) ?_
    refine lv_imul hx hb d_Digest_mix_255 ?_
    refine lv_iload hx hb d_Digest_mix_256 (lv_at hl 5 rfl) ?_
    refine lv_iconst (v := nI 4) hx hb d_Digest_mix_258 (by decide) ?_
    refine lv_irem hx hb d_Digest_mix_259 (by decide) ?_
    refine kt_i (y := nI (i % 4)) (pk_rem (by omega) (by decide) (by decide)) ?_
    refine lv_iadd hx hb d_Digest_mix_260 ?_
    refine kt_i (y := nI (4 * (i / 16) + i % 4)) (by rw [pk_mul, nI_add]) ?_
    refine kr_ti C0 hS (f := md_T) hZ.2.2.2.1 (k := 4 * (i / 16) + i % 4) (by omega) (by decide) d_Digest_mix_261 ?_
    refine cl_Si C0 (rest := [.int v.2.1]) (wr := [(h0, .inr (0, [.ref h1, .ref h2, .int xa, .int xb, .int xc, .int xd, .int xh, .long xm])), (h1, .inl (cB, 64, .inl fb)), (h2, .inl (cI, 16, .inl fw))]) [.int (((v.1 + (md_f (i / 16) v.2.1 v.2.2.1 v.2.2.2)) + (md_K i)) + (md_word blk (md_g i))), .int (md_T (4 * (i / 16) + i % 4))] (c_rot l D _ kt tt _ _) (va_cwS 2 hcm (gd_S kw_107 kw_108 kw_11 kw_109) rfl rfl rfl (by decide +kernel) ⟨Nat.le_of_ble_eq_true rfl, Nat.le_of_ble_eq_true rfl⟩) hP hD hS [] [0, 1, 2] rfl rfl rfl rfl (by decide) rfl rfl hl.1 (Nat.le_of_ble_eq_true rfl) d_Digest_mix_262 ⟨Nat.le_of_ble_eq_true rfl, Nat.le_of_ble_eq_true rfl⟩ (fun r u H locs hw hP hD hS => ?_)
    have hP : va_P D classes (wD h0 h1 h2 cB cI fb fw xa xb xc xd xh xm) H := hP
    have hD : va_D A (wD h0 h1 h2 cB cI fb fw xa xb xc xd xh xm) := hD
    refine lv_iadd hx hb d_Digest_mix_265 ?_
    refine kt_i (y := (md_step (md_word blk) i v).2.1) (by rw [hw]; rfl) ?_
    refine lv_istore (lv' := [(8, .int ((md_step (md_word blk) i v).2.1)), (0, .ref h0), (1, .int v.1), (2, .int v.2.1), (3, .int v.2.2.1), (4, .int v.2.2.2), (5, .int (nI i)), (6, .int (md_f (i / 16) v.2.1 v.2.2.1 v.2.2.2)), (7, .int (nI (md_ti (i / 16) * i + md_mo (i / 16))))]) hx hb d_Digest_mix_266 hl (by decide) rfl (fun ls hl => ?_)
    refine lv_iload hx hb d_Digest_mix_268 (lv_at hl 5 rfl) ?_
    refine lv_istore_n (lv' := [(1, .int v.2.2.2), (8, .int ((md_step (md_word blk) i v).2.1)), (0, .ref h0), (2, .int v.2.1), (3, .int v.2.2.1), (4, .int v.2.2.2), (5, .int (nI i)), (6, .int (md_f (i / 16) v.2.1 v.2.2.1 v.2.2.2)), (7, .int (nI (md_ti (i / 16) * i + md_mo (i / 16))))]) hx hb d_Digest_mix_270 rfl hl (by decide) rfl (fun ls hl => ?_)
    refine lv_iload_n hx hb d_Digest_mix_271 rfl (lv_at hl 4 rfl) ?_
    refine lv_istore (lv' := [(4, .int v.2.2.1), (1, .int v.2.2.2), (8, .int ((md_step (md_word blk) i v).2.1)), (0, .ref h0), (2, .int v.2.1), (3, .int v.2.2.1), (5, .int (nI i)), (6, .int (md_f (i / 16) v.2.1 v.2.2.1 v.2.2.2)), (7, .int (nI (md_ti (i / 16) * i + md_mo (i / 16))))]) hx hb d_Digest_mix_272 hl (by decide) rfl (fun ls hl => ?_)
    refine lv_iload_n hx hb d_Digest_mix_274 rfl (lv_at hl 4 rfl) ?_
    refine lv_istore_n (lv' := [(3, .int v.2.1), (4, .int v.2.2.1), (1, .int v.2.2.2), (8, .int ((md_step (md_word blk) i v).2.1)), (0, .ref h0), (2, .int v.2.1), (5, .int (nI i)), (6, .int (md_f (i / 16) v.2.1 v.2.2.1 v.2.2.2)), (7, .int (nI (md_ti (i / 16) * i + md_mo (i / 16))))]) hx hb d_Digest_mix_275 rfl hl (by decide) rfl (fun ls hl => ?_)
    refine lv_iload hx hb d_Digest_mix_276 (lv_at hl 3 rfl) ?_
    refine lv_istore_n (lv' := [(2, .int ((md_step (md_word blk) i v).2.1)), (3, .int v.2.1), (4, .int v.2.2.1), (1, .int v.2.2.2), (8, .int ((md_step (md_word blk) i v).2.1)), (0, .ref h0), (5, .int (nI i)), (6, .int (md_f (i / 16) v.2.1 v.2.2.1 v.2.2.2)), (7, .int (nI (md_ti (i / 16) * i + md_mo (i / 16))))]) hx hb d_Digest_mix_278 rfl hl (by decide) rfl (fun ls hl => ?_)
    refine lv_iinc (v := nI (i + 1)) (lv' := [(5, .int (nI (i + 1))), (2, .int ((md_step (md_word blk) i v).2.1)), (3, .int v.2.1), (4, .int v.2.2.1), (1, .int v.2.2.2), (8, .int ((md_step (md_word blk) i v).2.1)), (0, .ref h0), (6, .int (md_f (i / 16) v.2.1 v.2.2.1 v.2.2.2)), (7, .int (nI (md_ti (i / 16) * i + md_mo (i / 16))))]) hx hb d_Digest_mix_279 hl (k := 6) rfl (nI_1 i) (by decide) rfl (fun ls hl => ?_)
    refine lv_goto (tgt := 106) hx hb d_Digest_mix_282 (by decide) ?_
    exact kk H locs ls hP hD hS (lv_sub hl [6, 4, 1, 2, 3, 0] rfl)
  refine lv_iload hx hb d_Digest_mix_113 (lv_at hl 5 rfl) ?_
  refine lv_bipush (v := nI 16) hx hb d_Digest_mix_115 (by decide) ?_
  refine lv_idiv hx hb d_Digest_mix_117 (by decide) ?_
  refine kt_i (y := nI (i / 16)) (pk_div (by omega) (by decide) (by decide)) ?_
  have hr4 : i / 16 = 0 ∨ i / 16 = 1 ∨ i / 16 = 2 ∨ i / 16 = 3 := by omega
  rcases hr4 with hr4 | hr4 | hr4 | hr4
  · refine lv_tableIn (off := 26) (tgt := 144) hx hb d_Digest_mix_118 (by rw [hr4]; decide) (by rw [hr4]; decide) (by rw [hr4]; decide) (by decide) ?_
    refine lv_iload_n hx hb d_Digest_mix_144 rfl (lv_at hl 2 rfl) ?_
    refine lv_iload_n hx hb d_Digest_mix_145 rfl (lv_at hl 3 rfl) ?_
    refine lv_iand hx hb d_Digest_mix_146 ?_
    refine lv_iload_n hx hb d_Digest_mix_147 rfl (lv_at hl 2 rfl) ?_
    refine lv_iconst (v := -1) hx hb d_Digest_mix_148 (by decide) ?_
    refine lv_ixor hx hb d_Digest_mix_149 ?_
    refine lv_iload hx hb d_Digest_mix_150 (lv_at hl 4 rfl) ?_
    refine lv_iand hx hb d_Digest_mix_152 ?_
    refine lv_ior hx hb d_Digest_mix_153 ?_
    refine kt_i (y := md_f (i / 16) v.2.1 v.2.2.1 v.2.2.2) (by rw [hr4]; rfl) ?_
    refine lv_istore (lv' := [(6, .int (md_f (i / 16) v.2.1 v.2.2.1 v.2.2.2)), (0, .ref h0), (1, .int v.1), (2, .int v.2.1), (3, .int v.2.2.1), (4, .int v.2.2.2), (5, .int (nI i))]) hx hb d_Digest_mix_154 hl (by decide) rfl (fun ls hl => ?_)
    refine lv_iload hx hb d_Digest_mix_156 (lv_at hl 6 rfl) ?_
    refine kt_i (y := nI (md_ti (i / 16) * i + md_mo (i / 16))) (by rw [hr4]; show nI i = nI (1 * i + 0); rw [Nat.one_mul, Nat.add_zero]) ?_
    refine lv_istore (lv' := [(7, .int (nI (md_ti (i / 16) * i + md_mo (i / 16)))), (6, .int (md_f (i / 16) v.2.1 v.2.2.1 v.2.2.2)), (0, .ref h0), (1, .int v.1), (2, .int v.2.1), (3, .int v.2.2.1), (4, .int v.2.2.2), (5, .int (nI i))]) hx hb d_Digest_mix_158 hl (by decide) rfl (fun ls hl => ?_)
    refine lv_goto (tgt := 223) hx hb d_Digest_mix_160 (by decide) ?_
    exact tail ls (lv_sub hl [2, 3, 4, 5, 6, 7, 1, 0] rfl)
  · refine lv_tableIn (off := 45) (tgt := 163) hx hb d_Digest_mix_118 (by rw [hr4]; decide) (by rw [hr4]; decide) (by rw [hr4]; decide) (by decide) ?_
    refine lv_iload hx hb d_Digest_mix_163 (lv_at hl 4 rfl) ?_
    refine lv_iload_n hx hb d_Digest_mix_165 rfl (lv_at hl 2 rfl) ?_
    refine lv_iand hx hb d_Digest_mix_166 ?_
    refine lv_iload hx hb d_Digest_mix_167 (lv_at hl 4 rfl) ?_
    refine lv_iconst (v := -1) hx hb d_Digest_mix_169 (by decide) ?_
    refine lv_ixor hx hb d_Digest_mix_170 ?_
    refine lv_iload_n hx hb d_Digest_mix_171 rfl (lv_at hl 3 rfl) ?_
    refine lv_iand hx hb d_Digest_mix_172 ?_
    refine lv_ior hx hb d_Digest_mix_173 ?_
    refine kt_i (y := md_f (i / 16) v.2.1 v.2.2.1 v.2.2.2) (by rw [hr4]; rfl) ?_
    refine lv_istore (lv' := [(6, .int (md_f (i / 16) v.2.1 v.2.2.1 v.2.2.2)), (0, .ref h0), (1, .int v.1), (2, .int v.2.1), (3, .int v.2.2.1), (4, .int v.2.2.2), (5, .int (nI i))]) hx hb d_Digest_mix_174 hl (by decide) rfl (fun ls hl => ?_)
    refine lv_iconst (v := nI 5) hx hb d_Digest_mix_176 (by decide) ?_
    refine lv_iload hx hb d_Digest_mix_177 (lv_at hl 6 rfl) ?_
    refine lv_imul hx hb d_Digest_mix_179 ?_
    refine lv_iconst (v := nI 1) hx hb d_Digest_mix_180 (by decide) ?_
    refine lv_iadd hx hb d_Digest_mix_181 ?_
    refine kt_i (y := nI (md_ti (i / 16) * i + md_mo (i / 16))) (by rw [hr4, pk_mul, nI_add]; rfl) ?_
    refine lv_istore (lv' := [(7, .int (nI (md_ti (i / 16) * i + md_mo (i / 16)))), (6, .int (md_f (i / 16) v.2.1 v.2.2.1 v.2.2.2)), (0, .ref h0), (1, .int v.1), (2, .int v.2.1), (3, .int v.2.2.1), (4, .int v.2.2.2), (5, .int (nI i))]) hx hb d_Digest_mix_182 hl (by decide) rfl (fun ls hl => ?_)
    refine lv_goto (tgt := 223) hx hb d_Digest_mix_184 (by decide) ?_
    exact tail ls (lv_sub hl [2, 3, 4, 5, 6, 7, 1, 0] rfl)
  · refine lv_tableIn (off := 69) (tgt := 187) hx hb d_Digest_mix_118 (by rw [hr4]; decide) (by rw [hr4]; decide) (by rw [hr4]; decide) (by decide) ?_
    refine lv_iload_n hx hb d_Digest_mix_187 rfl (lv_at hl 2 rfl) ?_
    refine lv_iload_n hx hb d_Digest_mix_188 rfl (lv_at hl 3 rfl) ?_
    refine lv_ixor hx hb d_Digest_mix_189 ?_
    refine lv_iload hx hb d_Digest_mix_190 (lv_at hl 4 rfl) ?_
    refine lv_ixor hx hb d_Digest_mix_192 ?_
    refine kt_i (y := md_f (i / 16) v.2.1 v.2.2.1 v.2.2.2) (by rw [hr4]; rfl) ?_
    refine lv_istore (lv' := [(6, .int (md_f (i / 16) v.2.1 v.2.2.1 v.2.2.2)), (0, .ref h0), (1, .int v.1), (2, .int v.2.1), (3, .int v.2.2.1), (4, .int v.2.2.2), (5, .int (nI i))]) hx hb d_Digest_mix_193 hl (by decide) rfl (fun ls hl => ?_)
    refine lv_iconst (v := nI 3) hx hb d_Digest_mix_195 (by decide) ?_
    refine lv_iload hx hb d_Digest_mix_196 (lv_at hl 6 rfl) ?_
    refine lv_imul hx hb d_Digest_mix_198 ?_
    refine lv_iconst (v := nI 5) hx hb d_Digest_mix_199 (by decide) ?_
    refine lv_iadd hx hb d_Digest_mix_200 ?_
    refine kt_i (y := nI (md_ti (i / 16) * i + md_mo (i / 16))) (by rw [hr4, pk_mul, nI_add]; rfl) ?_
    refine lv_istore (lv' := [(7, .int (nI (md_ti (i / 16) * i + md_mo (i / 16)))), (6, .int (md_f (i / 16) v.2.1 v.2.2.1 v.2.2.2)), (0, .ref h0), (1, .int v.1), (2, .int v.2.1), (3, .int v.2.2.1), (4, .int v.2.2.2), (5, .int (nI i))]) hx hb d_Digest_mix_201 hl (by decide) rfl (fun ls hl => ?_)
    refine lv_goto (tgt := 223) hx hb d_Digest_mix_203 (by decide) ?_
    exact tail ls (lv_sub hl [2, 3, 4, 5, 6, 7, 1, 0] rfl)
  · refine lv_tableOut (tgt := 206) hx hb d_Digest_mix_118 (by rw [hr4]; decide) (by decide) ?_
    refine lv_iload_n hx hb d_Digest_mix_206 rfl (lv_at hl 3 rfl) ?_
    refine lv_iload_n hx hb d_Digest_mix_207 rfl (lv_at hl 2 rfl) ?_
    refine lv_iload hx hb d_Digest_mix_208 (lv_at hl 4 rfl) ?_
    refine lv_iconst (v := -1) hx hb d_Digest_mix_210 (by decide) ?_
    refine lv_ixor hx hb d_Digest_mix_211 ?_
    refine lv_ior hx hb d_Digest_mix_212 ?_
    refine lv_ixor hx hb d_Digest_mix_213 ?_
    refine kt_i (y := md_f (i / 16) v.2.1 v.2.2.1 v.2.2.2) (by rw [hr4]; rfl) ?_
    refine lv_istore (lv' := [(6, .int (md_f (i / 16) v.2.1 v.2.2.1 v.2.2.2)), (0, .ref h0), (1, .int v.1), (2, .int v.2.1), (3, .int v.2.2.1), (4, .int v.2.2.2), (5, .int (nI i))]) hx hb d_Digest_mix_214 hl (by decide) rfl (fun ls hl => ?_)
    refine lv_bipush (v := nI 7) hx hb d_Digest_mix_216 (by decide) ?_
    refine lv_iload hx hb d_Digest_mix_218 (lv_at hl 6 rfl) ?_
    refine lv_imul hx hb d_Digest_mix_220 ?_
    refine kt_i (y := nI (md_ti (i / 16) * i + md_mo (i / 16))) (by rw [hr4, pk_mul]; rfl) ?_
    refine lv_istore (lv' := [(7, .int (nI (md_ti (i / 16) * i + md_mo (i / 16)))), (6, .int (md_f (i / 16) v.2.1 v.2.2.1 v.2.2.2)), (0, .ref h0), (1, .int v.1), (2, .int v.2.1), (3, .int v.2.2.1), (4, .int v.2.2.2), (5, .int (nI i))]) hx hb d_Digest_mix_221 hl (by decide) rfl (fun ls hl => ?_)
    exact tail ls (lv_sub hl [2, 3, 4, 5, 6, 7, 1, 0] rfl)
set_option maxHeartbeats 4000000 in
set_option maxRecDepth 100000 in
/-- mix: sixty-four steps -/
theorem lp_mix2 {p : Program} {l : Launch} {e : Env} {s : State} {m : MethodId} {args : Array Value} {below : List Frame} {meth : Method} {c : Code} {Q : State → Prop} {D : va_G} {cB cI : ClassId} {A : Nat → Prop} {kt tt : Nat} (C0 : Cx p s m args c b_Digest_mix 9 "KeySums$Digest" D (tyL cB cI) A kt tt) (h0 h1 h2 : Nat) (fb fw blk : Nat → Int32) (xa xb xc xd xh : Int32) (xm : Int64) (hfw : ∀ j, j < 16 → fw j = md_word blk j) (v0 : V4)
    (kk : ∀ (v : V4) (H : Heap) (locs : List Loc) (ls : Array Slot), v = md_run (md_word blk) v0 64 → va_P D classes (wD h0 h1 h2 cB cI fb fw xa xb xc xd xh xm) H → va_D A (wD h0 h1 h2 cB cI fb fw xa xb xc xd xh xm) → va_S A s.heap H locs → lv_has ls 9 [(0, .ref h0), (1, .int v.1), (2, .int v.2.1), (3, .int v.2.2.1), (4, .int v.2.2.2)] → W p l e ({ frames := 1, cells := 0, slots := 0, locals := 21 } : Room) s m args below meth c H locs 0 0 Q (F0 m 285 ls [])) :
    ∀ (n i : Nat) (v : V4) (H : Heap) (locs : List Loc) (ls : Array Slot), i + n = 64 → v = md_run (md_word blk) v0 i → va_P D classes (wD h0 h1 h2 cB cI fb fw xa xb xc xd xh xm) H → va_D A (wD h0 h1 h2 cB cI fb fw xa xb xc xd xh xm) → va_S A s.heap H locs → lv_has ls 9 [(0, .ref h0), (1, .int v.1), (2, .int v.2.1), (3, .int v.2.2.1), (4, .int v.2.2.2), (5, .int (nI i))] → W p l e ({ frames := 1, cells := 0, slots := 0, locals := 21 } : Room) s m args below meth c H locs 0 0 Q (F0 m 106 ls []) := by
  obtain ⟨hx, hb, hml, hown, hcm, hK, hA, hZ⟩ := id C0
  intro n
  induction n with
  | zero =>
    intro i v H locs ls hi hinv hP hD hS hl
    refine lv_iload hx hb d_Digest_mix_106 (lv_at hl 5 rfl) ?_
    refine lv_bipush (v := nI 64) hx hb d_Digest_mix_108 (by decide) ?_
    refine kr_icmp_ge C0 (by omega) (by omega) (tgt := 285) d_Digest_mix_110 (by decide) (fun c_110 => ?_) (fun c_110 => ?_)
    · obtain rfl : i = 64 := by omega
      exact kk v H locs ls hinv hP hD hS (lv_sub hl [0, 1, 2, 3, 4] rfl)
    · exact absurd c_110 (by omega)
  | succ n ih =>
    intro i v H locs ls hi hinv hP hD hS hl
    refine lv_iload hx hb d_Digest_mix_106 (lv_at hl 5 rfl) ?_
    refine lv_bipush (v := nI 64) hx hb d_Digest_mix_108 (by decide) ?_
    refine kr_icmp_ge C0 (by omega) (by omega) (tgt := 285) d_Digest_mix_110 (by decide) (fun c_110 => ?_) (fun c_110 => ?_)
    · exact absurd c_110 (by omega)
    · refine lp_mixs C0 h0 h1 h2 fb fw blk xa xb xc xd xh xm hfw i v (by omega) H locs hP hD hS (fun H locs ls hP hD hS hl => ?_) ls hl
      exact ih (i + 1) _ H locs ls (by omega) (by rw [hinv]; rfl) hP hD hS hl
set_option maxHeartbeats 4000000 in
set_option maxRecDepth 100000 in
/-- Digest.mix: a block is done -/
theorem c_Digest_mix (l : Launch) (D : va_G) (cB cI : ClassId) (kt tt : Nat) (h0 h1 h2 : Nat) (fb fw blk : Nat → Int32) (h : V4) (xh : Int32) (xm : Int64) (hbl : ∀ j, j < 64 → fb j &&& nI 255 = blk j) : CtV l y_Digest_mix w_Digest_mix { frames := 1, cells := 0, slots := 0, locals := 21 } [.ref h0] D (tyL cB cI) kt tt (wD h0 h1 h2 cB cI fb fw h.1 h.2.1 h.2.2.1 h.2.2.2 xh xm) (fun (_ : Nat → Int32) => True) (fun fw => wD h0 h1 h2 cB cI fb fw (md_blk blk h).1 (md_blk blk h).2.1 (md_blk blk h).2.2.1 (md_blk blk h).2.2.2 xh xm) := by
  obtain ⟨xa, xb, xc, xd⟩ := h
  refine ctV_of (by decide) (Nat.le_of_ble_eq_true rfl) ?_
  intro p e s m below meth c A ls C0 hr hlk hin hP hD hl
  have C0 : Cx p s m _ c b_Digest_mix 9 "KeySums$Digest" D (tyL cB cI) A kt tt := C0
  obtain ⟨hx, hb, hml, hown, hcm, hK, hA, hZ⟩ := id C0
  have hS : va_S A s.heap s.heap [] := va_S.rf
  have hl : lv_has ls 9 [(0, .ref h0)] := hl
  obtain ⟨H, hH⟩ : ∃ H, H = s.heap := ⟨_, rfl⟩
  have hP0 := hP
  rw [← hH] at hP
  have hS : va_S A s.heap H [] := by rw [hH]; exact hS
  suffices hgoal : W p l e _ s m _ below meth c H [] 0 0 _ (F0 m 0 ls []) by rw [hH] at hgoal; exact hgoal
  clear hP0 hH
  have hP : va_P D classes (wD h0 h1 h2 cB cI fb fw xa xb xc xd xh xm) H := hP
  have hD : va_D A (wD h0 h1 h2 cB cI fb fw xa xb xc xd xh xm) := hD
  refine lv_iconst (v := nI 0) hx hb d_Digest_mix_0 (by decide) ?_
  refine lv_istore_n (lv' := [(1, .int (nI 0)), (0, .ref h0)]) hx hb d_Digest_mix_1 rfl hl (by decide) rfl (fun ls hl => ?_)
  refine lp_mix1 C0 h0 h1 h2 fb blk xa xb xc xd xh xm hbl ?_ 16 0 fw H _ ls (by decide) (fun j hj => absurd hj (Nat.not_lt_zero j)) hP hD hS (lv_sub hl [1, 0] rfl)
  intro fw H locs ls hfw hP hD hS hl
  refine lv_aload_n hx hb d_Digest_mix_82 rfl (lv_at hl 0 rfl) ?_
  refine va_get (D := D) (ci := 0) (v := .int xa) (C := "KeySums$Digest") (T := F_Digest) (N := 8) hx hb hcm i_Digest hown hK hP 0 rfl rfl 2 (by decide) (hcm _ kw_28) (fun _ h9 => h9) rfl d_Digest_mix_83 ?_
  refine lv_istore_n (lv' := [(1, .int xa), (0, .ref h0)]) hx hb d_Digest_mix_86 rfl hl (by decide) rfl (fun ls hl => ?_)
  refine lv_aload_n hx hb d_Digest_mix_87 rfl (lv_at hl 1 rfl) ?_
  refine va_get (D := D) (ci := 0) (v := .int xb) (C := "KeySums$Digest") (T := F_Digest) (N := 8) hx hb hcm i_Digest hown hK hP 0 rfl rfl 3 (by decide) (hcm _ kw_29) (fun _ h9 => h9) rfl d_Digest_mix_88 ?_
  refine lv_istore_n (lv' := [(2, .int xb), (1, .int xa), (0, .ref h0)]) hx hb d_Digest_mix_91 rfl hl (by decide) rfl (fun ls hl => ?_)
  refine lv_aload_n hx hb d_Digest_mix_92 rfl (lv_at hl 2 rfl) ?_
  refine va_get (D := D) (ci := 0) (v := .int xc) (C := "KeySums$Digest") (T := F_Digest) (N := 8) hx hb hcm i_Digest hown hK hP 0 rfl rfl 4 (by decide) (hcm _ kw_30) (fun _ h9 => h9) rfl d_Digest_mix_93 ?_
  refine lv_istore_n (lv' := [(3, .int xc), (2, .int xb), (1, .int xa), (0, .ref h0)]) hx hb d_Digest_mix_96 rfl hl (by decide) rfl (fun ls hl => ?_)
  refine lv_aload_n hx hb d_Digest_mix_97 rfl (lv_at hl 3 rfl) ?_
  refine va_get (D := D) (ci := 0) (v := .int xd) (C := "KeySums$Digest") (T := F_Digest) (N := 8) hx hb hcm i_Digest hown hK hP 0 rfl rfl 5 (by decide) (hcm _ kw_31) (fun _ h9 => h9) rfl d_Digest_mix_98 ?_
  refine lv_istore (lv' := [(4, .int xd), (3, .int xc), (2, .int xb), (1, .int xa), (0, .ref h0)]) hx hb d_Digest_mix_101 hl (by decide) rfl (fun ls hl => ?_)
  refine lv_iconst (v := nI 0) hx hb d_Digest_mix_103 (by decide) ?_
  refine lv_istore (lv' := [(5, .int (nI 0)), (4, .int xd), (3, .int xc), (2, .int xb), (1, .int xa), (0, .ref h0)]) hx hb d_Digest_mix_104 hl (by decide) rfl (fun ls hl => ?_)
  refine lp_mix2 C0 h0 h1 h2 fb fw blk xa xb xc xd xh xm hfw (xa, xb, xc, xd) ?_ 64 0 (xa, xb, xc, xd) H locs ls (by decide) rfl hP hD hS (lv_sub hl [5, 4, 3, 2, 1, 0] rfl)
  intro v H locs ls hv hP hD hS hl
  refine lv_aload_n hx hb d_Digest_mix_285 rfl (lv_at hl 0 rfl) ?_
  refine lv_dup hx hb d_Digest_mix_286 rfl ?_
  refine va_get (D := D) (ci := 0) (v := .int xa) (C := "KeySums$Digest") (T := F_Digest) (N := 8) hx hb hcm i_Digest hown hK hP 0 rfl rfl 2 (by decide) (hcm _ kw_28) (fun _ h9 => h9) rfl d_Digest_mix_287 ?_
  refine lv_iload_n hx hb d_Digest_mix_290 rfl (lv_at hl 1 rfl) ?_
  refine lv_iadd hx hb d_Digest_mix_291 ?_
  refine va_put (D := D) (ci := 0) (v := .int (xa + v.1)) (ty := .int) (C := "KeySums$Digest") (T := F_Digest) (N := 8) hx hb hcm i_Digest t_Digest t_Digest_ok n_Digest hown hK hP hD hS 0 rfl rfl 2 (by decide) (hcm _ kw_28) (fun _ h9 => h9) rfl (by decide +kernel) rfl rfl (Nat.le_of_ble_eq_true rfl) d_Digest_mix_292 (fun H locs hP hD hS => ?_)
  have hP : va_P D classes (wD h0 h1 h2 cB cI fb fw (xa + v.1) xb xc xd xh xm) H := hP
  have hD : va_D A (wD h0 h1 h2 cB cI fb fw (xa + v.1) xb xc xd xh xm) := hD
  refine lv_aload_n hx hb d_Digest_mix_295 rfl (lv_at hl 0 rfl) ?_
  refine lv_dup hx hb d_Digest_mix_296 rfl ?_
  refine va_get (D := D) (ci := 0) (v := .int xb) (C := "KeySums$Digest") (T := F_Digest) (N := 8) hx hb hcm i_Digest hown hK hP 0 rfl rfl 3 (by decide) (hcm _ kw_29) (fun _ h9 => h9) rfl d_Digest_mix_297 ?_
  refine lv_iload_n hx hb d_Digest_mix_300 rfl (lv_at hl 2 rfl) ?_
  refine lv_iadd hx hb d_Digest_mix_301 ?_
  refine va_put (D := D) (ci := 0) (v := .int (xb + v.2.1)) (ty := .int) (C := "KeySums$Digest") (T := F_Digest) (N := 8) hx hb hcm i_Digest t_Digest t_Digest_ok n_Digest hown hK hP hD hS 0 rfl rfl 3 (by decide) (hcm _ kw_29) (fun _ h9 => h9) rfl (by decide +kernel) rfl rfl (Nat.le_of_ble_eq_true rfl) d_Digest_mix_302 (fun H locs hP hD hS => ?_)
  have hP : va_P D classes (wD h0 h1 h2 cB cI fb fw (xa + v.1) (xb + v.2.1) xc xd xh xm) H := hP
  have hD : va_D A (wD h0 h1 h2 cB cI fb fw (xa + v.1) (xb + v.2.1) xc xd xh xm) := hD
  refine lv_aload_n hx hb d_Digest_mix_305 rfl (lv_at hl 0 rfl) ?_
  refine lv_dup hx hb d_Digest_mix_306 rfl ?_
  refine va_get (D := D) (ci := 0) (v := .int xc) (C := "KeySums$Digest") (T := F_Digest) (N := 8) hx hb hcm i_Digest hown hK hP 0 rfl rfl 4 (by decide) (hcm _ kw_30) (fun _ h9 => h9) rfl d_Digest_mix_307 ?_
  refine lv_iload_n hx hb d_Digest_mix_310 rfl (lv_at hl 3 rfl) ?_
  refine lv_iadd hx hb d_Digest_mix_311 ?_
  refine va_put (D := D) (ci := 0) (v := .int (xc + v.2.2.1)) (ty := .int) (C := "KeySums$Digest") (T := F_Digest) (N := 8) hx hb hcm i_Digest t_Digest t_Digest_ok n_Digest hown hK hP hD hS 0 rfl rfl 4 (by decide) (hcm _ kw_30) (fun _ h9 => h9) rfl (by decide +kernel) rfl rfl (Nat.le_of_ble_eq_true rfl) d_Digest_mix_312 (fun H locs hP hD hS => ?_)
  have hP : va_P D classes (wD h0 h1 h2 cB cI fb fw (xa + v.1) (xb + v.2.1) (xc + v.2.2.1) xd xh xm) H := hP
  have hD : va_D A (wD h0 h1 h2 cB cI fb fw (xa + v.1) (xb + v.2.1) (xc + v.2.2.1) xd xh xm) := hD
  refine lv_aload_n hx hb d_Digest_mix_315 rfl (lv_at hl 0 rfl) ?_
  refine lv_dup hx hb d_Digest_mix_316 rfl ?_
  refine va_get (D := D) (ci := 0) (v := .int xd) (C := "KeySums$Digest") (T := F_Digest) (N := 8) hx hb hcm i_Digest hown hK hP 0 rfl rfl 5 (by decide) (hcm _ kw_31) (fun _ h9 => h9) rfl d_Digest_mix_317 ?_
  refine lv_iload hx hb d_Digest_mix_320 (lv_at hl 4 rfl) ?_
  refine lv_iadd hx hb d_Digest_mix_322 ?_
  refine va_put (D := D) (ci := 0) (v := .int (xd + v.2.2.2)) (ty := .int) (C := "KeySums$Digest") (T := F_Digest) (N := 8) hx hb hcm i_Digest t_Digest t_Digest_ok n_Digest hown hK hP hD hS 0 rfl rfl 5 (by decide) (hcm _ kw_31) (fun _ h9 => h9) rfl (by decide +kernel) rfl rfl (Nat.le_of_ble_eq_true rfl) d_Digest_mix_323 (fun H locs hP hD hS => ?_)
  have hP : va_P D classes (wD h0 h1 h2 cB cI fb fw (xa + v.1) (xb + v.2.1) (xc + v.2.2.1) (xd + v.2.2.2) xh xm) H := hP
  have hD : va_D A (wD h0 h1 h2 cB cI fb fw (xa + v.1) (xb + v.2.1) (xc + v.2.2.1) (xd + v.2.2.2) xh xm) := hD
  subst hv
  exact kr_vret C0 fw hr hlk trivial hP hD hS d_Digest_mix_326
end
section
set_option maxHeartbeats 4000000 in
set_option maxRecDepth 100000 in
/-- Digest.add: a byte comes -/
theorem c_Digest_add (l : Launch) (D : va_G) (cB cI : ClassId) (kt tt : Nat) (h0 h1 h2 : Nat) (fb fw : Nat → Int32) (g : Dg) (hbl : ∀ j, j < 64 → fb j &&& nI 255 = g.1 j) (v : Int32) : CtV l y_Digest_add w_Digest_add { frames := 2, cells := 0, slots := 0, locals := 49 } [.ref h0, .int v] D (tyL cB cI) kt tt (wDg h0 h1 h2 cB cI fb fw g) (fun (u : (Nat → Int32) × (Nat → Int32)) => ∀ j, j < 64 → u.1 j &&& nI 255 = (md_come g v).1 j) (fun u => wDg h0 h1 h2 cB cI u.1 u.2 (md_come g v)) := by
  refine ctV_of (by decide) (Nat.le_of_ble_eq_true rfl) ?_
  intro p e s m below meth c A ls C0 hr hlk hin hP hD hl
  have C0 : Cx p s m _ c b_Digest_add 2 "KeySums$Digest" D (tyL cB cI) A kt tt := C0
  obtain ⟨hx, hb, hml, hown, hcm, hK, hA, hZ⟩ := id C0
  have hS : va_S A s.heap s.heap [] := va_S.rf
  have hl : lv_has ls 2 [(0, .ref h0), (1, .int v)] := hl
  obtain ⟨H, hH⟩ : ∃ H, H = s.heap := ⟨_, rfl⟩
  have hP0 := hP
  rw [← hH] at hP
  have hS : va_S A s.heap H [] := by rw [hH]; exact hS
  suffices hgoal : W p l e _ s m _ below meth c H [] 0 0 _ (F0 m 0 ls []) by rw [hH] at hgoal; exact hgoal
  clear hP0 hH
  refine lv_aload_n hx hb d_Digest_add_0 rfl (lv_at hl 0 rfl) ?_
  refine va_get (D := D) (ci := 0) (v := .ref h1) (C := "KeySums$Digest") (T := F_Digest) (N := 8) hx hb hcm i_Digest hown hK hP 0 rfl rfl 0 (by decide) (hcm _ kw_26) (fun _ h9 => h9) rfl d_Digest_add_1 ?_
  refine lv_aload_n hx hb d_Digest_add_4 rfl (lv_at hl 0 rfl) ?_
  refine va_get (D := D) (ci := 0) (v := .int (nI (g.2.2 % 64))) (C := "KeySums$Digest") (T := F_Digest) (N := 8) hx hb hcm i_Digest hown hK hP 0 rfl rfl 6 (by decide) (hcm _ kw_32) (fun _ h9 => h9) rfl d_Digest_add_5 ?_
  refine lv_iload_n hx hb d_Digest_add_8 rfl (lv_at hl 1 rfl) ?_
  refine lv_i2b hx hb d_Digest_add_9 rfl ?_
  refine kr_bast C0 hP hD hS 1 0 rfl rfl (k := g.2.2 % 64) (x := v.toInt8.toInt32) (Nat.mod_lt _ (by decide)) (by decide) d_Digest_add_10 (fun H locs hP hD hS => ?_)
  have hP : va_P D classes (wD h0 h1 h2 cB cI (upd fb (g.2.2 % 64) (vp_nar .byte v.toInt8.toInt32)) fw g.2.1.1 g.2.1.2.1 g.2.1.2.2.1 g.2.1.2.2.2 (nI (g.2.2 % 64)) (lN g.2.2)) H := hP
  have hD : va_D A (wD h0 h1 h2 cB cI (upd fb (g.2.2 % 64) (vp_nar .byte v.toInt8.toInt32)) fw g.2.1.1 g.2.1.2.1 g.2.1.2.2.1 g.2.1.2.2.2 (nI (g.2.2 % 64)) (lN g.2.2)) := hD
  refine lv_aload_n hx hb d_Digest_add_11 rfl (lv_at hl 0 rfl) ?_
  refine lv_dup hx hb d_Digest_add_12 rfl ?_
  refine va_get (D := D) (ci := 0) (v := .int (nI (g.2.2 % 64))) (C := "KeySums$Digest") (T := F_Digest) (N := 8) hx hb hcm i_Digest hown hK hP 0 rfl rfl 6 (by decide) (hcm _ kw_32) (fun _ h9 => h9) rfl d_Digest_add_13 ?_
  refine lv_iconst (v := nI 1) hx hb d_Digest_add_16 (by decide) ?_
  refine lv_iadd hx hb d_Digest_add_17 ?_
  refine kt_i (y := nI (g.2.2 % 64 + 1)) (nI_add _ 1) ?_
  refine va_put (D := D) (ci := 0) (v := .int (nI (g.2.2 % 64 + 1))) (ty := .int) (C := "KeySums$Digest") (T := F_Digest) (N := 8) hx hb hcm i_Digest t_Digest t_Digest_ok n_Digest hown hK hP hD hS 0 rfl rfl 6 (by decide) (hcm _ kw_32) (fun _ h9 => h9) rfl (by decide +kernel) rfl rfl (Nat.le_of_ble_eq_true rfl) d_Digest_add_18 (fun H locs hP hD hS => ?_)
  have hP : va_P D classes (wD h0 h1 h2 cB cI (upd fb (g.2.2 % 64) (vp_nar .byte v.toInt8.toInt32)) fw g.2.1.1 g.2.1.2.1 g.2.1.2.2.1 g.2.1.2.2.2 (nI (g.2.2 % 64 + 1)) (lN g.2.2)) H := hP
  have hD : va_D A (wD h0 h1 h2 cB cI (upd fb (g.2.2 % 64) (vp_nar .byte v.toInt8.toInt32)) fw g.2.1.1 g.2.1.2.1 g.2.1.2.2.1 g.2.1.2.2.2 (nI (g.2.2 % 64 + 1)) (lN g.2.2)) := hD
  refine lv_aload_n hx hb d_Digest_add_21 rfl (lv_at hl 0 rfl) ?_
  refine lv_dup hx hb d_Digest_add_22 rfl ?_
  refine va_get (D := D) (ci := 0) (v := .long (lN g.2.2)) (C := "KeySums$Digest") (T := F_Digest) (N := 8) hx hb hcm i_Digest hown hK hP 0 rfl rfl 7 (by decide) (hcm _ kw_33) (fun _ h9 => h9) rfl d_Digest_add_23 ?_
  refine lv_lconst (v := 1) hx hb d_Digest_add_26 (by decide) ?_
  refine lv_ladd hx hb d_Digest_add_27 ?_
  refine kt_l (y := lN (g.2.2 + 1)) (lN_1 _) ?_
  refine va_put (D := D) (ci := 0) (v := .long (lN (g.2.2 + 1))) (ty := .long) (C := "KeySums$Digest") (T := F_Digest) (N := 8) hx hb hcm i_Digest t_Digest t_Digest_ok n_Digest hown hK hP hD hS 0 rfl rfl 7 (by decide) (hcm _ kw_33) (fun _ h9 => h9) rfl (by decide +kernel) rfl rfl (Nat.le_of_ble_eq_true rfl) d_Digest_add_28 (fun H locs hP hD hS => ?_)
  have hP : va_P D classes (wD h0 h1 h2 cB cI (upd fb (g.2.2 % 64) (vp_nar .byte v.toInt8.toInt32)) fw g.2.1.1 g.2.1.2.1 g.2.1.2.2.1 g.2.1.2.2.2 (nI (g.2.2 % 64 + 1)) (lN (g.2.2 + 1))) H := hP
  have hD : va_D A (wD h0 h1 h2 cB cI (upd fb (g.2.2 % 64) (vp_nar .byte v.toInt8.toInt32)) fw g.2.1.1 g.2.1.2.1 g.2.1.2.2.1 g.2.1.2.2.2 (nI (g.2.2 % 64 + 1)) (lN (g.2.2 + 1))) := hD
  refine lv_aload_n hx hb d_Digest_add_31 rfl (lv_at hl 0 rfl) ?_
  refine va_get (D := D) (ci := 0) (v := .int (nI (g.2.2 % 64 + 1))) (C := "KeySums$Digest") (T := F_Digest) (N := 8) hx hb hcm i_Digest hown hK hP 0 rfl rfl 6 (by decide) (hcm _ kw_32) (fun _ h9 => h9) rfl d_Digest_add_32 ?_
  refine lv_bipush (v := nI 64) hx hb d_Digest_add_35 (by decide) ?_
  have hbl2 := by_upd hbl (g.2.2 % 64) (by_n2 v)
  refine kr_icmp_ge C0 (by omega) (by decide) (tgt := 41) d_Digest_add_37 (by decide) (fun c_37 => ?_) (fun c_37 => ?_)
  · refine lv_aload_n hx hb d_Digest_add_41 rfl (lv_at hl 0 rfl) ?_
    refine lv_iconst (v := nI 0) hx hb d_Digest_add_42 (by decide) ?_
    refine va_put (D := D) (ci := 0) (v := .int (nI 0)) (ty := .int) (C := "KeySums$Digest") (T := F_Digest) (N := 8) hx hb hcm i_Digest t_Digest t_Digest_ok n_Digest hown hK hP hD hS 0 rfl rfl 6 (by decide) (hcm _ kw_32) (fun _ h9 => h9) rfl (by decide +kernel) rfl rfl (Nat.le_of_ble_eq_true rfl) d_Digest_add_43 (fun H locs hP hD hS => ?_)
    have hP : va_P D classes (wD h0 h1 h2 cB cI (upd fb (g.2.2 % 64) (vp_nar .byte v.toInt8.toInt32)) fw g.2.1.1 g.2.1.2.1 g.2.1.2.2.1 g.2.1.2.2.2 (nI 0) (lN (g.2.2 + 1))) H := hP
    have hD : va_D A (wD h0 h1 h2 cB cI (upd fb (g.2.2 % 64) (vp_nar .byte v.toInt8.toInt32)) fw g.2.1.1 g.2.1.2.1 g.2.1.2.2.1 g.2.1.2.2.2 (nI 0) (lN (g.2.2 + 1))) := hD
    refine lv_aload_n hx hb d_Digest_add_46 rfl (lv_at hl 0 rfl) ?_
    refine cl_Vv C0 (ty := .int) (rest := []) (wr := []) [] (c_Digest_mix l D cB cI kt tt h0 h1 h2 _ fw _ g.2.1 _ _ hbl2) (cwV 0 hcm (gd_V kw_99 kw_101 kw_0 kw_9 kw_102) rfl rfl rfl (by decide +kernel) ⟨Nat.le_of_ble_eq_true rfl, Nat.le_of_ble_eq_true rfl⟩) hP hD hS [0, 1, 2] [] rfl rfl rfl rfl (by decide) rfl 0 rfl rfl rfl hl.1 (Nat.le_of_ble_eq_true rfl) d_Digest_add_47 ⟨Nat.le_of_ble_eq_true rfl, Nat.le_of_ble_eq_true rfl⟩ (fun fw H locs _ hP hD hS => ?_)
    have hP : va_P D classes (wD h0 h1 h2 cB cI (upd fb (g.2.2 % 64) (vp_nar .byte v.toInt8.toInt32)) fw ((md_blk (upd g.1 (g.2.2 % 64) (v &&& nI 255)) g.2.1).1) ((md_blk (upd g.1 (g.2.2 % 64) (v &&& nI 255)) g.2.1).2.1) ((md_blk (upd g.1 (g.2.2 % 64) (v &&& nI 255)) g.2.1).2.2.1) ((md_blk (upd g.1 (g.2.2 % 64) (v &&& nI 255)) g.2.1).2.2.2) (nI 0) (lN (g.2.2 + 1))) H := hP
    have hD : va_D A (wD h0 h1 h2 cB cI (upd fb (g.2.2 % 64) (vp_nar .byte v.toInt8.toInt32)) fw ((md_blk (upd g.1 (g.2.2 % 64) (v &&& nI 255)) g.2.1).1) ((md_blk (upd g.1 (g.2.2 % 64) (v &&& nI 255)) g.2.1).2.1) ((md_blk (upd g.1 (g.2.2 % 64) (v &&& nI 255)) g.2.1).2.2.1) ((md_blk (upd g.1 (g.2.2 % 64) (v &&& nI 255)) g.2.1).2.2.2) (nI 0) (lN (g.2.2 + 1))) := hD
    have ew := wDg_hi h0 h1 h2 cB cI (upd fb (g.2.2 % 64) (vp_nar .byte v.toInt8.toInt32)) fw v c_37 rfl
    exact kr_vret C0 (upd fb (g.2.2 % 64) (vp_nar .byte v.toInt8.toInt32), fw) hr hlk (by rw [(md_come_hi v c_37).1]; exact hbl2) (by show va_P D classes (wDg h0 h1 h2 cB cI (upd fb (g.2.2 % 64) (vp_nar .byte v.toInt8.toInt32)) fw (md_come g v)) H; rw [ew]; exact hP) (by show va_D A (wDg h0 h1 h2 cB cI (upd fb (g.2.2 % 64) (vp_nar .byte v.toInt8.toInt32)) fw (md_come g v)); rw [ew]; exact hD) hS d_Digest_add_50
  · have ew := wDg_lo h0 h1 h2 cB cI (upd fb (g.2.2 % 64) (vp_nar .byte v.toInt8.toInt32)) fw v c_37
    exact kr_vret C0 (upd fb (g.2.2 % 64) (vp_nar .byte v.toInt8.toInt32), fw) hr hlk (by rw [(md_come_lo v c_37).1]; exact hbl2) (by show va_P D classes (wDg h0 h1 h2 cB cI (upd fb (g.2.2 % 64) (vp_nar .byte v.toInt8.toInt32)) fw (md_come g v)) H; rw [ew]; exact hP) (by show va_D A (wDg h0 h1 h2 cB cI (upd fb (g.2.2 % 64) (vp_nar .byte v.toInt8.toInt32)) fw (md_come g v)); rw [ew]; exact hD) hS d_Digest_add_40
set_option maxHeartbeats 4000000 in
set_option maxRecDepth 100000 in
/-- Digest.end: zeros until 56 -/
theorem lp_end1 {p : Program} {l : Launch} {e : Env} {s : State} {m : MethodId} {args : Array Value} {below : List Frame} {meth : Method} {c : Code} {Q : State → Prop} {D : va_G} {cB cI : ClassId} {A : Nat → Prop} {kt tt : Nat} (C0 : Cx p s m args c b_Digest_end 6 "KeySums$Digest" D (tyL cB cI) A kt tt) (ta h0 h1 h2 : Nat) (to : Nat → Int32) (bits : Int64) (G0 : Dg)
    (kk : ∀ (fb fw : Nat → Int32) (H : Heap) (locs : List Loc) (ls : Array Slot), (∀ j, j < 64 → fb j &&& nI 255 = G0.1 j) → va_P D classes (wEg ta h0 h1 h2 cB cI to fb fw G0) H → va_D A (wEg ta h0 h1 h2 cB cI to fb fw G0) → va_S A s.heap H locs → lv_has ls 6 [(0, .ref h0), (1, .ref ta), (2, .int (nI 0)), (3, .long bits)] → W p l e ({ frames := 3, cells := 0, slots := 0, locals := 70 } : Room) s m args below meth c H locs 0 0 Q (F0 m 33 ls [])) :
    ∀ (n : Nat) (g : Dg) (fb fw : Nat → Int32) (H : Heap) (locs : List Loc) (ls : Array Slot), md_rem g.2.2 = n → md_pad g n = G0 → (∀ j, j < 64 → fb j &&& nI 255 = g.1 j) → va_P D classes (wEg ta h0 h1 h2 cB cI to fb fw g) H → va_D A (wEg ta h0 h1 h2 cB cI to fb fw g) → va_S A s.heap H locs → lv_has ls 6 [(0, .ref h0), (1, .ref ta), (2, .int (nI 0)), (3, .long bits)] → W p l e ({ frames := 3, cells := 0, slots := 0, locals := 70 } : Room) s m args below meth c H locs 0 0 Q (F0 m 16 ls []) := by
  obtain ⟨hx, hb, hml, hown, hcm, hK, hA, hZ⟩ := id C0
  intro n
  induction n with
  | zero =>
    intro g fb fw H locs ls hn hg hbl hP hD hS hl
    refine lv_aload_n hx hb d_Digest_end_16 rfl (lv_at hl 0 rfl) ?_
    refine va_get (D := D) (ci := 0) (v := .int (nI (g.2.2 % 64))) (C := "KeySums$Digest") (T := F_Digest) (N := 8) hx hb hcm i_Digest hown hK hP 1 rfl rfl 6 (by decide) (hcm _ kw_32) (fun _ h9 => h9) rfl d_Digest_end_17 ?_
    refine lv_bipush (v := nI 56) hx hb d_Digest_end_20 (by decide) ?_
    refine kr_icmp_eq C0 (by omega) (by decide) (tgt := 33) d_Digest_end_22 (by decide) (fun c_22 => ?_) (fun c_22 => ?_)
    · subst hg
      exact kk fb fw H locs ls hbl hP hD hS hl
    · exact absurd (md_rem_lo hn) c_22
  | succ n ih =>
    intro g fb fw H locs ls hn hg hbl hP hD hS hl
    refine lv_aload_n hx hb d_Digest_end_16 rfl (lv_at hl 0 rfl) ?_
    refine va_get (D := D) (ci := 0) (v := .int (nI (g.2.2 % 64))) (C := "KeySums$Digest") (T := F_Digest) (N := 8) hx hb hcm i_Digest hown hK hP 1 rfl rfl 6 (by decide) (hcm _ kw_32) (fun _ h9 => h9) rfl d_Digest_end_17 ?_
    refine lv_bipush (v := nI 56) hx hb d_Digest_end_20 (by decide) ?_
    refine kr_icmp_eq C0 (by omega) (by decide) (tgt := 33) d_Digest_end_22 (by decide) (fun c_22 => ?_) (fun c_22 => ?_)
    · rw [md_rem_0 c_22] at hn
      cases hn
    · refine lv_aload_n hx hb d_Digest_end_25 rfl (lv_at hl 0 rfl) ?_
      refine lv_iconst (v := nI 0) hx hb d_Digest_end_26 (by decide) ?_
      refine cl_Vv C0 (ty := .int) (rest := []) (wr := [(ta, .inl (cB, 16, .inl to))]) [.int (nI 0)] (c_Digest_add l D cB cI kt tt h0 h1 h2 fb fw g hbl _) (cwV 1 hcm (gd_V kw_127 kw_96 kw_97 kw_9 kw_98) rfl rfl rfl (by decide +kernel) ⟨Nat.le_of_ble_eq_true rfl, Nat.le_of_ble_eq_true rfl⟩) hP hD hS [1, 2, 3] [0] rfl rfl rfl rfl (by decide) rfl 0 rfl rfl rfl hl.1 (Nat.le_of_ble_eq_true rfl) d_Digest_end_27 ⟨Nat.le_of_ble_eq_true rfl, Nat.le_of_ble_eq_true rfl⟩ (fun ⟨fb, fw⟩ H locs hbl hP hD hS => ?_)
      have hP : va_P D classes (wE ta h0 h1 h2 cB cI to fb fw ((md_come g (nI 0)).2.1.1) ((md_come g (nI 0)).2.1.2.1) ((md_come g (nI 0)).2.1.2.2.1) ((md_come g (nI 0)).2.1.2.2.2) (nI ((md_come g (nI 0)).2.2 % 64)) (lN (md_come g (nI 0)).2.2)) H := hP
      have hD : va_D A (wE ta h0 h1 h2 cB cI to fb fw ((md_come g (nI 0)).2.1.1) ((md_come g (nI 0)).2.1.2.1) ((md_come g (nI 0)).2.1.2.2.1) ((md_come g (nI 0)).2.1.2.2.2) (nI ((md_come g (nI 0)).2.2 % 64)) (lN (md_come g (nI 0)).2.2)) := hD
      have hbl : ∀ j, j < 64 → fb j &&& nI 255 = (md_come g (nI 0)).1 j := hbl
      refine lv_goto (tgt := 16) hx hb d_Digest_end_30 (by decide) ?_
      exact ih _ fb fw H locs ls (by have := md_rem_s c_22; rw [hn] at this; exact (Nat.succ.inj this).symm) (by rw [← md_pad_s]; exact hg) hbl hP hD hS hl
set_option maxHeartbeats 4000000 in
set_option maxRecDepth 100000 in
/-- Digest.end: the count of bits -/
theorem lp_end2 {p : Program} {l : Launch} {e : Env} {s : State} {m : MethodId} {args : Array Value} {below : List Frame} {meth : Method} {c : Code} {Q : State → Prop} {D : va_G} {cB cI : ClassId} {A : Nat → Prop} {kt tt : Nat} (C0 : Cx p s m args c b_Digest_end 6 "KeySums$Digest" D (tyL cB cI) A kt tt) (ta h0 h1 h2 : Nat) (to : Nat → Int32) (bits : Int64) (G0 : Dg)
    (kk : ∀ (fb fw : Nat → Int32) (H : Heap) (locs : List Loc) (ls : Array Slot), (∀ j, j < 64 → fb j &&& nI 255 = (md_feed G0 (md_bit bits) 8).1 j) → va_P D classes (wEg ta h0 h1 h2 cB cI to fb fw (md_feed G0 (md_bit bits) 8)) H → va_D A (wEg ta h0 h1 h2 cB cI to fb fw (md_feed G0 (md_bit bits) 8)) → va_S A s.heap H locs → lv_has ls 6 [(0, .ref h0), (1, .ref ta), (2, .int (nI 0)), (3, .long bits)] → W p l e ({ frames := 3, cells := 0, slots := 0, locals := 70 } : Room) s m args below meth c H locs 0 0 Q (F0 m 61 ls [])) :
    ∀ (n k : Nat) (g : Dg) (fb fw : Nat → Int32) (H : Heap) (locs : List Loc) (ls : Array Slot), k + n = 8 → g = md_feed G0 (md_bit bits) k → (∀ j, j < 64 → fb j &&& nI 255 = g.1 j) → va_P D classes (wEg ta h0 h1 h2 cB cI to fb fw g) H → va_D A (wEg ta h0 h1 h2 cB cI to fb fw g) → va_S A s.heap H locs → lv_has ls 6 [(0, .ref h0), (1, .ref ta), (2, .int (nI 0)), (3, .long bits), (5, .int (nI k))] → W p l e ({ frames := 3, cells := 0, slots := 0, locals := 70 } : Room) s m args below meth c H locs 0 0 Q (F0 m 36 ls []) := by
  obtain ⟨hx, hb, hml, hown, hcm, hK, hA, hZ⟩ := id C0
  intro n
  induction n with
  | zero =>
    intro k g fb fw H locs ls hn hg hbl hP hD hS hl
    refine lv_iload hx hb d_Digest_end_36 (lv_at hl 4 rfl) ?_
    refine lv_bipush (v := nI 8) hx hb d_Digest_end_38 (by decide) ?_
    refine kr_icmp_ge C0 (by omega) (by omega) (tgt := 61) d_Digest_end_40 (by decide) (fun c_40 => ?_) (fun c_40 => ?_)
    · obtain rfl : k = 8 := by omega
      subst hg
      exact kk fb fw H locs ls hbl hP hD hS (lv_sub hl [0, 1, 2, 3] rfl)
    · exact absurd c_40 (by omega)
  | succ n ih =>
    intro k g fb fw H locs ls hn hg hbl hP hD hS hl
    refine lv_iload hx hb d_Digest_end_36 (lv_at hl 4 rfl) ?_
    refine lv_bipush (v := nI 8) hx hb d_Digest_end_38 (by decide) ?_
    refine kr_icmp_ge C0 (by omega) (by omega) (tgt := 61) d_Digest_end_40 (by decide) (fun c_40 => ?_) (fun c_40 => ?_)
    · exact absurd c_40 (by omega)
    · refine lv_aload_n hx hb d_Digest_end_43 rfl (lv_at hl 0 rfl) ?_
      refine lv_lload_n hx hb d_Digest_end_44 rfl (lv_at hl 3 rfl) ?_
      refine lv_bipush (v := nI 8) hx hb d_Digest_end_45 (by decide) ?_
      refine lv_iload hx hb d_Digest_end_47 (lv_at hl 4 rfl) ?_
      refine lv_imul hx hb d_Digest_end_49 ?_
      refine lv_lshr hx hb d_Digest_end_50 rfl ?_
      refine lv_l2i hx hb d_Digest_end_51 rfl ?_
      refine kt_i (y := md_bit bits k) rfl ?_
      refine cl_Vv C0 (ty := .int) (rest := []) (wr := [(ta, .inl (cB, 16, .inl to))]) [.int (md_bit bits k)] (c_Digest_add l D cB cI kt tt h0 h1 h2 fb fw g hbl _) (cwV 1 hcm (gd_V kw_127 kw_96 kw_97 kw_9 kw_98) rfl rfl rfl (by decide +kernel) ⟨Nat.le_of_ble_eq_true rfl, Nat.le_of_ble_eq_true rfl⟩) hP hD hS [1, 2, 3] [0] rfl rfl rfl rfl (by decide) rfl 0 rfl rfl rfl hl.1 (Nat.le_of_ble_eq_true rfl) d_Digest_end_52 ⟨Nat.le_of_ble_eq_true rfl, Nat.le_of_ble_eq_true rfl⟩ (fun ⟨fb, fw⟩ H locs hbl hP hD hS => ?_)
      have hP : va_P D classes (wE ta h0 h1 h2 cB cI to fb fw ((md_come g (md_bit bits k)).2.1.1) ((md_come g (md_bit bits k)).2.1.2.1) ((md_come g (md_bit bits k)).2.1.2.2.1) ((md_come g (md_bit bits k)).2.1.2.2.2) (nI ((md_come g (md_bit bits k)).2.2 % 64)) (lN (md_come g (md_bit bits k)).2.2)) H := hP
      have hD : va_D A (wE ta h0 h1 h2 cB cI to fb fw ((md_come g (md_bit bits k)).2.1.1) ((md_come g (md_bit bits k)).2.1.2.1) ((md_come g (md_bit bits k)).2.1.2.2.1) ((md_come g (md_bit bits k)).2.1.2.2.2) (nI ((md_come g (md_bit bits k)).2.2 % 64)) (lN (md_come g (md_bit bits k)).2.2)) := hD
      have hbl : ∀ j, j < 64 → fb j &&& nI 255 = (md_come g (md_bit bits k)).1 j := hbl
      refine lv_iinc (v := nI (k + 1)) (lv' := [(5, .int (nI (k + 1))), (0, .ref h0), (1, .ref ta), (2, .int (nI 0)), (3, .long bits)]) hx hb d_Digest_end_55 hl (k := 4) rfl (nI_1 k) (by decide) rfl (fun ls hl => ?_)
      refine lv_goto (tgt := 36) hx hb d_Digest_end_58 (by decide) ?_
      exact ih (k + 1) _ fb fw H locs ls (by omega) (by rw [hg]; rfl) hbl hP hD hS (lv_sub hl [1, 2, 3, 4, 0] rfl)
set_option maxHeartbeats 4000000 in
set_option maxRecDepth 100000 in
/-- Digest.end: the sum goes to its place -/
theorem lp_end3 {p : Program} {l : Launch} {e : Env} {s : State} {m : MethodId} {args : Array Value} {below : List Frame} {meth : Method} {c : Code} {Q : State → Prop} {D : va_G} {cB cI : ClassId} {A : Nat → Prop} {kt tt : Nat} (C0 : Cx p s m args c b_Digest_end 6 "KeySums$Digest" D (tyL cB cI) A kt tt) (ta h0 h1 h2 : Nat) (fb fw : Nat → Int32) (g : Dg)
    (kk : ∀ (to : Nat → Int32) (H : Heap) (locs : List Loc) (ls : Array Slot), (∀ j, j < 16 → to j &&& nI 255 = md_res g.2.1 j) → va_P D classes (wEg ta h0 h1 h2 cB cI to fb fw g) H → va_D A (wEg ta h0 h1 h2 cB cI to fb fw g) → va_S A s.heap H locs → lv_has ls 6 [(0, .ref h0)] → W p l e ({ frames := 3, cells := 0, slots := 0, locals := 70 } : Room) s m args below meth c H locs 0 0 Q (F0 m 137 ls [])) :
    ∀ (n k : Nat) (to : Nat → Int32) (H : Heap) (locs : List Loc) (ls : Array Slot), k + n = 16 → (∀ j, j < k → to j &&& nI 255 = md_res g.2.1 j) → va_P D classes (wEg ta h0 h1 h2 cB cI to fb fw g) H → va_D A (wEg ta h0 h1 h2 cB cI to fb fw g) → va_S A s.heap H locs → lv_has ls 6 [(0, .ref h0), (1, .ref ta), (2, .int (nI 0)), (5, .int (nI k))] → W p l e ({ frames := 3, cells := 0, slots := 0, locals := 70 } : Room) s m args below meth c H locs 0 0 Q (F0 m 64 ls []) := by
  obtain ⟨hx, hb, hml, hown, hcm, hK, hA, hZ⟩ := id C0
  intro n
  induction n with
  | zero =>
    intro k to H locs ls hn hinv hP hD hS hl
    refine lv_iload hx hb d_Digest_end_64 (lv_at hl 3 rfl) ?_
    refine lv_bipush (v := nI 16) hx hb d_Digest_end_66 (by decide) ?_
    refine kr_icmp_ge C0 (by omega) (by omega) (tgt := 137) d_Digest_end_68 (by decide) (fun c_68 => ?_) (fun c_68 => ?_)
    · exact kk to H locs ls (fun j hj => hinv j (by omega)) hP hD hS (lv_sub hl [0] rfl)
    · exact absurd c_68 (by omega)
  | succ n ih =>
    intro k to H locs ls hn hinv hP hD hS hl
    refine lv_iload hx hb d_Digest_end_64 (lv_at hl 3 rfl) ?_
    refine lv_bipush (v := nI 16) hx hb d_Digest_end_66 (by decide) ?_
    refine kr_icmp_ge C0 (by omega) (by omega) (tgt := 137) d_Digest_end_68 (by decide) (fun c_68 => ?_) (fun c_68 => ?_)
    · exact absurd c_68 (by omega)
    · have tail : W p l e ({ frames := 3, cells := 0, slots := 0, locals := 70 } : Room) s m args below meth c H locs 0 0 Q (F0 m 121 ls [.int (h4 g.2.1 (k / 4)), .int (nI k), .ref ta]) := by
        refine lv_bipush (v := nI 8) hx hb d_Digest_end_121 (by decide) ?_
        refine lv_iload hx hb d_Digest_end_123 (lv_at hl 3 rfl) ?_
        refine lv_iconst (v := nI 4) hx hb d_Digest_end_125 (by decide) ?_
        refine lv_irem hx hb d_Digest_end_126 (by decide) ?_
        refine kt_i (y := nI (k % 4)) (pk_rem (by omega) (by decide) (by decide)) ?_
        refine lv_imul hx hb d_Digest_end_127 ?_
        refine lv_ishr hx hb d_Digest_end_128 ?_
        refine lv_i2b hx hb d_Digest_end_129 rfl ?_
        refine kr_bast C0 hP hD hS 0 0 rfl rfl (k := k) (x := ((h4 g.2.1 (k / 4)) >>> (((nI 8) * (nI (k % 4))) &&& 31)).toInt8.toInt32) (by omega) (by decide) d_Digest_end_130 (fun H locs hP hD hS => ?_)
        have hP : va_P D classes (wE ta h0 h1 h2 cB cI (upd to k (vp_nar .byte (((h4 g.2.1 (k / 4)) >>> (((nI 8) * (nI (k % 4))) &&& 31)).toInt8.toInt32))) fb fw g.2.1.1 g.2.1.2.1 g.2.1.2.2.1 g.2.1.2.2.2 (nI (g.2.2 % 64)) (lN g.2.2)) H := hP
        have hD : va_D A (wE ta h0 h1 h2 cB cI (upd to k (vp_nar .byte (((h4 g.2.1 (k / 4)) >>> (((nI 8) * (nI (k % 4))) &&& 31)).toInt8.toInt32))) fb fw g.2.1.1 g.2.1.2.1 g.2.1.2.2.1 g.2.1.2.2.2 (nI (g.2.2 % 64)) (lN g.2.2)) := hD
        refine lv_iinc (v := nI (k + 1)) (lv' := [(5, .int (nI (k + 1))), (0, .ref h0), (1, .ref ta), (2, .int (nI 0))]) hx hb d_Digest_end_131 hl (k := 3) rfl (nI_1 k) (by decide) rfl (fun ls hl => ?_)
        refine lv_goto (tgt := 64) hx hb d_Digest_end_134 (by decide) ?_
        exact ih (k + 1) _ H locs ls (by omega) (up_by hinv (by_n2 _)) hP hD hS (lv_sub hl [1, 2, 3, 0] rfl)
      refine lv_aload_n hx hb d_Digest_end_71 rfl (lv_at hl 1 rfl) ?_
      refine lv_iload_n hx hb d_Digest_end_72 rfl (lv_at hl 2 rfl) ?_
      refine lv_iload hx hb d_Digest_end_73 (lv_at hl 3 rfl) ?_
      refine lv_iadd hx hb d_Digest_end_75 ?_
      refine kt_i (y := nI k) (by rw [nI_add, Nat.zero_add]) ?_
      refine lv_iload hx hb d_Digest_end_76 (lv_at hl 3 rfl) ?_
      refine lv_iconst (v := nI 4) hx hb d_Digest_end_78 (by decide) ?_
      refine kr_icmp_ge C0 (by omega) (by decide) (tgt := 89) d_Digest_end_79 (by decide) (fun c_79 => ?_) (fun c_79 => ?_)
      · refine lv_iload hx hb d_Digest_end_89 (lv_at hl 3 rfl) ?_
        refine lv_bipush (v := nI 8) hx hb d_Digest_end_91 (by decide) ?_
        refine kr_icmp_ge C0 (by omega) (by decide) (tgt := 103) d_Digest_end_93 (by decide) (fun c_93 => ?_) (fun c_93 => ?_)
        · refine lv_iload hx hb d_Digest_end_103 (lv_at hl 3 rfl) ?_
          refine lv_bipush (v := nI 12) hx hb d_Digest_end_105 (by decide) ?_
          refine kr_icmp_ge C0 (by omega) (by decide) (tgt := 117) d_Digest_end_107 (by decide) (fun c_107 => ?_) (fun c_107 => ?_)
          · refine lv_aload_n hx hb d_Digest_end_117 rfl (lv_at hl 0 rfl) ?_
            refine va_get (D := D) (ci := 0) (v := .int g.2.1.2.2.2) (C := "KeySums$Digest") (T := F_Digest) (N := 8) hx hb hcm i_Digest hown hK hP 1 rfl rfl 5 (by decide) (hcm _ kw_31) (fun _ h9 => h9) rfl d_Digest_end_118 ?_
            refine kt_i (y := h4 g.2.1 (k / 4)) (by rw [show k / 4 = 3 by omega]; rfl) ?_
            exact tail
          · refine lv_aload_n hx hb d_Digest_end_110 rfl (lv_at hl 0 rfl) ?_
            refine va_get (D := D) (ci := 0) (v := .int g.2.1.2.2.1) (C := "KeySums$Digest") (T := F_Digest) (N := 8) hx hb hcm i_Digest hown hK hP 1 rfl rfl 4 (by decide) (hcm _ kw_30) (fun _ h9 => h9) rfl d_Digest_end_111 ?_
            refine lv_goto (tgt := 121) hx hb d_Digest_end_114 (by decide) ?_
            refine kt_i (y := h4 g.2.1 (k / 4)) (by rw [show k / 4 = 2 by omega]; rfl) ?_
            exact tail
        · refine lv_aload_n hx hb d_Digest_end_96 rfl (lv_at hl 0 rfl) ?_
          refine va_get (D := D) (ci := 0) (v := .int g.2.1.2.1) (C := "KeySums$Digest") (T := F_Digest) (N := 8) hx hb hcm i_Digest hown hK hP 1 rfl rfl 3 (by decide) (hcm _ kw_29) (fun _ h9 => h9) rfl d_Digest_end_97 ?_
          refine lv_goto (tgt := 121) hx hb d_Digest_end_100 (by decide) ?_
          refine kt_i (y := h4 g.2.1 (k / 4)) (by rw [show k / 4 = 1 by omega]; rfl) ?_
          exact tail
      · refine lv_aload_n hx hb d_Digest_end_82 rfl (lv_at hl 0 rfl) ?_
        refine va_get (D := D) (ci := 0) (v := .int g.2.1.1) (C := "KeySums$Digest") (T := F_Digest) (N := 8) hx hb hcm i_Digest hown hK hP 1 rfl rfl 2 (by decide) (hcm _ kw_28) (fun _ h9 => h9) rfl d_Digest_end_83 ?_
        refine lv_goto (tgt := 121) hx hb d_Digest_end_86 (by decide) ?_
        refine kt_i (y := h4 g.2.1 (k / 4)) (by rw [show k / 4 = 0 by omega]; rfl) ?_
        exact tail
set_option maxHeartbeats 4000000 in
set_option maxRecDepth 100000 in
/-- Digest.end: the sum is done and laid -/
theorem c_Digest_end (l : Launch) (D : va_G) (cB cI : ClassId) (kt tt : Nat) (ta h0 h1 h2 : Nat) (to fb fw : Nat → Int32) (g : Dg) (hbl : ∀ j, j < 64 → fb j &&& nI 255 = g.1 j) : CtV l y_Digest_end w_Digest_end { frames := 3, cells := 0, slots := 0, locals := 70 } [.ref h0, .ref ta, .int (nI 0)] D (tyL cB cI) kt tt (wEg ta h0 h1 h2 cB cI to fb fw g) (fun (u : (Nat → Int32) × (Nat → Int32) × (Nat → Int32)) => (∀ j, j < 16 → u.1 j &&& nI 255 = md_res (md_end g).2.1 j) ∧ (∀ j, j < 64 → u.2.1 j &&& nI 255 = (md_end g).1 j)) (fun u => (wEg ta h0 h1 h2 cB cI u.1 u.2.1 u.2.2 (md_end g))) := by
  refine ctV_of (by decide) (Nat.le_of_ble_eq_true rfl) ?_
  intro p e s m below meth c A ls C0 hr hlk hin hP hD hl
  have C0 : Cx p s m _ c b_Digest_end 6 "KeySums$Digest" D (tyL cB cI) A kt tt := C0
  obtain ⟨hx, hb, hml, hown, hcm, hK, hA, hZ⟩ := id C0
  have hS : va_S A s.heap s.heap [] := va_S.rf
  have hl : lv_has ls 6 [(0, .ref h0), (1, .ref ta), (2, .int (nI 0))] := hl
  obtain ⟨H, hH⟩ : ∃ H, H = s.heap := ⟨_, rfl⟩
  have hP0 := hP
  rw [← hH] at hP
  have hS : va_S A s.heap H [] := by rw [hH]; exact hS
  suffices hgoal : W p l e _ s m _ below meth c H [] 0 0 _ (F0 m 0 ls []) by rw [hH] at hgoal; exact hgoal
  clear hP0 hH
  refine lv_ldc2 hx hb hown (hcm _ kw_126) d_Digest_end_0 ?_
  refine lv_aload_n hx hb d_Digest_end_3 rfl (lv_at hl 0 rfl) ?_
  refine va_get (D := D) (ci := 0) (v := .long (lN g.2.2)) (C := "KeySums$Digest") (T := F_Digest) (N := 8) hx hb hcm i_Digest hown hK hP 1 rfl rfl 7 (by decide) (hcm _ kw_33) (fun _ h9 => h9) rfl d_Digest_end_4 ?_
  refine lv_lmul hx hb d_Digest_end_7 ?_
  refine lv_lstore_n (lv' := [(3, .long (8 * (lN g.2.2))), (0, .ref h0), (1, .ref ta), (2, .int (nI 0))]) hx hb d_Digest_end_8 rfl hl (by decide) rfl (fun ls hl => ?_)
  refine lv_aload_n hx hb d_Digest_end_9 rfl (lv_at hl 1 rfl) ?_
  refine lv_sipush (v := nI 128) hx hb d_Digest_end_10 (by decide) ?_
  refine cl_Vv C0 (ty := .int) (rest := []) (wr := [(ta, .inl (cB, 16, .inl to))]) [.int (nI 128)] (c_Digest_add l D cB cI kt tt h0 h1 h2 fb fw g hbl _) (cwV 1 hcm (gd_V kw_127 kw_96 kw_97 kw_9 kw_98) rfl rfl rfl (by decide +kernel) ⟨Nat.le_of_ble_eq_true rfl, Nat.le_of_ble_eq_true rfl⟩) hP hD hS [1, 2, 3] [0] rfl rfl rfl rfl (by decide) rfl 0 rfl rfl rfl hl.1 (Nat.le_of_ble_eq_true rfl) d_Digest_end_13 ⟨Nat.le_of_ble_eq_true rfl, Nat.le_of_ble_eq_true rfl⟩ (fun ⟨fb, fw⟩ H locs hbl hP hD hS => ?_)
  have hP : va_P D classes (wE ta h0 h1 h2 cB cI to fb fw ((md_come g (nI 128)).2.1.1) ((md_come g (nI 128)).2.1.2.1) ((md_come g (nI 128)).2.1.2.2.1) ((md_come g (nI 128)).2.1.2.2.2) (nI ((md_come g (nI 128)).2.2 % 64)) (lN (md_come g (nI 128)).2.2)) H := hP
  have hD : va_D A (wE ta h0 h1 h2 cB cI to fb fw ((md_come g (nI 128)).2.1.1) ((md_come g (nI 128)).2.1.2.1) ((md_come g (nI 128)).2.1.2.2.1) ((md_come g (nI 128)).2.1.2.2.2) (nI ((md_come g (nI 128)).2.2 % 64)) (lN (md_come g (nI 128)).2.2)) := hD
  have hbl : ∀ j, j < 64 → fb j &&& nI 255 = (md_come g (nI 128)).1 j := hbl
  refine lp_end1 C0 ta h0 h1 h2 to (8 * lN g.2.2) (md_pd g) ?_ _ (md_come g (nI 128)) fb fw H locs ls rfl rfl hbl hP hD hS (lv_sub hl [1, 2, 3, 0] rfl)
  intro fb fw H locs ls hbl hP hD hS hl
  refine lv_iconst (v := nI 0) hx hb d_Digest_end_33 (by decide) ?_
  refine lv_istore (lv' := [(5, .int (nI 0)), (0, .ref h0), (1, .ref ta), (2, .int (nI 0)), (3, .long (8 * lN g.2.2))]) hx hb d_Digest_end_34 hl (by decide) rfl (fun ls hl => ?_)
  refine lp_end2 C0 ta h0 h1 h2 to (8 * lN g.2.2) (md_pd g) ?_ 8 0 (md_pd g) fb fw H locs ls (by decide) rfl hbl hP hD hS (lv_sub hl [1, 2, 3, 4, 0] rfl)
  intro fb fw H locs ls hbl hP hD hS hl
  refine lv_iconst (v := nI 0) hx hb d_Digest_end_61 (by decide) ?_
  refine lv_istore (lv' := [(5, .int (nI 0)), (0, .ref h0), (1, .ref ta), (2, .int (nI 0)), (3, .long (8 * lN g.2.2))]) hx hb d_Digest_end_62 hl (by decide) rfl (fun ls hl => ?_)
  refine lp_end3 C0 ta h0 h1 h2 fb fw (md_end g) ?_ 16 0 to H locs ls (by decide) (fun j hj => absurd hj (Nat.not_lt_zero j)) hP hD hS (lv_sub hl [1, 2, 3, 0] rfl)
  intro to H locs ls hto hP hD hS hl
  exact kr_vret C0 (to, fb, fw) hr hlk ⟨hto, hbl⟩ hP hD hS d_Digest_end_137
end
section
set_option maxHeartbeats 4000000 in
set_option maxRecDepth 100000 in
/-- KeySums.end, a length that fits -/
theorem c_KeySums_end (l : Launch) (D : va_G) (cB cI : ClassId) (kt tt : Nat) (q : Nat → Nat) (key tape sum : Nat → Int32) (has : Int32) (n ln : Nat) (fb fw : Nat → Int32) (g : Dg) (hln : ln ≤ 2000) (x : Nat) (hxl : x ≤ ln) : CtI l y_KeySums_end w_KeySums_end { frames := 0, cells := 0, slots := 0, locals := 0 } [.ref (q 0), .int (nI x)] D (tyL cB cI) kt tt (wKg q cB cI key tape sum has n ln fb fw g) (fun (r : Int32) (_ : Unit) => r = nI 1) (fun (u : Unit) => (wKg q cB cI key tape sum has n x fb fw g)) := by
  refine ctI_of (by decide) (Nat.le_of_ble_eq_true rfl) ?_
  intro p e s m below meth c A ls C0 hr hlk hin hP hD hl
  have C0 : Cx p s m _ c b_KeySums_end 2 "KeySums" D (tyL cB cI) A kt tt := C0
  obtain ⟨hx, hb, hml, hown, hcm, hK, hA, hZ⟩ := id C0
  have hS : va_S A s.heap s.heap [] := va_S.rf
  have hl : lv_has ls 2 [(0, .ref (q 0)), (1, .int (nI x))] := hl
  obtain ⟨H, hH⟩ : ∃ H, H = s.heap := ⟨_, rfl⟩
  have hP0 := hP
  rw [← hH] at hP
  have hS : va_S A s.heap H [] := by rw [hH]; exact hS
  suffices hgoal : W p l e _ s m _ below meth c H [] 0 0 _ (F0 m 0 ls []) by rw [hH] at hgoal; exact hgoal
  clear hP0 hH
  refine lv_iload_n hx hb d_KeySums_end_0 rfl (lv_at hl 1 rfl) ?_
  refine lv_if_lt (tgt := 12) hx hb d_KeySums_end_1 (by decide) (fun h9 => absurd h9 (nI_pos (by omega))) (fun _ => ?_)
  refine lv_iload_n hx hb d_KeySums_end_4 rfl (lv_at hl 1 rfl) ?_
  refine lv_aload_n hx hb d_KeySums_end_5 rfl (lv_at hl 0 rfl) ?_
  refine va_get (D := D) (ci := 1) (v := .int (nI ln)) (C := "KeySums") (T := F_KeySums) (N := 7) hx hb hcm i_KeySums hown hK hP 0 rfl rfl 6 (by decide) (hcm _ kw_67) (fun _ h9 => h9) rfl d_KeySums_end_6 ?_
  refine kr_icmp_le C0 (by omega) (by omega) (tgt := 14) d_KeySums_end_9 (by decide) (fun c_9 => ?_) (fun c_9 => ?_)
  · refine lv_aload_n hx hb d_KeySums_end_14 rfl (lv_at hl 0 rfl) ?_
    refine lv_iload_n hx hb d_KeySums_end_15 rfl (lv_at hl 1 rfl) ?_
    refine va_put (D := D) (ci := 1) (v := .int (nI x)) (ty := .int) (C := "KeySums") (T := F_KeySums) (N := 7) hx hb hcm i_KeySums t_KeySums t_KeySums_ok n_KeySums hown hK hP hD hS 0 rfl rfl 6 (by decide) (hcm _ kw_67) (fun _ h9 => h9) rfl (by decide +kernel) rfl rfl (Nat.le_of_ble_eq_true rfl) d_KeySums_end_16 (fun H locs hP hD hS => ?_)
    have hP : va_P D classes (wK q cB cI key tape sum has (nI n) (nI x) fb fw g.2.1.1 g.2.1.2.1 g.2.1.2.2.1 g.2.1.2.2.2 (nI (g.2.2 % 64)) (lN g.2.2)) H := hP
    have hD : va_D A (wK q cB cI key tape sum has (nI n) (nI x) fb fw g.2.1.1 g.2.1.2.1 g.2.1.2.2.1 g.2.1.2.2.2 (nI (g.2.2 % 64)) (lN g.2.2)) := hD
    refine lv_iconst (v := nI 1) hx hb d_KeySums_end_19 (by decide) ?_
    exact kr_iret C0 () hr rfl hlk rfl hP hD hS d_KeySums_end_20
  · exact absurd c_9 (by omega)
set_option maxHeartbeats 4000000 in
set_option maxRecDepth 100000 in
/-- KeySums.end, a length that fits not -/
theorem c_KeySums_end_no (l : Launch) (D : va_G) (cB cI : ClassId) (kt tt : Nat) (q : Nat → Nat) (key tape sum : Nat → Int32) (has : Int32) (n ln : Nat) (fb fw : Nat → Int32) (g : Dg) (x : Int32) (hxl : x < 0 ∨ ¬ x ≤ nI ln) : CtI l y_KeySums_end w_KeySums_end { frames := 0, cells := 0, slots := 0, locals := 0 } [.ref (q 0), .int x] D (tyL cB cI) kt tt (wKg q cB cI key tape sum has n ln fb fw g) (fun (r : Int32) (_ : Unit) => r = nI 0) (fun (u : Unit) => (wKg q cB cI key tape sum has n ln fb fw g)) := by
  refine ctI_of (by decide) (Nat.le_of_ble_eq_true rfl) ?_
  intro p e s m below meth c A ls C0 hr hlk hin hP hD hl
  have C0 : Cx p s m _ c b_KeySums_end 2 "KeySums" D (tyL cB cI) A kt tt := C0
  obtain ⟨hx, hb, hml, hown, hcm, hK, hA, hZ⟩ := id C0
  have hS : va_S A s.heap s.heap [] := va_S.rf
  have hl : lv_has ls 2 [(0, .ref (q 0)), (1, .int x)] := hl
  obtain ⟨H, hH⟩ : ∃ H, H = s.heap := ⟨_, rfl⟩
  have hP0 := hP
  rw [← hH] at hP
  have hS : va_S A s.heap H [] := by rw [hH]; exact hS
  suffices hgoal : W p l e _ s m _ below meth c H [] 0 0 _ (F0 m 0 ls []) by rw [hH] at hgoal; exact hgoal
  clear hP0 hH
  refine lv_iload_n hx hb d_KeySums_end_0 rfl (lv_at hl 1 rfl) ?_
  refine lv_if_lt (tgt := 12) hx hb d_KeySums_end_1 (by decide) (fun c_1 => ?_) (fun c_1 => ?_)
  · refine lv_iconst (v := nI 0) hx hb d_KeySums_end_12 (by decide) ?_
    exact kr_iret C0 () hr rfl hlk rfl hP hD hS d_KeySums_end_13
  · refine lv_iload_n hx hb d_KeySums_end_4 rfl (lv_at hl 1 rfl) ?_
    refine lv_aload_n hx hb d_KeySums_end_5 rfl (lv_at hl 0 rfl) ?_
    refine va_get (D := D) (ci := 1) (v := .int (nI ln)) (C := "KeySums") (T := F_KeySums) (N := 7) hx hb hcm i_KeySums hown hK hP 0 rfl rfl 6 (by decide) (hcm _ kw_67) (fun _ h9 => h9) rfl d_KeySums_end_6 ?_
    refine lv_icmp_le (tgt := 14) hx hb d_KeySums_end_9 (by decide) (fun c_9 => ?_) (fun c_9 => ?_)
    · exact absurd c_9 (hxl.resolve_left c_1)
    · refine lv_iconst (v := nI 0) hx hb d_KeySums_end_12 (by decide) ?_
      exact kr_iret C0 () hr rfl hlk rfl hP hD hS d_KeySums_end_13
set_option maxHeartbeats 4000000 in
set_option maxRecDepth 100000 in
/-- KeySums.key: the loop -/
theorem lp_key {p : Program} {l : Launch} {e : Env} {s : State} {m : MethodId} {args : Array Value} {below : List Frame} {meth : Method} {c : Code} {Q : State → Prop} {D : va_G} {cB cI : ClassId} {A : Nat → Prop} {kt tt : Nat} (C0 : Cx p s m args c b_KeySums_key 3 "KeySums" D (tyL cB cI) A kt tt) (q : Nat → Nat) (tape sum : Nat → Int32) (has : Int32) (n ln : Nat) (fb fw : Nat → Int32) (g : Dg) (hln : ln ≤ 16)
    (kk : ∀ (key : Nat → Int32) (H : Heap) (locs : List Loc) (ls : Array Slot), (∀ j, j < 16 → key j &&& nI 255 = (if j < ln then tape j &&& nI 255 else nI 0)) → va_P D classes (wKg q cB cI key tape sum has n 0 fb fw g) H → va_D A (wKg q cB cI key tape sum has n 0 fb fw g) → va_S A s.heap H locs → lv_has ls 3 [(0, .ref (q 0)), (1, .int (nI ln))] → W p l e ({ frames := 0, cells := 0, slots := 0, locals := 0 } : Room) s m args below meth c H locs 0 0 Q (F0 m 53 ls [])) :
    ∀ (z i : Nat) (key : Nat → Int32) (H : Heap) (locs : List Loc) (ls : Array Slot), i + z = 16 → (∀ j, j < i → key j &&& nI 255 = (if j < ln then tape j &&& nI 255 else nI 0)) → va_P D classes (wKg q cB cI key tape sum has n 0 fb fw g) H → va_D A (wKg q cB cI key tape sum has n 0 fb fw g) → va_S A s.heap H locs → lv_has ls 3 [(0, .ref (q 0)), (1, .int (nI ln)), (2, .int (nI i))] → W p l e ({ frames := 0, cells := 0, slots := 0, locals := 0 } : Room) s m args below meth c H locs 0 0 Q (F0 m 20 ls []) := by
  obtain ⟨hx, hb, hml, hown, hcm, hK, hA, hZ⟩ := id C0
  intro z
  induction z with
  | zero =>
    intro i key H locs ls hi hinv hP hD hS hl
    refine lv_iload_n hx hb d_KeySums_key_20 rfl (lv_at hl 2 rfl) ?_
    refine lv_bipush (v := nI 16) hx hb d_KeySums_key_21 (by decide) ?_
    refine kr_icmp_ge C0 (by omega) (by omega) (tgt := 53) d_KeySums_key_23 (by decide) (fun c_23 => ?_) (fun c_23 => ?_)
    · exact kk key H locs ls (fun j hj => hinv j (by omega)) hP hD hS (lv_sub hl [0, 1] rfl)
    · exact absurd c_23 (by omega)
  | succ z ih =>
    intro i key H locs ls hi hinv hP hD hS hl
    refine lv_iload_n hx hb d_KeySums_key_20 rfl (lv_at hl 2 rfl) ?_
    refine lv_bipush (v := nI 16) hx hb d_KeySums_key_21 (by decide) ?_
    refine kr_icmp_ge C0 (by omega) (by omega) (tgt := 53) d_KeySums_key_23 (by decide) (fun c_23 => ?_) (fun c_23 => ?_)
    · exact absurd c_23 (by omega)
    · have tail : ∀ (y : Int32), y &&& nI 255 = (if i < ln then tape i &&& nI 255 else nI 0) → W p l e ({ frames := 0, cells := 0, slots := 0, locals := 0 } : Room) s m args below meth c H locs 0 0 Q (F0 m 46 ls [.int y, .int (nI i), .ref (q 1)]) := by
        intro y hy
        refine kr_bast C0 hP hD hS 1 0 rfl rfl (k := i) (x := y) (by omega) (by decide) d_KeySums_key_46 (fun H locs hP hD hS => ?_)
        have hP : va_P D classes (wK q cB cI (upd key i (vp_nar .byte y)) tape sum has (nI n) (nI 0) fb fw g.2.1.1 g.2.1.2.1 g.2.1.2.2.1 g.2.1.2.2.2 (nI (g.2.2 % 64)) (lN g.2.2)) H := hP
        have hD : va_D A (wK q cB cI (upd key i (vp_nar .byte y)) tape sum has (nI n) (nI 0) fb fw g.2.1.1 g.2.1.2.1 g.2.1.2.2.1 g.2.1.2.2.2 (nI (g.2.2 % 64)) (lN g.2.2)) := hD
        refine lv_iinc (v := nI (i + 1)) (lv' := [(2, .int (nI (i + 1))), (0, .ref (q 0)), (1, .int (nI ln))]) hx hb d_KeySums_key_47 hl (k := 2) rfl (nI_1 i) (by decide) rfl (fun ls hl => ?_)
        refine lv_goto (tgt := 20) hx hb d_KeySums_key_50 (by decide) ?_
        exact ih (i + 1) _ H locs ls (by omega) (up_by (g := fun j => if j < ln then tape j &&& nI 255 else nI 0) hinv (by rw [by_nand]; exact hy)) hP hD hS (lv_sub hl [1, 2, 0] rfl)
      refine lv_aload_n hx hb d_KeySums_key_26 rfl (lv_at hl 0 rfl) ?_
      refine va_get (D := D) (ci := 1) (v := .ref (q 1)) (C := "KeySums") (T := F_KeySums) (N := 7) hx hb hcm i_KeySums hown hK hP 0 rfl rfl 1 (by decide) (hcm _ kw_62) (fun _ h9 => h9) rfl d_KeySums_key_27 ?_
      refine lv_iload_n hx hb d_KeySums_key_30 rfl (lv_at hl 2 rfl) ?_
      refine lv_iload_n hx hb d_KeySums_key_31 rfl (lv_at hl 2 rfl) ?_
      refine lv_iload_n hx hb d_KeySums_key_32 rfl (lv_at hl 1 rfl) ?_
      refine kr_icmp_ge C0 (by omega) (by omega) (tgt := 45) d_KeySums_key_33 (by decide) (fun c_33 => ?_) (fun c_33 => ?_)
      · refine lv_iconst (v := nI 0) hx hb d_KeySums_key_45 (by decide) ?_
        exact tail _ (by rw [if_neg (by omega)]; exact by_0)
      · refine lv_aload_n hx hb d_KeySums_key_36 rfl (lv_at hl 0 rfl) ?_
        refine va_get (D := D) (ci := 1) (v := .ref (q 2)) (C := "KeySums") (T := F_KeySums) (N := 7) hx hb hcm i_KeySums hown hK hP 0 rfl rfl 5 (by decide) (hcm _ kw_66) (fun _ h9 => h9) rfl d_KeySums_key_37 ?_
        refine lv_iload_n hx hb d_KeySums_key_40 rfl (lv_at hl 2 rfl) ?_
        refine kr_bald C0 hP 2 0 rfl rfl (k := i) (by omega) (by decide) d_KeySums_key_41 ?_
        refine lv_goto (tgt := 46) hx hb d_KeySums_key_42 (by decide) ?_
        exact tail _ (by rw [if_pos c_33])
set_option maxHeartbeats 4000000 in
set_option maxRecDepth 100000 in
/-- KeySums.key, a tape that fits -/
theorem c_KeySums_key (l : Launch) (D : va_G) (cB cI : ClassId) (kt tt : Nat) (q : Nat → Nat) (key tape sum : Nat → Int32) (has : Int32) (n ln : Nat) (fb fw : Nat → Int32) (g : Dg) (hln : ln ≤ 16) : CtI l y_KeySums_key w_KeySums_key { frames := 0, cells := 0, slots := 0, locals := 0 } [.ref (q 0)] D (tyL cB cI) kt tt (wKg q cB cI key tape sum has n ln fb fw g) (fun (r : Int32) (u : Nat → Int32) => r = nI ln ∧ ∀ j, j < 16 → u j &&& nI 255 = (if j < ln then tape j &&& nI 255 else nI 0)) (fun (u : Nat → Int32) => (wKg q cB cI u tape sum has n 0 fb fw g)) := by
  refine ctI_of (by decide) (Nat.le_of_ble_eq_true rfl) ?_
  intro p e s m below meth c A ls C0 hr hlk hin hP hD hl
  have C0 : Cx p s m _ c b_KeySums_key 3 "KeySums" D (tyL cB cI) A kt tt := C0
  obtain ⟨hx, hb, hml, hown, hcm, hK, hA, hZ⟩ := id C0
  have hS : va_S A s.heap s.heap [] := va_S.rf
  have hl : lv_has ls 3 [(0, .ref (q 0))] := hl
  obtain ⟨H, hH⟩ : ∃ H, H = s.heap := ⟨_, rfl⟩
  have hP0 := hP
  rw [← hH] at hP
  have hS : va_S A s.heap H [] := by rw [hH]; exact hS
  suffices hgoal : W p l e _ s m _ below meth c H [] 0 0 _ (F0 m 0 ls []) by rw [hH] at hgoal; exact hgoal
  clear hP0 hH
  refine lv_aload_n hx hb d_KeySums_key_0 rfl (lv_at hl 0 rfl) ?_
  refine va_get (D := D) (ci := 1) (v := .int (nI ln)) (C := "KeySums") (T := F_KeySums) (N := 7) hx hb hcm i_KeySums hown hK hP 0 rfl rfl 6 (by decide) (hcm _ kw_67) (fun _ h9 => h9) rfl d_KeySums_key_1 ?_
  refine lv_istore_n (lv' := [(1, .int (nI ln)), (0, .ref (q 0))]) hx hb d_KeySums_key_4 rfl hl (by decide) rfl (fun ls hl => ?_)
  refine lv_aload_n hx hb d_KeySums_key_5 rfl (lv_at hl 1 rfl) ?_
  refine lv_iconst (v := nI 0) hx hb d_KeySums_key_6 (by decide) ?_
  refine va_put (D := D) (ci := 1) (v := .int (nI 0)) (ty := .int) (C := "KeySums") (T := F_KeySums) (N := 7) hx hb hcm i_KeySums t_KeySums t_KeySums_ok n_KeySums hown hK hP hD hS 0 rfl rfl 6 (by decide) (hcm _ kw_67) (fun _ h9 => h9) rfl (by decide +kernel) rfl rfl (Nat.le_of_ble_eq_true rfl) d_KeySums_key_7 (fun H locs hP hD hS => ?_)
  have hP : va_P D classes (wK q cB cI key tape sum has (nI n) (nI 0) fb fw g.2.1.1 g.2.1.2.1 g.2.1.2.2.1 g.2.1.2.2.2 (nI (g.2.2 % 64)) (lN g.2.2)) H := hP
  have hD : va_D A (wK q cB cI key tape sum has (nI n) (nI 0) fb fw g.2.1.1 g.2.1.2.1 g.2.1.2.2.1 g.2.1.2.2.2 (nI (g.2.2 % 64)) (lN g.2.2)) := hD
  refine lv_iload_n hx hb d_KeySums_key_10 rfl (lv_at hl 0 rfl) ?_
  refine lv_bipush (v := nI 16) hx hb d_KeySums_key_11 (by decide) ?_
  refine kr_icmp_le C0 (by omega) (by omega) (tgt := 18) d_KeySums_key_13 (by decide) (fun c_13 => ?_) (fun c_13 => ?_)
  · refine lv_iconst (v := nI 0) hx hb d_KeySums_key_18 (by decide) ?_
    refine lv_istore_n (lv' := [(2, .int (nI 0)), (1, .int (nI ln)), (0, .ref (q 0))]) hx hb d_KeySums_key_19 rfl hl (by decide) rfl (fun ls hl => ?_)
    refine lp_key C0 q tape sum has n ln fb fw g hln ?_ 16 0 key H locs ls (by decide) (fun j hj => absurd hj (Nat.not_lt_zero j)) hP hD hS (lv_sub hl [2, 1, 0] rfl)
    intro key H locs ls hk hP hD hS hl
    refine lv_iload_n hx hb d_KeySums_key_53 rfl (lv_at hl 1 rfl) ?_
    exact kr_iret C0 key hr rfl hlk ⟨rfl, hk⟩ hP hD hS d_KeySums_key_54
  · exact absurd c_13 (by omega)
set_option maxHeartbeats 4000000 in
set_option maxRecDepth 100000 in
/-- KeySums.key, a tape too long -/
theorem c_KeySums_key_no (l : Launch) (D : va_G) (cB cI : ClassId) (kt tt : Nat) (q : Nat → Nat) (key tape sum : Nat → Int32) (has : Int32) (n ln : Nat) (fb fw : Nat → Int32) (g : Dg) (hln : 16 < ln) (hl2 : ln ≤ 2000) : CtI l y_KeySums_key w_KeySums_key { frames := 0, cells := 0, slots := 0, locals := 0 } [.ref (q 0)] D (tyL cB cI) kt tt (wKg q cB cI key tape sum has n ln fb fw g) (fun (r : Int32) (_ : Unit) => r = -1) (fun (u : Unit) => (wKg q cB cI key tape sum has n 0 fb fw g)) := by
  refine ctI_of (by decide) (Nat.le_of_ble_eq_true rfl) ?_
  intro p e s m below meth c A ls C0 hr hlk hin hP hD hl
  have C0 : Cx p s m _ c b_KeySums_key 3 "KeySums" D (tyL cB cI) A kt tt := C0
  obtain ⟨hx, hb, hml, hown, hcm, hK, hA, hZ⟩ := id C0
  have hS : va_S A s.heap s.heap [] := va_S.rf
  have hl : lv_has ls 3 [(0, .ref (q 0))] := hl
  obtain ⟨H, hH⟩ : ∃ H, H = s.heap := ⟨_, rfl⟩
  have hP0 := hP
  rw [← hH] at hP
  have hS : va_S A s.heap H [] := by rw [hH]; exact hS
  suffices hgoal : W p l e _ s m _ below meth c H [] 0 0 _ (F0 m 0 ls []) by rw [hH] at hgoal; exact hgoal
  clear hP0 hH
  refine lv_aload_n hx hb d_KeySums_key_0 rfl (lv_at hl 0 rfl) ?_
  refine va_get (D := D) (ci := 1) (v := .int (nI ln)) (C := "KeySums") (T := F_KeySums) (N := 7) hx hb hcm i_KeySums hown hK hP 0 rfl rfl 6 (by decide) (hcm _ kw_67) (fun _ h9 => h9) rfl d_KeySums_key_1 ?_
  refine lv_istore_n (lv' := [(1, .int (nI ln)), (0, .ref (q 0))]) hx hb d_KeySums_key_4 rfl hl (by decide) rfl (fun ls hl => ?_)
  refine lv_aload_n hx hb d_KeySums_key_5 rfl (lv_at hl 1 rfl) ?_
  refine lv_iconst (v := nI 0) hx hb d_KeySums_key_6 (by decide) ?_
  refine va_put (D := D) (ci := 1) (v := .int (nI 0)) (ty := .int) (C := "KeySums") (T := F_KeySums) (N := 7) hx hb hcm i_KeySums t_KeySums t_KeySums_ok n_KeySums hown hK hP hD hS 0 rfl rfl 6 (by decide) (hcm _ kw_67) (fun _ h9 => h9) rfl (by decide +kernel) rfl rfl (Nat.le_of_ble_eq_true rfl) d_KeySums_key_7 (fun H locs hP hD hS => ?_)
  have hP : va_P D classes (wK q cB cI key tape sum has (nI n) (nI 0) fb fw g.2.1.1 g.2.1.2.1 g.2.1.2.2.1 g.2.1.2.2.2 (nI (g.2.2 % 64)) (lN g.2.2)) H := hP
  have hD : va_D A (wK q cB cI key tape sum has (nI n) (nI 0) fb fw g.2.1.1 g.2.1.2.1 g.2.1.2.2.1 g.2.1.2.2.2 (nI (g.2.2 % 64)) (lN g.2.2)) := hD
  refine lv_iload_n hx hb d_KeySums_key_10 rfl (lv_at hl 0 rfl) ?_
  refine lv_bipush (v := nI 16) hx hb d_KeySums_key_11 (by decide) ?_
  refine kr_icmp_le C0 (by omega) (by omega) (tgt := 18) d_KeySums_key_13 (by decide) (fun c_13 => ?_) (fun c_13 => ?_)
  · exact absurd c_13 (by omega)
  · refine lv_iconst (v := -1) hx hb d_KeySums_key_16 (by decide) ?_
    exact kr_iret C0 () hr rfl hlk rfl hP hD hS d_KeySums_key_17
set_option maxHeartbeats 4000000 in
set_option maxRecDepth 100000 in
/-- KeySums.sumAt, a place of a sum -/
theorem c_KeySums_sumAt (l : Launch) (D : va_G) (cB cI : ClassId) (kt tt : Nat) (q : Nat → Nat) (key tape sum : Nat → Int32) (has : Int32) (n ln : Nat) (fb fw : Nat → Int32) (g : Dg) (x : Nat) (hx16 : x < 16) (hhas : has ≠ 0) : CtI l y_KeySums_sumAt w_KeySums_sumAt { frames := 0, cells := 0, slots := 0, locals := 0 } [.ref (q 0), .int (nI x)] D (tyL cB cI) kt tt (wKg q cB cI key tape sum has n ln fb fw g) (fun (r : Int32) (_ : Unit) => r = sum x &&& nI 255) (fun (u : Unit) => (wKg q cB cI key tape sum has n ln fb fw g)) := by
  refine ctI_of (by decide) (Nat.le_of_ble_eq_true rfl) ?_
  intro p e s m below meth c A ls C0 hr hlk hin hP hD hl
  have C0 : Cx p s m _ c b_KeySums_sumAt 2 "KeySums" D (tyL cB cI) A kt tt := C0
  obtain ⟨hx, hb, hml, hown, hcm, hK, hA, hZ⟩ := id C0
  have hS : va_S A s.heap s.heap [] := va_S.rf
  have hl : lv_has ls 2 [(0, .ref (q 0)), (1, .int (nI x))] := hl
  obtain ⟨H, hH⟩ : ∃ H, H = s.heap := ⟨_, rfl⟩
  have hP0 := hP
  rw [← hH] at hP
  have hS : va_S A s.heap H [] := by rw [hH]; exact hS
  suffices hgoal : W p l e _ s m _ below meth c H [] 0 0 _ (F0 m 0 ls []) by rw [hH] at hgoal; exact hgoal
  clear hP0 hH
  refine lv_aload_n hx hb d_KeySums_sumAt_0 rfl (lv_at hl 0 rfl) ?_
  refine va_get (D := D) (ci := 1) (v := .int has) (C := "KeySums") (T := F_KeySums) (N := 7) hx hb hcm i_KeySums hown hK hP 0 rfl rfl 3 (by decide) (hcm _ kw_64) (fun _ h9 => h9) rfl d_KeySums_sumAt_1 ?_
  refine lv_if_eq (tgt := 30) hx hb d_KeySums_sumAt_4 (by decide) (fun h9 => absurd h9 hhas) (fun _ => ?_)
  refine lv_iload_n hx hb d_KeySums_sumAt_7 rfl (lv_at hl 1 rfl) ?_
  refine lv_if_lt (tgt := 30) hx hb d_KeySums_sumAt_8 (by decide) (fun h9 => absurd h9 (nI_pos (by omega))) (fun _ => ?_)
  refine lv_iload_n hx hb d_KeySums_sumAt_11 rfl (lv_at hl 1 rfl) ?_
  refine lv_bipush (v := nI 16) hx hb d_KeySums_sumAt_12 (by decide) ?_
  refine kr_icmp_ge C0 (by omega) (by omega) (tgt := 30) d_KeySums_sumAt_14 (by decide) (fun c_14 => ?_) (fun c_14 => ?_)
  · exact absurd c_14 (by omega)
  · refine lv_aload_n hx hb d_KeySums_sumAt_17 rfl (lv_at hl 0 rfl) ?_
    refine va_get (D := D) (ci := 1) (v := .ref (q 3)) (C := "KeySums") (T := F_KeySums) (N := 7) hx hb hcm i_KeySums hown hK hP 0 rfl rfl 2 (by decide) (hcm _ kw_63) (fun _ h9 => h9) rfl d_KeySums_sumAt_18 ?_
    refine lv_iload_n hx hb d_KeySums_sumAt_21 rfl (lv_at hl 1 rfl) ?_
    refine kr_bald C0 hP 3 0 rfl rfl (k := x) (by omega) (by decide) d_KeySums_sumAt_22 ?_
    refine lv_sipush (v := nI 255) hx hb d_KeySums_sumAt_23 (by decide) ?_
    refine lv_iand hx hb d_KeySums_sumAt_26 ?_
    refine lv_goto (tgt := 31) hx hb d_KeySums_sumAt_27 (by decide) ?_
    exact kr_iret C0 () hr rfl hlk rfl hP hD hS d_KeySums_sumAt_31
set_option maxHeartbeats 4000000 in
set_option maxRecDepth 100000 in
/-- KeySums.sumAt, no place or no sum -/
theorem c_KeySums_sumAt_no (l : Launch) (D : va_G) (cB cI : ClassId) (kt tt : Nat) (q : Nat → Nat) (key tape sum : Nat → Int32) (has : Int32) (n ln : Nat) (fb fw : Nat → Int32) (g : Dg) (x : Int32) (hno : has = 0 ∨ x < 0 ∨ nI 16 ≤ x) : CtI l y_KeySums_sumAt w_KeySums_sumAt { frames := 0, cells := 0, slots := 0, locals := 0 } [.ref (q 0), .int x] D (tyL cB cI) kt tt (wKg q cB cI key tape sum has n ln fb fw g) (fun (r : Int32) (_ : Unit) => r = -1) (fun (u : Unit) => (wKg q cB cI key tape sum has n ln fb fw g)) := by
  refine ctI_of (by decide) (Nat.le_of_ble_eq_true rfl) ?_
  intro p e s m below meth c A ls C0 hr hlk hin hP hD hl
  have C0 : Cx p s m _ c b_KeySums_sumAt 2 "KeySums" D (tyL cB cI) A kt tt := C0
  obtain ⟨hx, hb, hml, hown, hcm, hK, hA, hZ⟩ := id C0
  have hS : va_S A s.heap s.heap [] := va_S.rf
  have hl : lv_has ls 2 [(0, .ref (q 0)), (1, .int x)] := hl
  obtain ⟨H, hH⟩ : ∃ H, H = s.heap := ⟨_, rfl⟩
  have hP0 := hP
  rw [← hH] at hP
  have hS : va_S A s.heap H [] := by rw [hH]; exact hS
  suffices hgoal : W p l e _ s m _ below meth c H [] 0 0 _ (F0 m 0 ls []) by rw [hH] at hgoal; exact hgoal
  clear hP0 hH
  refine lv_aload_n hx hb d_KeySums_sumAt_0 rfl (lv_at hl 0 rfl) ?_
  refine va_get (D := D) (ci := 1) (v := .int has) (C := "KeySums") (T := F_KeySums) (N := 7) hx hb hcm i_KeySums hown hK hP 0 rfl rfl 3 (by decide) (hcm _ kw_64) (fun _ h9 => h9) rfl d_KeySums_sumAt_1 ?_
  refine lv_if_eq (tgt := 30) hx hb d_KeySums_sumAt_4 (by decide) (fun c_4 => ?_) (fun c_4 => ?_)
  · refine lv_iconst (v := -1) hx hb d_KeySums_sumAt_30 (by decide) ?_
    exact kr_iret C0 () hr rfl hlk rfl hP hD hS d_KeySums_sumAt_31
  · refine lv_iload_n hx hb d_KeySums_sumAt_7 rfl (lv_at hl 1 rfl) ?_
    refine lv_if_lt (tgt := 30) hx hb d_KeySums_sumAt_8 (by decide) (fun c_8 => ?_) (fun c_8 => ?_)
    · refine lv_iconst (v := -1) hx hb d_KeySums_sumAt_30 (by decide) ?_
      exact kr_iret C0 () hr rfl hlk rfl hP hD hS d_KeySums_sumAt_31
    · refine lv_iload_n hx hb d_KeySums_sumAt_11 rfl (lv_at hl 1 rfl) ?_
      refine lv_bipush (v := nI 16) hx hb d_KeySums_sumAt_12 (by decide) ?_
      refine lv_icmp_ge (tgt := 30) hx hb d_KeySums_sumAt_14 (by decide) (fun c_14 => ?_) (fun c_14 => ?_)
      · refine lv_iconst (v := -1) hx hb d_KeySums_sumAt_30 (by decide) ?_
        exact kr_iret C0 () hr rfl hlk rfl hP hD hS d_KeySums_sumAt_31
      · exact absurd ((hno.resolve_left c_4).resolve_left c_8) c_14
set_option maxHeartbeats 4000000 in
set_option maxRecDepth 100000 in
/-- KeySums.feed: the loop -/
theorem lp_feed {p : Program} {l : Launch} {e : Env} {s : State} {m : MethodId} {args : Array Value} {below : List Frame} {meth : Method} {c : Code} {Q : State → Prop} {D : va_G} {cB cI : ClassId} {A : Nat → Prop} {kt tt : Nat} (C0 : Cx p s m args c b_KeySums_feed 8 "KeySums" D (tyL cB cI) A kt tt) (q : Nat → Nat) (key sum : Nat → Int32) (has : Int32) (n ln : Nat) (fb fw : Nat → Int32) (g : Dg) (xa xb xc xd xe : Int32) (tp : Nat → Int32) (hln : ln + 20 ≤ 2000)
    (kk : ∀ (tape : Nat → Int32) (H : Heap) (locs : List Loc) (ls : Array Slot), (∀ j, j < 2000 → tape j &&& nI 255 = md_tp tp ln xa xb xc xd xe 20 j) → va_P D classes (wKg q cB cI key tape sum has n (ln + 20) fb fw g) H → va_D A (wKg q cB cI key tape sum has n (ln + 20) fb fw g) → va_S A s.heap H locs → lv_has ls 8 [(0, .ref (q 0))] → W p l e ({ frames := 0, cells := 0, slots := 0, locals := 0 } : Room) s m args below meth c H locs 0 0 Q (F0 m 112 ls [])) :
    ∀ (z k : Nat) (tape : Nat → Int32) (H : Heap) (locs : List Loc) (ls : Array Slot), k + z = 20 → (∀ j, j < 2000 → tape j &&& nI 255 = md_tp tp ln xa xb xc xd xe k j) → va_P D classes (wKg q cB cI key tape sum has n (ln + k) fb fw g) H → va_D A (wKg q cB cI key tape sum has n (ln + k) fb fw g) → va_S A s.heap H locs → lv_has ls 8 [(0, .ref (q 0)), (1, .int xa), (2, .int xb), (3, .int xc), (4, .int xd), (5, .int xe), (6, .int (nI k))] → W p l e ({ frames := 0, cells := 0, slots := 0, locals := 0 } : Room) s m args below meth c H locs 0 0 Q (F0 m 18 ls []) := by
  obtain ⟨hx, hb, hml, hown, hcm, hK, hA, hZ⟩ := id C0
  intro z
  induction z with
  | zero =>
    intro k tape H locs ls hi hinv hP hD hS hl
    refine lv_iload hx hb d_KeySums_feed_18 (lv_at hl 6 rfl) ?_
    refine lv_bipush (v := nI 20) hx hb d_KeySums_feed_20 (by decide) ?_
    refine kr_icmp_ge C0 (by omega) (by omega) (tgt := 112) d_KeySums_feed_22 (by decide) (fun c_22 => ?_) (fun c_22 => ?_)
    · obtain rfl : k = 20 := by omega
      exact kk tape H locs ls hinv hP hD hS (lv_sub hl [0] rfl)
    · exact absurd c_22 (by omega)
  | succ z ih =>
    intro k tape H locs ls hi hinv hP hD hS hl
    refine lv_iload hx hb d_KeySums_feed_18 (lv_at hl 6 rfl) ?_
    refine lv_bipush (v := nI 20) hx hb d_KeySums_feed_20 (by decide) ?_
    refine kr_icmp_ge C0 (by omega) (by omega) (tgt := 112) d_KeySums_feed_22 (by decide) (fun c_22 => ?_) (fun c_22 => ?_)
    · exact absurd c_22 (by omega)
    · have tail : W p l e ({ frames := 0, cells := 0, slots := 0, locals := 0 } : Room) s m args below meth c H locs 0 0 Q (F0 m 71 ls [.int (md_sel xa xb xc xd xe (k / 4))]) := by
        refine lv_istore (lv' := [(7, .int (md_sel xa xb xc xd xe (k / 4))), (0, .ref (q 0)), (1, .int xa), (2, .int xb), (3, .int xc), (4, .int xd), (5, .int xe), (6, .int (nI k))]) hx hb d_KeySums_feed_71 hl (by decide) rfl (fun ls hl => ?_)
        refine lv_aload_n hx hb d_KeySums_feed_73 rfl (lv_at hl 1 rfl) ?_
        refine va_get (D := D) (ci := 1) (v := .ref (q 2)) (C := "KeySums") (T := F_KeySums) (N := 7) hx hb hcm i_KeySums hown hK hP 0 rfl rfl 5 (by decide) (hcm _ kw_66) (fun _ h9 => h9) rfl d_KeySums_feed_74 ?_
        refine lv_aload_n hx hb d_KeySums_feed_77 rfl (lv_at hl 1 rfl) ?_
        refine va_get (D := D) (ci := 1) (v := .int (nI (ln + k))) (C := "KeySums") (T := F_KeySums) (N := 7) hx hb hcm i_KeySums hown hK hP 0 rfl rfl 6 (by decide) (hcm _ kw_67) (fun _ h9 => h9) rfl d_KeySums_feed_78 ?_
        refine lv_iload hx hb d_KeySums_feed_81 (lv_at hl 0 rfl) ?_
        refine lv_bipush (v := nI 24) hx hb d_KeySums_feed_83 (by decide) ?_
        refine lv_bipush (v := nI 8) hx hb d_KeySums_feed_85 (by decide) ?_
        refine lv_iload hx hb d_KeySums_feed_87 (lv_at hl 7 rfl) ?_
        refine lv_iconst (v := nI 4) hx hb d_KeySums_feed_89 (by decide) ?_
        refine lv_irem hx hb d_KeySums_feed_90 (by decide) ?_
        refine kt_i (y := nI (k % 4)) (pk_rem (by omega) (by decide) (by decide)) ?_
        refine lv_imul hx hb d_KeySums_feed_91 ?_
        refine lv_isub hx hb d_KeySums_feed_92 ?_
        refine kt_i (y := nI (24 - 8 * (k % 4))) (by rw [pk_mul, pk_sub (by omega)]) ?_
        refine lv_ishr hx hb d_KeySums_feed_93 ?_
        refine lv_i2b hx hb d_KeySums_feed_94 rfl ?_
        refine kr_bast C0 hP hD hS 2 0 rfl rfl (k := ln + k) (x := ((md_sel xa xb xc xd xe (k / 4)) >>> ((nI (24 - 8 * (k % 4))) &&& 31)).toInt8.toInt32) (by omega) (by decide) d_KeySums_feed_95 (fun H locs hP hD hS => ?_)
        have hP : va_P D classes (wK q cB cI key (upd tape (ln + k) (vp_nar .byte (((md_sel xa xb xc xd xe (k / 4)) >>> ((nI (24 - 8 * (k % 4))) &&& 31)).toInt8.toInt32))) sum has (nI n) (nI (ln + k)) fb fw g.2.1.1 g.2.1.2.1 g.2.1.2.2.1 g.2.1.2.2.2 (nI (g.2.2 % 64)) (lN g.2.2)) H := hP
        have hD : va_D A (wK q cB cI key (upd tape (ln + k) (vp_nar .byte (((md_sel xa xb xc xd xe (k / 4)) >>> ((nI (24 - 8 * (k % 4))) &&& 31)).toInt8.toInt32))) sum has (nI n) (nI (ln + k)) fb fw g.2.1.1 g.2.1.2.1 g.2.1.2.2.1 g.2.1.2.2.2 (nI (g.2.2 % 64)) (lN g.2.2)) := hD
        refine lv_aload_n hx hb d_KeySums_feed_96 rfl (lv_at hl 1 rfl) ?_
        refine lv_dup hx hb d_KeySums_feed_97 rfl ?_
        refine va_get (D := D) (ci := 1) (v := .int (nI (ln + k))) (C := "KeySums") (T := F_KeySums) (N := 7) hx hb hcm i_KeySums hown hK hP 0 rfl rfl 6 (by decide) (hcm _ kw_67) (fun _ h9 => h9) rfl d_KeySums_feed_98 ?_
        refine lv_iconst (v := nI 1) hx hb d_KeySums_feed_101 (by decide) ?_
        refine lv_iadd hx hb d_KeySums_feed_102 ?_
        refine kt_i (y := nI (ln + (k + 1))) (by rw [nI_add, Nat.add_assoc]) ?_
        refine va_put (D := D) (ci := 1) (v := .int (nI (ln + (k + 1)))) (ty := .int) (C := "KeySums") (T := F_KeySums) (N := 7) hx hb hcm i_KeySums t_KeySums t_KeySums_ok n_KeySums hown hK hP hD hS 0 rfl rfl 6 (by decide) (hcm _ kw_67) (fun _ h9 => h9) rfl (by decide +kernel) rfl rfl (Nat.le_of_ble_eq_true rfl) d_KeySums_feed_103 (fun H locs hP hD hS => ?_)
        have hP : va_P D classes (wK q cB cI key (upd tape (ln + k) (vp_nar .byte (((md_sel xa xb xc xd xe (k / 4)) >>> ((nI (24 - 8 * (k % 4))) &&& 31)).toInt8.toInt32))) sum has (nI n) (nI (ln + (k + 1))) fb fw g.2.1.1 g.2.1.2.1 g.2.1.2.2.1 g.2.1.2.2.2 (nI (g.2.2 % 64)) (lN g.2.2)) H := hP
        have hD : va_D A (wK q cB cI key (upd tape (ln + k) (vp_nar .byte (((md_sel xa xb xc xd xe (k / 4)) >>> ((nI (24 - 8 * (k % 4))) &&& 31)).toInt8.toInt32))) sum has (nI n) (nI (ln + (k + 1))) fb fw g.2.1.1 g.2.1.2.1 g.2.1.2.2.1 g.2.1.2.2.2 (nI (g.2.2 % 64)) (lN g.2.2)) := hD
        refine lv_iinc (v := nI (k + 1)) (lv' := [(6, .int (nI (k + 1))), (7, .int (md_sel xa xb xc xd xe (k / 4))), (0, .ref (q 0)), (1, .int xa), (2, .int xb), (3, .int xc), (4, .int xd), (5, .int xe)]) hx hb d_KeySums_feed_106 hl (k := 7) rfl (nI_1 k) (by decide) rfl (fun ls hl => ?_)
        refine lv_goto (tgt := 18) hx hb d_KeySums_feed_109 (by decide) ?_
        exact ih (k + 1) _ H locs ls (by omega) (by_upd hinv (ln + k) (by_n2 _)) hP hD hS (lv_sub hl [2, 3, 4, 5, 6, 7, 0] rfl)
      refine lv_iload hx hb d_KeySums_feed_25 (lv_at hl 6 rfl) ?_
      refine lv_iconst (v := nI 4) hx hb d_KeySums_feed_27 (by decide) ?_
      refine kr_icmp_ge C0 (by omega) (by decide) (tgt := 35) d_KeySums_feed_28 (by decide) (fun c_28 => ?_) (fun c_28 => ?_)
      · refine lv_iload hx hb d_KeySums_feed_35 (lv_at hl 6 rfl) ?_
        refine lv_bipush (v := nI 8) hx hb d_KeySums_feed_37 (by decide) ?_
        refine kr_icmp_ge C0 (by omega) (by decide) (tgt := 46) d_KeySums_feed_39 (by decide) (fun c_39 => ?_) (fun c_39 => ?_)
        · refine lv_iload hx hb d_KeySums_feed_46 (lv_at hl 6 rfl) ?_
          refine lv_bipush (v := nI 12) hx hb d_KeySums_feed_48 (by decide) ?_
          refine kr_icmp_ge C0 (by omega) (by decide) (tgt := 57) d_KeySums_feed_50 (by decide) (fun c_50 => ?_) (fun c_50 => ?_)
          · refine lv_iload hx hb d_KeySums_feed_57 (lv_at hl 6 rfl) ?_
            refine lv_bipush (v := nI 16) hx hb d_KeySums_feed_59 (by decide) ?_
            refine kr_icmp_ge C0 (by omega) (by decide) (tgt := 69) d_KeySums_feed_61 (by decide) (fun c_61 => ?_) (fun c_61 => ?_)
            · refine lv_iload hx hb d_KeySums_feed_69 (lv_at hl 5 rfl) ?_
              refine kt_i (y := md_sel xa xb xc xd xe (k / 4)) (by rw [show k / 4 = 4 by omega]; rfl) ?_
              exact tail
            · refine lv_iload hx hb d_KeySums_feed_64 (lv_at hl 4 rfl) ?_
              refine lv_goto (tgt := 71) hx hb d_KeySums_feed_66 (by decide) ?_
              refine kt_i (y := md_sel xa xb xc xd xe (k / 4)) (by rw [show k / 4 = 3 by omega]; rfl) ?_
              exact tail
          · refine lv_iload_n hx hb d_KeySums_feed_53 rfl (lv_at hl 3 rfl) ?_
            refine lv_goto (tgt := 71) hx hb d_KeySums_feed_54 (by decide) ?_
            refine kt_i (y := md_sel xa xb xc xd xe (k / 4)) (by rw [show k / 4 = 2 by omega]; rfl) ?_
            exact tail
        · refine lv_iload_n hx hb d_KeySums_feed_42 rfl (lv_at hl 2 rfl) ?_
          refine lv_goto (tgt := 71) hx hb d_KeySums_feed_43 (by decide) ?_
          refine kt_i (y := md_sel xa xb xc xd xe (k / 4)) (by rw [show k / 4 = 1 by omega]; rfl) ?_
          exact tail
      · refine lv_iload_n hx hb d_KeySums_feed_31 rfl (lv_at hl 1 rfl) ?_
        refine lv_goto (tgt := 71) hx hb d_KeySums_feed_32 (by decide) ?_
        refine kt_i (y := md_sel xa xb xc xd xe (k / 4)) (by rw [show k / 4 = 0 by omega]; rfl) ?_
        exact tail
set_option maxHeartbeats 4000000 in
set_option maxRecDepth 100000 in
/-- KeySums.feed, twenty bytes that fit -/
theorem c_KeySums_feed (l : Launch) (D : va_G) (cB cI : ClassId) (kt tt : Nat) (q : Nat → Nat) (key tape sum : Nat → Int32) (has : Int32) (n ln : Nat) (fb fw : Nat → Int32) (g : Dg) (xa xb xc xd xe : Int32) (tp : Nat → Int32) (hln : ln + 20 ≤ 2000) (htp : ∀ j, j < 2000 → tape j &&& nI 255 = tp j) : CtI l y_KeySums_feed w_KeySums_feed { frames := 0, cells := 0, slots := 0, locals := 0 } [.ref (q 0), .int xa, .int xb, .int xc, .int xd, .int xe] D (tyL cB cI) kt tt (wKg q cB cI key tape sum has n ln fb fw g) (fun (r : Int32) (u : Nat → Int32) => r = nI 1 ∧ ∀ j, j < 2000 → u j &&& nI 255 = md_tp tp ln xa xb xc xd xe 20 j) (fun (u : Nat → Int32) => (wKg q cB cI key u sum has n (ln + 20) fb fw g)) := by
  refine ctI_of (by decide) (Nat.le_of_ble_eq_true rfl) ?_
  intro p e s m below meth c A ls C0 hr hlk hin hP hD hl
  have C0 : Cx p s m _ c b_KeySums_feed 8 "KeySums" D (tyL cB cI) A kt tt := C0
  obtain ⟨hx, hb, hml, hown, hcm, hK, hA, hZ⟩ := id C0
  have hS : va_S A s.heap s.heap [] := va_S.rf
  have hl : lv_has ls 8 [(0, .ref (q 0)), (1, .int xa), (2, .int xb), (3, .int xc), (4, .int xd), (5, .int xe)] := hl
  obtain ⟨H, hH⟩ : ∃ H, H = s.heap := ⟨_, rfl⟩
  have hP0 := hP
  rw [← hH] at hP
  have hS : va_S A s.heap H [] := by rw [hH]; exact hS
  suffices hgoal : W p l e _ s m _ below meth c H [] 0 0 _ (F0 m 0 ls []) by rw [hH] at hgoal; exact hgoal
  clear hP0 hH
  refine lv_aload_n hx hb d_KeySums_feed_0 rfl (lv_at hl 0 rfl) ?_
  refine va_get (D := D) (ci := 1) (v := .int (nI ln)) (C := "KeySums") (T := F_KeySums) (N := 7) hx hb hcm i_KeySums hown hK hP 0 rfl rfl 6 (by decide) (hcm _ kw_67) (fun _ h9 => h9) rfl d_KeySums_feed_1 ?_
  refine lv_bipush (v := nI 20) hx hb d_KeySums_feed_4 (by decide) ?_
  refine lv_iadd hx hb d_KeySums_feed_6 ?_
  refine kt_i (y := nI (ln + 20)) (nI_add _ _) ?_
  refine lv_sipush (v := nI 2000) hx hb d_KeySums_feed_7 (by decide) ?_
  refine kr_icmp_le C0 (by omega) (by omega) (tgt := 15) d_KeySums_feed_10 (by decide) (fun c_10 => ?_) (fun c_10 => ?_)
  · refine lv_iconst (v := nI 0) hx hb d_KeySums_feed_15 (by decide) ?_
    refine lv_istore (lv' := [(6, .int (nI 0)), (0, .ref (q 0)), (1, .int xa), (2, .int xb), (3, .int xc), (4, .int xd), (5, .int xe)]) hx hb d_KeySums_feed_16 hl (by decide) rfl (fun ls hl => ?_)
    refine lp_feed C0 q key sum has n ln fb fw g xa xb xc xd xe tp hln ?_ 20 0 tape H _ ls (by decide) htp hP hD hS (lv_sub hl [1, 2, 3, 4, 5, 6, 0] rfl)
    intro tape H locs ls ht hP hD hS hl
    refine lv_iconst (v := nI 1) hx hb d_KeySums_feed_112 (by decide) ?_
    exact kr_iret C0 tape hr rfl hlk ⟨rfl, ht⟩ hP hD hS d_KeySums_feed_113
  · exact absurd c_10 (by omega)
set_option maxHeartbeats 4000000 in
set_option maxRecDepth 100000 in
/-- KeySums.feed, no room -/
theorem c_KeySums_feed_no (l : Launch) (D : va_G) (cB cI : ClassId) (kt tt : Nat) (q : Nat → Nat) (key tape sum : Nat → Int32) (has : Int32) (n ln : Nat) (fb fw : Nat → Int32) (g : Dg) (xa xb xc xd xe : Int32) (hln : ¬ ln + 20 ≤ 2000) (hl2 : ln ≤ 2000) : CtI l y_KeySums_feed w_KeySums_feed { frames := 0, cells := 0, slots := 0, locals := 0 } [.ref (q 0), .int xa, .int xb, .int xc, .int xd, .int xe] D (tyL cB cI) kt tt (wKg q cB cI key tape sum has n ln fb fw g) (fun (r : Int32) (_ : Unit) => r = nI 0) (fun (u : Unit) => (wKg q cB cI key tape sum has n ln fb fw g)) := by
  refine ctI_of (by decide) (Nat.le_of_ble_eq_true rfl) ?_
  intro p e s m below meth c A ls C0 hr hlk hin hP hD hl
  have C0 : Cx p s m _ c b_KeySums_feed 8 "KeySums" D (tyL cB cI) A kt tt := C0
  obtain ⟨hx, hb, hml, hown, hcm, hK, hA, hZ⟩ := id C0
  have hS : va_S A s.heap s.heap [] := va_S.rf
  have hl : lv_has ls 8 [(0, .ref (q 0)), (1, .int xa), (2, .int xb), (3, .int xc), (4, .int xd), (5, .int xe)] := hl
  obtain ⟨H, hH⟩ : ∃ H, H = s.heap := ⟨_, rfl⟩
  have hP0 := hP
  rw [← hH] at hP
  have hS : va_S A s.heap H [] := by rw [hH]; exact hS
  suffices hgoal : W p l e _ s m _ below meth c H [] 0 0 _ (F0 m 0 ls []) by rw [hH] at hgoal; exact hgoal
  clear hP0 hH
  refine lv_aload_n hx hb d_KeySums_feed_0 rfl (lv_at hl 0 rfl) ?_
  refine va_get (D := D) (ci := 1) (v := .int (nI ln)) (C := "KeySums") (T := F_KeySums) (N := 7) hx hb hcm i_KeySums hown hK hP 0 rfl rfl 6 (by decide) (hcm _ kw_67) (fun _ h9 => h9) rfl d_KeySums_feed_1 ?_
  refine lv_bipush (v := nI 20) hx hb d_KeySums_feed_4 (by decide) ?_
  refine lv_iadd hx hb d_KeySums_feed_6 ?_
  refine kt_i (y := nI (ln + 20)) (nI_add _ _) ?_
  refine lv_sipush (v := nI 2000) hx hb d_KeySums_feed_7 (by decide) ?_
  refine kr_icmp_le C0 (by omega) (by omega) (tgt := 15) d_KeySums_feed_10 (by decide) (fun c_10 => ?_) (fun c_10 => ?_)
  · exact absurd c_10 hln
  · refine lv_iconst (v := nI 0) hx hb d_KeySums_feed_13 (by decide) ?_
    exact kr_iret C0 () hr rfl hlk rfl hP hD hS d_KeySums_feed_14
end
section
set_option maxHeartbeats 4000000 in
set_option maxRecDepth 100000 in
/-- KeySums.add: the loop -/
theorem lp_Kadd {p : Program} {l : Launch} {e : Env} {s : State} {m : MethodId} {args : Array Value} {below : List Frame} {meth : Method} {c : Code} {Q : State → Prop} {D : va_G} {cB cI : ClassId} {A : Nat → Prop} {kt tt : Nat} (C0 : Cx p s m args c b_KeySums_add 2 "KeySums" D (tyL cB cI) A kt tt) (q : Nat → Nat) (key tape sum : Nat → Int32) (has : Int32) (n ln : Nat) (hln : ln ≤ 2000) (g0 : Dg)
    (kk : ∀ (fb fw : Nat → Int32) (H : Heap) (locs : List Loc) (ls : Array Slot), (∀ j, j < 64 → fb j &&& nI 255 = (md_feed g0 tape ln).1 j) → va_P D classes (wKg q cB cI key tape sum has n ln fb fw (md_feed g0 tape ln)) H → va_D A (wKg q cB cI key tape sum has n ln fb fw (md_feed g0 tape ln)) → va_S A s.heap H locs → lv_has ls 2 [(0, .ref (q 0))] → W p l e ({ frames := 3, cells := 0, slots := 0, locals := 70 } : Room) s m args below meth c H locs 0 0 Q (F0 m 29 ls [])) :
    ∀ (z k : Nat) (g : Dg) (fb fw : Nat → Int32) (H : Heap) (locs : List Loc) (ls : Array Slot), k + z = ln → g = md_feed g0 tape k → (∀ j, j < 64 → fb j &&& nI 255 = g.1 j) → va_P D classes (wKg q cB cI key tape sum has n ln fb fw g) H → va_D A (wKg q cB cI key tape sum has n ln fb fw g) → va_S A s.heap H locs → lv_has ls 2 [(0, .ref (q 0)), (1, .int (nI k))] → W p l e ({ frames := 3, cells := 0, slots := 0, locals := 70 } : Room) s m args below meth c H locs 0 0 Q (F0 m 2 ls []) := by
  obtain ⟨hx, hb, hml, hown, hcm, hK, hA, hZ⟩ := id C0
  intro z
  induction z with
  | zero =>
    intro k g fb fw H locs ls hi hg hbl hP hD hS hl
    refine lv_iload_n hx hb d_KeySums_add_2 rfl (lv_at hl 1 rfl) ?_
    refine lv_aload_n hx hb d_KeySums_add_3 rfl (lv_at hl 0 rfl) ?_
    refine va_get (D := D) (ci := 1) (v := .int (nI ln)) (C := "KeySums") (T := F_KeySums) (N := 7) hx hb hcm i_KeySums hown hK hP 0 rfl rfl 6 (by decide) (hcm _ kw_67) (fun _ h9 => h9) rfl d_KeySums_add_4 ?_
    refine kr_icmp_ge C0 (by omega) (by omega) (tgt := 29) d_KeySums_add_7 (by decide) (fun c_7 => ?_) (fun c_7 => ?_)
    · obtain rfl : k = ln := by omega
      subst hg
      exact kk fb fw H locs ls hbl hP hD hS (lv_sub hl [0] rfl)
    · exact absurd c_7 (by omega)
  | succ z ih =>
    intro k g fb fw H locs ls hi hg hbl hP hD hS hl
    refine lv_iload_n hx hb d_KeySums_add_2 rfl (lv_at hl 1 rfl) ?_
    refine lv_aload_n hx hb d_KeySums_add_3 rfl (lv_at hl 0 rfl) ?_
    refine va_get (D := D) (ci := 1) (v := .int (nI ln)) (C := "KeySums") (T := F_KeySums) (N := 7) hx hb hcm i_KeySums hown hK hP 0 rfl rfl 6 (by decide) (hcm _ kw_67) (fun _ h9 => h9) rfl d_KeySums_add_4 ?_
    refine kr_icmp_ge C0 (by omega) (by omega) (tgt := 29) d_KeySums_add_7 (by decide) (fun c_7 => ?_) (fun c_7 => ?_)
    · exact absurd c_7 (by omega)
    · refine lv_aload_n hx hb d_KeySums_add_10 rfl (lv_at hl 0 rfl) ?_
      refine va_get (D := D) (ci := 1) (v := .ref (q 4)) (C := "KeySums") (T := F_KeySums) (N := 7) hx hb hcm i_KeySums hown hK hP 0 rfl rfl 0 (by decide) (hcm _ kw_61) (fun _ h9 => h9) rfl d_KeySums_add_11 ?_
      refine lv_aload_n hx hb d_KeySums_add_14 rfl (lv_at hl 0 rfl) ?_
      refine va_get (D := D) (ci := 1) (v := .ref (q 2)) (C := "KeySums") (T := F_KeySums) (N := 7) hx hb hcm i_KeySums hown hK hP 0 rfl rfl 5 (by decide) (hcm _ kw_66) (fun _ h9 => h9) rfl d_KeySums_add_15 ?_
      refine lv_iload_n hx hb d_KeySums_add_18 rfl (lv_at hl 1 rfl) ?_
      refine kr_bald C0 hP 2 0 rfl rfl (k := k) (by omega) (by decide) d_KeySums_add_19 ?_
      refine cl_Vv C0 (ty := .int) (rest := []) (wr := [(q 0, .inr (1, [.ref (q 4), .ref (q 1), .ref (q 3), .int has, .int (nI n), .ref (q 2), .int (nI ln)])), (q 1, .inl (cB, 16, .inl key)), (q 2, .inl (cB, 2000, .inl tape)), (q 3, .inl (cB, 16, .inl sum))]) [.int (tape k)] (c_Digest_add l D cB cI kt tt (q 4) (q 5) (q 6) fb fw g hbl _) (cwV 1 hcm (gd_V kw_95 kw_96 kw_97 kw_9 kw_98) rfl rfl rfl (by decide +kernel) ⟨Nat.le_of_ble_eq_true rfl, Nat.le_of_ble_eq_true rfl⟩) hP hD hS [4, 5, 6] [0, 1, 2, 3] rfl rfl rfl rfl (by decide) rfl 0 rfl rfl rfl hl.1 (Nat.le_of_ble_eq_true rfl) d_KeySums_add_20 ⟨Nat.le_of_ble_eq_true rfl, Nat.le_of_ble_eq_true rfl⟩ (fun ⟨fb, fw⟩ H locs hbl hP hD hS => ?_)
      have hP : va_P D classes (wK q cB cI key tape sum has (nI n) (nI ln) fb fw ((md_come g (tape k)).2.1.1) ((md_come g (tape k)).2.1.2.1) ((md_come g (tape k)).2.1.2.2.1) ((md_come g (tape k)).2.1.2.2.2) (nI ((md_come g (tape k)).2.2 % 64)) (lN (md_come g (tape k)).2.2)) H := hP
      have hD : va_D A (wK q cB cI key tape sum has (nI n) (nI ln) fb fw ((md_come g (tape k)).2.1.1) ((md_come g (tape k)).2.1.2.1) ((md_come g (tape k)).2.1.2.2.1) ((md_come g (tape k)).2.1.2.2.2) (nI ((md_come g (tape k)).2.2 % 64)) (lN (md_come g (tape k)).2.2)) := hD
      have hbl : ∀ j, j < 64 → fb j &&& nI 255 = (md_come g (tape k)).1 j := hbl
      refine lv_iinc (v := nI (k + 1)) (lv' := [(1, .int (nI (k + 1))), (0, .ref (q 0))]) hx hb d_KeySums_add_23 hl (k := 1) rfl (nI_1 k) (by decide) rfl (fun ls hl => ?_)
      refine lv_goto (tgt := 2) hx hb d_KeySums_add_26 (by decide) ?_
      exact ih (k + 1) _ fb fw H locs ls (by omega) (by rw [hg]; rfl) hbl hP hD hS (lv_sub hl [1, 0] rfl)
set_option maxHeartbeats 4000000 in
set_option maxRecDepth 100000 in
/-- KeySums.add: the tape comes -/
theorem c_KeySums_add (l : Launch) (D : va_G) (cB cI : ClassId) (kt tt : Nat) (q : Nat → Nat) (key tape sum : Nat → Int32) (has : Int32) (n ln : Nat) (fb fw : Nat → Int32) (g : Dg) (hbl : ∀ j, j < 64 → fb j &&& nI 255 = g.1 j) (hln : ln ≤ 2000) : CtI l y_KeySums_add w_KeySums_add { frames := 3, cells := 0, slots := 0, locals := 70 } [.ref (q 0)] D (tyL cB cI) kt tt (wKg q cB cI key tape sum has n ln fb fw g) (fun (r : Int32) (u : (Nat → Int32) × (Nat → Int32)) => r = nI (n + ln) ∧ ∀ j, j < 64 → u.1 j &&& nI 255 = (md_feed g tape ln).1 j) (fun (u : (Nat → Int32) × (Nat → Int32)) => (wKg q cB cI key tape sum has (n + ln) 0 u.1 u.2 (md_feed g tape ln))) := by
  refine ctI_of (by decide) (Nat.le_of_ble_eq_true rfl) ?_
  intro p e s m below meth c A ls C0 hr hlk hin hP hD hl
  have C0 : Cx p s m _ c b_KeySums_add 2 "KeySums" D (tyL cB cI) A kt tt := C0
  obtain ⟨hx, hb, hml, hown, hcm, hK, hA, hZ⟩ := id C0
  have hS : va_S A s.heap s.heap [] := va_S.rf
  have hl : lv_has ls 2 [(0, .ref (q 0))] := hl
  obtain ⟨H, hH⟩ : ∃ H, H = s.heap := ⟨_, rfl⟩
  have hP0 := hP
  rw [← hH] at hP
  have hS : va_S A s.heap H [] := by rw [hH]; exact hS
  suffices hgoal : W p l e _ s m _ below meth c H [] 0 0 _ (F0 m 0 ls []) by rw [hH] at hgoal; exact hgoal
  clear hP0 hH
  refine lv_iconst (v := nI 0) hx hb d_KeySums_add_0 (by decide) ?_
  refine lv_istore_n (lv' := [(1, .int (nI 0)), (0, .ref (q 0))]) hx hb d_KeySums_add_1 rfl hl (by decide) rfl (fun ls hl => ?_)
  refine lp_Kadd C0 q key tape sum has n ln hln g ?_ ln 0 g fb fw H _ ls (by omega) rfl hbl hP hD hS (lv_sub hl [1, 0] rfl)
  intro fb fw H locs ls hbl hP hD hS hl
  refine lv_aload_n hx hb d_KeySums_add_29 rfl (lv_at hl 0 rfl) ?_
  refine lv_dup hx hb d_KeySums_add_30 rfl ?_
  refine va_get (D := D) (ci := 1) (v := .int (nI n)) (C := "KeySums") (T := F_KeySums) (N := 7) hx hb hcm i_KeySums hown hK hP 0 rfl rfl 4 (by decide) (hcm _ kw_65) (fun _ h9 => h9) rfl d_KeySums_add_31 ?_
  refine lv_aload_n hx hb d_KeySums_add_34 rfl (lv_at hl 0 rfl) ?_
  refine va_get (D := D) (ci := 1) (v := .int (nI ln)) (C := "KeySums") (T := F_KeySums) (N := 7) hx hb hcm i_KeySums hown hK hP 0 rfl rfl 6 (by decide) (hcm _ kw_67) (fun _ h9 => h9) rfl d_KeySums_add_35 ?_
  refine lv_iadd hx hb d_KeySums_add_38 ?_
  refine kt_i (y := nI (n + ln)) (nI_add _ _) ?_
  refine va_put (D := D) (ci := 1) (v := .int (nI (n + ln))) (ty := .int) (C := "KeySums") (T := F_KeySums) (N := 7) hx hb hcm i_KeySums t_KeySums t_KeySums_ok n_KeySums hown hK hP hD hS 0 rfl rfl 4 (by decide) (hcm _ kw_65) (fun _ h9 => h9) rfl (by decide +kernel) rfl rfl (Nat.le_of_ble_eq_true rfl) d_KeySums_add_39 (fun H locs hP hD hS => ?_)
  have hP : va_P D classes (wK q cB cI key tape sum has (nI (n + ln)) (nI ln) fb fw ((md_feed g tape ln).2.1.1) ((md_feed g tape ln).2.1.2.1) ((md_feed g tape ln).2.1.2.2.1) ((md_feed g tape ln).2.1.2.2.2) (nI ((md_feed g tape ln).2.2 % 64)) (lN (md_feed g tape ln).2.2)) H := hP
  have hD : va_D A (wK q cB cI key tape sum has (nI (n + ln)) (nI ln) fb fw ((md_feed g tape ln).2.1.1) ((md_feed g tape ln).2.1.2.1) ((md_feed g tape ln).2.1.2.2.1) ((md_feed g tape ln).2.1.2.2.2) (nI ((md_feed g tape ln).2.2 % 64)) (lN (md_feed g tape ln).2.2)) := hD
  refine lv_aload_n hx hb d_KeySums_add_42 rfl (lv_at hl 0 rfl) ?_
  refine lv_iconst (v := nI 0) hx hb d_KeySums_add_43 (by decide) ?_
  refine va_put (D := D) (ci := 1) (v := .int (nI 0)) (ty := .int) (C := "KeySums") (T := F_KeySums) (N := 7) hx hb hcm i_KeySums t_KeySums t_KeySums_ok n_KeySums hown hK hP hD hS 0 rfl rfl 6 (by decide) (hcm _ kw_67) (fun _ h9 => h9) rfl (by decide +kernel) rfl rfl (Nat.le_of_ble_eq_true rfl) d_KeySums_add_44 (fun H locs hP hD hS => ?_)
  have hP : va_P D classes (wK q cB cI key tape sum has (nI (n + ln)) (nI 0) fb fw ((md_feed g tape ln).2.1.1) ((md_feed g tape ln).2.1.2.1) ((md_feed g tape ln).2.1.2.2.1) ((md_feed g tape ln).2.1.2.2.2) (nI ((md_feed g tape ln).2.2 % 64)) (lN (md_feed g tape ln).2.2)) H := hP
  have hD : va_D A (wK q cB cI key tape sum has (nI (n + ln)) (nI 0) fb fw ((md_feed g tape ln).2.1.1) ((md_feed g tape ln).2.1.2.1) ((md_feed g tape ln).2.1.2.2.1) ((md_feed g tape ln).2.1.2.2.2) (nI ((md_feed g tape ln).2.2 % 64)) (lN (md_feed g tape ln).2.2)) := hD
  refine lv_aload_n hx hb d_KeySums_add_47 rfl (lv_at hl 0 rfl) ?_
  refine va_get (D := D) (ci := 1) (v := .int (nI (n + ln))) (C := "KeySums") (T := F_KeySums) (N := 7) hx hb hcm i_KeySums hown hK hP 0 rfl rfl 4 (by decide) (hcm _ kw_65) (fun _ h9 => h9) rfl d_KeySums_add_48 ?_
  exact kr_iret C0 (fb, fw) hr rfl hlk ⟨rfl, hbl⟩ hP hD hS d_KeySums_add_51
set_option maxHeartbeats 4000000 in
set_option maxRecDepth 100000 in
/-- KeySums.fill: the loop -/
theorem lp_Kfill {p : Program} {l : Launch} {e : Env} {s : State} {m : MethodId} {args : Array Value} {below : List Frame} {meth : Method} {c : Code} {Q : State → Prop} {D : va_G} {cB cI : ClassId} {A : Nat → Prop} {kt tt : Nat} (C0 : Cx p s m args c b_KeySums_fill 4 "KeySums" D (tyL cB cI) A kt tt) (q : Nat → Nat) (key tape sum : Nat → Int32) (has : Int32) (n ln : Nat) (x : Nat) (hx4 : x ≤ 4000) (seed : Int32) (g0 : Dg)
    (kk : ∀ (fb fw : Nat → Int32) (H : Heap) (locs : List Loc) (ls : Array Slot), (∀ j, j < 64 → fb j &&& nI 255 = (md_feed g0 (fun i => seed + nI 3 * nI i) x).1 j) → va_P D classes (wKg q cB cI key tape sum has n ln fb fw (md_feed g0 (fun i => seed + nI 3 * nI i) x)) H → va_D A (wKg q cB cI key tape sum has n ln fb fw (md_feed g0 (fun i => seed + nI 3 * nI i) x)) → va_S A s.heap H locs → lv_has ls 4 [(0, .ref (q 0)), (1, .int (nI x))] → W p l e ({ frames := 3, cells := 0, slots := 0, locals := 70 } : Room) s m args below meth c H locs 0 0 Q (F0 m 38 ls [])) :
    ∀ (z k : Nat) (g : Dg) (fb fw : Nat → Int32) (H : Heap) (locs : List Loc) (ls : Array Slot), k + z = x → g = md_feed g0 (fun i => seed + nI 3 * nI i) k → (∀ j, j < 64 → fb j &&& nI 255 = g.1 j) → va_P D classes (wKg q cB cI key tape sum has n ln fb fw g) H → va_D A (wKg q cB cI key tape sum has n ln fb fw g) → va_S A s.heap H locs → lv_has ls 4 [(0, .ref (q 0)), (1, .int (nI x)), (2, .int seed), (3, .int (nI k))] → W p l e ({ frames := 3, cells := 0, slots := 0, locals := 70 } : Room) s m args below meth c H locs 0 0 Q (F0 m 15 ls []) := by
  obtain ⟨hx, hb, hml, hown, hcm, hK, hA, hZ⟩ := id C0
  intro z
  induction z with
  | zero =>
    intro k g fb fw H locs ls hi hg hbl hP hD hS hl
    refine lv_iload_n hx hb d_KeySums_fill_15 rfl (lv_at hl 3 rfl) ?_
    refine lv_iload_n hx hb d_KeySums_fill_16 rfl (lv_at hl 1 rfl) ?_
    refine kr_icmp_ge C0 (by omega) (by omega) (tgt := 38) d_KeySums_fill_17 (by decide) (fun c_17 => ?_) (fun c_17 => ?_)
    · obtain rfl : k = x := by omega
      subst hg
      exact kk fb fw H locs ls hbl hP hD hS (lv_sub hl [0, 1] rfl)
    · exact absurd c_17 (by omega)
  | succ z ih =>
    intro k g fb fw H locs ls hi hg hbl hP hD hS hl
    refine lv_iload_n hx hb d_KeySums_fill_15 rfl (lv_at hl 3 rfl) ?_
    refine lv_iload_n hx hb d_KeySums_fill_16 rfl (lv_at hl 1 rfl) ?_
    refine kr_icmp_ge C0 (by omega) (by omega) (tgt := 38) d_KeySums_fill_17 (by decide) (fun c_17 => ?_) (fun c_17 => ?_)
    · exact absurd c_17 (by omega)
    · refine lv_aload_n hx hb d_KeySums_fill_20 rfl (lv_at hl 0 rfl) ?_
      refine va_get (D := D) (ci := 1) (v := .ref (q 4)) (C := "KeySums") (T := F_KeySums) (N := 7) hx hb hcm i_KeySums hown hK hP 0 rfl rfl 0 (by decide) (hcm _ kw_61) (fun _ h9 => h9) rfl d_KeySums_fill_21 ?_
      refine lv_iload_n hx hb d_KeySums_fill_24 rfl (lv_at hl 2 rfl) ?_
      refine lv_iconst (v := nI 3) hx hb d_KeySums_fill_25 (by decide) ?_
      refine lv_iload_n hx hb d_KeySums_fill_26 rfl (lv_at hl 3 rfl) ?_
      refine lv_imul hx hb d_KeySums_fill_27 ?_
      refine lv_iadd hx hb d_KeySums_fill_28 ?_
      refine cl_Vv C0 (ty := .int) (rest := []) (wr := [(q 0, .inr (1, [.ref (q 4), .ref (q 1), .ref (q 3), .int has, .int (nI n), .ref (q 2), .int (nI ln)])), (q 1, .inl (cB, 16, .inl key)), (q 2, .inl (cB, 2000, .inl tape)), (q 3, .inl (cB, 16, .inl sum))]) [.int (seed + ((nI 3) * (nI k)))] (c_Digest_add l D cB cI kt tt (q 4) (q 5) (q 6) fb fw g hbl _) (cwV 1 hcm (gd_V kw_95 kw_96 kw_97 kw_9 kw_98) rfl rfl rfl (by decide +kernel) ⟨Nat.le_of_ble_eq_true rfl, Nat.le_of_ble_eq_true rfl⟩) hP hD hS [4, 5, 6] [0, 1, 2, 3] rfl rfl rfl rfl (by decide) rfl 0 rfl rfl rfl hl.1 (Nat.le_of_ble_eq_true rfl) d_KeySums_fill_29 ⟨Nat.le_of_ble_eq_true rfl, Nat.le_of_ble_eq_true rfl⟩ (fun ⟨fb, fw⟩ H locs hbl hP hD hS => ?_)
      have hP : va_P D classes (wK q cB cI key tape sum has (nI n) (nI ln) fb fw ((md_come g (seed + ((nI 3) * (nI k)))).2.1.1) ((md_come g (seed + ((nI 3) * (nI k)))).2.1.2.1) ((md_come g (seed + ((nI 3) * (nI k)))).2.1.2.2.1) ((md_come g (seed + ((nI 3) * (nI k)))).2.1.2.2.2) (nI ((md_come g (seed + ((nI 3) * (nI k)))).2.2 % 64)) (lN (md_come g (seed + ((nI 3) * (nI k)))).2.2)) H := hP
      have hD : va_D A (wK q cB cI key tape sum has (nI n) (nI ln) fb fw ((md_come g (seed + ((nI 3) * (nI k)))).2.1.1) ((md_come g (seed + ((nI 3) * (nI k)))).2.1.2.1) ((md_come g (seed + ((nI 3) * (nI k)))).2.1.2.2.1) ((md_come g (seed + ((nI 3) * (nI k)))).2.1.2.2.2) (nI ((md_come g (seed + ((nI 3) * (nI k)))).2.2 % 64)) (lN (md_come g (seed + ((nI 3) * (nI k)))).2.2)) := hD
      have hbl : ∀ j, j < 64 → fb j &&& nI 255 = (md_come g (seed + ((nI 3) * (nI k)))).1 j := hbl
      refine lv_iinc (v := nI (k + 1)) (lv' := [(3, .int (nI (k + 1))), (0, .ref (q 0)), (1, .int (nI x)), (2, .int seed)]) hx hb d_KeySums_fill_32 hl (k := 3) rfl (nI_1 k) (by decide) rfl (fun ls hl => ?_)
      refine lv_goto (tgt := 15) hx hb d_KeySums_fill_35 (by decide) ?_
      exact ih (k + 1) _ fb fw H locs ls (by omega) (by rw [hg]; rfl) hbl hP hD hS (lv_sub hl [1, 2, 3, 0] rfl)
set_option maxHeartbeats 4000000 in
set_option maxRecDepth 100000 in
/-- KeySums.fill: a count that fits -/
theorem c_KeySums_fill (l : Launch) (D : va_G) (cB cI : ClassId) (kt tt : Nat) (q : Nat → Nat) (key tape sum : Nat → Int32) (has : Int32) (n ln : Nat) (fb fw : Nat → Int32) (g : Dg) (hbl : ∀ j, j < 64 → fb j &&& nI 255 = g.1 j) (x : Nat) (hx4 : x ≤ 4000) (seed : Int32) : CtI l y_KeySums_fill w_KeySums_fill { frames := 3, cells := 0, slots := 0, locals := 70 } [.ref (q 0), .int (nI x), .int seed] D (tyL cB cI) kt tt (wKg q cB cI key tape sum has n ln fb fw g) (fun (r : Int32) (u : (Nat → Int32) × (Nat → Int32)) => r = nI (n + x) ∧ ∀ j, j < 64 → u.1 j &&& nI 255 = (md_feed g (fun i => seed + nI 3 * nI i) x).1 j) (fun (u : (Nat → Int32) × (Nat → Int32)) => (wKg q cB cI key tape sum has (n + x) ln u.1 u.2 (md_feed g (fun i => seed + nI 3 * nI i) x))) := by
  refine ctI_of (by decide) (Nat.le_of_ble_eq_true rfl) ?_
  intro p e s m below meth c A ls C0 hr hlk hin hP hD hl
  have C0 : Cx p s m _ c b_KeySums_fill 4 "KeySums" D (tyL cB cI) A kt tt := C0
  obtain ⟨hx, hb, hml, hown, hcm, hK, hA, hZ⟩ := id C0
  have hS : va_S A s.heap s.heap [] := va_S.rf
  have hl : lv_has ls 4 [(0, .ref (q 0)), (1, .int (nI x)), (2, .int seed)] := hl
  obtain ⟨H, hH⟩ : ∃ H, H = s.heap := ⟨_, rfl⟩
  have hP0 := hP
  rw [← hH] at hP
  have hS : va_S A s.heap H [] := by rw [hH]; exact hS
  suffices hgoal : W p l e _ s m _ below meth c H [] 0 0 _ (F0 m 0 ls []) by rw [hH] at hgoal; exact hgoal
  clear hP0 hH
  refine lv_iload_n hx hb d_KeySums_fill_0 rfl (lv_at hl 1 rfl) ?_
  refine lv_if_lt (tgt := 11) hx hb d_KeySums_fill_1 (by decide) (fun h9 => absurd h9 (nI_pos (by omega))) (fun _ => ?_)
  refine lv_iload_n hx hb d_KeySums_fill_4 rfl (lv_at hl 1 rfl) ?_
  refine lv_sipush (v := nI 4000) hx hb d_KeySums_fill_5 (by decide) ?_
  refine kr_icmp_le C0 (by omega) (by decide) (tgt := 13) d_KeySums_fill_8 (by decide) (fun c_8 => ?_) (fun c_8 => ?_)
  · refine lv_iconst (v := nI 0) hx hb d_KeySums_fill_13 (by decide) ?_
    refine lv_istore_n (lv' := [(3, .int (nI 0)), (0, .ref (q 0)), (1, .int (nI x)), (2, .int seed)]) hx hb d_KeySums_fill_14 rfl hl (by decide) rfl (fun ls hl => ?_)
    refine lp_Kfill C0 q key tape sum has n ln x hx4 seed g ?_ x 0 g fb fw H _ ls (by omega) rfl hbl hP hD hS (lv_sub hl [1, 2, 3, 0] rfl)
    intro fb fw H locs ls hbl hP hD hS hl
    refine lv_aload_n hx hb d_KeySums_fill_38 rfl (lv_at hl 0 rfl) ?_
    refine lv_dup hx hb d_KeySums_fill_39 rfl ?_
    refine va_get (D := D) (ci := 1) (v := .int (nI n)) (C := "KeySums") (T := F_KeySums) (N := 7) hx hb hcm i_KeySums hown hK hP 0 rfl rfl 4 (by decide) (hcm _ kw_65) (fun _ h9 => h9) rfl d_KeySums_fill_40 ?_
    refine lv_iload_n hx hb d_KeySums_fill_43 rfl (lv_at hl 1 rfl) ?_
    refine lv_iadd hx hb d_KeySums_fill_44 ?_
    refine kt_i (y := nI (n + x)) (nI_add _ _) ?_
    refine va_put (D := D) (ci := 1) (v := .int (nI (n + x))) (ty := .int) (C := "KeySums") (T := F_KeySums) (N := 7) hx hb hcm i_KeySums t_KeySums t_KeySums_ok n_KeySums hown hK hP hD hS 0 rfl rfl 4 (by decide) (hcm _ kw_65) (fun _ h9 => h9) rfl (by decide +kernel) rfl rfl (Nat.le_of_ble_eq_true rfl) d_KeySums_fill_45 (fun H locs hP hD hS => ?_)
    have hP : va_P D classes (wK q cB cI key tape sum has (nI (n + x)) (nI ln) fb fw ((md_feed g (fun i => seed + nI 3 * nI i) x).2.1.1) ((md_feed g (fun i => seed + nI 3 * nI i) x).2.1.2.1) ((md_feed g (fun i => seed + nI 3 * nI i) x).2.1.2.2.1) ((md_feed g (fun i => seed + nI 3 * nI i) x).2.1.2.2.2) (nI ((md_feed g (fun i => seed + nI 3 * nI i) x).2.2 % 64)) (lN (md_feed g (fun i => seed + nI 3 * nI i) x).2.2)) H := hP
    have hD : va_D A (wK q cB cI key tape sum has (nI (n + x)) (nI ln) fb fw ((md_feed g (fun i => seed + nI 3 * nI i) x).2.1.1) ((md_feed g (fun i => seed + nI 3 * nI i) x).2.1.2.1) ((md_feed g (fun i => seed + nI 3 * nI i) x).2.1.2.2.1) ((md_feed g (fun i => seed + nI 3 * nI i) x).2.1.2.2.2) (nI ((md_feed g (fun i => seed + nI 3 * nI i) x).2.2 % 64)) (lN (md_feed g (fun i => seed + nI 3 * nI i) x).2.2)) := hD
    refine lv_aload_n hx hb d_KeySums_fill_48 rfl (lv_at hl 0 rfl) ?_
    refine va_get (D := D) (ci := 1) (v := .int (nI (n + x))) (C := "KeySums") (T := F_KeySums) (N := 7) hx hb hcm i_KeySums hown hK hP 0 rfl rfl 4 (by decide) (hcm _ kw_65) (fun _ h9 => h9) rfl d_KeySums_fill_49 ?_
    exact kr_iret C0 (fb, fw) hr rfl hlk ⟨rfl, hbl⟩ hP hD hS d_KeySums_fill_52
  · exact absurd c_8 (by omega)
set_option maxHeartbeats 4000000 in
set_option maxRecDepth 100000 in
/-- KeySums.fill: a count that fits not -/
theorem c_KeySums_fill_no (l : Launch) (D : va_G) (cB cI : ClassId) (kt tt : Nat) (q : Nat → Nat) (key tape sum : Nat → Int32) (has : Int32) (n ln : Nat) (fb fw : Nat → Int32) (g : Dg) (x : Int32) (hno : x < 0 ∨ ¬ x ≤ nI 4000) (seed : Int32) : CtI l y_KeySums_fill w_KeySums_fill { frames := 3, cells := 0, slots := 0, locals := 70 } [.ref (q 0), .int x, .int seed] D (tyL cB cI) kt tt (wKg q cB cI key tape sum has n ln fb fw g) (fun (r : Int32) (_ : Unit) => r = -1) (fun (u : Unit) => (wKg q cB cI key tape sum has n ln fb fw g)) := by
  refine ctI_of (by decide) (Nat.le_of_ble_eq_true rfl) ?_
  intro p e s m below meth c A ls C0 hr hlk hin hP hD hl
  have C0 : Cx p s m _ c b_KeySums_fill 4 "KeySums" D (tyL cB cI) A kt tt := C0
  obtain ⟨hx, hb, hml, hown, hcm, hK, hA, hZ⟩ := id C0
  have hS : va_S A s.heap s.heap [] := va_S.rf
  have hl : lv_has ls 4 [(0, .ref (q 0)), (1, .int x), (2, .int seed)] := hl
  obtain ⟨H, hH⟩ : ∃ H, H = s.heap := ⟨_, rfl⟩
  have hP0 := hP
  rw [← hH] at hP
  have hS : va_S A s.heap H [] := by rw [hH]; exact hS
  suffices hgoal : W p l e _ s m _ below meth c H [] 0 0 _ (F0 m 0 ls []) by rw [hH] at hgoal; exact hgoal
  clear hP0 hH
  refine lv_iload_n hx hb d_KeySums_fill_0 rfl (lv_at hl 1 rfl) ?_
  refine lv_if_lt (tgt := 11) hx hb d_KeySums_fill_1 (by decide) (fun c_1 => ?_) (fun c_1 => ?_)
  · refine lv_iconst (v := -1) hx hb d_KeySums_fill_11 (by decide) ?_
    exact kr_iret C0 () hr rfl hlk rfl hP hD hS d_KeySums_fill_12
  · refine lv_iload_n hx hb d_KeySums_fill_4 rfl (lv_at hl 1 rfl) ?_
    refine lv_sipush (v := nI 4000) hx hb d_KeySums_fill_5 (by decide) ?_
    refine lv_icmp_le (tgt := 13) hx hb d_KeySums_fill_8 (by decide) (fun c_8 => ?_) (fun c_8 => ?_)
    · exact absurd c_8 (hno.resolve_left c_1)
    · refine lv_iconst (v := -1) hx hb d_KeySums_fill_11 (by decide) ?_
      exact kr_iret C0 () hr rfl hlk rfl hP hD hS d_KeySums_fill_12
set_option maxHeartbeats 4000000 in
set_option maxRecDepth 100000 in
/-- KeySums.sum: the key comes -/
theorem lp_Ksum {p : Program} {l : Launch} {e : Env} {s : State} {m : MethodId} {args : Array Value} {below : List Frame} {meth : Method} {c : Code} {Q : State → Prop} {D : va_G} {cB cI : ClassId} {A : Nat → Prop} {kt tt : Nat} (C0 : Cx p s m args c b_KeySums_sum 7 "KeySums" D (tyL cB cI) A kt tt) (q : Nat → Nat) (key tape sum : Nat → Int32) (has : Int32) (n ln : Nat)  (g0 : Dg)
    (kk : ∀ (fb fw : Nat → Int32) (H : Heap) (locs : List Loc) (ls : Array Slot), (∀ j, j < 64 → fb j &&& nI 255 = (md_feed g0 key 16).1 j) → va_P D classes (wKg q cB cI key tape sum has n ln fb fw (md_feed g0 key 16)) H → va_D A (wKg q cB cI key tape sum has n ln fb fw (md_feed g0 key 16)) → va_S A s.heap H locs → lv_has ls 7 [(0, .ref (q 0)), (2, .int (nI n))] → W p l e ({ frames := 4, cells := 0, slots := 0, locals := 95 } : Room) s m args below meth c H locs 0 0 Q (F0 m 49 ls [])) :
    ∀ (z k : Nat) (g : Dg) (fb fw : Nat → Int32) (H : Heap) (locs : List Loc) (ls : Array Slot), k + z = 16 → g = md_feed g0 key k → (∀ j, j < 64 → fb j &&& nI 255 = g.1 j) → va_P D classes (wKg q cB cI key tape sum has n ln fb fw g) H → va_D A (wKg q cB cI key tape sum has n ln fb fw g) → va_S A s.heap H locs → lv_has ls 7 [(0, .ref (q 0)), (2, .int (nI n)), (3, .ref (q 1)), (4, .int (nI 16)), (5, .int (nI k))] → W p l e ({ frames := 4, cells := 0, slots := 0, locals := 95 } : Room) s m args below meth c H locs 0 0 Q (F0 m 21 ls []) := by
  obtain ⟨hx, hb, hml, hown, hcm, hK, hA, hZ⟩ := id C0
  intro z
  induction z with
  | zero =>
    intro k g fb fw H locs ls hi hg hbl hP hD hS hl
    refine lv_iload hx hb d_KeySums_sum_21 (lv_at hl 4 rfl) ?_
    refine lv_iload hx hb d_KeySums_sum_23 (lv_at hl 3 rfl) ?_
    refine kr_icmp_ge C0 (by omega) (by omega) (tgt := 49) d_KeySums_sum_25 (by decide) (fun c_25 => ?_) (fun c_25 => ?_)
    · obtain rfl : k = 16 := by omega
      subst hg
      exact kk fb fw H locs ls hbl hP hD hS (lv_sub hl [0, 1] rfl)
    · exact absurd c_25 (by omega)
  | succ z ih =>
    intro k g fb fw H locs ls hi hg hbl hP hD hS hl
    refine lv_iload hx hb d_KeySums_sum_21 (lv_at hl 4 rfl) ?_
    refine lv_iload hx hb d_KeySums_sum_23 (lv_at hl 3 rfl) ?_
    refine kr_icmp_ge C0 (by omega) (by omega) (tgt := 49) d_KeySums_sum_25 (by decide) (fun c_25 => ?_) (fun c_25 => ?_)
    · exact absurd c_25 (by omega)
    · refine lv_aload_n hx hb d_KeySums_sum_28 rfl (lv_at hl 2 rfl) ?_
      refine lv_iload hx hb d_KeySums_sum_29 (lv_at hl 4 rfl) ?_
      refine kr_bald C0 hP 1 0 rfl rfl (k := k) (by omega) (by decide) d_KeySums_sum_31 ?_
      refine lv_istore (lv' := [(6, .int (key k)), (0, .ref (q 0)), (2, .int (nI n)), (3, .ref (q 1)), (4, .int (nI 16)), (5, .int (nI k))]) hx hb d_KeySums_sum_32 hl (by decide) rfl (fun ls hl => ?_)
      refine lv_aload_n hx hb d_KeySums_sum_34 rfl (lv_at hl 1 rfl) ?_
      refine va_get (D := D) (ci := 1) (v := .ref (q 4)) (C := "KeySums") (T := F_KeySums) (N := 7) hx hb hcm i_KeySums hown hK hP 0 rfl rfl 0 (by decide) (hcm _ kw_61) (fun _ h9 => h9) rfl d_KeySums_sum_35 ?_
      refine lv_iload hx hb d_KeySums_sum_38 (lv_at hl 0 rfl) ?_
      refine cl_Vv C0 (ty := .int) (rest := []) (wr := [(q 0, .inr (1, [.ref (q 4), .ref (q 1), .ref (q 3), .int has, .int (nI n), .ref (q 2), .int (nI ln)])), (q 1, .inl (cB, 16, .inl key)), (q 2, .inl (cB, 2000, .inl tape)), (q 3, .inl (cB, 16, .inl sum))]) [.int (key k)] (c_Digest_add l D cB cI kt tt (q 4) (q 5) (q 6) fb fw g hbl _) (cwV 1 hcm (gd_V kw_95 kw_96 kw_97 kw_9 kw_98) rfl rfl rfl (by decide +kernel) ⟨Nat.le_of_ble_eq_true rfl, Nat.le_of_ble_eq_true rfl⟩) hP hD hS [4, 5, 6] [0, 1, 2, 3] rfl rfl rfl rfl (by decide) rfl 0 rfl rfl rfl hl.1 (Nat.le_of_ble_eq_true rfl) d_KeySums_sum_40 ⟨Nat.le_of_ble_eq_true rfl, Nat.le_of_ble_eq_true rfl⟩ (fun ⟨fb, fw⟩ H locs hbl hP hD hS => ?_)
      have hP : va_P D classes (wK q cB cI key tape sum has (nI n) (nI ln) fb fw ((md_come g (key k)).2.1.1) ((md_come g (key k)).2.1.2.1) ((md_come g (key k)).2.1.2.2.1) ((md_come g (key k)).2.1.2.2.2) (nI ((md_come g (key k)).2.2 % 64)) (lN (md_come g (key k)).2.2)) H := hP
      have hD : va_D A (wK q cB cI key tape sum has (nI n) (nI ln) fb fw ((md_come g (key k)).2.1.1) ((md_come g (key k)).2.1.2.1) ((md_come g (key k)).2.1.2.2.1) ((md_come g (key k)).2.1.2.2.2) (nI ((md_come g (key k)).2.2 % 64)) (lN (md_come g (key k)).2.2)) := hD
      have hbl : ∀ j, j < 64 → fb j &&& nI 255 = (md_come g (key k)).1 j := hbl
      refine lv_iinc (v := nI (k + 1)) (lv' := [(5, .int (nI (k + 1))), (6, .int (key k)), (0, .ref (q 0)), (2, .int (nI n)), (3, .ref (q 1)), (4, .int (nI 16))]) hx hb d_KeySums_sum_43 hl (k := 5) rfl (nI_1 k) (by decide) rfl (fun ls hl => ?_)
      refine lv_goto (tgt := 21) hx hb d_KeySums_sum_46 (by decide) ?_
      exact ih (k + 1) _ fb fw H locs ls (by omega) (by rw [hg]; rfl) hbl hP hD hS (lv_sub hl [2, 3, 4, 5, 0] rfl)
set_option maxHeartbeats 4000000 in
set_option maxRecDepth 100000 in
/-- KeySums.sum: behind the key -/
theorem lp_Ksum2 {p : Program} {l : Launch} {e : Env} {s : State} {m : MethodId} {args : Array Value} {below : List Frame} {meth : Method} {c : Code} {D : va_G} {cB cI : ClassId} {A : Nat → Prop} {kt tt : Nat} (C0 : Cx p s m args c b_KeySums_sum 7 "KeySums" D (tyL cB cI) A kt tt) (q : Nat → Nat) (key tape sum : Nat → Int32) (has : Int32) (n ln : Nat) (g : Dg) (fb fw : Nat → Int32) (hbl : ∀ j, j < 64 → fb j &&& nI 255 = g.1 j) (H : Heap) (locs : List Loc) (ls : Array Slot) (hP : va_P D classes (wKg q cB cI key tape sum has n ln fb fw g) H) (hD : va_D A (wKg q cB cI key tape sum has n ln fb fw g)) (hS : va_S A s.heap H locs) (hl : lv_has ls 7 [(0, .ref (q 0)), (2, .int (nI n))])
    (hr : meth.sig.returnType = some .int) (hlk : meth.locks = false) : W p l e ({ frames := 4, cells := 0, slots := 0, locals := 95 } : Room) s m args below meth c H locs 0 0 (MQ below (va_Qi (fun (r : Int32) (u : (Nat → Int32) × (Nat → Int32) × (Nat → Int32)) => r = nI n ∧ (∀ j, j < 16 → u.1 j &&& nI 255 = md_res (md_end g).2.1 j) ∧ ∀ j, j < 64 → u.2.1 j &&& nI 255 = (md_end g).1 j) (pk_E D (tyL cB cI) A (fun (u : (Nat → Int32) × (Nat → Int32) × (Nat → Int32)) => (wKg q cB cI key tape u.1 (nI 1) 0 ln u.2.1 u.2.2 ((md_end g).1, md_B, 0)))) A) args s 0 0 A) (F0 m 49 ls []) := by
  obtain ⟨hx, hb, hml, hown, hcm, hK, hA, hZ⟩ := id C0
  refine lv_aload_n hx hb d_KeySums_sum_49 rfl (lv_at hl 0 rfl) ?_
  refine va_get (D := D) (ci := 1) (v := .ref (q 4)) (C := "KeySums") (T := F_KeySums) (N := 7) hx hb hcm i_KeySums hown hK hP 0 rfl rfl 0 (by decide) (hcm _ kw_61) (fun _ h9 => h9) rfl d_KeySums_sum_50 ?_
  refine lv_aload_n hx hb d_KeySums_sum_53 rfl (lv_at hl 0 rfl) ?_
  refine va_get (D := D) (ci := 1) (v := .ref (q 3)) (C := "KeySums") (T := F_KeySums) (N := 7) hx hb hcm i_KeySums hown hK hP 0 rfl rfl 2 (by decide) (hcm _ kw_63) (fun _ h9 => h9) rfl d_KeySums_sum_54 ?_
  refine lv_iconst (v := nI 0) hx hb d_KeySums_sum_57 (by decide) ?_
  refine cl_Vv C0 (ty := .int) (rest := []) (wr := [(q 0, .inr (1, [.ref (q 4), .ref (q 1), .ref (q 3), .int has, .int (nI n), .ref (q 2), .int (nI ln)])), (q 1, .inl (cB, 16, .inl key)), (q 2, .inl (cB, 2000, .inl tape))]) [.ref (q 3), .int (nI 0)] (c_Digest_end l D cB cI kt tt (q 3) (q 4) (q 5) (q 6) sum fb fw g hbl) (cwV 2 hcm (gd_V kw_122 kw_123 kw_124 kw_9 kw_125) rfl rfl rfl (by decide +kernel) ⟨Nat.le_of_ble_eq_true rfl, Nat.le_of_ble_eq_true rfl⟩) hP hD hS [3, 4, 5, 6] [0, 1, 2] rfl rfl rfl rfl (by decide) rfl 1 rfl rfl rfl hl.1 (Nat.le_of_ble_eq_true rfl) d_KeySums_sum_58 ⟨Nat.le_of_ble_eq_true rfl, Nat.le_of_ble_eq_true rfl⟩ (fun ⟨sum, fb, fw⟩ H locs hE hP hD hS => ?_)
  have hP : va_P D classes (wK q cB cI key tape sum has (nI n) (nI ln) fb fw ((md_end g).2.1.1) ((md_end g).2.1.2.1) ((md_end g).2.1.2.2.1) ((md_end g).2.1.2.2.2) (nI ((md_end g).2.2 % 64)) (lN (md_end g).2.2)) H := hP
  have hD : va_D A (wK q cB cI key tape sum has (nI n) (nI ln) fb fw ((md_end g).2.1.1) ((md_end g).2.1.2.1) ((md_end g).2.1.2.2.1) ((md_end g).2.1.2.2.2) (nI ((md_end g).2.2 % 64)) (lN (md_end g).2.2)) := hD
  refine lv_aload_n hx hb d_KeySums_sum_61 rfl (lv_at hl 0 rfl) ?_
  refine lv_iconst (v := nI 1) hx hb d_KeySums_sum_62 (by decide) ?_
  refine va_put (D := D) (ci := 1) (v := .int (nI 1)) (ty := .boolean) (C := "KeySums") (T := F_KeySums) (N := 7) hx hb hcm i_KeySums t_KeySums t_KeySums_ok n_KeySums hown hK hP hD hS 0 rfl rfl 3 (by decide) (hcm _ kw_64) (fun _ h9 => h9) rfl (by decide +kernel) rfl rfl (Nat.le_of_ble_eq_true rfl) d_KeySums_sum_63 (fun H locs hP hD hS => ?_)
  have hP : va_P D classes (wK q cB cI key tape sum (nI 1) (nI n) (nI ln) fb fw ((md_end g).2.1.1) ((md_end g).2.1.2.1) ((md_end g).2.1.2.2.1) ((md_end g).2.1.2.2.2) (nI ((md_end g).2.2 % 64)) (lN (md_end g).2.2)) H := hP
  have hD : va_D A (wK q cB cI key tape sum (nI 1) (nI n) (nI ln) fb fw ((md_end g).2.1.1) ((md_end g).2.1.2.1) ((md_end g).2.1.2.2.1) ((md_end g).2.1.2.2.2) (nI ((md_end g).2.2 % 64)) (lN (md_end g).2.2)) := hD
  refine lv_aload_n hx hb d_KeySums_sum_66 rfl (lv_at hl 0 rfl) ?_
  refine va_get (D := D) (ci := 1) (v := .ref (q 4)) (C := "KeySums") (T := F_KeySums) (N := 7) hx hb hcm i_KeySums hown hK hP 0 rfl rfl 0 (by decide) (hcm _ kw_61) (fun _ h9 => h9) rfl d_KeySums_sum_67 ?_
  refine cl_Vv C0 (ty := .int) (rest := []) (wr := [(q 0, .inr (1, [.ref (q 4), .ref (q 1), .ref (q 3), .int (nI 1), .int (nI n), .ref (q 2), .int (nI ln)])), (q 1, .inl (cB, 16, .inl key)), (q 2, .inl (cB, 2000, .inl tape)), (q 3, .inl (cB, 16, .inl sum))]) [] (c_Digest_begin l D cB cI kt tt (q 4) (q 5) (q 6) fb fw _ _ _ _ _ _) (cwV 0 hcm (gd_V kw_53 kw_54 kw_55 kw_9 kw_56) rfl rfl rfl (by decide +kernel) ⟨Nat.le_of_ble_eq_true rfl, Nat.le_of_ble_eq_true rfl⟩) hP hD hS [4, 5, 6] [0, 1, 2, 3] rfl rfl rfl rfl (by decide) rfl 0 rfl rfl rfl hl.1 (Nat.le_of_ble_eq_true rfl) d_KeySums_sum_70 ⟨Nat.le_of_ble_eq_true rfl, Nat.le_of_ble_eq_true rfl⟩ (fun _ H locs _ hP hD hS => ?_)
  have hP : va_P D classes (wK q cB cI key tape sum (nI 1) (nI n) (nI ln) fb fw md_B.1 md_B.2.1 md_B.2.2.1 md_B.2.2.2 (nI 0) (lN 0)) H := hP
  have hD : va_D A (wK q cB cI key tape sum (nI 1) (nI n) (nI ln) fb fw md_B.1 md_B.2.1 md_B.2.2.1 md_B.2.2.2 (nI 0) (lN 0)) := hD
  refine lv_aload_n hx hb d_KeySums_sum_73 rfl (lv_at hl 0 rfl) ?_
  refine lv_iconst (v := nI 0) hx hb d_KeySums_sum_74 (by decide) ?_
  refine va_put (D := D) (ci := 1) (v := .int (nI 0)) (ty := .int) (C := "KeySums") (T := F_KeySums) (N := 7) hx hb hcm i_KeySums t_KeySums t_KeySums_ok n_KeySums hown hK hP hD hS 0 rfl rfl 4 (by decide) (hcm _ kw_65) (fun _ h9 => h9) rfl (by decide +kernel) rfl rfl (Nat.le_of_ble_eq_true rfl) d_KeySums_sum_75 (fun H locs hP hD hS => ?_)
  have hP : va_P D classes (wK q cB cI key tape sum (nI 1) (nI 0) (nI ln) fb fw md_B.1 md_B.2.1 md_B.2.2.1 md_B.2.2.2 (nI 0) (lN 0)) H := hP
  have hD : va_D A (wK q cB cI key tape sum (nI 1) (nI 0) (nI ln) fb fw md_B.1 md_B.2.1 md_B.2.2.1 md_B.2.2.2 (nI 0) (lN 0)) := hD
  refine lv_iload_n hx hb d_KeySums_sum_78 rfl (lv_at hl 1 rfl) ?_
  exact kr_iret C0 (sum, fb, fw) hr rfl hlk ⟨rfl, hE.1, hE.2⟩ hP hD hS d_KeySums_sum_79
set_option maxHeartbeats 4000000 in
set_option maxRecDepth 100000 in
/-- KeySums.sum, without the key -/
theorem c_KeySums_sum0 (l : Launch) (D : va_G) (cB cI : ClassId) (kt tt : Nat) (q : Nat → Nat) (key tape sum : Nat → Int32) (has : Int32) (n ln : Nat) (fb fw : Nat → Int32) (g : Dg) (hbl : ∀ j, j < 64 → fb j &&& nI 255 = g.1 j) : CtI l y_KeySums_sum w_KeySums_sum { frames := 4, cells := 0, slots := 0, locals := 95 } [.ref (q 0), .int (nI 0)] D (tyL cB cI) kt tt (wKg q cB cI key tape sum has n ln fb fw g) (fun (r : Int32) (u : (Nat → Int32) × (Nat → Int32) × (Nat → Int32)) => r = nI n ∧ (∀ j, j < 16 → u.1 j &&& nI 255 = md_res (md_end g).2.1 j) ∧ ∀ j, j < 64 → u.2.1 j &&& nI 255 = (md_end g).1 j) (fun (u : (Nat → Int32) × (Nat → Int32) × (Nat → Int32)) => (wKg q cB cI key tape u.1 (nI 1) 0 ln u.2.1 u.2.2 ((md_end g).1, md_B, 0))) := by
  refine ctI_of (by decide) (Nat.le_of_ble_eq_true rfl) ?_
  intro p e s m below meth c A ls C0 hr hlk hin hP hD hl
  have C0 : Cx p s m _ c b_KeySums_sum 7 "KeySums" D (tyL cB cI) A kt tt := C0
  obtain ⟨hx, hb, hml, hown, hcm, hK, hA, hZ⟩ := id C0
  have hS : va_S A s.heap s.heap [] := va_S.rf
  have hl : lv_has ls 7 [(0, .ref (q 0)), (1, .int (nI 0))] := hl
  obtain ⟨H, hH⟩ : ∃ H, H = s.heap := ⟨_, rfl⟩
  have hP0 := hP
  rw [← hH] at hP
  have hS : va_S A s.heap H [] := by rw [hH]; exact hS
  suffices hgoal : W p l e _ s m _ below meth c H [] 0 0 _ (F0 m 0 ls []) by rw [hH] at hgoal; exact hgoal
  clear hP0 hH
  refine lv_aload_n hx hb d_KeySums_sum_0 rfl (lv_at hl 0 rfl) ?_
  refine va_get (D := D) (ci := 1) (v := .int (nI n)) (C := "KeySums") (T := F_KeySums) (N := 7) hx hb hcm i_KeySums hown hK hP 0 rfl rfl 4 (by decide) (hcm _ kw_65) (fun _ h9 => h9) rfl d_KeySums_sum_1 ?_
  refine lv_istore_n (lv' := [(2, .int (nI n)), (0, .ref (q 0)), (1, .int (nI 0))]) hx hb d_KeySums_sum_4 rfl hl (by decide) rfl (fun ls hl => ?_)
  refine lv_iload_n hx hb d_KeySums_sum_5 rfl (lv_at hl 2 rfl) ?_
  refine lv_if_eq (tgt := 49) hx hb d_KeySums_sum_6 (by decide) (fun _ => ?_) (fun h9 => absurd rfl h9)
  exact lp_Ksum2 C0 q key tape sum has n ln g fb fw hbl H _ ls hP hD hS (lv_sub hl [1, 0] rfl) hr hlk
set_option maxHeartbeats 4000000 in
set_option maxRecDepth 100000 in
/-- KeySums.sum, with the key -/
theorem c_KeySums_sum1 (l : Launch) (D : va_G) (cB cI : ClassId) (kt tt : Nat) (q : Nat → Nat) (key tape sum : Nat → Int32) (has : Int32) (n ln : Nat) (fb fw : Nat → Int32) (g : Dg) (hbl : ∀ j, j < 64 → fb j &&& nI 255 = g.1 j) : CtI l y_KeySums_sum w_KeySums_sum { frames := 4, cells := 0, slots := 0, locals := 95 } [.ref (q 0), .int (nI 1)] D (tyL cB cI) kt tt (wKg q cB cI key tape sum has n ln fb fw g) (fun (r : Int32) (u : (Nat → Int32) × (Nat → Int32) × (Nat → Int32)) => r = nI n ∧ (∀ j, j < 16 → u.1 j &&& nI 255 = md_res (md_end (md_feed g key 16)).2.1 j) ∧ ∀ j, j < 64 → u.2.1 j &&& nI 255 = (md_end (md_feed g key 16)).1 j) (fun (u : (Nat → Int32) × (Nat → Int32) × (Nat → Int32)) => (wKg q cB cI key tape u.1 (nI 1) 0 ln u.2.1 u.2.2 ((md_end (md_feed g key 16)).1, md_B, 0))) := by
  refine ctI_of (by decide) (Nat.le_of_ble_eq_true rfl) ?_
  intro p e s m below meth c A ls C0 hr hlk hin hP hD hl
  have C0 : Cx p s m _ c b_KeySums_sum 7 "KeySums" D (tyL cB cI) A kt tt := C0
  obtain ⟨hx, hb, hml, hown, hcm, hK, hA, hZ⟩ := id C0
  have hS : va_S A s.heap s.heap [] := va_S.rf
  have hl : lv_has ls 7 [(0, .ref (q 0)), (1, .int (nI 1))] := hl
  obtain ⟨H, hH⟩ : ∃ H, H = s.heap := ⟨_, rfl⟩
  have hP0 := hP
  rw [← hH] at hP
  have hS : va_S A s.heap H [] := by rw [hH]; exact hS
  suffices hgoal : W p l e _ s m _ below meth c H [] 0 0 _ (F0 m 0 ls []) by rw [hH] at hgoal; exact hgoal
  clear hP0 hH
  refine lv_aload_n hx hb d_KeySums_sum_0 rfl (lv_at hl 0 rfl) ?_
  refine va_get (D := D) (ci := 1) (v := .int (nI n)) (C := "KeySums") (T := F_KeySums) (N := 7) hx hb hcm i_KeySums hown hK hP 0 rfl rfl 4 (by decide) (hcm _ kw_65) (fun _ h9 => h9) rfl d_KeySums_sum_1 ?_
  refine lv_istore_n (lv' := [(2, .int (nI n)), (0, .ref (q 0)), (1, .int (nI 1))]) hx hb d_KeySums_sum_4 rfl hl (by decide) rfl (fun ls hl => ?_)
  refine lv_iload_n hx hb d_KeySums_sum_5 rfl (lv_at hl 2 rfl) ?_
  refine lv_if_eq (tgt := 49) hx hb d_KeySums_sum_6 (by decide) (fun h9 => absurd h9 (by decide)) (fun _ => ?_)
  refine lv_aload_n hx hb d_KeySums_sum_9 rfl (lv_at hl 1 rfl) ?_
  refine va_get (D := D) (ci := 1) (v := .ref (q 1)) (C := "KeySums") (T := F_KeySums) (N := 7) hx hb hcm i_KeySums hown hK hP 0 rfl rfl 1 (by decide) (hcm _ kw_62) (fun _ h9 => h9) rfl d_KeySums_sum_10 ?_
  refine lv_astore_n (lv' := [(3, .ref (q 1)), (2, .int (nI n)), (0, .ref (q 0)), (1, .int (nI 1))]) hx hb d_KeySums_sum_13 rfl hl (by decide) rfl (fun ls hl => ?_)
  refine lv_aload_n hx hb d_KeySums_sum_14 rfl (lv_at hl 0 rfl) ?_
  refine va_alen hx hb hK hP 1 0 rfl rfl (v := nI 16) rfl d_KeySums_sum_15 ?_
  refine lv_istore (lv' := [(4, .int (nI 16)), (3, .ref (q 1)), (2, .int (nI n)), (0, .ref (q 0)), (1, .int (nI 1))]) hx hb d_KeySums_sum_16 hl (by decide) rfl (fun ls hl => ?_)
  refine lv_iconst (v := nI 0) hx hb d_KeySums_sum_18 (by decide) ?_
  refine lv_istore (lv' := [(5, .int (nI 0)), (4, .int (nI 16)), (3, .ref (q 1)), (2, .int (nI n)), (0, .ref (q 0)), (1, .int (nI 1))]) hx hb d_KeySums_sum_19 hl (by decide) rfl (fun ls hl => ?_)
  refine lp_Ksum C0 q key tape sum has n ln g ?_ 16 0 g fb fw H _ ls (by decide) rfl hbl hP hD hS (lv_sub hl [4, 3, 2, 1, 0] rfl)
  intro fb fw H locs ls hbl hP hD hS hl
  exact lp_Ksum2 C0 q key tape sum has n ln (md_feed g key 16) fb fw hbl H _ ls hP hD hS hl hr hlk
set_option maxHeartbeats 4000000 in
set_option maxRecDepth 100000 in
/-- KeySums(): its digest and three arrays come -/
theorem c_KeySums_init (l : Launch) (D : va_G) (cB cI : ClassId) (kt tt : Nat) (h0 : Nat) : CtV l y_KeySums_init w_KeySums_init { frames := 2, cells := 6, slots := 2120, locals := 32 } [.ref h0] D (tyL cB cI) kt tt [(h0, .inr (1, [.null, .null, .null, .int 0, .int 0, .null, .int 0]))] (fun (q : Nat → Nat) => q 0 = h0) (fun (u : Nat → Nat) => wKg u cB cI (fun _ => 0) (fun _ => 0) (fun _ => 0) 0 0 0 (fun _ => 0) (fun _ => 0) (fun _ => 0, md_B, 0)) := by
  refine ctV_of (by decide) (Nat.le_of_ble_eq_true rfl) ?_
  intro p e s m below meth c A ls C0 hr hlk hin hP hD hl
  have C0 : Cx p s m _ c b_KeySums_init 1 "KeySums" D (tyL cB cI) A kt tt := C0
  obtain ⟨hx, hb, hml, hown, hcm, hK, hA, hZ⟩ := id C0
  have hS : va_S A s.heap s.heap [] := va_S.rf
  have hin : meth.name = "<init>" := hin
  have hl : lv_has ls 1 [(0, .ref h0)] := hl
  obtain ⟨H, hH⟩ : ∃ H, H = s.heap := ⟨_, rfl⟩
  have hP0 := hP
  rw [← hH] at hP
  have hS : va_S A s.heap H [] := by rw [hH]; exact hS
  suffices hgoal : W p l e _ s m _ below meth c H [] 0 0 _ (F0 m 0 ls []) by rw [hH] at hgoal; exact hgoal
  clear hP0 hH
  refine lv_aload_n hx hb d_KeySums_init_0 rfl (lv_at hl 0 rfl) ?_
  refine W.objInit hx hb hown (hcm _ kw_17) (hcm _ kw_18) (hcm _ kw_19) rfl (by rw [hml]; exact hl.1) rfl d_KeySums_init_1 (Nat.le_of_ble_eq_true rfl) (Nat.le_of_ble_eq_true rfl) ?_
  refine W.eq (g2 := F0 m 4 ls []) rfl ?_
  refine lv_aload_n hx hb d_KeySums_init_4 rfl (lv_at hl 0 rfl) ?_
  refine va_new (ci := 0) (fs := [.null, .null, .int 0, .int 0, .int 0, .int 0, .int 0, .long 0]) (C := "KeySums$Digest") (T := F_Digest) (N := 8) hx hb hcm i_Digest t_Digest t_Digest_ok hown (hcm _ kw_20) (hcm _ kw_21) (hcm _ kw_9) hK hP hD hS hA rfl (fun j hj => by rcases (show j = 0 ∨ j = 1 ∨ j = 2 ∨ j = 3 ∨ j = 4 ∨ j = 5 ∨ j = 6 ∨ j = 7 by omega) with rfl | rfl | rfl | rfl | rfl | rfl | rfl | rfl <;> rfl) (Nat.le_of_ble_eq_true rfl) (Nat.le_of_ble_eq_true rfl) d_KeySums_init_5 (fun a5 H hP hD hS => ?_)
  have hP : va_P D classes [(h0, .inr (1, [.null, .null, .null, .int 0, .int 0, .null, .int 0])), (a5, .inr (0, [.null, .null, .int 0, .int 0, .int 0, .int 0, .int 0, .long 0]))] H := hP
  have hD : va_D A [(h0, .inr (1, [.null, .null, .null, .int 0, .int 0, .null, .int 0])), (a5, .inr (0, [.null, .null, .int 0, .int 0, .int 0, .int 0, .int 0, .long 0]))] := hD
  refine lv_dup hx hb d_KeySums_init_8 rfl ?_
  refine cl_IN C0 (ty := .int) (rest := [.ref a5, .ref h0]) (wr := [(h0, .inr (1, [.null, .null, .null, .int 0, .int 0, .null, .int 0]))]) [] (c_Digest_init l D cB cI kt tt a5) ⟨va_cnB 0 hcm (gd_c kw_24) rfl rfl rfl hZ.2.2.2.2 (hcm _ kw_9) (by decide +kernel) ⟨Nat.le_of_ble_eq_true rfl, Nat.le_of_ble_eq_true rfl⟩, rfl, hcm _ kw_23⟩ hP hD hS [1] [0] rfl rfl rfl rfl (by decide) rfl rfl hl.1 (Nat.le_of_ble_eq_true rfl) d_KeySums_init_9 ⟨Nat.le_of_ble_eq_true rfl, Nat.le_of_ble_eq_true rfl⟩ (fun ⟨b1, b2⟩ H locs _ hP hD hS => ?_)
  have hP : va_P D classes [(h0, .inr (1, [.null, .null, .null, .int 0, .int 0, .null, .int 0])), (a5, .inr (0, [.ref b1, .ref b2, .int 0, .int 0, .int 0, .int 0, .int 0, .long 0])), (b1, .inl (cB, 64, .inl (fun _ => 0))), (b2, .inl (cI, 16, .inl (fun _ => 0)))] H := hP
  have hD : va_D A [(h0, .inr (1, [.null, .null, .null, .int 0, .int 0, .null, .int 0])), (a5, .inr (0, [.ref b1, .ref b2, .int 0, .int 0, .int 0, .int 0, .int 0, .long 0])), (b1, .inl (cB, 64, .inl (fun _ => 0))), (b2, .inl (cI, 16, .inl (fun _ => 0)))] := hD
  refine va_putF (D := D) (ci := 1) (v := .ref a5) (ty := .object "KeySums$Digest") (C := "KeySums") (T := F_KeySums) (N := 7) hx hb hcm i_KeySums t_KeySums t_KeySums_ok n_KeySums hown hK hP hD hS 0 rfl rfl 0 (by decide) (hcm _ kw_61) (fun _ h9 => h9) rfl hin rfl (by decide +kernel) rfl rfl (Nat.le_of_ble_eq_true rfl) d_KeySums_init_12 (fun H locs hP hD hS => ?_)
  have hP : va_P D classes [(h0, .inr (1, [.ref a5, .null, .null, .int 0, .int 0, .null, .int 0])), (a5, .inr (0, [.ref b1, .ref b2, .int 0, .int 0, .int 0, .int 0, .int 0, .long 0])), (b1, .inl (cB, 64, .inl (fun _ => 0))), (b2, .inl (cI, 16, .inl (fun _ => 0)))] H := hP
  have hD : va_D A [(h0, .inr (1, [.ref a5, .null, .null, .int 0, .int 0, .null, .int 0])), (a5, .inr (0, [.ref b1, .ref b2, .int 0, .int 0, .int 0, .int 0, .int 0, .long 0])), (b1, .inl (cB, 64, .inl (fun _ => 0))), (b2, .inl (cI, 16, .inl (fun _ => 0)))] := hD
  refine lv_aload_n hx hb d_KeySums_init_15 rfl (lv_at hl 0 rfl) ?_
  refine lv_bipush (v := nI 16) hx hb d_KeySums_init_16 (by decide) ?_
  refine kr_newB C0 hP hD hS (k := 16) (by decide) (Nat.le_of_ble_eq_true rfl) (Nat.le_of_ble_eq_true rfl) d_KeySums_init_18 (fun a18 H hP hD hS => ?_)
  have hP : va_P D classes [(h0, .inr (1, [.ref a5, .null, .null, .int 0, .int 0, .null, .int 0])), (a5, .inr (0, [.ref b1, .ref b2, .int 0, .int 0, .int 0, .int 0, .int 0, .long 0])), (b1, .inl (cB, 64, .inl (fun _ => 0))), (b2, .inl (cI, 16, .inl (fun _ => 0))), (a18, .inl (cB, 16, .inl (fun _ => 0)))] H := hP
  have hD : va_D A [(h0, .inr (1, [.ref a5, .null, .null, .int 0, .int 0, .null, .int 0])), (a5, .inr (0, [.ref b1, .ref b2, .int 0, .int 0, .int 0, .int 0, .int 0, .long 0])), (b1, .inl (cB, 64, .inl (fun _ => 0))), (b2, .inl (cI, 16, .inl (fun _ => 0))), (a18, .inl (cB, 16, .inl (fun _ => 0)))] := hD
  refine va_putF (D := D) (ci := 1) (v := .ref a18) (ty := .array .byte) (C := "KeySums") (T := F_KeySums) (N := 7) hx hb hcm i_KeySums t_KeySums t_KeySums_ok n_KeySums hown hK hP hD hS 0 rfl rfl 1 (by decide) (hcm _ kw_62) (fun _ h9 => h9) rfl hin rfl (by decide +kernel) rfl rfl (Nat.le_of_ble_eq_true rfl) d_KeySums_init_20 (fun H locs hP hD hS => ?_)
  have hP : va_P D classes [(h0, .inr (1, [.ref a5, .ref a18, .null, .int 0, .int 0, .null, .int 0])), (a5, .inr (0, [.ref b1, .ref b2, .int 0, .int 0, .int 0, .int 0, .int 0, .long 0])), (b1, .inl (cB, 64, .inl (fun _ => 0))), (b2, .inl (cI, 16, .inl (fun _ => 0))), (a18, .inl (cB, 16, .inl (fun _ => 0)))] H := hP
  have hD : va_D A [(h0, .inr (1, [.ref a5, .ref a18, .null, .int 0, .int 0, .null, .int 0])), (a5, .inr (0, [.ref b1, .ref b2, .int 0, .int 0, .int 0, .int 0, .int 0, .long 0])), (b1, .inl (cB, 64, .inl (fun _ => 0))), (b2, .inl (cI, 16, .inl (fun _ => 0))), (a18, .inl (cB, 16, .inl (fun _ => 0)))] := hD
  refine lv_aload_n hx hb d_KeySums_init_23 rfl (lv_at hl 0 rfl) ?_
  refine lv_bipush (v := nI 16) hx hb d_KeySums_init_24 (by decide) ?_
  refine kr_newB C0 hP hD hS (k := 16) (by decide) (Nat.le_of_ble_eq_true rfl) (Nat.le_of_ble_eq_true rfl) d_KeySums_init_26 (fun a26 H hP hD hS => ?_)
  have hP : va_P D classes [(h0, .inr (1, [.ref a5, .ref a18, .null, .int 0, .int 0, .null, .int 0])), (a5, .inr (0, [.ref b1, .ref b2, .int 0, .int 0, .int 0, .int 0, .int 0, .long 0])), (b1, .inl (cB, 64, .inl (fun _ => 0))), (b2, .inl (cI, 16, .inl (fun _ => 0))), (a18, .inl (cB, 16, .inl (fun _ => 0))), (a26, .inl (cB, 16, .inl (fun _ => 0)))] H := hP
  have hD : va_D A [(h0, .inr (1, [.ref a5, .ref a18, .null, .int 0, .int 0, .null, .int 0])), (a5, .inr (0, [.ref b1, .ref b2, .int 0, .int 0, .int 0, .int 0, .int 0, .long 0])), (b1, .inl (cB, 64, .inl (fun _ => 0))), (b2, .inl (cI, 16, .inl (fun _ => 0))), (a18, .inl (cB, 16, .inl (fun _ => 0))), (a26, .inl (cB, 16, .inl (fun _ => 0)))] := hD
  refine va_putF (D := D) (ci := 1) (v := .ref a26) (ty := .array .byte) (C := "KeySums") (T := F_KeySums) (N := 7) hx hb hcm i_KeySums t_KeySums t_KeySums_ok n_KeySums hown hK hP hD hS 0 rfl rfl 2 (by decide) (hcm _ kw_63) (fun _ h9 => h9) rfl hin rfl (by decide +kernel) rfl rfl (Nat.le_of_ble_eq_true rfl) d_KeySums_init_28 (fun H locs hP hD hS => ?_)
  have hP : va_P D classes [(h0, .inr (1, [.ref a5, .ref a18, .ref a26, .int 0, .int 0, .null, .int 0])), (a5, .inr (0, [.ref b1, .ref b2, .int 0, .int 0, .int 0, .int 0, .int 0, .long 0])), (b1, .inl (cB, 64, .inl (fun _ => 0))), (b2, .inl (cI, 16, .inl (fun _ => 0))), (a18, .inl (cB, 16, .inl (fun _ => 0))), (a26, .inl (cB, 16, .inl (fun _ => 0)))] H := hP
  have hD : va_D A [(h0, .inr (1, [.ref a5, .ref a18, .ref a26, .int 0, .int 0, .null, .int 0])), (a5, .inr (0, [.ref b1, .ref b2, .int 0, .int 0, .int 0, .int 0, .int 0, .long 0])), (b1, .inl (cB, 64, .inl (fun _ => 0))), (b2, .inl (cI, 16, .inl (fun _ => 0))), (a18, .inl (cB, 16, .inl (fun _ => 0))), (a26, .inl (cB, 16, .inl (fun _ => 0)))] := hD
  refine lv_aload_n hx hb d_KeySums_init_31 rfl (lv_at hl 0 rfl) ?_
  refine lv_sipush (v := nI 2000) hx hb d_KeySums_init_32 (by decide) ?_
  refine kr_newB C0 hP hD hS (k := 2000) (by decide) (Nat.le_of_ble_eq_true rfl) (Nat.le_of_ble_eq_true rfl) d_KeySums_init_35 (fun a35 H hP hD hS => ?_)
  have hP : va_P D classes [(h0, .inr (1, [.ref a5, .ref a18, .ref a26, .int 0, .int 0, .null, .int 0])), (a5, .inr (0, [.ref b1, .ref b2, .int 0, .int 0, .int 0, .int 0, .int 0, .long 0])), (b1, .inl (cB, 64, .inl (fun _ => 0))), (b2, .inl (cI, 16, .inl (fun _ => 0))), (a18, .inl (cB, 16, .inl (fun _ => 0))), (a26, .inl (cB, 16, .inl (fun _ => 0))), (a35, .inl (cB, 2000, .inl (fun _ => 0)))] H := hP
  have hD : va_D A [(h0, .inr (1, [.ref a5, .ref a18, .ref a26, .int 0, .int 0, .null, .int 0])), (a5, .inr (0, [.ref b1, .ref b2, .int 0, .int 0, .int 0, .int 0, .int 0, .long 0])), (b1, .inl (cB, 64, .inl (fun _ => 0))), (b2, .inl (cI, 16, .inl (fun _ => 0))), (a18, .inl (cB, 16, .inl (fun _ => 0))), (a26, .inl (cB, 16, .inl (fun _ => 0))), (a35, .inl (cB, 2000, .inl (fun _ => 0)))] := hD
  refine va_putF (D := D) (ci := 1) (v := .ref a35) (ty := .array .byte) (C := "KeySums") (T := F_KeySums) (N := 7) hx hb hcm i_KeySums t_KeySums t_KeySums_ok n_KeySums hown hK hP hD hS 0 rfl rfl 5 (by decide) (hcm _ kw_66) (fun _ h9 => h9) rfl hin rfl (by decide +kernel) rfl rfl (Nat.le_of_ble_eq_true rfl) d_KeySums_init_37 (fun H locs hP hD hS => ?_)
  have hP : va_P D classes [(h0, .inr (1, [.ref a5, .ref a18, .ref a26, .int 0, .int 0, .ref a35, .int 0])), (a5, .inr (0, [.ref b1, .ref b2, .int 0, .int 0, .int 0, .int 0, .int 0, .long 0])), (b1, .inl (cB, 64, .inl (fun _ => 0))), (b2, .inl (cI, 16, .inl (fun _ => 0))), (a18, .inl (cB, 16, .inl (fun _ => 0))), (a26, .inl (cB, 16, .inl (fun _ => 0))), (a35, .inl (cB, 2000, .inl (fun _ => 0)))] H := hP
  have hD : va_D A [(h0, .inr (1, [.ref a5, .ref a18, .ref a26, .int 0, .int 0, .ref a35, .int 0])), (a5, .inr (0, [.ref b1, .ref b2, .int 0, .int 0, .int 0, .int 0, .int 0, .long 0])), (b1, .inl (cB, 64, .inl (fun _ => 0))), (b2, .inl (cI, 16, .inl (fun _ => 0))), (a18, .inl (cB, 16, .inl (fun _ => 0))), (a26, .inl (cB, 16, .inl (fun _ => 0))), (a35, .inl (cB, 2000, .inl (fun _ => 0)))] := hD
  refine lv_aload_n hx hb d_KeySums_init_40 rfl (lv_at hl 0 rfl) ?_
  refine va_get (D := D) (ci := 1) (v := .ref a5) (C := "KeySums") (T := F_KeySums) (N := 7) hx hb hcm i_KeySums hown hK hP 0 rfl rfl 0 (by decide) (hcm _ kw_61) (fun _ h9 => h9) rfl d_KeySums_init_41 ?_
  refine cl_Vv C0 (ty := .int) (rest := []) (wr := [(h0, .inr (1, [.ref a5, .ref a18, .ref a26, .int 0, .int 0, .ref a35, .int 0])), (a18, .inl (cB, 16, .inl (fun _ => 0))), (a26, .inl (cB, 16, .inl (fun _ => 0))), (a35, .inl (cB, 2000, .inl (fun _ => 0)))]) [] (c_Digest_begin l D cB cI kt tt a5 b1 b2 (fun _ => 0) (fun _ => 0) 0 0 0 0 0 0) (cwV 0 hcm (gd_V kw_53 kw_54 kw_55 kw_9 kw_56) rfl rfl rfl (by decide +kernel) ⟨Nat.le_of_ble_eq_true rfl, Nat.le_of_ble_eq_true rfl⟩) hP hD hS [1, 2, 3] [0, 4, 5, 6] rfl rfl rfl rfl (by decide) rfl 0 rfl rfl rfl hl.1 (Nat.le_of_ble_eq_true rfl) d_KeySums_init_44 ⟨Nat.le_of_ble_eq_true rfl, Nat.le_of_ble_eq_true rfl⟩ (fun _ H locs _ hP hD hS => ?_)
  have hP := hP.sub (ws' := wKg (fun k => [h0, a18, a35, a26, a5, b1, b2].getD k 0) cB cI (fun _ => 0) (fun _ => 0) (fun _ => 0) 0 0 0 (fun _ => 0) (fun _ => 0) (fun _ => 0, md_B, 0)) [0, 1, 3, 2, 4, 5, 6] rfl
  have hD := hD.sub (ws' := wKg (fun k => [h0, a18, a35, a26, a5, b1, b2].getD k 0) cB cI (fun _ => 0) (fun _ => 0) (fun _ => 0) 0 0 0 (fun _ => 0) (fun _ => 0) (fun _ => 0, md_B, 0)) [0, 1, 3, 2, 4, 5, 6] (by decide) rfl
  exact kr_vret C0 (fun k => [h0, a18, a35, a26, a5, b1, b2].getD k 0) hr hlk rfl hP hD hS d_KeySums_init_47
end
section
theorem h4_u0 (v : V4) (x : Int32) : ∀ j, j < 4 → upd (h4 v) 0 x j = h4 (x, v.2.1, v.2.2.1, v.2.2.2) j := by
  intro j hj
  rcases (show j = 0 ∨ j = 1 ∨ j = 2 ∨ j = 3 by omega) with rfl | rfl | rfl | rfl <;> rfl
theorem h4_u1 (v : V4) (x : Int32) : ∀ j, j < 4 → upd (h4 v) 1 x j = h4 (v.1, x, v.2.2.1, v.2.2.2) j := by
  intro j hj
  rcases (show j = 0 ∨ j = 1 ∨ j = 2 ∨ j = 3 by omega) with rfl | rfl | rfl | rfl <;> rfl
theorem h4_u2 (v : V4) (x : Int32) : ∀ j, j < 4 → upd (h4 v) 2 x j = h4 (v.1, v.2.1, x, v.2.2.2) j := by
  intro j hj
  rcases (show j = 0 ∨ j = 1 ∨ j = 2 ∨ j = 3 by omega) with rfl | rfl | rfl | rfl <;> rfl
theorem h4_u3 (v : V4) (x : Int32) : ∀ j, j < 4 → upd (h4 v) 3 x j = h4 (v.1, v.2.1, v.2.2.1, x) j := by
  intro j hj
  rcases (show j = 0 ∨ j = 1 ∨ j = 2 ∨ j = 3 by omega) with rfl | rfl | rfl | rfl <;> rfl
set_option maxHeartbeats 4000000 in
set_option maxRecDepth 100000 in
/-- KeySumsModel.word -/
theorem c_Model_word (l : Launch) (D : va_G) (cB cI : ClassId) (kt tt : Nat) (q : Nat → Nat) (tape : Nat → Int32) (size : Int32) (key blk four now : Nat → Int32) (many : Int32) (result : Nat → Int32) (iss : Int32) (k : Nat) (hk : k < 16) : CtI l y_Model_word w_Model_word { frames := 0, cells := 0, slots := 0, locals := 0 } [.ref (q 0), .int (nI k)] D (tyL cB cI) kt tt (wM q cI tape size key blk four now many result iss) (fun (r : Int32) (_ : Unit) => r = md_word blk k) (fun (u : Unit) => (wM q cI tape size key blk four now many result iss)) := by
  refine ctI_of (by decide) (Nat.le_of_ble_eq_true rfl) ?_
  intro p e s m below meth c A ls C0 hr hlk hin hP hD hl
  have C0 : Cx p s m _ c b_Model_word 2 "KeySumsModel" D (tyL cB cI) A kt tt := C0
  obtain ⟨hx, hb, hml, hown, hcm, hK, hA, hZ⟩ := id C0
  have hS : va_S A s.heap s.heap [] := va_S.rf
  have hl : lv_has ls 2 [(0, .ref (q 0)), (1, .int (nI k))] := hl
  obtain ⟨H, hH⟩ : ∃ H, H = s.heap := ⟨_, rfl⟩
  have hP0 := hP
  rw [← hH] at hP
  have hS : va_S A s.heap H [] := by rw [hH]; exact hS
  suffices hgoal : W p l e _ s m _ below meth c H [] 0 0 _ (F0 m 0 ls []) by rw [hH] at hgoal; exact hgoal
  clear hP0 hH
  refine lv_aload_n hx hb d_Model_word_0 rfl (lv_at hl 0 rfl) ?_
  refine va_get (D := D) (ci := 2) (v := .ref (q 8)) (C := "KeySumsModel") (T := F_Model) (N := 14) hx hb hcm i_Model hown hK hP 0 rfl rfl 8 (by decide) (hcm _ kw_218) (fun _ h9 => h9) rfl d_Model_word_1 ?_
  refine lv_iconst (v := nI 4) hx hb d_Model_word_4 (by decide) ?_
  refine lv_iload_n hx hb d_Model_word_5 rfl (lv_at hl 1 rfl) ?_
  refine lv_imul hx hb d_Model_word_6 ?_
  refine kt_i (y := nI (4 * k)) (pk_mul 4 k) ?_
  refine kr_iald C0 hP 8 1 rfl rfl (k := 4 * k) (by omega) (by decide) d_Model_word_7 ?_
  refine lv_aload_n hx hb d_Model_word_8 rfl (lv_at hl 0 rfl) ?_
  refine va_get (D := D) (ci := 2) (v := .ref (q 8)) (C := "KeySumsModel") (T := F_Model) (N := 14) hx hb hcm i_Model hown hK hP 0 rfl rfl 8 (by decide) (hcm _ kw_218) (fun _ h9 => h9) rfl d_Model_word_9 ?_
  refine lv_iconst (v := nI 4) hx hb d_Model_word_12 (by decide) ?_
  refine lv_iload_n hx hb d_Model_word_13 rfl (lv_at hl 1 rfl) ?_
  refine lv_imul hx hb d_Model_word_14 ?_
  refine lv_iconst (v := nI 1) hx hb d_Model_word_15 (by decide) ?_
  refine lv_iadd hx hb d_Model_word_16 ?_
  refine kt_i (y := nI (4 * k + 1)) (by rw [pk_mul, nI_add]) ?_
  refine kr_iald C0 hP 8 1 rfl rfl (k := 4 * k + 1) (by omega) (by decide) d_Model_word_17 ?_
  refine lv_bipush (v := nI 8) hx hb d_Model_word_18 (by decide) ?_
  refine lv_ishl hx hb d_Model_word_20 ?_
  refine lv_ior hx hb d_Model_word_21 ?_
  refine lv_aload_n hx hb d_Model_word_22 rfl (lv_at hl 0 rfl) ?_
  refine va_get (D := D) (ci := 2) (v := .ref (q 8)) (C := "KeySumsModel") (T := F_Model) (N := 14) hx hb hcm i_Model hown hK hP 0 rfl rfl 8 (by decide) (hcm _ kw_218) (fun _ h9 => h9) rfl d_Model_word_23 ?_
  refine lv_iconst (v := nI 4) hx hb d_Model_word_26 (by decide) ?_
  refine lv_iload_n hx hb d_Model_word_27 rfl (lv_at hl 1 rfl) ?_
  refine lv_imul hx hb d_Model_word_28 ?_
  refine lv_iconst (v := nI 2) hx hb d_Model_word_29 (by decide) ?_
  refine lv_iadd hx hb d_Model_word_30 ?_
  refine kt_i (y := nI (4 * k + 2)) (by rw [pk_mul, nI_add]) ?_
  refine kr_iald C0 hP 8 1 rfl rfl (k := 4 * k + 2) (by omega) (by decide) d_Model_word_31 ?_
  refine lv_bipush (v := nI 16) hx hb d_Model_word_32 (by decide) ?_
  refine lv_ishl hx hb d_Model_word_34 ?_
  refine lv_ior hx hb d_Model_word_35 ?_
  refine lv_aload_n hx hb d_Model_word_36 rfl (lv_at hl 0 rfl) ?_
  refine va_get (D := D) (ci := 2) (v := .ref (q 8)) (C := "KeySumsModel") (T := F_Model) (N := 14) hx hb hcm i_Model hown hK hP 0 rfl rfl 8 (by decide) (hcm _ kw_218) (fun _ h9 => h9) rfl d_Model_word_37 ?_
  refine lv_iconst (v := nI 4) hx hb d_Model_word_40 (by decide) ?_
  refine lv_iload_n hx hb d_Model_word_41 rfl (lv_at hl 1 rfl) ?_
  refine lv_imul hx hb d_Model_word_42 ?_
  refine lv_iconst (v := nI 3) hx hb d_Model_word_43 (by decide) ?_
  refine lv_iadd hx hb d_Model_word_44 ?_
  refine kt_i (y := nI (4 * k + 3)) (by rw [pk_mul, nI_add]) ?_
  refine kr_iald C0 hP 8 1 rfl rfl (k := 4 * k + 3) (by omega) (by decide) d_Model_word_45 ?_
  refine lv_bipush (v := nI 24) hx hb d_Model_word_46 (by decide) ?_
  refine lv_ishl hx hb d_Model_word_48 ?_
  refine lv_ior hx hb d_Model_word_49 ?_
  exact kr_iret C0 () hr rfl hlk rfl hP hD hS d_Model_word_50
set_option maxHeartbeats 4000000 in
set_option maxRecDepth 100000 in
/-- KeySumsModel.mixed -/
theorem c_Model_mixed (l : Launch) (D : va_G) (cB cI : ClassId) (kt tt : Nat) (q : Nat → Nat) (tape : Nat → Int32) (size : Int32) (key blk four : Nat → Int32) (v : V4) (many : Int32) (result : Nat → Int32) (iss : Int32) (r : Nat) (hr4 : r < 4) : CtI l y_Model_mixed w_Model_mixed { frames := 0, cells := 0, slots := 0, locals := 0 } [.ref (q 0), .int (nI r)] D (tyL cB cI) kt tt (wM q cI tape size key blk four (h4 v) many result iss) (fun (z : Int32) (_ : Unit) => z = md_f r v.2.1 v.2.2.1 v.2.2.2) (fun (u : Unit) => (wM q cI tape size key blk four (h4 v) many result iss)) := by
  refine ctI_of (by decide) (Nat.le_of_ble_eq_true rfl) ?_
  intro p e s m below meth c A ls C0 hr hlk hin hP hD hl
  have C0 : Cx p s m _ c b_Model_mixed 5 "KeySumsModel" D (tyL cB cI) A kt tt := C0
  obtain ⟨hx, hb, hml, hown, hcm, hK, hA, hZ⟩ := id C0
  have hS : va_S A s.heap s.heap [] := va_S.rf
  have hl : lv_has ls 5 [(0, .ref (q 0)), (1, .int (nI r))] := hl
  obtain ⟨H, hH⟩ : ∃ H, H = s.heap := ⟨_, rfl⟩
  have hP0 := hP
  rw [← hH] at hP
  have hS : va_S A s.heap H [] := by rw [hH]; exact hS
  suffices hgoal : W p l e _ s m _ below meth c H [] 0 0 _ (F0 m 0 ls []) by rw [hH] at hgoal; exact hgoal
  clear hP0 hH
  refine lv_aload_n hx hb d_Model_mixed_0 rfl (lv_at hl 0 rfl) ?_
  refine va_get (D := D) (ci := 2) (v := .ref (q 10)) (C := "KeySumsModel") (T := F_Model) (N := 14) hx hb hcm i_Model hown hK hP 0 rfl rfl 10 (by decide) (hcm _ kw_220) (fun _ h9 => h9) rfl d_Model_mixed_1 ?_
  refine lv_iconst (v := nI 1) hx hb d_Model_mixed_4 (by decide) ?_
  refine kr_iald C0 hP 10 1 rfl rfl (k := 1) (by omega) (by decide) d_Model_mixed_5 ?_
  refine lv_istore_n (lv' := [(2, .int v.2.1), (0, .ref (q 0)), (1, .int (nI r))]) hx hb d_Model_mixed_6 rfl hl (by decide) rfl (fun ls hl => ?_)
  refine lv_aload_n hx hb d_Model_mixed_7 rfl (lv_at hl 1 rfl) ?_
  refine va_get (D := D) (ci := 2) (v := .ref (q 10)) (C := "KeySumsModel") (T := F_Model) (N := 14) hx hb hcm i_Model hown hK hP 0 rfl rfl 10 (by decide) (hcm _ kw_220) (fun _ h9 => h9) rfl d_Model_mixed_8 ?_
  refine lv_iconst (v := nI 2) hx hb d_Model_mixed_11 (by decide) ?_
  refine kr_iald C0 hP 10 1 rfl rfl (k := 2) (by omega) (by decide) d_Model_mixed_12 ?_
  refine lv_istore_n (lv' := [(3, .int v.2.2.1), (2, .int v.2.1), (0, .ref (q 0)), (1, .int (nI r))]) hx hb d_Model_mixed_13 rfl hl (by decide) rfl (fun ls hl => ?_)
  refine lv_aload_n hx hb d_Model_mixed_14 rfl (lv_at hl 2 rfl) ?_
  refine va_get (D := D) (ci := 2) (v := .ref (q 10)) (C := "KeySumsModel") (T := F_Model) (N := 14) hx hb hcm i_Model hown hK hP 0 rfl rfl 10 (by decide) (hcm _ kw_220) (fun _ h9 => h9) rfl d_Model_mixed_15 ?_
  refine lv_iconst (v := nI 3) hx hb d_Model_mixed_18 (by decide) ?_
  refine kr_iald C0 hP 10 1 rfl rfl (k := 3) (by omega) (by decide) d_Model_mixed_19 ?_
  refine lv_istore (lv' := [(4, .int v.2.2.2), (3, .int v.2.2.1), (2, .int v.2.1), (0, .ref (q 0)), (1, .int (nI r))]) hx hb d_Model_mixed_20 hl (by decide) rfl (fun ls hl => ?_)
  refine lv_iload_n hx hb d_Model_mixed_22 rfl (lv_at hl 4 rfl) ?_
  rcases (show r = 0 ∨ r = 1 ∨ r = 2 ∨ r = 3 by omega) with rfl | rfl | rfl | rfl
  · refine lv_tableIn (off := 25) (tgt := 48) hx hb d_Model_mixed_23 (by decide) (by decide) (by decide) (by decide) ?_
    refine lv_iload_n hx hb d_Model_mixed_48 rfl (lv_at hl 2 rfl) ?_
    refine lv_iload_n hx hb d_Model_mixed_49 rfl (lv_at hl 1 rfl) ?_
    refine lv_iand hx hb d_Model_mixed_50 ?_
    refine lv_iload_n hx hb d_Model_mixed_51 rfl (lv_at hl 2 rfl) ?_
    refine lv_iconst (v := -1) hx hb d_Model_mixed_52 (by decide) ?_
    refine lv_ixor hx hb d_Model_mixed_53 ?_
    refine lv_iload hx hb d_Model_mixed_54 (lv_at hl 0 rfl) ?_
    refine lv_iand hx hb d_Model_mixed_56 ?_
    refine lv_ior hx hb d_Model_mixed_57 ?_
    exact kr_iret C0 () hr rfl hlk rfl hP hD hS d_Model_mixed_58
  · refine lv_tableIn (off := 36) (tgt := 59) hx hb d_Model_mixed_23 (by decide) (by decide) (by decide) (by decide) ?_
    refine lv_iload hx hb d_Model_mixed_59 (lv_at hl 0 rfl) ?_
    refine lv_iload_n hx hb d_Model_mixed_61 rfl (lv_at hl 2 rfl) ?_
    refine lv_iand hx hb d_Model_mixed_62 ?_
    refine lv_iload hx hb d_Model_mixed_63 (lv_at hl 0 rfl) ?_
    refine lv_iconst (v := -1) hx hb d_Model_mixed_65 (by decide) ?_
    refine lv_ixor hx hb d_Model_mixed_66 ?_
    refine lv_iload_n hx hb d_Model_mixed_67 rfl (lv_at hl 1 rfl) ?_
    refine lv_iand hx hb d_Model_mixed_68 ?_
    refine lv_ior hx hb d_Model_mixed_69 ?_
    exact kr_iret C0 () hr rfl hlk rfl hP hD hS d_Model_mixed_70
  · refine lv_tableIn (off := 48) (tgt := 71) hx hb d_Model_mixed_23 (by decide) (by decide) (by decide) (by decide) ?_
    refine lv_iload_n hx hb d_Model_mixed_71 rfl (lv_at hl 2 rfl) ?_
    refine lv_iload_n hx hb d_Model_mixed_72 rfl (lv_at hl 1 rfl) ?_
    refine lv_ixor hx hb d_Model_mixed_73 ?_
    refine lv_iload hx hb d_Model_mixed_74 (lv_at hl 0 rfl) ?_
    refine lv_ixor hx hb d_Model_mixed_76 ?_
    exact kr_iret C0 () hr rfl hlk rfl hP hD hS d_Model_mixed_77
  · refine lv_tableOut (tgt := 78) hx hb d_Model_mixed_23 (by decide) (by decide) ?_
    refine lv_iload_n hx hb d_Model_mixed_78 rfl (lv_at hl 1 rfl) ?_
    refine lv_iload_n hx hb d_Model_mixed_79 rfl (lv_at hl 2 rfl) ?_
    refine lv_iload hx hb d_Model_mixed_80 (lv_at hl 0 rfl) ?_
    refine lv_iconst (v := -1) hx hb d_Model_mixed_82 (by decide) ?_
    refine lv_ixor hx hb d_Model_mixed_83 ?_
    refine lv_ior hx hb d_Model_mixed_84 ?_
    refine lv_ixor hx hb d_Model_mixed_85 ?_
    exact kr_iret C0 () hr rfl hlk rfl hP hD hS d_Model_mixed_86
set_option maxHeartbeats 4000000 in
set_option maxRecDepth 100000 in
/-- KeySumsModel.step -/
theorem c_Model_step (l : Launch) (D : va_G) (cB cI : ClassId) (kt tt : Nat) (q : Nat → Nat) (tape : Nat → Int32) (size : Int32) (key blk four : Nat → Int32) (v : V4) (many : Int32) (result : Nat → Int32) (iss : Int32) (i : Nat) (hi : i < 64) : CtV l y_Model_step w_Model_step { frames := 1, cells := 0, slots := 0, locals := 24 } [.ref (q 0), .int (nI i)] D (tyL cB cI) kt tt (wM q cI tape size key blk four (h4 v) many result iss) (fun (_ : Unit) => True) (fun (u : Unit) => wM q cI tape size key blk four (h4 (md_step (md_word blk) i v)) many result iss) := by
  refine ctV_of (by decide) (Nat.le_of_ble_eq_true rfl) ?_
  intro p e s m below meth c A ls C0 hr hlk hin hP hD hl
  have C0 : Cx p s m _ c b_Model_step 5 "KeySumsModel" D (tyL cB cI) A kt tt := C0
  obtain ⟨hx, hb, hml, hown, hcm, hK, hA, hZ⟩ := id C0
  have hS : va_S A s.heap s.heap [] := va_S.rf
  have hl : lv_has ls 5 [(0, .ref (q 0)), (1, .int (nI i))] := hl
  obtain ⟨H, hH⟩ : ∃ H, H = s.heap := ⟨_, rfl⟩
  have hP0 := hP
  rw [← hH] at hP
  have hS : va_S A s.heap H [] := by rw [hH]; exact hS
  suffices hgoal : W p l e _ s m _ below meth c H [] 0 0 _ (F0 m 0 ls []) by rw [hH] at hgoal; exact hgoal
  clear hP0 hH
  refine lv_iload_n hx hb d_Model_step_0 rfl (lv_at hl 1 rfl) ?_
  refine lv_bipush (v := nI 16) hx hb d_Model_step_1 (by decide) ?_
  refine lv_idiv hx hb d_Model_step_3 (by decide) ?_
  refine kt_i (y := nI (i / 16)) (pk_div (by omega) (by decide) (by decide)) ?_
  refine lv_istore_n (lv' := [(2, .int (nI (i / 16))), (0, .ref (q 0)), (1, .int (nI i))]) hx hb d_Model_step_4 rfl hl (by decide) rfl (fun ls hl => ?_)
  refine lv_aload_n hx hb d_Model_step_5 rfl (lv_at hl 1 rfl) ?_
  refine va_get (D := D) (ci := 2) (v := .ref (q 2)) (C := "KeySumsModel") (T := F_Model) (N := 14) hx hb hcm i_Model hown hK hP 0 rfl rfl 1 (by decide) (hcm _ kw_211) (fun _ h9 => h9) rfl d_Model_step_6 ?_
  refine lv_iconst (v := nI 4) hx hb d_Model_step_9 (by decide) ?_
  refine lv_iload_n hx hb d_Model_step_10 rfl (lv_at hl 0 rfl) ?_
  refine lv_imul hx hb d_Model_step_11 ?_
  refine lv_iload_n hx hb d_Model_step_12 rfl (lv_at hl 2 rfl) ?_
  refine lv_iconst (v := nI 4) hx hb d_Model_step_13 (by decide) ?_
  refine lv_irem hx hb d_Model_step_14 (by decide) ?_
  refine kt_i (y := nI (i % 4)) (pk_rem (by omega) (by decide) (by decide)) ?_
  refine lv_iadd hx hb d_Model_step_15 ?_
  refine kt_i (y := nI (4 * (i / 16) + i % 4)) (by rw [pk_mul, nI_add]) ?_
  refine kr_iald C0 hP 2 1 rfl rfl (k := 4 * (i / 16) + i % 4) (by omega) (by decide) d_Model_step_16 ?_
  refine lv_istore_n (lv' := [(3, .int (md_T (4 * (i / 16) + i % 4))), (2, .int (nI (i / 16))), (0, .ref (q 0)), (1, .int (nI i))]) hx hb d_Model_step_17 rfl hl (by decide) rfl (fun ls hl => ?_)
  refine lv_aload_n hx hb d_Model_step_18 rfl (lv_at hl 2 rfl) ?_
  refine va_get (D := D) (ci := 2) (v := .ref (q 10)) (C := "KeySumsModel") (T := F_Model) (N := 14) hx hb hcm i_Model hown hK hP 0 rfl rfl 10 (by decide) (hcm _ kw_220) (fun _ h9 => h9) rfl d_Model_step_19 ?_
  refine lv_iconst (v := nI 0) hx hb d_Model_step_22 (by decide) ?_
  refine kr_iald C0 hP 10 1 rfl rfl (k := 0) (by omega) (by decide) d_Model_step_23 ?_
  refine lv_aload_n hx hb d_Model_step_24 rfl (lv_at hl 2 rfl) ?_
  refine lv_iload_n hx hb d_Model_step_25 rfl (lv_at hl 1 rfl) ?_
  refine cl_Vi C0 (rest := [.int v.1]) (wr := []) [.int (nI (i / 16))] (c_Model_mixed l D cB cI kt tt q tape size key blk four v many result iss (i / 16) (by omega)) (cwV 1 hcm (gd_V kw_277 kw_279 kw_5 kw_10 kw_280) rfl rfl rfl (by decide +kernel) ⟨Nat.le_of_ble_eq_true rfl, Nat.le_of_ble_eq_true rfl⟩) hP hD hS [0, 1, 2, 3, 4, 5, 6, 7, 8, 9, 10, 11] [] rfl rfl rfl rfl (by decide) rfl 0 rfl rfl rfl hl.1 (Nat.le_of_ble_eq_true rfl) d_Model_step_26 ⟨Nat.le_of_ble_eq_true rfl, Nat.le_of_ble_eq_true rfl⟩ (fun r1 _ H locs hw1 hP hD hS => ?_)
  have hP : va_P D classes (wM q cI tape size key blk four (h4 v) many result iss) H := hP
  have hD : va_D A (wM q cI tape size key blk four (h4 v) many result iss) := hD
  refine lv_iadd hx hb d_Model_step_29 ?_
  refine lv_aload_n hx hb d_Model_step_30 rfl (lv_at hl 2 rfl) ?_
  refine va_get (D := D) (ci := 2) (v := .ref (q 1)) (C := "KeySumsModel") (T := F_Model) (N := 14) hx hb hcm i_Model hown hK hP 0 rfl rfl 0 (by decide) (hcm _ kw_210) (fun _ h9 => h9) rfl d_Model_step_31 ?_
  refine lv_iload_n hx hb d_Model_step_34 rfl (lv_at hl 3 rfl) ?_
  refine kr_iald C0 hP 1 1 rfl rfl (k := i) (by omega) (by decide) d_Model_step_35 ?_
  refine lv_iadd hx hb d_Model_step_36 ?_
  refine lv_aload_n hx hb d_Model_step_37 rfl (lv_at hl 2 rfl) ?_
  refine lv_aload_n hx hb d_Model_step_38 rfl (lv_at hl 2 rfl) ?_
  refine va_get (D := D) (ci := 2) (v := .ref (q 4)) (C := "KeySumsModel") (T := F_Model) (N := 14) hx hb hcm i_Model hown hK hP 0 rfl rfl 3 (by decide) (hcm _ kw_213) (fun _ h9 => h9) rfl d_Model_step_39 ?_
  refine lv_iload_n hx hb d_Model_step_42 rfl (lv_at hl 1 rfl) ?_
  refine kr_iald C0 hP 4 1 rfl rfl (k := i / 16) (by omega) (by decide) d_Model_step_43 ?_
  refine lv_iload_n hx hb d_Model_step_44 rfl (lv_at hl 3 rfl) ?_
  refine lv_imul hx hb d_Model_step_45 ?_
  refine lv_aload_n hx hb d_Model_step_46 rfl (lv_at hl 2 rfl) ?_
  refine va_get (D := D) (ci := 2) (v := .ref (q 5)) (C := "KeySumsModel") (T := F_Model) (N := 14) hx hb hcm i_Model hown hK hP 0 rfl rfl 4 (by decide) (hcm _ kw_214) (fun _ h9 => h9) rfl d_Model_step_47 ?_
  refine lv_iload_n hx hb d_Model_step_50 rfl (lv_at hl 1 rfl) ?_
  refine kr_iald C0 hP 5 1 rfl rfl (k := i / 16) (by omega) (by decide) d_Model_step_51 ?_
  refine lv_iadd hx hb d_Model_step_52 ?_
  refine kt_i (y := nI (md_ti (i / 16) * i + md_mo (i / 16))) (by rw [pk_mul, nI_add]) ?_
  refine lv_bipush (v := nI 16) hx hb d_Model_step_53 (by decide) ?_
  refine lv_irem hx hb d_Model_step_55 (by decide) ?_
  refine kt_i (y := nI (md_g i)) (pk_rem (md_gb hi) (by decide) (by decide)) ?_
  refine cl_Vi C0 (rest := [.int ((v.1 + r1) + (md_K i))]) (wr := []) [.int (nI (md_g i))] (c_Model_word l D cB cI kt tt q tape size key blk four (h4 v) many result iss (md_g i) (md_g_lt i)) (cwV 1 hcm (gd_V kw_281 kw_283 kw_6 kw_10 kw_284) rfl rfl rfl (by decide +kernel) ⟨Nat.le_of_ble_eq_true rfl, Nat.le_of_ble_eq_true rfl⟩) hP hD hS [0, 1, 2, 3, 4, 5, 6, 7, 8, 9, 10, 11] [] rfl rfl rfl rfl (by decide) rfl 0 rfl rfl rfl hl.1 (Nat.le_of_ble_eq_true rfl) d_Model_step_56 ⟨Nat.le_of_ble_eq_true rfl, Nat.le_of_ble_eq_true rfl⟩ (fun r2 _ H locs hw2 hP hD hS => ?_)
  have hP : va_P D classes (wM q cI tape size key blk four (h4 v) many result iss) H := hP
  have hD : va_D A (wM q cI tape size key blk four (h4 v) many result iss) := hD
  refine lv_iadd hx hb d_Model_step_59 ?_
  refine lv_istore (lv' := [(4, .int (((v.1 + r1) + (md_K i)) + r2)), (3, .int (md_T (4 * (i / 16) + i % 4))), (2, .int (nI (i / 16))), (0, .ref (q 0)), (1, .int (nI i))]) hx hb d_Model_step_60 hl (by decide) rfl (fun ls hl => ?_)
  refine lv_aload_n hx hb d_Model_step_62 rfl (lv_at hl 3 rfl) ?_
  refine va_get (D := D) (ci := 2) (v := .ref (q 10)) (C := "KeySumsModel") (T := F_Model) (N := 14) hx hb hcm i_Model hown hK hP 0 rfl rfl 10 (by decide) (hcm _ kw_220) (fun _ h9 => h9) rfl d_Model_step_63 ?_
  refine lv_iconst (v := nI 0) hx hb d_Model_step_66 (by decide) ?_
  refine lv_aload_n hx hb d_Model_step_67 rfl (lv_at hl 3 rfl) ?_
  refine va_get (D := D) (ci := 2) (v := .ref (q 10)) (C := "KeySumsModel") (T := F_Model) (N := 14) hx hb hcm i_Model hown hK hP 0 rfl rfl 10 (by decide) (hcm _ kw_220) (fun _ h9 => h9) rfl d_Model_step_68 ?_
  refine lv_iconst (v := nI 3) hx hb d_Model_step_71 (by decide) ?_
  refine kr_iald C0 hP 10 1 rfl rfl (k := 3) (by omega) (by decide) d_Model_step_72 ?_
  refine kr_iast C0 hP hD hS 10 1 rfl rfl (k := 0) (x := v.2.2.2) (by omega) (by decide) d_Model_step_73 (fun H locs hP hD hS => ?_)
  have hP : va_P D classes (wM q cI tape size key blk four (upd (h4 v) 0 v.2.2.2) many result iss) H := hP
  have hD : va_D A (wM q cI tape size key blk four (upd (h4 v) 0 v.2.2.2) many result iss) := hD
  obtain ⟨hP, hD⟩ := kr_ext hP hD 10 (h4 (v.2.2.2, v.2.1, v.2.2.1, v.2.2.2)) rfl (h4_u0 _ _)
  have hP : va_P D classes (wM q cI tape size key blk four (h4 (v.2.2.2, v.2.1, v.2.2.1, v.2.2.2)) many result iss) H := hP
  have hD : va_D A (wM q cI tape size key blk four (h4 (v.2.2.2, v.2.1, v.2.2.1, v.2.2.2)) many result iss) := hD
  refine lv_aload_n hx hb d_Model_step_74 rfl (lv_at hl 3 rfl) ?_
  refine va_get (D := D) (ci := 2) (v := .ref (q 10)) (C := "KeySumsModel") (T := F_Model) (N := 14) hx hb hcm i_Model hown hK hP 0 rfl rfl 10 (by decide) (hcm _ kw_220) (fun _ h9 => h9) rfl d_Model_step_75 ?_
  refine lv_iconst (v := nI 3) hx hb d_Model_step_78 (by decide) ?_
  refine lv_aload_n hx hb d_Model_step_79 rfl (lv_at hl 3 rfl) ?_
  refine va_get (D := D) (ci := 2) (v := .ref (q 10)) (C := "KeySumsModel") (T := F_Model) (N := 14) hx hb hcm i_Model hown hK hP 0 rfl rfl 10 (by decide) (hcm _ kw_220) (fun _ h9 => h9) rfl d_Model_step_80 ?_
  refine lv_iconst (v := nI 2) hx hb d_Model_step_83 (by decide) ?_
  refine kr_iald C0 hP 10 1 rfl rfl (k := 2) (by omega) (by decide) d_Model_step_84 ?_
  refine kr_iast C0 hP hD hS 10 1 rfl rfl (k := 3) (x := v.2.2.1) (by omega) (by decide) d_Model_step_85 (fun H locs hP hD hS => ?_)
  have hP : va_P D classes (wM q cI tape size key blk four (upd (h4 (v.2.2.2, v.2.1, v.2.2.1, v.2.2.2)) 3 v.2.2.1) many result iss) H := hP
  have hD : va_D A (wM q cI tape size key blk four (upd (h4 (v.2.2.2, v.2.1, v.2.2.1, v.2.2.2)) 3 v.2.2.1) many result iss) := hD
  obtain ⟨hP, hD⟩ := kr_ext hP hD 10 (h4 (v.2.2.2, v.2.1, v.2.2.1, v.2.2.1)) rfl (h4_u3 _ _)
  have hP : va_P D classes (wM q cI tape size key blk four (h4 (v.2.2.2, v.2.1, v.2.2.1, v.2.2.1)) many result iss) H := hP
  have hD : va_D A (wM q cI tape size key blk four (h4 (v.2.2.2, v.2.1, v.2.2.1, v.2.2.1)) many result iss) := hD
  refine lv_aload_n hx hb d_Model_step_86 rfl (lv_at hl 3 rfl) ?_
  refine va_get (D := D) (ci := 2) (v := .ref (q 10)) (C := "KeySumsModel") (T := F_Model) (N := 14) hx hb hcm i_Model hown hK hP 0 rfl rfl 10 (by decide) (hcm _ kw_220) (fun _ h9 => h9) rfl d_Model_step_87 ?_
  refine lv_iconst (v := nI 2) hx hb d_Model_step_90 (by decide) ?_
  refine lv_aload_n hx hb d_Model_step_91 rfl (lv_at hl 3 rfl) ?_
  refine va_get (D := D) (ci := 2) (v := .ref (q 10)) (C := "KeySumsModel") (T := F_Model) (N := 14) hx hb hcm i_Model hown hK hP 0 rfl rfl 10 (by decide) (hcm _ kw_220) (fun _ h9 => h9) rfl d_Model_step_92 ?_
  refine lv_iconst (v := nI 1) hx hb d_Model_step_95 (by decide) ?_
  refine kr_iald C0 hP 10 1 rfl rfl (k := 1) (by omega) (by decide) d_Model_step_96 ?_
  refine kr_iast C0 hP hD hS 10 1 rfl rfl (k := 2) (x := v.2.1) (by omega) (by decide) d_Model_step_97 (fun H locs hP hD hS => ?_)
  have hP : va_P D classes (wM q cI tape size key blk four (upd (h4 (v.2.2.2, v.2.1, v.2.2.1, v.2.2.1)) 2 v.2.1) many result iss) H := hP
  have hD : va_D A (wM q cI tape size key blk four (upd (h4 (v.2.2.2, v.2.1, v.2.2.1, v.2.2.1)) 2 v.2.1) many result iss) := hD
  obtain ⟨hP, hD⟩ := kr_ext hP hD 10 (h4 (v.2.2.2, v.2.1, v.2.1, v.2.2.1)) rfl (h4_u2 _ _)
  have hP : va_P D classes (wM q cI tape size key blk four (h4 (v.2.2.2, v.2.1, v.2.1, v.2.2.1)) many result iss) H := hP
  have hD : va_D A (wM q cI tape size key blk four (h4 (v.2.2.2, v.2.1, v.2.1, v.2.2.1)) many result iss) := hD
  refine lv_aload_n hx hb d_Model_step_98 rfl (lv_at hl 3 rfl) ?_
  refine va_get (D := D) (ci := 2) (v := .ref (q 10)) (C := "KeySumsModel") (T := F_Model) (N := 14) hx hb hcm i_Model hown hK hP 0 rfl rfl 10 (by decide) (hcm _ kw_220) (fun _ h9 => h9) rfl d_Model_step_99 ?_
  refine lv_iconst (v := nI 1) hx hb d_Model_step_102 (by decide) ?_
  refine lv_aload_n hx hb d_Model_step_103 rfl (lv_at hl 3 rfl) ?_
  refine va_get (D := D) (ci := 2) (v := .ref (q 10)) (C := "KeySumsModel") (T := F_Model) (N := 14) hx hb hcm i_Model hown hK hP 0 rfl rfl 10 (by decide) (hcm _ kw_220) (fun _ h9 => h9) rfl d_Model_step_104 ?_
  refine lv_iconst (v := nI 1) hx hb d_Model_step_107 (by decide) ?_
  refine kr_iald C0 hP 10 1 rfl rfl (k := 1) (by omega) (by decide) d_Model_step_108 ?_
  refine lv_iload hx hb d_Model_step_109 (lv_at hl 0 rfl) ?_
  refine lv_iload_n hx hb d_Model_step_111 rfl (lv_at hl 1 rfl) ?_
  refine lv_ishl hx hb d_Model_step_112 ?_
  refine lv_iload hx hb d_Model_step_113 (lv_at hl 0 rfl) ?_
  refine lv_bipush (v := nI 32) hx hb d_Model_step_115 (by decide) ?_
  refine lv_iload_n hx hb d_Model_step_117 rfl (lv_at hl 1 rfl) ?_
  refine lv_isub hx hb d_Model_step_118 ?_
  refine lv_iushr hx hb d_Model_step_119 rfl ?_
  refine lv_ior hx hb d_Model_step_120 ?_
  refine lv_iadd hx hb d_Model_step_121 ?_
  refine kt_i (y := (md_step (md_word blk) i v).2.1) (by rw [md_rot_m (by omega) rfl, hw1, hw2]; rfl) ?_
  refine kr_iast C0 hP hD hS 10 1 rfl rfl (k := 1) (x := (md_step (md_word blk) i v).2.1) (by omega) (by decide) d_Model_step_122 (fun H locs hP hD hS => ?_)
  have hP : va_P D classes (wM q cI tape size key blk four (upd (h4 (v.2.2.2, v.2.1, v.2.1, v.2.2.1)) 1 ((md_step (md_word blk) i v).2.1)) many result iss) H := hP
  have hD : va_D A (wM q cI tape size key blk four (upd (h4 (v.2.2.2, v.2.1, v.2.1, v.2.2.1)) 1 ((md_step (md_word blk) i v).2.1)) many result iss) := hD
  obtain ⟨hP, hD⟩ := kr_ext hP hD 10 (h4 (v.2.2.2, (md_step (md_word blk) i v).2.1, v.2.1, v.2.2.1)) rfl (h4_u1 _ _)
  have hP : va_P D classes (wM q cI tape size key blk four (h4 (v.2.2.2, (md_step (md_word blk) i v).2.1, v.2.1, v.2.2.1)) many result iss) H := hP
  have hD : va_D A (wM q cI tape size key blk four (h4 (v.2.2.2, (md_step (md_word blk) i v).2.1, v.2.1, v.2.2.1)) many result iss) := hD
  exact kr_vret C0 () hr hlk trivial hP hD hS d_Model_step_123
set_option maxHeartbeats 4000000 in
set_option maxRecDepth 100000 in
/-- KeySumsModel.anew -/
theorem c_Model_anew (l : Launch) (D : va_G) (cB cI : ClassId) (kt tt : Nat) (q : Nat → Nat) (tape : Nat → Int32) (size : Int32) (key blk : Nat → Int32) (v : V4) (now : Nat → Int32) (many : Int32) (result : Nat → Int32) (iss : Int32) : CtV l y_Model_anew w_Model_anew { frames := 0, cells := 0, slots := 0, locals := 0 } [.ref (q 0)] D (tyL cB cI) kt tt (wM q cI tape size key blk (h4 v) now many result iss) (fun (_ : Unit) => True) (fun (u : Unit) => wM q cI tape size key blk (h4 md_B) now (nI 0) result iss) := by
  refine ctV_of (by decide) (Nat.le_of_ble_eq_true rfl) ?_
  intro p e s m below meth c A ls C0 hr hlk hin hP hD hl
  have C0 : Cx p s m _ c b_Model_anew 2 "KeySumsModel" D (tyL cB cI) A kt tt := C0
  obtain ⟨hx, hb, hml, hown, hcm, hK, hA, hZ⟩ := id C0
  have hS : va_S A s.heap s.heap [] := va_S.rf
  have hl : lv_has ls 2 [(0, .ref (q 0))] := hl
  obtain ⟨H, hH⟩ : ∃ H, H = s.heap := ⟨_, rfl⟩
  have hP0 := hP
  rw [← hH] at hP
  have hS : va_S A s.heap H [] := by rw [hH]; exact hS
  suffices hgoal : W p l e _ s m _ below meth c H [] 0 0 _ (F0 m 0 ls []) by rw [hH] at hgoal; exact hgoal
  clear hP0 hH
  refine lv_aload_n hx hb d_Model_anew_0 rfl (lv_at hl 0 rfl) ?_
  refine lv_iconst (v := nI 0) hx hb d_Model_anew_1 (by decide) ?_
  refine va_put (D := D) (ci := 2) (v := .int (nI 0)) (ty := .int) (C := "KeySumsModel") (T := F_Model) (N := 14) hx hb hcm i_Model t_Model t_Model_ok n_Model hown hK hP hD hS 0 rfl rfl 11 (by decide) (hcm _ kw_221) (fun _ h9 => h9) rfl (by decide +kernel) rfl rfl (Nat.le_of_ble_eq_true rfl) d_Model_anew_2 (fun H locs hP hD hS => ?_)
  have hP : va_P D classes (wM q cI tape size key blk (h4 v) now (nI 0) result iss) H := hP
  have hD : va_D A (wM q cI tape size key blk (h4 v) now (nI 0) result iss) := hD
  refine lv_iconst (v := nI 0) hx hb d_Model_anew_5 (by decide) ?_
  refine lv_istore_n (lv' := [(1, .int (nI 0)), (0, .ref (q 0))]) hx hb d_Model_anew_6 rfl hl (by decide) rfl (fun ls hl => ?_)
  refine lv_iload_n hx hb d_Model_anew_7 rfl (lv_at hl 0 rfl) ?_
  refine lv_iconst (v := nI 4) hx hb d_Model_anew_8 (by decide) ?_
  refine kr_icmp_ge C0 (by decide) (by decide) (tgt := 30) d_Model_anew_9 (by decide) (fun h9 => absurd h9 (by decide)) (fun _ => ?_)
  refine lv_aload_n hx hb d_Model_anew_12 rfl (lv_at hl 1 rfl) ?_
  refine va_get (D := D) (ci := 2) (v := .ref (q 9)) (C := "KeySumsModel") (T := F_Model) (N := 14) hx hb hcm i_Model hown hK hP 0 rfl rfl 9 (by decide) (hcm _ kw_219) (fun _ h9 => h9) rfl d_Model_anew_13 ?_
  refine lv_iload_n hx hb d_Model_anew_16 rfl (lv_at hl 0 rfl) ?_
  refine lv_aload_n hx hb d_Model_anew_17 rfl (lv_at hl 1 rfl) ?_
  refine va_get (D := D) (ci := 2) (v := .ref (q 3)) (C := "KeySumsModel") (T := F_Model) (N := 14) hx hb hcm i_Model hown hK hP 0 rfl rfl 2 (by decide) (hcm _ kw_212) (fun _ h9 => h9) rfl d_Model_anew_18 ?_
  refine lv_iload_n hx hb d_Model_anew_21 rfl (lv_at hl 0 rfl) ?_
  refine kr_iald C0 hP 3 1 rfl rfl (k := 0) (by decide) (by decide) d_Model_anew_22 ?_
  refine kr_iast C0 hP hD hS 9 1 rfl rfl (k := 0) (x := md_B.1) (by decide) (by decide) d_Model_anew_23 (fun H locs hP hD hS => ?_)
  have hP : va_P D classes (wM q cI tape size key blk (upd (h4 v) 0 md_B.1) now (nI 0) result iss) H := hP
  have hD : va_D A (wM q cI tape size key blk (upd (h4 v) 0 md_B.1) now (nI 0) result iss) := hD
  obtain ⟨hP, hD⟩ := kr_ext hP hD 9 (h4 (md_B.1, v.2.1, v.2.2.1, v.2.2.2)) rfl (h4_u0 _ _)
  have hP : va_P D classes (wM q cI tape size key blk (h4 (md_B.1, v.2.1, v.2.2.1, v.2.2.2)) now (nI 0) result iss) H := hP
  have hD : va_D A (wM q cI tape size key blk (h4 (md_B.1, v.2.1, v.2.2.1, v.2.2.2)) now (nI 0) result iss) := hD
  refine lv_iinc (v := nI 1) (lv' := [(1, .int (nI 1)), (0, .ref (q 0))]) hx hb d_Model_anew_24 hl (k := 0) rfl (by decide) (by decide) rfl (fun ls hl => ?_)
  refine lv_goto (tgt := 7) hx hb d_Model_anew_27 (by decide) ?_
  refine lv_iload_n hx hb d_Model_anew_7 rfl (lv_at hl 0 rfl) ?_
  refine lv_iconst (v := nI 4) hx hb d_Model_anew_8 (by decide) ?_
  refine kr_icmp_ge C0 (by decide) (by decide) (tgt := 30) d_Model_anew_9 (by decide) (fun h9 => absurd h9 (by decide)) (fun _ => ?_)
  refine lv_aload_n hx hb d_Model_anew_12 rfl (lv_at hl 1 rfl) ?_
  refine va_get (D := D) (ci := 2) (v := .ref (q 9)) (C := "KeySumsModel") (T := F_Model) (N := 14) hx hb hcm i_Model hown hK hP 0 rfl rfl 9 (by decide) (hcm _ kw_219) (fun _ h9 => h9) rfl d_Model_anew_13 ?_
  refine lv_iload_n hx hb d_Model_anew_16 rfl (lv_at hl 0 rfl) ?_
  refine lv_aload_n hx hb d_Model_anew_17 rfl (lv_at hl 1 rfl) ?_
  refine va_get (D := D) (ci := 2) (v := .ref (q 3)) (C := "KeySumsModel") (T := F_Model) (N := 14) hx hb hcm i_Model hown hK hP 0 rfl rfl 2 (by decide) (hcm _ kw_212) (fun _ h9 => h9) rfl d_Model_anew_18 ?_
  refine lv_iload_n hx hb d_Model_anew_21 rfl (lv_at hl 0 rfl) ?_
  refine kr_iald C0 hP 3 1 rfl rfl (k := 1) (by decide) (by decide) d_Model_anew_22 ?_
  refine kr_iast C0 hP hD hS 9 1 rfl rfl (k := 1) (x := md_B.2.1) (by decide) (by decide) d_Model_anew_23 (fun H locs hP hD hS => ?_)
  have hP : va_P D classes (wM q cI tape size key blk (upd (h4 (md_B.1, v.2.1, v.2.2.1, v.2.2.2)) 1 md_B.2.1) now (nI 0) result iss) H := hP
  have hD : va_D A (wM q cI tape size key blk (upd (h4 (md_B.1, v.2.1, v.2.2.1, v.2.2.2)) 1 md_B.2.1) now (nI 0) result iss) := hD
  obtain ⟨hP, hD⟩ := kr_ext hP hD 9 (h4 (md_B.1, md_B.2.1, v.2.2.1, v.2.2.2)) rfl (h4_u1 _ _)
  have hP : va_P D classes (wM q cI tape size key blk (h4 (md_B.1, md_B.2.1, v.2.2.1, v.2.2.2)) now (nI 0) result iss) H := hP
  have hD : va_D A (wM q cI tape size key blk (h4 (md_B.1, md_B.2.1, v.2.2.1, v.2.2.2)) now (nI 0) result iss) := hD
  refine lv_iinc (v := nI 2) (lv' := [(1, .int (nI 2)), (0, .ref (q 0))]) hx hb d_Model_anew_24 hl (k := 0) rfl (by decide) (by decide) rfl (fun ls hl => ?_)
  refine lv_goto (tgt := 7) hx hb d_Model_anew_27 (by decide) ?_
  refine lv_iload_n hx hb d_Model_anew_7 rfl (lv_at hl 0 rfl) ?_
  refine lv_iconst (v := nI 4) hx hb d_Model_anew_8 (by decide) ?_
  refine kr_icmp_ge C0 (by decide) (by decide) (tgt := 30) d_Model_anew_9 (by decide) (fun h9 => absurd h9 (by decide)) (fun _ => ?_)
  refine lv_aload_n hx hb d_Model_anew_12 rfl (lv_at hl 1 rfl) ?_
  refine va_get (D := D) (ci := 2) (v := .ref (q 9)) (C := "KeySumsModel") (T := F_Model) (N := 14) hx hb hcm i_Model hown hK hP 0 rfl rfl 9 (by decide) (hcm _ kw_219) (fun _ h9 => h9) rfl d_Model_anew_13 ?_
  refine lv_iload_n hx hb d_Model_anew_16 rfl (lv_at hl 0 rfl) ?_
  refine lv_aload_n hx hb d_Model_anew_17 rfl (lv_at hl 1 rfl) ?_
  refine va_get (D := D) (ci := 2) (v := .ref (q 3)) (C := "KeySumsModel") (T := F_Model) (N := 14) hx hb hcm i_Model hown hK hP 0 rfl rfl 2 (by decide) (hcm _ kw_212) (fun _ h9 => h9) rfl d_Model_anew_18 ?_
  refine lv_iload_n hx hb d_Model_anew_21 rfl (lv_at hl 0 rfl) ?_
  refine kr_iald C0 hP 3 1 rfl rfl (k := 2) (by decide) (by decide) d_Model_anew_22 ?_
  refine kr_iast C0 hP hD hS 9 1 rfl rfl (k := 2) (x := md_B.2.2.1) (by decide) (by decide) d_Model_anew_23 (fun H locs hP hD hS => ?_)
  have hP : va_P D classes (wM q cI tape size key blk (upd (h4 (md_B.1, md_B.2.1, v.2.2.1, v.2.2.2)) 2 md_B.2.2.1) now (nI 0) result iss) H := hP
  have hD : va_D A (wM q cI tape size key blk (upd (h4 (md_B.1, md_B.2.1, v.2.2.1, v.2.2.2)) 2 md_B.2.2.1) now (nI 0) result iss) := hD
  obtain ⟨hP, hD⟩ := kr_ext hP hD 9 (h4 (md_B.1, md_B.2.1, md_B.2.2.1, v.2.2.2)) rfl (h4_u2 _ _)
  have hP : va_P D classes (wM q cI tape size key blk (h4 (md_B.1, md_B.2.1, md_B.2.2.1, v.2.2.2)) now (nI 0) result iss) H := hP
  have hD : va_D A (wM q cI tape size key blk (h4 (md_B.1, md_B.2.1, md_B.2.2.1, v.2.2.2)) now (nI 0) result iss) := hD
  refine lv_iinc (v := nI 3) (lv' := [(1, .int (nI 3)), (0, .ref (q 0))]) hx hb d_Model_anew_24 hl (k := 0) rfl (by decide) (by decide) rfl (fun ls hl => ?_)
  refine lv_goto (tgt := 7) hx hb d_Model_anew_27 (by decide) ?_
  refine lv_iload_n hx hb d_Model_anew_7 rfl (lv_at hl 0 rfl) ?_
  refine lv_iconst (v := nI 4) hx hb d_Model_anew_8 (by decide) ?_
  refine kr_icmp_ge C0 (by decide) (by decide) (tgt := 30) d_Model_anew_9 (by decide) (fun h9 => absurd h9 (by decide)) (fun _ => ?_)
  refine lv_aload_n hx hb d_Model_anew_12 rfl (lv_at hl 1 rfl) ?_
  refine va_get (D := D) (ci := 2) (v := .ref (q 9)) (C := "KeySumsModel") (T := F_Model) (N := 14) hx hb hcm i_Model hown hK hP 0 rfl rfl 9 (by decide) (hcm _ kw_219) (fun _ h9 => h9) rfl d_Model_anew_13 ?_
  refine lv_iload_n hx hb d_Model_anew_16 rfl (lv_at hl 0 rfl) ?_
  refine lv_aload_n hx hb d_Model_anew_17 rfl (lv_at hl 1 rfl) ?_
  refine va_get (D := D) (ci := 2) (v := .ref (q 3)) (C := "KeySumsModel") (T := F_Model) (N := 14) hx hb hcm i_Model hown hK hP 0 rfl rfl 2 (by decide) (hcm _ kw_212) (fun _ h9 => h9) rfl d_Model_anew_18 ?_
  refine lv_iload_n hx hb d_Model_anew_21 rfl (lv_at hl 0 rfl) ?_
  refine kr_iald C0 hP 3 1 rfl rfl (k := 3) (by decide) (by decide) d_Model_anew_22 ?_
  refine kr_iast C0 hP hD hS 9 1 rfl rfl (k := 3) (x := md_B.2.2.2) (by decide) (by decide) d_Model_anew_23 (fun H locs hP hD hS => ?_)
  have hP : va_P D classes (wM q cI tape size key blk (upd (h4 (md_B.1, md_B.2.1, md_B.2.2.1, v.2.2.2)) 3 md_B.2.2.2) now (nI 0) result iss) H := hP
  have hD : va_D A (wM q cI tape size key blk (upd (h4 (md_B.1, md_B.2.1, md_B.2.2.1, v.2.2.2)) 3 md_B.2.2.2) now (nI 0) result iss) := hD
  obtain ⟨hP, hD⟩ := kr_ext hP hD 9 (h4 (md_B.1, md_B.2.1, md_B.2.2.1, md_B.2.2.2)) rfl (h4_u3 _ _)
  have hP : va_P D classes (wM q cI tape size key blk (h4 (md_B.1, md_B.2.1, md_B.2.2.1, md_B.2.2.2)) now (nI 0) result iss) H := hP
  have hD : va_D A (wM q cI tape size key blk (h4 (md_B.1, md_B.2.1, md_B.2.2.1, md_B.2.2.2)) now (nI 0) result iss) := hD
  refine lv_iinc (v := nI 4) (lv' := [(1, .int (nI 4)), (0, .ref (q 0))]) hx hb d_Model_anew_24 hl (k := 0) rfl (by decide) (by decide) rfl (fun ls hl => ?_)
  refine lv_goto (tgt := 7) hx hb d_Model_anew_27 (by decide) ?_
  refine lv_iload_n hx hb d_Model_anew_7 rfl (lv_at hl 0 rfl) ?_
  refine lv_iconst (v := nI 4) hx hb d_Model_anew_8 (by decide) ?_
  refine kr_icmp_ge C0 (by decide) (by decide) (tgt := 30) d_Model_anew_9 (by decide) (fun _ => ?_) (fun h9 => absurd h9 (by decide))
  exact kr_vret C0 () hr hlk trivial hP hD hS d_Model_anew_30
set_option maxHeartbeats 4000000 in
set_option maxRecDepth 100000 in
/-- KeySumsModel.lay -/
theorem c_Model_lay (l : Launch) (D : va_G) (cB cI : ClassId) (kt tt : Nat) (q : Nat → Nat) (tape : Nat → Int32) (ln : Nat) (key blk four now : Nat → Int32) (many : Int32) (result : Nat → Int32) (iss : Int32) (v : Int32) (hln : ln + 4 ≤ 2000) : CtV l y_Model_lay w_Model_lay { frames := 0, cells := 0, slots := 0, locals := 0 } [.ref (q 0), .int v] D (tyL cB cI) kt tt (wM q cI tape (nI ln) key blk four now many result iss) (fun (_ : Unit) => True) (fun (u : Unit) => wM q cI (md_lay tape ln v) (nI (ln + 4)) key blk four now many result iss) := by
  refine ctV_of (by decide) (Nat.le_of_ble_eq_true rfl) ?_
  intro p e s m below meth c A ls C0 hr hlk hin hP hD hl
  have C0 : Cx p s m _ c b_Model_lay 3 "KeySumsModel" D (tyL cB cI) A kt tt := C0
  obtain ⟨hx, hb, hml, hown, hcm, hK, hA, hZ⟩ := id C0
  have hS : va_S A s.heap s.heap [] := va_S.rf
  have hl : lv_has ls 3 [(0, .ref (q 0)), (1, .int v)] := hl
  obtain ⟨H, hH⟩ : ∃ H, H = s.heap := ⟨_, rfl⟩
  have hP0 := hP
  rw [← hH] at hP
  have hS : va_S A s.heap H [] := by rw [hH]; exact hS
  suffices hgoal : W p l e _ s m _ below meth c H [] 0 0 _ (F0 m 0 ls []) by rw [hH] at hgoal; exact hgoal
  clear hP0 hH
  refine lv_bipush (v := nI 24) hx hb d_Model_lay_0 (by decide) ?_
  refine lv_istore_n (lv' := [(2, .int (nI 24)), (0, .ref (q 0)), (1, .int v)]) hx hb d_Model_lay_2 rfl hl (by decide) rfl (fun ls hl => ?_)
  refine lv_iload_n hx hb d_Model_lay_3 rfl (lv_at hl 0 rfl) ?_
  refine lv_if_lt (tgt := 39) hx hb d_Model_lay_4 (by decide) (fun h9 => absurd h9 (by decide)) (fun _ => ?_)
  refine lv_aload_n hx hb d_Model_lay_7 rfl (lv_at hl 1 rfl) ?_
  refine va_get (D := D) (ci := 2) (v := .ref (q 6)) (C := "KeySumsModel") (T := F_Model) (N := 14) hx hb hcm i_Model hown hK hP 0 rfl rfl 5 (by decide) (hcm _ kw_215) (fun _ h9 => h9) rfl d_Model_lay_8 ?_
  refine lv_aload_n hx hb d_Model_lay_11 rfl (lv_at hl 1 rfl) ?_
  refine va_get (D := D) (ci := 2) (v := .int (nI ln)) (C := "KeySumsModel") (T := F_Model) (N := 14) hx hb hcm i_Model hown hK hP 0 rfl rfl 6 (by decide) (hcm _ kw_216) (fun _ h9 => h9) rfl d_Model_lay_12 ?_
  refine lv_iload_n hx hb d_Model_lay_15 rfl (lv_at hl 2 rfl) ?_
  refine lv_iload_n hx hb d_Model_lay_16 rfl (lv_at hl 0 rfl) ?_
  refine lv_ishr hx hb d_Model_lay_17 ?_
  refine lv_sipush (v := nI 255) hx hb d_Model_lay_18 (by decide) ?_
  refine lv_iand hx hb d_Model_lay_21 ?_
  refine kt_i (y := md_by v 0) rfl ?_
  refine kr_iast C0 hP hD hS 6 1 rfl rfl (k := ln) (x := md_by v 0) (by omega) (by decide) d_Model_lay_22 (fun H locs hP hD hS => ?_)
  have hP : va_P D classes (wM q cI (upd tape ln (md_by v 0)) (nI ln) key blk four now many result iss) H := hP
  have hD : va_D A (wM q cI (upd tape ln (md_by v 0)) (nI ln) key blk four now many result iss) := hD
  refine lv_aload_n hx hb d_Model_lay_23 rfl (lv_at hl 1 rfl) ?_
  refine lv_dup hx hb d_Model_lay_24 rfl ?_
  refine va_get (D := D) (ci := 2) (v := .int (nI ln)) (C := "KeySumsModel") (T := F_Model) (N := 14) hx hb hcm i_Model hown hK hP 0 rfl rfl 6 (by decide) (hcm _ kw_216) (fun _ h9 => h9) rfl d_Model_lay_25 ?_
  refine lv_iconst (v := nI 1) hx hb d_Model_lay_28 (by decide) ?_
  refine lv_iadd hx hb d_Model_lay_29 ?_
  refine kt_i (y := nI (ln + 1)) (nI_add ln 1) ?_
  refine va_put (D := D) (ci := 2) (v := .int (nI (ln + 1))) (ty := .int) (C := "KeySumsModel") (T := F_Model) (N := 14) hx hb hcm i_Model t_Model t_Model_ok n_Model hown hK hP hD hS 0 rfl rfl 6 (by decide) (hcm _ kw_216) (fun _ h9 => h9) rfl (by decide +kernel) rfl rfl (Nat.le_of_ble_eq_true rfl) d_Model_lay_30 (fun H locs hP hD hS => ?_)
  have hP : va_P D classes (wM q cI (upd tape ln (md_by v 0)) (nI (ln + 1)) key blk four now many result iss) H := hP
  have hD : va_D A (wM q cI (upd tape ln (md_by v 0)) (nI (ln + 1)) key blk four now many result iss) := hD
  refine lv_iinc (v := nI 16) (lv' := [(2, .int (nI 16)), (0, .ref (q 0)), (1, .int v)]) hx hb d_Model_lay_33 hl (k := 0) rfl (by decide) (by decide) rfl (fun ls hl => ?_)
  refine lv_goto (tgt := 3) hx hb d_Model_lay_36 (by decide) ?_
  refine lv_iload_n hx hb d_Model_lay_3 rfl (lv_at hl 0 rfl) ?_
  refine lv_if_lt (tgt := 39) hx hb d_Model_lay_4 (by decide) (fun h9 => absurd h9 (by decide)) (fun _ => ?_)
  refine lv_aload_n hx hb d_Model_lay_7 rfl (lv_at hl 1 rfl) ?_
  refine va_get (D := D) (ci := 2) (v := .ref (q 6)) (C := "KeySumsModel") (T := F_Model) (N := 14) hx hb hcm i_Model hown hK hP 0 rfl rfl 5 (by decide) (hcm _ kw_215) (fun _ h9 => h9) rfl d_Model_lay_8 ?_
  refine lv_aload_n hx hb d_Model_lay_11 rfl (lv_at hl 1 rfl) ?_
  refine va_get (D := D) (ci := 2) (v := .int (nI (ln + 1))) (C := "KeySumsModel") (T := F_Model) (N := 14) hx hb hcm i_Model hown hK hP 0 rfl rfl 6 (by decide) (hcm _ kw_216) (fun _ h9 => h9) rfl d_Model_lay_12 ?_
  refine lv_iload_n hx hb d_Model_lay_15 rfl (lv_at hl 2 rfl) ?_
  refine lv_iload_n hx hb d_Model_lay_16 rfl (lv_at hl 0 rfl) ?_
  refine lv_ishr hx hb d_Model_lay_17 ?_
  refine lv_sipush (v := nI 255) hx hb d_Model_lay_18 (by decide) ?_
  refine lv_iand hx hb d_Model_lay_21 ?_
  refine kt_i (y := md_by v 1) rfl ?_
  refine kr_iast C0 hP hD hS 6 1 rfl rfl (k := ln + 1) (x := md_by v 1) (by omega) (by decide) d_Model_lay_22 (fun H locs hP hD hS => ?_)
  have hP : va_P D classes (wM q cI (upd (upd tape ln (md_by v 0)) (ln + 1) (md_by v 1)) (nI (ln + 1)) key blk four now many result iss) H := hP
  have hD : va_D A (wM q cI (upd (upd tape ln (md_by v 0)) (ln + 1) (md_by v 1)) (nI (ln + 1)) key blk four now many result iss) := hD
  refine lv_aload_n hx hb d_Model_lay_23 rfl (lv_at hl 1 rfl) ?_
  refine lv_dup hx hb d_Model_lay_24 rfl ?_
  refine va_get (D := D) (ci := 2) (v := .int (nI (ln + 1))) (C := "KeySumsModel") (T := F_Model) (N := 14) hx hb hcm i_Model hown hK hP 0 rfl rfl 6 (by decide) (hcm _ kw_216) (fun _ h9 => h9) rfl d_Model_lay_25 ?_
  refine lv_iconst (v := nI 1) hx hb d_Model_lay_28 (by decide) ?_
  refine lv_iadd hx hb d_Model_lay_29 ?_
  refine kt_i (y := nI (ln + 2)) (nI_add (ln + 1) 1) ?_
  refine va_put (D := D) (ci := 2) (v := .int (nI (ln + 2))) (ty := .int) (C := "KeySumsModel") (T := F_Model) (N := 14) hx hb hcm i_Model t_Model t_Model_ok n_Model hown hK hP hD hS 0 rfl rfl 6 (by decide) (hcm _ kw_216) (fun _ h9 => h9) rfl (by decide +kernel) rfl rfl (Nat.le_of_ble_eq_true rfl) d_Model_lay_30 (fun H locs hP hD hS => ?_)
  have hP : va_P D classes (wM q cI (upd (upd tape ln (md_by v 0)) (ln + 1) (md_by v 1)) (nI (ln + 2)) key blk four now many result iss) H := hP
  have hD : va_D A (wM q cI (upd (upd tape ln (md_by v 0)) (ln + 1) (md_by v 1)) (nI (ln + 2)) key blk four now many result iss) := hD
  refine lv_iinc (v := nI 8) (lv' := [(2, .int (nI 8)), (0, .ref (q 0)), (1, .int v)]) hx hb d_Model_lay_33 hl (k := 0) rfl (by decide) (by decide) rfl (fun ls hl => ?_)
  refine lv_goto (tgt := 3) hx hb d_Model_lay_36 (by decide) ?_
  refine lv_iload_n hx hb d_Model_lay_3 rfl (lv_at hl 0 rfl) ?_
  refine lv_if_lt (tgt := 39) hx hb d_Model_lay_4 (by decide) (fun h9 => absurd h9 (by decide)) (fun _ => ?_)
  refine lv_aload_n hx hb d_Model_lay_7 rfl (lv_at hl 1 rfl) ?_
  refine va_get (D := D) (ci := 2) (v := .ref (q 6)) (C := "KeySumsModel") (T := F_Model) (N := 14) hx hb hcm i_Model hown hK hP 0 rfl rfl 5 (by decide) (hcm _ kw_215) (fun _ h9 => h9) rfl d_Model_lay_8 ?_
  refine lv_aload_n hx hb d_Model_lay_11 rfl (lv_at hl 1 rfl) ?_
  refine va_get (D := D) (ci := 2) (v := .int (nI (ln + 2))) (C := "KeySumsModel") (T := F_Model) (N := 14) hx hb hcm i_Model hown hK hP 0 rfl rfl 6 (by decide) (hcm _ kw_216) (fun _ h9 => h9) rfl d_Model_lay_12 ?_
  refine lv_iload_n hx hb d_Model_lay_15 rfl (lv_at hl 2 rfl) ?_
  refine lv_iload_n hx hb d_Model_lay_16 rfl (lv_at hl 0 rfl) ?_
  refine lv_ishr hx hb d_Model_lay_17 ?_
  refine lv_sipush (v := nI 255) hx hb d_Model_lay_18 (by decide) ?_
  refine lv_iand hx hb d_Model_lay_21 ?_
  refine kt_i (y := md_by v 2) rfl ?_
  refine kr_iast C0 hP hD hS 6 1 rfl rfl (k := ln + 2) (x := md_by v 2) (by omega) (by decide) d_Model_lay_22 (fun H locs hP hD hS => ?_)
  have hP : va_P D classes (wM q cI (upd (upd (upd tape ln (md_by v 0)) (ln + 1) (md_by v 1)) (ln + 2) (md_by v 2)) (nI (ln + 2)) key blk four now many result iss) H := hP
  have hD : va_D A (wM q cI (upd (upd (upd tape ln (md_by v 0)) (ln + 1) (md_by v 1)) (ln + 2) (md_by v 2)) (nI (ln + 2)) key blk four now many result iss) := hD
  refine lv_aload_n hx hb d_Model_lay_23 rfl (lv_at hl 1 rfl) ?_
  refine lv_dup hx hb d_Model_lay_24 rfl ?_
  refine va_get (D := D) (ci := 2) (v := .int (nI (ln + 2))) (C := "KeySumsModel") (T := F_Model) (N := 14) hx hb hcm i_Model hown hK hP 0 rfl rfl 6 (by decide) (hcm _ kw_216) (fun _ h9 => h9) rfl d_Model_lay_25 ?_
  refine lv_iconst (v := nI 1) hx hb d_Model_lay_28 (by decide) ?_
  refine lv_iadd hx hb d_Model_lay_29 ?_
  refine kt_i (y := nI (ln + 3)) (nI_add (ln + 2) 1) ?_
  refine va_put (D := D) (ci := 2) (v := .int (nI (ln + 3))) (ty := .int) (C := "KeySumsModel") (T := F_Model) (N := 14) hx hb hcm i_Model t_Model t_Model_ok n_Model hown hK hP hD hS 0 rfl rfl 6 (by decide) (hcm _ kw_216) (fun _ h9 => h9) rfl (by decide +kernel) rfl rfl (Nat.le_of_ble_eq_true rfl) d_Model_lay_30 (fun H locs hP hD hS => ?_)
  have hP : va_P D classes (wM q cI (upd (upd (upd tape ln (md_by v 0)) (ln + 1) (md_by v 1)) (ln + 2) (md_by v 2)) (nI (ln + 3)) key blk four now many result iss) H := hP
  have hD : va_D A (wM q cI (upd (upd (upd tape ln (md_by v 0)) (ln + 1) (md_by v 1)) (ln + 2) (md_by v 2)) (nI (ln + 3)) key blk four now many result iss) := hD
  refine lv_iinc (v := nI 0) (lv' := [(2, .int (nI 0)), (0, .ref (q 0)), (1, .int v)]) hx hb d_Model_lay_33 hl (k := 0) rfl (by decide) (by decide) rfl (fun ls hl => ?_)
  refine lv_goto (tgt := 3) hx hb d_Model_lay_36 (by decide) ?_
  refine lv_iload_n hx hb d_Model_lay_3 rfl (lv_at hl 0 rfl) ?_
  refine lv_if_lt (tgt := 39) hx hb d_Model_lay_4 (by decide) (fun h9 => absurd h9 (by decide)) (fun _ => ?_)
  refine lv_aload_n hx hb d_Model_lay_7 rfl (lv_at hl 1 rfl) ?_
  refine va_get (D := D) (ci := 2) (v := .ref (q 6)) (C := "KeySumsModel") (T := F_Model) (N := 14) hx hb hcm i_Model hown hK hP 0 rfl rfl 5 (by decide) (hcm _ kw_215) (fun _ h9 => h9) rfl d_Model_lay_8 ?_
  refine lv_aload_n hx hb d_Model_lay_11 rfl (lv_at hl 1 rfl) ?_
  refine va_get (D := D) (ci := 2) (v := .int (nI (ln + 3))) (C := "KeySumsModel") (T := F_Model) (N := 14) hx hb hcm i_Model hown hK hP 0 rfl rfl 6 (by decide) (hcm _ kw_216) (fun _ h9 => h9) rfl d_Model_lay_12 ?_
  refine lv_iload_n hx hb d_Model_lay_15 rfl (lv_at hl 2 rfl) ?_
  refine lv_iload_n hx hb d_Model_lay_16 rfl (lv_at hl 0 rfl) ?_
  refine lv_ishr hx hb d_Model_lay_17 ?_
  refine lv_sipush (v := nI 255) hx hb d_Model_lay_18 (by decide) ?_
  refine lv_iand hx hb d_Model_lay_21 ?_
  refine kt_i (y := md_by v 3) rfl ?_
  refine kr_iast C0 hP hD hS 6 1 rfl rfl (k := ln + 3) (x := md_by v 3) (by omega) (by decide) d_Model_lay_22 (fun H locs hP hD hS => ?_)
  have hP : va_P D classes (wM q cI (upd (upd (upd (upd tape ln (md_by v 0)) (ln + 1) (md_by v 1)) (ln + 2) (md_by v 2)) (ln + 3) (md_by v 3)) (nI (ln + 3)) key blk four now many result iss) H := hP
  have hD : va_D A (wM q cI (upd (upd (upd (upd tape ln (md_by v 0)) (ln + 1) (md_by v 1)) (ln + 2) (md_by v 2)) (ln + 3) (md_by v 3)) (nI (ln + 3)) key blk four now many result iss) := hD
  refine lv_aload_n hx hb d_Model_lay_23 rfl (lv_at hl 1 rfl) ?_
  refine lv_dup hx hb d_Model_lay_24 rfl ?_
  refine va_get (D := D) (ci := 2) (v := .int (nI (ln + 3))) (C := "KeySumsModel") (T := F_Model) (N := 14) hx hb hcm i_Model hown hK hP 0 rfl rfl 6 (by decide) (hcm _ kw_216) (fun _ h9 => h9) rfl d_Model_lay_25 ?_
  refine lv_iconst (v := nI 1) hx hb d_Model_lay_28 (by decide) ?_
  refine lv_iadd hx hb d_Model_lay_29 ?_
  refine kt_i (y := nI (ln + 4)) (nI_add (ln + 3) 1) ?_
  refine va_put (D := D) (ci := 2) (v := .int (nI (ln + 4))) (ty := .int) (C := "KeySumsModel") (T := F_Model) (N := 14) hx hb hcm i_Model t_Model t_Model_ok n_Model hown hK hP hD hS 0 rfl rfl 6 (by decide) (hcm _ kw_216) (fun _ h9 => h9) rfl (by decide +kernel) rfl rfl (Nat.le_of_ble_eq_true rfl) d_Model_lay_30 (fun H locs hP hD hS => ?_)
  have hP : va_P D classes (wM q cI (upd (upd (upd (upd tape ln (md_by v 0)) (ln + 1) (md_by v 1)) (ln + 2) (md_by v 2)) (ln + 3) (md_by v 3)) (nI (ln + 4)) key blk four now many result iss) H := hP
  have hD : va_D A (wM q cI (upd (upd (upd (upd tape ln (md_by v 0)) (ln + 1) (md_by v 1)) (ln + 2) (md_by v 2)) (ln + 3) (md_by v 3)) (nI (ln + 4)) key blk four now many result iss) := hD
  refine lv_iinc (v := -8) (lv' := [(2, .int (-8)), (0, .ref (q 0)), (1, .int v)]) hx hb d_Model_lay_33 hl (k := 0) rfl (by decide) (by decide) rfl (fun ls hl => ?_)
  refine lv_goto (tgt := 3) hx hb d_Model_lay_36 (by decide) ?_
  refine lv_iload_n hx hb d_Model_lay_3 rfl (lv_at hl 0 rfl) ?_
  refine lv_if_lt (tgt := 39) hx hb d_Model_lay_4 (by decide) (fun _ => ?_) (fun h9 => absurd (by decide) h9)
  exact kr_vret C0 () hr hlk trivial hP hD hS d_Model_lay_39
theorem md_come_0 {g : Dg} (v : Int32) (h : (g.2.2 + 1) % 64 = 0) : md_come g v = (upd g.1 (g.2.2 % 64) (v &&& nI 255), md_blk (upd g.1 (g.2.2 % 64) (v &&& nI 255)) g.2.1, g.2.2 + 1) := by
  unfold md_come
  rw [if_pos h]
theorem md_come_1 {g : Dg} (v : Int32) (h : ¬ (g.2.2 + 1) % 64 = 0) : md_come g v = (upd g.1 (g.2.2 % 64) (v &&& nI 255), g.2.1, g.2.2 + 1) := by
  unfold md_come
  rw [if_neg h]
set_option maxHeartbeats 4000000 in
set_option maxRecDepth 100000 in
/-- KeySumsModel.come: the steps -/
theorem lp_come {p : Program} {l : Launch} {e : Env} {s : State} {m : MethodId} {args : Array Value} {below : List Frame} {meth : Method} {c : Code} {Q : State → Prop} {D : va_G} {cB cI : ClassId} {A : Nat → Prop} {kt tt : Nat} (C0 : Cx p s m args c b_Model_come 3 "KeySumsModel" D (tyL cB cI) A kt tt) (q : Nat → Nat) (tape : Nat → Int32) (size : Int32) (key blk four : Nat → Int32) (many : Int32) (result : Nat → Int32) (iss : Int32) (x : Int32) (v0 : V4)
    (kk : ∀ (v : V4) (H : Heap) (locs : List Loc) (ls : Array Slot), v = md_run (md_word blk) v0 64 → va_P D classes (wM q cI tape size key blk four (h4 v) many result iss) H → va_D A (wM q cI tape size key blk four (h4 v) many result iss) → va_S A s.heap H locs → lv_has ls 3 [(0, .ref (q 0)), (1, .int x)] → W p l e ({ frames := 2, cells := 0, slots := 0, locals := 48 } : Room) s m args below meth c H locs 0 0 Q (F0 m 82 ls [])) :
    ∀ (n i : Nat) (v : V4) (H : Heap) (locs : List Loc) (ls : Array Slot), i + n = 64 → v = md_run (md_word blk) v0 i → va_P D classes (wM q cI tape size key blk four (h4 v) many result iss) H → va_D A (wM q cI tape size key blk four (h4 v) many result iss) → va_S A s.heap H locs → lv_has ls 3 [(0, .ref (q 0)), (1, .int x), (2, .int (nI i))] → W p l e ({ frames := 2, cells := 0, slots := 0, locals := 48 } : Room) s m args below meth c H locs 0 0 Q (F0 m 65 ls []) := by
  obtain ⟨hx, hb, hml, hown, hcm, hK, hA, hZ⟩ := id C0
  intro n
  induction n with
  | zero =>
    intro i v H locs ls hi hinv hP hD hS hl
    refine lv_iload_n hx hb d_Model_come_65 rfl (lv_at hl 2 rfl) ?_
    refine lv_bipush (v := nI 64) hx hb d_Model_come_66 (by decide) ?_
    refine kr_icmp_ge C0 (by omega) (by omega) (tgt := 82) d_Model_come_68 (by decide) (fun c_68 => ?_) (fun c_68 => ?_)
    · obtain rfl : i = 64 := by omega
      exact kk v H locs ls hinv hP hD hS (lv_sub hl [0, 1] rfl)
    · exact absurd c_68 (by omega)
  | succ n ih =>
    intro i v H locs ls hi hinv hP hD hS hl
    refine lv_iload_n hx hb d_Model_come_65 rfl (lv_at hl 2 rfl) ?_
    refine lv_bipush (v := nI 64) hx hb d_Model_come_66 (by decide) ?_
    refine kr_icmp_ge C0 (by omega) (by omega) (tgt := 82) d_Model_come_68 (by decide) (fun c_68 => ?_) (fun c_68 => ?_)
    · exact absurd c_68 (by omega)
    · refine lv_aload_n hx hb d_Model_come_71 rfl (lv_at hl 0 rfl) ?_
      refine lv_iload_n hx hb d_Model_come_72 rfl (lv_at hl 2 rfl) ?_
      refine cl_Vv C0 (ty := .int) (rest := []) (wr := []) [.int (nI i)] (c_Model_step l D cB cI kt tt q tape size key blk four v many result iss i (by omega)) (cwV 1 hcm (gd_V kw_273 kw_275 kw_4 kw_10 kw_276) rfl rfl rfl (by decide +kernel) ⟨Nat.le_of_ble_eq_true rfl, Nat.le_of_ble_eq_true rfl⟩) hP hD hS [0, 1, 2, 3, 4, 5, 6, 7, 8, 9, 10, 11] [] rfl rfl rfl rfl (by decide) rfl 0 rfl rfl rfl hl.1 (Nat.le_of_ble_eq_true rfl) d_Model_come_73 ⟨Nat.le_of_ble_eq_true rfl, Nat.le_of_ble_eq_true rfl⟩ (fun _ H locs _ hP hD hS => ?_)
      have hP : va_P D classes (wM q cI tape size key blk four (h4 (md_step (md_word blk) i v)) many result iss) H := hP
      have hD : va_D A (wM q cI tape size key blk four (h4 (md_step (md_word blk) i v)) many result iss) := hD
      refine lv_iinc (v := nI (i + 1)) (lv' := [(2, .int (nI (i + 1))), (0, .ref (q 0)), (1, .int x)]) hx hb d_Model_come_76 hl (k := 2) rfl (nI_1 i) (by decide) rfl (fun ls hl => ?_)
      refine lv_goto (tgt := 65) hx hb d_Model_come_79 (by decide) ?_
      exact ih (i + 1) _ H locs ls (by omega) (by rw [hinv]; rfl) hP hD hS (lv_sub hl [1, 2, 0] rfl)
set_option maxHeartbeats 4000000 in
set_option maxRecDepth 100000 in
/-- KeySumsModel.come: a byte comes -/
theorem c_Model_come (l : Launch) (D : va_G) (cB cI : ClassId) (kt tt : Nat) (q : Nat → Nat) (tape : Nat → Int32) (ln : Nat) (key : Nat → Int32) (g : Dg) (now : V4) (result : Nat → Int32) (iss : Int32) (hn : g.2.2 + 1 < 2 ^ 31) (x : Int32) : CtV l y_Model_come w_Model_come { frames := 2, cells := 0, slots := 0, locals := 48 } [.ref (q 0), .int x] D (tyL cB cI) kt tt (wMg q cI tape ln key g now result iss) (fun (_ : V4) => True) (fun (u : V4) => (wMg q cI tape ln key (md_come g x) u result iss)) := by
  refine ctV_of (by decide) (Nat.le_of_ble_eq_true rfl) ?_
  intro p e s m below meth c A ls C0 hr hlk hin hP hD hl
  have C0 : Cx p s m _ c b_Model_come 3 "KeySumsModel" D (tyL cB cI) A kt tt := C0
  obtain ⟨hx, hb, hml, hown, hcm, hK, hA, hZ⟩ := id C0
  have hS : va_S A s.heap s.heap [] := va_S.rf
  have hl : lv_has ls 3 [(0, .ref (q 0)), (1, .int x)] := hl
  obtain ⟨H, hH⟩ : ∃ H, H = s.heap := ⟨_, rfl⟩
  have hP0 := hP
  rw [← hH] at hP
  have hS : va_S A s.heap H [] := by rw [hH]; exact hS
  suffices hgoal : W p l e _ s m _ below meth c H [] 0 0 _ (F0 m 0 ls []) by rw [hH] at hgoal; exact hgoal
  clear hP0 hH
  refine lv_aload_n hx hb d_Model_come_0 rfl (lv_at hl 0 rfl) ?_
  refine va_get (D := D) (ci := 2) (v := .ref (q 8)) (C := "KeySumsModel") (T := F_Model) (N := 14) hx hb hcm i_Model hown hK hP 0 rfl rfl 8 (by decide) (hcm _ kw_218) (fun _ h9 => h9) rfl d_Model_come_1 ?_
  refine lv_aload_n hx hb d_Model_come_4 rfl (lv_at hl 0 rfl) ?_
  refine va_get (D := D) (ci := 2) (v := .int (nI g.2.2)) (C := "KeySumsModel") (T := F_Model) (N := 14) hx hb hcm i_Model hown hK hP 0 rfl rfl 11 (by decide) (hcm _ kw_221) (fun _ h9 => h9) rfl d_Model_come_5 ?_
  refine lv_bipush (v := nI 64) hx hb d_Model_come_8 (by decide) ?_
  refine lv_irem hx hb d_Model_come_10 (by decide) ?_
  refine kt_i (y := nI (g.2.2 % 64)) (pk_rem (by omega) (by decide) (by decide)) ?_
  refine lv_iload_n hx hb d_Model_come_11 rfl (lv_at hl 1 rfl) ?_
  refine lv_sipush (v := nI 255) hx hb d_Model_come_12 (by decide) ?_
  refine lv_iand hx hb d_Model_come_15 ?_
  refine kr_iast C0 hP hD hS 8 1 rfl rfl (k := g.2.2 % 64) (x := x &&& (nI 255)) (Nat.mod_lt _ (by decide)) (by decide) d_Model_come_16 (fun H locs hP hD hS => ?_)
  have hP : va_P D classes (wM q cI tape (nI ln) key (upd g.1 (g.2.2 % 64) (x &&& (nI 255))) (h4 g.2.1) (h4 now) (nI g.2.2) result iss) H := hP
  have hD : va_D A (wM q cI tape (nI ln) key (upd g.1 (g.2.2 % 64) (x &&& (nI 255))) (h4 g.2.1) (h4 now) (nI g.2.2) result iss) := hD
  refine lv_aload_n hx hb d_Model_come_17 rfl (lv_at hl 0 rfl) ?_
  refine lv_dup hx hb d_Model_come_18 rfl ?_
  refine va_get (D := D) (ci := 2) (v := .int (nI g.2.2)) (C := "KeySumsModel") (T := F_Model) (N := 14) hx hb hcm i_Model hown hK hP 0 rfl rfl 11 (by decide) (hcm _ kw_221) (fun _ h9 => h9) rfl d_Model_come_19 ?_
  refine lv_iconst (v := nI 1) hx hb d_Model_come_22 (by decide) ?_
  refine lv_iadd hx hb d_Model_come_23 ?_
  refine kt_i (y := nI (g.2.2 + 1)) (nI_add _ 1) ?_
  refine va_put (D := D) (ci := 2) (v := .int (nI (g.2.2 + 1))) (ty := .int) (C := "KeySumsModel") (T := F_Model) (N := 14) hx hb hcm i_Model t_Model t_Model_ok n_Model hown hK hP hD hS 0 rfl rfl 11 (by decide) (hcm _ kw_221) (fun _ h9 => h9) rfl (by decide +kernel) rfl rfl (Nat.le_of_ble_eq_true rfl) d_Model_come_24 (fun H locs hP hD hS => ?_)
  have hP : va_P D classes (wM q cI tape (nI ln) key (upd g.1 (g.2.2 % 64) (x &&& (nI 255))) (h4 g.2.1) (h4 now) (nI (g.2.2 + 1)) result iss) H := hP
  have hD : va_D A (wM q cI tape (nI ln) key (upd g.1 (g.2.2 % 64) (x &&& (nI 255))) (h4 g.2.1) (h4 now) (nI (g.2.2 + 1)) result iss) := hD
  refine lv_aload_n hx hb d_Model_come_27 rfl (lv_at hl 0 rfl) ?_
  refine va_get (D := D) (ci := 2) (v := .int (nI (g.2.2 + 1))) (C := "KeySumsModel") (T := F_Model) (N := 14) hx hb hcm i_Model hown hK hP 0 rfl rfl 11 (by decide) (hcm _ kw_221) (fun _ h9 => h9) rfl d_Model_come_28 ?_
  refine lv_bipush (v := nI 64) hx hb d_Model_come_31 (by decide) ?_
  refine lv_irem hx hb d_Model_come_33 (by decide) ?_
  refine kt_i (y := nI ((g.2.2 + 1) % 64)) (pk_rem (by omega) (by decide) (by decide)) ?_
  refine lv_if_le (tgt := 38) hx hb d_Model_come_34 (by decide) (fun c_34 => ?_) (fun c_34 => ?_)
  · have hz : (g.2.2 + 1) % 64 = 0 := by
      rcases Nat.eq_zero_or_pos ((g.2.2 + 1) % 64) with h9 | h9
      · exact h9
      · exact absurd c_34 (nI_nle h9 (by omega))
    refine lv_iconst (v := nI 0) hx hb d_Model_come_38 (by decide) ?_
    refine lv_istore_n (lv' := [(2, .int (nI 0)), (0, .ref (q 0)), (1, .int x)]) hx hb d_Model_come_39 rfl hl (by decide) rfl (fun ls hl => ?_)
    refine lv_iload_n hx hb d_Model_come_40 rfl (lv_at hl 0 rfl) ?_
    refine lv_iconst (v := nI 4) hx hb d_Model_come_41 (by decide) ?_
    refine kr_icmp_ge C0 (by decide) (by decide) (tgt := 63) d_Model_come_42 (by decide) (fun h9 => absurd h9 (by decide)) (fun _ => ?_)
    refine lv_aload_n hx hb d_Model_come_45 rfl (lv_at hl 1 rfl) ?_
    refine va_get (D := D) (ci := 2) (v := .ref (q 10)) (C := "KeySumsModel") (T := F_Model) (N := 14) hx hb hcm i_Model hown hK hP 0 rfl rfl 10 (by decide) (hcm _ kw_220) (fun _ h9 => h9) rfl d_Model_come_46 ?_
    refine lv_iload_n hx hb d_Model_come_49 rfl (lv_at hl 0 rfl) ?_
    refine lv_aload_n hx hb d_Model_come_50 rfl (lv_at hl 1 rfl) ?_
    refine va_get (D := D) (ci := 2) (v := .ref (q 9)) (C := "KeySumsModel") (T := F_Model) (N := 14) hx hb hcm i_Model hown hK hP 0 rfl rfl 9 (by decide) (hcm _ kw_219) (fun _ h9 => h9) rfl d_Model_come_51 ?_
    refine lv_iload_n hx hb d_Model_come_54 rfl (lv_at hl 0 rfl) ?_
    refine kr_iald C0 hP 9 1 rfl rfl (k := 0) (by decide) (by decide) d_Model_come_55 ?_
    refine kr_iast C0 hP hD hS 10 1 rfl rfl (k := 0) (x := g.2.1.1) (by decide) (by decide) d_Model_come_56 (fun H locs hP hD hS => ?_)
    have hP : va_P D classes (wM q cI tape (nI ln) key (upd g.1 (g.2.2 % 64) (x &&& (nI 255))) (h4 g.2.1) (upd (h4 now) 0 g.2.1.1) (nI (g.2.2 + 1)) result iss) H := hP
    have hD : va_D A (wM q cI tape (nI ln) key (upd g.1 (g.2.2 % 64) (x &&& (nI 255))) (h4 g.2.1) (upd (h4 now) 0 g.2.1.1) (nI (g.2.2 + 1)) result iss) := hD
    obtain ⟨hP, hD⟩ := kr_ext hP hD 10 (h4 (g.2.1.1, now.2.1, now.2.2.1, now.2.2.2)) rfl (h4_u0 _ _)
    have hP : va_P D classes (wM q cI tape (nI ln) key (upd g.1 (g.2.2 % 64) (x &&& (nI 255))) (h4 g.2.1) (h4 (g.2.1.1, now.2.1, now.2.2.1, now.2.2.2)) (nI (g.2.2 + 1)) result iss) H := hP
    have hD : va_D A (wM q cI tape (nI ln) key (upd g.1 (g.2.2 % 64) (x &&& (nI 255))) (h4 g.2.1) (h4 (g.2.1.1, now.2.1, now.2.2.1, now.2.2.2)) (nI (g.2.2 + 1)) result iss) := hD
    refine lv_iinc (v := nI 1) (lv' := [(2, .int (nI 1)), (0, .ref (q 0)), (1, .int x)]) hx hb d_Model_come_57 hl (k := 0) rfl (by decide) (by decide) rfl (fun ls hl => ?_)
    refine lv_goto (tgt := 40) hx hb d_Model_come_60 (by decide) ?_
    refine lv_iload_n hx hb d_Model_come_40 rfl (lv_at hl 0 rfl) ?_
    refine lv_iconst (v := nI 4) hx hb d_Model_come_41 (by decide) ?_
    refine kr_icmp_ge C0 (by decide) (by decide) (tgt := 63) d_Model_come_42 (by decide) (fun h9 => absurd h9 (by decide)) (fun _ => ?_)
    refine lv_aload_n hx hb d_Model_come_45 rfl (lv_at hl 1 rfl) ?_
    refine va_get (D := D) (ci := 2) (v := .ref (q 10)) (C := "KeySumsModel") (T := F_Model) (N := 14) hx hb hcm i_Model hown hK hP 0 rfl rfl 10 (by decide) (hcm _ kw_220) (fun _ h9 => h9) rfl d_Model_come_46 ?_
    refine lv_iload_n hx hb d_Model_come_49 rfl (lv_at hl 0 rfl) ?_
    refine lv_aload_n hx hb d_Model_come_50 rfl (lv_at hl 1 rfl) ?_
    refine va_get (D := D) (ci := 2) (v := .ref (q 9)) (C := "KeySumsModel") (T := F_Model) (N := 14) hx hb hcm i_Model hown hK hP 0 rfl rfl 9 (by decide) (hcm _ kw_219) (fun _ h9 => h9) rfl d_Model_come_51 ?_
    refine lv_iload_n hx hb d_Model_come_54 rfl (lv_at hl 0 rfl) ?_
    refine kr_iald C0 hP 9 1 rfl rfl (k := 1) (by decide) (by decide) d_Model_come_55 ?_
    refine kr_iast C0 hP hD hS 10 1 rfl rfl (k := 1) (x := g.2.1.2.1) (by decide) (by decide) d_Model_come_56 (fun H locs hP hD hS => ?_)
    have hP : va_P D classes (wM q cI tape (nI ln) key (upd g.1 (g.2.2 % 64) (x &&& (nI 255))) (h4 g.2.1) (upd (h4 (g.2.1.1, now.2.1, now.2.2.1, now.2.2.2)) 1 g.2.1.2.1) (nI (g.2.2 + 1)) result iss) H := hP
    have hD : va_D A (wM q cI tape (nI ln) key (upd g.1 (g.2.2 % 64) (x &&& (nI 255))) (h4 g.2.1) (upd (h4 (g.2.1.1, now.2.1, now.2.2.1, now.2.2.2)) 1 g.2.1.2.1) (nI (g.2.2 + 1)) result iss) := hD
    obtain ⟨hP, hD⟩ := kr_ext hP hD 10 (h4 (g.2.1.1, g.2.1.2.1, now.2.2.1, now.2.2.2)) rfl (h4_u1 _ _)
    have hP : va_P D classes (wM q cI tape (nI ln) key (upd g.1 (g.2.2 % 64) (x &&& (nI 255))) (h4 g.2.1) (h4 (g.2.1.1, g.2.1.2.1, now.2.2.1, now.2.2.2)) (nI (g.2.2 + 1)) result iss) H := hP
    have hD : va_D A (wM q cI tape (nI ln) key (upd g.1 (g.2.2 % 64) (x &&& (nI 255))) (h4 g.2.1) (h4 (g.2.1.1, g.2.1.2.1, now.2.2.1, now.2.2.2)) (nI (g.2.2 + 1)) result iss) := hD
    refine lv_iinc (v := nI 2) (lv' := [(2, .int (nI 2)), (0, .ref (q 0)), (1, .int x)]) hx hb d_Model_come_57 hl (k := 0) rfl (by decide) (by decide) rfl (fun ls hl => ?_)
    refine lv_goto (tgt := 40) hx hb d_Model_come_60 (by decide) ?_
    refine lv_iload_n hx hb d_Model_come_40 rfl (lv_at hl 0 rfl) ?_
    refine lv_iconst (v := nI 4) hx hb d_Model_come_41 (by decide) ?_
    refine kr_icmp_ge C0 (by decide) (by decide) (tgt := 63) d_Model_come_42 (by decide) (fun h9 => absurd h9 (by decide)) (fun _ => ?_)
    refine lv_aload_n hx hb d_Model_come_45 rfl (lv_at hl 1 rfl) ?_
    refine va_get (D := D) (ci := 2) (v := .ref (q 10)) (C := "KeySumsModel") (T := F_Model) (N := 14) hx hb hcm i_Model hown hK hP 0 rfl rfl 10 (by decide) (hcm _ kw_220) (fun _ h9 => h9) rfl d_Model_come_46 ?_
    refine lv_iload_n hx hb d_Model_come_49 rfl (lv_at hl 0 rfl) ?_
    refine lv_aload_n hx hb d_Model_come_50 rfl (lv_at hl 1 rfl) ?_
    refine va_get (D := D) (ci := 2) (v := .ref (q 9)) (C := "KeySumsModel") (T := F_Model) (N := 14) hx hb hcm i_Model hown hK hP 0 rfl rfl 9 (by decide) (hcm _ kw_219) (fun _ h9 => h9) rfl d_Model_come_51 ?_
    refine lv_iload_n hx hb d_Model_come_54 rfl (lv_at hl 0 rfl) ?_
    refine kr_iald C0 hP 9 1 rfl rfl (k := 2) (by decide) (by decide) d_Model_come_55 ?_
    refine kr_iast C0 hP hD hS 10 1 rfl rfl (k := 2) (x := g.2.1.2.2.1) (by decide) (by decide) d_Model_come_56 (fun H locs hP hD hS => ?_)
    have hP : va_P D classes (wM q cI tape (nI ln) key (upd g.1 (g.2.2 % 64) (x &&& (nI 255))) (h4 g.2.1) (upd (h4 (g.2.1.1, g.2.1.2.1, now.2.2.1, now.2.2.2)) 2 g.2.1.2.2.1) (nI (g.2.2 + 1)) result iss) H := hP
    have hD : va_D A (wM q cI tape (nI ln) key (upd g.1 (g.2.2 % 64) (x &&& (nI 255))) (h4 g.2.1) (upd (h4 (g.2.1.1, g.2.1.2.1, now.2.2.1, now.2.2.2)) 2 g.2.1.2.2.1) (nI (g.2.2 + 1)) result iss) := hD
    obtain ⟨hP, hD⟩ := kr_ext hP hD 10 (h4 (g.2.1.1, g.2.1.2.1, g.2.1.2.2.1, now.2.2.2)) rfl (h4_u2 _ _)
    have hP : va_P D classes (wM q cI tape (nI ln) key (upd g.1 (g.2.2 % 64) (x &&& (nI 255))) (h4 g.2.1) (h4 (g.2.1.1, g.2.1.2.1, g.2.1.2.2.1, now.2.2.2)) (nI (g.2.2 + 1)) result iss) H := hP
    have hD : va_D A (wM q cI tape (nI ln) key (upd g.1 (g.2.2 % 64) (x &&& (nI 255))) (h4 g.2.1) (h4 (g.2.1.1, g.2.1.2.1, g.2.1.2.2.1, now.2.2.2)) (nI (g.2.2 + 1)) result iss) := hD
    refine lv_iinc (v := nI 3) (lv' := [(2, .int (nI 3)), (0, .ref (q 0)), (1, .int x)]) hx hb d_Model_come_57 hl (k := 0) rfl (by decide) (by decide) rfl (fun ls hl => ?_)
    refine lv_goto (tgt := 40) hx hb d_Model_come_60 (by decide) ?_
    refine lv_iload_n hx hb d_Model_come_40 rfl (lv_at hl 0 rfl) ?_
    refine lv_iconst (v := nI 4) hx hb d_Model_come_41 (by decide) ?_
    refine kr_icmp_ge C0 (by decide) (by decide) (tgt := 63) d_Model_come_42 (by decide) (fun h9 => absurd h9 (by decide)) (fun _ => ?_)
    refine lv_aload_n hx hb d_Model_come_45 rfl (lv_at hl 1 rfl) ?_
    refine va_get (D := D) (ci := 2) (v := .ref (q 10)) (C := "KeySumsModel") (T := F_Model) (N := 14) hx hb hcm i_Model hown hK hP 0 rfl rfl 10 (by decide) (hcm _ kw_220) (fun _ h9 => h9) rfl d_Model_come_46 ?_
    refine lv_iload_n hx hb d_Model_come_49 rfl (lv_at hl 0 rfl) ?_
    refine lv_aload_n hx hb d_Model_come_50 rfl (lv_at hl 1 rfl) ?_
    refine va_get (D := D) (ci := 2) (v := .ref (q 9)) (C := "KeySumsModel") (T := F_Model) (N := 14) hx hb hcm i_Model hown hK hP 0 rfl rfl 9 (by decide) (hcm _ kw_219) (fun _ h9 => h9) rfl d_Model_come_51 ?_
    refine lv_iload_n hx hb d_Model_come_54 rfl (lv_at hl 0 rfl) ?_
    refine kr_iald C0 hP 9 1 rfl rfl (k := 3) (by decide) (by decide) d_Model_come_55 ?_
    refine kr_iast C0 hP hD hS 10 1 rfl rfl (k := 3) (x := g.2.1.2.2.2) (by decide) (by decide) d_Model_come_56 (fun H locs hP hD hS => ?_)
    have hP : va_P D classes (wM q cI tape (nI ln) key (upd g.1 (g.2.2 % 64) (x &&& (nI 255))) (h4 g.2.1) (upd (h4 (g.2.1.1, g.2.1.2.1, g.2.1.2.2.1, now.2.2.2)) 3 g.2.1.2.2.2) (nI (g.2.2 + 1)) result iss) H := hP
    have hD : va_D A (wM q cI tape (nI ln) key (upd g.1 (g.2.2 % 64) (x &&& (nI 255))) (h4 g.2.1) (upd (h4 (g.2.1.1, g.2.1.2.1, g.2.1.2.2.1, now.2.2.2)) 3 g.2.1.2.2.2) (nI (g.2.2 + 1)) result iss) := hD
    obtain ⟨hP, hD⟩ := kr_ext hP hD 10 (h4 (g.2.1.1, g.2.1.2.1, g.2.1.2.2.1, g.2.1.2.2.2)) rfl (h4_u3 _ _)
    have hP : va_P D classes (wM q cI tape (nI ln) key (upd g.1 (g.2.2 % 64) (x &&& (nI 255))) (h4 g.2.1) (h4 (g.2.1.1, g.2.1.2.1, g.2.1.2.2.1, g.2.1.2.2.2)) (nI (g.2.2 + 1)) result iss) H := hP
    have hD : va_D A (wM q cI tape (nI ln) key (upd g.1 (g.2.2 % 64) (x &&& (nI 255))) (h4 g.2.1) (h4 (g.2.1.1, g.2.1.2.1, g.2.1.2.2.1, g.2.1.2.2.2)) (nI (g.2.2 + 1)) result iss) := hD
    refine lv_iinc (v := nI 4) (lv' := [(2, .int (nI 4)), (0, .ref (q 0)), (1, .int x)]) hx hb d_Model_come_57 hl (k := 0) rfl (by decide) (by decide) rfl (fun ls hl => ?_)
    refine lv_goto (tgt := 40) hx hb d_Model_come_60 (by decide) ?_
    refine lv_iload_n hx hb d_Model_come_40 rfl (lv_at hl 0 rfl) ?_
    refine lv_iconst (v := nI 4) hx hb d_Model_come_41 (by decide) ?_
    refine kr_icmp_ge C0 (by decide) (by decide) (tgt := 63) d_Model_come_42 (by decide) (fun _ => ?_) (fun h9 => absurd h9 (by decide))
    refine lv_iconst (v := nI 0) hx hb d_Model_come_63 (by decide) ?_
    refine lv_istore_n (lv' := [(2, .int (nI 0)), (0, .ref (q 0)), (1, .int x)]) hx hb d_Model_come_64 rfl hl (by decide) rfl (fun ls hl => ?_)
    refine lp_come C0 q tape (nI ln) key (upd g.1 (g.2.2 % 64) (x &&& nI 255)) (h4 g.2.1) (nI (g.2.2 + 1)) result iss x g.2.1 ?_ 64 0 g.2.1 H locs ls (by decide) rfl hP hD hS (lv_sub hl [1, 2, 0] rfl)
    intro v H locs ls hv hP hD hS hl
    refine lv_iconst (v := nI 0) hx hb d_Model_come_82 (by decide) ?_
    refine lv_istore_n (lv' := [(2, .int (nI 0)), (0, .ref (q 0)), (1, .int x)]) hx hb d_Model_come_83 rfl hl (by decide) rfl (fun ls hl => ?_)
    refine lv_iload_n hx hb d_Model_come_84 rfl (lv_at hl 0 rfl) ?_
    refine lv_iconst (v := nI 4) hx hb d_Model_come_85 (by decide) ?_
    refine kr_icmp_ge C0 (by decide) (by decide) (tgt := 110) d_Model_come_86 (by decide) (fun h9 => absurd h9 (by decide)) (fun _ => ?_)
    refine lv_aload_n hx hb d_Model_come_89 rfl (lv_at hl 1 rfl) ?_
    refine va_get (D := D) (ci := 2) (v := .ref (q 9)) (C := "KeySumsModel") (T := F_Model) (N := 14) hx hb hcm i_Model hown hK hP 0 rfl rfl 9 (by decide) (hcm _ kw_219) (fun _ h9 => h9) rfl d_Model_come_90 ?_
    refine lv_iload_n hx hb d_Model_come_93 rfl (lv_at hl 0 rfl) ?_
    refine lv_dup2_11 hx hb d_Model_come_94 rfl rfl ?_
    refine kr_iald C0 hP 9 1 rfl rfl (k := 0) (by decide) (by decide) d_Model_come_95 ?_
    refine lv_aload_n hx hb d_Model_come_96 rfl (lv_at hl 1 rfl) ?_
    refine va_get (D := D) (ci := 2) (v := .ref (q 10)) (C := "KeySumsModel") (T := F_Model) (N := 14) hx hb hcm i_Model hown hK hP 0 rfl rfl 10 (by decide) (hcm _ kw_220) (fun _ h9 => h9) rfl d_Model_come_97 ?_
    refine lv_iload_n hx hb d_Model_come_100 rfl (lv_at hl 0 rfl) ?_
    refine kr_iald C0 hP 10 1 rfl rfl (k := 0) (by decide) (by decide) d_Model_come_101 ?_
    refine lv_iadd hx hb d_Model_come_102 ?_
    refine kr_iast C0 hP hD hS 9 1 rfl rfl (k := 0) (x := g.2.1.1 + v.1) (by decide) (by decide) d_Model_come_103 (fun H locs hP hD hS => ?_)
    have hP : va_P D classes (wM q cI tape (nI ln) key (upd g.1 (g.2.2 % 64) (x &&& (nI 255))) (upd (h4 g.2.1) 0 (g.2.1.1 + v.1)) (h4 v) (nI (g.2.2 + 1)) result iss) H := hP
    have hD : va_D A (wM q cI tape (nI ln) key (upd g.1 (g.2.2 % 64) (x &&& (nI 255))) (upd (h4 g.2.1) 0 (g.2.1.1 + v.1)) (h4 v) (nI (g.2.2 + 1)) result iss) := hD
    obtain ⟨hP, hD⟩ := kr_ext hP hD 9 (h4 (g.2.1.1 + v.1, g.2.1.2.1, g.2.1.2.2.1, g.2.1.2.2.2)) rfl (h4_u0 _ _)
    have hP : va_P D classes (wM q cI tape (nI ln) key (upd g.1 (g.2.2 % 64) (x &&& (nI 255))) (h4 (g.2.1.1 + v.1, g.2.1.2.1, g.2.1.2.2.1, g.2.1.2.2.2)) (h4 v) (nI (g.2.2 + 1)) result iss) H := hP
    have hD : va_D A (wM q cI tape (nI ln) key (upd g.1 (g.2.2 % 64) (x &&& (nI 255))) (h4 (g.2.1.1 + v.1, g.2.1.2.1, g.2.1.2.2.1, g.2.1.2.2.2)) (h4 v) (nI (g.2.2 + 1)) result iss) := hD
    refine lv_iinc (v := nI 1) (lv' := [(2, .int (nI 1)), (0, .ref (q 0)), (1, .int x)]) hx hb d_Model_come_104 hl (k := 0) rfl (by decide) (by decide) rfl (fun ls hl => ?_)
    refine lv_goto (tgt := 84) hx hb d_Model_come_107 (by decide) ?_
    refine lv_iload_n hx hb d_Model_come_84 rfl (lv_at hl 0 rfl) ?_
    refine lv_iconst (v := nI 4) hx hb d_Model_come_85 (by decide) ?_
    refine kr_icmp_ge C0 (by decide) (by decide) (tgt := 110) d_Model_come_86 (by decide) (fun h9 => absurd h9 (by decide)) (fun _ => ?_)
    refine lv_aload_n hx hb d_Model_come_89 rfl (lv_at hl 1 rfl) ?_
    refine va_get (D := D) (ci := 2) (v := .ref (q 9)) (C := "KeySumsModel") (T := F_Model) (N := 14) hx hb hcm i_Model hown hK hP 0 rfl rfl 9 (by decide) (hcm _ kw_219) (fun _ h9 => h9) rfl d_Model_come_90 ?_
    refine lv_iload_n hx hb d_Model_come_93 rfl (lv_at hl 0 rfl) ?_
    refine lv_dup2_11 hx hb d_Model_come_94 rfl rfl ?_
    refine kr_iald C0 hP 9 1 rfl rfl (k := 1) (by decide) (by decide) d_Model_come_95 ?_
    refine lv_aload_n hx hb d_Model_come_96 rfl (lv_at hl 1 rfl) ?_
    refine va_get (D := D) (ci := 2) (v := .ref (q 10)) (C := "KeySumsModel") (T := F_Model) (N := 14) hx hb hcm i_Model hown hK hP 0 rfl rfl 10 (by decide) (hcm _ kw_220) (fun _ h9 => h9) rfl d_Model_come_97 ?_
    refine lv_iload_n hx hb d_Model_come_100 rfl (lv_at hl 0 rfl) ?_
    refine kr_iald C0 hP 10 1 rfl rfl (k := 1) (by decide) (by decide) d_Model_come_101 ?_
    refine lv_iadd hx hb d_Model_come_102 ?_
    refine kr_iast C0 hP hD hS 9 1 rfl rfl (k := 1) (x := g.2.1.2.1 + v.2.1) (by decide) (by decide) d_Model_come_103 (fun H locs hP hD hS => ?_)
    have hP : va_P D classes (wM q cI tape (nI ln) key (upd g.1 (g.2.2 % 64) (x &&& (nI 255))) (upd (h4 (g.2.1.1 + v.1, g.2.1.2.1, g.2.1.2.2.1, g.2.1.2.2.2)) 1 (g.2.1.2.1 + v.2.1)) (h4 v) (nI (g.2.2 + 1)) result iss) H := hP
    have hD : va_D A (wM q cI tape (nI ln) key (upd g.1 (g.2.2 % 64) (x &&& (nI 255))) (upd (h4 (g.2.1.1 + v.1, g.2.1.2.1, g.2.1.2.2.1, g.2.1.2.2.2)) 1 (g.2.1.2.1 + v.2.1)) (h4 v) (nI (g.2.2 + 1)) result iss) := hD
    obtain ⟨hP, hD⟩ := kr_ext hP hD 9 (h4 (g.2.1.1 + v.1, g.2.1.2.1 + v.2.1, g.2.1.2.2.1, g.2.1.2.2.2)) rfl (h4_u1 _ _)
    have hP : va_P D classes (wM q cI tape (nI ln) key (upd g.1 (g.2.2 % 64) (x &&& (nI 255))) (h4 (g.2.1.1 + v.1, g.2.1.2.1 + v.2.1, g.2.1.2.2.1, g.2.1.2.2.2)) (h4 v) (nI (g.2.2 + 1)) result iss) H := hP
    have hD : va_D A (wM q cI tape (nI ln) key (upd g.1 (g.2.2 % 64) (x &&& (nI 255))) (h4 (g.2.1.1 + v.1, g.2.1.2.1 + v.2.1, g.2.1.2.2.1, g.2.1.2.2.2)) (h4 v) (nI (g.2.2 + 1)) result iss) := hD
    refine lv_iinc (v := nI 2) (lv' := [(2, .int (nI 2)), (0, .ref (q 0)), (1, .int x)]) hx hb d_Model_come_104 hl (k := 0) rfl (by decide) (by decide) rfl (fun ls hl => ?_)
    refine lv_goto (tgt := 84) hx hb d_Model_come_107 (by decide) ?_
    refine lv_iload_n hx hb d_Model_come_84 rfl (lv_at hl 0 rfl) ?_
    refine lv_iconst (v := nI 4) hx hb d_Model_come_85 (by decide) ?_
    refine kr_icmp_ge C0 (by decide) (by decide) (tgt := 110) d_Model_come_86 (by decide) (fun h9 => absurd h9 (by decide)) (fun _ => ?_)
    refine lv_aload_n hx hb d_Model_come_89 rfl (lv_at hl 1 rfl) ?_
    refine va_get (D := D) (ci := 2) (v := .ref (q 9)) (C := "KeySumsModel") (T := F_Model) (N := 14) hx hb hcm i_Model hown hK hP 0 rfl rfl 9 (by decide) (hcm _ kw_219) (fun _ h9 => h9) rfl d_Model_come_90 ?_
    refine lv_iload_n hx hb d_Model_come_93 rfl (lv_at hl 0 rfl) ?_
    refine lv_dup2_11 hx hb d_Model_come_94 rfl rfl ?_
    refine kr_iald C0 hP 9 1 rfl rfl (k := 2) (by decide) (by decide) d_Model_come_95 ?_
    refine lv_aload_n hx hb d_Model_come_96 rfl (lv_at hl 1 rfl) ?_
    refine va_get (D := D) (ci := 2) (v := .ref (q 10)) (C := "KeySumsModel") (T := F_Model) (N := 14) hx hb hcm i_Model hown hK hP 0 rfl rfl 10 (by decide) (hcm _ kw_220) (fun _ h9 => h9) rfl d_Model_come_97 ?_
    refine lv_iload_n hx hb d_Model_come_100 rfl (lv_at hl 0 rfl) ?_
    refine kr_iald C0 hP 10 1 rfl rfl (k := 2) (by decide) (by decide) d_Model_come_101 ?_
    refine lv_iadd hx hb d_Model_come_102 ?_
    refine kr_iast C0 hP hD hS 9 1 rfl rfl (k := 2) (x := g.2.1.2.2.1 + v.2.2.1) (by decide) (by decide) d_Model_come_103 (fun H locs hP hD hS => ?_)
    have hP : va_P D classes (wM q cI tape (nI ln) key (upd g.1 (g.2.2 % 64) (x &&& (nI 255))) (upd (h4 (g.2.1.1 + v.1, g.2.1.2.1 + v.2.1, g.2.1.2.2.1, g.2.1.2.2.2)) 2 (g.2.1.2.2.1 + v.2.2.1)) (h4 v) (nI (g.2.2 + 1)) result iss) H := hP
    have hD : va_D A (wM q cI tape (nI ln) key (upd g.1 (g.2.2 % 64) (x &&& (nI 255))) (upd (h4 (g.2.1.1 + v.1, g.2.1.2.1 + v.2.1, g.2.1.2.2.1, g.2.1.2.2.2)) 2 (g.2.1.2.2.1 + v.2.2.1)) (h4 v) (nI (g.2.2 + 1)) result iss) := hD
    obtain ⟨hP, hD⟩ := kr_ext hP hD 9 (h4 (g.2.1.1 + v.1, g.2.1.2.1 + v.2.1, g.2.1.2.2.1 + v.2.2.1, g.2.1.2.2.2)) rfl (h4_u2 _ _)
    have hP : va_P D classes (wM q cI tape (nI ln) key (upd g.1 (g.2.2 % 64) (x &&& (nI 255))) (h4 (g.2.1.1 + v.1, g.2.1.2.1 + v.2.1, g.2.1.2.2.1 + v.2.2.1, g.2.1.2.2.2)) (h4 v) (nI (g.2.2 + 1)) result iss) H := hP
    have hD : va_D A (wM q cI tape (nI ln) key (upd g.1 (g.2.2 % 64) (x &&& (nI 255))) (h4 (g.2.1.1 + v.1, g.2.1.2.1 + v.2.1, g.2.1.2.2.1 + v.2.2.1, g.2.1.2.2.2)) (h4 v) (nI (g.2.2 + 1)) result iss) := hD
    refine lv_iinc (v := nI 3) (lv' := [(2, .int (nI 3)), (0, .ref (q 0)), (1, .int x)]) hx hb d_Model_come_104 hl (k := 0) rfl (by decide) (by decide) rfl (fun ls hl => ?_)
    refine lv_goto (tgt := 84) hx hb d_Model_come_107 (by decide) ?_
    refine lv_iload_n hx hb d_Model_come_84 rfl (lv_at hl 0 rfl) ?_
    refine lv_iconst (v := nI 4) hx hb d_Model_come_85 (by decide) ?_
    refine kr_icmp_ge C0 (by decide) (by decide) (tgt := 110) d_Model_come_86 (by decide) (fun h9 => absurd h9 (by decide)) (fun _ => ?_)
    refine lv_aload_n hx hb d_Model_come_89 rfl (lv_at hl 1 rfl) ?_
    refine va_get (D := D) (ci := 2) (v := .ref (q 9)) (C := "KeySumsModel") (T := F_Model) (N := 14) hx hb hcm i_Model hown hK hP 0 rfl rfl 9 (by decide) (hcm _ kw_219) (fun _ h9 => h9) rfl d_Model_come_90 ?_
    refine lv_iload_n hx hb d_Model_come_93 rfl (lv_at hl 0 rfl) ?_
    refine lv_dup2_11 hx hb d_Model_come_94 rfl rfl ?_
    refine kr_iald C0 hP 9 1 rfl rfl (k := 3) (by decide) (by decide) d_Model_come_95 ?_
    refine lv_aload_n hx hb d_Model_come_96 rfl (lv_at hl 1 rfl) ?_
    refine va_get (D := D) (ci := 2) (v := .ref (q 10)) (C := "KeySumsModel") (T := F_Model) (N := 14) hx hb hcm i_Model hown hK hP 0 rfl rfl 10 (by decide) (hcm _ kw_220) (fun _ h9 => h9) rfl d_Model_come_97 ?_
    refine lv_iload_n hx hb d_Model_come_100 rfl (lv_at hl 0 rfl) ?_
    refine kr_iald C0 hP 10 1 rfl rfl (k := 3) (by decide) (by decide) d_Model_come_101 ?_
    refine lv_iadd hx hb d_Model_come_102 ?_
    refine kr_iast C0 hP hD hS 9 1 rfl rfl (k := 3) (x := g.2.1.2.2.2 + v.2.2.2) (by decide) (by decide) d_Model_come_103 (fun H locs hP hD hS => ?_)
    have hP : va_P D classes (wM q cI tape (nI ln) key (upd g.1 (g.2.2 % 64) (x &&& (nI 255))) (upd (h4 (g.2.1.1 + v.1, g.2.1.2.1 + v.2.1, g.2.1.2.2.1 + v.2.2.1, g.2.1.2.2.2)) 3 (g.2.1.2.2.2 + v.2.2.2)) (h4 v) (nI (g.2.2 + 1)) result iss) H := hP
    have hD : va_D A (wM q cI tape (nI ln) key (upd g.1 (g.2.2 % 64) (x &&& (nI 255))) (upd (h4 (g.2.1.1 + v.1, g.2.1.2.1 + v.2.1, g.2.1.2.2.1 + v.2.2.1, g.2.1.2.2.2)) 3 (g.2.1.2.2.2 + v.2.2.2)) (h4 v) (nI (g.2.2 + 1)) result iss) := hD
    obtain ⟨hP, hD⟩ := kr_ext hP hD 9 (h4 (g.2.1.1 + v.1, g.2.1.2.1 + v.2.1, g.2.1.2.2.1 + v.2.2.1, g.2.1.2.2.2 + v.2.2.2)) rfl (h4_u3 _ _)
    have hP : va_P D classes (wM q cI tape (nI ln) key (upd g.1 (g.2.2 % 64) (x &&& (nI 255))) (h4 (g.2.1.1 + v.1, g.2.1.2.1 + v.2.1, g.2.1.2.2.1 + v.2.2.1, g.2.1.2.2.2 + v.2.2.2)) (h4 v) (nI (g.2.2 + 1)) result iss) H := hP
    have hD : va_D A (wM q cI tape (nI ln) key (upd g.1 (g.2.2 % 64) (x &&& (nI 255))) (h4 (g.2.1.1 + v.1, g.2.1.2.1 + v.2.1, g.2.1.2.2.1 + v.2.2.1, g.2.1.2.2.2 + v.2.2.2)) (h4 v) (nI (g.2.2 + 1)) result iss) := hD
    refine lv_iinc (v := nI 4) (lv' := [(2, .int (nI 4)), (0, .ref (q 0)), (1, .int x)]) hx hb d_Model_come_104 hl (k := 0) rfl (by decide) (by decide) rfl (fun ls hl => ?_)
    refine lv_goto (tgt := 84) hx hb d_Model_come_107 (by decide) ?_
    refine lv_iload_n hx hb d_Model_come_84 rfl (lv_at hl 0 rfl) ?_
    refine lv_iconst (v := nI 4) hx hb d_Model_come_85 (by decide) ?_
    refine kr_icmp_ge C0 (by decide) (by decide) (tgt := 110) d_Model_come_86 (by decide) (fun _ => ?_) (fun h9 => absurd h9 (by decide))
    have eb : md_blk (upd g.1 (g.2.2 % 64) (x &&& nI 255)) g.2.1 = md_add g.2.1 v := by rw [hv]; rfl
    exact kr_vret C0 v hr hlk trivial (by show va_P D classes (wMg q cI tape ln key (md_come g x) v result iss) H; rw [md_come_0 x hz, eb]; exact hP) (by show va_D A (wMg q cI tape ln key (md_come g x) v result iss); rw [md_come_0 x hz, eb]; exact hD) hS d_Model_come_110
  · have hz : ¬ (g.2.2 + 1) % 64 = 0 := fun h9 => c_34 (by rw [h9]; decide)
    exact kr_vret C0 now hr hlk trivial (by show va_P D classes (wMg q cI tape ln key (md_come g x) now result iss) H; rw [md_come_1 x hz]; exact hP) (by show va_D A (wMg q cI tape ln key (md_come g x) now result iss); rw [md_come_1 x hz]; exact hD) hS d_Model_come_37
end
section
set_option maxHeartbeats 4000000 in
set_option maxRecDepth 100000 in
/-- KeySumsModel.end, a length that fits -/
theorem c_Model_end (l : Launch) (D : va_G) (cB cI : ClassId) (kt tt : Nat) (q : Nat → Nat) (tape : Nat → Int32) (ln : Nat) (key : Nat → Int32) (g : Dg) (now : V4) (result : Nat → Int32) (iss : Int32) (hln : ln ≤ 2000) (x : Nat) (hxl : x ≤ ln) : CtI l y_Model_end w_Model_end { frames := 0, cells := 0, slots := 0, locals := 0 } [.ref (q 0), .int (nI x)] D (tyL cB cI) kt tt (wMg q cI tape ln key g now result iss) (fun (r : Int32) (_ : Unit) => r = nI 1) (fun (u : Unit) => (wMg q cI tape x key g now result iss)) := by
  refine ctI_of (by decide) (Nat.le_of_ble_eq_true rfl) ?_
  intro p e s m below meth c A ls C0 hr hlk hin hP hD hl
  have C0 : Cx p s m _ c b_Model_end 2 "KeySumsModel" D (tyL cB cI) A kt tt := C0
  obtain ⟨hx, hb, hml, hown, hcm, hK, hA, hZ⟩ := id C0
  have hS : va_S A s.heap s.heap [] := va_S.rf
  have hl : lv_has ls 2 [(0, .ref (q 0)), (1, .int (nI x))] := hl
  obtain ⟨H, hH⟩ : ∃ H, H = s.heap := ⟨_, rfl⟩
  have hP0 := hP
  rw [← hH] at hP
  have hS : va_S A s.heap H [] := by rw [hH]; exact hS
  suffices hgoal : W p l e _ s m _ below meth c H [] 0 0 _ (F0 m 0 ls []) by rw [hH] at hgoal; exact hgoal
  clear hP0 hH
  refine lv_iload_n hx hb d_Model_end_0 rfl (lv_at hl 1 rfl) ?_
  refine lv_if_lt (tgt := 12) hx hb d_Model_end_1 (by decide) (fun h9 => absurd h9 (nI_pos (by omega))) (fun _ => ?_)
  refine lv_iload_n hx hb d_Model_end_4 rfl (lv_at hl 1 rfl) ?_
  refine lv_aload_n hx hb d_Model_end_5 rfl (lv_at hl 0 rfl) ?_
  refine va_get (D := D) (ci := 2) (v := .int (nI ln)) (C := "KeySumsModel") (T := F_Model) (N := 14) hx hb hcm i_Model hown hK hP 0 rfl rfl 6 (by decide) (hcm _ kw_216) (fun _ h9 => h9) rfl d_Model_end_6 ?_
  refine kr_icmp_le C0 (by omega) (by omega) (tgt := 14) d_Model_end_9 (by decide) (fun c_9 => ?_) (fun c_9 => ?_)
  · refine lv_aload_n hx hb d_Model_end_14 rfl (lv_at hl 0 rfl) ?_
    refine lv_iload_n hx hb d_Model_end_15 rfl (lv_at hl 1 rfl) ?_
    refine va_put (D := D) (ci := 2) (v := .int (nI x)) (ty := .int) (C := "KeySumsModel") (T := F_Model) (N := 14) hx hb hcm i_Model t_Model t_Model_ok n_Model hown hK hP hD hS 0 rfl rfl 6 (by decide) (hcm _ kw_216) (fun _ h9 => h9) rfl (by decide +kernel) rfl rfl (Nat.le_of_ble_eq_true rfl) d_Model_end_16 (fun H locs hP hD hS => ?_)
    have hP : va_P D classes (wM q cI tape (nI x) key g.1 (h4 g.2.1) (h4 now) (nI g.2.2) result iss) H := hP
    have hD : va_D A (wM q cI tape (nI x) key g.1 (h4 g.2.1) (h4 now) (nI g.2.2) result iss) := hD
    refine lv_iconst (v := nI 1) hx hb d_Model_end_19 (by decide) ?_
    exact kr_iret C0 () hr rfl hlk rfl hP hD hS d_Model_end_20
  · exact absurd c_9 (by omega)
set_option maxHeartbeats 4000000 in
set_option maxRecDepth 100000 in
/-- KeySumsModel.end, a length that fits not -/
theorem c_Model_end_no (l : Launch) (D : va_G) (cB cI : ClassId) (kt tt : Nat) (q : Nat → Nat) (tape : Nat → Int32) (ln : Nat) (key : Nat → Int32) (g : Dg) (now : V4) (result : Nat → Int32) (iss : Int32) (x : Int32) (hxl : x < 0 ∨ ¬ x ≤ nI ln) : CtI l y_Model_end w_Model_end { frames := 0, cells := 0, slots := 0, locals := 0 } [.ref (q 0), .int x] D (tyL cB cI) kt tt (wMg q cI tape ln key g now result iss) (fun (r : Int32) (_ : Unit) => r = nI 0) (fun (u : Unit) => (wMg q cI tape ln key g now result iss)) := by
  refine ctI_of (by decide) (Nat.le_of_ble_eq_true rfl) ?_
  intro p e s m below meth c A ls C0 hr hlk hin hP hD hl
  have C0 : Cx p s m _ c b_Model_end 2 "KeySumsModel" D (tyL cB cI) A kt tt := C0
  obtain ⟨hx, hb, hml, hown, hcm, hK, hA, hZ⟩ := id C0
  have hS : va_S A s.heap s.heap [] := va_S.rf
  have hl : lv_has ls 2 [(0, .ref (q 0)), (1, .int x)] := hl
  obtain ⟨H, hH⟩ : ∃ H, H = s.heap := ⟨_, rfl⟩
  have hP0 := hP
  rw [← hH] at hP
  have hS : va_S A s.heap H [] := by rw [hH]; exact hS
  suffices hgoal : W p l e _ s m _ below meth c H [] 0 0 _ (F0 m 0 ls []) by rw [hH] at hgoal; exact hgoal
  clear hP0 hH
  refine lv_iload_n hx hb d_Model_end_0 rfl (lv_at hl 1 rfl) ?_
  refine lv_if_lt (tgt := 12) hx hb d_Model_end_1 (by decide) (fun c_1 => ?_) (fun c_1 => ?_)
  · refine lv_iconst (v := nI 0) hx hb d_Model_end_12 (by decide) ?_
    exact kr_iret C0 () hr rfl hlk rfl hP hD hS d_Model_end_13
  · refine lv_iload_n hx hb d_Model_end_4 rfl (lv_at hl 1 rfl) ?_
    refine lv_aload_n hx hb d_Model_end_5 rfl (lv_at hl 0 rfl) ?_
    refine va_get (D := D) (ci := 2) (v := .int (nI ln)) (C := "KeySumsModel") (T := F_Model) (N := 14) hx hb hcm i_Model hown hK hP 0 rfl rfl 6 (by decide) (hcm _ kw_216) (fun _ h9 => h9) rfl d_Model_end_6 ?_
    refine lv_icmp_le (tgt := 14) hx hb d_Model_end_9 (by decide) (fun c_9 => ?_) (fun c_9 => ?_)
    · exact absurd c_9 (hxl.resolve_left c_1)
    · refine lv_iconst (v := nI 0) hx hb d_Model_end_12 (by decide) ?_
      exact kr_iret C0 () hr rfl hlk rfl hP hD hS d_Model_end_13
set_option maxHeartbeats 4000000 in
set_option maxRecDepth 100000 in
/-- KeySumsModel.key: the loop -/
theorem lp_Mkey {p : Program} {l : Launch} {e : Env} {s : State} {m : MethodId} {args : Array Value} {below : List Frame} {meth : Method} {c : Code} {Q : State → Prop} {D : va_G} {cB cI : ClassId} {A : Nat → Prop} {kt tt : Nat} (C0 : Cx p s m args c b_Model_key 3 "KeySumsModel" D (tyL cB cI) A kt tt) (q : Nat → Nat) (tape : Nat → Int32) (ln : Nat) (g : Dg) (now : V4) (result : Nat → Int32) (iss : Int32) (hln : ln ≤ 16)
    (kk : ∀ (key : Nat → Int32) (H : Heap) (locs : List Loc) (ls : Array Slot), (∀ j, j < 16 → key j = (if j < ln then tape j else nI 0)) → va_P D classes (wMg q cI tape 0 key g now result iss) H → va_D A (wMg q cI tape 0 key g now result iss) → va_S A s.heap H locs → lv_has ls 3 [(0, .ref (q 0)), (1, .int (nI ln))] → W p l e ({ frames := 0, cells := 0, slots := 0, locals := 0 } : Room) s m args below meth c H locs 0 0 Q (F0 m 53 ls [])) :
    ∀ (z i : Nat) (key : Nat → Int32) (H : Heap) (locs : List Loc) (ls : Array Slot), i + z = 16 → (∀ j, j < i → key j = (if j < ln then tape j else nI 0)) → va_P D classes (wMg q cI tape 0 key g now result iss) H → va_D A (wMg q cI tape 0 key g now result iss) → va_S A s.heap H locs → lv_has ls 3 [(0, .ref (q 0)), (1, .int (nI ln)), (2, .int (nI i))] → W p l e ({ frames := 0, cells := 0, slots := 0, locals := 0 } : Room) s m args below meth c H locs 0 0 Q (F0 m 20 ls []) := by
  obtain ⟨hx, hb, hml, hown, hcm, hK, hA, hZ⟩ := id C0
  intro z
  induction z with
  | zero =>
    intro i key H locs ls hi hinv hP hD hS hl
    refine lv_iload_n hx hb d_Model_key_20 rfl (lv_at hl 2 rfl) ?_
    refine lv_bipush (v := nI 16) hx hb d_Model_key_21 (by decide) ?_
    refine kr_icmp_ge C0 (by omega) (by omega) (tgt := 53) d_Model_key_23 (by decide) (fun c_23 => ?_) (fun c_23 => ?_)
    · exact kk key H locs ls (fun j hj => hinv j (by omega)) hP hD hS (lv_sub hl [0, 1] rfl)
    · exact absurd c_23 (by omega)
  | succ z ih =>
    intro i key H locs ls hi hinv hP hD hS hl
    refine lv_iload_n hx hb d_Model_key_20 rfl (lv_at hl 2 rfl) ?_
    refine lv_bipush (v := nI 16) hx hb d_Model_key_21 (by decide) ?_
    refine kr_icmp_ge C0 (by omega) (by omega) (tgt := 53) d_Model_key_23 (by decide) (fun c_23 => ?_) (fun c_23 => ?_)
    · exact absurd c_23 (by omega)
    · have tail : W p l e ({ frames := 0, cells := 0, slots := 0, locals := 0 } : Room) s m args below meth c H locs 0 0 Q (F0 m 46 ls [.int (if i < ln then tape i else nI 0), .int (nI i), .ref (q 7)]) := by
        refine kr_iast C0 hP hD hS 7 1 rfl rfl (k := i) (x := if i < ln then tape i else nI 0) (by omega) (by decide) d_Model_key_46 (fun H locs hP hD hS => ?_)
        have hP : va_P D classes (wM q cI tape (nI 0) (upd key i (if i < ln then tape i else nI 0)) g.1 (h4 g.2.1) (h4 now) (nI g.2.2) result iss) H := hP
        have hD : va_D A (wM q cI tape (nI 0) (upd key i (if i < ln then tape i else nI 0)) g.1 (h4 g.2.1) (h4 now) (nI g.2.2) result iss) := hD
        refine lv_iinc (v := nI (i + 1)) (lv' := [(2, .int (nI (i + 1))), (0, .ref (q 0)), (1, .int (nI ln))]) hx hb d_Model_key_47 hl (k := 2) rfl (nI_1 i) (by decide) rfl (fun ls hl => ?_)
        refine lv_goto (tgt := 20) hx hb d_Model_key_50 (by decide) ?_
        exact ih (i + 1) _ H locs ls (by omega) (up_lt (g := fun j => if j < ln then tape j else nI 0) hinv) hP hD hS (lv_sub hl [1, 2, 0] rfl)
      refine lv_aload_n hx hb d_Model_key_26 rfl (lv_at hl 0 rfl) ?_
      refine va_get (D := D) (ci := 2) (v := .ref (q 7)) (C := "KeySumsModel") (T := F_Model) (N := 14) hx hb hcm i_Model hown hK hP 0 rfl rfl 7 (by decide) (hcm _ kw_217) (fun _ h9 => h9) rfl d_Model_key_27 ?_
      refine lv_iload_n hx hb d_Model_key_30 rfl (lv_at hl 2 rfl) ?_
      refine lv_iload_n hx hb d_Model_key_31 rfl (lv_at hl 2 rfl) ?_
      refine lv_iload_n hx hb d_Model_key_32 rfl (lv_at hl 1 rfl) ?_
      refine kr_icmp_ge C0 (by omega) (by omega) (tgt := 45) d_Model_key_33 (by decide) (fun c_33 => ?_) (fun c_33 => ?_)
      · refine lv_iconst (v := nI 0) hx hb d_Model_key_45 (by decide) ?_
        refine kt_i (y := if i < ln then tape i else nI 0) (by rw [if_neg (by omega)]) ?_
        exact tail
      · refine lv_aload_n hx hb d_Model_key_36 rfl (lv_at hl 0 rfl) ?_
        refine va_get (D := D) (ci := 2) (v := .ref (q 6)) (C := "KeySumsModel") (T := F_Model) (N := 14) hx hb hcm i_Model hown hK hP 0 rfl rfl 5 (by decide) (hcm _ kw_215) (fun _ h9 => h9) rfl d_Model_key_37 ?_
        refine lv_iload_n hx hb d_Model_key_40 rfl (lv_at hl 2 rfl) ?_
        refine kr_iald C0 hP 6 1 rfl rfl (k := i) (by omega) (by decide) d_Model_key_41 ?_
        refine lv_goto (tgt := 46) hx hb d_Model_key_42 (by decide) ?_
        refine kt_i (y := if i < ln then tape i else nI 0) (by rw [if_pos c_33]) ?_
        exact tail
set_option maxHeartbeats 4000000 in
set_option maxRecDepth 100000 in
/-- KeySumsModel.key, a tape that fits -/
theorem c_Model_key (l : Launch) (D : va_G) (cB cI : ClassId) (kt tt : Nat) (q : Nat → Nat) (tape : Nat → Int32) (ln : Nat) (key : Nat → Int32) (g : Dg) (now : V4) (result : Nat → Int32) (iss : Int32) (hln : ln ≤ 16) : CtI l y_Model_key w_Model_key { frames := 0, cells := 0, slots := 0, locals := 0 } [.ref (q 0)] D (tyL cB cI) kt tt (wMg q cI tape ln key g now result iss) (fun (r : Int32) (u : Nat → Int32) => r = nI ln ∧ ∀ j, j < 16 → u j = (if j < ln then tape j else nI 0)) (fun (u : Nat → Int32) => (wMg q cI tape 0 u g now result iss)) := by
  refine ctI_of (by decide) (Nat.le_of_ble_eq_true rfl) ?_
  intro p e s m below meth c A ls C0 hr hlk hin hP hD hl
  have C0 : Cx p s m _ c b_Model_key 3 "KeySumsModel" D (tyL cB cI) A kt tt := C0
  obtain ⟨hx, hb, hml, hown, hcm, hK, hA, hZ⟩ := id C0
  have hS : va_S A s.heap s.heap [] := va_S.rf
  have hl : lv_has ls 3 [(0, .ref (q 0))] := hl
  obtain ⟨H, hH⟩ : ∃ H, H = s.heap := ⟨_, rfl⟩
  have hP0 := hP
  rw [← hH] at hP
  have hS : va_S A s.heap H [] := by rw [hH]; exact hS
  suffices hgoal : W p l e _ s m _ below meth c H [] 0 0 _ (F0 m 0 ls []) by rw [hH] at hgoal; exact hgoal
  clear hP0 hH
  refine lv_aload_n hx hb d_Model_key_0 rfl (lv_at hl 0 rfl) ?_
  refine va_get (D := D) (ci := 2) (v := .int (nI ln)) (C := "KeySumsModel") (T := F_Model) (N := 14) hx hb hcm i_Model hown hK hP 0 rfl rfl 6 (by decide) (hcm _ kw_216) (fun _ h9 => h9) rfl d_Model_key_1 ?_
  refine lv_istore_n (lv' := [(1, .int (nI ln)), (0, .ref (q 0))]) hx hb d_Model_key_4 rfl hl (by decide) rfl (fun ls hl => ?_)
  refine lv_aload_n hx hb d_Model_key_5 rfl (lv_at hl 1 rfl) ?_
  refine lv_iconst (v := nI 0) hx hb d_Model_key_6 (by decide) ?_
  refine va_put (D := D) (ci := 2) (v := .int (nI 0)) (ty := .int) (C := "KeySumsModel") (T := F_Model) (N := 14) hx hb hcm i_Model t_Model t_Model_ok n_Model hown hK hP hD hS 0 rfl rfl 6 (by decide) (hcm _ kw_216) (fun _ h9 => h9) rfl (by decide +kernel) rfl rfl (Nat.le_of_ble_eq_true rfl) d_Model_key_7 (fun H locs hP hD hS => ?_)
  have hP : va_P D classes (wM q cI tape (nI 0) key g.1 (h4 g.2.1) (h4 now) (nI g.2.2) result iss) H := hP
  have hD : va_D A (wM q cI tape (nI 0) key g.1 (h4 g.2.1) (h4 now) (nI g.2.2) result iss) := hD
  refine lv_iload_n hx hb d_Model_key_10 rfl (lv_at hl 0 rfl) ?_
  refine lv_bipush (v := nI 16) hx hb d_Model_key_11 (by decide) ?_
  refine kr_icmp_le C0 (by omega) (by omega) (tgt := 18) d_Model_key_13 (by decide) (fun c_13 => ?_) (fun c_13 => ?_)
  · refine lv_iconst (v := nI 0) hx hb d_Model_key_18 (by decide) ?_
    refine lv_istore_n (lv' := [(2, .int (nI 0)), (1, .int (nI ln)), (0, .ref (q 0))]) hx hb d_Model_key_19 rfl hl (by decide) rfl (fun ls hl => ?_)
    refine lp_Mkey C0 q tape ln g now result iss hln ?_ 16 0 key H locs ls (by decide) (fun j hj => absurd hj (Nat.not_lt_zero j)) hP hD hS (lv_sub hl [2, 1, 0] rfl)
    intro key H locs ls hk hP hD hS hl
    refine lv_iload_n hx hb d_Model_key_53 rfl (lv_at hl 1 rfl) ?_
    exact kr_iret C0 key hr rfl hlk ⟨rfl, hk⟩ hP hD hS d_Model_key_54
  · exact absurd c_13 (by omega)
set_option maxHeartbeats 4000000 in
set_option maxRecDepth 100000 in
/-- KeySumsModel.key, a tape too long -/
theorem c_Model_key_no (l : Launch) (D : va_G) (cB cI : ClassId) (kt tt : Nat) (q : Nat → Nat) (tape : Nat → Int32) (ln : Nat) (key : Nat → Int32) (g : Dg) (now : V4) (result : Nat → Int32) (iss : Int32) (hln : 16 < ln) (hl2 : ln ≤ 2000) : CtI l y_Model_key w_Model_key { frames := 0, cells := 0, slots := 0, locals := 0 } [.ref (q 0)] D (tyL cB cI) kt tt (wMg q cI tape ln key g now result iss) (fun (r : Int32) (_ : Unit) => r = -1) (fun (u : Unit) => (wMg q cI tape 0 key g now result iss)) := by
  refine ctI_of (by decide) (Nat.le_of_ble_eq_true rfl) ?_
  intro p e s m below meth c A ls C0 hr hlk hin hP hD hl
  have C0 : Cx p s m _ c b_Model_key 3 "KeySumsModel" D (tyL cB cI) A kt tt := C0
  obtain ⟨hx, hb, hml, hown, hcm, hK, hA, hZ⟩ := id C0
  have hS : va_S A s.heap s.heap [] := va_S.rf
  have hl : lv_has ls 3 [(0, .ref (q 0))] := hl
  obtain ⟨H, hH⟩ : ∃ H, H = s.heap := ⟨_, rfl⟩
  have hP0 := hP
  rw [← hH] at hP
  have hS : va_S A s.heap H [] := by rw [hH]; exact hS
  suffices hgoal : W p l e _ s m _ below meth c H [] 0 0 _ (F0 m 0 ls []) by rw [hH] at hgoal; exact hgoal
  clear hP0 hH
  refine lv_aload_n hx hb d_Model_key_0 rfl (lv_at hl 0 rfl) ?_
  refine va_get (D := D) (ci := 2) (v := .int (nI ln)) (C := "KeySumsModel") (T := F_Model) (N := 14) hx hb hcm i_Model hown hK hP 0 rfl rfl 6 (by decide) (hcm _ kw_216) (fun _ h9 => h9) rfl d_Model_key_1 ?_
  refine lv_istore_n (lv' := [(1, .int (nI ln)), (0, .ref (q 0))]) hx hb d_Model_key_4 rfl hl (by decide) rfl (fun ls hl => ?_)
  refine lv_aload_n hx hb d_Model_key_5 rfl (lv_at hl 1 rfl) ?_
  refine lv_iconst (v := nI 0) hx hb d_Model_key_6 (by decide) ?_
  refine va_put (D := D) (ci := 2) (v := .int (nI 0)) (ty := .int) (C := "KeySumsModel") (T := F_Model) (N := 14) hx hb hcm i_Model t_Model t_Model_ok n_Model hown hK hP hD hS 0 rfl rfl 6 (by decide) (hcm _ kw_216) (fun _ h9 => h9) rfl (by decide +kernel) rfl rfl (Nat.le_of_ble_eq_true rfl) d_Model_key_7 (fun H locs hP hD hS => ?_)
  have hP : va_P D classes (wM q cI tape (nI 0) key g.1 (h4 g.2.1) (h4 now) (nI g.2.2) result iss) H := hP
  have hD : va_D A (wM q cI tape (nI 0) key g.1 (h4 g.2.1) (h4 now) (nI g.2.2) result iss) := hD
  refine lv_iload_n hx hb d_Model_key_10 rfl (lv_at hl 0 rfl) ?_
  refine lv_bipush (v := nI 16) hx hb d_Model_key_11 (by decide) ?_
  refine kr_icmp_le C0 (by omega) (by omega) (tgt := 18) d_Model_key_13 (by decide) (fun c_13 => ?_) (fun c_13 => ?_)
  · exact absurd c_13 (by omega)
  · refine lv_iconst (v := -1) hx hb d_Model_key_16 (by decide) ?_
    exact kr_iret C0 () hr rfl hlk rfl hP hD hS d_Model_key_17
set_option maxHeartbeats 4000000 in
set_option maxRecDepth 100000 in
/-- KeySumsModel.sumAt, a place of a sum -/
theorem c_Model_sumAt (l : Launch) (D : va_G) (cB cI : ClassId) (kt tt : Nat) (q : Nat → Nat) (tape : Nat → Int32) (ln : Nat) (key : Nat → Int32) (g : Dg) (now : V4) (result : Nat → Int32) (iss : Int32) (x : Nat) (hx16 : x < 16) (hhas : iss ≠ 0) : CtI l y_Model_sumAt w_Model_sumAt { frames := 0, cells := 0, slots := 0, locals := 0 } [.ref (q 0), .int (nI x)] D (tyL cB cI) kt tt (wMg q cI tape ln key g now result iss) (fun (r : Int32) (_ : Unit) => r = result x) (fun (u : Unit) => (wMg q cI tape ln key g now result iss)) := by
  refine ctI_of (by decide) (Nat.le_of_ble_eq_true rfl) ?_
  intro p e s m below meth c A ls C0 hr hlk hin hP hD hl
  have C0 : Cx p s m _ c b_Model_sumAt 2 "KeySumsModel" D (tyL cB cI) A kt tt := C0
  obtain ⟨hx, hb, hml, hown, hcm, hK, hA, hZ⟩ := id C0
  have hS : va_S A s.heap s.heap [] := va_S.rf
  have hl : lv_has ls 2 [(0, .ref (q 0)), (1, .int (nI x))] := hl
  obtain ⟨H, hH⟩ : ∃ H, H = s.heap := ⟨_, rfl⟩
  have hP0 := hP
  rw [← hH] at hP
  have hS : va_S A s.heap H [] := by rw [hH]; exact hS
  suffices hgoal : W p l e _ s m _ below meth c H [] 0 0 _ (F0 m 0 ls []) by rw [hH] at hgoal; exact hgoal
  clear hP0 hH
  refine lv_aload_n hx hb d_Model_sumAt_0 rfl (lv_at hl 0 rfl) ?_
  refine va_get (D := D) (ci := 2) (v := .int iss) (C := "KeySumsModel") (T := F_Model) (N := 14) hx hb hcm i_Model hown hK hP 0 rfl rfl 13 (by decide) (hcm _ kw_223) (fun _ h9 => h9) rfl d_Model_sumAt_1 ?_
  refine lv_if_eq (tgt := 26) hx hb d_Model_sumAt_4 (by decide) (fun h9 => absurd h9 hhas) (fun _ => ?_)
  refine lv_iload_n hx hb d_Model_sumAt_7 rfl (lv_at hl 1 rfl) ?_
  refine lv_if_lt (tgt := 26) hx hb d_Model_sumAt_8 (by decide) (fun h9 => absurd h9 (nI_pos (by omega))) (fun _ => ?_)
  refine lv_iload_n hx hb d_Model_sumAt_11 rfl (lv_at hl 1 rfl) ?_
  refine lv_bipush (v := nI 16) hx hb d_Model_sumAt_12 (by decide) ?_
  refine kr_icmp_ge C0 (by omega) (by omega) (tgt := 26) d_Model_sumAt_14 (by decide) (fun c_14 => ?_) (fun c_14 => ?_)
  · exact absurd c_14 (by omega)
  · refine lv_aload_n hx hb d_Model_sumAt_17 rfl (lv_at hl 0 rfl) ?_
    refine va_get (D := D) (ci := 2) (v := .ref (q 11)) (C := "KeySumsModel") (T := F_Model) (N := 14) hx hb hcm i_Model hown hK hP 0 rfl rfl 12 (by decide) (hcm _ kw_222) (fun _ h9 => h9) rfl d_Model_sumAt_18 ?_
    refine lv_iload_n hx hb d_Model_sumAt_21 rfl (lv_at hl 1 rfl) ?_
    refine kr_iald C0 hP 11 1 rfl rfl (k := x) (by omega) (by decide) d_Model_sumAt_22 ?_
    refine lv_goto (tgt := 27) hx hb d_Model_sumAt_23 (by decide) ?_
    exact kr_iret C0 () hr rfl hlk rfl hP hD hS d_Model_sumAt_27
set_option maxHeartbeats 4000000 in
set_option maxRecDepth 100000 in
/-- KeySumsModel.sumAt, no place or no sum -/
theorem c_Model_sumAt_no (l : Launch) (D : va_G) (cB cI : ClassId) (kt tt : Nat) (q : Nat → Nat) (tape : Nat → Int32) (ln : Nat) (key : Nat → Int32) (g : Dg) (now : V4) (result : Nat → Int32) (iss : Int32) (x : Int32) (hno : iss = 0 ∨ x < 0 ∨ nI 16 ≤ x) : CtI l y_Model_sumAt w_Model_sumAt { frames := 0, cells := 0, slots := 0, locals := 0 } [.ref (q 0), .int x] D (tyL cB cI) kt tt (wMg q cI tape ln key g now result iss) (fun (r : Int32) (_ : Unit) => r = -1) (fun (u : Unit) => (wMg q cI tape ln key g now result iss)) := by
  refine ctI_of (by decide) (Nat.le_of_ble_eq_true rfl) ?_
  intro p e s m below meth c A ls C0 hr hlk hin hP hD hl
  have C0 : Cx p s m _ c b_Model_sumAt 2 "KeySumsModel" D (tyL cB cI) A kt tt := C0
  obtain ⟨hx, hb, hml, hown, hcm, hK, hA, hZ⟩ := id C0
  have hS : va_S A s.heap s.heap [] := va_S.rf
  have hl : lv_has ls 2 [(0, .ref (q 0)), (1, .int x)] := hl
  obtain ⟨H, hH⟩ : ∃ H, H = s.heap := ⟨_, rfl⟩
  have hP0 := hP
  rw [← hH] at hP
  have hS : va_S A s.heap H [] := by rw [hH]; exact hS
  suffices hgoal : W p l e _ s m _ below meth c H [] 0 0 _ (F0 m 0 ls []) by rw [hH] at hgoal; exact hgoal
  clear hP0 hH
  refine lv_aload_n hx hb d_Model_sumAt_0 rfl (lv_at hl 0 rfl) ?_
  refine va_get (D := D) (ci := 2) (v := .int iss) (C := "KeySumsModel") (T := F_Model) (N := 14) hx hb hcm i_Model hown hK hP 0 rfl rfl 13 (by decide) (hcm _ kw_223) (fun _ h9 => h9) rfl d_Model_sumAt_1 ?_
  refine lv_if_eq (tgt := 26) hx hb d_Model_sumAt_4 (by decide) (fun c_4 => ?_) (fun c_4 => ?_)
  · refine lv_iconst (v := -1) hx hb d_Model_sumAt_26 (by decide) ?_
    exact kr_iret C0 () hr rfl hlk rfl hP hD hS d_Model_sumAt_27
  · refine lv_iload_n hx hb d_Model_sumAt_7 rfl (lv_at hl 1 rfl) ?_
    refine lv_if_lt (tgt := 26) hx hb d_Model_sumAt_8 (by decide) (fun c_8 => ?_) (fun c_8 => ?_)
    · refine lv_iconst (v := -1) hx hb d_Model_sumAt_26 (by decide) ?_
      exact kr_iret C0 () hr rfl hlk rfl hP hD hS d_Model_sumAt_27
    · refine lv_iload_n hx hb d_Model_sumAt_11 rfl (lv_at hl 1 rfl) ?_
      refine lv_bipush (v := nI 16) hx hb d_Model_sumAt_12 (by decide) ?_
      refine lv_icmp_ge (tgt := 26) hx hb d_Model_sumAt_14 (by decide) (fun c_14 => ?_) (fun c_14 => ?_)
      · refine lv_iconst (v := -1) hx hb d_Model_sumAt_26 (by decide) ?_
        exact kr_iret C0 () hr rfl hlk rfl hP hD hS d_Model_sumAt_27
      · exact absurd ((hno.resolve_left c_4).resolve_left c_8) c_14
theorem md_tp_lay (t : Nat → Int32) (n : Nat) (a b c d e : Int32) : md_lay (md_lay (md_lay (md_lay (md_lay t n a) (n + 4) b) (n + 8) c) (n + 12) d) (n + 16) e = md_tp t n a b c d e 20 := rfl
set_option maxHeartbeats 4000000 in
set_option maxRecDepth 100000 in
/-- KeySumsModel.feed, twenty bytes that fit -/
theorem c_Model_feed (l : Launch) (D : va_G) (cB cI : ClassId) (kt tt : Nat) (q : Nat → Nat) (tape : Nat → Int32) (ln : Nat) (key : Nat → Int32) (g : Dg) (now : V4) (result : Nat → Int32) (iss : Int32) (xa xb xc xd xe : Int32) (hln : ln + 20 ≤ 2000) : CtI l y_Model_feed w_Model_feed { frames := 1, cells := 0, slots := 0, locals := 22 } [.ref (q 0), .int xa, .int xb, .int xc, .int xd, .int xe] D (tyL cB cI) kt tt (wMg q cI tape ln key g now result iss) (fun (r : Int32) (_ : Unit) => r = nI 1) (fun (u : Unit) => (wMg q cI (md_tp tape ln xa xb xc xd xe 20) (ln + 20) key g now result iss)) := by
  refine ctI_of (by decide) (Nat.le_of_ble_eq_true rfl) ?_
  intro p e s m below meth c A ls C0 hr hlk hin hP hD hl
  have C0 : Cx p s m _ c b_Model_feed 6 "KeySumsModel" D (tyL cB cI) A kt tt := C0
  obtain ⟨hx, hb, hml, hown, hcm, hK, hA, hZ⟩ := id C0
  have hS : va_S A s.heap s.heap [] := va_S.rf
  have hl : lv_has ls 6 [(0, .ref (q 0)), (1, .int xa), (2, .int xb), (3, .int xc), (4, .int xd), (5, .int xe)] := hl
  obtain ⟨H, hH⟩ : ∃ H, H = s.heap := ⟨_, rfl⟩
  have hP0 := hP
  rw [← hH] at hP
  have hS : va_S A s.heap H [] := by rw [hH]; exact hS
  suffices hgoal : W p l e _ s m _ below meth c H [] 0 0 _ (F0 m 0 ls []) by rw [hH] at hgoal; exact hgoal
  clear hP0 hH
  refine lv_aload_n hx hb d_Model_feed_0 rfl (lv_at hl 0 rfl) ?_
  refine va_get (D := D) (ci := 2) (v := .int (nI ln)) (C := "KeySumsModel") (T := F_Model) (N := 14) hx hb hcm i_Model hown hK hP 0 rfl rfl 6 (by decide) (hcm _ kw_216) (fun _ h9 => h9) rfl d_Model_feed_1 ?_
  refine lv_bipush (v := nI 20) hx hb d_Model_feed_4 (by decide) ?_
  refine lv_iadd hx hb d_Model_feed_6 ?_
  refine kt_i (y := nI (ln + 20)) (nI_add _ _) ?_
  refine lv_sipush (v := nI 2000) hx hb d_Model_feed_7 (by decide) ?_
  refine kr_icmp_le C0 (by omega) (by omega) (tgt := 15) d_Model_feed_10 (by decide) (fun c_10 => ?_) (fun c_10 => ?_)
  · refine lv_aload_n hx hb d_Model_feed_15 rfl (lv_at hl 0 rfl) ?_
    refine lv_iload_n hx hb d_Model_feed_16 rfl (lv_at hl 1 rfl) ?_
    refine cl_Vv C0 (ty := .int) (rest := []) (wr := []) [.int xa] (c_Model_lay l D cB cI kt tt q tape ln key g.1 (h4 g.2.1) (h4 now) (nI g.2.2) result iss xa (by omega)) (cwV 1 hcm (gd_V kw_257 kw_259 kw_2 kw_10 kw_260) rfl rfl rfl (by decide +kernel) ⟨Nat.le_of_ble_eq_true rfl, Nat.le_of_ble_eq_true rfl⟩) hP hD hS [0, 1, 2, 3, 4, 5, 6, 7, 8, 9, 10, 11] [] rfl rfl rfl rfl (by decide) rfl 0 rfl rfl rfl hl.1 (Nat.le_of_ble_eq_true rfl) d_Model_feed_17 ⟨Nat.le_of_ble_eq_true rfl, Nat.le_of_ble_eq_true rfl⟩ (fun _ H locs _ hP hD hS => ?_)
    have hP : va_P D classes (wM q cI (md_lay tape ln xa) (nI (ln + 4)) key g.1 (h4 g.2.1) (h4 now) (nI g.2.2) result iss) H := hP
    have hD : va_D A (wM q cI (md_lay tape ln xa) (nI (ln + 4)) key g.1 (h4 g.2.1) (h4 now) (nI g.2.2) result iss) := hD
    refine lv_aload_n hx hb d_Model_feed_20 rfl (lv_at hl 0 rfl) ?_
    refine lv_iload_n hx hb d_Model_feed_21 rfl (lv_at hl 2 rfl) ?_
    refine cl_Vv C0 (ty := .int) (rest := []) (wr := []) [.int xb] (c_Model_lay l D cB cI kt tt q (md_lay tape ln xa) (ln + 4) key g.1 (h4 g.2.1) (h4 now) (nI g.2.2) result iss xb (by omega)) (cwV 1 hcm (gd_V kw_257 kw_259 kw_2 kw_10 kw_260) rfl rfl rfl (by decide +kernel) ⟨Nat.le_of_ble_eq_true rfl, Nat.le_of_ble_eq_true rfl⟩) hP hD hS [0, 1, 2, 3, 4, 5, 6, 7, 8, 9, 10, 11] [] rfl rfl rfl rfl (by decide) rfl 0 rfl rfl rfl hl.1 (Nat.le_of_ble_eq_true rfl) d_Model_feed_22 ⟨Nat.le_of_ble_eq_true rfl, Nat.le_of_ble_eq_true rfl⟩ (fun _ H locs _ hP hD hS => ?_)
    have hP : va_P D classes (wM q cI (md_lay (md_lay tape ln xa) (ln + 4) xb) (nI (ln + 8)) key g.1 (h4 g.2.1) (h4 now) (nI g.2.2) result iss) H := hP
    have hD : va_D A (wM q cI (md_lay (md_lay tape ln xa) (ln + 4) xb) (nI (ln + 8)) key g.1 (h4 g.2.1) (h4 now) (nI g.2.2) result iss) := hD
    refine lv_aload_n hx hb d_Model_feed_25 rfl (lv_at hl 0 rfl) ?_
    refine lv_iload_n hx hb d_Model_feed_26 rfl (lv_at hl 3 rfl) ?_
    refine cl_Vv C0 (ty := .int) (rest := []) (wr := []) [.int xc] (c_Model_lay l D cB cI kt tt q (md_lay (md_lay tape ln xa) (ln + 4) xb) (ln + 8) key g.1 (h4 g.2.1) (h4 now) (nI g.2.2) result iss xc (by omega)) (cwV 1 hcm (gd_V kw_257 kw_259 kw_2 kw_10 kw_260) rfl rfl rfl (by decide +kernel) ⟨Nat.le_of_ble_eq_true rfl, Nat.le_of_ble_eq_true rfl⟩) hP hD hS [0, 1, 2, 3, 4, 5, 6, 7, 8, 9, 10, 11] [] rfl rfl rfl rfl (by decide) rfl 0 rfl rfl rfl hl.1 (Nat.le_of_ble_eq_true rfl) d_Model_feed_27 ⟨Nat.le_of_ble_eq_true rfl, Nat.le_of_ble_eq_true rfl⟩ (fun _ H locs _ hP hD hS => ?_)
    have hP : va_P D classes (wM q cI (md_lay (md_lay (md_lay tape ln xa) (ln + 4) xb) (ln + 8) xc) (nI (ln + 12)) key g.1 (h4 g.2.1) (h4 now) (nI g.2.2) result iss) H := hP
    have hD : va_D A (wM q cI (md_lay (md_lay (md_lay tape ln xa) (ln + 4) xb) (ln + 8) xc) (nI (ln + 12)) key g.1 (h4 g.2.1) (h4 now) (nI g.2.2) result iss) := hD
    refine lv_aload_n hx hb d_Model_feed_30 rfl (lv_at hl 0 rfl) ?_
    refine lv_iload hx hb d_Model_feed_31 (lv_at hl 4 rfl) ?_
    refine cl_Vv C0 (ty := .int) (rest := []) (wr := []) [.int xd] (c_Model_lay l D cB cI kt tt q (md_lay (md_lay (md_lay tape ln xa) (ln + 4) xb) (ln + 8) xc) (ln + 12) key g.1 (h4 g.2.1) (h4 now) (nI g.2.2) result iss xd (by omega)) (cwV 1 hcm (gd_V kw_257 kw_259 kw_2 kw_10 kw_260) rfl rfl rfl (by decide +kernel) ⟨Nat.le_of_ble_eq_true rfl, Nat.le_of_ble_eq_true rfl⟩) hP hD hS [0, 1, 2, 3, 4, 5, 6, 7, 8, 9, 10, 11] [] rfl rfl rfl rfl (by decide) rfl 0 rfl rfl rfl hl.1 (Nat.le_of_ble_eq_true rfl) d_Model_feed_33 ⟨Nat.le_of_ble_eq_true rfl, Nat.le_of_ble_eq_true rfl⟩ (fun _ H locs _ hP hD hS => ?_)
    have hP : va_P D classes (wM q cI (md_lay (md_lay (md_lay (md_lay tape ln xa) (ln + 4) xb) (ln + 8) xc) (ln + 12) xd) (nI (ln + 16)) key g.1 (h4 g.2.1) (h4 now) (nI g.2.2) result iss) H := hP
    have hD : va_D A (wM q cI (md_lay (md_lay (md_lay (md_lay tape ln xa) (ln + 4) xb) (ln + 8) xc) (ln + 12) xd) (nI (ln + 16)) key g.1 (h4 g.2.1) (h4 now) (nI g.2.2) result iss) := hD
    refine lv_aload_n hx hb d_Model_feed_36 rfl (lv_at hl 0 rfl) ?_
    refine lv_iload hx hb d_Model_feed_37 (lv_at hl 5 rfl) ?_
    refine cl_Vv C0 (ty := .int) (rest := []) (wr := []) [.int xe] (c_Model_lay l D cB cI kt tt q (md_lay (md_lay (md_lay (md_lay tape ln xa) (ln + 4) xb) (ln + 8) xc) (ln + 12) xd) (ln + 16) key g.1 (h4 g.2.1) (h4 now) (nI g.2.2) result iss xe (by omega)) (cwV 1 hcm (gd_V kw_257 kw_259 kw_2 kw_10 kw_260) rfl rfl rfl (by decide +kernel) ⟨Nat.le_of_ble_eq_true rfl, Nat.le_of_ble_eq_true rfl⟩) hP hD hS [0, 1, 2, 3, 4, 5, 6, 7, 8, 9, 10, 11] [] rfl rfl rfl rfl (by decide) rfl 0 rfl rfl rfl hl.1 (Nat.le_of_ble_eq_true rfl) d_Model_feed_39 ⟨Nat.le_of_ble_eq_true rfl, Nat.le_of_ble_eq_true rfl⟩ (fun _ H locs _ hP hD hS => ?_)
    have hP : va_P D classes (wM q cI (md_lay (md_lay (md_lay (md_lay (md_lay tape ln xa) (ln + 4) xb) (ln + 8) xc) (ln + 12) xd) (ln + 16) xe) (nI (ln + 20)) key g.1 (h4 g.2.1) (h4 now) (nI g.2.2) result iss) H := hP
    have hD : va_D A (wM q cI (md_lay (md_lay (md_lay (md_lay (md_lay tape ln xa) (ln + 4) xb) (ln + 8) xc) (ln + 12) xd) (ln + 16) xe) (nI (ln + 20)) key g.1 (h4 g.2.1) (h4 now) (nI g.2.2) result iss) := hD
    refine lv_iconst (v := nI 1) hx hb d_Model_feed_42 (by decide) ?_
    rw [md_tp_lay] at hP hD
    exact kr_iret C0 () hr rfl hlk rfl hP hD hS d_Model_feed_43
  · exact absurd c_10 (by omega)
set_option maxHeartbeats 4000000 in
set_option maxRecDepth 100000 in
/-- KeySumsModel.feed, no room -/
theorem c_Model_feed_no (l : Launch) (D : va_G) (cB cI : ClassId) (kt tt : Nat) (q : Nat → Nat) (tape : Nat → Int32) (ln : Nat) (key : Nat → Int32) (g : Dg) (now : V4) (result : Nat → Int32) (iss : Int32) (xa xb xc xd xe : Int32) (hln : ¬ ln + 20 ≤ 2000) (hl2 : ln ≤ 2000) : CtI l y_Model_feed w_Model_feed { frames := 1, cells := 0, slots := 0, locals := 22 } [.ref (q 0), .int xa, .int xb, .int xc, .int xd, .int xe] D (tyL cB cI) kt tt (wMg q cI tape ln key g now result iss) (fun (r : Int32) (_ : Unit) => r = nI 0) (fun (u : Unit) => (wMg q cI tape ln key g now result iss)) := by
  refine ctI_of (by decide) (Nat.le_of_ble_eq_true rfl) ?_
  intro p e s m below meth c A ls C0 hr hlk hin hP hD hl
  have C0 : Cx p s m _ c b_Model_feed 6 "KeySumsModel" D (tyL cB cI) A kt tt := C0
  obtain ⟨hx, hb, hml, hown, hcm, hK, hA, hZ⟩ := id C0
  have hS : va_S A s.heap s.heap [] := va_S.rf
  have hl : lv_has ls 6 [(0, .ref (q 0)), (1, .int xa), (2, .int xb), (3, .int xc), (4, .int xd), (5, .int xe)] := hl
  obtain ⟨H, hH⟩ : ∃ H, H = s.heap := ⟨_, rfl⟩
  have hP0 := hP
  rw [← hH] at hP
  have hS : va_S A s.heap H [] := by rw [hH]; exact hS
  suffices hgoal : W p l e _ s m _ below meth c H [] 0 0 _ (F0 m 0 ls []) by rw [hH] at hgoal; exact hgoal
  clear hP0 hH
  refine lv_aload_n hx hb d_Model_feed_0 rfl (lv_at hl 0 rfl) ?_
  refine va_get (D := D) (ci := 2) (v := .int (nI ln)) (C := "KeySumsModel") (T := F_Model) (N := 14) hx hb hcm i_Model hown hK hP 0 rfl rfl 6 (by decide) (hcm _ kw_216) (fun _ h9 => h9) rfl d_Model_feed_1 ?_
  refine lv_bipush (v := nI 20) hx hb d_Model_feed_4 (by decide) ?_
  refine lv_iadd hx hb d_Model_feed_6 ?_
  refine kt_i (y := nI (ln + 20)) (nI_add _ _) ?_
  refine lv_sipush (v := nI 2000) hx hb d_Model_feed_7 (by decide) ?_
  refine kr_icmp_le C0 (by omega) (by omega) (tgt := 15) d_Model_feed_10 (by decide) (fun c_10 => ?_) (fun c_10 => ?_)
  · exact absurd c_10 hln
  · refine lv_iconst (v := nI 0) hx hb d_Model_feed_13 (by decide) ?_
    exact kr_iret C0 () hr rfl hlk rfl hP hD hS d_Model_feed_14
set_option maxHeartbeats 4000000 in
set_option maxRecDepth 100000 in
/-- KeySumsModel.add: the loop -/
theorem lp_Madd {p : Program} {l : Launch} {e : Env} {s : State} {m : MethodId} {args : Array Value} {below : List Frame} {meth : Method} {c : Code} {Q : State → Prop} {D : va_G} {cB cI : ClassId} {A : Nat → Prop} {kt tt : Nat} (C0 : Cx p s m args c b_Model_add 2 "KeySumsModel" D (tyL cB cI) A kt tt) (q : Nat → Nat) (tape : Nat → Int32) (ln : Nat) (key : Nat → Int32) (result : Nat → Int32) (iss : Int32) (hln : ln ≤ 2000) (g0 : Dg) (hn : g0.2.2 + ln < 2 ^ 31)
    (kk : ∀ (now : V4) (H : Heap) (locs : List Loc) (ls : Array Slot), va_P D classes (wMg q cI tape ln key (md_feed g0 tape ln) now result iss) H → va_D A (wMg q cI tape ln key (md_feed g0 tape ln) now result iss) → va_S A s.heap H locs → lv_has ls 2 [(0, .ref (q 0))] → W p l e ({ frames := 3, cells := 0, slots := 0, locals := 70 } : Room) s m args below meth c H locs 0 0 Q (F0 m 26 ls [])) :
    ∀ (z k : Nat) (g : Dg) (now : V4) (H : Heap) (locs : List Loc) (ls : Array Slot), k + z = ln → g = md_feed g0 tape k → va_P D classes (wMg q cI tape ln key g now result iss) H → va_D A (wMg q cI tape ln key g now result iss) → va_S A s.heap H locs → lv_has ls 2 [(0, .ref (q 0)), (1, .int (nI k))] → W p l e ({ frames := 3, cells := 0, slots := 0, locals := 70 } : Room) s m args below meth c H locs 0 0 Q (F0 m 2 ls []) := by
  obtain ⟨hx, hb, hml, hown, hcm, hK, hA, hZ⟩ := id C0
  intro z
  induction z with
  | zero =>
    intro k g now H locs ls hi hg hP hD hS hl
    refine lv_iload_n hx hb d_Model_add_2 rfl (lv_at hl 1 rfl) ?_
    refine lv_aload_n hx hb d_Model_add_3 rfl (lv_at hl 0 rfl) ?_
    refine va_get (D := D) (ci := 2) (v := .int (nI ln)) (C := "KeySumsModel") (T := F_Model) (N := 14) hx hb hcm i_Model hown hK hP 0 rfl rfl 6 (by decide) (hcm _ kw_216) (fun _ h9 => h9) rfl d_Model_add_4 ?_
    refine kr_icmp_ge C0 (by omega) (by omega) (tgt := 26) d_Model_add_7 (by decide) (fun c_7 => ?_) (fun c_7 => ?_)
    · obtain rfl : k = ln := by omega
      subst hg
      exact kk now H locs ls hP hD hS (lv_sub hl [0] rfl)
    · exact absurd c_7 (by omega)
  | succ z ih =>
    intro k g now H locs ls hi hg hP hD hS hl
    refine lv_iload_n hx hb d_Model_add_2 rfl (lv_at hl 1 rfl) ?_
    refine lv_aload_n hx hb d_Model_add_3 rfl (lv_at hl 0 rfl) ?_
    refine va_get (D := D) (ci := 2) (v := .int (nI ln)) (C := "KeySumsModel") (T := F_Model) (N := 14) hx hb hcm i_Model hown hK hP 0 rfl rfl 6 (by decide) (hcm _ kw_216) (fun _ h9 => h9) rfl d_Model_add_4 ?_
    refine kr_icmp_ge C0 (by omega) (by omega) (tgt := 26) d_Model_add_7 (by decide) (fun c_7 => ?_) (fun c_7 => ?_)
    · exact absurd c_7 (by omega)
    · have hgn : g.2.2 = g0.2.2 + k := by rw [hg]; exact md_feed_n g0 _ k
      refine lv_aload_n hx hb d_Model_add_10 rfl (lv_at hl 0 rfl) ?_
      refine lv_aload_n hx hb d_Model_add_11 rfl (lv_at hl 0 rfl) ?_
      refine va_get (D := D) (ci := 2) (v := .ref (q 6)) (C := "KeySumsModel") (T := F_Model) (N := 14) hx hb hcm i_Model hown hK hP 0 rfl rfl 5 (by decide) (hcm _ kw_215) (fun _ h9 => h9) rfl d_Model_add_12 ?_
      refine lv_iload_n hx hb d_Model_add_15 rfl (lv_at hl 1 rfl) ?_
      refine kr_iald C0 hP 6 1 rfl rfl (k := k) (by omega) (by decide) d_Model_add_16 ?_
      refine cl_Vv C0 (ty := .int) (rest := []) (wr := []) [.int (tape k)] (c_Model_come l D cB cI kt tt q tape ln key g now result iss (by omega) _) (cwV 1 hcm (gd_V kw_269 kw_271 kw_3 kw_10 kw_272) rfl rfl rfl (by decide +kernel) ⟨Nat.le_of_ble_eq_true rfl, Nat.le_of_ble_eq_true rfl⟩) hP hD hS [0, 1, 2, 3, 4, 5, 6, 7, 8, 9, 10, 11] [] rfl rfl rfl rfl (by decide) rfl 0 rfl rfl rfl hl.1 (Nat.le_of_ble_eq_true rfl) d_Model_add_17 ⟨Nat.le_of_ble_eq_true rfl, Nat.le_of_ble_eq_true rfl⟩ (fun now H locs _ hP hD hS => ?_)
      have hP : va_P D classes (wM q cI tape (nI ln) key ((md_come g (tape k)).1) (h4 (md_come g (tape k)).2.1) (h4 now) (nI (md_come g (tape k)).2.2) result iss) H := hP
      have hD : va_D A (wM q cI tape (nI ln) key ((md_come g (tape k)).1) (h4 (md_come g (tape k)).2.1) (h4 now) (nI (md_come g (tape k)).2.2) result iss) := hD
      refine lv_iinc (v := nI (k + 1)) (lv' := [(1, .int (nI (k + 1))), (0, .ref (q 0))]) hx hb d_Model_add_20 hl (k := 1) rfl (nI_1 k) (by decide) rfl (fun ls hl => ?_)
      refine lv_goto (tgt := 2) hx hb d_Model_add_23 (by decide) ?_
      exact ih (k + 1) _ now H locs ls (by omega) (by rw [hg]; rfl) hP hD hS (lv_sub hl [1, 0] rfl)
set_option maxHeartbeats 4000000 in
set_option maxRecDepth 100000 in
/-- KeySumsModel.add: the tape comes -/
theorem c_Model_add (l : Launch) (D : va_G) (cB cI : ClassId) (kt tt : Nat) (q : Nat → Nat) (tape : Nat → Int32) (ln : Nat) (key : Nat → Int32) (g : Dg) (now : V4) (result : Nat → Int32) (iss : Int32) (hln : ln ≤ 2000) (hn : g.2.2 + ln < 2 ^ 31) : CtI l y_Model_add w_Model_add { frames := 3, cells := 0, slots := 0, locals := 70 } [.ref (q 0)] D (tyL cB cI) kt tt (wMg q cI tape ln key g now result iss) (fun (r : Int32) (_ : V4) => r = nI (g.2.2 + ln)) (fun (u : V4) => (wMg q cI tape 0 key (md_feed g tape ln) u result iss)) := by
  refine ctI_of (by decide) (Nat.le_of_ble_eq_true rfl) ?_
  intro p e s m below meth c A ls C0 hr hlk hin hP hD hl
  have C0 : Cx p s m _ c b_Model_add 2 "KeySumsModel" D (tyL cB cI) A kt tt := C0
  obtain ⟨hx, hb, hml, hown, hcm, hK, hA, hZ⟩ := id C0
  have hS : va_S A s.heap s.heap [] := va_S.rf
  have hl : lv_has ls 2 [(0, .ref (q 0))] := hl
  obtain ⟨H, hH⟩ : ∃ H, H = s.heap := ⟨_, rfl⟩
  have hP0 := hP
  rw [← hH] at hP
  have hS : va_S A s.heap H [] := by rw [hH]; exact hS
  suffices hgoal : W p l e _ s m _ below meth c H [] 0 0 _ (F0 m 0 ls []) by rw [hH] at hgoal; exact hgoal
  clear hP0 hH
  refine lv_iconst (v := nI 0) hx hb d_Model_add_0 (by decide) ?_
  refine lv_istore_n (lv' := [(1, .int (nI 0)), (0, .ref (q 0))]) hx hb d_Model_add_1 rfl hl (by decide) rfl (fun ls hl => ?_)
  refine lp_Madd C0 q tape ln key result iss hln g hn ?_ ln 0 g now H _ ls (by omega) rfl hP hD hS (lv_sub hl [1, 0] rfl)
  intro now H locs ls hP hD hS hl
  refine lv_aload_n hx hb d_Model_add_26 rfl (lv_at hl 0 rfl) ?_
  refine lv_iconst (v := nI 0) hx hb d_Model_add_27 (by decide) ?_
  refine va_put (D := D) (ci := 2) (v := .int (nI 0)) (ty := .int) (C := "KeySumsModel") (T := F_Model) (N := 14) hx hb hcm i_Model t_Model t_Model_ok n_Model hown hK hP hD hS 0 rfl rfl 6 (by decide) (hcm _ kw_216) (fun _ h9 => h9) rfl (by decide +kernel) rfl rfl (Nat.le_of_ble_eq_true rfl) d_Model_add_28 (fun H locs hP hD hS => ?_)
  have hP : va_P D classes (wM q cI tape (nI 0) key ((md_feed g tape ln).1) (h4 (md_feed g tape ln).2.1) (h4 now) (nI (md_feed g tape ln).2.2) result iss) H := hP
  have hD : va_D A (wM q cI tape (nI 0) key ((md_feed g tape ln).1) (h4 (md_feed g tape ln).2.1) (h4 now) (nI (md_feed g tape ln).2.2) result iss) := hD
  refine lv_aload_n hx hb d_Model_add_31 rfl (lv_at hl 0 rfl) ?_
  refine va_get (D := D) (ci := 2) (v := .int (nI (md_feed g tape ln).2.2)) (C := "KeySumsModel") (T := F_Model) (N := 14) hx hb hcm i_Model hown hK hP 0 rfl rfl 11 (by decide) (hcm _ kw_221) (fun _ h9 => h9) rfl d_Model_add_32 ?_
  exact kr_iret C0 now hr rfl hlk (by rw [md_feed_n]) hP hD hS d_Model_add_35
set_option maxHeartbeats 4000000 in
set_option maxRecDepth 100000 in
/-- KeySumsModel.fill: the loop -/
theorem lp_Mfill {p : Program} {l : Launch} {e : Env} {s : State} {m : MethodId} {args : Array Value} {below : List Frame} {meth : Method} {c : Code} {Q : State → Prop} {D : va_G} {cB cI : ClassId} {A : Nat → Prop} {kt tt : Nat} (C0 : Cx p s m args c b_Model_fill 4 "KeySumsModel" D (tyL cB cI) A kt tt) (q : Nat → Nat) (tape : Nat → Int32) (ln : Nat) (key : Nat → Int32) (result : Nat → Int32) (iss : Int32) (x : Nat) (hx4 : x ≤ 4000) (seed : Int32) (g0 : Dg) (hn : g0.2.2 + x < 2 ^ 31)
    (kk : ∀ (now : V4) (H : Heap) (locs : List Loc) (ls : Array Slot), va_P D classes (wMg q cI tape ln key (md_feed g0 (fun i => seed + nI 3 * nI i) x) now result iss) H → va_D A (wMg q cI tape ln key (md_feed g0 (fun i => seed + nI 3 * nI i) x) now result iss) → va_S A s.heap H locs → lv_has ls 4 [(0, .ref (q 0))] → W p l e ({ frames := 3, cells := 0, slots := 0, locals := 70 } : Room) s m args below meth c H locs 0 0 Q (F0 m 35 ls [])) :
    ∀ (z k : Nat) (g : Dg) (now : V4) (H : Heap) (locs : List Loc) (ls : Array Slot), k + z = x → g = md_feed g0 (fun i => seed + nI 3 * nI i) k → va_P D classes (wMg q cI tape ln key g now result iss) H → va_D A (wMg q cI tape ln key g now result iss) → va_S A s.heap H locs → lv_has ls 4 [(0, .ref (q 0)), (1, .int (nI x)), (2, .int seed), (3, .int (nI k))] → W p l e ({ frames := 3, cells := 0, slots := 0, locals := 70 } : Room) s m args below meth c H locs 0 0 Q (F0 m 15 ls []) := by
  obtain ⟨hx, hb, hml, hown, hcm, hK, hA, hZ⟩ := id C0
  intro z
  induction z with
  | zero =>
    intro k g now H locs ls hi hg hP hD hS hl
    refine lv_iload_n hx hb d_Model_fill_15 rfl (lv_at hl 3 rfl) ?_
    refine lv_iload_n hx hb d_Model_fill_16 rfl (lv_at hl 1 rfl) ?_
    refine kr_icmp_ge C0 (by omega) (by omega) (tgt := 35) d_Model_fill_17 (by decide) (fun c_17 => ?_) (fun c_17 => ?_)
    · obtain rfl : k = x := by omega
      subst hg
      exact kk now H locs ls hP hD hS (lv_sub hl [0] rfl)
    · exact absurd c_17 (by omega)
  | succ z ih =>
    intro k g now H locs ls hi hg hP hD hS hl
    refine lv_iload_n hx hb d_Model_fill_15 rfl (lv_at hl 3 rfl) ?_
    refine lv_iload_n hx hb d_Model_fill_16 rfl (lv_at hl 1 rfl) ?_
    refine kr_icmp_ge C0 (by omega) (by omega) (tgt := 35) d_Model_fill_17 (by decide) (fun c_17 => ?_) (fun c_17 => ?_)
    · exact absurd c_17 (by omega)
    · have hgn : g.2.2 = g0.2.2 + k := by rw [hg]; exact md_feed_n g0 _ k
      refine lv_aload_n hx hb d_Model_fill_20 rfl (lv_at hl 0 rfl) ?_
      refine lv_iload_n hx hb d_Model_fill_21 rfl (lv_at hl 2 rfl) ?_
      refine lv_iconst (v := nI 3) hx hb d_Model_fill_22 (by decide) ?_
      refine lv_iload_n hx hb d_Model_fill_23 rfl (lv_at hl 3 rfl) ?_
      refine lv_imul hx hb d_Model_fill_24 ?_
      refine lv_iadd hx hb d_Model_fill_25 ?_
      refine cl_Vv C0 (ty := .int) (rest := []) (wr := []) [.int (seed + ((nI 3) * (nI k)))] (c_Model_come l D cB cI kt tt q tape ln key g now result iss (by omega) _) (cwV 1 hcm (gd_V kw_269 kw_271 kw_3 kw_10 kw_272) rfl rfl rfl (by decide +kernel) ⟨Nat.le_of_ble_eq_true rfl, Nat.le_of_ble_eq_true rfl⟩) hP hD hS [0, 1, 2, 3, 4, 5, 6, 7, 8, 9, 10, 11] [] rfl rfl rfl rfl (by decide) rfl 0 rfl rfl rfl hl.1 (Nat.le_of_ble_eq_true rfl) d_Model_fill_26 ⟨Nat.le_of_ble_eq_true rfl, Nat.le_of_ble_eq_true rfl⟩ (fun now H locs _ hP hD hS => ?_)
      have hP : va_P D classes (wM q cI tape (nI ln) key ((md_come g (seed + ((nI 3) * (nI k)))).1) (h4 (md_come g (seed + ((nI 3) * (nI k)))).2.1) (h4 now) (nI (md_come g (seed + ((nI 3) * (nI k)))).2.2) result iss) H := hP
      have hD : va_D A (wM q cI tape (nI ln) key ((md_come g (seed + ((nI 3) * (nI k)))).1) (h4 (md_come g (seed + ((nI 3) * (nI k)))).2.1) (h4 now) (nI (md_come g (seed + ((nI 3) * (nI k)))).2.2) result iss) := hD
      refine lv_iinc (v := nI (k + 1)) (lv' := [(3, .int (nI (k + 1))), (0, .ref (q 0)), (1, .int (nI x)), (2, .int seed)]) hx hb d_Model_fill_29 hl (k := 3) rfl (nI_1 k) (by decide) rfl (fun ls hl => ?_)
      refine lv_goto (tgt := 15) hx hb d_Model_fill_32 (by decide) ?_
      exact ih (k + 1) _ now H locs ls (by omega) (by rw [hg]; rfl) hP hD hS (lv_sub hl [1, 2, 3, 0] rfl)
set_option maxHeartbeats 4000000 in
set_option maxRecDepth 100000 in
/-- KeySumsModel.fill: a count that fits -/
theorem c_Model_fill (l : Launch) (D : va_G) (cB cI : ClassId) (kt tt : Nat) (q : Nat → Nat) (tape : Nat → Int32) (ln : Nat) (key : Nat → Int32) (g : Dg) (now : V4) (result : Nat → Int32) (iss : Int32) (x : Nat) (hx4 : x ≤ 4000) (seed : Int32) (hn : g.2.2 + x < 2 ^ 31) : CtI l y_Model_fill w_Model_fill { frames := 3, cells := 0, slots := 0, locals := 70 } [.ref (q 0), .int (nI x), .int seed] D (tyL cB cI) kt tt (wMg q cI tape ln key g now result iss) (fun (r : Int32) (_ : V4) => r = nI (g.2.2 + x)) (fun (u : V4) => (wMg q cI tape ln key (md_feed g (fun i => seed + nI 3 * nI i) x) u result iss)) := by
  refine ctI_of (by decide) (Nat.le_of_ble_eq_true rfl) ?_
  intro p e s m below meth c A ls C0 hr hlk hin hP hD hl
  have C0 : Cx p s m _ c b_Model_fill 4 "KeySumsModel" D (tyL cB cI) A kt tt := C0
  obtain ⟨hx, hb, hml, hown, hcm, hK, hA, hZ⟩ := id C0
  have hS : va_S A s.heap s.heap [] := va_S.rf
  have hl : lv_has ls 4 [(0, .ref (q 0)), (1, .int (nI x)), (2, .int seed)] := hl
  obtain ⟨H, hH⟩ : ∃ H, H = s.heap := ⟨_, rfl⟩
  have hP0 := hP
  rw [← hH] at hP
  have hS : va_S A s.heap H [] := by rw [hH]; exact hS
  suffices hgoal : W p l e _ s m _ below meth c H [] 0 0 _ (F0 m 0 ls []) by rw [hH] at hgoal; exact hgoal
  clear hP0 hH
  refine lv_iload_n hx hb d_Model_fill_0 rfl (lv_at hl 1 rfl) ?_
  refine lv_if_lt (tgt := 11) hx hb d_Model_fill_1 (by decide) (fun h9 => absurd h9 (nI_pos (by omega))) (fun _ => ?_)
  refine lv_iload_n hx hb d_Model_fill_4 rfl (lv_at hl 1 rfl) ?_
  refine lv_sipush (v := nI 4000) hx hb d_Model_fill_5 (by decide) ?_
  refine kr_icmp_le C0 (by omega) (by decide) (tgt := 13) d_Model_fill_8 (by decide) (fun c_8 => ?_) (fun c_8 => ?_)
  · refine lv_iconst (v := nI 0) hx hb d_Model_fill_13 (by decide) ?_
    refine lv_istore_n (lv' := [(3, .int (nI 0)), (0, .ref (q 0)), (1, .int (nI x)), (2, .int seed)]) hx hb d_Model_fill_14 rfl hl (by decide) rfl (fun ls hl => ?_)
    refine lp_Mfill C0 q tape ln key result iss x hx4 seed g hn ?_ x 0 g now H _ ls (by omega) rfl hP hD hS (lv_sub hl [1, 2, 3, 0] rfl)
    intro now H locs ls hP hD hS hl
    refine lv_aload_n hx hb d_Model_fill_35 rfl (lv_at hl 0 rfl) ?_
    refine va_get (D := D) (ci := 2) (v := .int (nI (md_feed g (fun i => seed + nI 3 * nI i) x).2.2)) (C := "KeySumsModel") (T := F_Model) (N := 14) hx hb hcm i_Model hown hK hP 0 rfl rfl 11 (by decide) (hcm _ kw_221) (fun _ h9 => h9) rfl d_Model_fill_36 ?_
    exact kr_iret C0 now hr rfl hlk (by rw [md_feed_n]) hP hD hS d_Model_fill_39
  · exact absurd c_8 (by omega)
set_option maxHeartbeats 4000000 in
set_option maxRecDepth 100000 in
/-- KeySumsModel.fill: a count that fits not -/
theorem c_Model_fill_no (l : Launch) (D : va_G) (cB cI : ClassId) (kt tt : Nat) (q : Nat → Nat) (tape : Nat → Int32) (ln : Nat) (key : Nat → Int32) (g : Dg) (now : V4) (result : Nat → Int32) (iss : Int32) (x : Int32) (hno : x < 0 ∨ ¬ x ≤ nI 4000) (seed : Int32) : CtI l y_Model_fill w_Model_fill { frames := 3, cells := 0, slots := 0, locals := 70 } [.ref (q 0), .int x, .int seed] D (tyL cB cI) kt tt (wMg q cI tape ln key g now result iss) (fun (r : Int32) (_ : Unit) => r = -1) (fun (u : Unit) => (wMg q cI tape ln key g now result iss)) := by
  refine ctI_of (by decide) (Nat.le_of_ble_eq_true rfl) ?_
  intro p e s m below meth c A ls C0 hr hlk hin hP hD hl
  have C0 : Cx p s m _ c b_Model_fill 4 "KeySumsModel" D (tyL cB cI) A kt tt := C0
  obtain ⟨hx, hb, hml, hown, hcm, hK, hA, hZ⟩ := id C0
  have hS : va_S A s.heap s.heap [] := va_S.rf
  have hl : lv_has ls 4 [(0, .ref (q 0)), (1, .int x), (2, .int seed)] := hl
  obtain ⟨H, hH⟩ : ∃ H, H = s.heap := ⟨_, rfl⟩
  have hP0 := hP
  rw [← hH] at hP
  have hS : va_S A s.heap H [] := by rw [hH]; exact hS
  suffices hgoal : W p l e _ s m _ below meth c H [] 0 0 _ (F0 m 0 ls []) by rw [hH] at hgoal; exact hgoal
  clear hP0 hH
  refine lv_iload_n hx hb d_Model_fill_0 rfl (lv_at hl 1 rfl) ?_
  refine lv_if_lt (tgt := 11) hx hb d_Model_fill_1 (by decide) (fun c_1 => ?_) (fun c_1 => ?_)
  · refine lv_iconst (v := -1) hx hb d_Model_fill_11 (by decide) ?_
    exact kr_iret C0 () hr rfl hlk rfl hP hD hS d_Model_fill_12
  · refine lv_iload_n hx hb d_Model_fill_4 rfl (lv_at hl 1 rfl) ?_
    refine lv_sipush (v := nI 4000) hx hb d_Model_fill_5 (by decide) ?_
    refine lv_icmp_le (tgt := 13) hx hb d_Model_fill_8 (by decide) (fun c_8 => ?_) (fun c_8 => ?_)
    · exact absurd c_8 (hno.resolve_left c_1)
    · refine lv_iconst (v := -1) hx hb d_Model_fill_11 (by decide) ?_
      exact kr_iret C0 () hr rfl hlk rfl hP hD hS d_Model_fill_12
end
section
set_option maxHeartbeats 4000000 in
set_option maxRecDepth 100000 in
/-- KeySumsModel.sum: the key comes -/
theorem lp_Msum {p : Program} {l : Launch} {e : Env} {s : State} {m : MethodId} {args : Array Value} {below : List Frame} {meth : Method} {c : Code} {Q : State → Prop} {D : va_G} {cB cI : ClassId} {A : Nat → Prop} {kt tt : Nat} (C0 : Cx p s m args c b_Model_sum 6 "KeySumsModel" D (tyL cB cI) A kt tt) (q : Nat → Nat) (tape : Nat → Int32) (ln : Nat) (key : Nat → Int32) (result : Nat → Int32) (iss : Int32) (y : Nat) (g0 : Dg) (hn : g0.2.2 + 16 < 2 ^ 31)
    (kk : ∀ (now : V4) (H : Heap) (locs : List Loc) (ls : Array Slot), va_P D classes (wMg q cI tape ln key (md_feed g0 key 16) now result iss) H → va_D A (wMg q cI tape ln key (md_feed g0 key 16) now result iss) → va_S A s.heap H locs → lv_has ls 6 [(0, .ref (q 0)), (2, .int (nI y))] → W p l e ({ frames := 3, cells := 0, slots := 0, locals := 70 } : Room) s m args below meth c H locs 0 0 Q (F0 m 33 ls [])) :
    ∀ (z k : Nat) (g : Dg) (now : V4) (H : Heap) (locs : List Loc) (ls : Array Slot), k + z = 16 → g = md_feed g0 key k → va_P D classes (wMg q cI tape ln key g now result iss) H → va_D A (wMg q cI tape ln key g now result iss) → va_S A s.heap H locs → lv_has ls 6 [(0, .ref (q 0)), (1, .int (nI 1)), (2, .int (nI y)), (3, .int (nI k))] → W p l e ({ frames := 3, cells := 0, slots := 0, locals := 70 } : Room) s m args below meth c H locs 0 0 Q (F0 m 7 ls []) := by
  obtain ⟨hx, hb, hml, hown, hcm, hK, hA, hZ⟩ := id C0
  intro z
  induction z with
  | zero =>
    intro k g now H locs ls hi hg hP hD hS hl
    refine lv_iload_n hx hb d_Model_sum_7 rfl (lv_at hl 3 rfl) ?_
    refine lv_bipush (v := nI 16) hx hb d_Model_sum_8 (by decide) ?_
    refine kr_icmp_ge C0 (by omega) (by omega) (tgt := 33) d_Model_sum_10 (by decide) (fun c_10 => ?_) (fun c_10 => ?_)
    · obtain rfl : k = 16 := by omega
      subst hg
      exact kk now H locs ls hP hD hS (lv_sub hl [0, 2] rfl)
    · exact absurd c_10 (by omega)
  | succ z ih =>
    intro k g now H locs ls hi hg hP hD hS hl
    refine lv_iload_n hx hb d_Model_sum_7 rfl (lv_at hl 3 rfl) ?_
    refine lv_bipush (v := nI 16) hx hb d_Model_sum_8 (by decide) ?_
    refine kr_icmp_ge C0 (by omega) (by omega) (tgt := 33) d_Model_sum_10 (by decide) (fun c_10 => ?_) (fun c_10 => ?_)
    · exact absurd c_10 (by omega)
    · have hgn : g.2.2 = g0.2.2 + k := by rw [hg]; exact md_feed_n g0 _ k
      refine lv_iload_n hx hb d_Model_sum_13 rfl (lv_at hl 1 rfl) ?_
      refine lv_if_eq (tgt := 33) hx hb d_Model_sum_14 (by decide) (fun h9 => absurd h9 (by decide)) (fun _ => ?_)
      refine lv_aload_n hx hb d_Model_sum_17 rfl (lv_at hl 0 rfl) ?_
      refine lv_aload_n hx hb d_Model_sum_18 rfl (lv_at hl 0 rfl) ?_
      refine va_get (D := D) (ci := 2) (v := .ref (q 7)) (C := "KeySumsModel") (T := F_Model) (N := 14) hx hb hcm i_Model hown hK hP 0 rfl rfl 7 (by decide) (hcm _ kw_217) (fun _ h9 => h9) rfl d_Model_sum_19 ?_
      refine lv_iload_n hx hb d_Model_sum_22 rfl (lv_at hl 3 rfl) ?_
      refine kr_iald C0 hP 7 1 rfl rfl (k := k) (by omega) (by decide) d_Model_sum_23 ?_
      refine cl_Vv C0 (ty := .int) (rest := []) (wr := []) [.int (key k)] (c_Model_come l D cB cI kt tt q tape ln key g now result iss (by omega) _) (cwV 1 hcm (gd_V kw_269 kw_271 kw_3 kw_10 kw_272) rfl rfl rfl (by decide +kernel) ⟨Nat.le_of_ble_eq_true rfl, Nat.le_of_ble_eq_true rfl⟩) hP hD hS [0, 1, 2, 3, 4, 5, 6, 7, 8, 9, 10, 11] [] rfl rfl rfl rfl (by decide) rfl 0 rfl rfl rfl hl.1 (Nat.le_of_ble_eq_true rfl) d_Model_sum_24 ⟨Nat.le_of_ble_eq_true rfl, Nat.le_of_ble_eq_true rfl⟩ (fun now H locs _ hP hD hS => ?_)
      have hP : va_P D classes (wM q cI tape (nI ln) key ((md_come g (key k)).1) (h4 (md_come g (key k)).2.1) (h4 now) (nI (md_come g (key k)).2.2) result iss) H := hP
      have hD : va_D A (wM q cI tape (nI ln) key ((md_come g (key k)).1) (h4 (md_come g (key k)).2.1) (h4 now) (nI (md_come g (key k)).2.2) result iss) := hD
      refine lv_iinc (v := nI (k + 1)) (lv' := [(3, .int (nI (k + 1))), (0, .ref (q 0)), (1, .int (nI 1)), (2, .int (nI y))]) hx hb d_Model_sum_27 hl (k := 3) rfl (nI_1 k) (by decide) rfl (fun ls hl => ?_)
      refine lv_goto (tgt := 7) hx hb d_Model_sum_30 (by decide) ?_
      exact ih (k + 1) _ now H locs ls (by omega) (by rw [hg]; rfl) hP hD hS (lv_sub hl [1, 2, 3, 0] rfl)
set_option maxHeartbeats 4000000 in
set_option maxRecDepth 100000 in
/-- KeySumsModel.sum: zeros until 56 -/
theorem lp_Msum1 {p : Program} {l : Launch} {e : Env} {s : State} {m : MethodId} {args : Array Value} {below : List Frame} {meth : Method} {c : Code} {Q : State → Prop} {D : va_G} {cB cI : ClassId} {A : Nat → Prop} {kt tt : Nat} (C0 : Cx p s m args c b_Model_sum 6 "KeySumsModel" D (tyL cB cI) A kt tt) (q : Nat → Nat) (tape : Nat → Int32) (ln : Nat) (key : Nat → Int32) (result : Nat → Int32) (iss : Int32) (y : Nat) (bits : Int64) (G0 : Dg)
    (kk : ∀ (now : V4) (H : Heap) (locs : List Loc) (ls : Array Slot), va_P D classes (wMg q cI tape ln key G0 now result iss) H → va_D A (wMg q cI tape ln key G0 now result iss) → va_S A s.heap H locs → lv_has ls 6 [(0, .ref (q 0)), (2, .int (nI y)), (3, .long bits)] → W p l e ({ frames := 3, cells := 0, slots := 0, locals := 70 } : Room) s m args below meth c H locs 0 0 Q (F0 m 70 ls [])) :
    ∀ (n : Nat) (g : Dg) (now : V4) (H : Heap) (locs : List Loc) (ls : Array Slot), md_rem g.2.2 = n → g.2.2 + n + 1 < 2 ^ 31 → md_pad g n = G0 → va_P D classes (wMg q cI tape ln key g now result iss) H → va_D A (wMg q cI tape ln key g now result iss) → va_S A s.heap H locs → lv_has ls 6 [(0, .ref (q 0)), (2, .int (nI y)), (3, .long bits)] → W p l e ({ frames := 3, cells := 0, slots := 0, locals := 70 } : Room) s m args below meth c H locs 0 0 Q (F0 m 50 ls []) := by
  obtain ⟨hx, hb, hml, hown, hcm, hK, hA, hZ⟩ := id C0
  intro n
  induction n with
  | zero =>
    intro g now H locs ls hn hn2 hg hP hD hS hl
    refine lv_aload_n hx hb d_Model_sum_50 rfl (lv_at hl 0 rfl) ?_
    refine va_get (D := D) (ci := 2) (v := .int (nI g.2.2)) (C := "KeySumsModel") (T := F_Model) (N := 14) hx hb hcm i_Model hown hK hP 0 rfl rfl 11 (by decide) (hcm _ kw_221) (fun _ h9 => h9) rfl d_Model_sum_51 ?_
    refine lv_bipush (v := nI 64) hx hb d_Model_sum_54 (by decide) ?_
    refine lv_irem hx hb d_Model_sum_56 (by decide) ?_
    refine kt_i (y := nI (g.2.2 % 64)) (pk_rem (by omega) (by decide) (by decide)) ?_
    refine lv_bipush (v := nI 56) hx hb d_Model_sum_57 (by decide) ?_
    refine kr_icmp_eq C0 (by omega) (by decide) (tgt := 70) d_Model_sum_59 (by decide) (fun c_59 => ?_) (fun c_59 => ?_)
    · subst hg
      exact kk now H locs ls hP hD hS hl
    · exact absurd (md_rem_lo hn) c_59
  | succ n ih =>
    intro g now H locs ls hn hn2 hg hP hD hS hl
    refine lv_aload_n hx hb d_Model_sum_50 rfl (lv_at hl 0 rfl) ?_
    refine va_get (D := D) (ci := 2) (v := .int (nI g.2.2)) (C := "KeySumsModel") (T := F_Model) (N := 14) hx hb hcm i_Model hown hK hP 0 rfl rfl 11 (by decide) (hcm _ kw_221) (fun _ h9 => h9) rfl d_Model_sum_51 ?_
    refine lv_bipush (v := nI 64) hx hb d_Model_sum_54 (by decide) ?_
    refine lv_irem hx hb d_Model_sum_56 (by decide) ?_
    refine kt_i (y := nI (g.2.2 % 64)) (pk_rem (by omega) (by decide) (by decide)) ?_
    refine lv_bipush (v := nI 56) hx hb d_Model_sum_57 (by decide) ?_
    refine kr_icmp_eq C0 (by omega) (by decide) (tgt := 70) d_Model_sum_59 (by decide) (fun c_59 => ?_) (fun c_59 => ?_)
    · rw [md_rem_0 c_59] at hn
      cases hn
    · refine lv_aload_n hx hb d_Model_sum_62 rfl (lv_at hl 0 rfl) ?_
      refine lv_iconst (v := nI 0) hx hb d_Model_sum_63 (by decide) ?_
      refine cl_Vv C0 (ty := .int) (rest := []) (wr := []) [.int (nI 0)] (c_Model_come l D cB cI kt tt q tape ln key g now result iss (by omega) _) (cwV 1 hcm (gd_V kw_269 kw_271 kw_3 kw_10 kw_272) rfl rfl rfl (by decide +kernel) ⟨Nat.le_of_ble_eq_true rfl, Nat.le_of_ble_eq_true rfl⟩) hP hD hS [0, 1, 2, 3, 4, 5, 6, 7, 8, 9, 10, 11] [] rfl rfl rfl rfl (by decide) rfl 0 rfl rfl rfl hl.1 (Nat.le_of_ble_eq_true rfl) d_Model_sum_64 ⟨Nat.le_of_ble_eq_true rfl, Nat.le_of_ble_eq_true rfl⟩ (fun now H locs _ hP hD hS => ?_)
      have hP : va_P D classes (wM q cI tape (nI ln) key ((md_come g (nI 0)).1) (h4 (md_come g (nI 0)).2.1) (h4 now) (nI (md_come g (nI 0)).2.2) result iss) H := hP
      have hD : va_D A (wM q cI tape (nI ln) key ((md_come g (nI 0)).1) (h4 (md_come g (nI 0)).2.1) (h4 now) (nI (md_come g (nI 0)).2.2) result iss) := hD
      refine lv_goto (tgt := 50) hx hb d_Model_sum_67 (by decide) ?_
      exact ih _ now H locs ls (by have := md_rem_s c_59; rw [hn] at this; exact (Nat.succ.inj this).symm) (by show g.2.2 + 1 + n + 1 < 2 ^ 31; omega) (by rw [← md_pad_s]; exact hg) hP hD hS hl
set_option maxHeartbeats 4000000 in
set_option maxRecDepth 100000 in
/-- KeySumsModel.sum: the count of bits -/
theorem lp_Msum2 {p : Program} {l : Launch} {e : Env} {s : State} {m : MethodId} {args : Array Value} {below : List Frame} {meth : Method} {c : Code} {Q : State → Prop} {D : va_G} {cB cI : ClassId} {A : Nat → Prop} {kt tt : Nat} (C0 : Cx p s m args c b_Model_sum 6 "KeySumsModel" D (tyL cB cI) A kt tt) (q : Nat → Nat) (tape : Nat → Int32) (ln : Nat) (key : Nat → Int32) (result : Nat → Int32) (iss : Int32) (y : Nat) (bits : Int64) (g0 : Dg) (hn : g0.2.2 + 8 < 2 ^ 31)
    (kk : ∀ (now : V4) (H : Heap) (locs : List Loc) (ls : Array Slot), va_P D classes (wMg q cI tape ln key (md_feed g0 (md_bit bits) 8) now result iss) H → va_D A (wMg q cI tape ln key (md_feed g0 (md_bit bits) 8) now result iss) → va_S A s.heap H locs → lv_has ls 6 [(0, .ref (q 0)), (2, .int (nI y))] → W p l e ({ frames := 3, cells := 0, slots := 0, locals := 70 } : Room) s m args below meth c H locs 0 0 Q (F0 m 102 ls [])) :
    ∀ (z k : Nat) (g : Dg) (now : V4) (H : Heap) (locs : List Loc) (ls : Array Slot), k + z = 8 → g = md_feed g0 (md_bit bits) k → va_P D classes (wMg q cI tape ln key g now result iss) H → va_D A (wMg q cI tape ln key g now result iss) → va_S A s.heap H locs → lv_has ls 6 [(0, .ref (q 0)), (2, .int (nI y)), (3, .long bits), (5, .int (nI k))] → W p l e ({ frames := 3, cells := 0, slots := 0, locals := 70 } : Room) s m args below meth c H locs 0 0 Q (F0 m 73 ls []) := by
  obtain ⟨hx, hb, hml, hown, hcm, hK, hA, hZ⟩ := id C0
  intro z
  induction z with
  | zero =>
    intro k g now H locs ls hi hg hP hD hS hl
    refine lv_iload hx hb d_Model_sum_73 (lv_at hl 3 rfl) ?_
    refine lv_bipush (v := nI 8) hx hb d_Model_sum_75 (by decide) ?_
    refine kr_icmp_ge C0 (by omega) (by omega) (tgt := 102) d_Model_sum_77 (by decide) (fun c_77 => ?_) (fun c_77 => ?_)
    · obtain rfl : k = 8 := by omega
      subst hg
      exact kk now H locs ls hP hD hS (lv_sub hl [0, 1] rfl)
    · exact absurd c_77 (by omega)
  | succ z ih =>
    intro k g now H locs ls hi hg hP hD hS hl
    refine lv_iload hx hb d_Model_sum_73 (lv_at hl 3 rfl) ?_
    refine lv_bipush (v := nI 8) hx hb d_Model_sum_75 (by decide) ?_
    refine kr_icmp_ge C0 (by omega) (by omega) (tgt := 102) d_Model_sum_77 (by decide) (fun c_77 => ?_) (fun c_77 => ?_)
    · exact absurd c_77 (by omega)
    · have hgn : g.2.2 = g0.2.2 + k := by rw [hg]; exact md_feed_n g0 _ k
      refine lv_aload_n hx hb d_Model_sum_80 rfl (lv_at hl 0 rfl) ?_
      refine lv_lload_n hx hb d_Model_sum_81 rfl (lv_at hl 2 rfl) ?_
      refine lv_bipush (v := nI 8) hx hb d_Model_sum_82 (by decide) ?_
      refine lv_iload hx hb d_Model_sum_84 (lv_at hl 3 rfl) ?_
      refine lv_imul hx hb d_Model_sum_86 ?_
      refine lv_lshr hx hb d_Model_sum_87 rfl ?_
      refine lv_l2i hx hb d_Model_sum_88 rfl ?_
      refine lv_sipush (v := nI 255) hx hb d_Model_sum_89 (by decide) ?_
      refine lv_iand hx hb d_Model_sum_92 ?_
      refine cl_Vv C0 (ty := .int) (rest := []) (wr := []) [.int (((bits >>> (((nI 8) * (nI k)).toInt64 &&& 63)).toInt32) &&& (nI 255))] (c_Model_come l D cB cI kt tt q tape ln key g now result iss (by omega) _) (cwV 1 hcm (gd_V kw_269 kw_271 kw_3 kw_10 kw_272) rfl rfl rfl (by decide +kernel) ⟨Nat.le_of_ble_eq_true rfl, Nat.le_of_ble_eq_true rfl⟩) hP hD hS [0, 1, 2, 3, 4, 5, 6, 7, 8, 9, 10, 11] [] rfl rfl rfl rfl (by decide) rfl 0 rfl rfl rfl hl.1 (Nat.le_of_ble_eq_true rfl) d_Model_sum_93 ⟨Nat.le_of_ble_eq_true rfl, Nat.le_of_ble_eq_true rfl⟩ (fun now H locs _ hP hD hS => ?_)
      have hP : va_P D classes (wM q cI tape (nI ln) key ((md_come g (((bits >>> (((nI 8) * (nI k)).toInt64 &&& 63)).toInt32) &&& (nI 255))).1) (h4 (md_come g (((bits >>> (((nI 8) * (nI k)).toInt64 &&& 63)).toInt32) &&& (nI 255))).2.1) (h4 now) (nI (md_come g (((bits >>> (((nI 8) * (nI k)).toInt64 &&& 63)).toInt32) &&& (nI 255))).2.2) result iss) H := hP
      have hD : va_D A (wM q cI tape (nI ln) key ((md_come g (((bits >>> (((nI 8) * (nI k)).toInt64 &&& 63)).toInt32) &&& (nI 255))).1) (h4 (md_come g (((bits >>> (((nI 8) * (nI k)).toInt64 &&& 63)).toInt32) &&& (nI 255))).2.1) (h4 now) (nI (md_come g (((bits >>> (((nI 8) * (nI k)).toInt64 &&& 63)).toInt32) &&& (nI 255))).2.2) result iss) := hD
      rw [md_come_and] at hP hD
      refine lv_iinc (v := nI (k + 1)) (lv' := [(5, .int (nI (k + 1))), (0, .ref (q 0)), (2, .int (nI y)), (3, .long bits)]) hx hb d_Model_sum_96 hl (k := 3) rfl (nI_1 k) (by decide) rfl (fun ls hl => ?_)
      refine lv_goto (tgt := 73) hx hb d_Model_sum_99 (by decide) ?_
      exact ih (k + 1) _ now H locs ls (by omega) (by rw [hg]; rfl) hP hD hS (lv_sub hl [1, 2, 3, 0] rfl)
set_option maxHeartbeats 4000000 in
set_option maxRecDepth 100000 in
/-- KeySumsModel.sum: the sum goes out -/
theorem lp_Msum3 {p : Program} {l : Launch} {e : Env} {s : State} {m : MethodId} {args : Array Value} {below : List Frame} {meth : Method} {c : Code} {Q : State → Prop} {D : va_G} {cB cI : ClassId} {A : Nat → Prop} {kt tt : Nat} (C0 : Cx p s m args c b_Model_sum 6 "KeySumsModel" D (tyL cB cI) A kt tt) (q : Nat → Nat) (tape : Nat → Int32) (ln : Nat) (key : Nat → Int32) (g : Dg) (now : V4) (iss : Int32) (y : Nat)
    (kk : ∀ (result : Nat → Int32) (H : Heap) (locs : List Loc) (ls : Array Slot), (∀ j, j < 16 → result j = md_res g.2.1 j) → va_P D classes (wMg q cI tape ln key g now result iss) H → va_D A (wMg q cI tape ln key g now result iss) → va_S A s.heap H locs → lv_has ls 6 [(0, .ref (q 0)), (2, .int (nI y))] → W p l e ({ frames := 3, cells := 0, slots := 0, locals := 70 } : Room) s m args below meth c H locs 0 0 Q (F0 m 146 ls [])) :
    ∀ (n k : Nat) (result : Nat → Int32) (H : Heap) (locs : List Loc) (ls : Array Slot), k + n = 16 → (∀ j, j < k → result j = md_res g.2.1 j) → va_P D classes (wMg q cI tape ln key g now result iss) H → va_D A (wMg q cI tape ln key g now result iss) → va_S A s.heap H locs → lv_has ls 6 [(0, .ref (q 0)), (2, .int (nI y)), (5, .int (nI k))] → W p l e ({ frames := 3, cells := 0, slots := 0, locals := 70 } : Room) s m args below meth c H locs 0 0 Q (F0 m 105 ls []) := by
  obtain ⟨hx, hb, hml, hown, hcm, hK, hA, hZ⟩ := id C0
  intro n
  induction n with
  | zero =>
    intro k result H locs ls hn hinv hP hD hS hl
    refine lv_iload hx hb d_Model_sum_105 (lv_at hl 2 rfl) ?_
    refine lv_bipush (v := nI 16) hx hb d_Model_sum_107 (by decide) ?_
    refine kr_icmp_ge C0 (by omega) (by omega) (tgt := 146) d_Model_sum_109 (by decide) (fun c_109 => ?_) (fun c_109 => ?_)
    · exact kk result H locs ls (fun j hj => hinv j (by omega)) hP hD hS (lv_sub hl [0, 1] rfl)
    · exact absurd c_109 (by omega)
  | succ n ih =>
    intro k result H locs ls hn hinv hP hD hS hl
    refine lv_iload hx hb d_Model_sum_105 (lv_at hl 2 rfl) ?_
    refine lv_bipush (v := nI 16) hx hb d_Model_sum_107 (by decide) ?_
    refine kr_icmp_ge C0 (by omega) (by omega) (tgt := 146) d_Model_sum_109 (by decide) (fun c_109 => ?_) (fun c_109 => ?_)
    · exact absurd c_109 (by omega)
    · refine lv_aload_n hx hb d_Model_sum_112 rfl (lv_at hl 0 rfl) ?_
      refine va_get (D := D) (ci := 2) (v := .ref (q 11)) (C := "KeySumsModel") (T := F_Model) (N := 14) hx hb hcm i_Model hown hK hP 0 rfl rfl 12 (by decide) (hcm _ kw_222) (fun _ h9 => h9) rfl d_Model_sum_113 ?_
      refine lv_iload hx hb d_Model_sum_116 (lv_at hl 2 rfl) ?_
      refine lv_aload_n hx hb d_Model_sum_118 rfl (lv_at hl 0 rfl) ?_
      refine va_get (D := D) (ci := 2) (v := .ref (q 9)) (C := "KeySumsModel") (T := F_Model) (N := 14) hx hb hcm i_Model hown hK hP 0 rfl rfl 9 (by decide) (hcm _ kw_219) (fun _ h9 => h9) rfl d_Model_sum_119 ?_
      refine lv_iload hx hb d_Model_sum_122 (lv_at hl 2 rfl) ?_
      refine lv_iconst (v := nI 4) hx hb d_Model_sum_124 (by decide) ?_
      refine lv_idiv hx hb d_Model_sum_125 (by decide) ?_
      refine kt_i (y := nI (k / 4)) (pk_div (by omega) (by decide) (by decide)) ?_
      refine kr_iald C0 hP 9 1 rfl rfl (k := k / 4) (by omega) (by decide) d_Model_sum_126 ?_
      refine lv_bipush (v := nI 8) hx hb d_Model_sum_127 (by decide) ?_
      refine lv_iload hx hb d_Model_sum_129 (lv_at hl 2 rfl) ?_
      refine lv_iconst (v := nI 4) hx hb d_Model_sum_131 (by decide) ?_
      refine lv_irem hx hb d_Model_sum_132 (by decide) ?_
      refine kt_i (y := nI (k % 4)) (pk_rem (by omega) (by decide) (by decide)) ?_
      refine lv_imul hx hb d_Model_sum_133 ?_
      refine lv_ishr hx hb d_Model_sum_134 ?_
      refine lv_sipush (v := nI 255) hx hb d_Model_sum_135 (by decide) ?_
      refine lv_iand hx hb d_Model_sum_138 ?_
      refine kt_i (y := md_res g.2.1 k) rfl ?_
      refine kr_iast C0 hP hD hS 11 1 rfl rfl (k := k) (x := md_res g.2.1 k) (by omega) (by decide) d_Model_sum_139 (fun H locs hP hD hS => ?_)
      have hP : va_P D classes (wM q cI tape (nI ln) key g.1 (h4 g.2.1) (h4 now) (nI g.2.2) (upd result k (md_res g.2.1 k)) iss) H := hP
      have hD : va_D A (wM q cI tape (nI ln) key g.1 (h4 g.2.1) (h4 now) (nI g.2.2) (upd result k (md_res g.2.1 k)) iss) := hD
      refine lv_iinc (v := nI (k + 1)) (lv' := [(5, .int (nI (k + 1))), (0, .ref (q 0)), (2, .int (nI y))]) hx hb d_Model_sum_140 hl (k := 2) rfl (nI_1 k) (by decide) rfl (fun ls hl => ?_)
      refine lv_goto (tgt := 105) hx hb d_Model_sum_143 (by decide) ?_
      exact ih (k + 1) _ H locs ls (by omega) (up_lt hinv) hP hD hS (lv_sub hl [1, 2, 0] rfl)
set_option maxHeartbeats 4000000 in
set_option maxRecDepth 100000 in
/-- KeySumsModel.sum: behind the key -/
theorem lp_Msum4 {p : Program} {l : Launch} {e : Env} {s : State} {m : MethodId} {args : Array Value} {below : List Frame} {meth : Method} {c : Code} {D : va_G} {cB cI : ClassId} {A : Nat → Prop} {kt tt : Nat} (C0 : Cx p s m args c b_Model_sum 6 "KeySumsModel" D (tyL cB cI) A kt tt) (q : Nat → Nat) (tape : Nat → Int32) (ln : Nat) (key : Nat → Int32) (result : Nat → Int32) (iss : Int32) (y : Nat) (g : Dg) (now : V4) (hn : g.2.2 + 100 < 2 ^ 31) (H : Heap) (locs : List Loc) (ls : Array Slot) (hP : va_P D classes (wMg q cI tape ln key g now result iss) H) (hD : va_D A (wMg q cI tape ln key g now result iss)) (hS : va_S A s.heap H locs) (hl : lv_has ls 6 [(0, .ref (q 0)), (2, .int (nI y))])
    (hr : meth.sig.returnType = some .int) (hlk : meth.locks = false) : W p l e ({ frames := 3, cells := 0, slots := 0, locals := 70 } : Room) s m args below meth c H locs 0 0 (MQ below (va_Qi (fun (r : Int32) (u : (Nat → Int32) × V4) => r = nI y ∧ ∀ j, j < 16 → u.1 j = md_res (md_end g).2.1 j) (pk_E D (tyL cB cI) A (fun (u : (Nat → Int32) × V4) => (wMg q cI tape ln key ((md_end g).1, md_B, 0) u.2 u.1 (nI 1)))) A) args s 0 0 A) (F0 m 33 ls []) := by
  obtain ⟨hx, hb, hml, hown, hcm, hK, hA, hZ⟩ := id C0
  refine lv_ldc2 hx hb hown (hcm _ kw_297) d_Model_sum_33 ?_
  refine lv_aload_n hx hb d_Model_sum_36 rfl (lv_at hl 0 rfl) ?_
  refine va_get (D := D) (ci := 2) (v := .int (nI g.2.2)) (C := "KeySumsModel") (T := F_Model) (N := 14) hx hb hcm i_Model hown hK hP 0 rfl rfl 11 (by decide) (hcm _ kw_221) (fun _ h9 => h9) rfl d_Model_sum_37 ?_
  refine lv_i2l hx hb d_Model_sum_40 rfl ?_
  refine kt_l (y := lN g.2.2) (nI_l (by omega)) ?_
  refine lv_lmul hx hb d_Model_sum_41 ?_
  refine lv_lstore_n (lv' := [(3, .long (8 * (lN g.2.2))), (0, .ref (q 0)), (2, .int (nI y))]) hx hb d_Model_sum_42 rfl hl (by decide) rfl (fun ls hl => ?_)
  refine lv_aload_n hx hb d_Model_sum_43 rfl (lv_at hl 1 rfl) ?_
  refine lv_sipush (v := nI 128) hx hb d_Model_sum_44 (by decide) ?_
  refine cl_Vv C0 (ty := .int) (rest := []) (wr := []) [.int (nI 128)] (c_Model_come l D cB cI kt tt q tape ln key g now result iss (by omega) _) (cwV 1 hcm (gd_V kw_269 kw_271 kw_3 kw_10 kw_272) rfl rfl rfl (by decide +kernel) ⟨Nat.le_of_ble_eq_true rfl, Nat.le_of_ble_eq_true rfl⟩) hP hD hS [0, 1, 2, 3, 4, 5, 6, 7, 8, 9, 10, 11] [] rfl rfl rfl rfl (by decide) rfl 0 rfl rfl rfl hl.1 (Nat.le_of_ble_eq_true rfl) d_Model_sum_47 ⟨Nat.le_of_ble_eq_true rfl, Nat.le_of_ble_eq_true rfl⟩ (fun now H locs _ hP hD hS => ?_)
  have hP : va_P D classes (wM q cI tape (nI ln) key ((md_come g (nI 128)).1) (h4 (md_come g (nI 128)).2.1) (h4 now) (nI (md_come g (nI 128)).2.2) result iss) H := hP
  have hD : va_D A (wM q cI tape (nI ln) key ((md_come g (nI 128)).1) (h4 (md_come g (nI 128)).2.1) (h4 now) (nI (md_come g (nI 128)).2.2) result iss) := hD
  have hrl := md_rem_lt (g.2.2 + 1)
  refine lp_Msum1 C0 q tape ln key result iss y (8 * lN g.2.2) (md_pd g) ?_ _ (md_come g (nI 128)) now H locs ls rfl (by show g.2.2 + 1 + md_rem (g.2.2 + 1) + 1 < 2 ^ 31; omega) rfl hP hD hS (lv_sub hl [1, 2, 0] rfl)
  intro now H locs ls hP hD hS hl
  have hpn : (md_pd g).2.2 = g.2.2 + 1 + md_rem (g.2.2 + 1) := md_feed_n _ _ _
  refine lv_iconst (v := nI 0) hx hb d_Model_sum_70 (by decide) ?_
  refine lv_istore (lv' := [(5, .int (nI 0)), (0, .ref (q 0)), (2, .int (nI y)), (3, .long (8 * lN g.2.2))]) hx hb d_Model_sum_71 hl (by decide) rfl (fun ls hl => ?_)
  refine lp_Msum2 C0 q tape ln key result iss y (8 * lN g.2.2) (md_pd g) (by omega) ?_ 8 0 (md_pd g) now H locs ls (by decide) rfl hP hD hS (lv_sub hl [1, 2, 3, 0] rfl)
  intro now H locs ls hP hD hS hl
  refine lv_iconst (v := nI 0) hx hb d_Model_sum_102 (by decide) ?_
  refine lv_istore (lv' := [(5, .int (nI 0)), (0, .ref (q 0)), (2, .int (nI y))]) hx hb d_Model_sum_103 hl (by decide) rfl (fun ls hl => ?_)
  refine lp_Msum3 C0 q tape ln key (md_end g) now iss y ?_ 16 0 result H locs ls (by decide) (fun j hj => absurd hj (Nat.not_lt_zero j)) hP hD hS (lv_sub hl [1, 2, 0] rfl)
  intro result H locs ls hres hP hD hS hl
  refine lv_aload_n hx hb d_Model_sum_146 rfl (lv_at hl 0 rfl) ?_
  refine lv_iconst (v := nI 1) hx hb d_Model_sum_147 (by decide) ?_
  refine va_put (D := D) (ci := 2) (v := .int (nI 1)) (ty := .boolean) (C := "KeySumsModel") (T := F_Model) (N := 14) hx hb hcm i_Model t_Model t_Model_ok n_Model hown hK hP hD hS 0 rfl rfl 13 (by decide) (hcm _ kw_223) (fun _ h9 => h9) rfl (by decide +kernel) rfl rfl (Nat.le_of_ble_eq_true rfl) d_Model_sum_148 (fun H locs hP hD hS => ?_)
  have hP : va_P D classes (wM q cI tape (nI ln) key ((md_end g).1) (h4 (md_end g).2.1) (h4 now) (nI (md_end g).2.2) result (nI 1)) H := hP
  have hD : va_D A (wM q cI tape (nI ln) key ((md_end g).1) (h4 (md_end g).2.1) (h4 now) (nI (md_end g).2.2) result (nI 1)) := hD
  refine lv_aload_n hx hb d_Model_sum_151 rfl (lv_at hl 0 rfl) ?_
  refine cl_Vv C0 (ty := .int) (rest := []) (wr := []) [] (c_Model_anew l D cB cI kt tt q tape (nI ln) key (md_end g).1 (md_end g).2.1 (h4 now) (nI (md_end g).2.2) result (nI 1)) (cwV 0 hcm (gd_V kw_206 kw_208 kw_1 kw_10 kw_209) rfl rfl rfl (by decide +kernel) ⟨Nat.le_of_ble_eq_true rfl, Nat.le_of_ble_eq_true rfl⟩) hP hD hS [0, 1, 2, 3, 4, 5, 6, 7, 8, 9, 10, 11] [] rfl rfl rfl rfl (by decide) rfl 0 rfl rfl rfl hl.1 (Nat.le_of_ble_eq_true rfl) d_Model_sum_152 ⟨Nat.le_of_ble_eq_true rfl, Nat.le_of_ble_eq_true rfl⟩ (fun _ H locs _ hP hD hS => ?_)
  have hP : va_P D classes (wM q cI tape (nI ln) key ((md_end g).1) (h4 md_B) (h4 now) (nI 0) result (nI 1)) H := hP
  have hD : va_D A (wM q cI tape (nI ln) key ((md_end g).1) (h4 md_B) (h4 now) (nI 0) result (nI 1)) := hD
  refine lv_iload_n hx hb d_Model_sum_155 rfl (lv_at hl 1 rfl) ?_
  exact kr_iret C0 (result, now) hr rfl hlk ⟨rfl, hres⟩ hP hD hS d_Model_sum_156
set_option maxHeartbeats 4000000 in
set_option maxRecDepth 100000 in
/-- KeySumsModel.sum, without the key -/
theorem c_Model_sum0 (l : Launch) (D : va_G) (cB cI : ClassId) (kt tt : Nat) (q : Nat → Nat) (tape : Nat → Int32) (ln : Nat) (key : Nat → Int32) (g : Dg) (now : V4) (result : Nat → Int32) (iss : Int32) (hn : g.2.2 + 200 < 2 ^ 31) : CtI l y_Model_sum w_Model_sum { frames := 3, cells := 0, slots := 0, locals := 70 } [.ref (q 0), .int (nI 0)] D (tyL cB cI) kt tt (wMg q cI tape ln key g now result iss) (fun (r : Int32) (u : (Nat → Int32) × V4) => r = nI g.2.2 ∧ ∀ j, j < 16 → u.1 j = md_res (md_end g).2.1 j) (fun (u : (Nat → Int32) × V4) => (wMg q cI tape ln key ((md_end g).1, md_B, 0) u.2 u.1 (nI 1))) := by
  refine ctI_of (by decide) (Nat.le_of_ble_eq_true rfl) ?_
  intro p e s m below meth c A ls C0 hr hlk hin hP hD hl
  have C0 : Cx p s m _ c b_Model_sum 6 "KeySumsModel" D (tyL cB cI) A kt tt := C0
  obtain ⟨hx, hb, hml, hown, hcm, hK, hA, hZ⟩ := id C0
  have hS : va_S A s.heap s.heap [] := va_S.rf
  have hl : lv_has ls 6 [(0, .ref (q 0)), (1, .int (nI 0))] := hl
  obtain ⟨H, hH⟩ : ∃ H, H = s.heap := ⟨_, rfl⟩
  have hP0 := hP
  rw [← hH] at hP
  have hS : va_S A s.heap H [] := by rw [hH]; exact hS
  suffices hgoal : W p l e _ s m _ below meth c H [] 0 0 _ (F0 m 0 ls []) by rw [hH] at hgoal; exact hgoal
  clear hP0 hH
  refine lv_aload_n hx hb d_Model_sum_0 rfl (lv_at hl 0 rfl) ?_
  refine va_get (D := D) (ci := 2) (v := .int (nI g.2.2)) (C := "KeySumsModel") (T := F_Model) (N := 14) hx hb hcm i_Model hown hK hP 0 rfl rfl 11 (by decide) (hcm _ kw_221) (fun _ h9 => h9) rfl d_Model_sum_1 ?_
  refine lv_istore_n (lv' := [(2, .int (nI g.2.2)), (0, .ref (q 0)), (1, .int (nI 0))]) hx hb d_Model_sum_4 rfl hl (by decide) rfl (fun ls hl => ?_)
  refine lv_iconst (v := nI 0) hx hb d_Model_sum_5 (by decide) ?_
  refine lv_istore_n (lv' := [(3, .int (nI 0)), (2, .int (nI g.2.2)), (0, .ref (q 0)), (1, .int (nI 0))]) hx hb d_Model_sum_6 rfl hl (by decide) rfl (fun ls hl => ?_)
  refine lv_iload_n hx hb d_Model_sum_7 rfl (lv_at hl 0 rfl) ?_
  refine lv_bipush (v := nI 16) hx hb d_Model_sum_8 (by decide) ?_
  refine kr_icmp_ge C0 (by decide) (by decide) (tgt := 33) d_Model_sum_10 (by decide) (fun h9 => absurd h9 (by decide)) (fun _ => ?_)
  refine lv_iload_n hx hb d_Model_sum_13 rfl (lv_at hl 3 rfl) ?_
  refine lv_if_eq (tgt := 33) hx hb d_Model_sum_14 (by decide) (fun _ => ?_) (fun h9 => absurd rfl h9)
  exact lp_Msum4 C0 q tape ln key result iss g.2.2 g now (by omega) H _ ls hP hD hS (lv_sub hl [2, 1] rfl) hr hlk
set_option maxHeartbeats 4000000 in
set_option maxRecDepth 100000 in
/-- KeySumsModel.sum, with the key -/
theorem c_Model_sum1 (l : Launch) (D : va_G) (cB cI : ClassId) (kt tt : Nat) (q : Nat → Nat) (tape : Nat → Int32) (ln : Nat) (key : Nat → Int32) (g : Dg) (now : V4) (result : Nat → Int32) (iss : Int32) (hn : g.2.2 + 200 < 2 ^ 31) : CtI l y_Model_sum w_Model_sum { frames := 3, cells := 0, slots := 0, locals := 70 } [.ref (q 0), .int (nI 1)] D (tyL cB cI) kt tt (wMg q cI tape ln key g now result iss) (fun (r : Int32) (u : (Nat → Int32) × V4) => r = nI g.2.2 ∧ ∀ j, j < 16 → u.1 j = md_res (md_end (md_feed g key 16)).2.1 j) (fun (u : (Nat → Int32) × V4) => (wMg q cI tape ln key ((md_end (md_feed g key 16)).1, md_B, 0) u.2 u.1 (nI 1))) := by
  refine ctI_of (by decide) (Nat.le_of_ble_eq_true rfl) ?_
  intro p e s m below meth c A ls C0 hr hlk hin hP hD hl
  have C0 : Cx p s m _ c b_Model_sum 6 "KeySumsModel" D (tyL cB cI) A kt tt := C0
  obtain ⟨hx, hb, hml, hown, hcm, hK, hA, hZ⟩ := id C0
  have hS : va_S A s.heap s.heap [] := va_S.rf
  have hl : lv_has ls 6 [(0, .ref (q 0)), (1, .int (nI 1))] := hl
  obtain ⟨H, hH⟩ : ∃ H, H = s.heap := ⟨_, rfl⟩
  have hP0 := hP
  rw [← hH] at hP
  have hS : va_S A s.heap H [] := by rw [hH]; exact hS
  suffices hgoal : W p l e _ s m _ below meth c H [] 0 0 _ (F0 m 0 ls []) by rw [hH] at hgoal; exact hgoal
  clear hP0 hH
  refine lv_aload_n hx hb d_Model_sum_0 rfl (lv_at hl 0 rfl) ?_
  refine va_get (D := D) (ci := 2) (v := .int (nI g.2.2)) (C := "KeySumsModel") (T := F_Model) (N := 14) hx hb hcm i_Model hown hK hP 0 rfl rfl 11 (by decide) (hcm _ kw_221) (fun _ h9 => h9) rfl d_Model_sum_1 ?_
  refine lv_istore_n (lv' := [(2, .int (nI g.2.2)), (0, .ref (q 0)), (1, .int (nI 1))]) hx hb d_Model_sum_4 rfl hl (by decide) rfl (fun ls hl => ?_)
  refine lv_iconst (v := nI 0) hx hb d_Model_sum_5 (by decide) ?_
  refine lv_istore_n (lv' := [(3, .int (nI 0)), (2, .int (nI g.2.2)), (0, .ref (q 0)), (1, .int (nI 1))]) hx hb d_Model_sum_6 rfl hl (by decide) rfl (fun ls hl => ?_)
  refine lp_Msum C0 q tape ln key result iss g.2.2 g (by omega) ?_ 16 0 g now H _ ls (by decide) rfl hP hD hS (lv_sub hl [2, 3, 1, 0] rfl)
  intro now H locs ls hP hD hS hl
  exact lp_Msum4 C0 q tape ln key result iss g.2.2 (md_feed g key 16) now (by rw [md_feed_n]; omega) H _ ls hP hD hS hl hr hlk
end
section
set_option maxHeartbeats 4000000 in
set_option maxRecDepth 100000 in
/-- elements 0 to 15 -/
theorem mi_K0 {p : Program} {l : Launch} {e : Env} {s : State} {m : MethodId} {args : Array Value} {below : List Frame} {meth : Method} {c : Code} {cells slots : Nat} {Q : State → Prop} {D : va_G} {cB cI : ClassId} {A : Nat → Prop} {kt tt : Nat} (C0 : Cx p s m args c b_Model_init 1 "KeySumsModel" D (tyL cB cI) A kt tt) (h0 a7 : Nat) (fs : List Value) (ls : Array Slot)
    (kk : ∀ (f : Nat → Int32) (H : Heap) (locs : List Loc), (∀ j, j < 16 → f j = md_K j) → va_P D classes [(h0, .inr (2, fs)), (a7, .inl (cI, 64, .inl f))] H → va_D A [(h0, .inr (2, fs)), (a7, .inl (cI, 64, .inl f))] → va_S A s.heap H locs → W p l e ({ frames := 1, cells := 11, slots := 2196, locals := 21 } : Room) s m args below meth c H locs cells slots Q (F0 m 99 ls [.ref a7, .ref h0])) :
    ∀ (f : Nat → Int32) (H : Heap) (locs : List Loc), (∀ j, j < 0 → f j = md_K j) → va_P D classes [(h0, .inr (2, fs)), (a7, .inl (cI, 64, .inl f))] H → va_D A [(h0, .inr (2, fs)), (a7, .inl (cI, 64, .inl f))] → va_S A s.heap H locs → W p l e ({ frames := 1, cells := 11, slots := 2196, locals := 21 } : Room) s m args below meth c H locs cells slots Q (F0 m 9 ls [.ref a7, .ref h0]) := by
  obtain ⟨hx, hb, hml, hown, hcm, hK, hA, hZ⟩ := id C0
  intro f H locs hf hP hD hS
  refine lv_dup hx hb d_Model_init_9 rfl ?_
  refine lv_iconst (v := nI 0) hx hb d_Model_init_10 (by decide) ?_
  refine lv_ldc hx hb hown (hcm _ kw_138) d_Model_init_11 ?_
  refine kt_i (y := md_K 0) rfl ?_
  refine kr_iast C0 hP hD hS 1 1 rfl rfl (k := 0) (x := md_K 0) (by decide) (by decide) d_Model_init_13 (fun H locs hP hD hS => ?_)
  have hP : va_P D classes ([(h0, .inr (2, fs)), (a7, .inl (cI, 64, .inl (upd f 0 (md_K 0))))]) H := hP
  have hD : va_D A ([(h0, .inr (2, fs)), (a7, .inl (cI, 64, .inl (upd f 0 (md_K 0))))]) := hD
  have hf := up_lt hf
  generalize upd f 0 (md_K 0) = f at hf hP hD
  refine lv_dup hx hb d_Model_init_14 rfl ?_
  refine lv_iconst (v := nI 1) hx hb d_Model_init_15 (by decide) ?_
  refine lv_ldc hx hb hown (hcm _ kw_139) d_Model_init_16 ?_
  refine kt_i (y := md_K 1) rfl ?_
  refine kr_iast C0 hP hD hS 1 1 rfl rfl (k := 1) (x := md_K 1) (by decide) (by decide) d_Model_init_18 (fun H locs hP hD hS => ?_)
  have hP : va_P D classes ([(h0, .inr (2, fs)), (a7, .inl (cI, 64, .inl (upd f 1 (md_K 1))))]) H := hP
  have hD : va_D A ([(h0, .inr (2, fs)), (a7, .inl (cI, 64, .inl (upd f 1 (md_K 1))))]) := hD
  have hf := up_lt hf
  generalize upd f 1 (md_K 1) = f at hf hP hD
  refine lv_dup hx hb d_Model_init_19 rfl ?_
  refine lv_iconst (v := nI 2) hx hb d_Model_init_20 (by decide) ?_
  refine lv_ldc hx hb hown (hcm _ kw_140) d_Model_init_21 ?_
  refine kt_i (y := md_K 2) rfl ?_
  refine kr_iast C0 hP hD hS 1 1 rfl rfl (k := 2) (x := md_K 2) (by decide) (by decide) d_Model_init_23 (fun H locs hP hD hS => ?_)
  have hP : va_P D classes ([(h0, .inr (2, fs)), (a7, .inl (cI, 64, .inl (upd f 2 (md_K 2))))]) H := hP
  have hD : va_D A ([(h0, .inr (2, fs)), (a7, .inl (cI, 64, .inl (upd f 2 (md_K 2))))]) := hD
  have hf := up_lt hf
  generalize upd f 2 (md_K 2) = f at hf hP hD
  refine lv_dup hx hb d_Model_init_24 rfl ?_
  refine lv_iconst (v := nI 3) hx hb d_Model_init_25 (by decide) ?_
  refine lv_ldc hx hb hown (hcm _ kw_141) d_Model_init_26 ?_
  refine kt_i (y := md_K 3) rfl ?_
  refine kr_iast C0 hP hD hS 1 1 rfl rfl (k := 3) (x := md_K 3) (by decide) (by decide) d_Model_init_28 (fun H locs hP hD hS => ?_)
  have hP : va_P D classes ([(h0, .inr (2, fs)), (a7, .inl (cI, 64, .inl (upd f 3 (md_K 3))))]) H := hP
  have hD : va_D A ([(h0, .inr (2, fs)), (a7, .inl (cI, 64, .inl (upd f 3 (md_K 3))))]) := hD
  have hf := up_lt hf
  generalize upd f 3 (md_K 3) = f at hf hP hD
  refine lv_dup hx hb d_Model_init_29 rfl ?_
  refine lv_iconst (v := nI 4) hx hb d_Model_init_30 (by decide) ?_
  refine lv_ldc hx hb hown (hcm _ kw_142) d_Model_init_31 ?_
  refine kt_i (y := md_K 4) rfl ?_
  refine kr_iast C0 hP hD hS 1 1 rfl rfl (k := 4) (x := md_K 4) (by decide) (by decide) d_Model_init_33 (fun H locs hP hD hS => ?_)
  have hP : va_P D classes ([(h0, .inr (2, fs)), (a7, .inl (cI, 64, .inl (upd f 4 (md_K 4))))]) H := hP
  have hD : va_D A ([(h0, .inr (2, fs)), (a7, .inl (cI, 64, .inl (upd f 4 (md_K 4))))]) := hD
  have hf := up_lt hf
  generalize upd f 4 (md_K 4) = f at hf hP hD
  refine lv_dup hx hb d_Model_init_34 rfl ?_
  refine lv_iconst (v := nI 5) hx hb d_Model_init_35 (by decide) ?_
  refine lv_ldc hx hb hown (hcm _ kw_143) d_Model_init_36 ?_
  refine kt_i (y := md_K 5) rfl ?_
  refine kr_iast C0 hP hD hS 1 1 rfl rfl (k := 5) (x := md_K 5) (by decide) (by decide) d_Model_init_38 (fun H locs hP hD hS => ?_)
  have hP : va_P D classes ([(h0, .inr (2, fs)), (a7, .inl (cI, 64, .inl (upd f 5 (md_K 5))))]) H := hP
  have hD : va_D A ([(h0, .inr (2, fs)), (a7, .inl (cI, 64, .inl (upd f 5 (md_K 5))))]) := hD
  have hf := up_lt hf
  generalize upd f 5 (md_K 5) = f at hf hP hD
  refine lv_dup hx hb d_Model_init_39 rfl ?_
  refine lv_bipush (v := nI 6) hx hb d_Model_init_40 (by decide) ?_
  refine lv_ldc hx hb hown (hcm _ kw_144) d_Model_init_42 ?_
  refine kt_i (y := md_K 6) rfl ?_
  refine kr_iast C0 hP hD hS 1 1 rfl rfl (k := 6) (x := md_K 6) (by decide) (by decide) d_Model_init_44 (fun H locs hP hD hS => ?_)
  have hP : va_P D classes ([(h0, .inr (2, fs)), (a7, .inl (cI, 64, .inl (upd f 6 (md_K 6))))]) H := hP
  have hD : va_D A ([(h0, .inr (2, fs)), (a7, .inl (cI, 64, .inl (upd f 6 (md_K 6))))]) := hD
  have hf := up_lt hf
  generalize upd f 6 (md_K 6) = f at hf hP hD
  refine lv_dup hx hb d_Model_init_45 rfl ?_
  refine lv_bipush (v := nI 7) hx hb d_Model_init_46 (by decide) ?_
  refine lv_ldc hx hb hown (hcm _ kw_145) d_Model_init_48 ?_
  refine kt_i (y := md_K 7) rfl ?_
  refine kr_iast C0 hP hD hS 1 1 rfl rfl (k := 7) (x := md_K 7) (by decide) (by decide) d_Model_init_50 (fun H locs hP hD hS => ?_)
  have hP : va_P D classes ([(h0, .inr (2, fs)), (a7, .inl (cI, 64, .inl (upd f 7 (md_K 7))))]) H := hP
  have hD : va_D A ([(h0, .inr (2, fs)), (a7, .inl (cI, 64, .inl (upd f 7 (md_K 7))))]) := hD
  have hf := up_lt hf
  generalize upd f 7 (md_K 7) = f at hf hP hD
  refine lv_dup hx hb d_Model_init_51 rfl ?_
  refine lv_bipush (v := nI 8) hx hb d_Model_init_52 (by decide) ?_
  refine lv_ldc hx hb hown (hcm _ kw_146) d_Model_init_54 ?_
  refine kt_i (y := md_K 8) rfl ?_
  refine kr_iast C0 hP hD hS 1 1 rfl rfl (k := 8) (x := md_K 8) (by decide) (by decide) d_Model_init_56 (fun H locs hP hD hS => ?_)
  have hP : va_P D classes ([(h0, .inr (2, fs)), (a7, .inl (cI, 64, .inl (upd f 8 (md_K 8))))]) H := hP
  have hD : va_D A ([(h0, .inr (2, fs)), (a7, .inl (cI, 64, .inl (upd f 8 (md_K 8))))]) := hD
  have hf := up_lt hf
  generalize upd f 8 (md_K 8) = f at hf hP hD
  refine lv_dup hx hb d_Model_init_57 rfl ?_
  refine lv_bipush (v := nI 9) hx hb d_Model_init_58 (by decide) ?_
  refine lv_ldc hx hb hown (hcm _ kw_147) d_Model_init_60 ?_
  refine kt_i (y := md_K 9) rfl ?_
  refine kr_iast C0 hP hD hS 1 1 rfl rfl (k := 9) (x := md_K 9) (by decide) (by decide) d_Model_init_62 (fun H locs hP hD hS => ?_)
  have hP : va_P D classes ([(h0, .inr (2, fs)), (a7, .inl (cI, 64, .inl (upd f 9 (md_K 9))))]) H := hP
  have hD : va_D A ([(h0, .inr (2, fs)), (a7, .inl (cI, 64, .inl (upd f 9 (md_K 9))))]) := hD
  have hf := up_lt hf
  generalize upd f 9 (md_K 9) = f at hf hP hD
  refine lv_dup hx hb d_Model_init_63 rfl ?_
  refine lv_bipush (v := nI 10) hx hb d_Model_init_64 (by decide) ?_
  refine lv_ldc hx hb hown (hcm _ kw_148) d_Model_init_66 ?_
  refine kt_i (y := md_K 10) rfl ?_
  refine kr_iast C0 hP hD hS 1 1 rfl rfl (k := 10) (x := md_K 10) (by decide) (by decide) d_Model_init_68 (fun H locs hP hD hS => ?_)
  have hP : va_P D classes ([(h0, .inr (2, fs)), (a7, .inl (cI, 64, .inl (upd f 10 (md_K 10))))]) H := hP
  have hD : va_D A ([(h0, .inr (2, fs)), (a7, .inl (cI, 64, .inl (upd f 10 (md_K 10))))]) := hD
  have hf := up_lt hf
  generalize upd f 10 (md_K 10) = f at hf hP hD
  refine lv_dup hx hb d_Model_init_69 rfl ?_
  refine lv_bipush (v := nI 11) hx hb d_Model_init_70 (by decide) ?_
  refine lv_ldc hx hb hown (hcm _ kw_149) d_Model_init_72 ?_
  refine kt_i (y := md_K 11) rfl ?_
  refine kr_iast C0 hP hD hS 1 1 rfl rfl (k := 11) (x := md_K 11) (by decide) (by decide) d_Model_init_74 (fun H locs hP hD hS => ?_)
  have hP : va_P D classes ([(h0, .inr (2, fs)), (a7, .inl (cI, 64, .inl (upd f 11 (md_K 11))))]) H := hP
  have hD : va_D A ([(h0, .inr (2, fs)), (a7, .inl (cI, 64, .inl (upd f 11 (md_K 11))))]) := hD
  have hf := up_lt hf
  generalize upd f 11 (md_K 11) = f at hf hP hD
  refine lv_dup hx hb d_Model_init_75 rfl ?_
  refine lv_bipush (v := nI 12) hx hb d_Model_init_76 (by decide) ?_
  refine lv_ldc hx hb hown (hcm _ kw_150) d_Model_init_78 ?_
  refine kt_i (y := md_K 12) rfl ?_
  refine kr_iast C0 hP hD hS 1 1 rfl rfl (k := 12) (x := md_K 12) (by decide) (by decide) d_Model_init_80 (fun H locs hP hD hS => ?_)
  have hP : va_P D classes ([(h0, .inr (2, fs)), (a7, .inl (cI, 64, .inl (upd f 12 (md_K 12))))]) H := hP
  have hD : va_D A ([(h0, .inr (2, fs)), (a7, .inl (cI, 64, .inl (upd f 12 (md_K 12))))]) := hD
  have hf := up_lt hf
  generalize upd f 12 (md_K 12) = f at hf hP hD
  refine lv_dup hx hb d_Model_init_81 rfl ?_
  refine lv_bipush (v := nI 13) hx hb d_Model_init_82 (by decide) ?_
  refine lv_ldc hx hb hown (hcm _ kw_151) d_Model_init_84 ?_
  refine kt_i (y := md_K 13) rfl ?_
  refine kr_iast C0 hP hD hS 1 1 rfl rfl (k := 13) (x := md_K 13) (by decide) (by decide) d_Model_init_86 (fun H locs hP hD hS => ?_)
  have hP : va_P D classes ([(h0, .inr (2, fs)), (a7, .inl (cI, 64, .inl (upd f 13 (md_K 13))))]) H := hP
  have hD : va_D A ([(h0, .inr (2, fs)), (a7, .inl (cI, 64, .inl (upd f 13 (md_K 13))))]) := hD
  have hf := up_lt hf
  generalize upd f 13 (md_K 13) = f at hf hP hD
  refine lv_dup hx hb d_Model_init_87 rfl ?_
  refine lv_bipush (v := nI 14) hx hb d_Model_init_88 (by decide) ?_
  refine lv_ldc hx hb hown (hcm _ kw_152) d_Model_init_90 ?_
  refine kt_i (y := md_K 14) rfl ?_
  refine kr_iast C0 hP hD hS 1 1 rfl rfl (k := 14) (x := md_K 14) (by decide) (by decide) d_Model_init_92 (fun H locs hP hD hS => ?_)
  have hP : va_P D classes ([(h0, .inr (2, fs)), (a7, .inl (cI, 64, .inl (upd f 14 (md_K 14))))]) H := hP
  have hD : va_D A ([(h0, .inr (2, fs)), (a7, .inl (cI, 64, .inl (upd f 14 (md_K 14))))]) := hD
  have hf := up_lt hf
  generalize upd f 14 (md_K 14) = f at hf hP hD
  refine lv_dup hx hb d_Model_init_93 rfl ?_
  refine lv_bipush (v := nI 15) hx hb d_Model_init_94 (by decide) ?_
  refine lv_ldc hx hb hown (hcm _ kw_153) d_Model_init_96 ?_
  refine kt_i (y := md_K 15) rfl ?_
  refine kr_iast C0 hP hD hS 1 1 rfl rfl (k := 15) (x := md_K 15) (by decide) (by decide) d_Model_init_98 (fun H locs hP hD hS => ?_)
  have hP : va_P D classes ([(h0, .inr (2, fs)), (a7, .inl (cI, 64, .inl (upd f 15 (md_K 15))))]) H := hP
  have hD : va_D A ([(h0, .inr (2, fs)), (a7, .inl (cI, 64, .inl (upd f 15 (md_K 15))))]) := hD
  have hf := up_lt hf
  generalize upd f 15 (md_K 15) = f at hf hP hD
  exact kk f H locs hf hP hD hS
set_option maxHeartbeats 4000000 in
set_option maxRecDepth 100000 in
/-- elements 16 to 31 -/
theorem mi_K1 {p : Program} {l : Launch} {e : Env} {s : State} {m : MethodId} {args : Array Value} {below : List Frame} {meth : Method} {c : Code} {cells slots : Nat} {Q : State → Prop} {D : va_G} {cB cI : ClassId} {A : Nat → Prop} {kt tt : Nat} (C0 : Cx p s m args c b_Model_init 1 "KeySumsModel" D (tyL cB cI) A kt tt) (h0 a7 : Nat) (fs : List Value) (ls : Array Slot)
    (kk : ∀ (f : Nat → Int32) (H : Heap) (locs : List Loc), (∀ j, j < 32 → f j = md_K j) → va_P D classes [(h0, .inr (2, fs)), (a7, .inl (cI, 64, .inl f))] H → va_D A [(h0, .inr (2, fs)), (a7, .inl (cI, 64, .inl f))] → va_S A s.heap H locs → W p l e ({ frames := 1, cells := 11, slots := 2196, locals := 21 } : Room) s m args below meth c H locs cells slots Q (F0 m 195 ls [.ref a7, .ref h0])) :
    ∀ (f : Nat → Int32) (H : Heap) (locs : List Loc), (∀ j, j < 16 → f j = md_K j) → va_P D classes [(h0, .inr (2, fs)), (a7, .inl (cI, 64, .inl f))] H → va_D A [(h0, .inr (2, fs)), (a7, .inl (cI, 64, .inl f))] → va_S A s.heap H locs → W p l e ({ frames := 1, cells := 11, slots := 2196, locals := 21 } : Room) s m args below meth c H locs cells slots Q (F0 m 99 ls [.ref a7, .ref h0]) := by
  obtain ⟨hx, hb, hml, hown, hcm, hK, hA, hZ⟩ := id C0
  intro f H locs hf hP hD hS
  refine lv_dup hx hb d_Model_init_99 rfl ?_
  refine lv_bipush (v := nI 16) hx hb d_Model_init_100 (by decide) ?_
  refine lv_ldc hx hb hown (hcm _ kw_154) d_Model_init_102 ?_
  refine kt_i (y := md_K 16) rfl ?_
  refine kr_iast C0 hP hD hS 1 1 rfl rfl (k := 16) (x := md_K 16) (by decide) (by decide) d_Model_init_104 (fun H locs hP hD hS => ?_)
  have hP : va_P D classes ([(h0, .inr (2, fs)), (a7, .inl (cI, 64, .inl (upd f 16 (md_K 16))))]) H := hP
  have hD : va_D A ([(h0, .inr (2, fs)), (a7, .inl (cI, 64, .inl (upd f 16 (md_K 16))))]) := hD
  have hf := up_lt hf
  generalize upd f 16 (md_K 16) = f at hf hP hD
  refine lv_dup hx hb d_Model_init_105 rfl ?_
  refine lv_bipush (v := nI 17) hx hb d_Model_init_106 (by decide) ?_
  refine lv_ldc hx hb hown (hcm _ kw_155) d_Model_init_108 ?_
  refine kt_i (y := md_K 17) rfl ?_
  refine kr_iast C0 hP hD hS 1 1 rfl rfl (k := 17) (x := md_K 17) (by decide) (by decide) d_Model_init_110 (fun H locs hP hD hS => ?_)
  have hP : va_P D classes ([(h0, .inr (2, fs)), (a7, .inl (cI, 64, .inl (upd f 17 (md_K 17))))]) H := hP
  have hD : va_D A ([(h0, .inr (2, fs)), (a7, .inl (cI, 64, .inl (upd f 17 (md_K 17))))]) := hD
  have hf := up_lt hf
  generalize upd f 17 (md_K 17) = f at hf hP hD
  refine lv_dup hx hb d_Model_init_111 rfl ?_
  refine lv_bipush (v := nI 18) hx hb d_Model_init_112 (by decide) ?_
  refine lv_ldc hx hb hown (hcm _ kw_156) d_Model_init_114 ?_
  refine kt_i (y := md_K 18) rfl ?_
  refine kr_iast C0 hP hD hS 1 1 rfl rfl (k := 18) (x := md_K 18) (by decide) (by decide) d_Model_init_116 (fun H locs hP hD hS => ?_)
  have hP : va_P D classes ([(h0, .inr (2, fs)), (a7, .inl (cI, 64, .inl (upd f 18 (md_K 18))))]) H := hP
  have hD : va_D A ([(h0, .inr (2, fs)), (a7, .inl (cI, 64, .inl (upd f 18 (md_K 18))))]) := hD
  have hf := up_lt hf
  generalize upd f 18 (md_K 18) = f at hf hP hD
  refine lv_dup hx hb d_Model_init_117 rfl ?_
  refine lv_bipush (v := nI 19) hx hb d_Model_init_118 (by decide) ?_
  refine lv_ldc hx hb hown (hcm _ kw_157) d_Model_init_120 ?_
  refine kt_i (y := md_K 19) rfl ?_
  refine kr_iast C0 hP hD hS 1 1 rfl rfl (k := 19) (x := md_K 19) (by decide) (by decide) d_Model_init_122 (fun H locs hP hD hS => ?_)
  have hP : va_P D classes ([(h0, .inr (2, fs)), (a7, .inl (cI, 64, .inl (upd f 19 (md_K 19))))]) H := hP
  have hD : va_D A ([(h0, .inr (2, fs)), (a7, .inl (cI, 64, .inl (upd f 19 (md_K 19))))]) := hD
  have hf := up_lt hf
  generalize upd f 19 (md_K 19) = f at hf hP hD
  refine lv_dup hx hb d_Model_init_123 rfl ?_
  refine lv_bipush (v := nI 20) hx hb d_Model_init_124 (by decide) ?_
  refine lv_ldc hx hb hown (hcm _ kw_158) d_Model_init_126 ?_
  refine kt_i (y := md_K 20) rfl ?_
  refine kr_iast C0 hP hD hS 1 1 rfl rfl (k := 20) (x := md_K 20) (by decide) (by decide) d_Model_init_128 (fun H locs hP hD hS => ?_)
  have hP : va_P D classes ([(h0, .inr (2, fs)), (a7, .inl (cI, 64, .inl (upd f 20 (md_K 20))))]) H := hP
  have hD : va_D A ([(h0, .inr (2, fs)), (a7, .inl (cI, 64, .inl (upd f 20 (md_K 20))))]) := hD
  have hf := up_lt hf
  generalize upd f 20 (md_K 20) = f at hf hP hD
  refine lv_dup hx hb d_Model_init_129 rfl ?_
  refine lv_bipush (v := nI 21) hx hb d_Model_init_130 (by decide) ?_
  refine lv_ldc hx hb hown (hcm _ kw_159) d_Model_init_132 ?_
  refine kt_i (y := md_K 21) rfl ?_
  refine kr_iast C0 hP hD hS 1 1 rfl rfl (k := 21) (x := md_K 21) (by decide) (by decide) d_Model_init_134 (fun H locs hP hD hS => ?_)
  have hP : va_P D classes ([(h0, .inr (2, fs)), (a7, .inl (cI, 64, .inl (upd f 21 (md_K 21))))]) H := hP
  have hD : va_D A ([(h0, .inr (2, fs)), (a7, .inl (cI, 64, .inl (upd f 21 (md_K 21))))]) := hD
  have hf := up_lt hf
  generalize upd f 21 (md_K 21) = f at hf hP hD
  refine lv_dup hx hb d_Model_init_135 rfl ?_
  refine lv_bipush (v := nI 22) hx hb d_Model_init_136 (by decide) ?_
  refine lv_ldc hx hb hown (hcm _ kw_160) d_Model_init_138 ?_
  refine kt_i (y := md_K 22) rfl ?_
  refine kr_iast C0 hP hD hS 1 1 rfl rfl (k := 22) (x := md_K 22) (by decide) (by decide) d_Model_init_140 (fun H locs hP hD hS => ?_)
  have hP : va_P D classes ([(h0, .inr (2, fs)), (a7, .inl (cI, 64, .inl (upd f 22 (md_K 22))))]) H := hP
  have hD : va_D A ([(h0, .inr (2, fs)), (a7, .inl (cI, 64, .inl (upd f 22 (md_K 22))))]) := hD
  have hf := up_lt hf
  generalize upd f 22 (md_K 22) = f at hf hP hD
  refine lv_dup hx hb d_Model_init_141 rfl ?_
  refine lv_bipush (v := nI 23) hx hb d_Model_init_142 (by decide) ?_
  refine lv_ldc hx hb hown (hcm _ kw_161) d_Model_init_144 ?_
  refine kt_i (y := md_K 23) rfl ?_
  refine kr_iast C0 hP hD hS 1 1 rfl rfl (k := 23) (x := md_K 23) (by decide) (by decide) d_Model_init_146 (fun H locs hP hD hS => ?_)
  have hP : va_P D classes ([(h0, .inr (2, fs)), (a7, .inl (cI, 64, .inl (upd f 23 (md_K 23))))]) H := hP
  have hD : va_D A ([(h0, .inr (2, fs)), (a7, .inl (cI, 64, .inl (upd f 23 (md_K 23))))]) := hD
  have hf := up_lt hf
  generalize upd f 23 (md_K 23) = f at hf hP hD
  refine lv_dup hx hb d_Model_init_147 rfl ?_
  refine lv_bipush (v := nI 24) hx hb d_Model_init_148 (by decide) ?_
  refine lv_ldc hx hb hown (hcm _ kw_162) d_Model_init_150 ?_
  refine kt_i (y := md_K 24) rfl ?_
  refine kr_iast C0 hP hD hS 1 1 rfl rfl (k := 24) (x := md_K 24) (by decide) (by decide) d_Model_init_152 (fun H locs hP hD hS => ?_)
  have hP : va_P D classes ([(h0, .inr (2, fs)), (a7, .inl (cI, 64, .inl (upd f 24 (md_K 24))))]) H := hP
  have hD : va_D A ([(h0, .inr (2, fs)), (a7, .inl (cI, 64, .inl (upd f 24 (md_K 24))))]) := hD
  have hf := up_lt hf
  generalize upd f 24 (md_K 24) = f at hf hP hD
  refine lv_dup hx hb d_Model_init_153 rfl ?_
  refine lv_bipush (v := nI 25) hx hb d_Model_init_154 (by decide) ?_
  refine lv_ldc hx hb hown (hcm _ kw_163) d_Model_init_156 ?_
  refine kt_i (y := md_K 25) rfl ?_
  refine kr_iast C0 hP hD hS 1 1 rfl rfl (k := 25) (x := md_K 25) (by decide) (by decide) d_Model_init_158 (fun H locs hP hD hS => ?_)
  have hP : va_P D classes ([(h0, .inr (2, fs)), (a7, .inl (cI, 64, .inl (upd f 25 (md_K 25))))]) H := hP
  have hD : va_D A ([(h0, .inr (2, fs)), (a7, .inl (cI, 64, .inl (upd f 25 (md_K 25))))]) := hD
  have hf := up_lt hf
  generalize upd f 25 (md_K 25) = f at hf hP hD
  refine lv_dup hx hb d_Model_init_159 rfl ?_
  refine lv_bipush (v := nI 26) hx hb d_Model_init_160 (by decide) ?_
  refine lv_ldc hx hb hown (hcm _ kw_164) d_Model_init_162 ?_
  refine kt_i (y := md_K 26) rfl ?_
  refine kr_iast C0 hP hD hS 1 1 rfl rfl (k := 26) (x := md_K 26) (by decide) (by decide) d_Model_init_164 (fun H locs hP hD hS => ?_)
  have hP : va_P D classes ([(h0, .inr (2, fs)), (a7, .inl (cI, 64, .inl (upd f 26 (md_K 26))))]) H := hP
  have hD : va_D A ([(h0, .inr (2, fs)), (a7, .inl (cI, 64, .inl (upd f 26 (md_K 26))))]) := hD
  have hf := up_lt hf
  generalize upd f 26 (md_K 26) = f at hf hP hD
  refine lv_dup hx hb d_Model_init_165 rfl ?_
  refine lv_bipush (v := nI 27) hx hb d_Model_init_166 (by decide) ?_
  refine lv_ldc hx hb hown (hcm _ kw_165) d_Model_init_168 ?_
  refine kt_i (y := md_K 27) rfl ?_
  refine kr_iast C0 hP hD hS 1 1 rfl rfl (k := 27) (x := md_K 27) (by decide) (by decide) d_Model_init_170 (fun H locs hP hD hS => ?_)
  have hP : va_P D classes ([(h0, .inr (2, fs)), (a7, .inl (cI, 64, .inl (upd f 27 (md_K 27))))]) H := hP
  have hD : va_D A ([(h0, .inr (2, fs)), (a7, .inl (cI, 64, .inl (upd f 27 (md_K 27))))]) := hD
  have hf := up_lt hf
  generalize upd f 27 (md_K 27) = f at hf hP hD
  refine lv_dup hx hb d_Model_init_171 rfl ?_
  refine lv_bipush (v := nI 28) hx hb d_Model_init_172 (by decide) ?_
  refine lv_ldc hx hb hown (hcm _ kw_166) d_Model_init_174 ?_
  refine kt_i (y := md_K 28) rfl ?_
  refine kr_iast C0 hP hD hS 1 1 rfl rfl (k := 28) (x := md_K 28) (by decide) (by decide) d_Model_init_176 (fun H locs hP hD hS => ?_)
  have hP : va_P D classes ([(h0, .inr (2, fs)), (a7, .inl (cI, 64, .inl (upd f 28 (md_K 28))))]) H := hP
  have hD : va_D A ([(h0, .inr (2, fs)), (a7, .inl (cI, 64, .inl (upd f 28 (md_K 28))))]) := hD
  have hf := up_lt hf
  generalize upd f 28 (md_K 28) = f at hf hP hD
  refine lv_dup hx hb d_Model_init_177 rfl ?_
  refine lv_bipush (v := nI 29) hx hb d_Model_init_178 (by decide) ?_
  refine lv_ldc hx hb hown (hcm _ kw_167) d_Model_init_180 ?_
  refine kt_i (y := md_K 29) rfl ?_
  refine kr_iast C0 hP hD hS 1 1 rfl rfl (k := 29) (x := md_K 29) (by decide) (by decide) d_Model_init_182 (fun H locs hP hD hS => ?_)
  have hP : va_P D classes ([(h0, .inr (2, fs)), (a7, .inl (cI, 64, .inl (upd f 29 (md_K 29))))]) H := hP
  have hD : va_D A ([(h0, .inr (2, fs)), (a7, .inl (cI, 64, .inl (upd f 29 (md_K 29))))]) := hD
  have hf := up_lt hf
  generalize upd f 29 (md_K 29) = f at hf hP hD
  refine lv_dup hx hb d_Model_init_183 rfl ?_
  refine lv_bipush (v := nI 30) hx hb d_Model_init_184 (by decide) ?_
  refine lv_ldc hx hb hown (hcm _ kw_168) d_Model_init_186 ?_
  refine kt_i (y := md_K 30) rfl ?_
  refine kr_iast C0 hP hD hS 1 1 rfl rfl (k := 30) (x := md_K 30) (by decide) (by decide) d_Model_init_188 (fun H locs hP hD hS => ?_)
  have hP : va_P D classes ([(h0, .inr (2, fs)), (a7, .inl (cI, 64, .inl (upd f 30 (md_K 30))))]) H := hP
  have hD : va_D A ([(h0, .inr (2, fs)), (a7, .inl (cI, 64, .inl (upd f 30 (md_K 30))))]) := hD
  have hf := up_lt hf
  generalize upd f 30 (md_K 30) = f at hf hP hD
  refine lv_dup hx hb d_Model_init_189 rfl ?_
  refine lv_bipush (v := nI 31) hx hb d_Model_init_190 (by decide) ?_
  refine lv_ldc hx hb hown (hcm _ kw_169) d_Model_init_192 ?_
  refine kt_i (y := md_K 31) rfl ?_
  refine kr_iast C0 hP hD hS 1 1 rfl rfl (k := 31) (x := md_K 31) (by decide) (by decide) d_Model_init_194 (fun H locs hP hD hS => ?_)
  have hP : va_P D classes ([(h0, .inr (2, fs)), (a7, .inl (cI, 64, .inl (upd f 31 (md_K 31))))]) H := hP
  have hD : va_D A ([(h0, .inr (2, fs)), (a7, .inl (cI, 64, .inl (upd f 31 (md_K 31))))]) := hD
  have hf := up_lt hf
  generalize upd f 31 (md_K 31) = f at hf hP hD
  exact kk f H locs hf hP hD hS
set_option maxHeartbeats 4000000 in
set_option maxRecDepth 100000 in
/-- elements 32 to 47 -/
theorem mi_K2 {p : Program} {l : Launch} {e : Env} {s : State} {m : MethodId} {args : Array Value} {below : List Frame} {meth : Method} {c : Code} {cells slots : Nat} {Q : State → Prop} {D : va_G} {cB cI : ClassId} {A : Nat → Prop} {kt tt : Nat} (C0 : Cx p s m args c b_Model_init 1 "KeySumsModel" D (tyL cB cI) A kt tt) (h0 a7 : Nat) (fs : List Value) (ls : Array Slot)
    (kk : ∀ (f : Nat → Int32) (H : Heap) (locs : List Loc), (∀ j, j < 48 → f j = md_K j) → va_P D classes [(h0, .inr (2, fs)), (a7, .inl (cI, 64, .inl f))] H → va_D A [(h0, .inr (2, fs)), (a7, .inl (cI, 64, .inl f))] → va_S A s.heap H locs → W p l e ({ frames := 1, cells := 11, slots := 2196, locals := 21 } : Room) s m args below meth c H locs cells slots Q (F0 m 291 ls [.ref a7, .ref h0])) :
    ∀ (f : Nat → Int32) (H : Heap) (locs : List Loc), (∀ j, j < 32 → f j = md_K j) → va_P D classes [(h0, .inr (2, fs)), (a7, .inl (cI, 64, .inl f))] H → va_D A [(h0, .inr (2, fs)), (a7, .inl (cI, 64, .inl f))] → va_S A s.heap H locs → W p l e ({ frames := 1, cells := 11, slots := 2196, locals := 21 } : Room) s m args below meth c H locs cells slots Q (F0 m 195 ls [.ref a7, .ref h0]) := by
  obtain ⟨hx, hb, hml, hown, hcm, hK, hA, hZ⟩ := id C0
  intro f H locs hf hP hD hS
  refine lv_dup hx hb d_Model_init_195 rfl ?_
  refine lv_bipush (v := nI 32) hx hb d_Model_init_196 (by decide) ?_
  refine lv_ldc hx hb hown (hcm _ kw_170) d_Model_init_198 ?_
  refine kt_i (y := md_K 32) rfl ?_
  refine kr_iast C0 hP hD hS 1 1 rfl rfl (k := 32) (x := md_K 32) (by decide) (by decide) d_Model_init_200 (fun H locs hP hD hS => ?_)
  have hP : va_P D classes ([(h0, .inr (2, fs)), (a7, .inl (cI, 64, .inl (upd f 32 (md_K 32))))]) H := hP
  have hD : va_D A ([(h0, .inr (2, fs)), (a7, .inl (cI, 64, .inl (upd f 32 (md_K 32))))]) := hD
  have hf := up_lt hf
  generalize upd f 32 (md_K 32) = f at hf hP hD
  refine lv_dup hx hb d_Model_init_201 rfl ?_
  refine lv_bipush (v := nI 33) hx hb d_Model_init_202 (by decide) ?_
  refine lv_ldc hx hb hown (hcm _ kw_171) d_Model_init_204 ?_
  refine kt_i (y := md_K 33) rfl ?_
  refine kr_iast C0 hP hD hS 1 1 rfl rfl (k := 33) (x := md_K 33) (by decide) (by decide) d_Model_init_206 (fun H locs hP hD hS => ?_)
  have hP : va_P D classes ([(h0, .inr (2, fs)), (a7, .inl (cI, 64, .inl (upd f 33 (md_K 33))))]) H := hP
  have hD : va_D A ([(h0, .inr (2, fs)), (a7, .inl (cI, 64, .inl (upd f 33 (md_K 33))))]) := hD
  have hf := up_lt hf
  generalize upd f 33 (md_K 33) = f at hf hP hD
  refine lv_dup hx hb d_Model_init_207 rfl ?_
  refine lv_bipush (v := nI 34) hx hb d_Model_init_208 (by decide) ?_
  refine lv_ldc hx hb hown (hcm _ kw_172) d_Model_init_210 ?_
  refine kt_i (y := md_K 34) rfl ?_
  refine kr_iast C0 hP hD hS 1 1 rfl rfl (k := 34) (x := md_K 34) (by decide) (by decide) d_Model_init_212 (fun H locs hP hD hS => ?_)
  have hP : va_P D classes ([(h0, .inr (2, fs)), (a7, .inl (cI, 64, .inl (upd f 34 (md_K 34))))]) H := hP
  have hD : va_D A ([(h0, .inr (2, fs)), (a7, .inl (cI, 64, .inl (upd f 34 (md_K 34))))]) := hD
  have hf := up_lt hf
  generalize upd f 34 (md_K 34) = f at hf hP hD
  refine lv_dup hx hb d_Model_init_213 rfl ?_
  refine lv_bipush (v := nI 35) hx hb d_Model_init_214 (by decide) ?_
  refine lv_ldc hx hb hown (hcm _ kw_173) d_Model_init_216 ?_
  refine kt_i (y := md_K 35) rfl ?_
  refine kr_iast C0 hP hD hS 1 1 rfl rfl (k := 35) (x := md_K 35) (by decide) (by decide) d_Model_init_218 (fun H locs hP hD hS => ?_)
  have hP : va_P D classes ([(h0, .inr (2, fs)), (a7, .inl (cI, 64, .inl (upd f 35 (md_K 35))))]) H := hP
  have hD : va_D A ([(h0, .inr (2, fs)), (a7, .inl (cI, 64, .inl (upd f 35 (md_K 35))))]) := hD
  have hf := up_lt hf
  generalize upd f 35 (md_K 35) = f at hf hP hD
  refine lv_dup hx hb d_Model_init_219 rfl ?_
  refine lv_bipush (v := nI 36) hx hb d_Model_init_220 (by decide) ?_
  refine lv_ldc hx hb hown (hcm _ kw_174) d_Model_init_222 ?_
  refine kt_i (y := md_K 36) rfl ?_
  refine kr_iast C0 hP hD hS 1 1 rfl rfl (k := 36) (x := md_K 36) (by decide) (by decide) d_Model_init_224 (fun H locs hP hD hS => ?_)
  have hP : va_P D classes ([(h0, .inr (2, fs)), (a7, .inl (cI, 64, .inl (upd f 36 (md_K 36))))]) H := hP
  have hD : va_D A ([(h0, .inr (2, fs)), (a7, .inl (cI, 64, .inl (upd f 36 (md_K 36))))]) := hD
  have hf := up_lt hf
  generalize upd f 36 (md_K 36) = f at hf hP hD
  refine lv_dup hx hb d_Model_init_225 rfl ?_
  refine lv_bipush (v := nI 37) hx hb d_Model_init_226 (by decide) ?_
  refine lv_ldc hx hb hown (hcm _ kw_175) d_Model_init_228 ?_
  refine kt_i (y := md_K 37) rfl ?_
  refine kr_iast C0 hP hD hS 1 1 rfl rfl (k := 37) (x := md_K 37) (by decide) (by decide) d_Model_init_230 (fun H locs hP hD hS => ?_)
  have hP : va_P D classes ([(h0, .inr (2, fs)), (a7, .inl (cI, 64, .inl (upd f 37 (md_K 37))))]) H := hP
  have hD : va_D A ([(h0, .inr (2, fs)), (a7, .inl (cI, 64, .inl (upd f 37 (md_K 37))))]) := hD
  have hf := up_lt hf
  generalize upd f 37 (md_K 37) = f at hf hP hD
  refine lv_dup hx hb d_Model_init_231 rfl ?_
  refine lv_bipush (v := nI 38) hx hb d_Model_init_232 (by decide) ?_
  refine lv_ldc hx hb hown (hcm _ kw_176) d_Model_init_234 ?_
  refine kt_i (y := md_K 38) rfl ?_
  refine kr_iast C0 hP hD hS 1 1 rfl rfl (k := 38) (x := md_K 38) (by decide) (by decide) d_Model_init_236 (fun H locs hP hD hS => ?_)
  have hP : va_P D classes ([(h0, .inr (2, fs)), (a7, .inl (cI, 64, .inl (upd f 38 (md_K 38))))]) H := hP
  have hD : va_D A ([(h0, .inr (2, fs)), (a7, .inl (cI, 64, .inl (upd f 38 (md_K 38))))]) := hD
  have hf := up_lt hf
  generalize upd f 38 (md_K 38) = f at hf hP hD
  refine lv_dup hx hb d_Model_init_237 rfl ?_
  refine lv_bipush (v := nI 39) hx hb d_Model_init_238 (by decide) ?_
  refine lv_ldc hx hb hown (hcm _ kw_177) d_Model_init_240 ?_
  refine kt_i (y := md_K 39) rfl ?_
  refine kr_iast C0 hP hD hS 1 1 rfl rfl (k := 39) (x := md_K 39) (by decide) (by decide) d_Model_init_242 (fun H locs hP hD hS => ?_)
  have hP : va_P D classes ([(h0, .inr (2, fs)), (a7, .inl (cI, 64, .inl (upd f 39 (md_K 39))))]) H := hP
  have hD : va_D A ([(h0, .inr (2, fs)), (a7, .inl (cI, 64, .inl (upd f 39 (md_K 39))))]) := hD
  have hf := up_lt hf
  generalize upd f 39 (md_K 39) = f at hf hP hD
  refine lv_dup hx hb d_Model_init_243 rfl ?_
  refine lv_bipush (v := nI 40) hx hb d_Model_init_244 (by decide) ?_
  refine lv_ldc hx hb hown (hcm _ kw_178) d_Model_init_246 ?_
  refine kt_i (y := md_K 40) rfl ?_
  refine kr_iast C0 hP hD hS 1 1 rfl rfl (k := 40) (x := md_K 40) (by decide) (by decide) d_Model_init_248 (fun H locs hP hD hS => ?_)
  have hP : va_P D classes ([(h0, .inr (2, fs)), (a7, .inl (cI, 64, .inl (upd f 40 (md_K 40))))]) H := hP
  have hD : va_D A ([(h0, .inr (2, fs)), (a7, .inl (cI, 64, .inl (upd f 40 (md_K 40))))]) := hD
  have hf := up_lt hf
  generalize upd f 40 (md_K 40) = f at hf hP hD
  refine lv_dup hx hb d_Model_init_249 rfl ?_
  refine lv_bipush (v := nI 41) hx hb d_Model_init_250 (by decide) ?_
  refine lv_ldc hx hb hown (hcm _ kw_179) d_Model_init_252 ?_
  refine kt_i (y := md_K 41) rfl ?_
  refine kr_iast C0 hP hD hS 1 1 rfl rfl (k := 41) (x := md_K 41) (by decide) (by decide) d_Model_init_254 (fun H locs hP hD hS => ?_)
  have hP : va_P D classes ([(h0, .inr (2, fs)), (a7, .inl (cI, 64, .inl (upd f 41 (md_K 41))))]) H := hP
  have hD : va_D A ([(h0, .inr (2, fs)), (a7, .inl (cI, 64, .inl (upd f 41 (md_K 41))))]) := hD
  have hf := up_lt hf
  generalize upd f 41 (md_K 41) = f at hf hP hD
  refine lv_dup hx hb d_Model_init_255 rfl ?_
  refine lv_bipush (v := nI 42) hx hb d_Model_init_256 (by decide) ?_
  refine lv_ldc hx hb hown (hcm _ kw_180) d_Model_init_258 ?_
  refine kt_i (y := md_K 42) rfl ?_
  refine kr_iast C0 hP hD hS 1 1 rfl rfl (k := 42) (x := md_K 42) (by decide) (by decide) d_Model_init_260 (fun H locs hP hD hS => ?_)
  have hP : va_P D classes ([(h0, .inr (2, fs)), (a7, .inl (cI, 64, .inl (upd f 42 (md_K 42))))]) H := hP
  have hD : va_D A ([(h0, .inr (2, fs)), (a7, .inl (cI, 64, .inl (upd f 42 (md_K 42))))]) := hD
  have hf := up_lt hf
  generalize upd f 42 (md_K 42) = f at hf hP hD
  refine lv_dup hx hb d_Model_init_261 rfl ?_
  refine lv_bipush (v := nI 43) hx hb d_Model_init_262 (by decide) ?_
  refine lv_ldc hx hb hown (hcm _ kw_181) d_Model_init_264 ?_
  refine kt_i (y := md_K 43) rfl ?_
  refine kr_iast C0 hP hD hS 1 1 rfl rfl (k := 43) (x := md_K 43) (by decide) (by decide) d_Model_init_266 (fun H locs hP hD hS => ?_)
  have hP : va_P D classes ([(h0, .inr (2, fs)), (a7, .inl (cI, 64, .inl (upd f 43 (md_K 43))))]) H := hP
  have hD : va_D A ([(h0, .inr (2, fs)), (a7, .inl (cI, 64, .inl (upd f 43 (md_K 43))))]) := hD
  have hf := up_lt hf
  generalize upd f 43 (md_K 43) = f at hf hP hD
  refine lv_dup hx hb d_Model_init_267 rfl ?_
  refine lv_bipush (v := nI 44) hx hb d_Model_init_268 (by decide) ?_
  refine lv_ldc hx hb hown (hcm _ kw_182) d_Model_init_270 ?_
  refine kt_i (y := md_K 44) rfl ?_
  refine kr_iast C0 hP hD hS 1 1 rfl rfl (k := 44) (x := md_K 44) (by decide) (by decide) d_Model_init_272 (fun H locs hP hD hS => ?_)
  have hP : va_P D classes ([(h0, .inr (2, fs)), (a7, .inl (cI, 64, .inl (upd f 44 (md_K 44))))]) H := hP
  have hD : va_D A ([(h0, .inr (2, fs)), (a7, .inl (cI, 64, .inl (upd f 44 (md_K 44))))]) := hD
  have hf := up_lt hf
  generalize upd f 44 (md_K 44) = f at hf hP hD
  refine lv_dup hx hb d_Model_init_273 rfl ?_
  refine lv_bipush (v := nI 45) hx hb d_Model_init_274 (by decide) ?_
  refine lv_ldc hx hb hown (hcm _ kw_183) d_Model_init_276 ?_
  refine kt_i (y := md_K 45) rfl ?_
  refine kr_iast C0 hP hD hS 1 1 rfl rfl (k := 45) (x := md_K 45) (by decide) (by decide) d_Model_init_278 (fun H locs hP hD hS => ?_)
  have hP : va_P D classes ([(h0, .inr (2, fs)), (a7, .inl (cI, 64, .inl (upd f 45 (md_K 45))))]) H := hP
  have hD : va_D A ([(h0, .inr (2, fs)), (a7, .inl (cI, 64, .inl (upd f 45 (md_K 45))))]) := hD
  have hf := up_lt hf
  generalize upd f 45 (md_K 45) = f at hf hP hD
  refine lv_dup hx hb d_Model_init_279 rfl ?_
  refine lv_bipush (v := nI 46) hx hb d_Model_init_280 (by decide) ?_
  refine lv_ldc hx hb hown (hcm _ kw_184) d_Model_init_282 ?_
  refine kt_i (y := md_K 46) rfl ?_
  refine kr_iast C0 hP hD hS 1 1 rfl rfl (k := 46) (x := md_K 46) (by decide) (by decide) d_Model_init_284 (fun H locs hP hD hS => ?_)
  have hP : va_P D classes ([(h0, .inr (2, fs)), (a7, .inl (cI, 64, .inl (upd f 46 (md_K 46))))]) H := hP
  have hD : va_D A ([(h0, .inr (2, fs)), (a7, .inl (cI, 64, .inl (upd f 46 (md_K 46))))]) := hD
  have hf := up_lt hf
  generalize upd f 46 (md_K 46) = f at hf hP hD
  refine lv_dup hx hb d_Model_init_285 rfl ?_
  refine lv_bipush (v := nI 47) hx hb d_Model_init_286 (by decide) ?_
  refine lv_ldc hx hb hown (hcm _ kw_185) d_Model_init_288 ?_
  refine kt_i (y := md_K 47) rfl ?_
  refine kr_iast C0 hP hD hS 1 1 rfl rfl (k := 47) (x := md_K 47) (by decide) (by decide) d_Model_init_290 (fun H locs hP hD hS => ?_)
  have hP : va_P D classes ([(h0, .inr (2, fs)), (a7, .inl (cI, 64, .inl (upd f 47 (md_K 47))))]) H := hP
  have hD : va_D A ([(h0, .inr (2, fs)), (a7, .inl (cI, 64, .inl (upd f 47 (md_K 47))))]) := hD
  have hf := up_lt hf
  generalize upd f 47 (md_K 47) = f at hf hP hD
  exact kk f H locs hf hP hD hS
set_option maxHeartbeats 4000000 in
set_option maxRecDepth 100000 in
/-- elements 48 to 63 -/
theorem mi_K3 {p : Program} {l : Launch} {e : Env} {s : State} {m : MethodId} {args : Array Value} {below : List Frame} {meth : Method} {c : Code} {cells slots : Nat} {Q : State → Prop} {D : va_G} {cB cI : ClassId} {A : Nat → Prop} {kt tt : Nat} (C0 : Cx p s m args c b_Model_init 1 "KeySumsModel" D (tyL cB cI) A kt tt) (h0 a7 : Nat) (fs : List Value) (ls : Array Slot)
    (kk : ∀ (f : Nat → Int32) (H : Heap) (locs : List Loc), (∀ j, j < 64 → f j = md_K j) → va_P D classes [(h0, .inr (2, fs)), (a7, .inl (cI, 64, .inl f))] H → va_D A [(h0, .inr (2, fs)), (a7, .inl (cI, 64, .inl f))] → va_S A s.heap H locs → W p l e ({ frames := 1, cells := 11, slots := 2196, locals := 21 } : Room) s m args below meth c H locs cells slots Q (F0 m 387 ls [.ref a7, .ref h0])) :
    ∀ (f : Nat → Int32) (H : Heap) (locs : List Loc), (∀ j, j < 48 → f j = md_K j) → va_P D classes [(h0, .inr (2, fs)), (a7, .inl (cI, 64, .inl f))] H → va_D A [(h0, .inr (2, fs)), (a7, .inl (cI, 64, .inl f))] → va_S A s.heap H locs → W p l e ({ frames := 1, cells := 11, slots := 2196, locals := 21 } : Room) s m args below meth c H locs cells slots Q (F0 m 291 ls [.ref a7, .ref h0]) := by
  obtain ⟨hx, hb, hml, hown, hcm, hK, hA, hZ⟩ := id C0
  intro f H locs hf hP hD hS
  refine lv_dup hx hb d_Model_init_291 rfl ?_
  refine lv_bipush (v := nI 48) hx hb d_Model_init_292 (by decide) ?_
  refine lv_ldc hx hb hown (hcm _ kw_186) d_Model_init_294 ?_
  refine kt_i (y := md_K 48) rfl ?_
  refine kr_iast C0 hP hD hS 1 1 rfl rfl (k := 48) (x := md_K 48) (by decide) (by decide) d_Model_init_296 (fun H locs hP hD hS => ?_)
  have hP : va_P D classes ([(h0, .inr (2, fs)), (a7, .inl (cI, 64, .inl (upd f 48 (md_K 48))))]) H := hP
  have hD : va_D A ([(h0, .inr (2, fs)), (a7, .inl (cI, 64, .inl (upd f 48 (md_K 48))))]) := hD
  have hf := up_lt hf
  generalize upd f 48 (md_K 48) = f at hf hP hD
  refine lv_dup hx hb d_Model_init_297 rfl ?_
  refine lv_bipush (v := nI 49) hx hb d_Model_init_298 (by decide) ?_
  refine lv_ldc hx hb hown (hcm _ kw_187) d_Model_init_300 ?_
  refine kt_i (y := md_K 49) rfl ?_
  refine kr_iast C0 hP hD hS 1 1 rfl rfl (k := 49) (x := md_K 49) (by decide) (by decide) d_Model_init_302 (fun H locs hP hD hS => ?_)
  have hP : va_P D classes ([(h0, .inr (2, fs)), (a7, .inl (cI, 64, .inl (upd f 49 (md_K 49))))]) H := hP
  have hD : va_D A ([(h0, .inr (2, fs)), (a7, .inl (cI, 64, .inl (upd f 49 (md_K 49))))]) := hD
  have hf := up_lt hf
  generalize upd f 49 (md_K 49) = f at hf hP hD
  refine lv_dup hx hb d_Model_init_303 rfl ?_
  refine lv_bipush (v := nI 50) hx hb d_Model_init_304 (by decide) ?_
  refine lv_ldc hx hb hown (hcm _ kw_188) d_Model_init_306 ?_
  refine kt_i (y := md_K 50) rfl ?_
  refine kr_iast C0 hP hD hS 1 1 rfl rfl (k := 50) (x := md_K 50) (by decide) (by decide) d_Model_init_308 (fun H locs hP hD hS => ?_)
  have hP : va_P D classes ([(h0, .inr (2, fs)), (a7, .inl (cI, 64, .inl (upd f 50 (md_K 50))))]) H := hP
  have hD : va_D A ([(h0, .inr (2, fs)), (a7, .inl (cI, 64, .inl (upd f 50 (md_K 50))))]) := hD
  have hf := up_lt hf
  generalize upd f 50 (md_K 50) = f at hf hP hD
  refine lv_dup hx hb d_Model_init_309 rfl ?_
  refine lv_bipush (v := nI 51) hx hb d_Model_init_310 (by decide) ?_
  refine lv_ldc hx hb hown (hcm _ kw_189) d_Model_init_312 ?_
  refine kt_i (y := md_K 51) rfl ?_
  refine kr_iast C0 hP hD hS 1 1 rfl rfl (k := 51) (x := md_K 51) (by decide) (by decide) d_Model_init_314 (fun H locs hP hD hS => ?_)
  have hP : va_P D classes ([(h0, .inr (2, fs)), (a7, .inl (cI, 64, .inl (upd f 51 (md_K 51))))]) H := hP
  have hD : va_D A ([(h0, .inr (2, fs)), (a7, .inl (cI, 64, .inl (upd f 51 (md_K 51))))]) := hD
  have hf := up_lt hf
  generalize upd f 51 (md_K 51) = f at hf hP hD
  refine lv_dup hx hb d_Model_init_315 rfl ?_
  refine lv_bipush (v := nI 52) hx hb d_Model_init_316 (by decide) ?_
  refine lv_ldc hx hb hown (hcm _ kw_190) d_Model_init_318 ?_
  refine kt_i (y := md_K 52) rfl ?_
  refine kr_iast C0 hP hD hS 1 1 rfl rfl (k := 52) (x := md_K 52) (by decide) (by decide) d_Model_init_320 (fun H locs hP hD hS => ?_)
  have hP : va_P D classes ([(h0, .inr (2, fs)), (a7, .inl (cI, 64, .inl (upd f 52 (md_K 52))))]) H := hP
  have hD : va_D A ([(h0, .inr (2, fs)), (a7, .inl (cI, 64, .inl (upd f 52 (md_K 52))))]) := hD
  have hf := up_lt hf
  generalize upd f 52 (md_K 52) = f at hf hP hD
  refine lv_dup hx hb d_Model_init_321 rfl ?_
  refine lv_bipush (v := nI 53) hx hb d_Model_init_322 (by decide) ?_
  refine lv_ldc hx hb hown (hcm _ kw_191) d_Model_init_324 ?_
  refine kt_i (y := md_K 53) rfl ?_
  refine kr_iast C0 hP hD hS 1 1 rfl rfl (k := 53) (x := md_K 53) (by decide) (by decide) d_Model_init_326 (fun H locs hP hD hS => ?_)
  have hP : va_P D classes ([(h0, .inr (2, fs)), (a7, .inl (cI, 64, .inl (upd f 53 (md_K 53))))]) H := hP
  have hD : va_D A ([(h0, .inr (2, fs)), (a7, .inl (cI, 64, .inl (upd f 53 (md_K 53))))]) := hD
  have hf := up_lt hf
  generalize upd f 53 (md_K 53) = f at hf hP hD
  refine lv_dup hx hb d_Model_init_327 rfl ?_
  refine lv_bipush (v := nI 54) hx hb d_Model_init_328 (by decide) ?_
  refine lv_ldc hx hb hown (hcm _ kw_192) d_Model_init_330 ?_
  refine kt_i (y := md_K 54) rfl ?_
  refine kr_iast C0 hP hD hS 1 1 rfl rfl (k := 54) (x := md_K 54) (by decide) (by decide) d_Model_init_332 (fun H locs hP hD hS => ?_)
  have hP : va_P D classes ([(h0, .inr (2, fs)), (a7, .inl (cI, 64, .inl (upd f 54 (md_K 54))))]) H := hP
  have hD : va_D A ([(h0, .inr (2, fs)), (a7, .inl (cI, 64, .inl (upd f 54 (md_K 54))))]) := hD
  have hf := up_lt hf
  generalize upd f 54 (md_K 54) = f at hf hP hD
  refine lv_dup hx hb d_Model_init_333 rfl ?_
  refine lv_bipush (v := nI 55) hx hb d_Model_init_334 (by decide) ?_
  refine lv_ldc hx hb hown (hcm _ kw_193) d_Model_init_336 ?_
  refine kt_i (y := md_K 55) rfl ?_
  refine kr_iast C0 hP hD hS 1 1 rfl rfl (k := 55) (x := md_K 55) (by decide) (by decide) d_Model_init_338 (fun H locs hP hD hS => ?_)
  have hP : va_P D classes ([(h0, .inr (2, fs)), (a7, .inl (cI, 64, .inl (upd f 55 (md_K 55))))]) H := hP
  have hD : va_D A ([(h0, .inr (2, fs)), (a7, .inl (cI, 64, .inl (upd f 55 (md_K 55))))]) := hD
  have hf := up_lt hf
  generalize upd f 55 (md_K 55) = f at hf hP hD
  refine lv_dup hx hb d_Model_init_339 rfl ?_
  refine lv_bipush (v := nI 56) hx hb d_Model_init_340 (by decide) ?_
  refine lv_ldc hx hb hown (hcm _ kw_194) d_Model_init_342 ?_
  refine kt_i (y := md_K 56) rfl ?_
  refine kr_iast C0 hP hD hS 1 1 rfl rfl (k := 56) (x := md_K 56) (by decide) (by decide) d_Model_init_344 (fun H locs hP hD hS => ?_)
  have hP : va_P D classes ([(h0, .inr (2, fs)), (a7, .inl (cI, 64, .inl (upd f 56 (md_K 56))))]) H := hP
  have hD : va_D A ([(h0, .inr (2, fs)), (a7, .inl (cI, 64, .inl (upd f 56 (md_K 56))))]) := hD
  have hf := up_lt hf
  generalize upd f 56 (md_K 56) = f at hf hP hD
  refine lv_dup hx hb d_Model_init_345 rfl ?_
  refine lv_bipush (v := nI 57) hx hb d_Model_init_346 (by decide) ?_
  refine lv_ldc hx hb hown (hcm _ kw_195) d_Model_init_348 ?_
  refine kt_i (y := md_K 57) rfl ?_
  refine kr_iast C0 hP hD hS 1 1 rfl rfl (k := 57) (x := md_K 57) (by decide) (by decide) d_Model_init_350 (fun H locs hP hD hS => ?_)
  have hP : va_P D classes ([(h0, .inr (2, fs)), (a7, .inl (cI, 64, .inl (upd f 57 (md_K 57))))]) H := hP
  have hD : va_D A ([(h0, .inr (2, fs)), (a7, .inl (cI, 64, .inl (upd f 57 (md_K 57))))]) := hD
  have hf := up_lt hf
  generalize upd f 57 (md_K 57) = f at hf hP hD
  refine lv_dup hx hb d_Model_init_351 rfl ?_
  refine lv_bipush (v := nI 58) hx hb d_Model_init_352 (by decide) ?_
  refine lv_ldc hx hb hown (hcm _ kw_196) d_Model_init_354 ?_
  refine kt_i (y := md_K 58) rfl ?_
  refine kr_iast C0 hP hD hS 1 1 rfl rfl (k := 58) (x := md_K 58) (by decide) (by decide) d_Model_init_356 (fun H locs hP hD hS => ?_)
  have hP : va_P D classes ([(h0, .inr (2, fs)), (a7, .inl (cI, 64, .inl (upd f 58 (md_K 58))))]) H := hP
  have hD : va_D A ([(h0, .inr (2, fs)), (a7, .inl (cI, 64, .inl (upd f 58 (md_K 58))))]) := hD
  have hf := up_lt hf
  generalize upd f 58 (md_K 58) = f at hf hP hD
  refine lv_dup hx hb d_Model_init_357 rfl ?_
  refine lv_bipush (v := nI 59) hx hb d_Model_init_358 (by decide) ?_
  refine lv_ldc hx hb hown (hcm _ kw_197) d_Model_init_360 ?_
  refine kt_i (y := md_K 59) rfl ?_
  refine kr_iast C0 hP hD hS 1 1 rfl rfl (k := 59) (x := md_K 59) (by decide) (by decide) d_Model_init_362 (fun H locs hP hD hS => ?_)
  have hP : va_P D classes ([(h0, .inr (2, fs)), (a7, .inl (cI, 64, .inl (upd f 59 (md_K 59))))]) H := hP
  have hD : va_D A ([(h0, .inr (2, fs)), (a7, .inl (cI, 64, .inl (upd f 59 (md_K 59))))]) := hD
  have hf := up_lt hf
  generalize upd f 59 (md_K 59) = f at hf hP hD
  refine lv_dup hx hb d_Model_init_363 rfl ?_
  refine lv_bipush (v := nI 60) hx hb d_Model_init_364 (by decide) ?_
  refine lv_ldc hx hb hown (hcm _ kw_198) d_Model_init_366 ?_
  refine kt_i (y := md_K 60) rfl ?_
  refine kr_iast C0 hP hD hS 1 1 rfl rfl (k := 60) (x := md_K 60) (by decide) (by decide) d_Model_init_368 (fun H locs hP hD hS => ?_)
  have hP : va_P D classes ([(h0, .inr (2, fs)), (a7, .inl (cI, 64, .inl (upd f 60 (md_K 60))))]) H := hP
  have hD : va_D A ([(h0, .inr (2, fs)), (a7, .inl (cI, 64, .inl (upd f 60 (md_K 60))))]) := hD
  have hf := up_lt hf
  generalize upd f 60 (md_K 60) = f at hf hP hD
  refine lv_dup hx hb d_Model_init_369 rfl ?_
  refine lv_bipush (v := nI 61) hx hb d_Model_init_370 (by decide) ?_
  refine lv_ldc hx hb hown (hcm _ kw_199) d_Model_init_372 ?_
  refine kt_i (y := md_K 61) rfl ?_
  refine kr_iast C0 hP hD hS 1 1 rfl rfl (k := 61) (x := md_K 61) (by decide) (by decide) d_Model_init_374 (fun H locs hP hD hS => ?_)
  have hP : va_P D classes ([(h0, .inr (2, fs)), (a7, .inl (cI, 64, .inl (upd f 61 (md_K 61))))]) H := hP
  have hD : va_D A ([(h0, .inr (2, fs)), (a7, .inl (cI, 64, .inl (upd f 61 (md_K 61))))]) := hD
  have hf := up_lt hf
  generalize upd f 61 (md_K 61) = f at hf hP hD
  refine lv_dup hx hb d_Model_init_375 rfl ?_
  refine lv_bipush (v := nI 62) hx hb d_Model_init_376 (by decide) ?_
  refine lv_ldc hx hb hown (hcm _ kw_200) d_Model_init_378 ?_
  refine kt_i (y := md_K 62) rfl ?_
  refine kr_iast C0 hP hD hS 1 1 rfl rfl (k := 62) (x := md_K 62) (by decide) (by decide) d_Model_init_380 (fun H locs hP hD hS => ?_)
  have hP : va_P D classes ([(h0, .inr (2, fs)), (a7, .inl (cI, 64, .inl (upd f 62 (md_K 62))))]) H := hP
  have hD : va_D A ([(h0, .inr (2, fs)), (a7, .inl (cI, 64, .inl (upd f 62 (md_K 62))))]) := hD
  have hf := up_lt hf
  generalize upd f 62 (md_K 62) = f at hf hP hD
  refine lv_dup hx hb d_Model_init_381 rfl ?_
  refine lv_bipush (v := nI 63) hx hb d_Model_init_382 (by decide) ?_
  refine lv_ldc hx hb hown (hcm _ kw_201) d_Model_init_384 ?_
  refine kt_i (y := md_K 63) rfl ?_
  refine kr_iast C0 hP hD hS 1 1 rfl rfl (k := 63) (x := md_K 63) (by decide) (by decide) d_Model_init_386 (fun H locs hP hD hS => ?_)
  have hP : va_P D classes ([(h0, .inr (2, fs)), (a7, .inl (cI, 64, .inl (upd f 63 (md_K 63))))]) H := hP
  have hD : va_D A ([(h0, .inr (2, fs)), (a7, .inl (cI, 64, .inl (upd f 63 (md_K 63))))]) := hD
  have hf := up_lt hf
  generalize upd f 63 (md_K 63) = f at hf hP hD
  exact kk f H locs hf hP hD hS
set_option maxHeartbeats 4000000 in
set_option maxRecDepth 100000 in
/-- elements 0 to 15 -/
theorem mi_T {p : Program} {l : Launch} {e : Env} {s : State} {m : MethodId} {args : Array Value} {below : List Frame} {meth : Method} {c : Code} {cells slots : Nat} {Q : State → Prop} {D : va_G} {cB cI : ClassId} {A : Nat → Prop} {kt tt : Nat} (C0 : Cx p s m args c b_Model_init 1 "KeySumsModel" D (tyL cB cI) A kt tt) (h0 a7 a9 : Nat) (fs : List Value) (ls : Array Slot)
    (kk : ∀ (f : Nat → Int32) (H : Heap) (locs : List Loc), (∀ j, j < 16 → f j = md_T j) → va_P D classes [(h0, .inr (2, fs)), (a7, .inl (cI, 64, .inl md_K)), (a9, .inl (cI, 16, .inl f))] H → va_D A [(h0, .inr (2, fs)), (a7, .inl (cI, 64, .inl md_K)), (a9, .inl (cI, 16, .inl f))] → va_S A s.heap H locs → W p l e ({ frames := 1, cells := 11, slots := 2196, locals := 21 } : Room) s m args below meth c H locs cells slots Q (F0 m 483 ls [.ref a9, .ref h0])) :
    ∀ (f : Nat → Int32) (H : Heap) (locs : List Loc), (∀ j, j < 0 → f j = md_T j) → va_P D classes [(h0, .inr (2, fs)), (a7, .inl (cI, 64, .inl md_K)), (a9, .inl (cI, 16, .inl f))] H → va_D A [(h0, .inr (2, fs)), (a7, .inl (cI, 64, .inl md_K)), (a9, .inl (cI, 16, .inl f))] → va_S A s.heap H locs → W p l e ({ frames := 1, cells := 11, slots := 2196, locals := 21 } : Room) s m args below meth c H locs cells slots Q (F0 m 395 ls [.ref a9, .ref h0]) := by
  obtain ⟨hx, hb, hml, hown, hcm, hK, hA, hZ⟩ := id C0
  intro f H locs hf hP hD hS
  refine lv_dup hx hb d_Model_init_395 rfl ?_
  refine lv_iconst (v := nI 0) hx hb d_Model_init_396 (by decide) ?_
  refine lv_bipush (v := nI 7) hx hb d_Model_init_397 (by decide) ?_
  refine kt_i (y := md_T 0) rfl ?_
  refine kr_iast C0 hP hD hS 2 1 rfl rfl (k := 0) (x := md_T 0) (by decide) (by decide) d_Model_init_399 (fun H locs hP hD hS => ?_)
  have hP : va_P D classes ([(h0, .inr (2, fs)), (a7, .inl (cI, 64, .inl md_K)), (a9, .inl (cI, 16, .inl (upd f 0 (md_T 0))))]) H := hP
  have hD : va_D A ([(h0, .inr (2, fs)), (a7, .inl (cI, 64, .inl md_K)), (a9, .inl (cI, 16, .inl (upd f 0 (md_T 0))))]) := hD
  have hf := up_lt hf
  generalize upd f 0 (md_T 0) = f at hf hP hD
  refine lv_dup hx hb d_Model_init_400 rfl ?_
  refine lv_iconst (v := nI 1) hx hb d_Model_init_401 (by decide) ?_
  refine lv_bipush (v := nI 12) hx hb d_Model_init_402 (by decide) ?_
  refine kt_i (y := md_T 1) rfl ?_
  refine kr_iast C0 hP hD hS 2 1 rfl rfl (k := 1) (x := md_T 1) (by decide) (by decide) d_Model_init_404 (fun H locs hP hD hS => ?_)
  have hP : va_P D classes ([(h0, .inr (2, fs)), (a7, .inl (cI, 64, .inl md_K)), (a9, .inl (cI, 16, .inl (upd f 1 (md_T 1))))]) H := hP
  have hD : va_D A ([(h0, .inr (2, fs)), (a7, .inl (cI, 64, .inl md_K)), (a9, .inl (cI, 16, .inl (upd f 1 (md_T 1))))]) := hD
  have hf := up_lt hf
  generalize upd f 1 (md_T 1) = f at hf hP hD
  refine lv_dup hx hb d_Model_init_405 rfl ?_
  refine lv_iconst (v := nI 2) hx hb d_Model_init_406 (by decide) ?_
  refine lv_bipush (v := nI 17) hx hb d_Model_init_407 (by decide) ?_
  refine kt_i (y := md_T 2) rfl ?_
  refine kr_iast C0 hP hD hS 2 1 rfl rfl (k := 2) (x := md_T 2) (by decide) (by decide) d_Model_init_409 (fun H locs hP hD hS => ?_)
  have hP : va_P D classes ([(h0, .inr (2, fs)), (a7, .inl (cI, 64, .inl md_K)), (a9, .inl (cI, 16, .inl (upd f 2 (md_T 2))))]) H := hP
  have hD : va_D A ([(h0, .inr (2, fs)), (a7, .inl (cI, 64, .inl md_K)), (a9, .inl (cI, 16, .inl (upd f 2 (md_T 2))))]) := hD
  have hf := up_lt hf
  generalize upd f 2 (md_T 2) = f at hf hP hD
  refine lv_dup hx hb d_Model_init_410 rfl ?_
  refine lv_iconst (v := nI 3) hx hb d_Model_init_411 (by decide) ?_
  refine lv_bipush (v := nI 22) hx hb d_Model_init_412 (by decide) ?_
  refine kt_i (y := md_T 3) rfl ?_
  refine kr_iast C0 hP hD hS 2 1 rfl rfl (k := 3) (x := md_T 3) (by decide) (by decide) d_Model_init_414 (fun H locs hP hD hS => ?_)
  have hP : va_P D classes ([(h0, .inr (2, fs)), (a7, .inl (cI, 64, .inl md_K)), (a9, .inl (cI, 16, .inl (upd f 3 (md_T 3))))]) H := hP
  have hD : va_D A ([(h0, .inr (2, fs)), (a7, .inl (cI, 64, .inl md_K)), (a9, .inl (cI, 16, .inl (upd f 3 (md_T 3))))]) := hD
  have hf := up_lt hf
  generalize upd f 3 (md_T 3) = f at hf hP hD
  refine lv_dup hx hb d_Model_init_415 rfl ?_
  refine lv_iconst (v := nI 4) hx hb d_Model_init_416 (by decide) ?_
  refine lv_iconst (v := nI 5) hx hb d_Model_init_417 (by decide) ?_
  refine kt_i (y := md_T 4) rfl ?_
  refine kr_iast C0 hP hD hS 2 1 rfl rfl (k := 4) (x := md_T 4) (by decide) (by decide) d_Model_init_418 (fun H locs hP hD hS => ?_)
  have hP : va_P D classes ([(h0, .inr (2, fs)), (a7, .inl (cI, 64, .inl md_K)), (a9, .inl (cI, 16, .inl (upd f 4 (md_T 4))))]) H := hP
  have hD : va_D A ([(h0, .inr (2, fs)), (a7, .inl (cI, 64, .inl md_K)), (a9, .inl (cI, 16, .inl (upd f 4 (md_T 4))))]) := hD
  have hf := up_lt hf
  generalize upd f 4 (md_T 4) = f at hf hP hD
  refine lv_dup hx hb d_Model_init_419 rfl ?_
  refine lv_iconst (v := nI 5) hx hb d_Model_init_420 (by decide) ?_
  refine lv_bipush (v := nI 9) hx hb d_Model_init_421 (by decide) ?_
  refine kt_i (y := md_T 5) rfl ?_
  refine kr_iast C0 hP hD hS 2 1 rfl rfl (k := 5) (x := md_T 5) (by decide) (by decide) d_Model_init_423 (fun H locs hP hD hS => ?_)
  have hP : va_P D classes ([(h0, .inr (2, fs)), (a7, .inl (cI, 64, .inl md_K)), (a9, .inl (cI, 16, .inl (upd f 5 (md_T 5))))]) H := hP
  have hD : va_D A ([(h0, .inr (2, fs)), (a7, .inl (cI, 64, .inl md_K)), (a9, .inl (cI, 16, .inl (upd f 5 (md_T 5))))]) := hD
  have hf := up_lt hf
  generalize upd f 5 (md_T 5) = f at hf hP hD
  refine lv_dup hx hb d_Model_init_424 rfl ?_
  refine lv_bipush (v := nI 6) hx hb d_Model_init_425 (by decide) ?_
  refine lv_bipush (v := nI 14) hx hb d_Model_init_427 (by decide) ?_
  refine kt_i (y := md_T 6) rfl ?_
  refine kr_iast C0 hP hD hS 2 1 rfl rfl (k := 6) (x := md_T 6) (by decide) (by decide) d_Model_init_429 (fun H locs hP hD hS => ?_)
  have hP : va_P D classes ([(h0, .inr (2, fs)), (a7, .inl (cI, 64, .inl md_K)), (a9, .inl (cI, 16, .inl (upd f 6 (md_T 6))))]) H := hP
  have hD : va_D A ([(h0, .inr (2, fs)), (a7, .inl (cI, 64, .inl md_K)), (a9, .inl (cI, 16, .inl (upd f 6 (md_T 6))))]) := hD
  have hf := up_lt hf
  generalize upd f 6 (md_T 6) = f at hf hP hD
  refine lv_dup hx hb d_Model_init_430 rfl ?_
  refine lv_bipush (v := nI 7) hx hb d_Model_init_431 (by decide) ?_
  refine lv_bipush (v := nI 20) hx hb d_Model_init_433 (by decide) ?_
  refine kt_i (y := md_T 7) rfl ?_
  refine kr_iast C0 hP hD hS 2 1 rfl rfl (k := 7) (x := md_T 7) (by decide) (by decide) d_Model_init_435 (fun H locs hP hD hS => ?_)
  have hP : va_P D classes ([(h0, .inr (2, fs)), (a7, .inl (cI, 64, .inl md_K)), (a9, .inl (cI, 16, .inl (upd f 7 (md_T 7))))]) H := hP
  have hD : va_D A ([(h0, .inr (2, fs)), (a7, .inl (cI, 64, .inl md_K)), (a9, .inl (cI, 16, .inl (upd f 7 (md_T 7))))]) := hD
  have hf := up_lt hf
  generalize upd f 7 (md_T 7) = f at hf hP hD
  refine lv_dup hx hb d_Model_init_436 rfl ?_
  refine lv_bipush (v := nI 8) hx hb d_Model_init_437 (by decide) ?_
  refine lv_iconst (v := nI 4) hx hb d_Model_init_439 (by decide) ?_
  refine kt_i (y := md_T 8) rfl ?_
  refine kr_iast C0 hP hD hS 2 1 rfl rfl (k := 8) (x := md_T 8) (by decide) (by decide) d_Model_init_440 (fun H locs hP hD hS => ?_)
  have hP : va_P D classes ([(h0, .inr (2, fs)), (a7, .inl (cI, 64, .inl md_K)), (a9, .inl (cI, 16, .inl (upd f 8 (md_T 8))))]) H := hP
  have hD : va_D A ([(h0, .inr (2, fs)), (a7, .inl (cI, 64, .inl md_K)), (a9, .inl (cI, 16, .inl (upd f 8 (md_T 8))))]) := hD
  have hf := up_lt hf
  generalize upd f 8 (md_T 8) = f at hf hP hD
  refine lv_dup hx hb d_Model_init_441 rfl ?_
  refine lv_bipush (v := nI 9) hx hb d_Model_init_442 (by decide) ?_
  refine lv_bipush (v := nI 11) hx hb d_Model_init_444 (by decide) ?_
  refine kt_i (y := md_T 9) rfl ?_
  refine kr_iast C0 hP hD hS 2 1 rfl rfl (k := 9) (x := md_T 9) (by decide) (by decide) d_Model_init_446 (fun H locs hP hD hS => ?_)
  have hP : va_P D classes ([(h0, .inr (2, fs)), (a7, .inl (cI, 64, .inl md_K)), (a9, .inl (cI, 16, .inl (upd f 9 (md_T 9))))]) H := hP
  have hD : va_D A ([(h0, .inr (2, fs)), (a7, .inl (cI, 64, .inl md_K)), (a9, .inl (cI, 16, .inl (upd f 9 (md_T 9))))]) := hD
  have hf := up_lt hf
  generalize upd f 9 (md_T 9) = f at hf hP hD
  refine lv_dup hx hb d_Model_init_447 rfl ?_
  refine lv_bipush (v := nI 10) hx hb d_Model_init_448 (by decide) ?_
  refine lv_bipush (v := nI 16) hx hb d_Model_init_450 (by decide) ?_
  refine kt_i (y := md_T 10) rfl ?_
  refine kr_iast C0 hP hD hS 2 1 rfl rfl (k := 10) (x := md_T 10) (by decide) (by decide) d_Model_init_452 (fun H locs hP hD hS => ?_)
  have hP : va_P D classes ([(h0, .inr (2, fs)), (a7, .inl (cI, 64, .inl md_K)), (a9, .inl (cI, 16, .inl (upd f 10 (md_T 10))))]) H := hP
  have hD : va_D A ([(h0, .inr (2, fs)), (a7, .inl (cI, 64, .inl md_K)), (a9, .inl (cI, 16, .inl (upd f 10 (md_T 10))))]) := hD
  have hf := up_lt hf
  generalize upd f 10 (md_T 10) = f at hf hP hD
  refine lv_dup hx hb d_Model_init_453 rfl ?_
  refine lv_bipush (v := nI 11) hx hb d_Model_init_454 (by decide) ?_
  refine lv_bipush (v := nI 23) hx hb d_Model_init_456 (by decide) ?_
  refine kt_i (y := md_T 11) rfl ?_
  refine kr_iast C0 hP hD hS 2 1 rfl rfl (k := 11) (x := md_T 11) (by decide) (by decide) d_Model_init_458 (fun H locs hP hD hS => ?_)
  have hP : va_P D classes ([(h0, .inr (2, fs)), (a7, .inl (cI, 64, .inl md_K)), (a9, .inl (cI, 16, .inl (upd f 11 (md_T 11))))]) H := hP
  have hD : va_D A ([(h0, .inr (2, fs)), (a7, .inl (cI, 64, .inl md_K)), (a9, .inl (cI, 16, .inl (upd f 11 (md_T 11))))]) := hD
  have hf := up_lt hf
  generalize upd f 11 (md_T 11) = f at hf hP hD
  refine lv_dup hx hb d_Model_init_459 rfl ?_
  refine lv_bipush (v := nI 12) hx hb d_Model_init_460 (by decide) ?_
  refine lv_bipush (v := nI 6) hx hb d_Model_init_462 (by decide) ?_
  refine kt_i (y := md_T 12) rfl ?_
  refine kr_iast C0 hP hD hS 2 1 rfl rfl (k := 12) (x := md_T 12) (by decide) (by decide) d_Model_init_464 (fun H locs hP hD hS => ?_)
  have hP : va_P D classes ([(h0, .inr (2, fs)), (a7, .inl (cI, 64, .inl md_K)), (a9, .inl (cI, 16, .inl (upd f 12 (md_T 12))))]) H := hP
  have hD : va_D A ([(h0, .inr (2, fs)), (a7, .inl (cI, 64, .inl md_K)), (a9, .inl (cI, 16, .inl (upd f 12 (md_T 12))))]) := hD
  have hf := up_lt hf
  generalize upd f 12 (md_T 12) = f at hf hP hD
  refine lv_dup hx hb d_Model_init_465 rfl ?_
  refine lv_bipush (v := nI 13) hx hb d_Model_init_466 (by decide) ?_
  refine lv_bipush (v := nI 10) hx hb d_Model_init_468 (by decide) ?_
  refine kt_i (y := md_T 13) rfl ?_
  refine kr_iast C0 hP hD hS 2 1 rfl rfl (k := 13) (x := md_T 13) (by decide) (by decide) d_Model_init_470 (fun H locs hP hD hS => ?_)
  have hP : va_P D classes ([(h0, .inr (2, fs)), (a7, .inl (cI, 64, .inl md_K)), (a9, .inl (cI, 16, .inl (upd f 13 (md_T 13))))]) H := hP
  have hD : va_D A ([(h0, .inr (2, fs)), (a7, .inl (cI, 64, .inl md_K)), (a9, .inl (cI, 16, .inl (upd f 13 (md_T 13))))]) := hD
  have hf := up_lt hf
  generalize upd f 13 (md_T 13) = f at hf hP hD
  refine lv_dup hx hb d_Model_init_471 rfl ?_
  refine lv_bipush (v := nI 14) hx hb d_Model_init_472 (by decide) ?_
  refine lv_bipush (v := nI 15) hx hb d_Model_init_474 (by decide) ?_
  refine kt_i (y := md_T 14) rfl ?_
  refine kr_iast C0 hP hD hS 2 1 rfl rfl (k := 14) (x := md_T 14) (by decide) (by decide) d_Model_init_476 (fun H locs hP hD hS => ?_)
  have hP : va_P D classes ([(h0, .inr (2, fs)), (a7, .inl (cI, 64, .inl md_K)), (a9, .inl (cI, 16, .inl (upd f 14 (md_T 14))))]) H := hP
  have hD : va_D A ([(h0, .inr (2, fs)), (a7, .inl (cI, 64, .inl md_K)), (a9, .inl (cI, 16, .inl (upd f 14 (md_T 14))))]) := hD
  have hf := up_lt hf
  generalize upd f 14 (md_T 14) = f at hf hP hD
  refine lv_dup hx hb d_Model_init_477 rfl ?_
  refine lv_bipush (v := nI 15) hx hb d_Model_init_478 (by decide) ?_
  refine lv_bipush (v := nI 21) hx hb d_Model_init_480 (by decide) ?_
  refine kt_i (y := md_T 15) rfl ?_
  refine kr_iast C0 hP hD hS 2 1 rfl rfl (k := 15) (x := md_T 15) (by decide) (by decide) d_Model_init_482 (fun H locs hP hD hS => ?_)
  have hP : va_P D classes ([(h0, .inr (2, fs)), (a7, .inl (cI, 64, .inl md_K)), (a9, .inl (cI, 16, .inl (upd f 15 (md_T 15))))]) H := hP
  have hD : va_D A ([(h0, .inr (2, fs)), (a7, .inl (cI, 64, .inl md_K)), (a9, .inl (cI, 16, .inl (upd f 15 (md_T 15))))]) := hD
  have hf := up_lt hf
  generalize upd f 15 (md_T 15) = f at hf hP hD
  exact kk f H locs hf hP hD hS
set_option maxHeartbeats 4000000 in
set_option maxRecDepth 100000 in
/-- KeySumsModel(): eleven arrays come -/
theorem c_Model_init (l : Launch) (D : va_G) (cB cI : ClassId) (kt tt : Nat) (h0 : Nat) : CtV l y_Model_init w_Model_init { frames := 1, cells := 11, slots := 2196, locals := 21 } [.ref h0] D (tyL cB cI) kt tt [(h0, .inr (2, [.null, .null, .null, .null, .null, .null, .int 0, .null, .null, .null, .null, .int 0, .null, .int 0]))] (fun (q : Nat → Nat) => q 0 = h0) (fun (u : Nat → Nat) => wMg u cI (fun _ => 0) 0 (fun _ => 0) (fun _ => 0, md_B, 0) (0, 0, 0, 0) (fun _ => 0) 0) := by
  refine ctV_of (by decide) (Nat.le_of_ble_eq_true rfl) ?_
  intro p e s m below meth c A ls C0 hr hlk hin hP hD hl
  have C0 : Cx p s m _ c b_Model_init 1 "KeySumsModel" D (tyL cB cI) A kt tt := C0
  obtain ⟨hx, hb, hml, hown, hcm, hK, hA, hZ⟩ := id C0
  have hS : va_S A s.heap s.heap [] := va_S.rf
  have hin : meth.name = "<init>" := hin
  have hl : lv_has ls 1 [(0, .ref h0)] := hl
  obtain ⟨H, hH⟩ : ∃ H, H = s.heap := ⟨_, rfl⟩
  have hP0 := hP
  rw [← hH] at hP
  have hS : va_S A s.heap H [] := by rw [hH]; exact hS
  suffices hgoal : W p l e _ s m _ below meth c H [] 0 0 _ (F0 m 0 ls []) by rw [hH] at hgoal; exact hgoal
  clear hP0 hH
  refine lv_aload_n hx hb d_Model_init_0 rfl (lv_at hl 0 rfl) ?_
  refine W.objInit hx hb hown (hcm _ kw_137) (hcm _ kw_18) (hcm _ kw_19) rfl (by rw [hml]; exact hl.1) rfl d_Model_init_1 (Nat.le_of_ble_eq_true rfl) (Nat.le_of_ble_eq_true rfl) ?_
  refine W.eq (g2 := F0 m 4 ls []) rfl ?_
  refine lv_aload_n hx hb d_Model_init_4 rfl (lv_at hl 0 rfl) ?_
  refine lv_bipush (v := nI 64) hx hb d_Model_init_5 (by decide) ?_
  refine kr_newI C0 hP hD hS (k := 64) (by decide) (Nat.le_of_ble_eq_true rfl) (Nat.le_of_ble_eq_true rfl) d_Model_init_7 (fun a7 H hP hD hS => ?_)
  have hP : va_P D classes [(h0, .inr (2, [.null, .null, .null, .null, .null, .null, .int 0, .null, .null, .null, .null, .int 0, .null, .int 0])), (a7, .inl (cI, 64, .inl (fun _ => 0)))] H := hP
  have hD : va_D A [(h0, .inr (2, [.null, .null, .null, .null, .null, .null, .int 0, .null, .null, .null, .null, .int 0, .null, .int 0])), (a7, .inl (cI, 64, .inl (fun _ => 0)))] := hD
  refine mi_K0 C0 h0 a7 _ ls ?_ _ H _ (fun j hj => absurd hj (Nat.not_lt_zero j)) hP hD hS
  intro f H locs hf hP hD hS
  refine mi_K1 C0 h0 a7 _ ls ?_ f H locs hf hP hD hS
  intro f H locs hf hP hD hS
  refine mi_K2 C0 h0 a7 _ ls ?_ f H locs hf hP hD hS
  intro f H locs hf hP hD hS
  refine mi_K3 C0 h0 a7 _ ls ?_ f H locs hf hP hD hS
  intro f H locs hf hP hD hS
  obtain ⟨hP, hD⟩ := kr_ext hP hD 1 (md_K) rfl hf
  have hP : va_P D classes [(h0, .inr (2, [.null, .null, .null, .null, .null, .null, .int 0, .null, .null, .null, .null, .int 0, .null, .int 0])), (a7, .inl (cI, 64, .inl md_K))] H := hP
  have hD : va_D A [(h0, .inr (2, [.null, .null, .null, .null, .null, .null, .int 0, .null, .null, .null, .null, .int 0, .null, .int 0])), (a7, .inl (cI, 64, .inl md_K))] := hD
  refine va_putF (D := D) (ci := 2) (v := .ref a7) (ty := .array .int) (C := "KeySumsModel") (T := F_Model) (N := 14) hx hb hcm i_Model t_Model t_Model_ok n_Model hown hK hP hD hS 0 rfl rfl 0 (by decide) (hcm _ kw_210) (fun _ h9 => h9) rfl hin rfl (by decide +kernel) rfl rfl (Nat.le_of_ble_eq_true rfl) d_Model_init_387 (fun H locs hP hD hS => ?_)
  have hP : va_P D classes [(h0, .inr (2, [.ref a7, .null, .null, .null, .null, .null, .int 0, .null, .null, .null, .null, .int 0, .null, .int 0])), (a7, .inl (cI, 64, .inl md_K))] H := hP
  have hD : va_D A [(h0, .inr (2, [.ref a7, .null, .null, .null, .null, .null, .int 0, .null, .null, .null, .null, .int 0, .null, .int 0])), (a7, .inl (cI, 64, .inl md_K))] := hD
  refine lv_aload_n hx hb d_Model_init_390 rfl (lv_at hl 0 rfl) ?_
  refine lv_bipush (v := nI 16) hx hb d_Model_init_391 (by decide) ?_
  refine kr_newI C0 hP hD hS (k := 16) (by decide) (Nat.le_of_ble_eq_true rfl) (Nat.le_of_ble_eq_true rfl) d_Model_init_393 (fun a393 H hP hD hS => ?_)
  have hP : va_P D classes [(h0, .inr (2, [.ref a7, .null, .null, .null, .null, .null, .int 0, .null, .null, .null, .null, .int 0, .null, .int 0])), (a7, .inl (cI, 64, .inl md_K)), (a393, .inl (cI, 16, .inl (fun _ => 0)))] H := hP
  have hD : va_D A [(h0, .inr (2, [.ref a7, .null, .null, .null, .null, .null, .int 0, .null, .null, .null, .null, .int 0, .null, .int 0])), (a7, .inl (cI, 64, .inl md_K)), (a393, .inl (cI, 16, .inl (fun _ => 0)))] := hD
  refine mi_T C0 h0 a7 a393 _ ls ?_ _ H _ (fun j hj => absurd hj (Nat.not_lt_zero j)) hP hD hS
  intro f H locs hf hP hD hS
  obtain ⟨hP, hD⟩ := kr_ext hP hD 2 (md_T) rfl hf
  have hP : va_P D classes [(h0, .inr (2, [.ref a7, .null, .null, .null, .null, .null, .int 0, .null, .null, .null, .null, .int 0, .null, .int 0])), (a7, .inl (cI, 64, .inl md_K)), (a393, .inl (cI, 16, .inl md_T))] H := hP
  have hD : va_D A [(h0, .inr (2, [.ref a7, .null, .null, .null, .null, .null, .int 0, .null, .null, .null, .null, .int 0, .null, .int 0])), (a7, .inl (cI, 64, .inl md_K)), (a393, .inl (cI, 16, .inl md_T))] := hD
  refine va_putF (D := D) (ci := 2) (v := .ref a393) (ty := .array .int) (C := "KeySumsModel") (T := F_Model) (N := 14) hx hb hcm i_Model t_Model t_Model_ok n_Model hown hK hP hD hS 0 rfl rfl 1 (by decide) (hcm _ kw_211) (fun _ h9 => h9) rfl hin rfl (by decide +kernel) rfl rfl (Nat.le_of_ble_eq_true rfl) d_Model_init_483 (fun H locs hP hD hS => ?_)
  have hP : va_P D classes [(h0, .inr (2, [.ref a7, .ref a393, .null, .null, .null, .null, .int 0, .null, .null, .null, .null, .int 0, .null, .int 0])), (a7, .inl (cI, 64, .inl md_K)), (a393, .inl (cI, 16, .inl md_T))] H := hP
  have hD : va_D A [(h0, .inr (2, [.ref a7, .ref a393, .null, .null, .null, .null, .int 0, .null, .null, .null, .null, .int 0, .null, .int 0])), (a7, .inl (cI, 64, .inl md_K)), (a393, .inl (cI, 16, .inl md_T))] := hD
  refine lv_aload_n hx hb d_Model_init_486 rfl (lv_at hl 0 rfl) ?_
  refine lv_iconst (v := nI 4) hx hb d_Model_init_487 (by decide) ?_
  refine kr_newI C0 hP hD hS (k := 4) (by decide) (Nat.le_of_ble_eq_true rfl) (Nat.le_of_ble_eq_true rfl) d_Model_init_488 (fun a488 H hP hD hS => ?_)
  have hP : va_P D classes [(h0, .inr (2, [.ref a7, .ref a393, .null, .null, .null, .null, .int 0, .null, .null, .null, .null, .int 0, .null, .int 0])), (a7, .inl (cI, 64, .inl md_K)), (a393, .inl (cI, 16, .inl md_T)), (a488, .inl (cI, 4, .inl (fun _ => 0)))] H := hP
  have hD : va_D A [(h0, .inr (2, [.ref a7, .ref a393, .null, .null, .null, .null, .int 0, .null, .null, .null, .null, .int 0, .null, .int 0])), (a7, .inl (cI, 64, .inl md_K)), (a393, .inl (cI, 16, .inl md_T)), (a488, .inl (cI, 4, .inl (fun _ => 0)))] := hD
  refine lv_dup hx hb d_Model_init_490 rfl ?_
  refine lv_iconst (v := nI 0) hx hb d_Model_init_491 (by decide) ?_
  refine lv_ldc hx hb hown (hcm _ kw_202) d_Model_init_492 ?_
  refine kr_iast C0 hP hD hS 3 1 rfl rfl (k := 0) (x := 1732584193) (by decide) (by decide) d_Model_init_494 (fun H locs hP hD hS => ?_)
  have hP : va_P D classes [(h0, .inr (2, [.ref a7, .ref a393, .null, .null, .null, .null, .int 0, .null, .null, .null, .null, .int 0, .null, .int 0])), (a7, .inl (cI, 64, .inl md_K)), (a393, .inl (cI, 16, .inl md_T)), (a488, .inl (cI, 4, .inl (upd (fun _ => 0) 0 1732584193)))] H := hP
  have hD : va_D A [(h0, .inr (2, [.ref a7, .ref a393, .null, .null, .null, .null, .int 0, .null, .null, .null, .null, .int 0, .null, .int 0])), (a7, .inl (cI, 64, .inl md_K)), (a393, .inl (cI, 16, .inl md_T)), (a488, .inl (cI, 4, .inl (upd (fun _ => 0) 0 1732584193)))] := hD
  refine lv_dup hx hb d_Model_init_495 rfl ?_
  refine lv_iconst (v := nI 1) hx hb d_Model_init_496 (by decide) ?_
  refine lv_ldc hx hb hown (hcm _ kw_203) d_Model_init_497 ?_
  refine kr_iast C0 hP hD hS 3 1 rfl rfl (k := 1) (x := -271733879) (by decide) (by decide) d_Model_init_499 (fun H locs hP hD hS => ?_)
  have hP : va_P D classes [(h0, .inr (2, [.ref a7, .ref a393, .null, .null, .null, .null, .int 0, .null, .null, .null, .null, .int 0, .null, .int 0])), (a7, .inl (cI, 64, .inl md_K)), (a393, .inl (cI, 16, .inl md_T)), (a488, .inl (cI, 4, .inl (upd (upd (fun _ => 0) 0 1732584193) 1 (-271733879))))] H := hP
  have hD : va_D A [(h0, .inr (2, [.ref a7, .ref a393, .null, .null, .null, .null, .int 0, .null, .null, .null, .null, .int 0, .null, .int 0])), (a7, .inl (cI, 64, .inl md_K)), (a393, .inl (cI, 16, .inl md_T)), (a488, .inl (cI, 4, .inl (upd (upd (fun _ => 0) 0 1732584193) 1 (-271733879))))] := hD
  refine lv_dup hx hb d_Model_init_500 rfl ?_
  refine lv_iconst (v := nI 2) hx hb d_Model_init_501 (by decide) ?_
  refine lv_ldc hx hb hown (hcm _ kw_204) d_Model_init_502 ?_
  refine kr_iast C0 hP hD hS 3 1 rfl rfl (k := 2) (x := -1732584194) (by decide) (by decide) d_Model_init_504 (fun H locs hP hD hS => ?_)
  have hP : va_P D classes [(h0, .inr (2, [.ref a7, .ref a393, .null, .null, .null, .null, .int 0, .null, .null, .null, .null, .int 0, .null, .int 0])), (a7, .inl (cI, 64, .inl md_K)), (a393, .inl (cI, 16, .inl md_T)), (a488, .inl (cI, 4, .inl (upd (upd (upd (fun _ => 0) 0 1732584193) 1 (-271733879)) 2 (-1732584194))))] H := hP
  have hD : va_D A [(h0, .inr (2, [.ref a7, .ref a393, .null, .null, .null, .null, .int 0, .null, .null, .null, .null, .int 0, .null, .int 0])), (a7, .inl (cI, 64, .inl md_K)), (a393, .inl (cI, 16, .inl md_T)), (a488, .inl (cI, 4, .inl (upd (upd (upd (fun _ => 0) 0 1732584193) 1 (-271733879)) 2 (-1732584194))))] := hD
  refine lv_dup hx hb d_Model_init_505 rfl ?_
  refine lv_iconst (v := nI 3) hx hb d_Model_init_506 (by decide) ?_
  refine lv_ldc hx hb hown (hcm _ kw_205) d_Model_init_507 ?_
  refine kr_iast C0 hP hD hS 3 1 rfl rfl (k := 3) (x := 271733878) (by decide) (by decide) d_Model_init_509 (fun H locs hP hD hS => ?_)
  have hP : va_P D classes [(h0, .inr (2, [.ref a7, .ref a393, .null, .null, .null, .null, .int 0, .null, .null, .null, .null, .int 0, .null, .int 0])), (a7, .inl (cI, 64, .inl md_K)), (a393, .inl (cI, 16, .inl md_T)), (a488, .inl (cI, 4, .inl (upd (upd (upd (upd (fun _ => 0) 0 1732584193) 1 (-271733879)) 2 (-1732584194)) 3 271733878)))] H := hP
  have hD : va_D A [(h0, .inr (2, [.ref a7, .ref a393, .null, .null, .null, .null, .int 0, .null, .null, .null, .null, .int 0, .null, .int 0])), (a7, .inl (cI, 64, .inl md_K)), (a393, .inl (cI, 16, .inl md_T)), (a488, .inl (cI, 4, .inl (upd (upd (upd (upd (fun _ => 0) 0 1732584193) 1 (-271733879)) 2 (-1732584194)) 3 271733878)))] := hD
  obtain ⟨hP, hD⟩ := kr_ext hP hD 3 (h4 md_B) rfl (fun j hj => by rcases (show j = 0 ∨ j = 1 ∨ j = 2 ∨ j = 3 by omega) with rfl | rfl | rfl | rfl <;> rfl)
  have hP : va_P D classes [(h0, .inr (2, [.ref a7, .ref a393, .null, .null, .null, .null, .int 0, .null, .null, .null, .null, .int 0, .null, .int 0])), (a7, .inl (cI, 64, .inl md_K)), (a393, .inl (cI, 16, .inl md_T)), (a488, .inl (cI, 4, .inl (h4 md_B)))] H := hP
  have hD : va_D A [(h0, .inr (2, [.ref a7, .ref a393, .null, .null, .null, .null, .int 0, .null, .null, .null, .null, .int 0, .null, .int 0])), (a7, .inl (cI, 64, .inl md_K)), (a393, .inl (cI, 16, .inl md_T)), (a488, .inl (cI, 4, .inl (h4 md_B)))] := hD
  refine va_putF (D := D) (ci := 2) (v := .ref a488) (ty := .array .int) (C := "KeySumsModel") (T := F_Model) (N := 14) hx hb hcm i_Model t_Model t_Model_ok n_Model hown hK hP hD hS 0 rfl rfl 2 (by decide) (hcm _ kw_212) (fun _ h9 => h9) rfl hin rfl (by decide +kernel) rfl rfl (Nat.le_of_ble_eq_true rfl) d_Model_init_510 (fun H locs hP hD hS => ?_)
  have hP : va_P D classes [(h0, .inr (2, [.ref a7, .ref a393, .ref a488, .null, .null, .null, .int 0, .null, .null, .null, .null, .int 0, .null, .int 0])), (a7, .inl (cI, 64, .inl md_K)), (a393, .inl (cI, 16, .inl md_T)), (a488, .inl (cI, 4, .inl (h4 md_B)))] H := hP
  have hD : va_D A [(h0, .inr (2, [.ref a7, .ref a393, .ref a488, .null, .null, .null, .int 0, .null, .null, .null, .null, .int 0, .null, .int 0])), (a7, .inl (cI, 64, .inl md_K)), (a393, .inl (cI, 16, .inl md_T)), (a488, .inl (cI, 4, .inl (h4 md_B)))] := hD
  refine lv_aload_n hx hb d_Model_init_513 rfl (lv_at hl 0 rfl) ?_
  refine lv_iconst (v := nI 4) hx hb d_Model_init_514 (by decide) ?_
  refine kr_newI C0 hP hD hS (k := 4) (by decide) (Nat.le_of_ble_eq_true rfl) (Nat.le_of_ble_eq_true rfl) d_Model_init_515 (fun a515 H hP hD hS => ?_)
  have hP : va_P D classes [(h0, .inr (2, [.ref a7, .ref a393, .ref a488, .null, .null, .null, .int 0, .null, .null, .null, .null, .int 0, .null, .int 0])), (a7, .inl (cI, 64, .inl md_K)), (a393, .inl (cI, 16, .inl md_T)), (a488, .inl (cI, 4, .inl (h4 md_B))), (a515, .inl (cI, 4, .inl (fun _ => 0)))] H := hP
  have hD : va_D A [(h0, .inr (2, [.ref a7, .ref a393, .ref a488, .null, .null, .null, .int 0, .null, .null, .null, .null, .int 0, .null, .int 0])), (a7, .inl (cI, 64, .inl md_K)), (a393, .inl (cI, 16, .inl md_T)), (a488, .inl (cI, 4, .inl (h4 md_B))), (a515, .inl (cI, 4, .inl (fun _ => 0)))] := hD
  refine lv_dup hx hb d_Model_init_517 rfl ?_
  refine lv_iconst (v := nI 0) hx hb d_Model_init_518 (by decide) ?_
  refine lv_iconst (v := nI 1) hx hb d_Model_init_519 (by decide) ?_
  refine kr_iast C0 hP hD hS 4 1 rfl rfl (k := 0) (x := nI 1) (by decide) (by decide) d_Model_init_520 (fun H locs hP hD hS => ?_)
  have hP : va_P D classes [(h0, .inr (2, [.ref a7, .ref a393, .ref a488, .null, .null, .null, .int 0, .null, .null, .null, .null, .int 0, .null, .int 0])), (a7, .inl (cI, 64, .inl md_K)), (a393, .inl (cI, 16, .inl md_T)), (a488, .inl (cI, 4, .inl (h4 md_B))), (a515, .inl (cI, 4, .inl (upd (fun _ => 0) 0 (nI 1))))] H := hP
  have hD : va_D A [(h0, .inr (2, [.ref a7, .ref a393, .ref a488, .null, .null, .null, .int 0, .null, .null, .null, .null, .int 0, .null, .int 0])), (a7, .inl (cI, 64, .inl md_K)), (a393, .inl (cI, 16, .inl md_T)), (a488, .inl (cI, 4, .inl (h4 md_B))), (a515, .inl (cI, 4, .inl (upd (fun _ => 0) 0 (nI 1))))] := hD
  refine lv_dup hx hb d_Model_init_521 rfl ?_
  refine lv_iconst (v := nI 1) hx hb d_Model_init_522 (by decide) ?_
  refine lv_iconst (v := nI 5) hx hb d_Model_init_523 (by decide) ?_
  refine kr_iast C0 hP hD hS 4 1 rfl rfl (k := 1) (x := nI 5) (by decide) (by decide) d_Model_init_524 (fun H locs hP hD hS => ?_)
  have hP : va_P D classes [(h0, .inr (2, [.ref a7, .ref a393, .ref a488, .null, .null, .null, .int 0, .null, .null, .null, .null, .int 0, .null, .int 0])), (a7, .inl (cI, 64, .inl md_K)), (a393, .inl (cI, 16, .inl md_T)), (a488, .inl (cI, 4, .inl (h4 md_B))), (a515, .inl (cI, 4, .inl (upd (upd (fun _ => 0) 0 (nI 1)) 1 (nI 5))))] H := hP
  have hD : va_D A [(h0, .inr (2, [.ref a7, .ref a393, .ref a488, .null, .null, .null, .int 0, .null, .null, .null, .null, .int 0, .null, .int 0])), (a7, .inl (cI, 64, .inl md_K)), (a393, .inl (cI, 16, .inl md_T)), (a488, .inl (cI, 4, .inl (h4 md_B))), (a515, .inl (cI, 4, .inl (upd (upd (fun _ => 0) 0 (nI 1)) 1 (nI 5))))] := hD
  refine lv_dup hx hb d_Model_init_525 rfl ?_
  refine lv_iconst (v := nI 2) hx hb d_Model_init_526 (by decide) ?_
  refine lv_iconst (v := nI 3) hx hb d_Model_init_527 (by decide) ?_
  refine kr_iast C0 hP hD hS 4 1 rfl rfl (k := 2) (x := nI 3) (by decide) (by decide) d_Model_init_528 (fun H locs hP hD hS => ?_)
  have hP : va_P D classes [(h0, .inr (2, [.ref a7, .ref a393, .ref a488, .null, .null, .null, .int 0, .null, .null, .null, .null, .int 0, .null, .int 0])), (a7, .inl (cI, 64, .inl md_K)), (a393, .inl (cI, 16, .inl md_T)), (a488, .inl (cI, 4, .inl (h4 md_B))), (a515, .inl (cI, 4, .inl (upd (upd (upd (fun _ => 0) 0 (nI 1)) 1 (nI 5)) 2 (nI 3))))] H := hP
  have hD : va_D A [(h0, .inr (2, [.ref a7, .ref a393, .ref a488, .null, .null, .null, .int 0, .null, .null, .null, .null, .int 0, .null, .int 0])), (a7, .inl (cI, 64, .inl md_K)), (a393, .inl (cI, 16, .inl md_T)), (a488, .inl (cI, 4, .inl (h4 md_B))), (a515, .inl (cI, 4, .inl (upd (upd (upd (fun _ => 0) 0 (nI 1)) 1 (nI 5)) 2 (nI 3))))] := hD
  refine lv_dup hx hb d_Model_init_529 rfl ?_
  refine lv_iconst (v := nI 3) hx hb d_Model_init_530 (by decide) ?_
  refine lv_bipush (v := nI 7) hx hb d_Model_init_531 (by decide) ?_
  refine kr_iast C0 hP hD hS 4 1 rfl rfl (k := 3) (x := nI 7) (by decide) (by decide) d_Model_init_533 (fun H locs hP hD hS => ?_)
  have hP : va_P D classes [(h0, .inr (2, [.ref a7, .ref a393, .ref a488, .null, .null, .null, .int 0, .null, .null, .null, .null, .int 0, .null, .int 0])), (a7, .inl (cI, 64, .inl md_K)), (a393, .inl (cI, 16, .inl md_T)), (a488, .inl (cI, 4, .inl (h4 md_B))), (a515, .inl (cI, 4, .inl (upd (upd (upd (upd (fun _ => 0) 0 (nI 1)) 1 (nI 5)) 2 (nI 3)) 3 (nI 7))))] H := hP
  have hD : va_D A [(h0, .inr (2, [.ref a7, .ref a393, .ref a488, .null, .null, .null, .int 0, .null, .null, .null, .null, .int 0, .null, .int 0])), (a7, .inl (cI, 64, .inl md_K)), (a393, .inl (cI, 16, .inl md_T)), (a488, .inl (cI, 4, .inl (h4 md_B))), (a515, .inl (cI, 4, .inl (upd (upd (upd (upd (fun _ => 0) 0 (nI 1)) 1 (nI 5)) 2 (nI 3)) 3 (nI 7))))] := hD
  obtain ⟨hP, hD⟩ := kr_ext hP hD 4 (fun j => nI (md_ti j)) rfl (fun j hj => by rcases (show j = 0 ∨ j = 1 ∨ j = 2 ∨ j = 3 by omega) with rfl | rfl | rfl | rfl <;> rfl)
  have hP : va_P D classes [(h0, .inr (2, [.ref a7, .ref a393, .ref a488, .null, .null, .null, .int 0, .null, .null, .null, .null, .int 0, .null, .int 0])), (a7, .inl (cI, 64, .inl md_K)), (a393, .inl (cI, 16, .inl md_T)), (a488, .inl (cI, 4, .inl (h4 md_B))), (a515, .inl (cI, 4, .inl (fun j => nI (md_ti j))))] H := hP
  have hD : va_D A [(h0, .inr (2, [.ref a7, .ref a393, .ref a488, .null, .null, .null, .int 0, .null, .null, .null, .null, .int 0, .null, .int 0])), (a7, .inl (cI, 64, .inl md_K)), (a393, .inl (cI, 16, .inl md_T)), (a488, .inl (cI, 4, .inl (h4 md_B))), (a515, .inl (cI, 4, .inl (fun j => nI (md_ti j))))] := hD
  refine va_putF (D := D) (ci := 2) (v := .ref a515) (ty := .array .int) (C := "KeySumsModel") (T := F_Model) (N := 14) hx hb hcm i_Model t_Model t_Model_ok n_Model hown hK hP hD hS 0 rfl rfl 3 (by decide) (hcm _ kw_213) (fun _ h9 => h9) rfl hin rfl (by decide +kernel) rfl rfl (Nat.le_of_ble_eq_true rfl) d_Model_init_534 (fun H locs hP hD hS => ?_)
  have hP : va_P D classes [(h0, .inr (2, [.ref a7, .ref a393, .ref a488, .ref a515, .null, .null, .int 0, .null, .null, .null, .null, .int 0, .null, .int 0])), (a7, .inl (cI, 64, .inl md_K)), (a393, .inl (cI, 16, .inl md_T)), (a488, .inl (cI, 4, .inl (h4 md_B))), (a515, .inl (cI, 4, .inl (fun j => nI (md_ti j))))] H := hP
  have hD : va_D A [(h0, .inr (2, [.ref a7, .ref a393, .ref a488, .ref a515, .null, .null, .int 0, .null, .null, .null, .null, .int 0, .null, .int 0])), (a7, .inl (cI, 64, .inl md_K)), (a393, .inl (cI, 16, .inl md_T)), (a488, .inl (cI, 4, .inl (h4 md_B))), (a515, .inl (cI, 4, .inl (fun j => nI (md_ti j))))] := hD
  refine lv_aload_n hx hb d_Model_init_537 rfl (lv_at hl 0 rfl) ?_
  refine lv_iconst (v := nI 4) hx hb d_Model_init_538 (by decide) ?_
  refine kr_newI C0 hP hD hS (k := 4) (by decide) (Nat.le_of_ble_eq_true rfl) (Nat.le_of_ble_eq_true rfl) d_Model_init_539 (fun a539 H hP hD hS => ?_)
  have hP : va_P D classes [(h0, .inr (2, [.ref a7, .ref a393, .ref a488, .ref a515, .null, .null, .int 0, .null, .null, .null, .null, .int 0, .null, .int 0])), (a7, .inl (cI, 64, .inl md_K)), (a393, .inl (cI, 16, .inl md_T)), (a488, .inl (cI, 4, .inl (h4 md_B))), (a515, .inl (cI, 4, .inl (fun j => nI (md_ti j)))), (a539, .inl (cI, 4, .inl (fun _ => 0)))] H := hP
  have hD : va_D A [(h0, .inr (2, [.ref a7, .ref a393, .ref a488, .ref a515, .null, .null, .int 0, .null, .null, .null, .null, .int 0, .null, .int 0])), (a7, .inl (cI, 64, .inl md_K)), (a393, .inl (cI, 16, .inl md_T)), (a488, .inl (cI, 4, .inl (h4 md_B))), (a515, .inl (cI, 4, .inl (fun j => nI (md_ti j)))), (a539, .inl (cI, 4, .inl (fun _ => 0)))] := hD
  refine lv_dup hx hb d_Model_init_541 rfl ?_
  refine lv_iconst (v := nI 0) hx hb d_Model_init_542 (by decide) ?_
  refine lv_iconst (v := nI 0) hx hb d_Model_init_543 (by decide) ?_
  refine kr_iast C0 hP hD hS 5 1 rfl rfl (k := 0) (x := nI 0) (by decide) (by decide) d_Model_init_544 (fun H locs hP hD hS => ?_)
  have hP : va_P D classes [(h0, .inr (2, [.ref a7, .ref a393, .ref a488, .ref a515, .null, .null, .int 0, .null, .null, .null, .null, .int 0, .null, .int 0])), (a7, .inl (cI, 64, .inl md_K)), (a393, .inl (cI, 16, .inl md_T)), (a488, .inl (cI, 4, .inl (h4 md_B))), (a515, .inl (cI, 4, .inl (fun j => nI (md_ti j)))), (a539, .inl (cI, 4, .inl (upd (fun _ => 0) 0 (nI 0))))] H := hP
  have hD : va_D A [(h0, .inr (2, [.ref a7, .ref a393, .ref a488, .ref a515, .null, .null, .int 0, .null, .null, .null, .null, .int 0, .null, .int 0])), (a7, .inl (cI, 64, .inl md_K)), (a393, .inl (cI, 16, .inl md_T)), (a488, .inl (cI, 4, .inl (h4 md_B))), (a515, .inl (cI, 4, .inl (fun j => nI (md_ti j)))), (a539, .inl (cI, 4, .inl (upd (fun _ => 0) 0 (nI 0))))] := hD
  refine lv_dup hx hb d_Model_init_545 rfl ?_
  refine lv_iconst (v := nI 1) hx hb d_Model_init_546 (by decide) ?_
  refine lv_iconst (v := nI 1) hx hb d_Model_init_547 (by decide) ?_
  refine kr_iast C0 hP hD hS 5 1 rfl rfl (k := 1) (x := nI 1) (by decide) (by decide) d_Model_init_548 (fun H locs hP hD hS => ?_)
  have hP : va_P D classes [(h0, .inr (2, [.ref a7, .ref a393, .ref a488, .ref a515, .null, .null, .int 0, .null, .null, .null, .null, .int 0, .null, .int 0])), (a7, .inl (cI, 64, .inl md_K)), (a393, .inl (cI, 16, .inl md_T)), (a488, .inl (cI, 4, .inl (h4 md_B))), (a515, .inl (cI, 4, .inl (fun j => nI (md_ti j)))), (a539, .inl (cI, 4, .inl (upd (upd (fun _ => 0) 0 (nI 0)) 1 (nI 1))))] H := hP
  have hD : va_D A [(h0, .inr (2, [.ref a7, .ref a393, .ref a488, .ref a515, .null, .null, .int 0, .null, .null, .null, .null, .int 0, .null, .int 0])), (a7, .inl (cI, 64, .inl md_K)), (a393, .inl (cI, 16, .inl md_T)), (a488, .inl (cI, 4, .inl (h4 md_B))), (a515, .inl (cI, 4, .inl (fun j => nI (md_ti j)))), (a539, .inl (cI, 4, .inl (upd (upd (fun _ => 0) 0 (nI 0)) 1 (nI 1))))] := hD
  refine lv_dup hx hb d_Model_init_549 rfl ?_
  refine lv_iconst (v := nI 2) hx hb d_Model_init_550 (by decide) ?_
  refine lv_iconst (v := nI 5) hx hb d_Model_init_551 (by decide) ?_
  refine kr_iast C0 hP hD hS 5 1 rfl rfl (k := 2) (x := nI 5) (by decide) (by decide) d_Model_init_552 (fun H locs hP hD hS => ?_)
  have hP : va_P D classes [(h0, .inr (2, [.ref a7, .ref a393, .ref a488, .ref a515, .null, .null, .int 0, .null, .null, .null, .null, .int 0, .null, .int 0])), (a7, .inl (cI, 64, .inl md_K)), (a393, .inl (cI, 16, .inl md_T)), (a488, .inl (cI, 4, .inl (h4 md_B))), (a515, .inl (cI, 4, .inl (fun j => nI (md_ti j)))), (a539, .inl (cI, 4, .inl (upd (upd (upd (fun _ => 0) 0 (nI 0)) 1 (nI 1)) 2 (nI 5))))] H := hP
  have hD : va_D A [(h0, .inr (2, [.ref a7, .ref a393, .ref a488, .ref a515, .null, .null, .int 0, .null, .null, .null, .null, .int 0, .null, .int 0])), (a7, .inl (cI, 64, .inl md_K)), (a393, .inl (cI, 16, .inl md_T)), (a488, .inl (cI, 4, .inl (h4 md_B))), (a515, .inl (cI, 4, .inl (fun j => nI (md_ti j)))), (a539, .inl (cI, 4, .inl (upd (upd (upd (fun _ => 0) 0 (nI 0)) 1 (nI 1)) 2 (nI 5))))] := hD
  refine lv_dup hx hb d_Model_init_553 rfl ?_
  refine lv_iconst (v := nI 3) hx hb d_Model_init_554 (by decide) ?_
  refine lv_iconst (v := nI 0) hx hb d_Model_init_555 (by decide) ?_
  refine kr_iast C0 hP hD hS 5 1 rfl rfl (k := 3) (x := nI 0) (by decide) (by decide) d_Model_init_556 (fun H locs hP hD hS => ?_)
  have hP : va_P D classes [(h0, .inr (2, [.ref a7, .ref a393, .ref a488, .ref a515, .null, .null, .int 0, .null, .null, .null, .null, .int 0, .null, .int 0])), (a7, .inl (cI, 64, .inl md_K)), (a393, .inl (cI, 16, .inl md_T)), (a488, .inl (cI, 4, .inl (h4 md_B))), (a515, .inl (cI, 4, .inl (fun j => nI (md_ti j)))), (a539, .inl (cI, 4, .inl (upd (upd (upd (upd (fun _ => 0) 0 (nI 0)) 1 (nI 1)) 2 (nI 5)) 3 (nI 0))))] H := hP
  have hD : va_D A [(h0, .inr (2, [.ref a7, .ref a393, .ref a488, .ref a515, .null, .null, .int 0, .null, .null, .null, .null, .int 0, .null, .int 0])), (a7, .inl (cI, 64, .inl md_K)), (a393, .inl (cI, 16, .inl md_T)), (a488, .inl (cI, 4, .inl (h4 md_B))), (a515, .inl (cI, 4, .inl (fun j => nI (md_ti j)))), (a539, .inl (cI, 4, .inl (upd (upd (upd (upd (fun _ => 0) 0 (nI 0)) 1 (nI 1)) 2 (nI 5)) 3 (nI 0))))] := hD
  obtain ⟨hP, hD⟩ := kr_ext hP hD 5 (fun j => nI (md_mo j)) rfl (fun j hj => by rcases (show j = 0 ∨ j = 1 ∨ j = 2 ∨ j = 3 by omega) with rfl | rfl | rfl | rfl <;> rfl)
  have hP : va_P D classes [(h0, .inr (2, [.ref a7, .ref a393, .ref a488, .ref a515, .null, .null, .int 0, .null, .null, .null, .null, .int 0, .null, .int 0])), (a7, .inl (cI, 64, .inl md_K)), (a393, .inl (cI, 16, .inl md_T)), (a488, .inl (cI, 4, .inl (h4 md_B))), (a515, .inl (cI, 4, .inl (fun j => nI (md_ti j)))), (a539, .inl (cI, 4, .inl (fun j => nI (md_mo j))))] H := hP
  have hD : va_D A [(h0, .inr (2, [.ref a7, .ref a393, .ref a488, .ref a515, .null, .null, .int 0, .null, .null, .null, .null, .int 0, .null, .int 0])), (a7, .inl (cI, 64, .inl md_K)), (a393, .inl (cI, 16, .inl md_T)), (a488, .inl (cI, 4, .inl (h4 md_B))), (a515, .inl (cI, 4, .inl (fun j => nI (md_ti j)))), (a539, .inl (cI, 4, .inl (fun j => nI (md_mo j))))] := hD
  refine va_putF (D := D) (ci := 2) (v := .ref a539) (ty := .array .int) (C := "KeySumsModel") (T := F_Model) (N := 14) hx hb hcm i_Model t_Model t_Model_ok n_Model hown hK hP hD hS 0 rfl rfl 4 (by decide) (hcm _ kw_214) (fun _ h9 => h9) rfl hin rfl (by decide +kernel) rfl rfl (Nat.le_of_ble_eq_true rfl) d_Model_init_557 (fun H locs hP hD hS => ?_)
  have hP : va_P D classes [(h0, .inr (2, [.ref a7, .ref a393, .ref a488, .ref a515, .ref a539, .null, .int 0, .null, .null, .null, .null, .int 0, .null, .int 0])), (a7, .inl (cI, 64, .inl md_K)), (a393, .inl (cI, 16, .inl md_T)), (a488, .inl (cI, 4, .inl (h4 md_B))), (a515, .inl (cI, 4, .inl (fun j => nI (md_ti j)))), (a539, .inl (cI, 4, .inl (fun j => nI (md_mo j))))] H := hP
  have hD : va_D A [(h0, .inr (2, [.ref a7, .ref a393, .ref a488, .ref a515, .ref a539, .null, .int 0, .null, .null, .null, .null, .int 0, .null, .int 0])), (a7, .inl (cI, 64, .inl md_K)), (a393, .inl (cI, 16, .inl md_T)), (a488, .inl (cI, 4, .inl (h4 md_B))), (a515, .inl (cI, 4, .inl (fun j => nI (md_ti j)))), (a539, .inl (cI, 4, .inl (fun j => nI (md_mo j))))] := hD
  refine lv_aload_n hx hb d_Model_init_560 rfl (lv_at hl 0 rfl) ?_
  refine lv_sipush (v := nI 2000) hx hb d_Model_init_561 (by decide) ?_
  refine kr_newI C0 hP hD hS (k := 2000) (by decide) (Nat.le_of_ble_eq_true rfl) (Nat.le_of_ble_eq_true rfl) d_Model_init_564 (fun a564 H hP hD hS => ?_)
  have hP : va_P D classes [(h0, .inr (2, [.ref a7, .ref a393, .ref a488, .ref a515, .ref a539, .null, .int 0, .null, .null, .null, .null, .int 0, .null, .int 0])), (a7, .inl (cI, 64, .inl md_K)), (a393, .inl (cI, 16, .inl md_T)), (a488, .inl (cI, 4, .inl (h4 md_B))), (a515, .inl (cI, 4, .inl (fun j => nI (md_ti j)))), (a539, .inl (cI, 4, .inl (fun j => nI (md_mo j)))), (a564, .inl (cI, 2000, .inl (fun _ => 0)))] H := hP
  have hD : va_D A [(h0, .inr (2, [.ref a7, .ref a393, .ref a488, .ref a515, .ref a539, .null, .int 0, .null, .null, .null, .null, .int 0, .null, .int 0])), (a7, .inl (cI, 64, .inl md_K)), (a393, .inl (cI, 16, .inl md_T)), (a488, .inl (cI, 4, .inl (h4 md_B))), (a515, .inl (cI, 4, .inl (fun j => nI (md_ti j)))), (a539, .inl (cI, 4, .inl (fun j => nI (md_mo j)))), (a564, .inl (cI, 2000, .inl (fun _ => 0)))] := hD
  refine va_putF (D := D) (ci := 2) (v := .ref a564) (ty := .array .int) (C := "KeySumsModel") (T := F_Model) (N := 14) hx hb hcm i_Model t_Model t_Model_ok n_Model hown hK hP hD hS 0 rfl rfl 5 (by decide) (hcm _ kw_215) (fun _ h9 => h9) rfl hin rfl (by decide +kernel) rfl rfl (Nat.le_of_ble_eq_true rfl) d_Model_init_566 (fun H locs hP hD hS => ?_)
  have hP : va_P D classes [(h0, .inr (2, [.ref a7, .ref a393, .ref a488, .ref a515, .ref a539, .ref a564, .int 0, .null, .null, .null, .null, .int 0, .null, .int 0])), (a7, .inl (cI, 64, .inl md_K)), (a393, .inl (cI, 16, .inl md_T)), (a488, .inl (cI, 4, .inl (h4 md_B))), (a515, .inl (cI, 4, .inl (fun j => nI (md_ti j)))), (a539, .inl (cI, 4, .inl (fun j => nI (md_mo j)))), (a564, .inl (cI, 2000, .inl (fun _ => 0)))] H := hP
  have hD : va_D A [(h0, .inr (2, [.ref a7, .ref a393, .ref a488, .ref a515, .ref a539, .ref a564, .int 0, .null, .null, .null, .null, .int 0, .null, .int 0])), (a7, .inl (cI, 64, .inl md_K)), (a393, .inl (cI, 16, .inl md_T)), (a488, .inl (cI, 4, .inl (h4 md_B))), (a515, .inl (cI, 4, .inl (fun j => nI (md_ti j)))), (a539, .inl (cI, 4, .inl (fun j => nI (md_mo j)))), (a564, .inl (cI, 2000, .inl (fun _ => 0)))] := hD
  refine lv_aload_n hx hb d_Model_init_569 rfl (lv_at hl 0 rfl) ?_
  refine lv_bipush (v := nI 16) hx hb d_Model_init_570 (by decide) ?_
  refine kr_newI C0 hP hD hS (k := 16) (by decide) (Nat.le_of_ble_eq_true rfl) (Nat.le_of_ble_eq_true rfl) d_Model_init_572 (fun a572 H hP hD hS => ?_)
  have hP : va_P D classes [(h0, .inr (2, [.ref a7, .ref a393, .ref a488, .ref a515, .ref a539, .ref a564, .int 0, .null, .null, .null, .null, .int 0, .null, .int 0])), (a7, .inl (cI, 64, .inl md_K)), (a393, .inl (cI, 16, .inl md_T)), (a488, .inl (cI, 4, .inl (h4 md_B))), (a515, .inl (cI, 4, .inl (fun j => nI (md_ti j)))), (a539, .inl (cI, 4, .inl (fun j => nI (md_mo j)))), (a564, .inl (cI, 2000, .inl (fun _ => 0))), (a572, .inl (cI, 16, .inl (fun _ => 0)))] H := hP
  have hD : va_D A [(h0, .inr (2, [.ref a7, .ref a393, .ref a488, .ref a515, .ref a539, .ref a564, .int 0, .null, .null, .null, .null, .int 0, .null, .int 0])), (a7, .inl (cI, 64, .inl md_K)), (a393, .inl (cI, 16, .inl md_T)), (a488, .inl (cI, 4, .inl (h4 md_B))), (a515, .inl (cI, 4, .inl (fun j => nI (md_ti j)))), (a539, .inl (cI, 4, .inl (fun j => nI (md_mo j)))), (a564, .inl (cI, 2000, .inl (fun _ => 0))), (a572, .inl (cI, 16, .inl (fun _ => 0)))] := hD
  refine va_putF (D := D) (ci := 2) (v := .ref a572) (ty := .array .int) (C := "KeySumsModel") (T := F_Model) (N := 14) hx hb hcm i_Model t_Model t_Model_ok n_Model hown hK hP hD hS 0 rfl rfl 7 (by decide) (hcm _ kw_217) (fun _ h9 => h9) rfl hin rfl (by decide +kernel) rfl rfl (Nat.le_of_ble_eq_true rfl) d_Model_init_574 (fun H locs hP hD hS => ?_)
  have hP : va_P D classes [(h0, .inr (2, [.ref a7, .ref a393, .ref a488, .ref a515, .ref a539, .ref a564, .int 0, .ref a572, .null, .null, .null, .int 0, .null, .int 0])), (a7, .inl (cI, 64, .inl md_K)), (a393, .inl (cI, 16, .inl md_T)), (a488, .inl (cI, 4, .inl (h4 md_B))), (a515, .inl (cI, 4, .inl (fun j => nI (md_ti j)))), (a539, .inl (cI, 4, .inl (fun j => nI (md_mo j)))), (a564, .inl (cI, 2000, .inl (fun _ => 0))), (a572, .inl (cI, 16, .inl (fun _ => 0)))] H := hP
  have hD : va_D A [(h0, .inr (2, [.ref a7, .ref a393, .ref a488, .ref a515, .ref a539, .ref a564, .int 0, .ref a572, .null, .null, .null, .int 0, .null, .int 0])), (a7, .inl (cI, 64, .inl md_K)), (a393, .inl (cI, 16, .inl md_T)), (a488, .inl (cI, 4, .inl (h4 md_B))), (a515, .inl (cI, 4, .inl (fun j => nI (md_ti j)))), (a539, .inl (cI, 4, .inl (fun j => nI (md_mo j)))), (a564, .inl (cI, 2000, .inl (fun _ => 0))), (a572, .inl (cI, 16, .inl (fun _ => 0)))] := hD
  refine lv_aload_n hx hb d_Model_init_577 rfl (lv_at hl 0 rfl) ?_
  refine lv_bipush (v := nI 64) hx hb d_Model_init_578 (by decide) ?_
  refine kr_newI C0 hP hD hS (k := 64) (by decide) (Nat.le_of_ble_eq_true rfl) (Nat.le_of_ble_eq_true rfl) d_Model_init_580 (fun a580 H hP hD hS => ?_)
  have hP : va_P D classes [(h0, .inr (2, [.ref a7, .ref a393, .ref a488, .ref a515, .ref a539, .ref a564, .int 0, .ref a572, .null, .null, .null, .int 0, .null, .int 0])), (a7, .inl (cI, 64, .inl md_K)), (a393, .inl (cI, 16, .inl md_T)), (a488, .inl (cI, 4, .inl (h4 md_B))), (a515, .inl (cI, 4, .inl (fun j => nI (md_ti j)))), (a539, .inl (cI, 4, .inl (fun j => nI (md_mo j)))), (a564, .inl (cI, 2000, .inl (fun _ => 0))), (a572, .inl (cI, 16, .inl (fun _ => 0))), (a580, .inl (cI, 64, .inl (fun _ => 0)))] H := hP
  have hD : va_D A [(h0, .inr (2, [.ref a7, .ref a393, .ref a488, .ref a515, .ref a539, .ref a564, .int 0, .ref a572, .null, .null, .null, .int 0, .null, .int 0])), (a7, .inl (cI, 64, .inl md_K)), (a393, .inl (cI, 16, .inl md_T)), (a488, .inl (cI, 4, .inl (h4 md_B))), (a515, .inl (cI, 4, .inl (fun j => nI (md_ti j)))), (a539, .inl (cI, 4, .inl (fun j => nI (md_mo j)))), (a564, .inl (cI, 2000, .inl (fun _ => 0))), (a572, .inl (cI, 16, .inl (fun _ => 0))), (a580, .inl (cI, 64, .inl (fun _ => 0)))] := hD
  refine va_putF (D := D) (ci := 2) (v := .ref a580) (ty := .array .int) (C := "KeySumsModel") (T := F_Model) (N := 14) hx hb hcm i_Model t_Model t_Model_ok n_Model hown hK hP hD hS 0 rfl rfl 8 (by decide) (hcm _ kw_218) (fun _ h9 => h9) rfl hin rfl (by decide +kernel) rfl rfl (Nat.le_of_ble_eq_true rfl) d_Model_init_582 (fun H locs hP hD hS => ?_)
  have hP : va_P D classes [(h0, .inr (2, [.ref a7, .ref a393, .ref a488, .ref a515, .ref a539, .ref a564, .int 0, .ref a572, .ref a580, .null, .null, .int 0, .null, .int 0])), (a7, .inl (cI, 64, .inl md_K)), (a393, .inl (cI, 16, .inl md_T)), (a488, .inl (cI, 4, .inl (h4 md_B))), (a515, .inl (cI, 4, .inl (fun j => nI (md_ti j)))), (a539, .inl (cI, 4, .inl (fun j => nI (md_mo j)))), (a564, .inl (cI, 2000, .inl (fun _ => 0))), (a572, .inl (cI, 16, .inl (fun _ => 0))), (a580, .inl (cI, 64, .inl (fun _ => 0)))] H := hP
  have hD : va_D A [(h0, .inr (2, [.ref a7, .ref a393, .ref a488, .ref a515, .ref a539, .ref a564, .int 0, .ref a572, .ref a580, .null, .null, .int 0, .null, .int 0])), (a7, .inl (cI, 64, .inl md_K)), (a393, .inl (cI, 16, .inl md_T)), (a488, .inl (cI, 4, .inl (h4 md_B))), (a515, .inl (cI, 4, .inl (fun j => nI (md_ti j)))), (a539, .inl (cI, 4, .inl (fun j => nI (md_mo j)))), (a564, .inl (cI, 2000, .inl (fun _ => 0))), (a572, .inl (cI, 16, .inl (fun _ => 0))), (a580, .inl (cI, 64, .inl (fun _ => 0)))] := hD
  refine lv_aload_n hx hb d_Model_init_585 rfl (lv_at hl 0 rfl) ?_
  refine lv_iconst (v := nI 4) hx hb d_Model_init_586 (by decide) ?_
  refine kr_newI C0 hP hD hS (k := 4) (by decide) (Nat.le_of_ble_eq_true rfl) (Nat.le_of_ble_eq_true rfl) d_Model_init_587 (fun a587 H hP hD hS => ?_)
  have hP : va_P D classes [(h0, .inr (2, [.ref a7, .ref a393, .ref a488, .ref a515, .ref a539, .ref a564, .int 0, .ref a572, .ref a580, .null, .null, .int 0, .null, .int 0])), (a7, .inl (cI, 64, .inl md_K)), (a393, .inl (cI, 16, .inl md_T)), (a488, .inl (cI, 4, .inl (h4 md_B))), (a515, .inl (cI, 4, .inl (fun j => nI (md_ti j)))), (a539, .inl (cI, 4, .inl (fun j => nI (md_mo j)))), (a564, .inl (cI, 2000, .inl (fun _ => 0))), (a572, .inl (cI, 16, .inl (fun _ => 0))), (a580, .inl (cI, 64, .inl (fun _ => 0))), (a587, .inl (cI, 4, .inl (fun _ => 0)))] H := hP
  have hD : va_D A [(h0, .inr (2, [.ref a7, .ref a393, .ref a488, .ref a515, .ref a539, .ref a564, .int 0, .ref a572, .ref a580, .null, .null, .int 0, .null, .int 0])), (a7, .inl (cI, 64, .inl md_K)), (a393, .inl (cI, 16, .inl md_T)), (a488, .inl (cI, 4, .inl (h4 md_B))), (a515, .inl (cI, 4, .inl (fun j => nI (md_ti j)))), (a539, .inl (cI, 4, .inl (fun j => nI (md_mo j)))), (a564, .inl (cI, 2000, .inl (fun _ => 0))), (a572, .inl (cI, 16, .inl (fun _ => 0))), (a580, .inl (cI, 64, .inl (fun _ => 0))), (a587, .inl (cI, 4, .inl (fun _ => 0)))] := hD
  refine va_putF (D := D) (ci := 2) (v := .ref a587) (ty := .array .int) (C := "KeySumsModel") (T := F_Model) (N := 14) hx hb hcm i_Model t_Model t_Model_ok n_Model hown hK hP hD hS 0 rfl rfl 9 (by decide) (hcm _ kw_219) (fun _ h9 => h9) rfl hin rfl (by decide +kernel) rfl rfl (Nat.le_of_ble_eq_true rfl) d_Model_init_589 (fun H locs hP hD hS => ?_)
  have hP : va_P D classes [(h0, .inr (2, [.ref a7, .ref a393, .ref a488, .ref a515, .ref a539, .ref a564, .int 0, .ref a572, .ref a580, .ref a587, .null, .int 0, .null, .int 0])), (a7, .inl (cI, 64, .inl md_K)), (a393, .inl (cI, 16, .inl md_T)), (a488, .inl (cI, 4, .inl (h4 md_B))), (a515, .inl (cI, 4, .inl (fun j => nI (md_ti j)))), (a539, .inl (cI, 4, .inl (fun j => nI (md_mo j)))), (a564, .inl (cI, 2000, .inl (fun _ => 0))), (a572, .inl (cI, 16, .inl (fun _ => 0))), (a580, .inl (cI, 64, .inl (fun _ => 0))), (a587, .inl (cI, 4, .inl (fun _ => 0)))] H := hP
  have hD : va_D A [(h0, .inr (2, [.ref a7, .ref a393, .ref a488, .ref a515, .ref a539, .ref a564, .int 0, .ref a572, .ref a580, .ref a587, .null, .int 0, .null, .int 0])), (a7, .inl (cI, 64, .inl md_K)), (a393, .inl (cI, 16, .inl md_T)), (a488, .inl (cI, 4, .inl (h4 md_B))), (a515, .inl (cI, 4, .inl (fun j => nI (md_ti j)))), (a539, .inl (cI, 4, .inl (fun j => nI (md_mo j)))), (a564, .inl (cI, 2000, .inl (fun _ => 0))), (a572, .inl (cI, 16, .inl (fun _ => 0))), (a580, .inl (cI, 64, .inl (fun _ => 0))), (a587, .inl (cI, 4, .inl (fun _ => 0)))] := hD
  refine lv_aload_n hx hb d_Model_init_592 rfl (lv_at hl 0 rfl) ?_
  refine lv_iconst (v := nI 4) hx hb d_Model_init_593 (by decide) ?_
  refine kr_newI C0 hP hD hS (k := 4) (by decide) (Nat.le_of_ble_eq_true rfl) (Nat.le_of_ble_eq_true rfl) d_Model_init_594 (fun a594 H hP hD hS => ?_)
  have hP : va_P D classes [(h0, .inr (2, [.ref a7, .ref a393, .ref a488, .ref a515, .ref a539, .ref a564, .int 0, .ref a572, .ref a580, .ref a587, .null, .int 0, .null, .int 0])), (a7, .inl (cI, 64, .inl md_K)), (a393, .inl (cI, 16, .inl md_T)), (a488, .inl (cI, 4, .inl (h4 md_B))), (a515, .inl (cI, 4, .inl (fun j => nI (md_ti j)))), (a539, .inl (cI, 4, .inl (fun j => nI (md_mo j)))), (a564, .inl (cI, 2000, .inl (fun _ => 0))), (a572, .inl (cI, 16, .inl (fun _ => 0))), (a580, .inl (cI, 64, .inl (fun _ => 0))), (a587, .inl (cI, 4, .inl (fun _ => 0))), (a594, .inl (cI, 4, .inl (fun _ => 0)))] H := hP
  have hD : va_D A [(h0, .inr (2, [.ref a7, .ref a393, .ref a488, .ref a515, .ref a539, .ref a564, .int 0, .ref a572, .ref a580, .ref a587, .null, .int 0, .null, .int 0])), (a7, .inl (cI, 64, .inl md_K)), (a393, .inl (cI, 16, .inl md_T)), (a488, .inl (cI, 4, .inl (h4 md_B))), (a515, .inl (cI, 4, .inl (fun j => nI (md_ti j)))), (a539, .inl (cI, 4, .inl (fun j => nI (md_mo j)))), (a564, .inl (cI, 2000, .inl (fun _ => 0))), (a572, .inl (cI, 16, .inl (fun _ => 0))), (a580, .inl (cI, 64, .inl (fun _ => 0))), (a587, .inl (cI, 4, .inl (fun _ => 0))), (a594, .inl (cI, 4, .inl (fun _ => 0)))] := hD
  refine va_putF (D := D) (ci := 2) (v := .ref a594) (ty := .array .int) (C := "KeySumsModel") (T := F_Model) (N := 14) hx hb hcm i_Model t_Model t_Model_ok n_Model hown hK hP hD hS 0 rfl rfl 10 (by decide) (hcm _ kw_220) (fun _ h9 => h9) rfl hin rfl (by decide +kernel) rfl rfl (Nat.le_of_ble_eq_true rfl) d_Model_init_596 (fun H locs hP hD hS => ?_)
  have hP : va_P D classes [(h0, .inr (2, [.ref a7, .ref a393, .ref a488, .ref a515, .ref a539, .ref a564, .int 0, .ref a572, .ref a580, .ref a587, .ref a594, .int 0, .null, .int 0])), (a7, .inl (cI, 64, .inl md_K)), (a393, .inl (cI, 16, .inl md_T)), (a488, .inl (cI, 4, .inl (h4 md_B))), (a515, .inl (cI, 4, .inl (fun j => nI (md_ti j)))), (a539, .inl (cI, 4, .inl (fun j => nI (md_mo j)))), (a564, .inl (cI, 2000, .inl (fun _ => 0))), (a572, .inl (cI, 16, .inl (fun _ => 0))), (a580, .inl (cI, 64, .inl (fun _ => 0))), (a587, .inl (cI, 4, .inl (fun _ => 0))), (a594, .inl (cI, 4, .inl (fun _ => 0)))] H := hP
  have hD : va_D A [(h0, .inr (2, [.ref a7, .ref a393, .ref a488, .ref a515, .ref a539, .ref a564, .int 0, .ref a572, .ref a580, .ref a587, .ref a594, .int 0, .null, .int 0])), (a7, .inl (cI, 64, .inl md_K)), (a393, .inl (cI, 16, .inl md_T)), (a488, .inl (cI, 4, .inl (h4 md_B))), (a515, .inl (cI, 4, .inl (fun j => nI (md_ti j)))), (a539, .inl (cI, 4, .inl (fun j => nI (md_mo j)))), (a564, .inl (cI, 2000, .inl (fun _ => 0))), (a572, .inl (cI, 16, .inl (fun _ => 0))), (a580, .inl (cI, 64, .inl (fun _ => 0))), (a587, .inl (cI, 4, .inl (fun _ => 0))), (a594, .inl (cI, 4, .inl (fun _ => 0)))] := hD
  refine lv_aload_n hx hb d_Model_init_599 rfl (lv_at hl 0 rfl) ?_
  refine lv_bipush (v := nI 16) hx hb d_Model_init_600 (by decide) ?_
  refine kr_newI C0 hP hD hS (k := 16) (by decide) (Nat.le_of_ble_eq_true rfl) (Nat.le_of_ble_eq_true rfl) d_Model_init_602 (fun a602 H hP hD hS => ?_)
  have hP : va_P D classes [(h0, .inr (2, [.ref a7, .ref a393, .ref a488, .ref a515, .ref a539, .ref a564, .int 0, .ref a572, .ref a580, .ref a587, .ref a594, .int 0, .null, .int 0])), (a7, .inl (cI, 64, .inl md_K)), (a393, .inl (cI, 16, .inl md_T)), (a488, .inl (cI, 4, .inl (h4 md_B))), (a515, .inl (cI, 4, .inl (fun j => nI (md_ti j)))), (a539, .inl (cI, 4, .inl (fun j => nI (md_mo j)))), (a564, .inl (cI, 2000, .inl (fun _ => 0))), (a572, .inl (cI, 16, .inl (fun _ => 0))), (a580, .inl (cI, 64, .inl (fun _ => 0))), (a587, .inl (cI, 4, .inl (fun _ => 0))), (a594, .inl (cI, 4, .inl (fun _ => 0))), (a602, .inl (cI, 16, .inl (fun _ => 0)))] H := hP
  have hD : va_D A [(h0, .inr (2, [.ref a7, .ref a393, .ref a488, .ref a515, .ref a539, .ref a564, .int 0, .ref a572, .ref a580, .ref a587, .ref a594, .int 0, .null, .int 0])), (a7, .inl (cI, 64, .inl md_K)), (a393, .inl (cI, 16, .inl md_T)), (a488, .inl (cI, 4, .inl (h4 md_B))), (a515, .inl (cI, 4, .inl (fun j => nI (md_ti j)))), (a539, .inl (cI, 4, .inl (fun j => nI (md_mo j)))), (a564, .inl (cI, 2000, .inl (fun _ => 0))), (a572, .inl (cI, 16, .inl (fun _ => 0))), (a580, .inl (cI, 64, .inl (fun _ => 0))), (a587, .inl (cI, 4, .inl (fun _ => 0))), (a594, .inl (cI, 4, .inl (fun _ => 0))), (a602, .inl (cI, 16, .inl (fun _ => 0)))] := hD
  refine va_putF (D := D) (ci := 2) (v := .ref a602) (ty := .array .int) (C := "KeySumsModel") (T := F_Model) (N := 14) hx hb hcm i_Model t_Model t_Model_ok n_Model hown hK hP hD hS 0 rfl rfl 12 (by decide) (hcm _ kw_222) (fun _ h9 => h9) rfl hin rfl (by decide +kernel) rfl rfl (Nat.le_of_ble_eq_true rfl) d_Model_init_604 (fun H locs hP hD hS => ?_)
  have hP : va_P D classes [(h0, .inr (2, [.ref a7, .ref a393, .ref a488, .ref a515, .ref a539, .ref a564, .int 0, .ref a572, .ref a580, .ref a587, .ref a594, .int 0, .ref a602, .int 0])), (a7, .inl (cI, 64, .inl md_K)), (a393, .inl (cI, 16, .inl md_T)), (a488, .inl (cI, 4, .inl (h4 md_B))), (a515, .inl (cI, 4, .inl (fun j => nI (md_ti j)))), (a539, .inl (cI, 4, .inl (fun j => nI (md_mo j)))), (a564, .inl (cI, 2000, .inl (fun _ => 0))), (a572, .inl (cI, 16, .inl (fun _ => 0))), (a580, .inl (cI, 64, .inl (fun _ => 0))), (a587, .inl (cI, 4, .inl (fun _ => 0))), (a594, .inl (cI, 4, .inl (fun _ => 0))), (a602, .inl (cI, 16, .inl (fun _ => 0)))] H := hP
  have hD : va_D A [(h0, .inr (2, [.ref a7, .ref a393, .ref a488, .ref a515, .ref a539, .ref a564, .int 0, .ref a572, .ref a580, .ref a587, .ref a594, .int 0, .ref a602, .int 0])), (a7, .inl (cI, 64, .inl md_K)), (a393, .inl (cI, 16, .inl md_T)), (a488, .inl (cI, 4, .inl (h4 md_B))), (a515, .inl (cI, 4, .inl (fun j => nI (md_ti j)))), (a539, .inl (cI, 4, .inl (fun j => nI (md_mo j)))), (a564, .inl (cI, 2000, .inl (fun _ => 0))), (a572, .inl (cI, 16, .inl (fun _ => 0))), (a580, .inl (cI, 64, .inl (fun _ => 0))), (a587, .inl (cI, 4, .inl (fun _ => 0))), (a594, .inl (cI, 4, .inl (fun _ => 0))), (a602, .inl (cI, 16, .inl (fun _ => 0)))] := hD
  refine lv_aload_n hx hb d_Model_init_607 rfl (lv_at hl 0 rfl) ?_
  obtain ⟨hP, hD⟩ := kr_ext hP hD 9 (h4 (0, 0, 0, 0)) rfl (fun j hj => by rcases (show j = 0 ∨ j = 1 ∨ j = 2 ∨ j = 3 by omega) with rfl | rfl | rfl | rfl <;> rfl)
  have hP : va_P D classes [(h0, .inr (2, [.ref a7, .ref a393, .ref a488, .ref a515, .ref a539, .ref a564, .int 0, .ref a572, .ref a580, .ref a587, .ref a594, .int 0, .ref a602, .int 0])), (a7, .inl (cI, 64, .inl md_K)), (a393, .inl (cI, 16, .inl md_T)), (a488, .inl (cI, 4, .inl (h4 md_B))), (a515, .inl (cI, 4, .inl (fun j => nI (md_ti j)))), (a539, .inl (cI, 4, .inl (fun j => nI (md_mo j)))), (a564, .inl (cI, 2000, .inl (fun _ => 0))), (a572, .inl (cI, 16, .inl (fun _ => 0))), (a580, .inl (cI, 64, .inl (fun _ => 0))), (a587, .inl (cI, 4, .inl (h4 (0, 0, 0, 0)))), (a594, .inl (cI, 4, .inl (fun _ => 0))), (a602, .inl (cI, 16, .inl (fun _ => 0)))] H := hP
  have hD : va_D A [(h0, .inr (2, [.ref a7, .ref a393, .ref a488, .ref a515, .ref a539, .ref a564, .int 0, .ref a572, .ref a580, .ref a587, .ref a594, .int 0, .ref a602, .int 0])), (a7, .inl (cI, 64, .inl md_K)), (a393, .inl (cI, 16, .inl md_T)), (a488, .inl (cI, 4, .inl (h4 md_B))), (a515, .inl (cI, 4, .inl (fun j => nI (md_ti j)))), (a539, .inl (cI, 4, .inl (fun j => nI (md_mo j)))), (a564, .inl (cI, 2000, .inl (fun _ => 0))), (a572, .inl (cI, 16, .inl (fun _ => 0))), (a580, .inl (cI, 64, .inl (fun _ => 0))), (a587, .inl (cI, 4, .inl (h4 (0, 0, 0, 0)))), (a594, .inl (cI, 4, .inl (fun _ => 0))), (a602, .inl (cI, 16, .inl (fun _ => 0)))] := hD
  obtain ⟨hP, hD⟩ := kr_ext hP hD 10 (h4 (0, 0, 0, 0)) rfl (fun j hj => by rcases (show j = 0 ∨ j = 1 ∨ j = 2 ∨ j = 3 by omega) with rfl | rfl | rfl | rfl <;> rfl)
  have hP : va_P D classes [(h0, .inr (2, [.ref a7, .ref a393, .ref a488, .ref a515, .ref a539, .ref a564, .int 0, .ref a572, .ref a580, .ref a587, .ref a594, .int 0, .ref a602, .int 0])), (a7, .inl (cI, 64, .inl md_K)), (a393, .inl (cI, 16, .inl md_T)), (a488, .inl (cI, 4, .inl (h4 md_B))), (a515, .inl (cI, 4, .inl (fun j => nI (md_ti j)))), (a539, .inl (cI, 4, .inl (fun j => nI (md_mo j)))), (a564, .inl (cI, 2000, .inl (fun _ => 0))), (a572, .inl (cI, 16, .inl (fun _ => 0))), (a580, .inl (cI, 64, .inl (fun _ => 0))), (a587, .inl (cI, 4, .inl (h4 (0, 0, 0, 0)))), (a594, .inl (cI, 4, .inl (h4 (0, 0, 0, 0)))), (a602, .inl (cI, 16, .inl (fun _ => 0)))] H := hP
  have hD : va_D A [(h0, .inr (2, [.ref a7, .ref a393, .ref a488, .ref a515, .ref a539, .ref a564, .int 0, .ref a572, .ref a580, .ref a587, .ref a594, .int 0, .ref a602, .int 0])), (a7, .inl (cI, 64, .inl md_K)), (a393, .inl (cI, 16, .inl md_T)), (a488, .inl (cI, 4, .inl (h4 md_B))), (a515, .inl (cI, 4, .inl (fun j => nI (md_ti j)))), (a539, .inl (cI, 4, .inl (fun j => nI (md_mo j)))), (a564, .inl (cI, 2000, .inl (fun _ => 0))), (a572, .inl (cI, 16, .inl (fun _ => 0))), (a580, .inl (cI, 64, .inl (fun _ => 0))), (a587, .inl (cI, 4, .inl (h4 (0, 0, 0, 0)))), (a594, .inl (cI, 4, .inl (h4 (0, 0, 0, 0)))), (a602, .inl (cI, 16, .inl (fun _ => 0)))] := hD
  have hP : va_P D classes (wM (fun k => [h0, a7, a393, a488, a515, a539, a564, a572, a580, a587, a594, a602].getD k 0) cI (fun _ => 0) (nI 0) (fun _ => 0) (fun _ => 0) (h4 (0, 0, 0, 0)) (h4 (0, 0, 0, 0)) (nI 0) (fun _ => 0) 0) H := hP
  have hD : va_D A (wM (fun k => [h0, a7, a393, a488, a515, a539, a564, a572, a580, a587, a594, a602].getD k 0) cI (fun _ => 0) (nI 0) (fun _ => 0) (fun _ => 0) (h4 (0, 0, 0, 0)) (h4 (0, 0, 0, 0)) (nI 0) (fun _ => 0) 0) := hD
  refine cl_Vv C0 (ty := .int) (rest := []) (wr := []) [] (c_Model_anew l D cB cI kt tt (fun k => [h0, a7, a393, a488, a515, a539, a564, a572, a580, a587, a594, a602].getD k 0) (fun _ => 0) (nI 0) (fun _ => 0) (fun _ => 0) (0, 0, 0, 0) (h4 (0, 0, 0, 0)) (nI 0) (fun _ => 0) 0) (cwV 0 hcm (gd_V kw_206 kw_208 kw_1 kw_10 kw_209) rfl rfl rfl (by decide +kernel) ⟨Nat.le_of_ble_eq_true rfl, Nat.le_of_ble_eq_true rfl⟩) hP hD hS [0, 1, 2, 3, 4, 5, 6, 7, 8, 9, 10, 11] [] rfl rfl rfl rfl (by decide) rfl 0 rfl rfl rfl hl.1 (Nat.le_of_ble_eq_true rfl) d_Model_init_608 ⟨Nat.le_of_ble_eq_true rfl, Nat.le_of_ble_eq_true rfl⟩ (fun _ H locs _ hP hD hS => ?_)
  exact kr_vret C0 (fun k => [h0, a7, a393, a488, a515, a539, a564, a572, a580, a587, a594, a602].getD k 0) hr hlk rfl hP hD hS d_Model_init_611
end
section
/-! THE CLAIM OUT OF ONE WALK OF THE LAW'S BODY. Your part is whole_start (and what it stands on); all else here is the same for every law, but numbers. -/
def R_law : String := "KeySumsLaw"
def lw_P (b : Addr) (xs : List Int32) (args : Array Value) (s : State) : Prop := args = #[.ref b] ∧ s.IntsAt b xs ∧ xs.length ≤ 3072 ∧ (Jvm.Cond.and given_1 narrow_1).before args s = true
def lw_Q (_ : Array Value) (s : State) (o : Outcome) (t : State) : Prop := o = .returned (some (.int 1)) ∧ Framed s o t [] 19 4337
def lw_Z (below : List Frame) (a : Array Value) (s : State) : State → Prop := fun t => ∃ o, t.status = .running ∧ Ended t below o ∧ lw_Q a s o t
/-- the law's own end, with 1 on the stack, nothing written that was there before, its room as the claim has it -/
theorem lw_ret {p : Program} {l : Launch} {e : Env} {s : State} {m : MethodId} {below : List Frame} {meth : Method} {c : Code} {b : Nat} (hx : p.tables.exec = Jvm.exec) (hb : c.code = code) (hr : meth.sig.returnType = ret) (hlocks : meth.locks = false) {pc : Nat} {H : Heap} {ls : Array Slot} (hdg : decode code pc = .ok (.ireturn, 1)) : W p l e room_1 s m #[Value.ref b] below meth c H [] 19 4337 (lw_Z below #[Value.ref b] s) (F0 m pc ls [.int 1]) := by
  intro T hT X
  obtain ⟨fs, hret, hrun, hended, hW, hframe⟩ := X.leave (v := some (.int 1)) (hlocks := hlocks) (fun h => by rw [hr] at h; cases h)
  have hmeth' : T.vm.method? m = some meth := X.method'
  refine ⟨T.setFrames fs, ?_, .returned (some (.int 1)), hrun, hended, rfl, ⟨_, rfl⟩, hW, hframe⟩
  jvm_step X.here [X.here.top, hx, hb, hdg, hmeth', hr, ret, narrow_b1]
  (try refine ⟨rfl, ?_⟩); (try refine ⟨rfl, ?_⟩)
  first | (intro acts; rw [hret _ acts rfl rfl rfl]) | rw [hret _ _ rfl rfl rfl]
  exact Steps.refl _
/-- what holds at the law's entry: the machine, the code, the tables' words (any of lw_tbl by 'hts w (by decide +kernel)'), the script of L ints xs at the cell b, what the Statement gives of the start (any of its parts by flat_of_before) -/
def lw_At (p : Program) (s : State) (m : MethodId) (meth : Method) (c : Code) (b L : Nat) (xs : Nat → Int32) : Prop :=
  p.tables.exec = Jvm.exec ∧ c.code = code ∧ meth.sig.returnType = ret ∧ c.maxLocals = 4 ∧ s.vm.findClass R_law = some m.cls ∧ (∀ w ∈ lw_tbl, w.before #[Value.ref b] s = true) ∧ va_X b L xs s s.heap ∧ b < s.heap.size ∧ meth.locks = false ∧ (Jvm.Cond.and given_1 narrow_1).before #[Value.ref b] s = true
section KS
variable {p : Program} {l : Launch} {e : Env} {R : Room} {s : State} {m : MethodId} {args : Array Value} {below : List Frame} {meth : Method} {c : Code} {H : Heap} {locs : List Loc} {cells slots : Nat} {Q : State → Prop}
variable {cc : ByteArray} {maxL : Nat} {own : String} {pc : Nat} {ls : Array Slot} {rest : List Value} {D : va_G} {A : Nat → Prop} {tys : List (ClassId × FieldType)} {kt tt : Nat}
/-- the script is read -/
theorem kr_sld (C0 : Cx p s m args c cc maxL own D tys A kt tt) {b L : Nat} {xs : Nat → Int32} (hX : va_X b L xs s s.heap) (hbl : b < s.heap.size) (hbA : ¬ A b) (hS : va_S A s.heap H locs) {k : Nat} (hk : k < L) (hL : L < 2 ^ 31) (hdg : decode cc pc = .ok (.iaload, 1)) (kk : W p l e R s m args below meth c H locs cells slots Q (F0 m (pc + 1) ls (.int (xs k) :: rest))) : W p l e R s m args below meth c H locs cells slots Q (F0 m pc ls (.int (nI k) :: .ref b :: rest)) := by
  refine va_sld C0.1 C0.2.1 hX hbl hbA hS (vp_in_nI hk hL) hdg ?_
  rw [nI_clamp (Nat.lt_trans hk hL)]
  exact kk
end KS
/-- what holds between KeySums and the reference -/
def LInv (ln : Nat) (g : Dg) (key tape sum fb mtape mkey result : Nat → Int32) (i : Nat) : Prop :=
  (∀ j, j < 64 → fb j &&& nI 255 = g.1 j) ∧ (∀ j, j < 2000 → tape j &&& nI 255 = mtape j) ∧ (∀ j, j < 16 → key j &&& nI 255 = mkey j) ∧ (∀ j, j < 16 → sum j &&& nI 255 = result j) ∧ ln ≤ 2000 ∧ g.2.2 ≤ 1000 * i
theorem md_feed_tp (g : Dg) {f h : Nat → Int32} {N k : Nat} (e : ∀ j, j < N → f j &&& nI 255 = h j) (hk : k ≤ N) : md_feed g f k = md_feed g h k :=
  md_feed_eq g (fun j hj => by rw [← e j (by omega), and_idem])
set_option maxHeartbeats 4000000 in
set_option maxRecDepth 100000 in
/-- feed -/
theorem law_c0 {p : Program} {l : Launch} {e : Env} {s : State} {m : MethodId} {args : Array Value} {below : List Frame} {meth : Method} {c : Code} {Q : State → Prop} {D : va_G} {cB cI : ClassId} {A : Nat → Prop} {kt tt b L : Nat} {xs : Nat → Int32} (C0 : Cx p s m args c code 4 "KeySumsLaw" D (tyL cB cI) A kt tt) (hX : va_X b L xs s s.heap) (hbl0 : b < s.heap.size) (hbA : ¬ A b) (hL : L ≤ 3072) (q r : Nat → Nat) (key tape sum : Nat → Int32) (has : Int32) (ln : Nat) (fb fw : Nat → Int32) (g : Dg) (mtape mkey : Nat → Int32) (now : V4) (result : Nat → Int32) (i : Nat) (hi : i + 6 ≤ L) (hI : LInv ln g key tape sum fb mtape mkey result i) (H : Heap) (locs : List Loc) (hP : va_P D classes ((wKg q cB cI key tape sum has g.2.2 ln fb fw g) ++ (wMg r cI mtape ln mkey g now result has)) H) (hD : va_D A ((wKg q cB cI key tape sum has g.2.2 ln fb fw g) ++ (wMg r cI mtape ln mkey g now result has))) (hS : va_S A s.heap H locs) (ls : Array Slot) (hl : lv_has ls 4 [(0, .ref b), (1, .ref (q 0)), (2, .ref (r 0)), (3, .int (nI i))])
    (tail : ∀ (key tape sum : Nat → Int32) (has : Int32) (ln : Nat) (fb fw : Nat → Int32) (g : Dg) (mtape mkey : Nat → Int32) (now : V4) (result : Nat → Int32) (H : Heap) (locs : List Loc), LInv ln g key tape sum fb mtape mkey result (i + 6) → va_P D classes ((wKg q cB cI key tape sum has g.2.2 ln fb fw g) ++ (wMg r cI mtape ln mkey g now result has)) H → va_D A ((wKg q cB cI key tape sum has g.2.2 ln fb fw g) ++ (wMg r cI mtape ln mkey g now result has)) → va_S A s.heap H locs → W p l e room_1 s m args below meth c H locs 19 4337 Q (F0 m 283 ls [])) : W p l e room_1 s m args below meth c H locs 19 4337 Q (F0 m 76 ls []) := by
  obtain ⟨hx, hb, hml, hown, hcm, hK, hA, hZ⟩ := id C0
  obtain ⟨hbl, htp, hky, hsm, hln, hcn⟩ := id hI
  by_cases hc : ln + 20 ≤ 2000
  · refine lv_aload_n hx hb d_law_76 rfl (lv_at hl 1 rfl) ?_
    refine lv_aload_n hx hb d_law_77 rfl (lv_at hl 0 rfl) ?_
    refine lv_iload_n hx hb d_law_78 rfl (lv_at hl 3 rfl) ?_
    refine lv_iconst (v := nI 1) hx hb d_law_79 (by decide) ?_
    refine lv_iadd hx hb d_law_80 ?_
    refine kt_i (y := nI (i + 1)) (nI_add i 1) ?_
    refine kr_sld C0 hX hbl0 hbA hS (k := i + 1) (by omega) (by omega) d_law_81 ?_
    refine lv_aload_n hx hb d_law_82 rfl (lv_at hl 0 rfl) ?_
    refine lv_iload_n hx hb d_law_83 rfl (lv_at hl 3 rfl) ?_
    refine lv_iconst (v := nI 2) hx hb d_law_84 (by decide) ?_
    refine lv_iadd hx hb d_law_85 ?_
    refine kt_i (y := nI (i + 2)) (nI_add i 2) ?_
    refine kr_sld C0 hX hbl0 hbA hS (k := i + 2) (by omega) (by omega) d_law_86 ?_
    refine lv_aload_n hx hb d_law_87 rfl (lv_at hl 0 rfl) ?_
    refine lv_iload_n hx hb d_law_88 rfl (lv_at hl 3 rfl) ?_
    refine lv_iconst (v := nI 3) hx hb d_law_89 (by decide) ?_
    refine lv_iadd hx hb d_law_90 ?_
    refine kt_i (y := nI (i + 3)) (nI_add i 3) ?_
    refine kr_sld C0 hX hbl0 hbA hS (k := i + 3) (by omega) (by omega) d_law_91 ?_
    refine lv_aload_n hx hb d_law_92 rfl (lv_at hl 0 rfl) ?_
    refine lv_iload_n hx hb d_law_93 rfl (lv_at hl 3 rfl) ?_
    refine lv_iconst (v := nI 4) hx hb d_law_94 (by decide) ?_
    refine lv_iadd hx hb d_law_95 ?_
    refine kt_i (y := nI (i + 4)) (nI_add i 4) ?_
    refine kr_sld C0 hX hbl0 hbA hS (k := i + 4) (by omega) (by omega) d_law_96 ?_
    refine lv_aload_n hx hb d_law_97 rfl (lv_at hl 0 rfl) ?_
    refine lv_iload_n hx hb d_law_98 rfl (lv_at hl 3 rfl) ?_
    refine lv_iconst (v := nI 5) hx hb d_law_99 (by decide) ?_
    refine lv_iadd hx hb d_law_100 ?_
    refine kt_i (y := nI (i + 5)) (nI_add i 5) ?_
    refine kr_sld C0 hX hbl0 hbA hS (k := i + 5) (by omega) (by omega) d_law_101 ?_
    refine cl_Vi C0 (rest := []) (wr := (wMg r cI mtape ln mkey g now result has)) [.int (xs (i + 1)), .int (xs (i + 2)), .int (xs (i + 3)), .int (xs (i + 4)), .int (xs (i + 5))] (c_KeySums_feed l D cB cI kt tt q key tape sum has g.2.2 ln fb fw g _ _ _ _ _ mtape hc htp) (cwV 5 hcm (gd_V kw_83 kw_84 kw_85 kw_8 kw_86) rfl rfl rfl (by decide +kernel) ⟨Nat.le_of_ble_eq_true rfl, Nat.le_of_ble_eq_true rfl⟩) hP hD hS [0, 1, 2, 3, 4, 5, 6] [7, 8, 9, 10, 11, 12, 13, 14, 15, 16, 17, 18] rfl rfl rfl rfl (by decide) rfl 0 rfl rfl rfl hl.1 (Nat.le_of_ble_eq_true rfl) d_law_102 ⟨Nat.le_of_ble_eq_true rfl, Nat.le_of_ble_eq_true rfl⟩ (fun r1 tape H locs h1 hP hD hS => ?_)
    have hP : va_P D classes ((wMg r cI mtape ln mkey g now result has) ++ (wKg q cB cI key tape sum has g.2.2 (ln + 20) fb fw g)) H := hP
    have hD : va_D A ((wMg r cI mtape ln mkey g now result has) ++ (wKg q cB cI key tape sum has g.2.2 (ln + 20) fb fw g)) := hD
    refine lv_aload_n hx hb d_law_105 rfl (lv_at hl 2 rfl) ?_
    refine lv_aload_n hx hb d_law_106 rfl (lv_at hl 0 rfl) ?_
    refine lv_iload_n hx hb d_law_107 rfl (lv_at hl 3 rfl) ?_
    refine lv_iconst (v := nI 1) hx hb d_law_108 (by decide) ?_
    refine lv_iadd hx hb d_law_109 ?_
    refine kt_i (y := nI (i + 1)) (nI_add i 1) ?_
    refine kr_sld C0 hX hbl0 hbA hS (k := i + 1) (by omega) (by omega) d_law_110 ?_
    refine lv_aload_n hx hb d_law_111 rfl (lv_at hl 0 rfl) ?_
    refine lv_iload_n hx hb d_law_112 rfl (lv_at hl 3 rfl) ?_
    refine lv_iconst (v := nI 2) hx hb d_law_113 (by decide) ?_
    refine lv_iadd hx hb d_law_114 ?_
    refine kt_i (y := nI (i + 2)) (nI_add i 2) ?_
    refine kr_sld C0 hX hbl0 hbA hS (k := i + 2) (by omega) (by omega) d_law_115 ?_
    refine lv_aload_n hx hb d_law_116 rfl (lv_at hl 0 rfl) ?_
    refine lv_iload_n hx hb d_law_117 rfl (lv_at hl 3 rfl) ?_
    refine lv_iconst (v := nI 3) hx hb d_law_118 (by decide) ?_
    refine lv_iadd hx hb d_law_119 ?_
    refine kt_i (y := nI (i + 3)) (nI_add i 3) ?_
    refine kr_sld C0 hX hbl0 hbA hS (k := i + 3) (by omega) (by omega) d_law_120 ?_
    refine lv_aload_n hx hb d_law_121 rfl (lv_at hl 0 rfl) ?_
    refine lv_iload_n hx hb d_law_122 rfl (lv_at hl 3 rfl) ?_
    refine lv_iconst (v := nI 4) hx hb d_law_123 (by decide) ?_
    refine lv_iadd hx hb d_law_124 ?_
    refine kt_i (y := nI (i + 4)) (nI_add i 4) ?_
    refine kr_sld C0 hX hbl0 hbA hS (k := i + 4) (by omega) (by omega) d_law_125 ?_
    refine lv_aload_n hx hb d_law_126 rfl (lv_at hl 0 rfl) ?_
    refine lv_iload_n hx hb d_law_127 rfl (lv_at hl 3 rfl) ?_
    refine lv_iconst (v := nI 5) hx hb d_law_128 (by decide) ?_
    refine lv_iadd hx hb d_law_129 ?_
    refine kt_i (y := nI (i + 5)) (nI_add i 5) ?_
    refine kr_sld C0 hX hbl0 hbA hS (k := i + 5) (by omega) (by omega) d_law_130 ?_
    refine cl_Vi C0 (rest := [.int r1]) (wr := (wKg q cB cI key tape sum has g.2.2 (ln + 20) fb fw g)) [.int (xs (i + 1)), .int (xs (i + 2)), .int (xs (i + 3)), .int (xs (i + 4)), .int (xs (i + 5))] (c_Model_feed l D cB cI kt tt r mtape ln mkey g now result has _ _ _ _ _ hc) (cwV 5 hcm (gd_V kw_253 kw_254 kw_255 kw_10 kw_256) rfl rfl rfl (by decide +kernel) ⟨Nat.le_of_ble_eq_true rfl, Nat.le_of_ble_eq_true rfl⟩) hP hD hS [0, 1, 2, 3, 4, 5, 6, 7, 8, 9, 10, 11] [12, 13, 14, 15, 16, 17, 18] rfl rfl rfl rfl (by decide) rfl 0 rfl rfl rfl hl.1 (Nat.le_of_ble_eq_true rfl) d_law_131 ⟨Nat.le_of_ble_eq_true rfl, Nat.le_of_ble_eq_true rfl⟩ (fun r2 _ H locs h2 hP hD hS => ?_)
    have hP : va_P D classes ((wKg q cB cI key tape sum has g.2.2 (ln + 20) fb fw g) ++ (wMg r cI (md_tp mtape ln (xs (i + 1)) (xs (i + 2)) (xs (i + 3)) (xs (i + 4)) (xs (i + 5)) 20) (ln + 20) mkey g now result has)) H := hP
    have hD : va_D A ((wKg q cB cI key tape sum has g.2.2 (ln + 20) fb fw g) ++ (wMg r cI (md_tp mtape ln (xs (i + 1)) (xs (i + 2)) (xs (i + 3)) (xs (i + 4)) (xs (i + 5)) 20) (ln + 20) mkey g now result has)) := hD
    refine lv_icmp_eq (tgt := 283) hx hb d_law_134 (by decide) (fun _ => ?_) (fun h9 => absurd (by rw [h1.1, h2]) h9)
    exact tail key tape sum has (ln + 20) fb fw g (md_tp mtape ln (xs (i + 1)) (xs (i + 2)) (xs (i + 3)) (xs (i + 4)) (xs (i + 5)) 20) mkey now result H locs ⟨hbl, h1.2, hky, hsm, by omega, by omega⟩ hP hD hS
  · refine lv_aload_n hx hb d_law_76 rfl (lv_at hl 1 rfl) ?_
    refine lv_aload_n hx hb d_law_77 rfl (lv_at hl 0 rfl) ?_
    refine lv_iload_n hx hb d_law_78 rfl (lv_at hl 3 rfl) ?_
    refine lv_iconst (v := nI 1) hx hb d_law_79 (by decide) ?_
    refine lv_iadd hx hb d_law_80 ?_
    refine kt_i (y := nI (i + 1)) (nI_add i 1) ?_
    refine kr_sld C0 hX hbl0 hbA hS (k := i + 1) (by omega) (by omega) d_law_81 ?_
    refine lv_aload_n hx hb d_law_82 rfl (lv_at hl 0 rfl) ?_
    refine lv_iload_n hx hb d_law_83 rfl (lv_at hl 3 rfl) ?_
    refine lv_iconst (v := nI 2) hx hb d_law_84 (by decide) ?_
    refine lv_iadd hx hb d_law_85 ?_
    refine kt_i (y := nI (i + 2)) (nI_add i 2) ?_
    refine kr_sld C0 hX hbl0 hbA hS (k := i + 2) (by omega) (by omega) d_law_86 ?_
    refine lv_aload_n hx hb d_law_87 rfl (lv_at hl 0 rfl) ?_
    refine lv_iload_n hx hb d_law_88 rfl (lv_at hl 3 rfl) ?_
    refine lv_iconst (v := nI 3) hx hb d_law_89 (by decide) ?_
    refine lv_iadd hx hb d_law_90 ?_
    refine kt_i (y := nI (i + 3)) (nI_add i 3) ?_
    refine kr_sld C0 hX hbl0 hbA hS (k := i + 3) (by omega) (by omega) d_law_91 ?_
    refine lv_aload_n hx hb d_law_92 rfl (lv_at hl 0 rfl) ?_
    refine lv_iload_n hx hb d_law_93 rfl (lv_at hl 3 rfl) ?_
    refine lv_iconst (v := nI 4) hx hb d_law_94 (by decide) ?_
    refine lv_iadd hx hb d_law_95 ?_
    refine kt_i (y := nI (i + 4)) (nI_add i 4) ?_
    refine kr_sld C0 hX hbl0 hbA hS (k := i + 4) (by omega) (by omega) d_law_96 ?_
    refine lv_aload_n hx hb d_law_97 rfl (lv_at hl 0 rfl) ?_
    refine lv_iload_n hx hb d_law_98 rfl (lv_at hl 3 rfl) ?_
    refine lv_iconst (v := nI 5) hx hb d_law_99 (by decide) ?_
    refine lv_iadd hx hb d_law_100 ?_
    refine kt_i (y := nI (i + 5)) (nI_add i 5) ?_
    refine kr_sld C0 hX hbl0 hbA hS (k := i + 5) (by omega) (by omega) d_law_101 ?_
    refine cl_Vi C0 (rest := []) (wr := (wMg r cI mtape ln mkey g now result has)) [.int (xs (i + 1)), .int (xs (i + 2)), .int (xs (i + 3)), .int (xs (i + 4)), .int (xs (i + 5))] (c_KeySums_feed_no l D cB cI kt tt q key tape sum has g.2.2 ln fb fw g _ _ _ _ _ hc hln) (cwV 5 hcm (gd_V kw_83 kw_84 kw_85 kw_8 kw_86) rfl rfl rfl (by decide +kernel) ⟨Nat.le_of_ble_eq_true rfl, Nat.le_of_ble_eq_true rfl⟩) hP hD hS [0, 1, 2, 3, 4, 5, 6] [7, 8, 9, 10, 11, 12, 13, 14, 15, 16, 17, 18] rfl rfl rfl rfl (by decide) rfl 0 rfl rfl rfl hl.1 (Nat.le_of_ble_eq_true rfl) d_law_102 ⟨Nat.le_of_ble_eq_true rfl, Nat.le_of_ble_eq_true rfl⟩ (fun r1 _ H locs h1 hP hD hS => ?_)
    have hP : va_P D classes ((wMg r cI mtape ln mkey g now result has) ++ (wKg q cB cI key tape sum has g.2.2 ln fb fw g)) H := hP
    have hD : va_D A ((wMg r cI mtape ln mkey g now result has) ++ (wKg q cB cI key tape sum has g.2.2 ln fb fw g)) := hD
    refine lv_aload_n hx hb d_law_105 rfl (lv_at hl 2 rfl) ?_
    refine lv_aload_n hx hb d_law_106 rfl (lv_at hl 0 rfl) ?_
    refine lv_iload_n hx hb d_law_107 rfl (lv_at hl 3 rfl) ?_
    refine lv_iconst (v := nI 1) hx hb d_law_108 (by decide) ?_
    refine lv_iadd hx hb d_law_109 ?_
    refine kt_i (y := nI (i + 1)) (nI_add i 1) ?_
    refine kr_sld C0 hX hbl0 hbA hS (k := i + 1) (by omega) (by omega) d_law_110 ?_
    refine lv_aload_n hx hb d_law_111 rfl (lv_at hl 0 rfl) ?_
    refine lv_iload_n hx hb d_law_112 rfl (lv_at hl 3 rfl) ?_
    refine lv_iconst (v := nI 2) hx hb d_law_113 (by decide) ?_
    refine lv_iadd hx hb d_law_114 ?_
    refine kt_i (y := nI (i + 2)) (nI_add i 2) ?_
    refine kr_sld C0 hX hbl0 hbA hS (k := i + 2) (by omega) (by omega) d_law_115 ?_
    refine lv_aload_n hx hb d_law_116 rfl (lv_at hl 0 rfl) ?_
    refine lv_iload_n hx hb d_law_117 rfl (lv_at hl 3 rfl) ?_
    refine lv_iconst (v := nI 3) hx hb d_law_118 (by decide) ?_
    refine lv_iadd hx hb d_law_119 ?_
    refine kt_i (y := nI (i + 3)) (nI_add i 3) ?_
    refine kr_sld C0 hX hbl0 hbA hS (k := i + 3) (by omega) (by omega) d_law_120 ?_
    refine lv_aload_n hx hb d_law_121 rfl (lv_at hl 0 rfl) ?_
    refine lv_iload_n hx hb d_law_122 rfl (lv_at hl 3 rfl) ?_
    refine lv_iconst (v := nI 4) hx hb d_law_123 (by decide) ?_
    refine lv_iadd hx hb d_law_124 ?_
    refine kt_i (y := nI (i + 4)) (nI_add i 4) ?_
    refine kr_sld C0 hX hbl0 hbA hS (k := i + 4) (by omega) (by omega) d_law_125 ?_
    refine lv_aload_n hx hb d_law_126 rfl (lv_at hl 0 rfl) ?_
    refine lv_iload_n hx hb d_law_127 rfl (lv_at hl 3 rfl) ?_
    refine lv_iconst (v := nI 5) hx hb d_law_128 (by decide) ?_
    refine lv_iadd hx hb d_law_129 ?_
    refine kt_i (y := nI (i + 5)) (nI_add i 5) ?_
    refine kr_sld C0 hX hbl0 hbA hS (k := i + 5) (by omega) (by omega) d_law_130 ?_
    refine cl_Vi C0 (rest := [.int r1]) (wr := (wKg q cB cI key tape sum has g.2.2 ln fb fw g)) [.int (xs (i + 1)), .int (xs (i + 2)), .int (xs (i + 3)), .int (xs (i + 4)), .int (xs (i + 5))] (c_Model_feed_no l D cB cI kt tt r mtape ln mkey g now result has _ _ _ _ _ hc hln) (cwV 5 hcm (gd_V kw_253 kw_254 kw_255 kw_10 kw_256) rfl rfl rfl (by decide +kernel) ⟨Nat.le_of_ble_eq_true rfl, Nat.le_of_ble_eq_true rfl⟩) hP hD hS [0, 1, 2, 3, 4, 5, 6, 7, 8, 9, 10, 11] [12, 13, 14, 15, 16, 17, 18] rfl rfl rfl rfl (by decide) rfl 0 rfl rfl rfl hl.1 (Nat.le_of_ble_eq_true rfl) d_law_131 ⟨Nat.le_of_ble_eq_true rfl, Nat.le_of_ble_eq_true rfl⟩ (fun r2 _ H locs h2 hP hD hS => ?_)
    have hP : va_P D classes ((wKg q cB cI key tape sum has g.2.2 ln fb fw g) ++ (wMg r cI mtape ln mkey g now result has)) H := hP
    have hD : va_D A ((wKg q cB cI key tape sum has g.2.2 ln fb fw g) ++ (wMg r cI mtape ln mkey g now result has)) := hD
    refine lv_icmp_eq (tgt := 283) hx hb d_law_134 (by decide) (fun _ => ?_) (fun h9 => absurd (by rw [h1, h2]) h9)
    exact tail key tape sum has ln fb fw g mtape mkey now result H locs ⟨hbl, htp, hky, hsm, hln, by omega⟩ hP hD hS
set_option maxHeartbeats 4000000 in
set_option maxRecDepth 100000 in
/-- end -/
theorem law_c1 {p : Program} {l : Launch} {e : Env} {s : State} {m : MethodId} {args : Array Value} {below : List Frame} {meth : Method} {c : Code} {Q : State → Prop} {D : va_G} {cB cI : ClassId} {A : Nat → Prop} {kt tt b L : Nat} {xs : Nat → Int32} (C0 : Cx p s m args c code 4 "KeySumsLaw" D (tyL cB cI) A kt tt) (hX : va_X b L xs s s.heap) (hbl0 : b < s.heap.size) (hbA : ¬ A b) (hL : L ≤ 3072) (q r : Nat → Nat) (key tape sum : Nat → Int32) (has : Int32) (ln : Nat) (fb fw : Nat → Int32) (g : Dg) (mtape mkey : Nat → Int32) (now : V4) (result : Nat → Int32) (i : Nat) (hi : i + 6 ≤ L) (hI : LInv ln g key tape sum fb mtape mkey result i) (H : Heap) (locs : List Loc) (hP : va_P D classes ((wKg q cB cI key tape sum has g.2.2 ln fb fw g) ++ (wMg r cI mtape ln mkey g now result has)) H) (hD : va_D A ((wKg q cB cI key tape sum has g.2.2 ln fb fw g) ++ (wMg r cI mtape ln mkey g now result has))) (hS : va_S A s.heap H locs) (ls : Array Slot) (hl : lv_has ls 4 [(0, .ref b), (1, .ref (q 0)), (2, .ref (r 0)), (3, .int (nI i))])
    (tail : ∀ (key tape sum : Nat → Int32) (has : Int32) (ln : Nat) (fb fw : Nat → Int32) (g : Dg) (mtape mkey : Nat → Int32) (now : V4) (result : Nat → Int32) (H : Heap) (locs : List Loc), LInv ln g key tape sum fb mtape mkey result (i + 6) → va_P D classes ((wKg q cB cI key tape sum has g.2.2 ln fb fw g) ++ (wMg r cI mtape ln mkey g now result has)) H → va_D A ((wKg q cB cI key tape sum has g.2.2 ln fb fw g) ++ (wMg r cI mtape ln mkey g now result has)) → va_S A s.heap H locs → W p l e room_1 s m args below meth c H locs 19 4337 Q (F0 m 283 ls [])) : W p l e room_1 s m args below meth c H locs 19 4337 Q (F0 m 139 ls []) := by
  obtain ⟨hx, hb, hml, hown, hcm, hK, hA, hZ⟩ := id C0
  obtain ⟨hbl, htp, hky, hsm, hln, hcn⟩ := id hI
  by_cases hc : xs (i + 1) < 0 ∨ ¬ xs (i + 1) ≤ nI ln
  · refine lv_aload_n hx hb d_law_139 rfl (lv_at hl 1 rfl) ?_
    refine lv_aload_n hx hb d_law_140 rfl (lv_at hl 0 rfl) ?_
    refine lv_iload_n hx hb d_law_141 rfl (lv_at hl 3 rfl) ?_
    refine lv_iconst (v := nI 1) hx hb d_law_142 (by decide) ?_
    refine lv_iadd hx hb d_law_143 ?_
    refine kt_i (y := nI (i + 1)) (nI_add i 1) ?_
    refine kr_sld C0 hX hbl0 hbA hS (k := i + 1) (by omega) (by omega) d_law_144 ?_
    refine cl_Vi C0 (rest := []) (wr := (wMg r cI mtape ln mkey g now result has)) [.int (xs (i + 1))] (c_KeySums_end_no l D cB cI kt tt q key tape sum has g.2.2 ln fb fw g _ hc) (cwV 1 hcm (gd_V kw_87 kw_88 kw_89 kw_8 kw_90) rfl rfl rfl (by decide +kernel) ⟨Nat.le_of_ble_eq_true rfl, Nat.le_of_ble_eq_true rfl⟩) hP hD hS [0, 1, 2, 3, 4, 5, 6] [7, 8, 9, 10, 11, 12, 13, 14, 15, 16, 17, 18] rfl rfl rfl rfl (by decide) rfl 0 rfl rfl rfl hl.1 (Nat.le_of_ble_eq_true rfl) d_law_145 ⟨Nat.le_of_ble_eq_true rfl, Nat.le_of_ble_eq_true rfl⟩ (fun r1 _ H locs h1 hP hD hS => ?_)
    have hP : va_P D classes ((wMg r cI mtape ln mkey g now result has) ++ (wKg q cB cI key tape sum has g.2.2 ln fb fw g)) H := hP
    have hD : va_D A ((wMg r cI mtape ln mkey g now result has) ++ (wKg q cB cI key tape sum has g.2.2 ln fb fw g)) := hD
    refine lv_aload_n hx hb d_law_148 rfl (lv_at hl 2 rfl) ?_
    refine lv_aload_n hx hb d_law_149 rfl (lv_at hl 0 rfl) ?_
    refine lv_iload_n hx hb d_law_150 rfl (lv_at hl 3 rfl) ?_
    refine lv_iconst (v := nI 1) hx hb d_law_151 (by decide) ?_
    refine lv_iadd hx hb d_law_152 ?_
    refine kt_i (y := nI (i + 1)) (nI_add i 1) ?_
    refine kr_sld C0 hX hbl0 hbA hS (k := i + 1) (by omega) (by omega) d_law_153 ?_
    refine cl_Vi C0 (rest := [.int r1]) (wr := (wKg q cB cI key tape sum has g.2.2 ln fb fw g)) [.int (xs (i + 1))] (c_Model_end_no l D cB cI kt tt r mtape ln mkey g now result has _ hc) (cwV 1 hcm (gd_V kw_261 kw_262 kw_263 kw_10 kw_264) rfl rfl rfl (by decide +kernel) ⟨Nat.le_of_ble_eq_true rfl, Nat.le_of_ble_eq_true rfl⟩) hP hD hS [0, 1, 2, 3, 4, 5, 6, 7, 8, 9, 10, 11] [12, 13, 14, 15, 16, 17, 18] rfl rfl rfl rfl (by decide) rfl 0 rfl rfl rfl hl.1 (Nat.le_of_ble_eq_true rfl) d_law_154 ⟨Nat.le_of_ble_eq_true rfl, Nat.le_of_ble_eq_true rfl⟩ (fun r2 _ H locs h2 hP hD hS => ?_)
    have hP : va_P D classes ((wKg q cB cI key tape sum has g.2.2 ln fb fw g) ++ (wMg r cI mtape ln mkey g now result has)) H := hP
    have hD : va_D A ((wKg q cB cI key tape sum has g.2.2 ln fb fw g) ++ (wMg r cI mtape ln mkey g now result has)) := hD
    refine lv_icmp_eq (tgt := 283) hx hb d_law_157 (by decide) (fun _ => ?_) (fun h9 => absurd (by rw [h1, h2]) h9)
    exact tail key tape sum has ln fb fw g mtape mkey now result H locs ⟨hbl, htp, hky, hsm, hln, by omega⟩ hP hD hS
  · have hc0 : ¬ xs (i + 1) < 0 := fun h => hc (Or.inl h)
    have hc1 : xs (i + 1) ≤ nI ln := Classical.byContradiction fun h => hc (Or.inr h)
    obtain ⟨j, hj, ej⟩ := nI_of hc0
    have hjl : j ≤ ln := by rw [ej] at hc1; exact (nI_leI hj (by omega)).mp hc1
    refine lv_aload_n hx hb d_law_139 rfl (lv_at hl 1 rfl) ?_
    refine lv_aload_n hx hb d_law_140 rfl (lv_at hl 0 rfl) ?_
    refine lv_iload_n hx hb d_law_141 rfl (lv_at hl 3 rfl) ?_
    refine lv_iconst (v := nI 1) hx hb d_law_142 (by decide) ?_
    refine lv_iadd hx hb d_law_143 ?_
    refine kt_i (y := nI (i + 1)) (nI_add i 1) ?_
    refine kr_sld C0 hX hbl0 hbA hS (k := i + 1) (by omega) (by omega) d_law_144 ?_
    refine kt_i (y := nI j) ej ?_
    refine cl_Vi C0 (rest := []) (wr := (wMg r cI mtape ln mkey g now result has)) [.int (nI j)] (c_KeySums_end l D cB cI kt tt q key tape sum has g.2.2 ln fb fw g hln j hjl) (cwV 1 hcm (gd_V kw_87 kw_88 kw_89 kw_8 kw_90) rfl rfl rfl (by decide +kernel) ⟨Nat.le_of_ble_eq_true rfl, Nat.le_of_ble_eq_true rfl⟩) hP hD hS [0, 1, 2, 3, 4, 5, 6] [7, 8, 9, 10, 11, 12, 13, 14, 15, 16, 17, 18] rfl rfl rfl rfl (by decide) rfl 0 rfl rfl rfl hl.1 (Nat.le_of_ble_eq_true rfl) d_law_145 ⟨Nat.le_of_ble_eq_true rfl, Nat.le_of_ble_eq_true rfl⟩ (fun r1 _ H locs h1 hP hD hS => ?_)
    have hP : va_P D classes ((wMg r cI mtape ln mkey g now result has) ++ (wKg q cB cI key tape sum has g.2.2 j fb fw g)) H := hP
    have hD : va_D A ((wMg r cI mtape ln mkey g now result has) ++ (wKg q cB cI key tape sum has g.2.2 j fb fw g)) := hD
    refine lv_aload_n hx hb d_law_148 rfl (lv_at hl 2 rfl) ?_
    refine lv_aload_n hx hb d_law_149 rfl (lv_at hl 0 rfl) ?_
    refine lv_iload_n hx hb d_law_150 rfl (lv_at hl 3 rfl) ?_
    refine lv_iconst (v := nI 1) hx hb d_law_151 (by decide) ?_
    refine lv_iadd hx hb d_law_152 ?_
    refine kt_i (y := nI (i + 1)) (nI_add i 1) ?_
    refine kr_sld C0 hX hbl0 hbA hS (k := i + 1) (by omega) (by omega) d_law_153 ?_
    refine kt_i (y := nI j) ej ?_
    refine cl_Vi C0 (rest := [.int r1]) (wr := (wKg q cB cI key tape sum has g.2.2 j fb fw g)) [.int (nI j)] (c_Model_end l D cB cI kt tt r mtape ln mkey g now result has hln j hjl) (cwV 1 hcm (gd_V kw_261 kw_262 kw_263 kw_10 kw_264) rfl rfl rfl (by decide +kernel) ⟨Nat.le_of_ble_eq_true rfl, Nat.le_of_ble_eq_true rfl⟩) hP hD hS [0, 1, 2, 3, 4, 5, 6, 7, 8, 9, 10, 11] [12, 13, 14, 15, 16, 17, 18] rfl rfl rfl rfl (by decide) rfl 0 rfl rfl rfl hl.1 (Nat.le_of_ble_eq_true rfl) d_law_154 ⟨Nat.le_of_ble_eq_true rfl, Nat.le_of_ble_eq_true rfl⟩ (fun r2 _ H locs h2 hP hD hS => ?_)
    have hP : va_P D classes ((wKg q cB cI key tape sum has g.2.2 j fb fw g) ++ (wMg r cI mtape j mkey g now result has)) H := hP
    have hD : va_D A ((wKg q cB cI key tape sum has g.2.2 j fb fw g) ++ (wMg r cI mtape j mkey g now result has)) := hD
    refine lv_icmp_eq (tgt := 283) hx hb d_law_157 (by decide) (fun _ => ?_) (fun h9 => absurd (by rw [h1, h2]) h9)
    exact tail key tape sum has j fb fw g mtape mkey now result H locs ⟨hbl, htp, hky, hsm, by omega, by omega⟩ hP hD hS
set_option maxHeartbeats 4000000 in
set_option maxRecDepth 100000 in
/-- add -/
theorem law_c2 {p : Program} {l : Launch} {e : Env} {s : State} {m : MethodId} {args : Array Value} {below : List Frame} {meth : Method} {c : Code} {Q : State → Prop} {D : va_G} {cB cI : ClassId} {A : Nat → Prop} {kt tt b L : Nat} {xs : Nat → Int32} (C0 : Cx p s m args c code 4 "KeySumsLaw" D (tyL cB cI) A kt tt) (hX : va_X b L xs s s.heap) (hbl0 : b < s.heap.size) (hbA : ¬ A b) (hL : L ≤ 3072) (q r : Nat → Nat) (key tape sum : Nat → Int32) (has : Int32) (ln : Nat) (fb fw : Nat → Int32) (g : Dg) (mtape mkey : Nat → Int32) (now : V4) (result : Nat → Int32) (i : Nat) (hi : i + 6 ≤ L) (hI : LInv ln g key tape sum fb mtape mkey result i) (H : Heap) (locs : List Loc) (hP : va_P D classes ((wKg q cB cI key tape sum has g.2.2 ln fb fw g) ++ (wMg r cI mtape ln mkey g now result has)) H) (hD : va_D A ((wKg q cB cI key tape sum has g.2.2 ln fb fw g) ++ (wMg r cI mtape ln mkey g now result has))) (hS : va_S A s.heap H locs) (ls : Array Slot) (hl : lv_has ls 4 [(0, .ref b), (1, .ref (q 0)), (2, .ref (r 0)), (3, .int (nI i))])
    (tail : ∀ (key tape sum : Nat → Int32) (has : Int32) (ln : Nat) (fb fw : Nat → Int32) (g : Dg) (mtape mkey : Nat → Int32) (now : V4) (result : Nat → Int32) (H : Heap) (locs : List Loc), LInv ln g key tape sum fb mtape mkey result (i + 6) → va_P D classes ((wKg q cB cI key tape sum has g.2.2 ln fb fw g) ++ (wMg r cI mtape ln mkey g now result has)) H → va_D A ((wKg q cB cI key tape sum has g.2.2 ln fb fw g) ++ (wMg r cI mtape ln mkey g now result has)) → va_S A s.heap H locs → W p l e room_1 s m args below meth c H locs 19 4337 Q (F0 m 283 ls [])) : W p l e room_1 s m args below meth c H locs 19 4337 Q (F0 m 162 ls []) := by
  obtain ⟨hx, hb, hml, hown, hcm, hK, hA, hZ⟩ := id C0
  obtain ⟨hbl, htp, hky, hsm, hln, hcn⟩ := id hI
  have eg : md_feed g tape ln = md_feed g mtape ln := md_feed_tp g htp hln
  have en : (md_feed g mtape ln).2.2 = g.2.2 + ln := md_feed_n g mtape ln
  refine lv_aload_n hx hb d_law_162 rfl (lv_at hl 1 rfl) ?_
  refine cl_Vi C0 (rest := []) (wr := (wMg r cI mtape ln mkey g now result has)) [] (c_KeySums_add l D cB cI kt tt q key tape sum has g.2.2 ln fb fw g hbl hln) (cwV 0 hcm (gd_V kw_91 kw_92 kw_93 kw_8 kw_94) rfl rfl rfl (by decide +kernel) ⟨Nat.le_of_ble_eq_true rfl, Nat.le_of_ble_eq_true rfl⟩) hP hD hS [0, 1, 2, 3, 4, 5, 6] [7, 8, 9, 10, 11, 12, 13, 14, 15, 16, 17, 18] rfl rfl rfl rfl (by decide) rfl 0 rfl rfl rfl hl.1 (Nat.le_of_ble_eq_true rfl) d_law_163 ⟨Nat.le_of_ble_eq_true rfl, Nat.le_of_ble_eq_true rfl⟩ (fun r1 ⟨fb, fw⟩ H locs h1 hP hD hS => ?_)
  have hP : va_P D classes ((wMg r cI mtape ln mkey g now result has) ++ (wKg q cB cI key tape sum has (g.2.2 + ln) 0 fb fw (md_feed g tape ln))) H := hP
  have hD : va_D A ((wMg r cI mtape ln mkey g now result has) ++ (wKg q cB cI key tape sum has (g.2.2 + ln) 0 fb fw (md_feed g tape ln))) := hD
  refine lv_aload_n hx hb d_law_166 rfl (lv_at hl 2 rfl) ?_
  refine cl_Vi C0 (rest := [.int r1]) (wr := (wKg q cB cI key tape sum has (g.2.2 + ln) 0 fb fw (md_feed g tape ln))) [] (c_Model_add l D cB cI kt tt r mtape ln mkey g now result has hln (by omega)) (cwV 0 hcm (gd_V kw_265 kw_266 kw_267 kw_10 kw_268) rfl rfl rfl (by decide +kernel) ⟨Nat.le_of_ble_eq_true rfl, Nat.le_of_ble_eq_true rfl⟩) hP hD hS [0, 1, 2, 3, 4, 5, 6, 7, 8, 9, 10, 11] [12, 13, 14, 15, 16, 17, 18] rfl rfl rfl rfl (by decide) rfl 0 rfl rfl rfl hl.1 (Nat.le_of_ble_eq_true rfl) d_law_167 ⟨Nat.le_of_ble_eq_true rfl, Nat.le_of_ble_eq_true rfl⟩ (fun r2 now H locs h2 hP hD hS => ?_)
  have hP : va_P D classes ((wKg q cB cI key tape sum has (g.2.2 + ln) 0 fb fw (md_feed g tape ln)) ++ (wMg r cI mtape 0 mkey (md_feed g mtape ln) now result has)) H := hP
  have hD : va_D A ((wKg q cB cI key tape sum has (g.2.2 + ln) 0 fb fw (md_feed g tape ln)) ++ (wMg r cI mtape 0 mkey (md_feed g mtape ln) now result has)) := hD
  refine lv_icmp_eq (tgt := 283) hx hb d_law_170 (by decide) (fun _ => ?_) (fun h9 => absurd (by rw [h1.1, h2]) h9)
  have hbl := h1.2
  rw [eg] at hP hD hbl
  rw [← en] at hP hD
  exact tail key tape sum has 0 fb fw (md_feed g mtape ln) mtape mkey now result H locs ⟨hbl, htp, hky, hsm, by omega, by omega⟩ hP hD hS
set_option maxHeartbeats 4000000 in
set_option maxRecDepth 100000 in
/-- fill -/
theorem law_c3 {p : Program} {l : Launch} {e : Env} {s : State} {m : MethodId} {args : Array Value} {below : List Frame} {meth : Method} {c : Code} {Q : State → Prop} {D : va_G} {cB cI : ClassId} {A : Nat → Prop} {kt tt b L : Nat} {xs : Nat → Int32} (C0 : Cx p s m args c code 4 "KeySumsLaw" D (tyL cB cI) A kt tt) (hX : va_X b L xs s s.heap) (hbl0 : b < s.heap.size) (hbA : ¬ A b) (hL : L ≤ 3072) (q r : Nat → Nat) (key tape sum : Nat → Int32) (has : Int32) (ln : Nat) (fb fw : Nat → Int32) (g : Dg) (mtape mkey : Nat → Int32) (now : V4) (result : Nat → Int32) (i : Nat) (hi : i + 6 ≤ L) (hI : LInv ln g key tape sum fb mtape mkey result i) (H : Heap) (locs : List Loc) (hP : va_P D classes ((wKg q cB cI key tape sum has g.2.2 ln fb fw g) ++ (wMg r cI mtape ln mkey g now result has)) H) (hD : va_D A ((wKg q cB cI key tape sum has g.2.2 ln fb fw g) ++ (wMg r cI mtape ln mkey g now result has))) (hS : va_S A s.heap H locs) (ls : Array Slot) (hl : lv_has ls 4 [(0, .ref b), (1, .ref (q 0)), (2, .ref (r 0)), (3, .int (nI i))])
    (tail : ∀ (key tape sum : Nat → Int32) (has : Int32) (ln : Nat) (fb fw : Nat → Int32) (g : Dg) (mtape mkey : Nat → Int32) (now : V4) (result : Nat → Int32) (H : Heap) (locs : List Loc), LInv ln g key tape sum fb mtape mkey result (i + 6) → va_P D classes ((wKg q cB cI key tape sum has g.2.2 ln fb fw g) ++ (wMg r cI mtape ln mkey g now result has)) H → va_D A ((wKg q cB cI key tape sum has g.2.2 ln fb fw g) ++ (wMg r cI mtape ln mkey g now result has)) → va_S A s.heap H locs → W p l e room_1 s m args below meth c H locs 19 4337 Q (F0 m 283 ls [])) : W p l e room_1 s m args below meth c H locs 19 4337 Q (F0 m 175 ls []) := by
  obtain ⟨hx, hb, hml, hown, hcm, hK, hA, hZ⟩ := id C0
  obtain ⟨hbl, htp, hky, hsm, hln, hcn⟩ := id hI
  by_cases hc : xs (i + 1) < 0 ∨ ¬ xs (i + 1) ≤ nI 4000
  · refine lv_aload_n hx hb d_law_175 rfl (lv_at hl 1 rfl) ?_
    refine lv_aload_n hx hb d_law_176 rfl (lv_at hl 0 rfl) ?_
    refine lv_iload_n hx hb d_law_177 rfl (lv_at hl 3 rfl) ?_
    refine lv_iconst (v := nI 1) hx hb d_law_178 (by decide) ?_
    refine lv_iadd hx hb d_law_179 ?_
    refine kt_i (y := nI (i + 1)) (nI_add i 1) ?_
    refine kr_sld C0 hX hbl0 hbA hS (k := i + 1) (by omega) (by omega) d_law_180 ?_
    refine lv_aload_n hx hb d_law_181 rfl (lv_at hl 0 rfl) ?_
    refine lv_iload_n hx hb d_law_182 rfl (lv_at hl 3 rfl) ?_
    refine lv_iconst (v := nI 2) hx hb d_law_183 (by decide) ?_
    refine lv_iadd hx hb d_law_184 ?_
    refine kt_i (y := nI (i + 2)) (nI_add i 2) ?_
    refine kr_sld C0 hX hbl0 hbA hS (k := i + 2) (by omega) (by omega) d_law_185 ?_
    refine cl_Vi C0 (rest := []) (wr := (wMg r cI mtape ln mkey g now result has)) [.int (xs (i + 1)), .int (xs (i + 2))] (c_KeySums_fill_no l D cB cI kt tt q key tape sum has g.2.2 ln fb fw g _ hc _) (cwV 2 hcm (gd_V kw_110 kw_111 kw_112 kw_8 kw_113) rfl rfl rfl (by decide +kernel) ⟨Nat.le_of_ble_eq_true rfl, Nat.le_of_ble_eq_true rfl⟩) hP hD hS [0, 1, 2, 3, 4, 5, 6] [7, 8, 9, 10, 11, 12, 13, 14, 15, 16, 17, 18] rfl rfl rfl rfl (by decide) rfl 0 rfl rfl rfl hl.1 (Nat.le_of_ble_eq_true rfl) d_law_186 ⟨Nat.le_of_ble_eq_true rfl, Nat.le_of_ble_eq_true rfl⟩ (fun r1 _ H locs h1 hP hD hS => ?_)
    have hP : va_P D classes ((wMg r cI mtape ln mkey g now result has) ++ (wKg q cB cI key tape sum has g.2.2 ln fb fw g)) H := hP
    have hD : va_D A ((wMg r cI mtape ln mkey g now result has) ++ (wKg q cB cI key tape sum has g.2.2 ln fb fw g)) := hD
    refine lv_aload_n hx hb d_law_189 rfl (lv_at hl 2 rfl) ?_
    refine lv_aload_n hx hb d_law_190 rfl (lv_at hl 0 rfl) ?_
    refine lv_iload_n hx hb d_law_191 rfl (lv_at hl 3 rfl) ?_
    refine lv_iconst (v := nI 1) hx hb d_law_192 (by decide) ?_
    refine lv_iadd hx hb d_law_193 ?_
    refine kt_i (y := nI (i + 1)) (nI_add i 1) ?_
    refine kr_sld C0 hX hbl0 hbA hS (k := i + 1) (by omega) (by omega) d_law_194 ?_
    refine lv_aload_n hx hb d_law_195 rfl (lv_at hl 0 rfl) ?_
    refine lv_iload_n hx hb d_law_196 rfl (lv_at hl 3 rfl) ?_
    refine lv_iconst (v := nI 2) hx hb d_law_197 (by decide) ?_
    refine lv_iadd hx hb d_law_198 ?_
    refine kt_i (y := nI (i + 2)) (nI_add i 2) ?_
    refine kr_sld C0 hX hbl0 hbA hS (k := i + 2) (by omega) (by omega) d_law_199 ?_
    refine cl_Vi C0 (rest := [.int r1]) (wr := (wKg q cB cI key tape sum has g.2.2 ln fb fw g)) [.int (xs (i + 1)), .int (xs (i + 2))] (c_Model_fill_no l D cB cI kt tt r mtape ln mkey g now result has _ hc _) (cwV 2 hcm (gd_V kw_285 kw_286 kw_287 kw_10 kw_288) rfl rfl rfl (by decide +kernel) ⟨Nat.le_of_ble_eq_true rfl, Nat.le_of_ble_eq_true rfl⟩) hP hD hS [0, 1, 2, 3, 4, 5, 6, 7, 8, 9, 10, 11] [12, 13, 14, 15, 16, 17, 18] rfl rfl rfl rfl (by decide) rfl 0 rfl rfl rfl hl.1 (Nat.le_of_ble_eq_true rfl) d_law_200 ⟨Nat.le_of_ble_eq_true rfl, Nat.le_of_ble_eq_true rfl⟩ (fun r2 _ H locs h2 hP hD hS => ?_)
    have hP : va_P D classes ((wKg q cB cI key tape sum has g.2.2 ln fb fw g) ++ (wMg r cI mtape ln mkey g now result has)) H := hP
    have hD : va_D A ((wKg q cB cI key tape sum has g.2.2 ln fb fw g) ++ (wMg r cI mtape ln mkey g now result has)) := hD
    refine lv_icmp_eq (tgt := 283) hx hb d_law_203 (by decide) (fun _ => ?_) (fun h9 => absurd (by rw [h1, h2]) h9)
    exact tail key tape sum has ln fb fw g mtape mkey now result H locs ⟨hbl, htp, hky, hsm, hln, by omega⟩ hP hD hS
  · have hc0 : ¬ xs (i + 1) < 0 := fun h => hc (Or.inl h)
    have hc1 : xs (i + 1) ≤ nI 4000 := Classical.byContradiction fun h => hc (Or.inr h)
    obtain ⟨j, hj, ej⟩ := nI_of hc0
    have hjl : j ≤ 4000 := by rw [ej] at hc1; exact (nI_leI hj (by decide)).mp hc1
    have en : (md_feed g (fun k => xs (i + 2) + nI 3 * nI k) j).2.2 = g.2.2 + j := md_feed_n g _ j
    refine lv_aload_n hx hb d_law_175 rfl (lv_at hl 1 rfl) ?_
    refine lv_aload_n hx hb d_law_176 rfl (lv_at hl 0 rfl) ?_
    refine lv_iload_n hx hb d_law_177 rfl (lv_at hl 3 rfl) ?_
    refine lv_iconst (v := nI 1) hx hb d_law_178 (by decide) ?_
    refine lv_iadd hx hb d_law_179 ?_
    refine kt_i (y := nI (i + 1)) (nI_add i 1) ?_
    refine kr_sld C0 hX hbl0 hbA hS (k := i + 1) (by omega) (by omega) d_law_180 ?_
    refine kt_i (y := nI j) ej ?_
    refine lv_aload_n hx hb d_law_181 rfl (lv_at hl 0 rfl) ?_
    refine lv_iload_n hx hb d_law_182 rfl (lv_at hl 3 rfl) ?_
    refine lv_iconst (v := nI 2) hx hb d_law_183 (by decide) ?_
    refine lv_iadd hx hb d_law_184 ?_
    refine kt_i (y := nI (i + 2)) (nI_add i 2) ?_
    refine kr_sld C0 hX hbl0 hbA hS (k := i + 2) (by omega) (by omega) d_law_185 ?_
    refine cl_Vi C0 (rest := []) (wr := (wMg r cI mtape ln mkey g now result has)) [.int (nI j), .int (xs (i + 2))] (c_KeySums_fill l D cB cI kt tt q key tape sum has g.2.2 ln fb fw g hbl j hjl _) (cwV 2 hcm (gd_V kw_110 kw_111 kw_112 kw_8 kw_113) rfl rfl rfl (by decide +kernel) ⟨Nat.le_of_ble_eq_true rfl, Nat.le_of_ble_eq_true rfl⟩) hP hD hS [0, 1, 2, 3, 4, 5, 6] [7, 8, 9, 10, 11, 12, 13, 14, 15, 16, 17, 18] rfl rfl rfl rfl (by decide) rfl 0 rfl rfl rfl hl.1 (Nat.le_of_ble_eq_true rfl) d_law_186 ⟨Nat.le_of_ble_eq_true rfl, Nat.le_of_ble_eq_true rfl⟩ (fun r1 ⟨fb, fw⟩ H locs h1 hP hD hS => ?_)
    have hP : va_P D classes ((wMg r cI mtape ln mkey g now result has) ++ (wKg q cB cI key tape sum has (g.2.2 + j) ln fb fw (md_feed g (fun k => xs (i + 2) + nI 3 * nI k) j))) H := hP
    have hD : va_D A ((wMg r cI mtape ln mkey g now result has) ++ (wKg q cB cI key tape sum has (g.2.2 + j) ln fb fw (md_feed g (fun k => xs (i + 2) + nI 3 * nI k) j))) := hD
    refine lv_aload_n hx hb d_law_189 rfl (lv_at hl 2 rfl) ?_
    refine lv_aload_n hx hb d_law_190 rfl (lv_at hl 0 rfl) ?_
    refine lv_iload_n hx hb d_law_191 rfl (lv_at hl 3 rfl) ?_
    refine lv_iconst (v := nI 1) hx hb d_law_192 (by decide) ?_
    refine lv_iadd hx hb d_law_193 ?_
    refine kt_i (y := nI (i + 1)) (nI_add i 1) ?_
    refine kr_sld C0 hX hbl0 hbA hS (k := i + 1) (by omega) (by omega) d_law_194 ?_
    refine kt_i (y := nI j) ej ?_
    refine lv_aload_n hx hb d_law_195 rfl (lv_at hl 0 rfl) ?_
    refine lv_iload_n hx hb d_law_196 rfl (lv_at hl 3 rfl) ?_
    refine lv_iconst (v := nI 2) hx hb d_law_197 (by decide) ?_
    refine lv_iadd hx hb d_law_198 ?_
    refine kt_i (y := nI (i + 2)) (nI_add i 2) ?_
    refine kr_sld C0 hX hbl0 hbA hS (k := i + 2) (by omega) (by omega) d_law_199 ?_
    refine cl_Vi C0 (rest := [.int r1]) (wr := (wKg q cB cI key tape sum has (g.2.2 + j) ln fb fw (md_feed g (fun k => xs (i + 2) + nI 3 * nI k) j))) [.int (nI j), .int (xs (i + 2))] (c_Model_fill l D cB cI kt tt r mtape ln mkey g now result has j hjl _ (by omega)) (cwV 2 hcm (gd_V kw_285 kw_286 kw_287 kw_10 kw_288) rfl rfl rfl (by decide +kernel) ⟨Nat.le_of_ble_eq_true rfl, Nat.le_of_ble_eq_true rfl⟩) hP hD hS [0, 1, 2, 3, 4, 5, 6, 7, 8, 9, 10, 11] [12, 13, 14, 15, 16, 17, 18] rfl rfl rfl rfl (by decide) rfl 0 rfl rfl rfl hl.1 (Nat.le_of_ble_eq_true rfl) d_law_200 ⟨Nat.le_of_ble_eq_true rfl, Nat.le_of_ble_eq_true rfl⟩ (fun r2 now H locs h2 hP hD hS => ?_)
    have hP : va_P D classes ((wKg q cB cI key tape sum has (g.2.2 + j) ln fb fw (md_feed g (fun k => xs (i + 2) + nI 3 * nI k) j)) ++ (wMg r cI mtape ln mkey (md_feed g (fun k => xs (i + 2) + nI 3 * nI k) j) now result has)) H := hP
    have hD : va_D A ((wKg q cB cI key tape sum has (g.2.2 + j) ln fb fw (md_feed g (fun k => xs (i + 2) + nI 3 * nI k) j)) ++ (wMg r cI mtape ln mkey (md_feed g (fun k => xs (i + 2) + nI 3 * nI k) j) now result has)) := hD
    refine lv_icmp_eq (tgt := 283) hx hb d_law_203 (by decide) (fun _ => ?_) (fun h9 => absurd (by rw [h1.1, h2]) h9)
    have hbl := h1.2
    rw [← en] at hP hD
    exact tail key tape sum has ln fb fw (md_feed g (fun k => xs (i + 2) + nI 3 * nI k) j) mtape mkey now result H locs ⟨hbl, htp, hky, hsm, by omega, by omega⟩ hP hD hS
set_option maxHeartbeats 4000000 in
set_option maxRecDepth 100000 in
/-- key -/
theorem law_c4 {p : Program} {l : Launch} {e : Env} {s : State} {m : MethodId} {args : Array Value} {below : List Frame} {meth : Method} {c : Code} {Q : State → Prop} {D : va_G} {cB cI : ClassId} {A : Nat → Prop} {kt tt b L : Nat} {xs : Nat → Int32} (C0 : Cx p s m args c code 4 "KeySumsLaw" D (tyL cB cI) A kt tt) (hX : va_X b L xs s s.heap) (hbl0 : b < s.heap.size) (hbA : ¬ A b) (hL : L ≤ 3072) (q r : Nat → Nat) (key tape sum : Nat → Int32) (has : Int32) (ln : Nat) (fb fw : Nat → Int32) (g : Dg) (mtape mkey : Nat → Int32) (now : V4) (result : Nat → Int32) (i : Nat) (hi : i + 6 ≤ L) (hI : LInv ln g key tape sum fb mtape mkey result i) (H : Heap) (locs : List Loc) (hP : va_P D classes ((wKg q cB cI key tape sum has g.2.2 ln fb fw g) ++ (wMg r cI mtape ln mkey g now result has)) H) (hD : va_D A ((wKg q cB cI key tape sum has g.2.2 ln fb fw g) ++ (wMg r cI mtape ln mkey g now result has))) (hS : va_S A s.heap H locs) (ls : Array Slot) (hl : lv_has ls 4 [(0, .ref b), (1, .ref (q 0)), (2, .ref (r 0)), (3, .int (nI i))])
    (tail : ∀ (key tape sum : Nat → Int32) (has : Int32) (ln : Nat) (fb fw : Nat → Int32) (g : Dg) (mtape mkey : Nat → Int32) (now : V4) (result : Nat → Int32) (H : Heap) (locs : List Loc), LInv ln g key tape sum fb mtape mkey result (i + 6) → va_P D classes ((wKg q cB cI key tape sum has g.2.2 ln fb fw g) ++ (wMg r cI mtape ln mkey g now result has)) H → va_D A ((wKg q cB cI key tape sum has g.2.2 ln fb fw g) ++ (wMg r cI mtape ln mkey g now result has)) → va_S A s.heap H locs → W p l e room_1 s m args below meth c H locs 19 4337 Q (F0 m 283 ls [])) : W p l e room_1 s m args below meth c H locs 19 4337 Q (F0 m 208 ls []) := by
  obtain ⟨hx, hb, hml, hown, hcm, hK, hA, hZ⟩ := id C0
  obtain ⟨hbl, htp, hky, hsm, hln, hcn⟩ := id hI
  by_cases hc : ln ≤ 16
  · refine lv_aload_n hx hb d_law_208 rfl (lv_at hl 1 rfl) ?_
    refine cl_Vi C0 (rest := []) (wr := (wMg r cI mtape ln mkey g now result has)) [] (c_KeySums_key l D cB cI kt tt q key tape sum has g.2.2 ln fb fw g hc) (cwV 0 hcm (gd_V kw_114 kw_115 kw_116 kw_8 kw_117) rfl rfl rfl (by decide +kernel) ⟨Nat.le_of_ble_eq_true rfl, Nat.le_of_ble_eq_true rfl⟩) hP hD hS [0, 1, 2, 3, 4, 5, 6] [7, 8, 9, 10, 11, 12, 13, 14, 15, 16, 17, 18] rfl rfl rfl rfl (by decide) rfl 0 rfl rfl rfl hl.1 (Nat.le_of_ble_eq_true rfl) d_law_209 ⟨Nat.le_of_ble_eq_true rfl, Nat.le_of_ble_eq_true rfl⟩ (fun r1 key H locs h1 hP hD hS => ?_)
    have hP : va_P D classes ((wMg r cI mtape ln mkey g now result has) ++ (wKg q cB cI key tape sum has g.2.2 0 fb fw g)) H := hP
    have hD : va_D A ((wMg r cI mtape ln mkey g now result has) ++ (wKg q cB cI key tape sum has g.2.2 0 fb fw g)) := hD
    refine lv_aload_n hx hb d_law_212 rfl (lv_at hl 2 rfl) ?_
    refine cl_Vi C0 (rest := [.int r1]) (wr := (wKg q cB cI key tape sum has g.2.2 0 fb fw g)) [] (c_Model_key l D cB cI kt tt r mtape ln mkey g now result has hc) (cwV 0 hcm (gd_V kw_289 kw_290 kw_291 kw_10 kw_292) rfl rfl rfl (by decide +kernel) ⟨Nat.le_of_ble_eq_true rfl, Nat.le_of_ble_eq_true rfl⟩) hP hD hS [0, 1, 2, 3, 4, 5, 6, 7, 8, 9, 10, 11] [12, 13, 14, 15, 16, 17, 18] rfl rfl rfl rfl (by decide) rfl 0 rfl rfl rfl hl.1 (Nat.le_of_ble_eq_true rfl) d_law_213 ⟨Nat.le_of_ble_eq_true rfl, Nat.le_of_ble_eq_true rfl⟩ (fun r2 mkey H locs h2 hP hD hS => ?_)
    have hP : va_P D classes ((wKg q cB cI key tape sum has g.2.2 0 fb fw g) ++ (wMg r cI mtape 0 mkey g now result has)) H := hP
    have hD : va_D A ((wKg q cB cI key tape sum has g.2.2 0 fb fw g) ++ (wMg r cI mtape 0 mkey g now result has)) := hD
    refine lv_icmp_eq (tgt := 283) hx hb d_law_216 (by decide) (fun _ => ?_) (fun h9 => absurd (by rw [h1.1, h2.1]) h9)
    exact tail key tape sum has 0 fb fw g mtape mkey now result H locs ⟨hbl, htp, fun j hj => by rw [h1.2 j hj, h2.2 j hj, htp j (by omega)], hsm, by omega, by omega⟩ hP hD hS
  · refine lv_aload_n hx hb d_law_208 rfl (lv_at hl 1 rfl) ?_
    refine cl_Vi C0 (rest := []) (wr := (wMg r cI mtape ln mkey g now result has)) [] (c_KeySums_key_no l D cB cI kt tt q key tape sum has g.2.2 ln fb fw g (by omega) hln) (cwV 0 hcm (gd_V kw_114 kw_115 kw_116 kw_8 kw_117) rfl rfl rfl (by decide +kernel) ⟨Nat.le_of_ble_eq_true rfl, Nat.le_of_ble_eq_true rfl⟩) hP hD hS [0, 1, 2, 3, 4, 5, 6] [7, 8, 9, 10, 11, 12, 13, 14, 15, 16, 17, 18] rfl rfl rfl rfl (by decide) rfl 0 rfl rfl rfl hl.1 (Nat.le_of_ble_eq_true rfl) d_law_209 ⟨Nat.le_of_ble_eq_true rfl, Nat.le_of_ble_eq_true rfl⟩ (fun r1 _ H locs h1 hP hD hS => ?_)
    have hP : va_P D classes ((wMg r cI mtape ln mkey g now result has) ++ (wKg q cB cI key tape sum has g.2.2 0 fb fw g)) H := hP
    have hD : va_D A ((wMg r cI mtape ln mkey g now result has) ++ (wKg q cB cI key tape sum has g.2.2 0 fb fw g)) := hD
    refine lv_aload_n hx hb d_law_212 rfl (lv_at hl 2 rfl) ?_
    refine cl_Vi C0 (rest := [.int r1]) (wr := (wKg q cB cI key tape sum has g.2.2 0 fb fw g)) [] (c_Model_key_no l D cB cI kt tt r mtape ln mkey g now result has (by omega) hln) (cwV 0 hcm (gd_V kw_289 kw_290 kw_291 kw_10 kw_292) rfl rfl rfl (by decide +kernel) ⟨Nat.le_of_ble_eq_true rfl, Nat.le_of_ble_eq_true rfl⟩) hP hD hS [0, 1, 2, 3, 4, 5, 6, 7, 8, 9, 10, 11] [12, 13, 14, 15, 16, 17, 18] rfl rfl rfl rfl (by decide) rfl 0 rfl rfl rfl hl.1 (Nat.le_of_ble_eq_true rfl) d_law_213 ⟨Nat.le_of_ble_eq_true rfl, Nat.le_of_ble_eq_true rfl⟩ (fun r2 _ H locs h2 hP hD hS => ?_)
    have hP : va_P D classes ((wKg q cB cI key tape sum has g.2.2 0 fb fw g) ++ (wMg r cI mtape 0 mkey g now result has)) H := hP
    have hD : va_D A ((wKg q cB cI key tape sum has g.2.2 0 fb fw g) ++ (wMg r cI mtape 0 mkey g now result has)) := hD
    refine lv_icmp_eq (tgt := 283) hx hb d_law_216 (by decide) (fun _ => ?_) (fun h9 => absurd (by rw [h1, h2]) h9)
    exact tail key tape sum has 0 fb fw g mtape mkey now result H locs ⟨hbl, htp, hky, hsm, by omega, by omega⟩ hP hD hS
set_option maxHeartbeats 4000000 in
set_option maxRecDepth 100000 in
/-- sum -/
theorem law_c5 {p : Program} {l : Launch} {e : Env} {s : State} {m : MethodId} {args : Array Value} {below : List Frame} {meth : Method} {c : Code} {Q : State → Prop} {D : va_G} {cB cI : ClassId} {A : Nat → Prop} {kt tt b L : Nat} {xs : Nat → Int32} (C0 : Cx p s m args c code 4 "KeySumsLaw" D (tyL cB cI) A kt tt) (hX : va_X b L xs s s.heap) (hbl0 : b < s.heap.size) (hbA : ¬ A b) (hL : L ≤ 3072) (q r : Nat → Nat) (key tape sum : Nat → Int32) (has : Int32) (ln : Nat) (fb fw : Nat → Int32) (g : Dg) (mtape mkey : Nat → Int32) (now : V4) (result : Nat → Int32) (i : Nat) (hi : i + 6 ≤ L) (hI : LInv ln g key tape sum fb mtape mkey result i) (H : Heap) (locs : List Loc) (hP : va_P D classes ((wKg q cB cI key tape sum has g.2.2 ln fb fw g) ++ (wMg r cI mtape ln mkey g now result has)) H) (hD : va_D A ((wKg q cB cI key tape sum has g.2.2 ln fb fw g) ++ (wMg r cI mtape ln mkey g now result has))) (hS : va_S A s.heap H locs) (ls : Array Slot) (hl : lv_has ls 4 [(0, .ref b), (1, .ref (q 0)), (2, .ref (r 0)), (3, .int (nI i))])
    (tail : ∀ (key tape sum : Nat → Int32) (has : Int32) (ln : Nat) (fb fw : Nat → Int32) (g : Dg) (mtape mkey : Nat → Int32) (now : V4) (result : Nat → Int32) (H : Heap) (locs : List Loc), LInv ln g key tape sum fb mtape mkey result (i + 6) → va_P D classes ((wKg q cB cI key tape sum has g.2.2 ln fb fw g) ++ (wMg r cI mtape ln mkey g now result has)) H → va_D A ((wKg q cB cI key tape sum has g.2.2 ln fb fw g) ++ (wMg r cI mtape ln mkey g now result has)) → va_S A s.heap H locs → W p l e room_1 s m args below meth c H locs 19 4337 Q (F0 m 283 ls [])) : W p l e room_1 s m args below meth c H locs 19 4337 Q (F0 m 221 ls []) := by
  obtain ⟨hx, hb, hml, hown, hcm, hK, hA, hZ⟩ := id C0
  obtain ⟨hbl, htp, hky, hsm, hln, hcn⟩ := id hI
  have eg : md_feed g key 16 = md_feed g mkey 16 := md_feed_tp g hky (Nat.le_refl 16)
  refine lv_aload_n hx hb d_law_221 rfl (lv_at hl 1 rfl) ?_
  refine lv_aload_n hx hb d_law_222 rfl (lv_at hl 0 rfl) ?_
  refine lv_iload_n hx hb d_law_223 rfl (lv_at hl 3 rfl) ?_
  refine lv_iconst (v := nI 1) hx hb d_law_224 (by decide) ?_
  refine lv_iadd hx hb d_law_225 ?_
  refine kt_i (y := nI (i + 1)) (nI_add i 1) ?_
  refine kr_sld C0 hX hbl0 hbA hS (k := i + 1) (by omega) (by omega) d_law_226 ?_
  refine lv_if_eq (tgt := 234) hx hb d_law_227 (by decide) (fun c_227 => ?_) (fun c_227 => ?_)
  · refine lv_iconst (v := nI 0) hx hb d_law_234 (by decide) ?_
    refine cl_Vi C0 (rest := []) (wr := (wMg r cI mtape ln mkey g now result has)) [.int (nI 0)] (c_KeySums_sum0 l D cB cI kt tt q key tape sum has g.2.2 ln fb fw g hbl) (cwV 1 hcm (gd_V kw_118 kw_119 kw_120 kw_8 kw_121) rfl rfl rfl (by decide +kernel) ⟨Nat.le_of_ble_eq_true rfl, Nat.le_of_ble_eq_true rfl⟩) hP hD hS [0, 1, 2, 3, 4, 5, 6] [7, 8, 9, 10, 11, 12, 13, 14, 15, 16, 17, 18] rfl rfl rfl rfl (by decide) rfl 0 rfl rfl rfl hl.1 (Nat.le_of_ble_eq_true rfl) d_law_235 ⟨Nat.le_of_ble_eq_true rfl, Nat.le_of_ble_eq_true rfl⟩ (fun r1 ⟨sum, fb, fw⟩ H locs h1 hP hD hS => ?_)
    have hP : va_P D classes ((wMg r cI mtape ln mkey g now result has) ++ (wKg q cB cI key tape sum (nI 1) 0 ln fb fw ((md_end g).1, md_B, 0))) H := hP
    have hD : va_D A ((wMg r cI mtape ln mkey g now result has) ++ (wKg q cB cI key tape sum (nI 1) 0 ln fb fw ((md_end g).1, md_B, 0))) := hD
    refine lv_aload_n hx hb d_law_238 rfl (lv_at hl 2 rfl) ?_
    refine lv_aload_n hx hb d_law_239 rfl (lv_at hl 0 rfl) ?_
    refine lv_iload_n hx hb d_law_240 rfl (lv_at hl 3 rfl) ?_
    refine lv_iconst (v := nI 1) hx hb d_law_241 (by decide) ?_
    refine lv_iadd hx hb d_law_242 ?_
    refine kt_i (y := nI (i + 1)) (nI_add i 1) ?_
    refine kr_sld C0 hX hbl0 hbA hS (k := i + 1) (by omega) (by omega) d_law_243 ?_
    refine lv_if_eq (tgt := 251) hx hb d_law_244 (by decide) (fun _ => ?_) (fun h9 => absurd c_227 h9)
    refine lv_iconst (v := nI 0) hx hb d_law_251 (by decide) ?_
    refine cl_Vi C0 (rest := [.int r1]) (wr := (wKg q cB cI key tape sum (nI 1) 0 ln fb fw ((md_end g).1, md_B, 0))) [.int (nI 0)] (c_Model_sum0 l D cB cI kt tt r mtape ln mkey g now result has (by omega)) (cwV 1 hcm (gd_V kw_293 kw_294 kw_295 kw_10 kw_296) rfl rfl rfl (by decide +kernel) ⟨Nat.le_of_ble_eq_true rfl, Nat.le_of_ble_eq_true rfl⟩) hP hD hS [0, 1, 2, 3, 4, 5, 6, 7, 8, 9, 10, 11] [12, 13, 14, 15, 16, 17, 18] rfl rfl rfl rfl (by decide) rfl 0 rfl rfl rfl hl.1 (Nat.le_of_ble_eq_true rfl) d_law_252 ⟨Nat.le_of_ble_eq_true rfl, Nat.le_of_ble_eq_true rfl⟩ (fun r2 ⟨result, now⟩ H locs h2 hP hD hS => ?_)
    have hP : va_P D classes ((wKg q cB cI key tape sum (nI 1) 0 ln fb fw ((md_end g).1, md_B, 0)) ++ (wMg r cI mtape ln mkey ((md_end g).1, md_B, 0) now result (nI 1))) H := hP
    have hD : va_D A ((wKg q cB cI key tape sum (nI 1) 0 ln fb fw ((md_end g).1, md_B, 0)) ++ (wMg r cI mtape ln mkey ((md_end g).1, md_B, 0) now result (nI 1))) := hD
    refine lv_icmp_eq (tgt := 283) hx hb d_law_255 (by decide) (fun _ => ?_) (fun h9 => absurd (by rw [h1.1, h2.1]) h9)
    have h12 := h1.2.1
    have h13 := h1.2.2
    exact tail key tape sum (nI 1) ln fb fw ((md_end g).1, md_B, 0) mtape mkey now result H locs ⟨h13, htp, hky, fun j hj => (h12 j hj).trans (h2.2 j hj).symm, hln, Nat.zero_le _⟩ hP hD hS
  · refine lv_iconst (v := nI 1) hx hb d_law_230 (by decide) ?_
    refine lv_goto (tgt := 235) hx hb d_law_231 (by decide) ?_
    refine cl_Vi C0 (rest := []) (wr := (wMg r cI mtape ln mkey g now result has)) [.int (nI 1)] (c_KeySums_sum1 l D cB cI kt tt q key tape sum has g.2.2 ln fb fw g hbl) (cwV 1 hcm (gd_V kw_118 kw_119 kw_120 kw_8 kw_121) rfl rfl rfl (by decide +kernel) ⟨Nat.le_of_ble_eq_true rfl, Nat.le_of_ble_eq_true rfl⟩) hP hD hS [0, 1, 2, 3, 4, 5, 6] [7, 8, 9, 10, 11, 12, 13, 14, 15, 16, 17, 18] rfl rfl rfl rfl (by decide) rfl 0 rfl rfl rfl hl.1 (Nat.le_of_ble_eq_true rfl) d_law_235 ⟨Nat.le_of_ble_eq_true rfl, Nat.le_of_ble_eq_true rfl⟩ (fun r1 ⟨sum, fb, fw⟩ H locs h1 hP hD hS => ?_)
    have hP : va_P D classes ((wMg r cI mtape ln mkey g now result has) ++ (wKg q cB cI key tape sum (nI 1) 0 ln fb fw ((md_end (md_feed g key 16)).1, md_B, 0))) H := hP
    have hD : va_D A ((wMg r cI mtape ln mkey g now result has) ++ (wKg q cB cI key tape sum (nI 1) 0 ln fb fw ((md_end (md_feed g key 16)).1, md_B, 0))) := hD
    refine lv_aload_n hx hb d_law_238 rfl (lv_at hl 2 rfl) ?_
    refine lv_aload_n hx hb d_law_239 rfl (lv_at hl 0 rfl) ?_
    refine lv_iload_n hx hb d_law_240 rfl (lv_at hl 3 rfl) ?_
    refine lv_iconst (v := nI 1) hx hb d_law_241 (by decide) ?_
    refine lv_iadd hx hb d_law_242 ?_
    refine kt_i (y := nI (i + 1)) (nI_add i 1) ?_
    refine kr_sld C0 hX hbl0 hbA hS (k := i + 1) (by omega) (by omega) d_law_243 ?_
    refine lv_if_eq (tgt := 251) hx hb d_law_244 (by decide) (fun h9 => absurd h9 c_227) (fun _ => ?_)
    refine lv_iconst (v := nI 1) hx hb d_law_247 (by decide) ?_
    refine lv_goto (tgt := 252) hx hb d_law_248 (by decide) ?_
    refine cl_Vi C0 (rest := [.int r1]) (wr := (wKg q cB cI key tape sum (nI 1) 0 ln fb fw ((md_end (md_feed g key 16)).1, md_B, 0))) [.int (nI 1)] (c_Model_sum1 l D cB cI kt tt r mtape ln mkey g now result has (by omega)) (cwV 1 hcm (gd_V kw_293 kw_294 kw_295 kw_10 kw_296) rfl rfl rfl (by decide +kernel) ⟨Nat.le_of_ble_eq_true rfl, Nat.le_of_ble_eq_true rfl⟩) hP hD hS [0, 1, 2, 3, 4, 5, 6, 7, 8, 9, 10, 11] [12, 13, 14, 15, 16, 17, 18] rfl rfl rfl rfl (by decide) rfl 0 rfl rfl rfl hl.1 (Nat.le_of_ble_eq_true rfl) d_law_252 ⟨Nat.le_of_ble_eq_true rfl, Nat.le_of_ble_eq_true rfl⟩ (fun r2 ⟨result, now⟩ H locs h2 hP hD hS => ?_)
    have hP : va_P D classes ((wKg q cB cI key tape sum (nI 1) 0 ln fb fw ((md_end (md_feed g key 16)).1, md_B, 0)) ++ (wMg r cI mtape ln mkey ((md_end (md_feed g mkey 16)).1, md_B, 0) now result (nI 1))) H := hP
    have hD : va_D A ((wKg q cB cI key tape sum (nI 1) 0 ln fb fw ((md_end (md_feed g key 16)).1, md_B, 0)) ++ (wMg r cI mtape ln mkey ((md_end (md_feed g mkey 16)).1, md_B, 0) now result (nI 1))) := hD
    refine lv_icmp_eq (tgt := 283) hx hb d_law_255 (by decide) (fun _ => ?_) (fun h9 => absurd (by rw [h1.1, h2.1]) h9)
    have h12 := h1.2.1
    have h13 := h1.2.2
    rw [eg] at hP hD h12 h13
    exact tail key tape sum (nI 1) ln fb fw ((md_end (md_feed g mkey 16)).1, md_B, 0) mtape mkey now result H locs ⟨h13, htp, hky, fun j hj => (h12 j hj).trans (h2.2 j hj).symm, hln, Nat.zero_le _⟩ hP hD hS
set_option maxHeartbeats 4000000 in
set_option maxRecDepth 100000 in
/-- sumAt -/
theorem law_c6 {p : Program} {l : Launch} {e : Env} {s : State} {m : MethodId} {args : Array Value} {below : List Frame} {meth : Method} {c : Code} {Q : State → Prop} {D : va_G} {cB cI : ClassId} {A : Nat → Prop} {kt tt b L : Nat} {xs : Nat → Int32} (C0 : Cx p s m args c code 4 "KeySumsLaw" D (tyL cB cI) A kt tt) (hX : va_X b L xs s s.heap) (hbl0 : b < s.heap.size) (hbA : ¬ A b) (hL : L ≤ 3072) (q r : Nat → Nat) (key tape sum : Nat → Int32) (has : Int32) (ln : Nat) (fb fw : Nat → Int32) (g : Dg) (mtape mkey : Nat → Int32) (now : V4) (result : Nat → Int32) (i : Nat) (hi : i + 6 ≤ L) (hI : LInv ln g key tape sum fb mtape mkey result i) (H : Heap) (locs : List Loc) (hP : va_P D classes ((wKg q cB cI key tape sum has g.2.2 ln fb fw g) ++ (wMg r cI mtape ln mkey g now result has)) H) (hD : va_D A ((wKg q cB cI key tape sum has g.2.2 ln fb fw g) ++ (wMg r cI mtape ln mkey g now result has))) (hS : va_S A s.heap H locs) (ls : Array Slot) (hl : lv_has ls 4 [(0, .ref b), (1, .ref (q 0)), (2, .ref (r 0)), (3, .int (nI i))])
    (tail : ∀ (key tape sum : Nat → Int32) (has : Int32) (ln : Nat) (fb fw : Nat → Int32) (g : Dg) (mtape mkey : Nat → Int32) (now : V4) (result : Nat → Int32) (H : Heap) (locs : List Loc), LInv ln g key tape sum fb mtape mkey result (i + 6) → va_P D classes ((wKg q cB cI key tape sum has g.2.2 ln fb fw g) ++ (wMg r cI mtape ln mkey g now result has)) H → va_D A ((wKg q cB cI key tape sum has g.2.2 ln fb fw g) ++ (wMg r cI mtape ln mkey g now result has)) → va_S A s.heap H locs → W p l e room_1 s m args below meth c H locs 19 4337 Q (F0 m 283 ls [])) : W p l e room_1 s m args below meth c H locs 19 4337 Q (F0 m 260 ls []) := by
  obtain ⟨hx, hb, hml, hown, hcm, hK, hA, hZ⟩ := id C0
  obtain ⟨hbl, htp, hky, hsm, hln, hcn⟩ := id hI
  by_cases hc : has = 0 ∨ xs (i + 1) < 0 ∨ nI 16 ≤ xs (i + 1)
  · refine lv_aload_n hx hb d_law_260 rfl (lv_at hl 1 rfl) ?_
    refine lv_aload_n hx hb d_law_261 rfl (lv_at hl 0 rfl) ?_
    refine lv_iload_n hx hb d_law_262 rfl (lv_at hl 3 rfl) ?_
    refine lv_iconst (v := nI 1) hx hb d_law_263 (by decide) ?_
    refine lv_iadd hx hb d_law_264 ?_
    refine kt_i (y := nI (i + 1)) (nI_add i 1) ?_
    refine kr_sld C0 hX hbl0 hbA hS (k := i + 1) (by omega) (by omega) d_law_265 ?_
    refine cl_Vi C0 (rest := []) (wr := (wMg r cI mtape ln mkey g now result has)) [.int (xs (i + 1))] (c_KeySums_sumAt_no l D cB cI kt tt q key tape sum has g.2.2 ln fb fw g _ hc) (cwV 1 hcm (gd_V kw_128 kw_129 kw_130 kw_8 kw_131) rfl rfl rfl (by decide +kernel) ⟨Nat.le_of_ble_eq_true rfl, Nat.le_of_ble_eq_true rfl⟩) hP hD hS [0, 1, 2, 3, 4, 5, 6] [7, 8, 9, 10, 11, 12, 13, 14, 15, 16, 17, 18] rfl rfl rfl rfl (by decide) rfl 0 rfl rfl rfl hl.1 (Nat.le_of_ble_eq_true rfl) d_law_266 ⟨Nat.le_of_ble_eq_true rfl, Nat.le_of_ble_eq_true rfl⟩ (fun r1 _ H locs h1 hP hD hS => ?_)
    have hP : va_P D classes ((wMg r cI mtape ln mkey g now result has) ++ (wKg q cB cI key tape sum has g.2.2 ln fb fw g)) H := hP
    have hD : va_D A ((wMg r cI mtape ln mkey g now result has) ++ (wKg q cB cI key tape sum has g.2.2 ln fb fw g)) := hD
    refine lv_aload_n hx hb d_law_269 rfl (lv_at hl 2 rfl) ?_
    refine lv_aload_n hx hb d_law_270 rfl (lv_at hl 0 rfl) ?_
    refine lv_iload_n hx hb d_law_271 rfl (lv_at hl 3 rfl) ?_
    refine lv_iconst (v := nI 1) hx hb d_law_272 (by decide) ?_
    refine lv_iadd hx hb d_law_273 ?_
    refine kt_i (y := nI (i + 1)) (nI_add i 1) ?_
    refine kr_sld C0 hX hbl0 hbA hS (k := i + 1) (by omega) (by omega) d_law_274 ?_
    refine cl_Vi C0 (rest := [.int r1]) (wr := (wKg q cB cI key tape sum has g.2.2 ln fb fw g)) [.int (xs (i + 1))] (c_Model_sumAt_no l D cB cI kt tt r mtape ln mkey g now result has _ hc) (cwV 1 hcm (gd_V kw_298 kw_299 kw_300 kw_10 kw_301) rfl rfl rfl (by decide +kernel) ⟨Nat.le_of_ble_eq_true rfl, Nat.le_of_ble_eq_true rfl⟩) hP hD hS [0, 1, 2, 3, 4, 5, 6, 7, 8, 9, 10, 11] [12, 13, 14, 15, 16, 17, 18] rfl rfl rfl rfl (by decide) rfl 0 rfl rfl rfl hl.1 (Nat.le_of_ble_eq_true rfl) d_law_275 ⟨Nat.le_of_ble_eq_true rfl, Nat.le_of_ble_eq_true rfl⟩ (fun r2 _ H locs h2 hP hD hS => ?_)
    have hP : va_P D classes ((wKg q cB cI key tape sum has g.2.2 ln fb fw g) ++ (wMg r cI mtape ln mkey g now result has)) H := hP
    have hD : va_D A ((wKg q cB cI key tape sum has g.2.2 ln fb fw g) ++ (wMg r cI mtape ln mkey g now result has)) := hD
    refine lv_icmp_eq (tgt := 283) hx hb d_law_278 (by decide) (fun _ => ?_) (fun h9 => absurd (by rw [h1, h2]) h9)
    exact tail key tape sum has ln fb fw g mtape mkey now result H locs ⟨hbl, htp, hky, hsm, hln, by omega⟩ hP hD hS
  · have hh : has ≠ 0 := fun h => hc (Or.inl h)
    have hc0 : ¬ xs (i + 1) < 0 := fun h => hc (Or.inr (Or.inl h))
    have hc1 : ¬ nI 16 ≤ xs (i + 1) := fun h => hc (Or.inr (Or.inr h))
    obtain ⟨j, hj, ej⟩ := nI_of hc0
    have hjl : j < 16 := by rw [ej] at hc1; exact Nat.lt_of_not_le fun h => hc1 ((nI_leI (by decide) hj).mpr h)
    refine lv_aload_n hx hb d_law_260 rfl (lv_at hl 1 rfl) ?_
    refine lv_aload_n hx hb d_law_261 rfl (lv_at hl 0 rfl) ?_
    refine lv_iload_n hx hb d_law_262 rfl (lv_at hl 3 rfl) ?_
    refine lv_iconst (v := nI 1) hx hb d_law_263 (by decide) ?_
    refine lv_iadd hx hb d_law_264 ?_
    refine kt_i (y := nI (i + 1)) (nI_add i 1) ?_
    refine kr_sld C0 hX hbl0 hbA hS (k := i + 1) (by omega) (by omega) d_law_265 ?_
    refine kt_i (y := nI j) ej ?_
    refine cl_Vi C0 (rest := []) (wr := (wMg r cI mtape ln mkey g now result has)) [.int (nI j)] (c_KeySums_sumAt l D cB cI kt tt q key tape sum has g.2.2 ln fb fw g j hjl hh) (cwV 1 hcm (gd_V kw_128 kw_129 kw_130 kw_8 kw_131) rfl rfl rfl (by decide +kernel) ⟨Nat.le_of_ble_eq_true rfl, Nat.le_of_ble_eq_true rfl⟩) hP hD hS [0, 1, 2, 3, 4, 5, 6] [7, 8, 9, 10, 11, 12, 13, 14, 15, 16, 17, 18] rfl rfl rfl rfl (by decide) rfl 0 rfl rfl rfl hl.1 (Nat.le_of_ble_eq_true rfl) d_law_266 ⟨Nat.le_of_ble_eq_true rfl, Nat.le_of_ble_eq_true rfl⟩ (fun r1 _ H locs h1 hP hD hS => ?_)
    have hP : va_P D classes ((wMg r cI mtape ln mkey g now result has) ++ (wKg q cB cI key tape sum has g.2.2 ln fb fw g)) H := hP
    have hD : va_D A ((wMg r cI mtape ln mkey g now result has) ++ (wKg q cB cI key tape sum has g.2.2 ln fb fw g)) := hD
    refine lv_aload_n hx hb d_law_269 rfl (lv_at hl 2 rfl) ?_
    refine lv_aload_n hx hb d_law_270 rfl (lv_at hl 0 rfl) ?_
    refine lv_iload_n hx hb d_law_271 rfl (lv_at hl 3 rfl) ?_
    refine lv_iconst (v := nI 1) hx hb d_law_272 (by decide) ?_
    refine lv_iadd hx hb d_law_273 ?_
    refine kt_i (y := nI (i + 1)) (nI_add i 1) ?_
    refine kr_sld C0 hX hbl0 hbA hS (k := i + 1) (by omega) (by omega) d_law_274 ?_
    refine kt_i (y := nI j) ej ?_
    refine cl_Vi C0 (rest := [.int r1]) (wr := (wKg q cB cI key tape sum has g.2.2 ln fb fw g)) [.int (nI j)] (c_Model_sumAt l D cB cI kt tt r mtape ln mkey g now result has j hjl hh) (cwV 1 hcm (gd_V kw_298 kw_299 kw_300 kw_10 kw_301) rfl rfl rfl (by decide +kernel) ⟨Nat.le_of_ble_eq_true rfl, Nat.le_of_ble_eq_true rfl⟩) hP hD hS [0, 1, 2, 3, 4, 5, 6, 7, 8, 9, 10, 11] [12, 13, 14, 15, 16, 17, 18] rfl rfl rfl rfl (by decide) rfl 0 rfl rfl rfl hl.1 (Nat.le_of_ble_eq_true rfl) d_law_275 ⟨Nat.le_of_ble_eq_true rfl, Nat.le_of_ble_eq_true rfl⟩ (fun r2 _ H locs h2 hP hD hS => ?_)
    have hP : va_P D classes ((wKg q cB cI key tape sum has g.2.2 ln fb fw g) ++ (wMg r cI mtape ln mkey g now result has)) H := hP
    have hD : va_D A ((wKg q cB cI key tape sum has g.2.2 ln fb fw g) ++ (wMg r cI mtape ln mkey g now result has)) := hD
    refine lv_icmp_eq (tgt := 283) hx hb d_law_278 (by decide) (fun _ => ?_) (fun h9 => absurd (by rw [h1, h2]; exact hsm j hjl) h9)
    exact tail key tape sum has ln fb fw g mtape mkey now result H locs ⟨hbl, htp, hky, hsm, hln, by omega⟩ hP hD hS
end
section
set_option maxHeartbeats 4000000 in
set_option maxRecDepth 100000 in
/-- THE LAW'S LOOP -/
theorem law_loop {p : Program} {l : Launch} {e : Env} {s : State} {m : MethodId} {below : List Frame} {meth : Method} {c : Code} {D : va_G} {cB cI : ClassId} {kt tt b L : Nat} {xs : Nat → Int32} (C0 : Cx p s m #[Value.ref b] c code 4 "KeySumsLaw" D (tyL cB cI) (fun q : Nat => s.heap.size ≤ q) kt tt) (hX : va_X b L xs s s.heap) (hbl0 : b < s.heap.size) (hL : L ≤ 3072) (q r : Nat → Nat) (hr : meth.sig.returnType = ret) (hlocks : meth.locks = false) :
    ∀ (n i : Nat) (key tape sum : Nat → Int32) (has : Int32) (ln : Nat) (fb fw : Nat → Int32) (g : Dg) (mtape mkey : Nat → Int32) (now : V4) (result : Nat → Int32) (H : Heap) (locs : List Loc) (ls : Array Slot), i ≤ L → L + 1 ≤ i + n → LInv ln g key tape sum fb mtape mkey result i → va_P D classes ((wKg q cB cI key tape sum has g.2.2 ln fb fw g) ++ (wMg r cI mtape ln mkey g now result has)) H → va_D (fun q : Nat => s.heap.size ≤ q) ((wKg q cB cI key tape sum has g.2.2 ln fb fw g) ++ (wMg r cI mtape ln mkey g now result has)) → va_S (fun q : Nat => s.heap.size ≤ q) s.heap H locs → lv_has ls 4 [(0, .ref b), (1, .ref (q 0)), (2, .ref (r 0)), (3, .int (nI i))] → W p l e room_1 s m #[Value.ref b] below meth c H locs 19 4337 (lw_Z below #[Value.ref b] s) (F0 m 18 ls []) := by
  obtain ⟨hx, hb, hml, hown, hcm, hK, hA, hZ⟩ := id C0
  have hbA : ¬ (fun q : Nat => s.heap.size ≤ q) b := Nat.not_le.mpr hbl0
  intro n
  induction n with
  | zero =>
    intro i key tape sum has ln fb fw g mtape mkey now result H locs ls hi hin
    exact absurd hin (by omega)
  | succ n ih =>
    intro i key tape sum has ln fb fw g mtape mkey now result H locs ls hi hin hI hP hD hS hl
    refine lv_iload_n hx hb d_law_18 rfl (lv_at hl 3 rfl) ?_
    refine lv_aload_n hx hb d_law_19 rfl (lv_at hl 0 rfl) ?_
    refine va_slen hx hb hX hbl0 hbA hS d_law_20 ?_
    refine lv_bipush (v := nI 6) hx hb d_law_21 (by decide) ?_
    refine lv_isub hx hb d_law_23 ?_
    refine lv_icmp_gt (tgt := 289) hx hb d_law_24 (by decide) (fun c_24 => ?_) (fun c_24 => ?_)
    · refine lv_iconst (v := 1) hx hb d_law_289 (by decide) ?_
      refine va_forget (fun q hq => hS.2.2 q hq) ?_
      exact lw_ret hx hb hr hlocks d_law_290
    · have hi6 : i + 6 ≤ L := by
        rw [Int32.lt_iff_toInt_lt] at c_24
        have e1 : (nI L - nI 6).toInt = (L : Int) - 6 := pk_sub_toInt (by omega) (by decide)
        have e2 : (nI i).toInt = (i : Int) := nI_toInt (by omega)
        rw [show (Int32.ofNat L - nI 6).toInt = (L : Int) - 6 from e1, e2] at c_24
        omega
      have tail : ∀ (key tape sum : Nat → Int32) (has : Int32) (ln : Nat) (fb fw : Nat → Int32) (g : Dg) (mtape mkey : Nat → Int32) (now : V4) (result : Nat → Int32) (H : Heap) (locs : List Loc), LInv ln g key tape sum fb mtape mkey result (i + 6) → va_P D classes ((wKg q cB cI key tape sum has g.2.2 ln fb fw g) ++ (wMg r cI mtape ln mkey g now result has)) H → va_D (fun q : Nat => s.heap.size ≤ q) ((wKg q cB cI key tape sum has g.2.2 ln fb fw g) ++ (wMg r cI mtape ln mkey g now result has)) → va_S (fun q : Nat => s.heap.size ≤ q) s.heap H locs → W p l e room_1 s m #[Value.ref b] below meth c H locs 19 4337 (lw_Z below #[Value.ref b] s) (F0 m 283 ls []) := by
        intro key tape sum has ln fb fw g mtape mkey now result H locs hI hP hD hS
        refine lv_iinc (v := nI (i + 6)) (lv' := [(3, .int (nI (i + 6))), (0, .ref b), (1, .ref (q 0)), (2, .ref (r 0))]) hx hb d_law_283 hl (k := 3) rfl (nI_add i 6) (by decide) rfl (fun ls hl => ?_)
        refine lv_goto (tgt := 18) hx hb d_law_286 (by decide) ?_
        exact ih (i + 6) key tape sum has ln fb fw g mtape mkey now result H locs ls hi6 (by omega) hI hP hD hS (lv_sub hl [1, 2, 3, 0] rfl)
      refine lv_aload_n hx hb d_law_27 rfl (lv_at hl 0 rfl) ?_
      refine lv_iload_n hx hb d_law_28 rfl (lv_at hl 3 rfl) ?_
      refine kr_sld C0 hX hbl0 hbA hS (k := i) (by omega) (by omega) d_law_29 ?_
      refine lv_bipush (v := nI 7) hx hb d_law_30 (by decide) ?_
      refine lv_iand hx hb d_law_32 ?_
      obtain ⟨z, hz8, ez⟩ := pk_andE (xs i) (m := nI 7) 3 (by decide)
      refine kt_i (y := nI z) ez ?_
      rcases (show z = 0 ∨ z = 1 ∨ z = 2 ∨ z = 3 ∨ z = 4 ∨ z = 5 ∨ z = 6 ∨ z = 7 by omega) with rfl | rfl | rfl | rfl | rfl | rfl | rfl | rfl
      · refine lv_tableIn (off := 43) (tgt := 76) hx hb d_law_33 (by decide) (by decide) (by decide) (by decide) ?_
        exact law_c0 C0 hX hbl0 hbA hL q r key tape sum has ln fb fw g mtape mkey now result i hi6 hI H locs hP hD hS ls hl tail
      · refine lv_tableIn (off := 106) (tgt := 139) hx hb d_law_33 (by decide) (by decide) (by decide) (by decide) ?_
        exact law_c1 C0 hX hbl0 hbA hL q r key tape sum has ln fb fw g mtape mkey now result i hi6 hI H locs hP hD hS ls hl tail
      · refine lv_tableIn (off := 129) (tgt := 162) hx hb d_law_33 (by decide) (by decide) (by decide) (by decide) ?_
        exact law_c2 C0 hX hbl0 hbA hL q r key tape sum has ln fb fw g mtape mkey now result i hi6 hI H locs hP hD hS ls hl tail
      · refine lv_tableIn (off := 142) (tgt := 175) hx hb d_law_33 (by decide) (by decide) (by decide) (by decide) ?_
        exact law_c3 C0 hX hbl0 hbA hL q r key tape sum has ln fb fw g mtape mkey now result i hi6 hI H locs hP hD hS ls hl tail
      · refine lv_tableIn (off := 175) (tgt := 208) hx hb d_law_33 (by decide) (by decide) (by decide) (by decide) ?_
        exact law_c4 C0 hX hbl0 hbA hL q r key tape sum has ln fb fw g mtape mkey now result i hi6 hI H locs hP hD hS ls hl tail
      · refine lv_tableIn (off := 188) (tgt := 221) hx hb d_law_33 (by decide) (by decide) (by decide) (by decide) ?_
        exact law_c5 C0 hX hbl0 hbA hL q r key tape sum has ln fb fw g mtape mkey now result i hi6 hI H locs hP hD hS ls hl tail
      · refine lv_tableIn (off := 227) (tgt := 260) hx hb d_law_33 (by decide) (by decide) (by decide) (by decide) ?_
        exact law_c6 C0 hX hbl0 hbA hL q r key tape sum has ln fb fw g mtape mkey now result i hi6 hI H locs hP hD hS ls hl tail
      · refine lv_tableOut (tgt := 283) hx hb d_law_33 (by decide) (by decide) ?_
        exact tail key tape sum has ln fb fw g mtape mkey now result H locs ⟨hI.1, hI.2.1, hI.2.2.1, hI.2.2.2.1, hI.2.2.2.2.1, Nat.le_trans hI.2.2.2.2.2 (Nat.mul_le_mul_left 1000 (by omega))⟩ hP hD hS
end
section
theorem lw_Kel : ∀ j, j < 64 → Cond.eq (.elem (.static "KeySums$Digest" "K" "[I") (.int (Int32.ofNat j))) (.int (md_K j)) ∈ flatC (Jvm.Cond.and given_1 narrow_1) := by decide +kernel
theorem lw_Tel : ∀ j, j < 16 → Cond.eq (.elem (.static "KeySums$Digest" "TURNS" "[I") (.int (Int32.ofNat j))) (.int (md_T j)) ∈ flatC (Jvm.Cond.and given_1 narrow_1) := by decide +kernel
set_option maxHeartbeats 4000000 in
set_option maxRecDepth 100000 in
/-- what the start gives: classes, tables -/
theorem lw_cx {p : Program} {s : State} {m : MethodId} {meth : Method} {c : Code} {b L : Nat} {xs : Nat → Int32} (C0 : lw_At p s m meth c b L xs) : ∃ (D : va_G) (cB cI : ClassId) (kt tt : Nat), Cx p s m #[Value.ref b] c code 4 "KeySumsLaw" D (tyL cB cI) (fun q : Nat => s.heap.size ≤ q) kt tt := by
  obtain ⟨hx, hb, hr, hml, hown, hts, hX, hbl, hlocks, hgv⟩ := C0
  have hcm : ∀ w ∈ cm, w.before #[Value.ref b] s = true := fun w h => hts w (cm_tbl h)
  have hs := flat_of_before _ hgv
  have hA0 : ∀ a : Nat, a < s.heap.size → ¬ (fun q : Nat => s.heap.size ≤ q) a := fun a h => Nat.not_le.mpr h
  obtain ⟨c0, iS0, hKn0⟩ := u_known (C := "KeySums$Digest") (T := F_Digest) (N := 8) (n := 8) hcm i_Digest (hcm _ kw_21)
  obtain ⟨c1, iS1, hKn1⟩ := u_known (C := "KeySums") (T := F_KeySums) (N := 7) (n := 7) hcm i_KeySums (hcm _ kw_13)
  obtain ⟨c2, iS2, hKn2⟩ := u_known (C := "KeySumsModel") (T := F_Model) (N := 14) (n := 14) hcm i_Model (hcm _ kw_133)
  obtain ⟨cB, kB, compB, hB1, hB2, hB3⟩ := Cond.arrayClass_spec (hcm _ kw_51)
  obtain ⟨cI, kI, compI, hI1, hI2, hI3⟩ := Cond.arrayClass_spec (hcm _ kw_52)
  obtain ⟨kt, hvkt, hTkt⟩ := va_Tof (tm := .static "KeySums$Digest" "K" "[I") (ty := .int) (N := 64) (f := fun j => .int (md_K j)) (A := fun q : Nat => s.heap.size ≤ q) (by decide) (hs _ (by decide +kernel)) (va_eqt (hs (Cond.eq (.length (.static "KeySums$Digest" "K" "[I")) (.int 64)) (by decide +kernel))) (fun j hj => va_eqt (hs _ (lw_Kel j hj))) hA0
  obtain ⟨tt, hvtt, hTtt⟩ := va_Tof (tm := .static "KeySums$Digest" "TURNS" "[I") (ty := .int) (N := 16) (f := fun j => .int (md_T j)) (A := fun q : Nat => s.heap.size ≤ q) (by decide) (hs _ (by decide +kernel)) (va_eqt (hs (Cond.eq (.length (.static "KeySums$Digest" "TURNS" "[I")) (.int 16)) (by decide +kernel))) (fun j hj => va_eqt (hs _ (lw_Tel j hj))) hA0
  refine ⟨(fun k => if k = 0 then c0 else if k = 1 then c1 else c2, fun k => if k = 0 then iS0 else if k = 1 then iS1 else iS2), cB, cI, kt, tt, hx, hb, hml, hown, hcm, ⟨?_, ?_⟩, fun _ h => h, ?_⟩
  · intro k q hq
    match k, hq with
    | 0, hq => cases hq; exact hKn0
    | 1, hq => cases hq; exact hKn1
    | 2, hq => cases hq; exact hKn2
    | k + 3, hq => simp [classes] at hq
  · intro k q hq
    match k, hq with
    | 0, hq => cases hq; exact ⟨fun n z => ⟨fun k h => (by cases h), kB, hB2, compB, hB3⟩, hB1⟩
    | 1, hq => cases hq; exact ⟨fun n z => ⟨fun k h => (by cases h), kI, hI2, compI, hI3⟩, hI1⟩
    | k + 2, hq => simp [tyL] at hq
  · exact ⟨va_Zref (hts _ (List.mem_of_getElem? (i := 104) (by decide +kernel))) (hcm _ kw_9) hvkt hA0, hTkt, va_Zref (hts _ (List.mem_of_getElem? (i := 106) (by decide +kernel))) (hcm _ kw_9) hvtt hA0, hTtt, va_Nw.of rfl (hts _ (List.mem_of_getElem? (i := 22) (by decide +kernel)))⟩
set_option maxHeartbeats 4000000 in
set_option maxRecDepth 100000 in
/-- YOUR PART: from the entry, for every script of at most 3072 ints, the law comes to its end with true -/
theorem whole_start {p : Program} {e : Env} {s : State} {m : MethodId} {below : List Frame} {meth : Method} {c : Code} (l : Launch) {b L : Nat} {xs : Nat → Int32} (hL : L ≤ 3072) (C0 : lw_At p s m meth c b L xs) : W p l e room_1 s m #[Value.ref b] below meth c s.heap [] 0 0 (lw_Z below #[Value.ref b] s) (entryFrame m ([Value.ref b] : List Value).toArray 4) := by
  obtain ⟨hx, hb, hr, hml, hown, hts, hX, hbl0, hlocks, hgv⟩ := id C0
  obtain ⟨D, cB, cI, kt, tt, C1⟩ := lw_cx C0
  obtain ⟨-, -, -, -, hcm, hK, hA, hZ⟩ := id C1
  have C0 := C1
  have hS : va_S (fun q : Nat => s.heap.size ≤ q) s.heap s.heap [] := va_S.rf
  have hP : va_P D classes [] s.heap := fun k q h => by simp at h
  have hD : va_D (fun q : Nat => s.heap.size ≤ q) [] := ⟨fun i j p q h => by simp at h, fun k q h => by simp at h⟩
  have hl := lv_entry ([.ref b]) (n := 4) (Nat.le_of_ble_eq_true rfl)
  rw [lg_entry_eq]
  generalize (lg_sl ([.ref b]) ++ List.replicate (4 - (lg_sl ([.ref b])).length) Slot.unset).toArray = ls at hl ⊢
  have hl : lv_has ls 4 [(0, .ref b)] := hl
  refine va_new (ci := 1) (fs := [.null, .null, .null, .int 0, .int 0, .null, .int 0]) (C := "KeySums") (T := F_KeySums) (N := 7) hx hb hcm i_KeySums t_KeySums t_KeySums_ok hown (hcm _ kw_12) (hcm _ kw_13) (hcm _ kw_8) hK hP hD hS hA rfl (fun j hj => by rcases (show j = 0 ∨ j = 1 ∨ j = 2 ∨ j = 3 ∨ j = 4 ∨ j = 5 ∨ j = 6 by omega) with rfl | rfl | rfl | rfl | rfl | rfl | rfl <;> rfl) (Nat.le_of_ble_eq_true rfl) (Nat.le_of_ble_eq_true rfl) d_law_0 (fun a0 H hP hD hS => ?_)
  have hP : va_P D classes ([(a0, .inr (1, [.null, .null, .null, .int 0, .int 0, .null, .int 0]))]) H := hP
  have hD : va_D (fun q : Nat => s.heap.size ≤ q) ([(a0, .inr (1, [.null, .null, .null, .int 0, .int 0, .null, .int 0]))]) := hD
  refine lv_dup hx hb d_law_3 rfl ?_
  refine cl_I C0 (ty := .int) (rest := [.ref a0]) (wr := []) [] (c_KeySums_init l D cB cI kt tt a0) (cwI 0 hcm (gd_c kw_16) rfl rfl rfl (hcm _ kw_8) (hcm _ kw_14) (hcm _ kw_15) rfl (by decide +kernel) ⟨Nat.le_of_ble_eq_true rfl, Nat.le_of_ble_eq_true rfl⟩) hP hD hS [0] [] rfl rfl rfl rfl (by decide) rfl rfl hl.1 (Nat.le_of_ble_eq_true rfl) d_law_4 ⟨Nat.le_of_ble_eq_true rfl, Nat.le_of_ble_eq_true rfl⟩ (fun q H locs hq0 hP hD hS => ?_)
  have hP : va_P D classes (wKg q cB cI (fun _ => 0) (fun _ => 0) (fun _ => 0) 0 0 0 (fun _ => 0) (fun _ => 0) (fun _ => 0, md_B, 0)) H := hP
  have hD : va_D (fun q : Nat => s.heap.size ≤ q) (wKg q cB cI (fun _ => 0) (fun _ => 0) (fun _ => 0) 0 0 0 (fun _ => 0) (fun _ => 0) (fun _ => 0, md_B, 0)) := hD
  rw [← hq0]
  refine lv_astore_n (lv' := [(1, .ref (q 0)), (0, .ref b)]) hx hb d_law_7 rfl hl (by decide) rfl (fun ls hl => ?_)
  refine va_new (ci := 2) (fs := [.null, .null, .null, .null, .null, .null, .int 0, .null, .null, .null, .null, .int 0, .null, .int 0]) (C := "KeySumsModel") (T := F_Model) (N := 14) hx hb hcm i_Model t_Model t_Model_ok hown (hcm _ kw_132) (hcm _ kw_133) (hcm _ kw_10) hK hP hD hS hA rfl (fun j hj => by rcases (show j = 0 ∨ j = 1 ∨ j = 2 ∨ j = 3 ∨ j = 4 ∨ j = 5 ∨ j = 6 ∨ j = 7 ∨ j = 8 ∨ j = 9 ∨ j = 10 ∨ j = 11 ∨ j = 12 ∨ j = 13 by omega) with rfl | rfl | rfl | rfl | rfl | rfl | rfl | rfl | rfl | rfl | rfl | rfl | rfl | rfl <;> rfl) (Nat.le_of_ble_eq_true rfl) (Nat.le_of_ble_eq_true rfl) d_law_8 (fun a8 H hP hD hS => ?_)
  have hP : va_P D classes (wKg q cB cI (fun _ => 0) (fun _ => 0) (fun _ => 0) 0 0 0 (fun _ => 0) (fun _ => 0) (fun _ => 0, md_B, 0) ++ [(a8, .inr (2, [.null, .null, .null, .null, .null, .null, .int 0, .null, .null, .null, .null, .int 0, .null, .int 0]))]) H := hP
  have hD : va_D (fun q : Nat => s.heap.size ≤ q) (wKg q cB cI (fun _ => 0) (fun _ => 0) (fun _ => 0) 0 0 0 (fun _ => 0) (fun _ => 0) (fun _ => 0, md_B, 0) ++ [(a8, .inr (2, [.null, .null, .null, .null, .null, .null, .int 0, .null, .null, .null, .null, .int 0, .null, .int 0]))]) := hD
  refine lv_dup hx hb d_law_11 rfl ?_
  refine cl_I C0 (ty := .int) (rest := [.ref a8]) (wr := (wKg q cB cI (fun _ => 0) (fun _ => 0) (fun _ => 0) 0 0 0 (fun _ => 0) (fun _ => 0) (fun _ => 0, md_B, 0))) [] (c_Model_init l D cB cI kt tt a8) (cwI 0 hcm (gd_c kw_136) rfl rfl rfl (hcm _ kw_10) (hcm _ kw_134) (hcm _ kw_135) rfl (by decide +kernel) ⟨Nat.le_of_ble_eq_true rfl, Nat.le_of_ble_eq_true rfl⟩) hP hD hS [7] [0, 1, 2, 3, 4, 5, 6] rfl rfl rfl rfl (by decide) rfl rfl hl.1 (Nat.le_of_ble_eq_true rfl) d_law_12 ⟨Nat.le_of_ble_eq_true rfl, Nat.le_of_ble_eq_true rfl⟩ (fun r H locs hr0 hP hD hS => ?_)
  have hP : va_P D classes (wKg q cB cI (fun _ => 0) (fun _ => 0) (fun _ => 0) 0 0 0 (fun _ => 0) (fun _ => 0) (fun _ => 0, md_B, 0) ++ wMg r cI (fun _ => 0) 0 (fun _ => 0) (fun _ => 0, md_B, 0) (0, 0, 0, 0) (fun _ => 0) 0) H := hP
  have hD : va_D (fun q : Nat => s.heap.size ≤ q) (wKg q cB cI (fun _ => 0) (fun _ => 0) (fun _ => 0) 0 0 0 (fun _ => 0) (fun _ => 0) (fun _ => 0, md_B, 0) ++ wMg r cI (fun _ => 0) 0 (fun _ => 0) (fun _ => 0, md_B, 0) (0, 0, 0, 0) (fun _ => 0) 0) := hD
  rw [← hr0]
  refine lv_astore_n (lv' := [(2, .ref (r 0)), (1, .ref (q 0)), (0, .ref b)]) hx hb d_law_15 rfl hl (by decide) rfl (fun ls hl => ?_)
  refine lv_iconst (v := nI 0) hx hb d_law_16 (by decide) ?_
  refine lv_istore_n (lv' := [(3, .int (nI 0)), (2, .ref (r 0)), (1, .ref (q 0)), (0, .ref b)]) hx hb d_law_17 rfl hl (by decide) rfl (fun ls hl => ?_)
  refine W.widen (k := 19) (n := 4337) (Nat.le_of_ble_eq_true rfl) (Nat.le_of_ble_eq_true rfl) ?_
  exact law_loop C0 hX hbl0 hL q r hr hlocks (L + 1) 0 (fun _ => 0) (fun _ => 0) (fun _ => 0) 0 0 (fun _ => 0) (fun _ => 0) (fun _ => 0, md_B, 0) (fun _ => 0) (fun _ => 0) (0, 0, 0, 0) (fun _ => 0) H _ ls (Nat.zero_le L) (by omega) ⟨fun j _ => by_0, fun j _ => by_0, fun j _ => by_0, fun j _ => by_0, Nat.zero_le _, Nat.le_refl _⟩ hP hD hS (lv_sub hl [3, 2, 1, 0] rfl)
end
section
set_option maxHeartbeats 4000000 in
theorem lw_walk (l : Launch) (b : Addr) (xs : List Int32) : MetFree l x (headSpec (Jvm.Cond.code x code maxLocals ret :: tables_1) room_1) (lw_P b xs) (fun _ _ _ _ _ => True) lw_Q := by
  refine MetFree.of_bodyS (code := code) (maxLocals := maxLocals) (ret := ret) (by decide) ?_ ?_
  · intro args s m h hn
    obtain ⟨meth, c, h1, h2, h3, h4, h5, h6, -, -⟩ := Cond.code_spec hn (atoms_spec (ws := Jvm.Cond.code x code maxLocals ret :: tables_1) h _ List.mem_cons_self)
    exact ⟨meth, c, h1, h2, h3, h4, h5, h6⟩
  · intro p e s m args below meth c s₁ B hml0 hP _
    obtain ⟨rfl, hx, hbd, hgv⟩ := hP
    obtain ⟨scr, harrAt, hlist, hof, hsmall⟩ := hx
    obtain ⟨hcb, hkn, -, -⟩ := State.arrayAt?_spec harrAt
    have hown : s.vm.findClass R_law = some m.cls := findClass_of_methodNamed B.named
    have hts0 : ∀ c ∈ (Jvm.Cond.code x code maxLocals ret :: tables_1), c.before #[Value.ref b] s = true := atoms_spec (ws := Jvm.Cond.code x code maxLocals ret :: tables_1) B.pre
    have hts : ∀ w ∈ lw_tbl, w.before #[Value.ref b] s = true := k2_hts_sels lw_privs (fun w hw => hts0 w (List.mem_cons_of_mem _ hw)) lw_privs_ok
    have hml : c.maxLocals = 4 := B.maxLocals_eq (hts0 _ List.mem_cons_self)
    have X₀ : Stand p l e room_1 s m #[Value.ref b] below meth c s₁ [] 0 0 := Stand.of_body B
    have hh0 : s₁.heap = s.heap := by rw [B.state]; rfl
    have hsz : scr.slots.size = xs.length := by rw [← Array.length_toList, hlist, List.length_map]
    have hval : ∀ j : Nat, j < xs.length → scr.slots[j]? = some (.int (xs.getD j 0)) := fun j hj => by
      rw [← Array.getElem?_toList, hlist]
      simp [hj]
    have hbl : b < s.heap.size := (Array.getElem?_eq_some_iff.mp hcb).1
    have hX : va_X b xs.length (fun j => xs.getD j 0) s s.heap := ⟨scr, hcb, hof, hkn, hsz, hval⟩
    have K : W p l e room_1 s m #[Value.ref b] below meth c s₁.heap [] 0 0 (lw_Z below #[Value.ref b] s) (entryFrame m ([Value.ref b] : List Value).toArray 4) := by
      rw [hh0]
      exact whole_start l hbd ⟨B.exec, B.bytes, B.returns, hml, hown, hts, hX, hbl, B.notSynchronized, hgv⟩
    obtain ⟨t, a1, o, b1, b2, b3⟩ := K s₁ rfl X₀
    exact ⟨t, o, a1, b1, b2, b3⟩
theorem lw_pre_spec {args : Array Value} {s : State} (h : (Jvm.Cond.and given_1 narrow_1).before args s = true) (hr : rest_1_c.before args s = true) : ∃ (b : Addr) (xs : List Int32), lw_P b xs args s := by
  have hs := flat_of_before _ h
  have hq := flat_of_before _ hr
  have hc : (Cond.count 1).before args s = true := hs _ (by decide +kernel)
  have harr : (Cond.arrayOf (.arg 0) .int).before args s = true := hs _ (by decide +kernel)
  have hle : (Cond.le (.length (.arg 0)) (.int 3072)).before args s = true := hs _ (by decide +kernel)
  have hlen : (Cond.isInt (.length (.arg 0))).before args s = true := hq _ (by decide +kernel)
  have hall : (Cond.all (.arg 0) (.isInt (.elem (.arg 0) (.index 0)))).before args s = true := hq _ (by decide +kernel)
  obtain ⟨b, xs, hb, hx⟩ := State.ints_of_pre rfl harr hlen hall
  have hsm : xs.length < 2 ^ 31 := hx.choose_spec.2.2.2
  have hev : (Term.length (.arg 0)).eval args s none [] s = some (.int xs.length.toInt32) := hx.length_eval hb
  have hv := Cond.le_ints hev (show (Term.int 3072).eval args s none [] s = some (.int 3072) from rfl)
  have hd : xs.length.toInt32 ≤ 3072 := by
    simpa [Cond.before, Cond.holds, hv] using hle
  have hN : xs.length ≤ 3072 := (Int32.ofNat_le_ofNat hsm (by decide)).mp (show Int32.ofNat xs.length ≤ Int32.ofNat 3072 from hd)
  exact ⟨b, xs, Cond.one_arg hc (show args[0]? = some (.ref b) from hb), hx, hN, h⟩
theorem lw_comes (l : Launch) : Comes l x (Jvm.Cond.code x code maxLocals ret :: tables_1) room_1 (fun tb e args s => Calls_1 tb e args s ∧ rest_1 tb e args s ∧ Pre_1 tb e args s)
    (fun _ _ args s o t => lw_Q args s o t) := by
  intro p e ha hc hk s m args below hf hfit hheap happ hpre
  obtain ⟨b, xs, hP⟩ := lw_pre_spec hpre.2.2 hpre.2.1
  obtain ⟨k, o, h1, h2, h3, hQ⟩ := lw_walk l b xs p e ha hc hk s m args below hf ((Spec.applies_iff_loose hf).mp happ).1 hP trivial
  exact ⟨k, o, h1, h2, h3, hQ⟩
theorem lw_frame {s t : State} {o : Outcome} {args : Array Value} (h : Framed s o t [] 19 4337) :
    Framed s o t (fieldLocs frame_1_writes args s ++ arrayLocs frame_1_arrays args s ++ staticLocs frame_1_statics s) 19 4337 := h
theorem lw_limb (L : Cond) (hL : ∀ (args : Array Value) (s t : State), L.after args s (.returned (some (.int 1))) t = true) :
    ArmFor flags0 classFile x code maxLocals ret World_1 tables_1 room_1 Calls_1 rest_1 Pre_1
      (fun tb e a s o t => postC L tb e a s o t ∧ Framed s o t (fieldLocs frame_1_writes a s ++ arrayLocs frame_1_arrays a s ++ staticLocs frame_1_statics s) 19 4337) := by
  intro l _ _ _ p e ha hc hk s m args below hf hfit hheap happ hpre
  obtain ⟨k, o, h1, h2, h3, rfl, hF⟩ := lw_comes l p e ha hc hk s m args below hf hfit hheap happ hpre
  exact ⟨k, _, h1, h2, h3, hL args s _, lw_frame hF⟩
theorem i_vc : Claimed_1_1 ∧ Claimed_1_2 := ⟨lw_limb limb_1_1 (fun args s t => by simp [limb_1_1, Cond.after, Cond.holds, Cond.value]), lw_limb limb_1_2 (fun args s t => Cond.after_iff.mpr (by
  first | (rw [show limb_1_2 = Cond.eq .result (.int 1) from rfl, Cond.eq_ints (x := 1) (y := 1) rfl rfl]; simp; done) | (simp [limb_1_2, Cond.value, Term.eval]; done)))⟩
end
