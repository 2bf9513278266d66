section
-- PART A of the skeleton (a starting text), then names by program (gen/names.py)
def lw_okq (q : MethodName × Nat) : Prop := (q.1.cls ≠ "java/lang/invoke/MethodHandle" ∧ q.1.cls ≠ "java/lang/invoke/VarHandle") ∧ Cond.instantiable q.1.cls q.2 ∈ tables_1 ∧ Cond.privateMethod q.1 ∈ tables_1 ∧ Cond.instanceMethod q.1 ∈ tables_1
theorem lw_p0 : lw_okq (⟨"WordTerms", "readWord", "()Z"⟩, 6) := ⟨⟨by decide +kernel, by decide +kernel⟩, List.mem_of_getElem? (i := 7) (by decide +kernel), List.mem_of_getElem? (i := 130) (by decide +kernel), List.mem_of_getElem? (i := 131) (by decide +kernel)⟩
theorem lw_p1 : lw_okq (⟨"WordTerms", "distance", "([BII)I"⟩, 6) := ⟨⟨by decide +kernel, by decide +kernel⟩, List.mem_of_getElem? (i := 7) (by decide +kernel), List.mem_of_getElem? (i := 135) (by decide +kernel), List.mem_of_getElem? (i := 136) (by decide +kernel)⟩
theorem lw_p2 : lw_okq (⟨"WordTermsModel", "put", "(I)V"⟩, 8) := ⟨⟨by decide +kernel, by decide +kernel⟩, List.mem_of_getElem? (i := 152) (by decide +kernel), List.mem_of_getElem? (i := 187) (by decide +kernel), List.mem_of_getElem? (i := 188) (by decide +kernel)⟩
theorem lw_p3 : lw_okq (⟨"WordTermsModel", "run", "(I)I"⟩, 8) := ⟨⟨by decide +kernel, by decide +kernel⟩, List.mem_of_getElem? (i := 152) (by decide +kernel), List.mem_of_getElem? (i := 202) (by decide +kernel), List.mem_of_getElem? (i := 203) (by decide +kernel)⟩
theorem lw_p4 : lw_okq (⟨"WordTermsModel", "note", "(IZ)V"⟩, 8) := ⟨⟨by decide +kernel, by decide +kernel⟩, List.mem_of_getElem? (i := 152) (by decide +kernel), List.mem_of_getElem? (i := 206) (by decide +kernel), List.mem_of_getElem? (i := 207) (by decide +kernel)⟩
theorem lw_p5 : lw_okq (⟨"WordTermsModel", "last", "(I)I"⟩, 8) := ⟨⟨by decide +kernel, by decide +kernel⟩, List.mem_of_getElem? (i := 152) (by decide +kernel), List.mem_of_getElem? (i := 210) (by decide +kernel), List.mem_of_getElem? (i := 211) (by decide +kernel)⟩
theorem lw_p6 : lw_okq (⟨"WordTermsModel", "is", "(I)Z"⟩, 8) := ⟨⟨by decide +kernel, by decide +kernel⟩, List.mem_of_getElem? (i := 152) (by decide +kernel), List.mem_of_getElem? (i := 218) (by decide +kernel), List.mem_of_getElem? (i := 219) (by decide +kernel)⟩
theorem lw_p7 : lw_okq (⟨"WordTermsModel", "order", "(II)I"⟩, 8) := ⟨⟨by decide +kernel, by decide +kernel⟩, List.mem_of_getElem? (i := 152) (by decide +kernel), List.mem_of_getElem? (i := 226) (by decide +kernel), List.mem_of_getElem? (i := 227) (by decide +kernel)⟩
theorem lw_p8 : lw_okq (⟨"WordTermsModel", "oneWord", "()Z"⟩, 8) := ⟨⟨by decide +kernel, by decide +kernel⟩, List.mem_of_getElem? (i := 152) (by decide +kernel), List.mem_of_getElem? (i := 243) (by decide +kernel), List.mem_of_getElem? (i := 244) (by decide +kernel)⟩
theorem lw_p9 : lw_okq (⟨"WordTermsModel", "distance", "(II)I"⟩, 8) := ⟨⟨by decide +kernel, by decide +kernel⟩, List.mem_of_getElem? (i := 152) (by decide +kernel), List.mem_of_getElem? (i := 247) (by decide +kernel), List.mem_of_getElem? (i := 248) (by decide +kernel)⟩
def lw_privs_1 : List (MethodName × Nat) := [(⟨"WordTerms", "readWord", "()Z"⟩, 6), (⟨"WordTerms", "distance", "([BII)I"⟩, 6), (⟨"WordTermsModel", "put", "(I)V"⟩, 8), (⟨"WordTermsModel", "run", "(I)I"⟩, 8), (⟨"WordTermsModel", "note", "(IZ)V"⟩, 8), (⟨"WordTermsModel", "last", "(I)I"⟩, 8), (⟨"WordTermsModel", "is", "(I)Z"⟩, 8), (⟨"WordTermsModel", "order", "(II)I"⟩, 8), (⟨"WordTermsModel", "oneWord", "()Z"⟩, 8), (⟨"WordTermsModel", "distance", "(II)I"⟩, 8)]
theorem lw_r1 : ∀ q ∈ lw_privs_1, lw_okq q := List.forall_mem_cons.mpr ⟨lw_p0, List.forall_mem_cons.mpr ⟨lw_p1, List.forall_mem_cons.mpr ⟨lw_p2, List.forall_mem_cons.mpr ⟨lw_p3, List.forall_mem_cons.mpr ⟨lw_p4, List.forall_mem_cons.mpr ⟨lw_p5, List.forall_mem_cons.mpr ⟨lw_p6, List.forall_mem_cons.mpr ⟨lw_p7, List.forall_mem_cons.mpr ⟨lw_p8, List.forall_mem_cons.mpr ⟨lw_p9, fun _ h => absurd h List.not_mem_nil⟩⟩⟩⟩⟩⟩⟩⟩⟩⟩
def lw_privs : List (MethodName × Nat) := lw_privs_1
def lw_tbl : List Cond := k2_sels lw_privs ++ tables_1
theorem lw_privs_ok : ∀ q ∈ lw_privs, lw_okq q := lw_r1
def R_T : String := "WordTerms"
def R_W : String := "WordTerms$Words"
def R_M : String := "WordTermsModel"
def R_L : String := "WordTermsLaw"
def R_O : String := "java/lang/Object"
def R_Math : String := "java/lang/Math"
def R_Int : String := "java/lang/Integer"
abbrev b_T_init : ByteArray := prog_1_method_6_code
def y_T_init : MethodName := ⟨R_T, "<init>", "()V"⟩
abbrev b_O_init : ByteArray := object_method_1_code
def y_O_init : MethodName := ⟨R_O, "<init>", "()V"⟩
abbrev b_W_init : ByteArray := prog_2_method_1_code
def y_W_init : MethodName := ⟨R_W, "<init>", "()V"⟩
abbrev b_T_feed : ByteArray := prog_1_method_7_code
def y_T_feed : MethodName := ⟨R_T, "feed", "(IIIII)I"⟩
abbrev b_T_put4 : ByteArray := prog_1_method_1_code
def y_T_put4 : MethodName := ⟨R_T, "put4", "([BII)V"⟩
abbrev b_T_end : ByteArray := prog_1_method_8_code
def y_T_end : MethodName := ⟨R_T, "end", "(I)I"⟩
abbrev b_T_in : ByteArray := prog_1_method_2_code
def y_T_in : MethodName := ⟨R_T, "in", "(III)Z"⟩
abbrev b_T_read : ByteArray := prog_1_method_9_code
def y_T_read : MethodName := ⟨R_T, "read", "()I"⟩
abbrev b_W_read : ByteArray := prog_2_method_4_code
def y_W_read : MethodName := ⟨R_W, "read", "([BII)V"⟩
abbrev b_T_isSign : ByteArray := prog_1_method_4_code
def y_T_isSign : MethodName := ⟨R_T, "isSign", "(I)Z"⟩
abbrev b_W_take : ByteArray := prog_2_method_2_code
def y_W_take : MethodName := ⟨R_W, "take", "([BII)V"⟩
abbrev b_T_small : ByteArray := prog_1_method_5_code
def y_T_small : MethodName := ⟨R_T, "small", "(I)I"⟩
abbrev b_Math_min : ByteArray := prog_6_method_69_code
def y_Math_min : MethodName := ⟨R_Math, "min", "(II)I"⟩
abbrev b_T_sign : ByteArray := prog_1_method_10_code
def y_T_sign : MethodName := ⟨R_T, "sign", "(II)I"⟩
abbrev b_T_different : ByteArray := prog_1_method_11_code
def y_T_different : MethodName := ⟨R_T, "different", "()I"⟩
abbrev b_W_different : ByteArray := prog_2_method_7_code
def y_W_different : MethodName := ⟨R_W, "different", "()I"⟩
abbrev b_W_isFirst : ByteArray := prog_2_method_6_code
def y_W_isFirst : MethodName := ⟨R_W, "isFirst", "(I)Z"⟩
abbrev b_W_isSame : ByteArray := prog_2_method_5_code
def y_W_isSame : MethodName := ⟨R_W, "isSame", "(II)Z"⟩
abbrev b_T_order : ByteArray := prog_1_method_3_code
def y_T_order : MethodName := ⟨R_T, "order", "([BII[BII)I"⟩
abbrev b_T_first : ByteArray := prog_1_method_12_code
def y_T_first : MethodName := ⟨R_T, "first", "(I)I"⟩
abbrev b_T_compare : ByteArray := prog_1_method_13_code
def y_T_compare : MethodName := ⟨R_T, "compare", "(II)I"⟩
abbrev b_Int_signum : ByteArray := prog_5_method_56_code
def y_Int_signum : MethodName := ⟨R_Int, "signum", "(I)I"⟩
abbrev b_T_apart : ByteArray := prog_1_method_16_code
def y_T_apart : MethodName := ⟨R_T, "apart", "(I)I"⟩
abbrev b_T_readWord : ByteArray := prog_1_method_14_code
def y_T_readWord : MethodName := ⟨R_T, "readWord", "()Z"⟩
abbrev b_T_distance : ByteArray := prog_1_method_15_code
def y_T_distance : MethodName := ⟨R_T, "distance", "([BII)I"⟩
abbrev b_T_nearest : ByteArray := prog_1_method_17_code
def y_T_nearest : MethodName := ⟨R_T, "nearest", "()I"⟩
abbrev b_T_plain : ByteArray := prog_1_method_18_code
def y_T_plain : MethodName := ⟨R_T, "plain", "()I"⟩
abbrev b_W_takePlain : ByteArray := prog_2_method_3_code
def y_W_takePlain : MethodName := ⟨R_W, "takePlain", "([BII)V"⟩
abbrev b_M_init : ByteArray := prog_4_method_1_code
def y_M_init : MethodName := ⟨R_M, "<init>", "()V"⟩
abbrev b_M_feed : ByteArray := prog_4_method_3_code
def y_M_feed : MethodName := ⟨R_M, "feed", "(IIIII)I"⟩
abbrev b_M_put : ByteArray := prog_4_method_2_code
def y_M_put : MethodName := ⟨R_M, "put", "(I)V"⟩
abbrev b_M_end : ByteArray := prog_4_method_4_code
def y_M_end : MethodName := ⟨R_M, "end", "(I)I"⟩
abbrev b_M_read : ByteArray := prog_4_method_10_code
def y_M_read : MethodName := ⟨R_M, "read", "()I"⟩
abbrev b_M_letter : ByteArray := prog_4_method_5_code
def y_M_letter : MethodName := ⟨R_M, "letter", "(I)Z"⟩
abbrev b_M_run : ByteArray := prog_4_method_6_code
def y_M_run : MethodName := ⟨R_M, "run", "(I)I"⟩
abbrev b_M_note : ByteArray := prog_4_method_8_code
def y_M_note : MethodName := ⟨R_M, "note", "(IZ)V"⟩
abbrev b_M_last : ByteArray := prog_4_method_7_code
def y_M_last : MethodName := ⟨R_M, "last", "(I)I"⟩
abbrev b_M_sign : ByteArray := prog_4_method_12_code
def y_M_sign : MethodName := ⟨R_M, "sign", "(II)I"⟩
abbrev b_M_is : ByteArray := prog_4_method_11_code
def y_M_is : MethodName := ⟨R_M, "is", "(I)Z"⟩
abbrev b_M_first : ByteArray := prog_4_method_14_code
def y_M_first : MethodName := ⟨R_M, "first", "(I)I"⟩
abbrev b_M_order : ByteArray := prog_4_method_13_code
def y_M_order : MethodName := ⟨R_M, "order", "(II)I"⟩
abbrev b_M_different : ByteArray := prog_4_method_15_code
def y_M_different : MethodName := ⟨R_M, "different", "()I"⟩
abbrev b_M_compare : ByteArray := prog_4_method_16_code
def y_M_compare : MethodName := ⟨R_M, "compare", "(II)I"⟩
abbrev b_M_apart : ByteArray := prog_4_method_18_code
def y_M_apart : MethodName := ⟨R_M, "apart", "(I)I"⟩
abbrev b_M_oneWord : ByteArray := prog_4_method_9_code
def y_M_oneWord : MethodName := ⟨R_M, "oneWord", "()Z"⟩
abbrev b_M_distance : ByteArray := prog_4_method_17_code
def y_M_distance : MethodName := ⟨R_M, "distance", "(II)I"⟩
abbrev b_M_nearest : ByteArray := prog_4_method_19_code
def y_M_nearest : MethodName := ⟨R_M, "nearest", "()I"⟩
abbrev b_M_plain : ByteArray := prog_4_method_20_code
def y_M_plain : MethodName := ⟨R_M, "plain", "()I"⟩
abbrev b_L_law : ByteArray := code
def y_L_law : MethodName := ⟨R_L, "law", "([I)Z"⟩
def gt : List Cond := lw_tbl.filter goodWord
def F_T : u_T := fun k => match k with
  | 0 => (R_T, "tape", "[B", true)
  | 1 => (R_T, "tapeMany", "I", false)
  | 2 => (R_T, "text", "LWordTerms$Words;", true)
  | 3 => (R_T, "words", "LWordTerms$Words;", true)
  | 4 => (R_T, "before", "[I", false)
  | _ => (R_T, "now", "[I", false)
def ty_T : Nat → FieldType := fun k => match k with
  | 0 => .array .byte
  | 1 => .int
  | 2 => .object "WordTerms$Words"
  | 3 => .object "WordTerms$Words"
  | 4 => .array .int
  | _ => .array .int
theorem n_T : ∀ a, a < 6 → ∀ b, b < 6 → a ≠ b → (F_T a).2.1 ≠ (F_T b).2.1 := by decide +kernel
theorem ty_T_ok : ∀ k, k < 6 → parseFieldDescriptor (F_T k).2.2.1 = some (ty_T k) := by decide +kernel
theorem ui_T : ∀ w ∈ u_ws R_T F_T 6, w ∈ gt := by decide +kernel
def F_W : u_T := fun k => match k with
  | 0 => (R_W, "many", "I", false)
  | 1 => (R_W, "term", "[B", true)
  | _ => (R_W, "size", "[I", true)
def ty_W : Nat → FieldType := fun k => match k with
  | 0 => .int
  | 1 => .array .byte
  | _ => .array .int
theorem n_W : ∀ a, a < 3 → ∀ b, b < 3 → a ≠ b → (F_W a).2.1 ≠ (F_W b).2.1 := by decide +kernel
theorem ty_W_ok : ∀ k, k < 3 → parseFieldDescriptor (F_W k).2.2.1 = some (ty_W k) := by decide +kernel
theorem ui_W : ∀ w ∈ u_ws R_W F_W 3, w ∈ gt := by decide +kernel
def F_M : u_T := fun k => match k with
  | 0 => (R_M, "tape", "[B", true)
  | 1 => (R_M, "length", "I", false)
  | 2 => (R_M, "terms", "[B", true)
  | 3 => (R_M, "sizes", "[I", true)
  | 4 => (R_M, "count", "I", false)
  | 5 => (R_M, "word", "[B", true)
  | 6 => (R_M, "wordLength", "I", false)
  | _ => (R_M, "table", "[I", true)
def ty_M : Nat → FieldType := fun k => match k with
  | 0 => .array .byte
  | 1 => .int
  | 2 => .array .byte
  | 3 => .array .int
  | 4 => .int
  | 5 => .array .byte
  | 6 => .int
  | _ => .array .int
theorem n_M : ∀ a, a < 8 → ∀ b, b < 8 → a ≠ b → (F_M a).2.1 ≠ (F_M b).2.1 := by decide +kernel
theorem ty_M_ok : ∀ k, k < 8 → parseFieldDescriptor (F_M k).2.2.1 = some (ty_M k) := by decide +kernel
theorem ui_M : ∀ w ∈ u_ws R_M F_M 8, w ∈ gt := by decide +kernel
abbrev cls : List vw_C := [(R_T, F_T, 6), (R_W, F_W, 3), (R_M, F_M, 8)]
theorem tb1 {w : Cond} (i : Nat) (h : tables_1_1[i]? = some w) (hg : goodWord w = true) : w ∈ gt := List.mem_filter.mpr ⟨List.mem_append_right _ (List.mem_append_left _ (List.mem_of_getElem? h)), hg⟩
theorem tb2 {w : Cond} (i : Nat) (h : tables_1_2[i]? = some w) (hg : goodWord w = true) : w ∈ gt := List.mem_filter.mpr ⟨List.mem_append_right _ (List.mem_append_right _ (List.mem_of_getElem? h)), hg⟩
theorem tb0 {w : Cond} (i : Nat) (h : (k2_sels lw_privs)[i]? = some w) (hg : goodWord w = true) : w ∈ gt := List.mem_filter.mpr ⟨List.mem_append_left _ (List.mem_of_getElem? h), hg⟩
theorem tn1 {w : Cond} (i : Nat) (h : tables_1_1[i]? = some w) : w ∈ lw_tbl := List.mem_append_right _ (List.mem_append_left _ (List.mem_of_getElem? h))
theorem tw1_0 : (Cond.initialized R_L : Cond) ∈ gt := tb1 0 rfl rfl
theorem tw1_1 : (Cond.initialized R_T : Cond) ∈ gt := tb1 1 rfl rfl
theorem tw1_2 : (Cond.initialized R_W : Cond) ∈ gt := tb1 2 rfl rfl
theorem tw1_3 : (Cond.initialized R_M : Cond) ∈ gt := tb1 3 rfl rfl
theorem tw1_4 : (Cond.initialized R_Math : Cond) ∈ gt := tb1 4 rfl rfl
theorem tw1_5 : (Cond.initialized R_Int : Cond) ∈ gt := tb1 5 rfl rfl
theorem tw1_6 : (Cond.classLink R_L 7 R_T : Cond) ∈ gt := tb1 6 rfl rfl
theorem tw1_7 : (Cond.instantiable R_T 6 : Cond) ∈ gt := tb1 7 rfl rfl
theorem tw1_8 : (Cond.methodLink R_L 9 y_T_init : Cond) ∈ gt := tb1 8 rfl rfl
theorem tw1_9 : (Cond.instanceMethod y_T_init : Cond) ∈ gt := tb1 9 rfl rfl
theorem tw1_10 : (Cond.code y_T_init b_T_init 1 none : Cond) ∈ gt := tb1 10 rfl rfl
theorem tw1_11 : (Cond.methodLink R_T 1 y_O_init : Cond) ∈ gt := tb1 11 rfl rfl
theorem tw1_12 : (Cond.instanceMethod y_O_init : Cond) ∈ gt := tb1 12 rfl rfl
theorem tw1_13 : (Cond.code y_O_init b_O_init 1 none : Cond) ∈ gt := tb1 13 rfl rfl
theorem tw1_14 : (Cond.classLink R_T 13 R_W : Cond) ∈ gt := tb1 14 rfl rfl
theorem tw1_15 : (Cond.instantiable R_W 3 : Cond) ∈ gt := tb1 15 rfl rfl
theorem tw1_16 : (Cond.methodLinkNest R_T 15 y_W_init R_T : Cond) ∈ lw_tbl := tn1 16 rfl
theorem tw1_17 : (Cond.instanceMethod y_W_init : Cond) ∈ gt := tb1 17 rfl rfl
theorem tw1_18 : (Cond.code y_W_init b_W_init 1 none : Cond) ∈ gt := tb1 18 rfl rfl
theorem tw1_19 : (Cond.methodLink R_W 3 y_O_init : Cond) ∈ gt := tb1 19 rfl rfl
theorem tw1_20 : (Cond.fieldLink R_W 23 R_W "many" "I" : Cond) ∈ gt := tb1 20 rfl rfl
theorem tw1_21 : (Cond.fieldLink R_T 45 R_W "many" "I" : Cond) ∈ gt := tb1 21 rfl rfl
theorem tw1_22 : (Cond.fieldLink R_W 9 R_W "term" "[B" : Cond) ∈ gt := tb1 22 rfl rfl
theorem tw1_23 : (Cond.fieldLink R_T 51 R_W "term" "[B" : Cond) ∈ gt := tb1 23 rfl rfl
theorem tw1_24 : (Cond.fieldLink R_W 15 R_W "size" "[I" : Cond) ∈ gt := tb1 24 rfl rfl
theorem tw1_25 : (Cond.fieldLink R_T 48 R_W "size" "[I" : Cond) ∈ gt := tb1 25 rfl rfl
theorem tw1_26 : (Cond.lays R_W R_W "many" "I" : Cond) ∈ gt := tb1 26 rfl rfl
theorem tw1_28 : (Cond.laysFinal R_W R_W "term" "[B" : Cond) ∈ gt := tb1 28 rfl rfl
theorem tw1_30 : (Cond.laysFinal R_W R_W "size" "[I" : Cond) ∈ gt := tb1 30 rfl rfl
theorem tw1_33 : (Cond.arrayClass .byte : Cond) ∈ gt := tb1 33 rfl rfl
theorem tw1_34 : (Cond.arrayClass .int : Cond) ∈ gt := tb1 34 rfl rfl
theorem tw1_35 : (Cond.fieldLink R_T 9 R_T "tape" "[B" : Cond) ∈ gt := tb1 35 rfl rfl
theorem tw1_36 : (Cond.fieldLink R_T 30 R_T "tapeMany" "I" : Cond) ∈ gt := tb1 36 rfl rfl
theorem tw1_37 : (Cond.fieldLink R_T 16 R_T "text" "LWordTerms$Words;" : Cond) ∈ gt := tb1 37 rfl rfl
theorem tw1_38 : (Cond.fieldLink R_T 20 R_T "words" "LWordTerms$Words;" : Cond) ∈ gt := tb1 38 rfl rfl
theorem tw1_39 : (Cond.fieldLink R_T 23 R_T "before" "[I" : Cond) ∈ gt := tb1 39 rfl rfl
theorem tw1_40 : (Cond.fieldLink R_T 27 R_T "now" "[I" : Cond) ∈ gt := tb1 40 rfl rfl
theorem tw1_41 : (Cond.laysFinal R_T R_T "tape" "[B" : Cond) ∈ gt := tb1 41 rfl rfl
theorem tw1_43 : (Cond.lays R_T R_T "tapeMany" "I" : Cond) ∈ gt := tb1 43 rfl rfl
theorem tw1_45 : (Cond.laysFinal R_T R_T "text" "LWordTerms$Words;" : Cond) ∈ gt := tb1 45 rfl rfl
theorem tw1_47 : (Cond.laysFinal R_T R_T "words" "LWordTerms$Words;" : Cond) ∈ gt := tb1 47 rfl rfl
theorem tw1_49 : (Cond.lays R_T R_T "before" "[I" : Cond) ∈ gt := tb1 49 rfl rfl
theorem tw1_51 : (Cond.lays R_T R_T "now" "[I" : Cond) ∈ gt := tb1 51 rfl rfl
theorem tw1_54 : (Cond.methodLink R_L 13 y_T_feed : Cond) ∈ gt := tb1 54 rfl rfl
theorem tw1_55 : (Cond.instanceMethod y_T_feed : Cond) ∈ gt := tb1 55 rfl rfl
theorem tw1_56 : (Cond.selects R_T y_T_feed y_T_feed : Cond) ∈ gt := tb1 56 rfl rfl
theorem tw1_57 : (Cond.code y_T_feed b_T_feed 6 (some .int) : Cond) ∈ gt := tb1 57 rfl rfl
theorem tw1_58 : (Cond.methodLink R_T 34 y_T_put4 : Cond) ∈ gt := tb1 58 rfl rfl
theorem tw1_59 : (Cond.static y_T_put4 : Cond) ∈ gt := tb1 59 rfl rfl
theorem tw1_60 : (Cond.code y_T_put4 b_T_put4 3 none : Cond) ∈ gt := tb1 60 rfl rfl
theorem tw1_61 : (Cond.methodLink R_L 18 y_T_end : Cond) ∈ gt := tb1 61 rfl rfl
theorem tw1_62 : (Cond.instanceMethod y_T_end : Cond) ∈ gt := tb1 62 rfl rfl
theorem tw1_63 : (Cond.selects R_T y_T_end y_T_end : Cond) ∈ gt := tb1 63 rfl rfl
theorem tw1_64 : (Cond.code y_T_end b_T_end 2 (some .int) : Cond) ∈ gt := tb1 64 rfl rfl
theorem tw1_65 : (Cond.methodLink R_T 38 y_T_in : Cond) ∈ gt := tb1 65 rfl rfl
theorem tw1_66 : (Cond.static y_T_in : Cond) ∈ gt := tb1 66 rfl rfl
theorem tw1_67 : (Cond.code y_T_in b_T_in 3 (some .boolean) : Cond) ∈ gt := tb1 67 rfl rfl
theorem tw1_68 : (Cond.methodLink R_L 23 y_T_read : Cond) ∈ gt := tb1 68 rfl rfl
theorem tw1_69 : (Cond.instanceMethod y_T_read : Cond) ∈ gt := tb1 69 rfl rfl
theorem tw1_70 : (Cond.selects R_T y_T_read y_T_read : Cond) ∈ gt := tb1 70 rfl rfl
theorem tw1_71 : (Cond.code y_T_read b_T_read 1 (some .int) : Cond) ∈ gt := tb1 71 rfl rfl
theorem tw1_72 : (Cond.methodLink R_T 42 y_W_read : Cond) ∈ gt := tb1 72 rfl rfl
theorem tw1_73 : (Cond.instanceMethod y_W_read : Cond) ∈ gt := tb1 73 rfl rfl
theorem tw1_74 : (Cond.selects R_W y_W_read y_W_read : Cond) ∈ gt := tb1 74 rfl rfl
theorem tw1_75 : (Cond.code y_W_read b_W_read 6 none : Cond) ∈ gt := tb1 75 rfl rfl
theorem tw1_76 : (Cond.methodLinkNest R_W 33 y_T_isSign R_T : Cond) ∈ lw_tbl := tn1 76 rfl
theorem tw1_77 : (Cond.static y_T_isSign : Cond) ∈ gt := tb1 77 rfl rfl
theorem tw1_78 : (Cond.code y_T_isSign b_T_isSign 1 (some .boolean) : Cond) ∈ gt := tb1 78 rfl rfl
theorem tw1_79 : (Cond.methodLink R_W 37 y_W_take : Cond) ∈ gt := tb1 79 rfl rfl
theorem tw1_80 : (Cond.instanceMethod y_W_take : Cond) ∈ gt := tb1 80 rfl rfl
theorem tw1_81 : (Cond.selects R_W y_W_take y_W_take : Cond) ∈ gt := tb1 81 rfl rfl
theorem tw1_82 : (Cond.code y_W_take b_W_take 8 none : Cond) ∈ gt := tb1 82 rfl rfl
theorem tw1_83 : (Cond.methodLinkNest R_W 19 y_T_small R_T : Cond) ∈ lw_tbl := tn1 83 rfl
theorem tw1_84 : (Cond.static y_T_small : Cond) ∈ gt := tb1 84 rfl rfl
theorem tw1_85 : (Cond.code y_T_small b_T_small 1 (some .int) : Cond) ∈ gt := tb1 85 rfl rfl
theorem tw1_86 : (Cond.methodLink R_W 27 y_Math_min : Cond) ∈ gt := tb1 86 rfl rfl
theorem tw1_87 : (Cond.static y_Math_min : Cond) ∈ gt := tb1 87 rfl rfl
theorem tw1_88 : (Cond.code y_Math_min b_Math_min 2 (some .int) : Cond) ∈ gt := tb1 88 rfl rfl
theorem tw1_89 : (Cond.methodLink R_L 28 y_T_sign : Cond) ∈ gt := tb1 89 rfl rfl
theorem tw1_90 : (Cond.instanceMethod y_T_sign : Cond) ∈ gt := tb1 90 rfl rfl
theorem tw1_91 : (Cond.selects R_T y_T_sign y_T_sign : Cond) ∈ gt := tb1 91 rfl rfl
theorem tw1_92 : (Cond.code y_T_sign b_T_sign 3 (some .int) : Cond) ∈ gt := tb1 92 rfl rfl
theorem tw1_93 : (Cond.methodLink R_L 33 y_T_different : Cond) ∈ gt := tb1 93 rfl rfl
theorem tw1_94 : (Cond.instanceMethod y_T_different : Cond) ∈ gt := tb1 94 rfl rfl
theorem tw1_95 : (Cond.selects R_T y_T_different y_T_different : Cond) ∈ gt := tb1 95 rfl rfl
theorem tw1_96 : (Cond.code y_T_different b_T_different 1 (some .int) : Cond) ∈ gt := tb1 96 rfl rfl
theorem tw1_97 : (Cond.methodLink R_T 54 y_W_different : Cond) ∈ gt := tb1 97 rfl rfl
theorem tw1_98 : (Cond.instanceMethod y_W_different : Cond) ∈ gt := tb1 98 rfl rfl
theorem tw1_99 : (Cond.selects R_W y_W_different y_W_different : Cond) ∈ gt := tb1 99 rfl rfl
theorem tw1_100 : (Cond.code y_W_different b_W_different 3 (some .int) : Cond) ∈ gt := tb1 100 rfl rfl
theorem tw1_101 : (Cond.methodLink R_W 49 y_W_isFirst : Cond) ∈ gt := tb1 101 rfl rfl
theorem tw1_102 : (Cond.instanceMethod y_W_isFirst : Cond) ∈ gt := tb1 102 rfl rfl
theorem tw1_103 : (Cond.selects R_W y_W_isFirst y_W_isFirst : Cond) ∈ gt := tb1 103 rfl rfl
theorem tw1_104 : (Cond.code y_W_isFirst b_W_isFirst 3 (some .boolean) : Cond) ∈ gt := tb1 104 rfl rfl
theorem tw1_105 : (Cond.methodLink R_W 45 y_W_isSame : Cond) ∈ gt := tb1 105 rfl rfl
theorem tw1_106 : (Cond.instanceMethod y_W_isSame : Cond) ∈ gt := tb1 106 rfl rfl
theorem tw1_107 : (Cond.selects R_W y_W_isSame y_W_isSame : Cond) ∈ gt := tb1 107 rfl rfl
theorem tw1_108 : (Cond.code y_W_isSame b_W_isSame 3 (some .boolean) : Cond) ∈ gt := tb1 108 rfl rfl
theorem tw1_109 : (Cond.methodLinkNest R_W 41 y_T_order R_T : Cond) ∈ lw_tbl := tn1 109 rfl
theorem tw1_110 : (Cond.static y_T_order : Cond) ∈ gt := tb1 110 rfl rfl
theorem tw1_111 : (Cond.code y_T_order b_T_order 7 (some .int) : Cond) ∈ gt := tb1 111 rfl rfl
theorem tw1_112 : (Cond.methodLink R_L 37 y_T_first : Cond) ∈ gt := tb1 112 rfl rfl
theorem tw1_113 : (Cond.instanceMethod y_T_first : Cond) ∈ gt := tb1 113 rfl rfl
theorem tw1_114 : (Cond.selects R_T y_T_first y_T_first : Cond) ∈ gt := tb1 114 rfl rfl
theorem tw1_115 : (Cond.code y_T_first b_T_first 3 (some .int) : Cond) ∈ gt := tb1 115 rfl rfl
theorem tw1_116 : (Cond.methodLink R_T 58 y_W_isSame : Cond) ∈ gt := tb1 116 rfl rfl
theorem tw1_117 : (Cond.methodLink R_L 41 y_T_compare : Cond) ∈ gt := tb1 117 rfl rfl
theorem tw1_118 : (Cond.instanceMethod y_T_compare : Cond) ∈ gt := tb1 118 rfl rfl
theorem tw1_119 : (Cond.selects R_T y_T_compare y_T_compare : Cond) ∈ gt := tb1 119 rfl rfl
theorem tw1_120 : (Cond.code y_T_compare b_T_compare 3 (some .int) : Cond) ∈ gt := tb1 120 rfl rfl
theorem tw1_121 : (Cond.methodLink R_T 62 y_T_order : Cond) ∈ gt := tb1 121 rfl rfl
theorem tw1_122 : (Cond.methodLink R_T 66 y_Int_signum : Cond) ∈ gt := tb1 122 rfl rfl
theorem tw1_123 : (Cond.static y_Int_signum : Cond) ∈ gt := tb1 123 rfl rfl
theorem tw1_124 : (Cond.code y_Int_signum b_Int_signum 1 (some .int) : Cond) ∈ gt := tb1 124 rfl rfl
theorem tw1_125 : (Cond.methodLink R_L 45 y_T_apart : Cond) ∈ gt := tb1 125 rfl rfl
theorem tw1_126 : (Cond.instanceMethod y_T_apart : Cond) ∈ gt := tb1 126 rfl rfl
theorem tw1_127 : (Cond.selects R_T y_T_apart y_T_apart : Cond) ∈ gt := tb1 127 rfl rfl
theorem tw1_128 : (Cond.code y_T_apart b_T_apart 2 (some .int) : Cond) ∈ gt := tb1 128 rfl rfl
theorem tw1_129 : (Cond.methodLink R_T 82 y_T_readWord : Cond) ∈ gt := tb1 129 rfl rfl
theorem tw1_131 : (Cond.instanceMethod y_T_readWord : Cond) ∈ gt := tb1 131 rfl rfl
theorem tw1_132 : (Cond.code y_T_readWord b_T_readWord 3 (some .boolean) : Cond) ∈ gt := tb1 132 rfl rfl
theorem tw1_133 : (Cond.methodLink R_T 72 y_T_isSign : Cond) ∈ gt := tb1 133 rfl rfl
theorem tw1_134 : (Cond.methodLink R_T 86 y_T_distance : Cond) ∈ gt := tb1 134 rfl rfl
theorem tw1_136 : (Cond.instanceMethod y_T_distance : Cond) ∈ gt := tb1 136 rfl rfl
theorem tw1_137 : (Cond.code y_T_distance b_T_distance 8 (some .int) : Cond) ∈ gt := tb1 137 rfl rfl
theorem tw1_138 : (Cond.methodLink R_T 76 y_Math_min : Cond) ∈ gt := tb1 138 rfl rfl
theorem tw1_139 : (Cond.methodLink R_L 49 y_T_nearest : Cond) ∈ gt := tb1 139 rfl rfl
theorem tw1_140 : (Cond.instanceMethod y_T_nearest : Cond) ∈ gt := tb1 140 rfl rfl
theorem tw1_141 : (Cond.selects R_T y_T_nearest y_T_nearest : Cond) ∈ gt := tb1 141 rfl rfl
theorem tw1_142 : (Cond.code y_T_nearest b_T_nearest 5 (some .int) : Cond) ∈ gt := tb1 142 rfl rfl
theorem tw1_143 : (Cond.methodLink R_L 53 y_T_plain : Cond) ∈ gt := tb1 143 rfl rfl
theorem tw1_144 : (Cond.instanceMethod y_T_plain : Cond) ∈ gt := tb1 144 rfl rfl
theorem tw1_145 : (Cond.selects R_T y_T_plain y_T_plain : Cond) ∈ gt := tb1 145 rfl rfl
theorem tw1_146 : (Cond.code y_T_plain b_T_plain 3 (some .int) : Cond) ∈ gt := tb1 146 rfl rfl
theorem tw1_147 : (Cond.methodLink R_T 90 y_W_takePlain : Cond) ∈ gt := tb1 147 rfl rfl
theorem tw1_148 : (Cond.instanceMethod y_W_takePlain : Cond) ∈ gt := tb1 148 rfl rfl
theorem tw1_149 : (Cond.selects R_W y_W_takePlain y_W_takePlain : Cond) ∈ gt := tb1 149 rfl rfl
theorem tw1_150 : (Cond.code y_W_takePlain b_W_takePlain 5 none : Cond) ∈ gt := tb1 150 rfl rfl
theorem tw1_151 : (Cond.classLink R_L 10 R_M : Cond) ∈ gt := tb1 151 rfl rfl
theorem tw1_152 : (Cond.instantiable R_M 8 : Cond) ∈ gt := tb1 152 rfl rfl
theorem tw1_153 : (Cond.methodLink R_L 12 y_M_init : Cond) ∈ gt := tb1 153 rfl rfl
theorem tw1_154 : (Cond.instanceMethod y_M_init : Cond) ∈ gt := tb1 154 rfl rfl
theorem tw1_155 : (Cond.code y_M_init b_M_init 1 none : Cond) ∈ gt := tb1 155 rfl rfl
theorem tw1_156 : (Cond.methodLink R_M 1 y_O_init : Cond) ∈ gt := tb1 156 rfl rfl
theorem tw1_157 : (Cond.fieldLink R_M 9 R_M "tape" "[B" : Cond) ∈ gt := tb1 157 rfl rfl
theorem tw1_158 : (Cond.fieldLink R_M 26 R_M "length" "I" : Cond) ∈ gt := tb1 158 rfl rfl
theorem tw1_159 : (Cond.fieldLink R_M 13 R_M "terms" "[B" : Cond) ∈ gt := tb1 159 rfl rfl
theorem tw1_160 : (Cond.fieldLink R_M 16 R_M "sizes" "[I" : Cond) ∈ gt := tb1 160 rfl rfl
theorem tw1_161 : (Cond.fieldLink R_M 48 R_M "count" "I" : Cond) ∈ gt := tb1 161 rfl rfl
theorem tw1_162 : (Cond.fieldLink R_M 20 R_M "word" "[B" : Cond) ∈ gt := tb1 162 rfl rfl
theorem tw1_163 : (Cond.fieldLink R_M 34 R_M "wordLength" "I" : Cond) ∈ gt := tb1 163 rfl rfl
theorem tw1_164 : (Cond.fieldLink R_M 23 R_M "table" "[I" : Cond) ∈ gt := tb1 164 rfl rfl
theorem tw1_165 : (Cond.laysFinal R_M R_M "tape" "[B" : Cond) ∈ gt := tb1 165 rfl rfl
theorem tw1_167 : (Cond.lays R_M R_M "length" "I" : Cond) ∈ gt := tb1 167 rfl rfl
theorem tw1_169 : (Cond.laysFinal R_M R_M "terms" "[B" : Cond) ∈ gt := tb1 169 rfl rfl
theorem tw1_171 : (Cond.laysFinal R_M R_M "sizes" "[I" : Cond) ∈ gt := tb1 171 rfl rfl
theorem tw1_173 : (Cond.lays R_M R_M "count" "I" : Cond) ∈ gt := tb1 173 rfl rfl
theorem tw1_175 : (Cond.laysFinal R_M R_M "word" "[B" : Cond) ∈ gt := tb1 175 rfl rfl
theorem tw1_177 : (Cond.lays R_M R_M "wordLength" "I" : Cond) ∈ gt := tb1 177 rfl rfl
theorem tw1_179 : (Cond.laysFinal R_M R_M "table" "[I" : Cond) ∈ gt := tb1 179 rfl rfl
theorem tw1_182 : (Cond.methodLink R_L 17 y_M_feed : Cond) ∈ gt := tb1 182 rfl rfl
theorem tw1_183 : (Cond.instanceMethod y_M_feed : Cond) ∈ gt := tb1 183 rfl rfl
theorem tw1_184 : (Cond.selects R_M y_M_feed y_M_feed : Cond) ∈ gt := tb1 184 rfl rfl
theorem tw1_185 : (Cond.code y_M_feed b_M_feed 6 (some .int) : Cond) ∈ gt := tb1 185 rfl rfl
theorem tw1_186 : (Cond.methodLink R_M 30 y_M_put : Cond) ∈ gt := tb1 186 rfl rfl
theorem tw1_188 : (Cond.instanceMethod y_M_put : Cond) ∈ gt := tb1 188 rfl rfl
theorem tw1_189 : (Cond.code y_M_put b_M_put 3 none : Cond) ∈ gt := tb1 189 rfl rfl
theorem tw1_190 : (Cond.methodLink R_L 22 y_M_end : Cond) ∈ gt := tb1 190 rfl rfl
theorem tw1_191 : (Cond.instanceMethod y_M_end : Cond) ∈ gt := tb1 191 rfl rfl
theorem tw1_192 : (Cond.selects R_M y_M_end y_M_end : Cond) ∈ gt := tb1 192 rfl rfl
theorem tw1_193 : (Cond.code y_M_end b_M_end 2 (some .int) : Cond) ∈ gt := tb1 193 rfl rfl
theorem tw1_194 : (Cond.methodLink R_L 27 y_M_read : Cond) ∈ gt := tb1 194 rfl rfl
theorem tw1_195 : (Cond.instanceMethod y_M_read : Cond) ∈ gt := tb1 195 rfl rfl
theorem tw1_196 : (Cond.selects R_M y_M_read y_M_read : Cond) ∈ gt := tb1 196 rfl rfl
theorem tw1_197 : (Cond.code y_M_read b_M_read 2 (some .int) : Cond) ∈ gt := tb1 197 rfl rfl
theorem tw1_198 : (Cond.methodLink R_M 37 y_M_letter : Cond) ∈ gt := tb1 198 rfl rfl
theorem tw1_199 : (Cond.static y_M_letter : Cond) ∈ gt := tb1 199 rfl rfl
theorem tw1_200 : (Cond.code y_M_letter b_M_letter 1 (some .boolean) : Cond) ∈ gt := tb1 200 rfl rfl
theorem tw1_201 : (Cond.methodLink R_M 45 y_M_run : Cond) ∈ gt := tb1 201 rfl rfl
theorem tw1_203 : (Cond.instanceMethod y_M_run : Cond) ∈ gt := tb1 203 rfl rfl
theorem tw1_204 : (Cond.code y_M_run b_M_run 3 (some .int) : Cond) ∈ gt := tb1 204 rfl rfl
theorem tw1_205 : (Cond.methodLink R_M 51 y_M_note : Cond) ∈ gt := tb1 205 rfl rfl
theorem tw1_207 : (Cond.instanceMethod y_M_note : Cond) ∈ gt := tb1 207 rfl rfl
theorem tw1_208 : (Cond.code y_M_note b_M_note 5 none : Cond) ∈ gt := tb1 208 rfl rfl
theorem tw1_209 : (Cond.methodLink R_M 41 y_M_last : Cond) ∈ gt := tb1 209 rfl rfl
theorem tw1_211 : (Cond.instanceMethod y_M_last : Cond) ∈ gt := tb1 211 rfl rfl
theorem tw1_212 : (Cond.code y_M_last b_M_last 2 (some .int) : Cond) ∈ gt := tb1 212 rfl rfl
theorem tw1_213 : (Cond.methodLink R_L 32 y_M_sign : Cond) ∈ gt := tb1 213 rfl rfl
theorem tw1_214 : (Cond.instanceMethod y_M_sign : Cond) ∈ gt := tb1 214 rfl rfl
theorem tw1_215 : (Cond.selects R_M y_M_sign y_M_sign : Cond) ∈ gt := tb1 215 rfl rfl
theorem tw1_216 : (Cond.code y_M_sign b_M_sign 3 (some .int) : Cond) ∈ gt := tb1 216 rfl rfl
theorem tw1_217 : (Cond.methodLink R_M 55 y_M_is : Cond) ∈ gt := tb1 217 rfl rfl
theorem tw1_219 : (Cond.instanceMethod y_M_is : Cond) ∈ gt := tb1 219 rfl rfl
theorem tw1_220 : (Cond.code y_M_is b_M_is 2 (some .boolean) : Cond) ∈ gt := tb1 220 rfl rfl
theorem tw1_221 : (Cond.methodLink R_L 40 y_M_first : Cond) ∈ gt := tb1 221 rfl rfl
theorem tw1_222 : (Cond.instanceMethod y_M_first : Cond) ∈ gt := tb1 222 rfl rfl
theorem tw1_223 : (Cond.selects R_M y_M_first y_M_first : Cond) ∈ gt := tb1 223 rfl rfl
theorem tw1_224 : (Cond.code y_M_first b_M_first 3 (some .int) : Cond) ∈ gt := tb1 224 rfl rfl
theorem tw1_225 : (Cond.methodLink R_M 58 y_M_order : Cond) ∈ gt := tb1 225 rfl rfl
theorem tw1_227 : (Cond.instanceMethod y_M_order : Cond) ∈ gt := tb1 227 rfl rfl
theorem tw1_228 : (Cond.code y_M_order b_M_order 4 (some .int) : Cond) ∈ gt := tb1 228 rfl rfl
theorem tw1_229 : (Cond.methodLink R_L 36 y_M_different : Cond) ∈ gt := tb1 229 rfl rfl
theorem tw1_230 : (Cond.instanceMethod y_M_different : Cond) ∈ gt := tb1 230 rfl rfl
theorem tw1_231 : (Cond.selects R_M y_M_different y_M_different : Cond) ∈ gt := tb1 231 rfl rfl
theorem tw1_232 : (Cond.code y_M_different b_M_different 3 (some .int) : Cond) ∈ gt := tb1 232 rfl rfl
theorem tw1_233 : (Cond.methodLink R_M 62 y_M_first : Cond) ∈ gt := tb1 233 rfl rfl
theorem tw1_234 : (Cond.methodLink R_L 44 y_M_compare : Cond) ∈ gt := tb1 234 rfl rfl
theorem tw1_235 : (Cond.instanceMethod y_M_compare : Cond) ∈ gt := tb1 235 rfl rfl
theorem tw1_236 : (Cond.selects R_M y_M_compare y_M_compare : Cond) ∈ gt := tb1 236 rfl rfl
theorem tw1_237 : (Cond.code y_M_compare b_M_compare 3 (some .int) : Cond) ∈ gt := tb1 237 rfl rfl
theorem tw1_238 : (Cond.methodLink R_L 48 y_M_apart : Cond) ∈ gt := tb1 238 rfl rfl
theorem tw1_239 : (Cond.instanceMethod y_M_apart : Cond) ∈ gt := tb1 239 rfl rfl
theorem tw2_0 : (Cond.selects R_M y_M_apart y_M_apart : Cond) ∈ gt := tb2 0 rfl rfl
theorem tw2_1 : (Cond.code y_M_apart b_M_apart 2 (some .int) : Cond) ∈ gt := tb2 1 rfl rfl
theorem tw2_2 : (Cond.methodLink R_M 65 y_M_oneWord : Cond) ∈ gt := tb2 2 rfl rfl
theorem tw2_4 : (Cond.instanceMethod y_M_oneWord : Cond) ∈ gt := tb2 4 rfl rfl
theorem tw2_5 : (Cond.code y_M_oneWord b_M_oneWord 2 (some .boolean) : Cond) ∈ gt := tb2 5 rfl rfl
theorem tw2_6 : (Cond.methodLink R_M 69 y_M_distance : Cond) ∈ gt := tb2 6 rfl rfl
theorem tw2_8 : (Cond.instanceMethod y_M_distance : Cond) ∈ gt := tb2 8 rfl rfl
theorem tw2_9 : (Cond.code y_M_distance b_M_distance 7 (some .int) : Cond) ∈ gt := tb2 9 rfl rfl
theorem tw2_10 : (Cond.methodLink R_L 52 y_M_nearest : Cond) ∈ gt := tb2 10 rfl rfl
theorem tw2_11 : (Cond.instanceMethod y_M_nearest : Cond) ∈ gt := tb2 11 rfl rfl
theorem tw2_12 : (Cond.selects R_M y_M_nearest y_M_nearest : Cond) ∈ gt := tb2 12 rfl rfl
theorem tw2_13 : (Cond.code y_M_nearest b_M_nearest 5 (some .int) : Cond) ∈ gt := tb2 13 rfl rfl
theorem tw2_14 : (Cond.methodLink R_L 56 y_M_plain : Cond) ∈ gt := tb2 14 rfl rfl
theorem tw2_15 : (Cond.instanceMethod y_M_plain : Cond) ∈ gt := tb2 15 rfl rfl
theorem tw2_16 : (Cond.selects R_M y_M_plain y_M_plain : Cond) ∈ gt := tb2 16 rfl rfl
theorem tw2_17 : (Cond.code y_M_plain b_M_plain 1 (some .int) : Cond) ∈ gt := tb2 17 rfl rfl
theorem tw0_0 : (Cond.selects R_T y_T_readWord y_T_readWord : Cond) ∈ gt := tb0 0 rfl rfl
theorem tw0_1 : (Cond.selects R_T y_T_distance y_T_distance : Cond) ∈ gt := tb0 1 rfl rfl
theorem tw0_2 : (Cond.selects R_M y_M_put y_M_put : Cond) ∈ gt := tb0 2 rfl rfl
theorem tw0_3 : (Cond.selects R_M y_M_run y_M_run : Cond) ∈ gt := tb0 3 rfl rfl
theorem tw0_4 : (Cond.selects R_M y_M_note y_M_note : Cond) ∈ gt := tb0 4 rfl rfl
theorem tw0_5 : (Cond.selects R_M y_M_last y_M_last : Cond) ∈ gt := tb0 5 rfl rfl
theorem tw0_6 : (Cond.selects R_M y_M_is y_M_is : Cond) ∈ gt := tb0 6 rfl rfl
theorem tw0_7 : (Cond.selects R_M y_M_order y_M_order : Cond) ∈ gt := tb0 7 rfl rfl
theorem tw0_8 : (Cond.selects R_M y_M_oneWord y_M_oneWord : Cond) ∈ gt := tb0 8 rfl rfl
theorem tw0_9 : (Cond.selects R_M y_M_distance y_M_distance : Cond) ∈ gt := tb0 9 rfl rfl
def nest4 : List Cond := [.methodLinkNest R_T 15 y_W_init R_T, .methodLinkNest R_W 33 y_T_isSign R_T, .methodLinkNest R_W 19 y_T_small R_T, .methodLinkNest R_W 41 y_T_order R_T]
theorem nest4_in : ∀ w ∈ nest4, w ∈ lw_tbl := List.forall_mem_cons.mpr ⟨tw1_16, List.forall_mem_cons.mpr ⟨tw1_76, List.forall_mem_cons.mpr ⟨tw1_83, List.forall_mem_cons.mpr ⟨tw1_109, fun _ h => absurd h List.not_mem_nil⟩⟩⟩⟩
theorem nest4_is : ∀ w ∈ nest4, ∃ a i x h, w = Cond.methodLinkNest a i x h := List.forall_mem_cons.mpr ⟨⟨_, _, _, _, rfl⟩, List.forall_mem_cons.mpr ⟨⟨_, _, _, _, rfl⟩, List.forall_mem_cons.mpr ⟨⟨_, _, _, _, rfl⟩, List.forall_mem_cons.mpr ⟨⟨_, _, _, _, rfl⟩, fun _ h => absurd h List.not_mem_nil⟩⟩⟩⟩
theorem ntw1_16 : (Cond.methodLinkNest R_T 15 y_W_init R_T : Cond) ∈ nest4 := List.mem_of_getElem? (i := 0) rfl
theorem ntw1_76 : (Cond.methodLinkNest R_W 33 y_T_isSign R_T : Cond) ∈ nest4 := List.mem_of_getElem? (i := 1) rfl
theorem ntw1_83 : (Cond.methodLinkNest R_W 19 y_T_small R_T : Cond) ∈ nest4 := List.mem_of_getElem? (i := 2) rfl
theorem ntw1_109 : (Cond.methodLinkNest R_W 41 y_T_order R_T : Cond) ∈ nest4 := List.mem_of_getElem? (i := 3) rfl
theorem lw_good : ∀ w ∈ gt, (w.onTables && w.keeps) = true ∨ ∃ ty, w = .arrayClass ty := fun w h => good_of_word (List.mem_filter.mp h).2
theorem lw_gt {b : Cond} (h : b ∈ gt) : GoodIn gt (b :: gt) := by
  intro w hw
  rcases List.mem_cons.mp hw with rfl | h2
  · exact ⟨h, lw_good _ h⟩
  · exact ⟨h2, lw_good _ h2⟩
end
section
-- rows that decode each instruction, by program (gen/names.py)
theorem d_T_init_0 : decode b_T_init 0 = .ok (.aload_n 0, 1) := by decide +kernel
theorem d_T_init_1 : decode b_T_init 1 = .ok (.invokespecial 1, 3) := by decide +kernel
theorem d_T_init_4 : decode b_T_init 4 = .ok (.aload_n 0, 1) := by decide +kernel
theorem d_T_init_5 : decode b_T_init 5 = .ok (.sipush 300, 3) := by decide +kernel
theorem d_T_init_8 : decode b_T_init 8 = .ok (.newarray .byte, 2) := by decide +kernel
theorem d_T_init_10 : decode b_T_init 10 = .ok (.putfield 9, 3) := by decide +kernel
theorem d_T_init_13 : decode b_T_init 13 = .ok (.aload_n 0, 1) := by decide +kernel
theorem d_T_init_14 : decode b_T_init 14 = .ok (.new 13, 3) := by decide +kernel
theorem d_T_init_17 : decode b_T_init 17 = .ok (.dup, 1) := by decide +kernel
theorem d_T_init_18 : decode b_T_init 18 = .ok (.invokespecial 15, 3) := by decide +kernel
theorem d_T_init_21 : decode b_T_init 21 = .ok (.putfield 16, 3) := by decide +kernel
theorem d_T_init_24 : decode b_T_init 24 = .ok (.aload_n 0, 1) := by decide +kernel
theorem d_T_init_25 : decode b_T_init 25 = .ok (.new 13, 3) := by decide +kernel
theorem d_T_init_28 : decode b_T_init 28 = .ok (.dup, 1) := by decide +kernel
theorem d_T_init_29 : decode b_T_init 29 = .ok (.invokespecial 15, 3) := by decide +kernel
theorem d_T_init_32 : decode b_T_init 32 = .ok (.putfield 20, 3) := by decide +kernel
theorem d_T_init_35 : decode b_T_init 35 = .ok (.aload_n 0, 1) := by decide +kernel
theorem d_T_init_36 : decode b_T_init 36 = .ok (.bipush 25, 2) := by decide +kernel
theorem d_T_init_38 : decode b_T_init 38 = .ok (.newarray .int, 2) := by decide +kernel
theorem d_T_init_40 : decode b_T_init 40 = .ok (.putfield 23, 3) := by decide +kernel
theorem d_T_init_43 : decode b_T_init 43 = .ok (.aload_n 0, 1) := by decide +kernel
theorem d_T_init_44 : decode b_T_init 44 = .ok (.bipush 25, 2) := by decide +kernel
theorem d_T_init_46 : decode b_T_init 46 = .ok (.newarray .int, 2) := by decide +kernel
theorem d_T_init_48 : decode b_T_init 48 = .ok (.putfield 27, 3) := by decide +kernel
theorem d_T_init_51 : decode b_T_init 51 = .ok (.return_, 1) := by decide +kernel
theorem d_W_init_0 : decode b_W_init 0 = .ok (.aload_n 0, 1) := by decide +kernel
theorem d_W_init_1 : decode b_W_init 1 = .ok (.invokespecial 3, 3) := by decide +kernel
theorem d_W_init_4 : decode b_W_init 4 = .ok (.aload_n 0, 1) := by decide +kernel
theorem d_W_init_5 : decode b_W_init 5 = .ok (.sipush 3600, 3) := by decide +kernel
theorem d_W_init_8 : decode b_W_init 8 = .ok (.newarray .byte, 2) := by decide +kernel
theorem d_W_init_10 : decode b_W_init 10 = .ok (.putfield 9, 3) := by decide +kernel
theorem d_W_init_13 : decode b_W_init 13 = .ok (.aload_n 0, 1) := by decide +kernel
theorem d_W_init_14 : decode b_W_init 14 = .ok (.sipush 150, 3) := by decide +kernel
theorem d_W_init_17 : decode b_W_init 17 = .ok (.newarray .int, 2) := by decide +kernel
theorem d_W_init_19 : decode b_W_init 19 = .ok (.putfield 15, 3) := by decide +kernel
theorem d_W_init_22 : decode b_W_init 22 = .ok (.return_, 1) := by decide +kernel
theorem d_T_feed_0 : decode b_T_feed 0 = .ok (.aload_n 0, 1) := by decide +kernel
theorem d_T_feed_1 : decode b_T_feed 1 = .ok (.getfield 30, 3) := by decide +kernel
theorem d_T_feed_4 : decode b_T_feed 4 = .ok (.bipush 20, 2) := by decide +kernel
theorem d_T_feed_6 : decode b_T_feed 6 = .ok (.iadd, 1) := by decide +kernel
theorem d_T_feed_7 : decode b_T_feed 7 = .ok (.sipush 300, 3) := by decide +kernel
theorem d_T_feed_10 : decode b_T_feed 10 = .ok (.if_icmp .le 6, 3) := by decide +kernel
theorem d_T_feed_13 : decode b_T_feed 13 = .ok (.bipush (-3), 2) := by decide +kernel
theorem d_T_feed_15 : decode b_T_feed 15 = .ok (.ireturn, 1) := by decide +kernel
theorem d_T_feed_16 : decode b_T_feed 16 = .ok (.aload_n 0, 1) := by decide +kernel
theorem d_T_feed_17 : decode b_T_feed 17 = .ok (.getfield 9, 3) := by decide +kernel
theorem d_T_feed_20 : decode b_T_feed 20 = .ok (.aload_n 0, 1) := by decide +kernel
theorem d_T_feed_21 : decode b_T_feed 21 = .ok (.getfield 30, 3) := by decide +kernel
theorem d_T_feed_24 : decode b_T_feed 24 = .ok (.iload_n 1, 1) := by decide +kernel
theorem d_T_feed_25 : decode b_T_feed 25 = .ok (.invokestatic 34, 3) := by decide +kernel
theorem d_T_feed_28 : decode b_T_feed 28 = .ok (.aload_n 0, 1) := by decide +kernel
theorem d_T_feed_29 : decode b_T_feed 29 = .ok (.getfield 9, 3) := by decide +kernel
theorem d_T_feed_32 : decode b_T_feed 32 = .ok (.aload_n 0, 1) := by decide +kernel
theorem d_T_feed_33 : decode b_T_feed 33 = .ok (.getfield 30, 3) := by decide +kernel
theorem d_T_feed_36 : decode b_T_feed 36 = .ok (.iconst 4, 1) := by decide +kernel
theorem d_T_feed_37 : decode b_T_feed 37 = .ok (.iadd, 1) := by decide +kernel
theorem d_T_feed_38 : decode b_T_feed 38 = .ok (.iload_n 2, 1) := by decide +kernel
theorem d_T_feed_39 : decode b_T_feed 39 = .ok (.invokestatic 34, 3) := by decide +kernel
theorem d_T_feed_42 : decode b_T_feed 42 = .ok (.aload_n 0, 1) := by decide +kernel
theorem d_T_feed_43 : decode b_T_feed 43 = .ok (.getfield 9, 3) := by decide +kernel
theorem d_T_feed_46 : decode b_T_feed 46 = .ok (.aload_n 0, 1) := by decide +kernel
theorem d_T_feed_47 : decode b_T_feed 47 = .ok (.getfield 30, 3) := by decide +kernel
theorem d_T_feed_50 : decode b_T_feed 50 = .ok (.bipush 8, 2) := by decide +kernel
theorem d_T_feed_52 : decode b_T_feed 52 = .ok (.iadd, 1) := by decide +kernel
theorem d_T_feed_53 : decode b_T_feed 53 = .ok (.iload_n 3, 1) := by decide +kernel
theorem d_T_feed_54 : decode b_T_feed 54 = .ok (.invokestatic 34, 3) := by decide +kernel
theorem d_T_feed_57 : decode b_T_feed 57 = .ok (.aload_n 0, 1) := by decide +kernel
theorem d_T_feed_58 : decode b_T_feed 58 = .ok (.getfield 9, 3) := by decide +kernel
theorem d_T_feed_61 : decode b_T_feed 61 = .ok (.aload_n 0, 1) := by decide +kernel
theorem d_T_feed_62 : decode b_T_feed 62 = .ok (.getfield 30, 3) := by decide +kernel
theorem d_T_feed_65 : decode b_T_feed 65 = .ok (.bipush 12, 2) := by decide +kernel
theorem d_T_feed_67 : decode b_T_feed 67 = .ok (.iadd, 1) := by decide +kernel
theorem d_T_feed_68 : decode b_T_feed 68 = .ok (.iload 4, 2) := by decide +kernel
theorem d_T_feed_70 : decode b_T_feed 70 = .ok (.invokestatic 34, 3) := by decide +kernel
theorem d_T_feed_73 : decode b_T_feed 73 = .ok (.aload_n 0, 1) := by decide +kernel
theorem d_T_feed_74 : decode b_T_feed 74 = .ok (.getfield 9, 3) := by decide +kernel
theorem d_T_feed_77 : decode b_T_feed 77 = .ok (.aload_n 0, 1) := by decide +kernel
theorem d_T_feed_78 : decode b_T_feed 78 = .ok (.getfield 30, 3) := by decide +kernel
theorem d_T_feed_81 : decode b_T_feed 81 = .ok (.bipush 16, 2) := by decide +kernel
theorem d_T_feed_83 : decode b_T_feed 83 = .ok (.iadd, 1) := by decide +kernel
theorem d_T_feed_84 : decode b_T_feed 84 = .ok (.iload 5, 2) := by decide +kernel
theorem d_T_feed_86 : decode b_T_feed 86 = .ok (.invokestatic 34, 3) := by decide +kernel
theorem d_T_feed_89 : decode b_T_feed 89 = .ok (.aload_n 0, 1) := by decide +kernel
theorem d_T_feed_90 : decode b_T_feed 90 = .ok (.dup, 1) := by decide +kernel
theorem d_T_feed_91 : decode b_T_feed 91 = .ok (.getfield 30, 3) := by decide +kernel
theorem d_T_feed_94 : decode b_T_feed 94 = .ok (.bipush 20, 2) := by decide +kernel
theorem d_T_feed_96 : decode b_T_feed 96 = .ok (.iadd, 1) := by decide +kernel
theorem d_T_feed_97 : decode b_T_feed 97 = .ok (.putfield 30, 3) := by decide +kernel
theorem d_T_feed_100 : decode b_T_feed 100 = .ok (.aload_n 0, 1) := by decide +kernel
theorem d_T_feed_101 : decode b_T_feed 101 = .ok (.getfield 30, 3) := by decide +kernel
theorem d_T_feed_104 : decode b_T_feed 104 = .ok (.ireturn, 1) := by decide +kernel
theorem d_T_put4_0 : decode b_T_put4 0 = .ok (.aload_n 0, 1) := by decide +kernel
theorem d_T_put4_1 : decode b_T_put4 1 = .ok (.iload_n 1, 1) := by decide +kernel
theorem d_T_put4_2 : decode b_T_put4 2 = .ok (.iload_n 2, 1) := by decide +kernel
theorem d_T_put4_3 : decode b_T_put4 3 = .ok (.bipush 24, 2) := by decide +kernel
theorem d_T_put4_5 : decode b_T_put4 5 = .ok (.ishr, 1) := by decide +kernel
theorem d_T_put4_6 : decode b_T_put4 6 = .ok (.i2b, 1) := by decide +kernel
theorem d_T_put4_7 : decode b_T_put4 7 = .ok (.bastore, 1) := by decide +kernel
theorem d_T_put4_8 : decode b_T_put4 8 = .ok (.aload_n 0, 1) := by decide +kernel
theorem d_T_put4_9 : decode b_T_put4 9 = .ok (.iload_n 1, 1) := by decide +kernel
theorem d_T_put4_10 : decode b_T_put4 10 = .ok (.iconst 1, 1) := by decide +kernel
theorem d_T_put4_11 : decode b_T_put4 11 = .ok (.iadd, 1) := by decide +kernel
theorem d_T_put4_12 : decode b_T_put4 12 = .ok (.iload_n 2, 1) := by decide +kernel
theorem d_T_put4_13 : decode b_T_put4 13 = .ok (.bipush 16, 2) := by decide +kernel
theorem d_T_put4_15 : decode b_T_put4 15 = .ok (.ishr, 1) := by decide +kernel
theorem d_T_put4_16 : decode b_T_put4 16 = .ok (.i2b, 1) := by decide +kernel
theorem d_T_put4_17 : decode b_T_put4 17 = .ok (.bastore, 1) := by decide +kernel
theorem d_T_put4_18 : decode b_T_put4 18 = .ok (.aload_n 0, 1) := by decide +kernel
theorem d_T_put4_19 : decode b_T_put4 19 = .ok (.iload_n 1, 1) := by decide +kernel
theorem d_T_put4_20 : decode b_T_put4 20 = .ok (.iconst 2, 1) := by decide +kernel
theorem d_T_put4_21 : decode b_T_put4 21 = .ok (.iadd, 1) := by decide +kernel
theorem d_T_put4_22 : decode b_T_put4 22 = .ok (.iload_n 2, 1) := by decide +kernel
theorem d_T_put4_23 : decode b_T_put4 23 = .ok (.bipush 8, 2) := by decide +kernel
theorem d_T_put4_25 : decode b_T_put4 25 = .ok (.ishr, 1) := by decide +kernel
theorem d_T_put4_26 : decode b_T_put4 26 = .ok (.i2b, 1) := by decide +kernel
theorem d_T_put4_27 : decode b_T_put4 27 = .ok (.bastore, 1) := by decide +kernel
theorem d_T_put4_28 : decode b_T_put4 28 = .ok (.aload_n 0, 1) := by decide +kernel
theorem d_T_put4_29 : decode b_T_put4 29 = .ok (.iload_n 1, 1) := by decide +kernel
theorem d_T_put4_30 : decode b_T_put4 30 = .ok (.iconst 3, 1) := by decide +kernel
theorem d_T_put4_31 : decode b_T_put4 31 = .ok (.iadd, 1) := by decide +kernel
theorem d_T_put4_32 : decode b_T_put4 32 = .ok (.iload_n 2, 1) := by decide +kernel
theorem d_T_put4_33 : decode b_T_put4 33 = .ok (.i2b, 1) := by decide +kernel
theorem d_T_put4_34 : decode b_T_put4 34 = .ok (.bastore, 1) := by decide +kernel
theorem d_T_put4_35 : decode b_T_put4 35 = .ok (.return_, 1) := by decide +kernel
theorem d_T_end_0 : decode b_T_end 0 = .ok (.iload_n 1, 1) := by decide +kernel
theorem d_T_end_1 : decode b_T_end 1 = .ok (.iconst 0, 1) := by decide +kernel
theorem d_T_end_2 : decode b_T_end 2 = .ok (.aload_n 0, 1) := by decide +kernel
theorem d_T_end_3 : decode b_T_end 3 = .ok (.getfield 30, 3) := by decide +kernel
theorem d_T_end_6 : decode b_T_end 6 = .ok (.invokestatic 38, 3) := by decide +kernel
theorem d_T_end_9 : decode b_T_end 9 = .ok (.ifCond .ne 5, 3) := by decide +kernel
theorem d_T_end_12 : decode b_T_end 12 = .ok (.iconst (-1), 1) := by decide +kernel
theorem d_T_end_13 : decode b_T_end 13 = .ok (.ireturn, 1) := by decide +kernel
theorem d_T_end_14 : decode b_T_end 14 = .ok (.aload_n 0, 1) := by decide +kernel
theorem d_T_end_15 : decode b_T_end 15 = .ok (.iload_n 1, 1) := by decide +kernel
theorem d_T_end_16 : decode b_T_end 16 = .ok (.putfield 30, 3) := by decide +kernel
theorem d_T_end_19 : decode b_T_end 19 = .ok (.iload_n 1, 1) := by decide +kernel
theorem d_T_end_20 : decode b_T_end 20 = .ok (.ireturn, 1) := by decide +kernel
theorem d_T_in_0 : decode b_T_in 0 = .ok (.iload_n 0, 1) := by decide +kernel
theorem d_T_in_1 : decode b_T_in 1 = .ok (.iload_n 1, 1) := by decide +kernel
theorem d_T_in_2 : decode b_T_in 2 = .ok (.if_icmp .lt 12, 3) := by decide +kernel
theorem d_T_in_5 : decode b_T_in 5 = .ok (.iload_n 0, 1) := by decide +kernel
theorem d_T_in_6 : decode b_T_in 6 = .ok (.iload_n 2, 1) := by decide +kernel
theorem d_T_in_7 : decode b_T_in 7 = .ok (.if_icmp .gt 7, 3) := by decide +kernel
theorem d_T_in_10 : decode b_T_in 10 = .ok (.iconst 1, 1) := by decide +kernel
theorem d_T_in_11 : decode b_T_in 11 = .ok (.goto 4, 3) := by decide +kernel
theorem d_T_in_14 : decode b_T_in 14 = .ok (.iconst 0, 1) := by decide +kernel
theorem d_T_in_15 : decode b_T_in 15 = .ok (.ireturn, 1) := by decide +kernel
theorem d_T_read_0 : decode b_T_read 0 = .ok (.aload_n 0, 1) := by decide +kernel
theorem d_T_read_1 : decode b_T_read 1 = .ok (.getfield 16, 3) := by decide +kernel
theorem d_T_read_4 : decode b_T_read 4 = .ok (.aload_n 0, 1) := by decide +kernel
theorem d_T_read_5 : decode b_T_read 5 = .ok (.getfield 9, 3) := by decide +kernel
theorem d_T_read_8 : decode b_T_read 8 = .ok (.iconst 0, 1) := by decide +kernel
theorem d_T_read_9 : decode b_T_read 9 = .ok (.aload_n 0, 1) := by decide +kernel
theorem d_T_read_10 : decode b_T_read 10 = .ok (.getfield 30, 3) := by decide +kernel
theorem d_T_read_13 : decode b_T_read 13 = .ok (.invokevirtual 42, 3) := by decide +kernel
theorem d_T_read_16 : decode b_T_read 16 = .ok (.aload_n 0, 1) := by decide +kernel
theorem d_T_read_17 : decode b_T_read 17 = .ok (.iconst 0, 1) := by decide +kernel
theorem d_T_read_18 : decode b_T_read 18 = .ok (.putfield 30, 3) := by decide +kernel
theorem d_T_read_21 : decode b_T_read 21 = .ok (.aload_n 0, 1) := by decide +kernel
theorem d_T_read_22 : decode b_T_read 22 = .ok (.getfield 16, 3) := by decide +kernel
theorem d_T_read_25 : decode b_T_read 25 = .ok (.getfield 45, 3) := by decide +kernel
theorem d_T_read_28 : decode b_T_read 28 = .ok (.ireturn, 1) := by decide +kernel
theorem d_W_read_0 : decode b_W_read 0 = .ok (.aload_n 0, 1) := by decide +kernel
theorem d_W_read_1 : decode b_W_read 1 = .ok (.iconst 0, 1) := by decide +kernel
theorem d_W_read_2 : decode b_W_read 2 = .ok (.putfield 23, 3) := by decide +kernel
theorem d_W_read_5 : decode b_W_read 5 = .ok (.iload_n 2, 1) := by decide +kernel
theorem d_W_read_6 : decode b_W_read 6 = .ok (.istore 4, 2) := by decide +kernel
theorem d_W_read_8 : decode b_W_read 8 = .ok (.iload 4, 2) := by decide +kernel
theorem d_W_read_10 : decode b_W_read 10 = .ok (.iload_n 3, 1) := by decide +kernel
theorem d_W_read_11 : decode b_W_read 11 = .ok (.if_icmp .ge 54, 3) := by decide +kernel
theorem d_W_read_14 : decode b_W_read 14 = .ok (.iload 4, 2) := by decide +kernel
theorem d_W_read_16 : decode b_W_read 16 = .ok (.istore 5, 2) := by decide +kernel
theorem d_W_read_18 : decode b_W_read 18 = .ok (.iload 5, 2) := by decide +kernel
theorem d_W_read_20 : decode b_W_read 20 = .ok (.iload_n 3, 1) := by decide +kernel
theorem d_W_read_21 : decode b_W_read 21 = .ok (.if_icmp .ge 19, 3) := by decide +kernel
theorem d_W_read_24 : decode b_W_read 24 = .ok (.aload_n 1, 1) := by decide +kernel
theorem d_W_read_25 : decode b_W_read 25 = .ok (.iload 5, 2) := by decide +kernel
theorem d_W_read_27 : decode b_W_read 27 = .ok (.baload, 1) := by decide +kernel
theorem d_W_read_28 : decode b_W_read 28 = .ok (.invokestatic 33, 3) := by decide +kernel
theorem d_W_read_31 : decode b_W_read 31 = .ok (.ifCond .eq 9, 3) := by decide +kernel
theorem d_W_read_34 : decode b_W_read 34 = .ok (.iinc 5 1, 3) := by decide +kernel
theorem d_W_read_37 : decode b_W_read 37 = .ok (.goto (-19), 3) := by decide +kernel
theorem d_W_read_40 : decode b_W_read 40 = .ok (.iload 5, 2) := by decide +kernel
theorem d_W_read_42 : decode b_W_read 42 = .ok (.iload 4, 2) := by decide +kernel
theorem d_W_read_44 : decode b_W_read 44 = .ok (.if_icmp .le 12, 3) := by decide +kernel
theorem d_W_read_47 : decode b_W_read 47 = .ok (.aload_n 0, 1) := by decide +kernel
theorem d_W_read_48 : decode b_W_read 48 = .ok (.aload_n 1, 1) := by decide +kernel
theorem d_W_read_49 : decode b_W_read 49 = .ok (.iload 4, 2) := by decide +kernel
theorem d_W_read_51 : decode b_W_read 51 = .ok (.iload 5, 2) := by decide +kernel
theorem d_W_read_53 : decode b_W_read 53 = .ok (.invokevirtual 37, 3) := by decide +kernel
theorem d_W_read_56 : decode b_W_read 56 = .ok (.iload 5, 2) := by decide +kernel
theorem d_W_read_58 : decode b_W_read 58 = .ok (.iconst 1, 1) := by decide +kernel
theorem d_W_read_59 : decode b_W_read 59 = .ok (.iadd, 1) := by decide +kernel
theorem d_W_read_60 : decode b_W_read 60 = .ok (.istore 4, 2) := by decide +kernel
theorem d_W_read_62 : decode b_W_read 62 = .ok (.goto (-54), 3) := by decide +kernel
theorem d_W_read_65 : decode b_W_read 65 = .ok (.return_, 1) := by decide +kernel
theorem d_T_isSign_0 : decode b_T_isSign 0 = .ok (.iload_n 0, 1) := by decide +kernel
theorem d_T_isSign_1 : decode b_T_isSign 1 = .ok (.bipush 48, 2) := by decide +kernel
theorem d_T_isSign_3 : decode b_T_isSign 3 = .ok (.if_icmp .lt 9, 3) := by decide +kernel
theorem d_T_isSign_6 : decode b_T_isSign 6 = .ok (.iload_n 0, 1) := by decide +kernel
theorem d_T_isSign_7 : decode b_T_isSign 7 = .ok (.bipush 57, 2) := by decide +kernel
theorem d_T_isSign_9 : decode b_T_isSign 9 = .ok (.if_icmp .le 27, 3) := by decide +kernel
theorem d_T_isSign_12 : decode b_T_isSign 12 = .ok (.iload_n 0, 1) := by decide +kernel
theorem d_T_isSign_13 : decode b_T_isSign 13 = .ok (.bipush 97, 2) := by decide +kernel
theorem d_T_isSign_15 : decode b_T_isSign 15 = .ok (.if_icmp .lt 9, 3) := by decide +kernel
theorem d_T_isSign_18 : decode b_T_isSign 18 = .ok (.iload_n 0, 1) := by decide +kernel
theorem d_T_isSign_19 : decode b_T_isSign 19 = .ok (.bipush 122, 2) := by decide +kernel
theorem d_T_isSign_21 : decode b_T_isSign 21 = .ok (.if_icmp .le 15, 3) := by decide +kernel
theorem d_T_isSign_24 : decode b_T_isSign 24 = .ok (.iload_n 0, 1) := by decide +kernel
theorem d_T_isSign_25 : decode b_T_isSign 25 = .ok (.bipush 65, 2) := by decide +kernel
theorem d_T_isSign_27 : decode b_T_isSign 27 = .ok (.if_icmp .lt 13, 3) := by decide +kernel
theorem d_T_isSign_30 : decode b_T_isSign 30 = .ok (.iload_n 0, 1) := by decide +kernel
theorem d_T_isSign_31 : decode b_T_isSign 31 = .ok (.bipush 90, 2) := by decide +kernel
theorem d_T_isSign_33 : decode b_T_isSign 33 = .ok (.if_icmp .gt 7, 3) := by decide +kernel
theorem d_T_isSign_36 : decode b_T_isSign 36 = .ok (.iconst 1, 1) := by decide +kernel
theorem d_T_isSign_37 : decode b_T_isSign 37 = .ok (.goto 4, 3) := by decide +kernel
theorem d_T_isSign_40 : decode b_T_isSign 40 = .ok (.iconst 0, 1) := by decide +kernel
theorem d_T_isSign_41 : decode b_T_isSign 41 = .ok (.ireturn, 1) := by decide +kernel
theorem d_W_take_0 : decode b_W_take 0 = .ok (.iload_n 3, 1) := by decide +kernel
theorem d_W_take_1 : decode b_W_take 1 = .ok (.iload_n 2, 1) := by decide +kernel
theorem d_W_take_2 : decode b_W_take 2 = .ok (.isub, 1) := by decide +kernel
theorem d_W_take_3 : decode b_W_take 3 = .ok (.istore 4, 2) := by decide +kernel
theorem d_W_take_5 : decode b_W_take 5 = .ok (.iload 4, 2) := by decide +kernel
theorem d_W_take_7 : decode b_W_take 7 = .ok (.istore 5, 2) := by decide +kernel
theorem d_W_take_9 : decode b_W_take 9 = .ok (.iconst (-1), 1) := by decide +kernel
theorem d_W_take_10 : decode b_W_take 10 = .ok (.istore 6, 2) := by decide +kernel
theorem d_W_take_12 : decode b_W_take 12 = .ok (.iload 4, 2) := by decide +kernel
theorem d_W_take_14 : decode b_W_take 14 = .ok (.iconst 5, 1) := by decide +kernel
theorem d_W_take_15 : decode b_W_take 15 = .ok (.if_icmp .lt 55, 3) := by decide +kernel
theorem d_W_take_18 : decode b_W_take 18 = .ok (.aload_n 1, 1) := by decide +kernel
theorem d_W_take_19 : decode b_W_take 19 = .ok (.iload_n 3, 1) := by decide +kernel
theorem d_W_take_20 : decode b_W_take 20 = .ok (.iconst 3, 1) := by decide +kernel
theorem d_W_take_21 : decode b_W_take 21 = .ok (.isub, 1) := by decide +kernel
theorem d_W_take_22 : decode b_W_take 22 = .ok (.baload, 1) := by decide +kernel
theorem d_W_take_23 : decode b_W_take 23 = .ok (.invokestatic 19, 3) := by decide +kernel
theorem d_W_take_26 : decode b_W_take 26 = .ok (.bipush 105, 2) := by decide +kernel
theorem d_W_take_28 : decode b_W_take 28 = .ok (.if_icmp .ne 42, 3) := by decide +kernel
theorem d_W_take_31 : decode b_W_take 31 = .ok (.aload_n 1, 1) := by decide +kernel
theorem d_W_take_32 : decode b_W_take 32 = .ok (.iload_n 3, 1) := by decide +kernel
theorem d_W_take_33 : decode b_W_take 33 = .ok (.iconst 2, 1) := by decide +kernel
theorem d_W_take_34 : decode b_W_take 34 = .ok (.isub, 1) := by decide +kernel
theorem d_W_take_35 : decode b_W_take 35 = .ok (.baload, 1) := by decide +kernel
theorem d_W_take_36 : decode b_W_take 36 = .ok (.invokestatic 19, 3) := by decide +kernel
theorem d_W_take_39 : decode b_W_take 39 = .ok (.bipush 101, 2) := by decide +kernel
theorem d_W_take_41 : decode b_W_take 41 = .ok (.if_icmp .ne 29, 3) := by decide +kernel
theorem d_W_take_44 : decode b_W_take 44 = .ok (.aload_n 1, 1) := by decide +kernel
theorem d_W_take_45 : decode b_W_take 45 = .ok (.iload_n 3, 1) := by decide +kernel
theorem d_W_take_46 : decode b_W_take 46 = .ok (.iconst 1, 1) := by decide +kernel
theorem d_W_take_47 : decode b_W_take 47 = .ok (.isub, 1) := by decide +kernel
theorem d_W_take_48 : decode b_W_take 48 = .ok (.baload, 1) := by decide +kernel
theorem d_W_take_49 : decode b_W_take 49 = .ok (.invokestatic 19, 3) := by decide +kernel
theorem d_W_take_52 : decode b_W_take 52 = .ok (.bipush 115, 2) := by decide +kernel
theorem d_W_take_54 : decode b_W_take 54 = .ok (.if_icmp .ne 16, 3) := by decide +kernel
theorem d_W_take_57 : decode b_W_take 57 = .ok (.iload 4, 2) := by decide +kernel
theorem d_W_take_59 : decode b_W_take 59 = .ok (.iconst 2, 1) := by decide +kernel
theorem d_W_take_60 : decode b_W_take 60 = .ok (.isub, 1) := by decide +kernel
theorem d_W_take_61 : decode b_W_take 61 = .ok (.istore 5, 2) := by decide +kernel
theorem d_W_take_63 : decode b_W_take 63 = .ok (.bipush 121, 2) := by decide +kernel
theorem d_W_take_65 : decode b_W_take 65 = .ok (.istore 6, 2) := by decide +kernel
theorem d_W_take_67 : decode b_W_take 67 = .ok (.goto 54, 3) := by decide +kernel
theorem d_W_take_70 : decode b_W_take 70 = .ok (.iload 4, 2) := by decide +kernel
theorem d_W_take_72 : decode b_W_take 72 = .ok (.iconst 4, 1) := by decide +kernel
theorem d_W_take_73 : decode b_W_take 73 = .ok (.if_icmp .lt 48, 3) := by decide +kernel
theorem d_W_take_76 : decode b_W_take 76 = .ok (.aload_n 1, 1) := by decide +kernel
theorem d_W_take_77 : decode b_W_take 77 = .ok (.iload_n 3, 1) := by decide +kernel
theorem d_W_take_78 : decode b_W_take 78 = .ok (.iconst 1, 1) := by decide +kernel
theorem d_W_take_79 : decode b_W_take 79 = .ok (.isub, 1) := by decide +kernel
theorem d_W_take_80 : decode b_W_take 80 = .ok (.baload, 1) := by decide +kernel
theorem d_W_take_81 : decode b_W_take 81 = .ok (.invokestatic 19, 3) := by decide +kernel
theorem d_W_take_84 : decode b_W_take 84 = .ok (.bipush 115, 2) := by decide +kernel
theorem d_W_take_86 : decode b_W_take 86 = .ok (.if_icmp .ne 35, 3) := by decide +kernel
theorem d_W_take_89 : decode b_W_take 89 = .ok (.aload_n 1, 1) := by decide +kernel
theorem d_W_take_90 : decode b_W_take 90 = .ok (.iload_n 3, 1) := by decide +kernel
theorem d_W_take_91 : decode b_W_take 91 = .ok (.iconst 2, 1) := by decide +kernel
theorem d_W_take_92 : decode b_W_take 92 = .ok (.isub, 1) := by decide +kernel
theorem d_W_take_93 : decode b_W_take 93 = .ok (.baload, 1) := by decide +kernel
theorem d_W_take_94 : decode b_W_take 94 = .ok (.invokestatic 19, 3) := by decide +kernel
theorem d_W_take_97 : decode b_W_take 97 = .ok (.bipush 115, 2) := by decide +kernel
theorem d_W_take_99 : decode b_W_take 99 = .ok (.if_icmp .eq 22, 3) := by decide +kernel
theorem d_W_take_102 : decode b_W_take 102 = .ok (.aload_n 1, 1) := by decide +kernel
theorem d_W_take_103 : decode b_W_take 103 = .ok (.iload_n 3, 1) := by decide +kernel
theorem d_W_take_104 : decode b_W_take 104 = .ok (.iconst 2, 1) := by decide +kernel
theorem d_W_take_105 : decode b_W_take 105 = .ok (.isub, 1) := by decide +kernel
theorem d_W_take_106 : decode b_W_take 106 = .ok (.baload, 1) := by decide +kernel
theorem d_W_take_107 : decode b_W_take 107 = .ok (.invokestatic 19, 3) := by decide +kernel
theorem d_W_take_110 : decode b_W_take 110 = .ok (.bipush 117, 2) := by decide +kernel
theorem d_W_take_112 : decode b_W_take 112 = .ok (.if_icmp .eq 9, 3) := by decide +kernel
theorem d_W_take_115 : decode b_W_take 115 = .ok (.iload 4, 2) := by decide +kernel
theorem d_W_take_117 : decode b_W_take 117 = .ok (.iconst 1, 1) := by decide +kernel
theorem d_W_take_118 : decode b_W_take 118 = .ok (.isub, 1) := by decide +kernel
theorem d_W_take_119 : decode b_W_take 119 = .ok (.istore 5, 2) := by decide +kernel
theorem d_W_take_121 : decode b_W_take 121 = .ok (.aload_n 0, 1) := by decide +kernel
theorem d_W_take_122 : decode b_W_take 122 = .ok (.getfield 15, 3) := by decide +kernel
theorem d_W_take_125 : decode b_W_take 125 = .ok (.aload_n 0, 1) := by decide +kernel
theorem d_W_take_126 : decode b_W_take 126 = .ok (.getfield 23, 3) := by decide +kernel
theorem d_W_take_129 : decode b_W_take 129 = .ok (.bipush 24, 2) := by decide +kernel
theorem d_W_take_131 : decode b_W_take 131 = .ok (.iload 5, 2) := by decide +kernel
theorem d_W_take_133 : decode b_W_take 133 = .ok (.invokestatic 27, 3) := by decide +kernel
theorem d_W_take_136 : decode b_W_take 136 = .ok (.iastore, 1) := by decide +kernel
theorem d_W_take_137 : decode b_W_take 137 = .ok (.iconst 0, 1) := by decide +kernel
theorem d_W_take_138 : decode b_W_take 138 = .ok (.istore 7, 2) := by decide +kernel
theorem d_W_take_140 : decode b_W_take 140 = .ok (.iload 7, 2) := by decide +kernel
theorem d_W_take_142 : decode b_W_take 142 = .ok (.aload_n 0, 1) := by decide +kernel
theorem d_W_take_143 : decode b_W_take 143 = .ok (.getfield 15, 3) := by decide +kernel
theorem d_W_take_146 : decode b_W_take 146 = .ok (.aload_n 0, 1) := by decide +kernel
theorem d_W_take_147 : decode b_W_take 147 = .ok (.getfield 23, 3) := by decide +kernel
theorem d_W_take_150 : decode b_W_take 150 = .ok (.iaload, 1) := by decide +kernel
theorem d_W_take_151 : decode b_W_take 151 = .ok (.if_icmp .ge 53, 3) := by decide +kernel
theorem d_W_take_154 : decode b_W_take 154 = .ok (.aload_n 0, 1) := by decide +kernel
theorem d_W_take_155 : decode b_W_take 155 = .ok (.getfield 9, 3) := by decide +kernel
theorem d_W_take_158 : decode b_W_take 158 = .ok (.bipush 24, 2) := by decide +kernel
theorem d_W_take_160 : decode b_W_take 160 = .ok (.aload_n 0, 1) := by decide +kernel
theorem d_W_take_161 : decode b_W_take 161 = .ok (.getfield 23, 3) := by decide +kernel
theorem d_W_take_164 : decode b_W_take 164 = .ok (.imul, 1) := by decide +kernel
theorem d_W_take_165 : decode b_W_take 165 = .ok (.iload 7, 2) := by decide +kernel
theorem d_W_take_167 : decode b_W_take 167 = .ok (.iadd, 1) := by decide +kernel
theorem d_W_take_168 : decode b_W_take 168 = .ok (.iload 7, 2) := by decide +kernel
theorem d_W_take_170 : decode b_W_take 170 = .ok (.iload 5, 2) := by decide +kernel
theorem d_W_take_172 : decode b_W_take 172 = .ok (.iconst 1, 1) := by decide +kernel
theorem d_W_take_173 : decode b_W_take 173 = .ok (.isub, 1) := by decide +kernel
theorem d_W_take_174 : decode b_W_take 174 = .ok (.if_icmp .ne 13, 3) := by decide +kernel
theorem d_W_take_177 : decode b_W_take 177 = .ok (.iload 6, 2) := by decide +kernel
theorem d_W_take_179 : decode b_W_take 179 = .ok (.ifCond .le 8, 3) := by decide +kernel
theorem d_W_take_182 : decode b_W_take 182 = .ok (.iload 6, 2) := by decide +kernel
theorem d_W_take_184 : decode b_W_take 184 = .ok (.goto 12, 3) := by decide +kernel
theorem d_W_take_187 : decode b_W_take 187 = .ok (.aload_n 1, 1) := by decide +kernel
theorem d_W_take_188 : decode b_W_take 188 = .ok (.iload_n 2, 1) := by decide +kernel
theorem d_W_take_189 : decode b_W_take 189 = .ok (.iload 7, 2) := by decide +kernel
theorem d_W_take_191 : decode b_W_take 191 = .ok (.iadd, 1) := by decide +kernel
theorem d_W_take_192 : decode b_W_take 192 = .ok (.baload, 1) := by decide +kernel
theorem d_W_take_193 : decode b_W_take 193 = .ok (.invokestatic 19, 3) := by decide +kernel
theorem d_W_take_196 : decode b_W_take 196 = .ok (.i2b, 1) := by decide +kernel
theorem d_W_take_197 : decode b_W_take 197 = .ok (.bastore, 1) := by decide +kernel
theorem d_W_take_198 : decode b_W_take 198 = .ok (.iinc 7 1, 3) := by decide +kernel
theorem d_W_take_201 : decode b_W_take 201 = .ok (.goto (-61), 3) := by decide +kernel
theorem d_W_take_204 : decode b_W_take 204 = .ok (.aload_n 0, 1) := by decide +kernel
theorem d_W_take_205 : decode b_W_take 205 = .ok (.dup, 1) := by decide +kernel
theorem d_W_take_206 : decode b_W_take 206 = .ok (.getfield 23, 3) := by decide +kernel
theorem d_W_take_209 : decode b_W_take 209 = .ok (.iconst 1, 1) := by decide +kernel
theorem d_W_take_210 : decode b_W_take 210 = .ok (.iadd, 1) := by decide +kernel
theorem d_W_take_211 : decode b_W_take 211 = .ok (.putfield 23, 3) := by decide +kernel
theorem d_W_take_214 : decode b_W_take 214 = .ok (.return_, 1) := by decide +kernel
theorem d_T_small_0 : decode b_T_small 0 = .ok (.iload_n 0, 1) := by decide +kernel
theorem d_T_small_1 : decode b_T_small 1 = .ok (.bipush 65, 2) := by decide +kernel
theorem d_T_small_3 : decode b_T_small 3 = .ok (.if_icmp .lt 16, 3) := by decide +kernel
theorem d_T_small_6 : decode b_T_small 6 = .ok (.iload_n 0, 1) := by decide +kernel
theorem d_T_small_7 : decode b_T_small 7 = .ok (.bipush 90, 2) := by decide +kernel
theorem d_T_small_9 : decode b_T_small 9 = .ok (.if_icmp .gt 10, 3) := by decide +kernel
theorem d_T_small_12 : decode b_T_small 12 = .ok (.iload_n 0, 1) := by decide +kernel
theorem d_T_small_13 : decode b_T_small 13 = .ok (.bipush 32, 2) := by decide +kernel
theorem d_T_small_15 : decode b_T_small 15 = .ok (.iadd, 1) := by decide +kernel
theorem d_T_small_16 : decode b_T_small 16 = .ok (.goto 4, 3) := by decide +kernel
theorem d_T_small_19 : decode b_T_small 19 = .ok (.iload_n 0, 1) := by decide +kernel
theorem d_T_small_20 : decode b_T_small 20 = .ok (.ireturn, 1) := by decide +kernel
theorem d_Math_min_0 : decode b_Math_min 0 = .ok (.iload_n 0, 1) := by decide +kernel
theorem d_Math_min_1 : decode b_Math_min 1 = .ok (.iload_n 1, 1) := by decide +kernel
theorem d_Math_min_2 : decode b_Math_min 2 = .ok (.if_icmp .gt 7, 3) := by decide +kernel
theorem d_Math_min_5 : decode b_Math_min 5 = .ok (.iload_n 0, 1) := by decide +kernel
theorem d_Math_min_6 : decode b_Math_min 6 = .ok (.goto 4, 3) := by decide +kernel
theorem d_Math_min_9 : decode b_Math_min 9 = .ok (.iload_n 1, 1) := by decide +kernel
theorem d_Math_min_10 : decode b_Math_min 10 = .ok (.ireturn, 1) := by decide +kernel
theorem d_T_sign_0 : decode b_T_sign 0 = .ok (.iload_n 1, 1) := by decide +kernel
theorem d_T_sign_1 : decode b_T_sign 1 = .ok (.iconst 0, 1) := by decide +kernel
theorem d_T_sign_2 : decode b_T_sign 2 = .ok (.aload_n 0, 1) := by decide +kernel
theorem d_T_sign_3 : decode b_T_sign 3 = .ok (.getfield 16, 3) := by decide +kernel
theorem d_T_sign_6 : decode b_T_sign 6 = .ok (.getfield 45, 3) := by decide +kernel
theorem d_T_sign_9 : decode b_T_sign 9 = .ok (.iconst 1, 1) := by decide +kernel
theorem d_T_sign_10 : decode b_T_sign 10 = .ok (.isub, 1) := by decide +kernel
theorem d_T_sign_11 : decode b_T_sign 11 = .ok (.invokestatic 38, 3) := by decide +kernel
theorem d_T_sign_14 : decode b_T_sign 14 = .ok (.ifCond .eq 22, 3) := by decide +kernel
theorem d_T_sign_17 : decode b_T_sign 17 = .ok (.iload_n 2, 1) := by decide +kernel
theorem d_T_sign_18 : decode b_T_sign 18 = .ok (.iconst (-1), 1) := by decide +kernel
theorem d_T_sign_19 : decode b_T_sign 19 = .ok (.aload_n 0, 1) := by decide +kernel
theorem d_T_sign_20 : decode b_T_sign 20 = .ok (.getfield 16, 3) := by decide +kernel
theorem d_T_sign_23 : decode b_T_sign 23 = .ok (.getfield 48, 3) := by decide +kernel
theorem d_T_sign_26 : decode b_T_sign 26 = .ok (.iload_n 1, 1) := by decide +kernel
theorem d_T_sign_27 : decode b_T_sign 27 = .ok (.iaload, 1) := by decide +kernel
theorem d_T_sign_28 : decode b_T_sign 28 = .ok (.iconst 1, 1) := by decide +kernel
theorem d_T_sign_29 : decode b_T_sign 29 = .ok (.isub, 1) := by decide +kernel
theorem d_T_sign_30 : decode b_T_sign 30 = .ok (.invokestatic 38, 3) := by decide +kernel
theorem d_T_sign_33 : decode b_T_sign 33 = .ok (.ifCond .ne 6, 3) := by decide +kernel
theorem d_T_sign_36 : decode b_T_sign 36 = .ok (.bipush (-2), 2) := by decide +kernel
theorem d_T_sign_38 : decode b_T_sign 38 = .ok (.ireturn, 1) := by decide +kernel
theorem d_T_sign_39 : decode b_T_sign 39 = .ok (.iload_n 2, 1) := by decide +kernel
theorem d_T_sign_40 : decode b_T_sign 40 = .ok (.ifCond .ge 15, 3) := by decide +kernel
theorem d_T_sign_43 : decode b_T_sign 43 = .ok (.aload_n 0, 1) := by decide +kernel
theorem d_T_sign_44 : decode b_T_sign 44 = .ok (.getfield 16, 3) := by decide +kernel
theorem d_T_sign_47 : decode b_T_sign 47 = .ok (.getfield 48, 3) := by decide +kernel
theorem d_T_sign_50 : decode b_T_sign 50 = .ok (.iload_n 1, 1) := by decide +kernel
theorem d_T_sign_51 : decode b_T_sign 51 = .ok (.iaload, 1) := by decide +kernel
theorem d_T_sign_52 : decode b_T_sign 52 = .ok (.goto 17, 3) := by decide +kernel
theorem d_T_sign_55 : decode b_T_sign 55 = .ok (.aload_n 0, 1) := by decide +kernel
theorem d_T_sign_56 : decode b_T_sign 56 = .ok (.getfield 16, 3) := by decide +kernel
theorem d_T_sign_59 : decode b_T_sign 59 = .ok (.getfield 51, 3) := by decide +kernel
theorem d_T_sign_62 : decode b_T_sign 62 = .ok (.bipush 24, 2) := by decide +kernel
theorem d_T_sign_64 : decode b_T_sign 64 = .ok (.iload_n 1, 1) := by decide +kernel
theorem d_T_sign_65 : decode b_T_sign 65 = .ok (.imul, 1) := by decide +kernel
theorem d_T_sign_66 : decode b_T_sign 66 = .ok (.iload_n 2, 1) := by decide +kernel
theorem d_T_sign_67 : decode b_T_sign 67 = .ok (.iadd, 1) := by decide +kernel
theorem d_T_sign_68 : decode b_T_sign 68 = .ok (.baload, 1) := by decide +kernel
theorem d_T_sign_69 : decode b_T_sign 69 = .ok (.ireturn, 1) := by decide +kernel
theorem d_T_different_0 : decode b_T_different 0 = .ok (.aload_n 0, 1) := by decide +kernel
theorem d_T_different_1 : decode b_T_different 1 = .ok (.getfield 16, 3) := by decide +kernel
theorem d_T_different_4 : decode b_T_different 4 = .ok (.invokevirtual 54, 3) := by decide +kernel
theorem d_T_different_7 : decode b_T_different 7 = .ok (.ireturn, 1) := by decide +kernel
theorem d_W_different_0 : decode b_W_different 0 = .ok (.iconst 0, 1) := by decide +kernel
theorem d_W_different_1 : decode b_W_different 1 = .ok (.istore_n 1, 1) := by decide +kernel
theorem d_W_different_2 : decode b_W_different 2 = .ok (.iconst 0, 1) := by decide +kernel
theorem d_W_different_3 : decode b_W_different 3 = .ok (.istore_n 2, 1) := by decide +kernel
theorem d_W_different_4 : decode b_W_different 4 = .ok (.iload_n 2, 1) := by decide +kernel
theorem d_W_different_5 : decode b_W_different 5 = .ok (.aload_n 0, 1) := by decide +kernel
theorem d_W_different_6 : decode b_W_different 6 = .ok (.getfield 23, 3) := by decide +kernel
theorem d_W_different_9 : decode b_W_different 9 = .ok (.if_icmp .ge 20, 3) := by decide +kernel
theorem d_W_different_12 : decode b_W_different 12 = .ok (.aload_n 0, 1) := by decide +kernel
theorem d_W_different_13 : decode b_W_different 13 = .ok (.iload_n 2, 1) := by decide +kernel
theorem d_W_different_14 : decode b_W_different 14 = .ok (.invokevirtual 49, 3) := by decide +kernel
theorem d_W_different_17 : decode b_W_different 17 = .ok (.ifCond .eq 6, 3) := by decide +kernel
theorem d_W_different_20 : decode b_W_different 20 = .ok (.iinc 1 1, 3) := by decide +kernel
theorem d_W_different_23 : decode b_W_different 23 = .ok (.iinc 2 1, 3) := by decide +kernel
theorem d_W_different_26 : decode b_W_different 26 = .ok (.goto (-22), 3) := by decide +kernel
theorem d_W_different_29 : decode b_W_different 29 = .ok (.iload_n 1, 1) := by decide +kernel
theorem d_W_different_30 : decode b_W_different 30 = .ok (.ireturn, 1) := by decide +kernel
theorem d_W_isFirst_0 : decode b_W_isFirst 0 = .ok (.iconst 0, 1) := by decide +kernel
theorem d_W_isFirst_1 : decode b_W_isFirst 1 = .ok (.istore_n 2, 1) := by decide +kernel
theorem d_W_isFirst_2 : decode b_W_isFirst 2 = .ok (.iload_n 2, 1) := by decide +kernel
theorem d_W_isFirst_3 : decode b_W_isFirst 3 = .ok (.iload_n 1, 1) := by decide +kernel
theorem d_W_isFirst_4 : decode b_W_isFirst 4 = .ok (.if_icmp .ge 20, 3) := by decide +kernel
theorem d_W_isFirst_7 : decode b_W_isFirst 7 = .ok (.aload_n 0, 1) := by decide +kernel
theorem d_W_isFirst_8 : decode b_W_isFirst 8 = .ok (.iload_n 1, 1) := by decide +kernel
theorem d_W_isFirst_9 : decode b_W_isFirst 9 = .ok (.iload_n 2, 1) := by decide +kernel
theorem d_W_isFirst_10 : decode b_W_isFirst 10 = .ok (.invokevirtual 45, 3) := by decide +kernel
theorem d_W_isFirst_13 : decode b_W_isFirst 13 = .ok (.ifCond .eq 5, 3) := by decide +kernel
theorem d_W_isFirst_16 : decode b_W_isFirst 16 = .ok (.iconst 0, 1) := by decide +kernel
theorem d_W_isFirst_17 : decode b_W_isFirst 17 = .ok (.ireturn, 1) := by decide +kernel
theorem d_W_isFirst_18 : decode b_W_isFirst 18 = .ok (.iinc 2 1, 3) := by decide +kernel
theorem d_W_isFirst_21 : decode b_W_isFirst 21 = .ok (.goto (-19), 3) := by decide +kernel
theorem d_W_isFirst_24 : decode b_W_isFirst 24 = .ok (.iconst 1, 1) := by decide +kernel
theorem d_W_isFirst_25 : decode b_W_isFirst 25 = .ok (.ireturn, 1) := by decide +kernel
theorem d_W_isSame_0 : decode b_W_isSame 0 = .ok (.aload_n 0, 1) := by decide +kernel
theorem d_W_isSame_1 : decode b_W_isSame 1 = .ok (.getfield 9, 3) := by decide +kernel
theorem d_W_isSame_4 : decode b_W_isSame 4 = .ok (.bipush 24, 2) := by decide +kernel
theorem d_W_isSame_6 : decode b_W_isSame 6 = .ok (.iload_n 1, 1) := by decide +kernel
theorem d_W_isSame_7 : decode b_W_isSame 7 = .ok (.imul, 1) := by decide +kernel
theorem d_W_isSame_8 : decode b_W_isSame 8 = .ok (.aload_n 0, 1) := by decide +kernel
theorem d_W_isSame_9 : decode b_W_isSame 9 = .ok (.getfield 15, 3) := by decide +kernel
theorem d_W_isSame_12 : decode b_W_isSame 12 = .ok (.iload_n 1, 1) := by decide +kernel
theorem d_W_isSame_13 : decode b_W_isSame 13 = .ok (.iaload, 1) := by decide +kernel
theorem d_W_isSame_14 : decode b_W_isSame 14 = .ok (.aload_n 0, 1) := by decide +kernel
theorem d_W_isSame_15 : decode b_W_isSame 15 = .ok (.getfield 9, 3) := by decide +kernel
theorem d_W_isSame_18 : decode b_W_isSame 18 = .ok (.bipush 24, 2) := by decide +kernel
theorem d_W_isSame_20 : decode b_W_isSame 20 = .ok (.iload_n 2, 1) := by decide +kernel
theorem d_W_isSame_21 : decode b_W_isSame 21 = .ok (.imul, 1) := by decide +kernel
theorem d_W_isSame_22 : decode b_W_isSame 22 = .ok (.aload_n 0, 1) := by decide +kernel
theorem d_W_isSame_23 : decode b_W_isSame 23 = .ok (.getfield 15, 3) := by decide +kernel
theorem d_W_isSame_26 : decode b_W_isSame 26 = .ok (.iload_n 2, 1) := by decide +kernel
theorem d_W_isSame_27 : decode b_W_isSame 27 = .ok (.iaload, 1) := by decide +kernel
theorem d_W_isSame_28 : decode b_W_isSame 28 = .ok (.invokestatic 41, 3) := by decide +kernel
theorem d_W_isSame_31 : decode b_W_isSame 31 = .ok (.ifCond .ne 7, 3) := by decide +kernel
theorem d_W_isSame_34 : decode b_W_isSame 34 = .ok (.iconst 1, 1) := by decide +kernel
theorem d_W_isSame_35 : decode b_W_isSame 35 = .ok (.goto 4, 3) := by decide +kernel
theorem d_W_isSame_38 : decode b_W_isSame 38 = .ok (.iconst 0, 1) := by decide +kernel
theorem d_W_isSame_39 : decode b_W_isSame 39 = .ok (.ireturn, 1) := by decide +kernel
theorem d_T_order_0 : decode b_T_order 0 = .ok (.iconst 0, 1) := by decide +kernel
theorem d_T_order_1 : decode b_T_order 1 = .ok (.istore 6, 2) := by decide +kernel
theorem d_T_order_3 : decode b_T_order 3 = .ok (.iload 6, 2) := by decide +kernel
theorem d_T_order_5 : decode b_T_order 5 = .ok (.iload_n 2, 1) := by decide +kernel
theorem d_T_order_6 : decode b_T_order 6 = .ok (.if_icmp .ge 55, 3) := by decide +kernel
theorem d_T_order_9 : decode b_T_order 9 = .ok (.iload 6, 2) := by decide +kernel
theorem d_T_order_11 : decode b_T_order 11 = .ok (.iload 5, 2) := by decide +kernel
theorem d_T_order_13 : decode b_T_order 13 = .ok (.if_icmp .ge 48, 3) := by decide +kernel
theorem d_T_order_16 : decode b_T_order 16 = .ok (.aload_n 0, 1) := by decide +kernel
theorem d_T_order_17 : decode b_T_order 17 = .ok (.iload_n 1, 1) := by decide +kernel
theorem d_T_order_18 : decode b_T_order 18 = .ok (.iload 6, 2) := by decide +kernel
theorem d_T_order_20 : decode b_T_order 20 = .ok (.iadd, 1) := by decide +kernel
theorem d_T_order_21 : decode b_T_order 21 = .ok (.baload, 1) := by decide +kernel
theorem d_T_order_22 : decode b_T_order 22 = .ok (.aload_n 3, 1) := by decide +kernel
theorem d_T_order_23 : decode b_T_order 23 = .ok (.iload 4, 2) := by decide +kernel
theorem d_T_order_25 : decode b_T_order 25 = .ok (.iload 6, 2) := by decide +kernel
theorem d_T_order_27 : decode b_T_order 27 = .ok (.iadd, 1) := by decide +kernel
theorem d_T_order_28 : decode b_T_order 28 = .ok (.baload, 1) := by decide +kernel
theorem d_T_order_29 : decode b_T_order 29 = .ok (.if_icmp .eq 26, 3) := by decide +kernel
theorem d_T_order_32 : decode b_T_order 32 = .ok (.aload_n 0, 1) := by decide +kernel
theorem d_T_order_33 : decode b_T_order 33 = .ok (.iload_n 1, 1) := by decide +kernel
theorem d_T_order_34 : decode b_T_order 34 = .ok (.iload 6, 2) := by decide +kernel
theorem d_T_order_36 : decode b_T_order 36 = .ok (.iadd, 1) := by decide +kernel
theorem d_T_order_37 : decode b_T_order 37 = .ok (.baload, 1) := by decide +kernel
theorem d_T_order_38 : decode b_T_order 38 = .ok (.sipush 255, 3) := by decide +kernel
theorem d_T_order_41 : decode b_T_order 41 = .ok (.iand, 1) := by decide +kernel
theorem d_T_order_42 : decode b_T_order 42 = .ok (.aload_n 3, 1) := by decide +kernel
theorem d_T_order_43 : decode b_T_order 43 = .ok (.iload 4, 2) := by decide +kernel
theorem d_T_order_45 : decode b_T_order 45 = .ok (.iload 6, 2) := by decide +kernel
theorem d_T_order_47 : decode b_T_order 47 = .ok (.iadd, 1) := by decide +kernel
theorem d_T_order_48 : decode b_T_order 48 = .ok (.baload, 1) := by decide +kernel
theorem d_T_order_49 : decode b_T_order 49 = .ok (.sipush 255, 3) := by decide +kernel
theorem d_T_order_52 : decode b_T_order 52 = .ok (.iand, 1) := by decide +kernel
theorem d_T_order_53 : decode b_T_order 53 = .ok (.isub, 1) := by decide +kernel
theorem d_T_order_54 : decode b_T_order 54 = .ok (.ireturn, 1) := by decide +kernel
theorem d_T_order_55 : decode b_T_order 55 = .ok (.iinc 6 1, 3) := by decide +kernel
theorem d_T_order_58 : decode b_T_order 58 = .ok (.goto (-55), 3) := by decide +kernel
theorem d_T_order_61 : decode b_T_order 61 = .ok (.iload_n 2, 1) := by decide +kernel
theorem d_T_order_62 : decode b_T_order 62 = .ok (.iload 5, 2) := by decide +kernel
theorem d_T_order_64 : decode b_T_order 64 = .ok (.isub, 1) := by decide +kernel
theorem d_T_order_65 : decode b_T_order 65 = .ok (.ireturn, 1) := by decide +kernel
theorem d_T_first_0 : decode b_T_first 0 = .ok (.iload_n 1, 1) := by decide +kernel
theorem d_T_first_1 : decode b_T_first 1 = .ok (.iconst 0, 1) := by decide +kernel
theorem d_T_first_2 : decode b_T_first 2 = .ok (.aload_n 0, 1) := by decide +kernel
theorem d_T_first_3 : decode b_T_first 3 = .ok (.getfield 16, 3) := by decide +kernel
theorem d_T_first_6 : decode b_T_first 6 = .ok (.getfield 45, 3) := by decide +kernel
theorem d_T_first_9 : decode b_T_first 9 = .ok (.iconst 1, 1) := by decide +kernel
theorem d_T_first_10 : decode b_T_first 10 = .ok (.isub, 1) := by decide +kernel
theorem d_T_first_11 : decode b_T_first 11 = .ok (.invokestatic 38, 3) := by decide +kernel
theorem d_T_first_14 : decode b_T_first 14 = .ok (.ifCond .ne 6, 3) := by decide +kernel
theorem d_T_first_17 : decode b_T_first 17 = .ok (.bipush (-2), 2) := by decide +kernel
theorem d_T_first_19 : decode b_T_first 19 = .ok (.ireturn, 1) := by decide +kernel
theorem d_T_first_20 : decode b_T_first 20 = .ok (.iconst 0, 1) := by decide +kernel
theorem d_T_first_21 : decode b_T_first 21 = .ok (.istore_n 2, 1) := by decide +kernel
theorem d_T_first_22 : decode b_T_first 22 = .ok (.aload_n 0, 1) := by decide +kernel
theorem d_T_first_23 : decode b_T_first 23 = .ok (.getfield 16, 3) := by decide +kernel
theorem d_T_first_26 : decode b_T_first 26 = .ok (.iload_n 2, 1) := by decide +kernel
theorem d_T_first_27 : decode b_T_first 27 = .ok (.iload_n 1, 1) := by decide +kernel
theorem d_T_first_28 : decode b_T_first 28 = .ok (.invokevirtual 58, 3) := by decide +kernel
theorem d_T_first_31 : decode b_T_first 31 = .ok (.ifCond .ne 9, 3) := by decide +kernel
theorem d_T_first_34 : decode b_T_first 34 = .ok (.iinc 2 1, 3) := by decide +kernel
theorem d_T_first_37 : decode b_T_first 37 = .ok (.goto (-15), 3) := by decide +kernel
theorem d_T_first_40 : decode b_T_first 40 = .ok (.iload_n 2, 1) := by decide +kernel
theorem d_T_first_41 : decode b_T_first 41 = .ok (.ireturn, 1) := by decide +kernel
theorem d_T_compare_0 : decode b_T_compare 0 = .ok (.iload_n 1, 1) := by decide +kernel
theorem d_T_compare_1 : decode b_T_compare 1 = .ok (.iconst 0, 1) := by decide +kernel
theorem d_T_compare_2 : decode b_T_compare 2 = .ok (.aload_n 0, 1) := by decide +kernel
theorem d_T_compare_3 : decode b_T_compare 3 = .ok (.getfield 16, 3) := by decide +kernel
theorem d_T_compare_6 : decode b_T_compare 6 = .ok (.getfield 45, 3) := by decide +kernel
theorem d_T_compare_9 : decode b_T_compare 9 = .ok (.iconst 1, 1) := by decide +kernel
theorem d_T_compare_10 : decode b_T_compare 10 = .ok (.isub, 1) := by decide +kernel
theorem d_T_compare_11 : decode b_T_compare 11 = .ok (.invokestatic 38, 3) := by decide +kernel
theorem d_T_compare_14 : decode b_T_compare 14 = .ok (.ifCond .eq 20, 3) := by decide +kernel
theorem d_T_compare_17 : decode b_T_compare 17 = .ok (.iload_n 2, 1) := by decide +kernel
theorem d_T_compare_18 : decode b_T_compare 18 = .ok (.iconst 0, 1) := by decide +kernel
theorem d_T_compare_19 : decode b_T_compare 19 = .ok (.aload_n 0, 1) := by decide +kernel
theorem d_T_compare_20 : decode b_T_compare 20 = .ok (.getfield 16, 3) := by decide +kernel
theorem d_T_compare_23 : decode b_T_compare 23 = .ok (.getfield 45, 3) := by decide +kernel
theorem d_T_compare_26 : decode b_T_compare 26 = .ok (.iconst 1, 1) := by decide +kernel
theorem d_T_compare_27 : decode b_T_compare 27 = .ok (.isub, 1) := by decide +kernel
theorem d_T_compare_28 : decode b_T_compare 28 = .ok (.invokestatic 38, 3) := by decide +kernel
theorem d_T_compare_31 : decode b_T_compare 31 = .ok (.ifCond .ne 6, 3) := by decide +kernel
theorem d_T_compare_34 : decode b_T_compare 34 = .ok (.bipush (-2), 2) := by decide +kernel
theorem d_T_compare_36 : decode b_T_compare 36 = .ok (.ireturn, 1) := by decide +kernel
theorem d_T_compare_37 : decode b_T_compare 37 = .ok (.aload_n 0, 1) := by decide +kernel
theorem d_T_compare_38 : decode b_T_compare 38 = .ok (.getfield 16, 3) := by decide +kernel
theorem d_T_compare_41 : decode b_T_compare 41 = .ok (.getfield 51, 3) := by decide +kernel
theorem d_T_compare_44 : decode b_T_compare 44 = .ok (.bipush 24, 2) := by decide +kernel
theorem d_T_compare_46 : decode b_T_compare 46 = .ok (.iload_n 1, 1) := by decide +kernel
theorem d_T_compare_47 : decode b_T_compare 47 = .ok (.imul, 1) := by decide +kernel
theorem d_T_compare_48 : decode b_T_compare 48 = .ok (.aload_n 0, 1) := by decide +kernel
theorem d_T_compare_49 : decode b_T_compare 49 = .ok (.getfield 16, 3) := by decide +kernel
theorem d_T_compare_52 : decode b_T_compare 52 = .ok (.getfield 48, 3) := by decide +kernel
theorem d_T_compare_55 : decode b_T_compare 55 = .ok (.iload_n 1, 1) := by decide +kernel
theorem d_T_compare_56 : decode b_T_compare 56 = .ok (.iaload, 1) := by decide +kernel
theorem d_T_compare_57 : decode b_T_compare 57 = .ok (.aload_n 0, 1) := by decide +kernel
theorem d_T_compare_58 : decode b_T_compare 58 = .ok (.getfield 16, 3) := by decide +kernel
theorem d_T_compare_61 : decode b_T_compare 61 = .ok (.getfield 51, 3) := by decide +kernel
theorem d_T_compare_64 : decode b_T_compare 64 = .ok (.bipush 24, 2) := by decide +kernel
theorem d_T_compare_66 : decode b_T_compare 66 = .ok (.iload_n 2, 1) := by decide +kernel
theorem d_T_compare_67 : decode b_T_compare 67 = .ok (.imul, 1) := by decide +kernel
theorem d_T_compare_68 : decode b_T_compare 68 = .ok (.aload_n 0, 1) := by decide +kernel
theorem d_T_compare_69 : decode b_T_compare 69 = .ok (.getfield 16, 3) := by decide +kernel
theorem d_T_compare_72 : decode b_T_compare 72 = .ok (.getfield 48, 3) := by decide +kernel
theorem d_T_compare_75 : decode b_T_compare 75 = .ok (.iload_n 2, 1) := by decide +kernel
theorem d_T_compare_76 : decode b_T_compare 76 = .ok (.iaload, 1) := by decide +kernel
theorem d_T_compare_77 : decode b_T_compare 77 = .ok (.invokestatic 62, 3) := by decide +kernel
theorem d_T_compare_80 : decode b_T_compare 80 = .ok (.invokestatic 66, 3) := by decide +kernel
theorem d_T_compare_83 : decode b_T_compare 83 = .ok (.ireturn, 1) := by decide +kernel
theorem d_Int_signum_0 : decode b_Int_signum 0 = .ok (.iload_n 0, 1) := by decide +kernel
theorem d_Int_signum_1 : decode b_Int_signum 1 = .ok (.bipush 31, 2) := by decide +kernel
theorem d_Int_signum_3 : decode b_Int_signum 3 = .ok (.ishr, 1) := by decide +kernel
theorem d_Int_signum_4 : decode b_Int_signum 4 = .ok (.iload_n 0, 1) := by decide +kernel
theorem d_Int_signum_5 : decode b_Int_signum 5 = .ok (.ineg, 1) := by decide +kernel
theorem d_Int_signum_6 : decode b_Int_signum 6 = .ok (.bipush 31, 2) := by decide +kernel
theorem d_Int_signum_8 : decode b_Int_signum 8 = .ok (.iushr, 1) := by decide +kernel
theorem d_Int_signum_9 : decode b_Int_signum 9 = .ok (.ior, 1) := by decide +kernel
theorem d_Int_signum_10 : decode b_Int_signum 10 = .ok (.ireturn, 1) := by decide +kernel
theorem d_T_apart_0 : decode b_T_apart 0 = .ok (.iload_n 1, 1) := by decide +kernel
theorem d_T_apart_1 : decode b_T_apart 1 = .ok (.iconst 0, 1) := by decide +kernel
theorem d_T_apart_2 : decode b_T_apart 2 = .ok (.aload_n 0, 1) := by decide +kernel
theorem d_T_apart_3 : decode b_T_apart 3 = .ok (.getfield 16, 3) := by decide +kernel
theorem d_T_apart_6 : decode b_T_apart 6 = .ok (.getfield 45, 3) := by decide +kernel
theorem d_T_apart_9 : decode b_T_apart 9 = .ok (.iconst 1, 1) := by decide +kernel
theorem d_T_apart_10 : decode b_T_apart 10 = .ok (.isub, 1) := by decide +kernel
theorem d_T_apart_11 : decode b_T_apart 11 = .ok (.invokestatic 38, 3) := by decide +kernel
theorem d_T_apart_14 : decode b_T_apart 14 = .ok (.ifCond .ne 6, 3) := by decide +kernel
theorem d_T_apart_17 : decode b_T_apart 17 = .ok (.bipush (-2), 2) := by decide +kernel
theorem d_T_apart_19 : decode b_T_apart 19 = .ok (.ireturn, 1) := by decide +kernel
theorem d_T_apart_20 : decode b_T_apart 20 = .ok (.aload_n 0, 1) := by decide +kernel
theorem d_T_apart_21 : decode b_T_apart 21 = .ok (.invokevirtual 82, 3) := by decide +kernel
theorem d_T_apart_24 : decode b_T_apart 24 = .ok (.ifCond .eq 30, 3) := by decide +kernel
theorem d_T_apart_27 : decode b_T_apart 27 = .ok (.aload_n 0, 1) := by decide +kernel
theorem d_T_apart_28 : decode b_T_apart 28 = .ok (.aload_n 0, 1) := by decide +kernel
theorem d_T_apart_29 : decode b_T_apart 29 = .ok (.getfield 16, 3) := by decide +kernel
theorem d_T_apart_32 : decode b_T_apart 32 = .ok (.getfield 51, 3) := by decide +kernel
theorem d_T_apart_35 : decode b_T_apart 35 = .ok (.bipush 24, 2) := by decide +kernel
theorem d_T_apart_37 : decode b_T_apart 37 = .ok (.iload_n 1, 1) := by decide +kernel
theorem d_T_apart_38 : decode b_T_apart 38 = .ok (.imul, 1) := by decide +kernel
theorem d_T_apart_39 : decode b_T_apart 39 = .ok (.aload_n 0, 1) := by decide +kernel
theorem d_T_apart_40 : decode b_T_apart 40 = .ok (.getfield 16, 3) := by decide +kernel
theorem d_T_apart_43 : decode b_T_apart 43 = .ok (.getfield 48, 3) := by decide +kernel
theorem d_T_apart_46 : decode b_T_apart 46 = .ok (.iload_n 1, 1) := by decide +kernel
theorem d_T_apart_47 : decode b_T_apart 47 = .ok (.iaload, 1) := by decide +kernel
theorem d_T_apart_48 : decode b_T_apart 48 = .ok (.invokevirtual 86, 3) := by decide +kernel
theorem d_T_apart_51 : decode b_T_apart 51 = .ok (.goto 4, 3) := by decide +kernel
theorem d_T_apart_54 : decode b_T_apart 54 = .ok (.iconst (-1), 1) := by decide +kernel
theorem d_T_apart_55 : decode b_T_apart 55 = .ok (.ireturn, 1) := by decide +kernel
theorem d_T_readWord_0 : decode b_T_readWord 0 = .ok (.aload_n 0, 1) := by decide +kernel
theorem d_T_readWord_1 : decode b_T_readWord 1 = .ok (.getfield 30, 3) := by decide +kernel
theorem d_T_readWord_4 : decode b_T_readWord 4 = .ok (.istore_n 1, 1) := by decide +kernel
theorem d_T_readWord_5 : decode b_T_readWord 5 = .ok (.aload_n 0, 1) := by decide +kernel
theorem d_T_readWord_6 : decode b_T_readWord 6 = .ok (.iconst 0, 1) := by decide +kernel
theorem d_T_readWord_7 : decode b_T_readWord 7 = .ok (.putfield 30, 3) := by decide +kernel
theorem d_T_readWord_10 : decode b_T_readWord 10 = .ok (.iconst 0, 1) := by decide +kernel
theorem d_T_readWord_11 : decode b_T_readWord 11 = .ok (.istore_n 2, 1) := by decide +kernel
theorem d_T_readWord_12 : decode b_T_readWord 12 = .ok (.iload_n 2, 1) := by decide +kernel
theorem d_T_readWord_13 : decode b_T_readWord 13 = .ok (.iload_n 1, 1) := by decide +kernel
theorem d_T_readWord_14 : decode b_T_readWord 14 = .ok (.if_icmp .ge 23, 3) := by decide +kernel
theorem d_T_readWord_17 : decode b_T_readWord 17 = .ok (.aload_n 0, 1) := by decide +kernel
theorem d_T_readWord_18 : decode b_T_readWord 18 = .ok (.getfield 9, 3) := by decide +kernel
theorem d_T_readWord_21 : decode b_T_readWord 21 = .ok (.iload_n 2, 1) := by decide +kernel
theorem d_T_readWord_22 : decode b_T_readWord 22 = .ok (.baload, 1) := by decide +kernel
theorem d_T_readWord_23 : decode b_T_readWord 23 = .ok (.invokestatic 72, 3) := by decide +kernel
theorem d_T_readWord_26 : decode b_T_readWord 26 = .ok (.ifCond .ne 5, 3) := by decide +kernel
theorem d_T_readWord_29 : decode b_T_readWord 29 = .ok (.iconst 0, 1) := by decide +kernel
theorem d_T_readWord_30 : decode b_T_readWord 30 = .ok (.ireturn, 1) := by decide +kernel
theorem d_T_readWord_31 : decode b_T_readWord 31 = .ok (.iinc 2 1, 3) := by decide +kernel
theorem d_T_readWord_34 : decode b_T_readWord 34 = .ok (.goto (-22), 3) := by decide +kernel
theorem d_T_readWord_37 : decode b_T_readWord 37 = .ok (.aload_n 0, 1) := by decide +kernel
theorem d_T_readWord_38 : decode b_T_readWord 38 = .ok (.getfield 20, 3) := by decide +kernel
theorem d_T_readWord_41 : decode b_T_readWord 41 = .ok (.aload_n 0, 1) := by decide +kernel
theorem d_T_readWord_42 : decode b_T_readWord 42 = .ok (.getfield 9, 3) := by decide +kernel
theorem d_T_readWord_45 : decode b_T_readWord 45 = .ok (.iconst 0, 1) := by decide +kernel
theorem d_T_readWord_46 : decode b_T_readWord 46 = .ok (.iload_n 1, 1) := by decide +kernel
theorem d_T_readWord_47 : decode b_T_readWord 47 = .ok (.invokevirtual 42, 3) := by decide +kernel
theorem d_T_readWord_50 : decode b_T_readWord 50 = .ok (.iload_n 1, 1) := by decide +kernel
theorem d_T_readWord_51 : decode b_T_readWord 51 = .ok (.ifCond .le 7, 3) := by decide +kernel
theorem d_T_readWord_54 : decode b_T_readWord 54 = .ok (.iconst 1, 1) := by decide +kernel
theorem d_T_readWord_55 : decode b_T_readWord 55 = .ok (.goto 4, 3) := by decide +kernel
theorem d_T_readWord_58 : decode b_T_readWord 58 = .ok (.iconst 0, 1) := by decide +kernel
theorem d_T_readWord_59 : decode b_T_readWord 59 = .ok (.ireturn, 1) := by decide +kernel
theorem d_T_distance_0 : decode b_T_distance 0 = .ok (.aload_n 0, 1) := by decide +kernel
theorem d_T_distance_1 : decode b_T_distance 1 = .ok (.getfield 20, 3) := by decide +kernel
theorem d_T_distance_4 : decode b_T_distance 4 = .ok (.getfield 48, 3) := by decide +kernel
theorem d_T_distance_7 : decode b_T_distance 7 = .ok (.iconst 0, 1) := by decide +kernel
theorem d_T_distance_8 : decode b_T_distance 8 = .ok (.iaload, 1) := by decide +kernel
theorem d_T_distance_9 : decode b_T_distance 9 = .ok (.istore 4, 2) := by decide +kernel
theorem d_T_distance_11 : decode b_T_distance 11 = .ok (.iconst 0, 1) := by decide +kernel
theorem d_T_distance_12 : decode b_T_distance 12 = .ok (.istore 5, 2) := by decide +kernel
theorem d_T_distance_14 : decode b_T_distance 14 = .ok (.iload 5, 2) := by decide +kernel
theorem d_T_distance_16 : decode b_T_distance 16 = .ok (.iload 4, 2) := by decide +kernel
theorem d_T_distance_18 : decode b_T_distance 18 = .ok (.if_icmp .gt 18, 3) := by decide +kernel
theorem d_T_distance_21 : decode b_T_distance 21 = .ok (.aload_n 0, 1) := by decide +kernel
theorem d_T_distance_22 : decode b_T_distance 22 = .ok (.getfield 23, 3) := by decide +kernel
theorem d_T_distance_25 : decode b_T_distance 25 = .ok (.iload 5, 2) := by decide +kernel
theorem d_T_distance_27 : decode b_T_distance 27 = .ok (.iload 5, 2) := by decide +kernel
theorem d_T_distance_29 : decode b_T_distance 29 = .ok (.iastore, 1) := by decide +kernel
theorem d_T_distance_30 : decode b_T_distance 30 = .ok (.iinc 5 1, 3) := by decide +kernel
theorem d_T_distance_33 : decode b_T_distance 33 = .ok (.goto (-19), 3) := by decide +kernel
theorem d_T_distance_36 : decode b_T_distance 36 = .ok (.iconst 1, 1) := by decide +kernel
theorem d_T_distance_37 : decode b_T_distance 37 = .ok (.istore 5, 2) := by decide +kernel
theorem d_T_distance_39 : decode b_T_distance 39 = .ok (.iload 5, 2) := by decide +kernel
theorem d_T_distance_41 : decode b_T_distance 41 = .ok (.iload_n 3, 1) := by decide +kernel
theorem d_T_distance_42 : decode b_T_distance 42 = .ok (.if_icmp .gt 126, 3) := by decide +kernel
theorem d_T_distance_45 : decode b_T_distance 45 = .ok (.aload_n 0, 1) := by decide +kernel
theorem d_T_distance_46 : decode b_T_distance 46 = .ok (.getfield 27, 3) := by decide +kernel
theorem d_T_distance_49 : decode b_T_distance 49 = .ok (.iconst 0, 1) := by decide +kernel
theorem d_T_distance_50 : decode b_T_distance 50 = .ok (.iload 5, 2) := by decide +kernel
theorem d_T_distance_52 : decode b_T_distance 52 = .ok (.iastore, 1) := by decide +kernel
theorem d_T_distance_53 : decode b_T_distance 53 = .ok (.iconst 1, 1) := by decide +kernel
theorem d_T_distance_54 : decode b_T_distance 54 = .ok (.istore 6, 2) := by decide +kernel
theorem d_T_distance_56 : decode b_T_distance 56 = .ok (.iload 6, 2) := by decide +kernel
theorem d_T_distance_58 : decode b_T_distance 58 = .ok (.iload 4, 2) := by decide +kernel
theorem d_T_distance_60 : decode b_T_distance 60 = .ok (.if_icmp .gt 82, 3) := by decide +kernel
theorem d_T_distance_63 : decode b_T_distance 63 = .ok (.aload_n 1, 1) := by decide +kernel
theorem d_T_distance_64 : decode b_T_distance 64 = .ok (.iload_n 2, 1) := by decide +kernel
theorem d_T_distance_65 : decode b_T_distance 65 = .ok (.iload 5, 2) := by decide +kernel
theorem d_T_distance_67 : decode b_T_distance 67 = .ok (.iadd, 1) := by decide +kernel
theorem d_T_distance_68 : decode b_T_distance 68 = .ok (.iconst 1, 1) := by decide +kernel
theorem d_T_distance_69 : decode b_T_distance 69 = .ok (.isub, 1) := by decide +kernel
theorem d_T_distance_70 : decode b_T_distance 70 = .ok (.baload, 1) := by decide +kernel
theorem d_T_distance_71 : decode b_T_distance 71 = .ok (.aload_n 0, 1) := by decide +kernel
theorem d_T_distance_72 : decode b_T_distance 72 = .ok (.getfield 20, 3) := by decide +kernel
theorem d_T_distance_75 : decode b_T_distance 75 = .ok (.getfield 51, 3) := by decide +kernel
theorem d_T_distance_78 : decode b_T_distance 78 = .ok (.iload 6, 2) := by decide +kernel
theorem d_T_distance_80 : decode b_T_distance 80 = .ok (.iconst 1, 1) := by decide +kernel
theorem d_T_distance_81 : decode b_T_distance 81 = .ok (.isub, 1) := by decide +kernel
theorem d_T_distance_82 : decode b_T_distance 82 = .ok (.baload, 1) := by decide +kernel
theorem d_T_distance_83 : decode b_T_distance 83 = .ok (.if_icmp .ne 7, 3) := by decide +kernel
theorem d_T_distance_86 : decode b_T_distance 86 = .ok (.iconst 0, 1) := by decide +kernel
theorem d_T_distance_87 : decode b_T_distance 87 = .ok (.goto 4, 3) := by decide +kernel
theorem d_T_distance_90 : decode b_T_distance 90 = .ok (.iconst 1, 1) := by decide +kernel
theorem d_T_distance_91 : decode b_T_distance 91 = .ok (.istore 7, 2) := by decide +kernel
theorem d_T_distance_93 : decode b_T_distance 93 = .ok (.aload_n 0, 1) := by decide +kernel
theorem d_T_distance_94 : decode b_T_distance 94 = .ok (.getfield 27, 3) := by decide +kernel
theorem d_T_distance_97 : decode b_T_distance 97 = .ok (.iload 6, 2) := by decide +kernel
theorem d_T_distance_99 : decode b_T_distance 99 = .ok (.aload_n 0, 1) := by decide +kernel
theorem d_T_distance_100 : decode b_T_distance 100 = .ok (.getfield 23, 3) := by decide +kernel
theorem d_T_distance_103 : decode b_T_distance 103 = .ok (.iload 6, 2) := by decide +kernel
theorem d_T_distance_105 : decode b_T_distance 105 = .ok (.iconst 1, 1) := by decide +kernel
theorem d_T_distance_106 : decode b_T_distance 106 = .ok (.isub, 1) := by decide +kernel
theorem d_T_distance_107 : decode b_T_distance 107 = .ok (.iaload, 1) := by decide +kernel
theorem d_T_distance_108 : decode b_T_distance 108 = .ok (.iload 7, 2) := by decide +kernel
theorem d_T_distance_110 : decode b_T_distance 110 = .ok (.iadd, 1) := by decide +kernel
theorem d_T_distance_111 : decode b_T_distance 111 = .ok (.iconst 1, 1) := by decide +kernel
theorem d_T_distance_112 : decode b_T_distance 112 = .ok (.aload_n 0, 1) := by decide +kernel
theorem d_T_distance_113 : decode b_T_distance 113 = .ok (.getfield 23, 3) := by decide +kernel
theorem d_T_distance_116 : decode b_T_distance 116 = .ok (.iload 6, 2) := by decide +kernel
theorem d_T_distance_118 : decode b_T_distance 118 = .ok (.iaload, 1) := by decide +kernel
theorem d_T_distance_119 : decode b_T_distance 119 = .ok (.aload_n 0, 1) := by decide +kernel
theorem d_T_distance_120 : decode b_T_distance 120 = .ok (.getfield 27, 3) := by decide +kernel
theorem d_T_distance_123 : decode b_T_distance 123 = .ok (.iload 6, 2) := by decide +kernel
theorem d_T_distance_125 : decode b_T_distance 125 = .ok (.iconst 1, 1) := by decide +kernel
theorem d_T_distance_126 : decode b_T_distance 126 = .ok (.isub, 1) := by decide +kernel
theorem d_T_distance_127 : decode b_T_distance 127 = .ok (.iaload, 1) := by decide +kernel
theorem d_T_distance_128 : decode b_T_distance 128 = .ok (.invokestatic 76, 3) := by decide +kernel
theorem d_T_distance_131 : decode b_T_distance 131 = .ok (.iadd, 1) := by decide +kernel
theorem d_T_distance_132 : decode b_T_distance 132 = .ok (.invokestatic 76, 3) := by decide +kernel
theorem d_T_distance_135 : decode b_T_distance 135 = .ok (.iastore, 1) := by decide +kernel
theorem d_T_distance_136 : decode b_T_distance 136 = .ok (.iinc 6 1, 3) := by decide +kernel
theorem d_T_distance_139 : decode b_T_distance 139 = .ok (.goto (-83), 3) := by decide +kernel
theorem d_T_distance_142 : decode b_T_distance 142 = .ok (.aload_n 0, 1) := by decide +kernel
theorem d_T_distance_143 : decode b_T_distance 143 = .ok (.getfield 23, 3) := by decide +kernel
theorem d_T_distance_146 : decode b_T_distance 146 = .ok (.astore 6, 2) := by decide +kernel
theorem d_T_distance_148 : decode b_T_distance 148 = .ok (.aload_n 0, 1) := by decide +kernel
theorem d_T_distance_149 : decode b_T_distance 149 = .ok (.aload_n 0, 1) := by decide +kernel
theorem d_T_distance_150 : decode b_T_distance 150 = .ok (.getfield 27, 3) := by decide +kernel
theorem d_T_distance_153 : decode b_T_distance 153 = .ok (.putfield 23, 3) := by decide +kernel
theorem d_T_distance_156 : decode b_T_distance 156 = .ok (.aload_n 0, 1) := by decide +kernel
theorem d_T_distance_157 : decode b_T_distance 157 = .ok (.aload 6, 2) := by decide +kernel
theorem d_T_distance_159 : decode b_T_distance 159 = .ok (.putfield 27, 3) := by decide +kernel
theorem d_T_distance_162 : decode b_T_distance 162 = .ok (.iinc 5 1, 3) := by decide +kernel
theorem d_T_distance_165 : decode b_T_distance 165 = .ok (.goto (-126), 3) := by decide +kernel
theorem d_T_distance_168 : decode b_T_distance 168 = .ok (.aload_n 0, 1) := by decide +kernel
theorem d_T_distance_169 : decode b_T_distance 169 = .ok (.getfield 23, 3) := by decide +kernel
theorem d_T_distance_172 : decode b_T_distance 172 = .ok (.iload 4, 2) := by decide +kernel
theorem d_T_distance_174 : decode b_T_distance 174 = .ok (.iaload, 1) := by decide +kernel
theorem d_T_distance_175 : decode b_T_distance 175 = .ok (.ireturn, 1) := by decide +kernel
theorem d_T_nearest_0 : decode b_T_nearest 0 = .ok (.aload_n 0, 1) := by decide +kernel
theorem d_T_nearest_1 : decode b_T_nearest 1 = .ok (.invokevirtual 82, 3) := by decide +kernel
theorem d_T_nearest_4 : decode b_T_nearest 4 = .ok (.ifCond .ne 5, 3) := by decide +kernel
theorem d_T_nearest_7 : decode b_T_nearest 7 = .ok (.iconst (-1), 1) := by decide +kernel
theorem d_T_nearest_8 : decode b_T_nearest 8 = .ok (.ireturn, 1) := by decide +kernel
theorem d_T_nearest_9 : decode b_T_nearest 9 = .ok (.bipush (-2), 2) := by decide +kernel
theorem d_T_nearest_11 : decode b_T_nearest 11 = .ok (.istore_n 1, 1) := by decide +kernel
theorem d_T_nearest_12 : decode b_T_nearest 12 = .ok (.bipush 25, 2) := by decide +kernel
theorem d_T_nearest_14 : decode b_T_nearest 14 = .ok (.istore_n 2, 1) := by decide +kernel
theorem d_T_nearest_15 : decode b_T_nearest 15 = .ok (.iconst 0, 1) := by decide +kernel
theorem d_T_nearest_16 : decode b_T_nearest 16 = .ok (.istore_n 3, 1) := by decide +kernel
theorem d_T_nearest_17 : decode b_T_nearest 17 = .ok (.iload_n 3, 1) := by decide +kernel
theorem d_T_nearest_18 : decode b_T_nearest 18 = .ok (.aload_n 0, 1) := by decide +kernel
theorem d_T_nearest_19 : decode b_T_nearest 19 = .ok (.getfield 16, 3) := by decide +kernel
theorem d_T_nearest_22 : decode b_T_nearest 22 = .ok (.getfield 45, 3) := by decide +kernel
theorem d_T_nearest_25 : decode b_T_nearest 25 = .ok (.if_icmp .ge 49, 3) := by decide +kernel
theorem d_T_nearest_28 : decode b_T_nearest 28 = .ok (.aload_n 0, 1) := by decide +kernel
theorem d_T_nearest_29 : decode b_T_nearest 29 = .ok (.aload_n 0, 1) := by decide +kernel
theorem d_T_nearest_30 : decode b_T_nearest 30 = .ok (.getfield 16, 3) := by decide +kernel
theorem d_T_nearest_33 : decode b_T_nearest 33 = .ok (.getfield 51, 3) := by decide +kernel
theorem d_T_nearest_36 : decode b_T_nearest 36 = .ok (.bipush 24, 2) := by decide +kernel
theorem d_T_nearest_38 : decode b_T_nearest 38 = .ok (.iload_n 3, 1) := by decide +kernel
theorem d_T_nearest_39 : decode b_T_nearest 39 = .ok (.imul, 1) := by decide +kernel
theorem d_T_nearest_40 : decode b_T_nearest 40 = .ok (.aload_n 0, 1) := by decide +kernel
theorem d_T_nearest_41 : decode b_T_nearest 41 = .ok (.getfield 16, 3) := by decide +kernel
theorem d_T_nearest_44 : decode b_T_nearest 44 = .ok (.getfield 48, 3) := by decide +kernel
theorem d_T_nearest_47 : decode b_T_nearest 47 = .ok (.iload_n 3, 1) := by decide +kernel
theorem d_T_nearest_48 : decode b_T_nearest 48 = .ok (.iaload, 1) := by decide +kernel
theorem d_T_nearest_49 : decode b_T_nearest 49 = .ok (.invokevirtual 86, 3) := by decide +kernel
theorem d_T_nearest_52 : decode b_T_nearest 52 = .ok (.istore 4, 2) := by decide +kernel
theorem d_T_nearest_54 : decode b_T_nearest 54 = .ok (.iload 4, 2) := by decide +kernel
theorem d_T_nearest_56 : decode b_T_nearest 56 = .ok (.iload_n 2, 1) := by decide +kernel
theorem d_T_nearest_57 : decode b_T_nearest 57 = .ok (.if_icmp .lt 6, 3) := by decide +kernel
theorem d_T_nearest_60 : decode b_T_nearest 60 = .ok (.goto 8, 3) := by decide +kernel
theorem d_T_nearest_63 : decode b_T_nearest 63 = .ok (.iload 4, 2) := by decide +kernel
theorem d_T_nearest_65 : decode b_T_nearest 65 = .ok (.istore_n 2, 1) := by decide +kernel
theorem d_T_nearest_66 : decode b_T_nearest 66 = .ok (.iload_n 3, 1) := by decide +kernel
theorem d_T_nearest_67 : decode b_T_nearest 67 = .ok (.istore_n 1, 1) := by decide +kernel
theorem d_T_nearest_68 : decode b_T_nearest 68 = .ok (.iinc 3 1, 3) := by decide +kernel
theorem d_T_nearest_71 : decode b_T_nearest 71 = .ok (.goto (-54), 3) := by decide +kernel
theorem d_T_nearest_74 : decode b_T_nearest 74 = .ok (.iload_n 1, 1) := by decide +kernel
theorem d_T_nearest_75 : decode b_T_nearest 75 = .ok (.ireturn, 1) := by decide +kernel
theorem d_T_plain_0 : decode b_T_plain 0 = .ok (.aload_n 0, 1) := by decide +kernel
theorem d_T_plain_1 : decode b_T_plain 1 = .ok (.getfield 30, 3) := by decide +kernel
theorem d_T_plain_4 : decode b_T_plain 4 = .ok (.istore_n 1, 1) := by decide +kernel
theorem d_T_plain_5 : decode b_T_plain 5 = .ok (.aload_n 0, 1) := by decide +kernel
theorem d_T_plain_6 : decode b_T_plain 6 = .ok (.iconst 0, 1) := by decide +kernel
theorem d_T_plain_7 : decode b_T_plain 7 = .ok (.putfield 30, 3) := by decide +kernel
theorem d_T_plain_10 : decode b_T_plain 10 = .ok (.iload_n 1, 1) := by decide +kernel
theorem d_T_plain_11 : decode b_T_plain 11 = .ok (.ifCond .eq 16, 3) := by decide +kernel
theorem d_T_plain_14 : decode b_T_plain 14 = .ok (.aload_n 0, 1) := by decide +kernel
theorem d_T_plain_15 : decode b_T_plain 15 = .ok (.getfield 16, 3) := by decide +kernel
theorem d_T_plain_18 : decode b_T_plain 18 = .ok (.getfield 45, 3) := by decide +kernel
theorem d_T_plain_21 : decode b_T_plain 21 = .ok (.sipush 150, 3) := by decide +kernel
theorem d_T_plain_24 : decode b_T_plain 24 = .ok (.if_icmp .ne 5, 3) := by decide +kernel
theorem d_T_plain_27 : decode b_T_plain 27 = .ok (.iconst (-1), 1) := by decide +kernel
theorem d_T_plain_28 : decode b_T_plain 28 = .ok (.ireturn, 1) := by decide +kernel
theorem d_T_plain_29 : decode b_T_plain 29 = .ok (.iconst 0, 1) := by decide +kernel
theorem d_T_plain_30 : decode b_T_plain 30 = .ok (.istore_n 2, 1) := by decide +kernel
theorem d_T_plain_31 : decode b_T_plain 31 = .ok (.iload_n 2, 1) := by decide +kernel
theorem d_T_plain_32 : decode b_T_plain 32 = .ok (.iload_n 1, 1) := by decide +kernel
theorem d_T_plain_33 : decode b_T_plain 33 = .ok (.if_icmp .ge 23, 3) := by decide +kernel
theorem d_T_plain_36 : decode b_T_plain 36 = .ok (.aload_n 0, 1) := by decide +kernel
theorem d_T_plain_37 : decode b_T_plain 37 = .ok (.getfield 9, 3) := by decide +kernel
theorem d_T_plain_40 : decode b_T_plain 40 = .ok (.iload_n 2, 1) := by decide +kernel
theorem d_T_plain_41 : decode b_T_plain 41 = .ok (.baload, 1) := by decide +kernel
theorem d_T_plain_42 : decode b_T_plain 42 = .ok (.invokestatic 72, 3) := by decide +kernel
theorem d_T_plain_45 : decode b_T_plain 45 = .ok (.ifCond .ne 5, 3) := by decide +kernel
theorem d_T_plain_48 : decode b_T_plain 48 = .ok (.iconst (-1), 1) := by decide +kernel
theorem d_T_plain_49 : decode b_T_plain 49 = .ok (.ireturn, 1) := by decide +kernel
theorem d_T_plain_50 : decode b_T_plain 50 = .ok (.iinc 2 1, 3) := by decide +kernel
theorem d_T_plain_53 : decode b_T_plain 53 = .ok (.goto (-22), 3) := by decide +kernel
theorem d_T_plain_56 : decode b_T_plain 56 = .ok (.aload_n 0, 1) := by decide +kernel
theorem d_T_plain_57 : decode b_T_plain 57 = .ok (.getfield 16, 3) := by decide +kernel
theorem d_T_plain_60 : decode b_T_plain 60 = .ok (.aload_n 0, 1) := by decide +kernel
theorem d_T_plain_61 : decode b_T_plain 61 = .ok (.getfield 9, 3) := by decide +kernel
theorem d_T_plain_64 : decode b_T_plain 64 = .ok (.iconst 0, 1) := by decide +kernel
theorem d_T_plain_65 : decode b_T_plain 65 = .ok (.iload_n 1, 1) := by decide +kernel
theorem d_T_plain_66 : decode b_T_plain 66 = .ok (.invokevirtual 90, 3) := by decide +kernel
theorem d_T_plain_69 : decode b_T_plain 69 = .ok (.aload_n 0, 1) := by decide +kernel
theorem d_T_plain_70 : decode b_T_plain 70 = .ok (.getfield 16, 3) := by decide +kernel
theorem d_T_plain_73 : decode b_T_plain 73 = .ok (.getfield 45, 3) := by decide +kernel
theorem d_T_plain_76 : decode b_T_plain 76 = .ok (.ireturn, 1) := by decide +kernel
theorem d_W_takePlain_0 : decode b_W_takePlain 0 = .ok (.aload_n 0, 1) := by decide +kernel
theorem d_W_takePlain_1 : decode b_W_takePlain 1 = .ok (.getfield 15, 3) := by decide +kernel
theorem d_W_takePlain_4 : decode b_W_takePlain 4 = .ok (.aload_n 0, 1) := by decide +kernel
theorem d_W_takePlain_5 : decode b_W_takePlain 5 = .ok (.getfield 23, 3) := by decide +kernel
theorem d_W_takePlain_8 : decode b_W_takePlain 8 = .ok (.bipush 24, 2) := by decide +kernel
theorem d_W_takePlain_10 : decode b_W_takePlain 10 = .ok (.iload_n 3, 1) := by decide +kernel
theorem d_W_takePlain_11 : decode b_W_takePlain 11 = .ok (.iload_n 2, 1) := by decide +kernel
theorem d_W_takePlain_12 : decode b_W_takePlain 12 = .ok (.isub, 1) := by decide +kernel
theorem d_W_takePlain_13 : decode b_W_takePlain 13 = .ok (.invokestatic 27, 3) := by decide +kernel
theorem d_W_takePlain_16 : decode b_W_takePlain 16 = .ok (.iastore, 1) := by decide +kernel
theorem d_W_takePlain_17 : decode b_W_takePlain 17 = .ok (.iconst 0, 1) := by decide +kernel
theorem d_W_takePlain_18 : decode b_W_takePlain 18 = .ok (.istore 4, 2) := by decide +kernel
theorem d_W_takePlain_20 : decode b_W_takePlain 20 = .ok (.iload 4, 2) := by decide +kernel
theorem d_W_takePlain_22 : decode b_W_takePlain 22 = .ok (.aload_n 0, 1) := by decide +kernel
theorem d_W_takePlain_23 : decode b_W_takePlain 23 = .ok (.getfield 15, 3) := by decide +kernel
theorem d_W_takePlain_26 : decode b_W_takePlain 26 = .ok (.aload_n 0, 1) := by decide +kernel
theorem d_W_takePlain_27 : decode b_W_takePlain 27 = .ok (.getfield 23, 3) := by decide +kernel
theorem d_W_takePlain_30 : decode b_W_takePlain 30 = .ok (.iaload, 1) := by decide +kernel
theorem d_W_takePlain_31 : decode b_W_takePlain 31 = .ok (.if_icmp .ge 34, 3) := by decide +kernel
theorem d_W_takePlain_34 : decode b_W_takePlain 34 = .ok (.aload_n 0, 1) := by decide +kernel
theorem d_W_takePlain_35 : decode b_W_takePlain 35 = .ok (.getfield 9, 3) := by decide +kernel
theorem d_W_takePlain_38 : decode b_W_takePlain 38 = .ok (.bipush 24, 2) := by decide +kernel
theorem d_W_takePlain_40 : decode b_W_takePlain 40 = .ok (.aload_n 0, 1) := by decide +kernel
theorem d_W_takePlain_41 : decode b_W_takePlain 41 = .ok (.getfield 23, 3) := by decide +kernel
theorem d_W_takePlain_44 : decode b_W_takePlain 44 = .ok (.imul, 1) := by decide +kernel
theorem d_W_takePlain_45 : decode b_W_takePlain 45 = .ok (.iload 4, 2) := by decide +kernel
theorem d_W_takePlain_47 : decode b_W_takePlain 47 = .ok (.iadd, 1) := by decide +kernel
theorem d_W_takePlain_48 : decode b_W_takePlain 48 = .ok (.aload_n 1, 1) := by decide +kernel
theorem d_W_takePlain_49 : decode b_W_takePlain 49 = .ok (.iload_n 2, 1) := by decide +kernel
theorem d_W_takePlain_50 : decode b_W_takePlain 50 = .ok (.iload 4, 2) := by decide +kernel
theorem d_W_takePlain_52 : decode b_W_takePlain 52 = .ok (.iadd, 1) := by decide +kernel
theorem d_W_takePlain_53 : decode b_W_takePlain 53 = .ok (.baload, 1) := by decide +kernel
theorem d_W_takePlain_54 : decode b_W_takePlain 54 = .ok (.invokestatic 19, 3) := by decide +kernel
theorem d_W_takePlain_57 : decode b_W_takePlain 57 = .ok (.i2b, 1) := by decide +kernel
theorem d_W_takePlain_58 : decode b_W_takePlain 58 = .ok (.bastore, 1) := by decide +kernel
theorem d_W_takePlain_59 : decode b_W_takePlain 59 = .ok (.iinc 4 1, 3) := by decide +kernel
theorem d_W_takePlain_62 : decode b_W_takePlain 62 = .ok (.goto (-42), 3) := by decide +kernel
theorem d_W_takePlain_65 : decode b_W_takePlain 65 = .ok (.aload_n 0, 1) := by decide +kernel
theorem d_W_takePlain_66 : decode b_W_takePlain 66 = .ok (.dup, 1) := by decide +kernel
theorem d_W_takePlain_67 : decode b_W_takePlain 67 = .ok (.getfield 23, 3) := by decide +kernel
theorem d_W_takePlain_70 : decode b_W_takePlain 70 = .ok (.iconst 1, 1) := by decide +kernel
theorem d_W_takePlain_71 : decode b_W_takePlain 71 = .ok (.iadd, 1) := by decide +kernel
theorem d_W_takePlain_72 : decode b_W_takePlain 72 = .ok (.putfield 23, 3) := by decide +kernel
theorem d_W_takePlain_75 : decode b_W_takePlain 75 = .ok (.return_, 1) := by decide +kernel
end
section
-- rows that decode each instruction, by program (gen/names.py)
theorem d_M_init_0 : decode b_M_init 0 = .ok (.aload_n 0, 1) := by decide +kernel
theorem d_M_init_1 : decode b_M_init 1 = .ok (.invokespecial 1, 3) := by decide +kernel
theorem d_M_init_4 : decode b_M_init 4 = .ok (.aload_n 0, 1) := by decide +kernel
theorem d_M_init_5 : decode b_M_init 5 = .ok (.sipush 300, 3) := by decide +kernel
theorem d_M_init_8 : decode b_M_init 8 = .ok (.newarray .byte, 2) := by decide +kernel
theorem d_M_init_10 : decode b_M_init 10 = .ok (.putfield 9, 3) := by decide +kernel
theorem d_M_init_13 : decode b_M_init 13 = .ok (.aload_n 0, 1) := by decide +kernel
theorem d_M_init_14 : decode b_M_init 14 = .ok (.sipush 3624, 3) := by decide +kernel
theorem d_M_init_17 : decode b_M_init 17 = .ok (.newarray .byte, 2) := by decide +kernel
theorem d_M_init_19 : decode b_M_init 19 = .ok (.putfield 13, 3) := by decide +kernel
theorem d_M_init_22 : decode b_M_init 22 = .ok (.aload_n 0, 1) := by decide +kernel
theorem d_M_init_23 : decode b_M_init 23 = .ok (.sipush 151, 3) := by decide +kernel
theorem d_M_init_26 : decode b_M_init 26 = .ok (.newarray .int, 2) := by decide +kernel
theorem d_M_init_28 : decode b_M_init 28 = .ok (.putfield 16, 3) := by decide +kernel
theorem d_M_init_31 : decode b_M_init 31 = .ok (.aload_n 0, 1) := by decide +kernel
theorem d_M_init_32 : decode b_M_init 32 = .ok (.sipush 300, 3) := by decide +kernel
theorem d_M_init_35 : decode b_M_init 35 = .ok (.newarray .byte, 2) := by decide +kernel
theorem d_M_init_37 : decode b_M_init 37 = .ok (.putfield 20, 3) := by decide +kernel
theorem d_M_init_40 : decode b_M_init 40 = .ok (.aload_n 0, 1) := by decide +kernel
theorem d_M_init_41 : decode b_M_init 41 = .ok (.sipush 625, 3) := by decide +kernel
theorem d_M_init_44 : decode b_M_init 44 = .ok (.newarray .int, 2) := by decide +kernel
theorem d_M_init_46 : decode b_M_init 46 = .ok (.putfield 23, 3) := by decide +kernel
theorem d_M_init_49 : decode b_M_init 49 = .ok (.return_, 1) := by decide +kernel
theorem d_M_feed_0 : decode b_M_feed 0 = .ok (.aload_n 0, 1) := by decide +kernel
theorem d_M_feed_1 : decode b_M_feed 1 = .ok (.getfield 26, 3) := by decide +kernel
theorem d_M_feed_4 : decode b_M_feed 4 = .ok (.bipush 20, 2) := by decide +kernel
theorem d_M_feed_6 : decode b_M_feed 6 = .ok (.iadd, 1) := by decide +kernel
theorem d_M_feed_7 : decode b_M_feed 7 = .ok (.sipush 300, 3) := by decide +kernel
theorem d_M_feed_10 : decode b_M_feed 10 = .ok (.if_icmp .le 6, 3) := by decide +kernel
theorem d_M_feed_13 : decode b_M_feed 13 = .ok (.bipush (-3), 2) := by decide +kernel
theorem d_M_feed_15 : decode b_M_feed 15 = .ok (.ireturn, 1) := by decide +kernel
theorem d_M_feed_16 : decode b_M_feed 16 = .ok (.aload_n 0, 1) := by decide +kernel
theorem d_M_feed_17 : decode b_M_feed 17 = .ok (.iload_n 1, 1) := by decide +kernel
theorem d_M_feed_18 : decode b_M_feed 18 = .ok (.invokevirtual 30, 3) := by decide +kernel
theorem d_M_feed_21 : decode b_M_feed 21 = .ok (.aload_n 0, 1) := by decide +kernel
theorem d_M_feed_22 : decode b_M_feed 22 = .ok (.iload_n 2, 1) := by decide +kernel
theorem d_M_feed_23 : decode b_M_feed 23 = .ok (.invokevirtual 30, 3) := by decide +kernel
theorem d_M_feed_26 : decode b_M_feed 26 = .ok (.aload_n 0, 1) := by decide +kernel
theorem d_M_feed_27 : decode b_M_feed 27 = .ok (.iload_n 3, 1) := by decide +kernel
theorem d_M_feed_28 : decode b_M_feed 28 = .ok (.invokevirtual 30, 3) := by decide +kernel
theorem d_M_feed_31 : decode b_M_feed 31 = .ok (.aload_n 0, 1) := by decide +kernel
theorem d_M_feed_32 : decode b_M_feed 32 = .ok (.iload 4, 2) := by decide +kernel
theorem d_M_feed_34 : decode b_M_feed 34 = .ok (.invokevirtual 30, 3) := by decide +kernel
theorem d_M_feed_37 : decode b_M_feed 37 = .ok (.aload_n 0, 1) := by decide +kernel
theorem d_M_feed_38 : decode b_M_feed 38 = .ok (.iload 5, 2) := by decide +kernel
theorem d_M_feed_40 : decode b_M_feed 40 = .ok (.invokevirtual 30, 3) := by decide +kernel
theorem d_M_feed_43 : decode b_M_feed 43 = .ok (.aload_n 0, 1) := by decide +kernel
theorem d_M_feed_44 : decode b_M_feed 44 = .ok (.getfield 26, 3) := by decide +kernel
theorem d_M_feed_47 : decode b_M_feed 47 = .ok (.ireturn, 1) := by decide +kernel
theorem d_M_put_0 : decode b_M_put 0 = .ok (.bipush 24, 2) := by decide +kernel
theorem d_M_put_2 : decode b_M_put 2 = .ok (.istore_n 2, 1) := by decide +kernel
theorem d_M_put_3 : decode b_M_put 3 = .ok (.iload_n 2, 1) := by decide +kernel
theorem d_M_put_4 : decode b_M_put 4 = .ok (.ifCond .lt 32, 3) := by decide +kernel
theorem d_M_put_7 : decode b_M_put 7 = .ok (.aload_n 0, 1) := by decide +kernel
theorem d_M_put_8 : decode b_M_put 8 = .ok (.getfield 9, 3) := by decide +kernel
theorem d_M_put_11 : decode b_M_put 11 = .ok (.aload_n 0, 1) := by decide +kernel
theorem d_M_put_12 : decode b_M_put 12 = .ok (.getfield 26, 3) := by decide +kernel
theorem d_M_put_15 : decode b_M_put 15 = .ok (.iload_n 1, 1) := by decide +kernel
theorem d_M_put_16 : decode b_M_put 16 = .ok (.iload_n 2, 1) := by decide +kernel
theorem d_M_put_17 : decode b_M_put 17 = .ok (.ishr, 1) := by decide +kernel
theorem d_M_put_18 : decode b_M_put 18 = .ok (.i2b, 1) := by decide +kernel
theorem d_M_put_19 : decode b_M_put 19 = .ok (.bastore, 1) := by decide +kernel
theorem d_M_put_20 : decode b_M_put 20 = .ok (.aload_n 0, 1) := by decide +kernel
theorem d_M_put_21 : decode b_M_put 21 = .ok (.dup, 1) := by decide +kernel
theorem d_M_put_22 : decode b_M_put 22 = .ok (.getfield 26, 3) := by decide +kernel
theorem d_M_put_25 : decode b_M_put 25 = .ok (.iconst 1, 1) := by decide +kernel
theorem d_M_put_26 : decode b_M_put 26 = .ok (.iadd, 1) := by decide +kernel
theorem d_M_put_27 : decode b_M_put 27 = .ok (.putfield 26, 3) := by decide +kernel
theorem d_M_put_30 : decode b_M_put 30 = .ok (.iinc 2 (-8), 3) := by decide +kernel
theorem d_M_put_33 : decode b_M_put 33 = .ok (.goto (-30), 3) := by decide +kernel
theorem d_M_put_36 : decode b_M_put 36 = .ok (.return_, 1) := by decide +kernel
theorem d_M_end_0 : decode b_M_end 0 = .ok (.iload_n 1, 1) := by decide +kernel
theorem d_M_end_1 : decode b_M_end 1 = .ok (.ifCond .lt 11, 3) := by decide +kernel
theorem d_M_end_4 : decode b_M_end 4 = .ok (.iload_n 1, 1) := by decide +kernel
theorem d_M_end_5 : decode b_M_end 5 = .ok (.aload_n 0, 1) := by decide +kernel
theorem d_M_end_6 : decode b_M_end 6 = .ok (.getfield 26, 3) := by decide +kernel
theorem d_M_end_9 : decode b_M_end 9 = .ok (.if_icmp .le 5, 3) := by decide +kernel
theorem d_M_end_12 : decode b_M_end 12 = .ok (.iconst (-1), 1) := by decide +kernel
theorem d_M_end_13 : decode b_M_end 13 = .ok (.ireturn, 1) := by decide +kernel
theorem d_M_end_14 : decode b_M_end 14 = .ok (.aload_n 0, 1) := by decide +kernel
theorem d_M_end_15 : decode b_M_end 15 = .ok (.iload_n 1, 1) := by decide +kernel
theorem d_M_end_16 : decode b_M_end 16 = .ok (.putfield 26, 3) := by decide +kernel
theorem d_M_end_19 : decode b_M_end 19 = .ok (.iload_n 1, 1) := by decide +kernel
theorem d_M_end_20 : decode b_M_end 20 = .ok (.ireturn, 1) := by decide +kernel
theorem d_M_read_0 : decode b_M_read 0 = .ok (.aload_n 0, 1) := by decide +kernel
theorem d_M_read_1 : decode b_M_read 1 = .ok (.iconst 0, 1) := by decide +kernel
theorem d_M_read_2 : decode b_M_read 2 = .ok (.putfield 48, 3) := by decide +kernel
theorem d_M_read_5 : decode b_M_read 5 = .ok (.iconst 0, 1) := by decide +kernel
theorem d_M_read_6 : decode b_M_read 6 = .ok (.istore_n 1, 1) := by decide +kernel
theorem d_M_read_7 : decode b_M_read 7 = .ok (.iload_n 1, 1) := by decide +kernel
theorem d_M_read_8 : decode b_M_read 8 = .ok (.aload_n 0, 1) := by decide +kernel
theorem d_M_read_9 : decode b_M_read 9 = .ok (.getfield 26, 3) := by decide +kernel
theorem d_M_read_12 : decode b_M_read 12 = .ok (.if_icmp .ge 49, 3) := by decide +kernel
theorem d_M_read_15 : decode b_M_read 15 = .ok (.aload_n 0, 1) := by decide +kernel
theorem d_M_read_16 : decode b_M_read 16 = .ok (.getfield 9, 3) := by decide +kernel
theorem d_M_read_19 : decode b_M_read 19 = .ok (.iload_n 1, 1) := by decide +kernel
theorem d_M_read_20 : decode b_M_read 20 = .ok (.baload, 1) := by decide +kernel
theorem d_M_read_21 : decode b_M_read 21 = .ok (.invokestatic 37, 3) := by decide +kernel
theorem d_M_read_24 : decode b_M_read 24 = .ok (.ifCond .ne 9, 3) := by decide +kernel
theorem d_M_read_27 : decode b_M_read 27 = .ok (.iinc 1 1, 3) := by decide +kernel
theorem d_M_read_30 : decode b_M_read 30 = .ok (.goto (-23), 3) := by decide +kernel
theorem d_M_read_33 : decode b_M_read 33 = .ok (.aload_n 0, 1) := by decide +kernel
theorem d_M_read_34 : decode b_M_read 34 = .ok (.iload_n 1, 1) := by decide +kernel
theorem d_M_read_35 : decode b_M_read 35 = .ok (.invokevirtual 45, 3) := by decide +kernel
theorem d_M_read_38 : decode b_M_read 38 = .ok (.istore_n 1, 1) := by decide +kernel
theorem d_M_read_39 : decode b_M_read 39 = .ok (.aload_n 0, 1) := by decide +kernel
theorem d_M_read_40 : decode b_M_read 40 = .ok (.aload_n 0, 1) := by decide +kernel
theorem d_M_read_41 : decode b_M_read 41 = .ok (.getfield 48, 3) := by decide +kernel
theorem d_M_read_44 : decode b_M_read 44 = .ok (.iconst 1, 1) := by decide +kernel
theorem d_M_read_45 : decode b_M_read 45 = .ok (.invokevirtual 51, 3) := by decide +kernel
theorem d_M_read_48 : decode b_M_read 48 = .ok (.aload_n 0, 1) := by decide +kernel
theorem d_M_read_49 : decode b_M_read 49 = .ok (.dup, 1) := by decide +kernel
theorem d_M_read_50 : decode b_M_read 50 = .ok (.getfield 48, 3) := by decide +kernel
theorem d_M_read_53 : decode b_M_read 53 = .ok (.iconst 1, 1) := by decide +kernel
theorem d_M_read_54 : decode b_M_read 54 = .ok (.iadd, 1) := by decide +kernel
theorem d_M_read_55 : decode b_M_read 55 = .ok (.putfield 48, 3) := by decide +kernel
theorem d_M_read_58 : decode b_M_read 58 = .ok (.goto (-51), 3) := by decide +kernel
theorem d_M_read_61 : decode b_M_read 61 = .ok (.aload_n 0, 1) := by decide +kernel
theorem d_M_read_62 : decode b_M_read 62 = .ok (.iconst 0, 1) := by decide +kernel
theorem d_M_read_63 : decode b_M_read 63 = .ok (.putfield 26, 3) := by decide +kernel
theorem d_M_read_66 : decode b_M_read 66 = .ok (.aload_n 0, 1) := by decide +kernel
theorem d_M_read_67 : decode b_M_read 67 = .ok (.getfield 48, 3) := by decide +kernel
theorem d_M_read_70 : decode b_M_read 70 = .ok (.ireturn, 1) := by decide +kernel
theorem d_M_letter_0 : decode b_M_letter 0 = .ok (.iload_n 0, 1) := by decide +kernel
theorem d_M_letter_1 : decode b_M_letter 1 = .ok (.bipush 48, 2) := by decide +kernel
theorem d_M_letter_3 : decode b_M_letter 3 = .ok (.if_icmp .lt 9, 3) := by decide +kernel
theorem d_M_letter_6 : decode b_M_letter 6 = .ok (.iload_n 0, 1) := by decide +kernel
theorem d_M_letter_7 : decode b_M_letter 7 = .ok (.bipush 57, 2) := by decide +kernel
theorem d_M_letter_9 : decode b_M_letter 9 = .ok (.if_icmp .le 27, 3) := by decide +kernel
theorem d_M_letter_12 : decode b_M_letter 12 = .ok (.iload_n 0, 1) := by decide +kernel
theorem d_M_letter_13 : decode b_M_letter 13 = .ok (.bipush 65, 2) := by decide +kernel
theorem d_M_letter_15 : decode b_M_letter 15 = .ok (.if_icmp .lt 9, 3) := by decide +kernel
theorem d_M_letter_18 : decode b_M_letter 18 = .ok (.iload_n 0, 1) := by decide +kernel
theorem d_M_letter_19 : decode b_M_letter 19 = .ok (.bipush 90, 2) := by decide +kernel
theorem d_M_letter_21 : decode b_M_letter 21 = .ok (.if_icmp .le 15, 3) := by decide +kernel
theorem d_M_letter_24 : decode b_M_letter 24 = .ok (.iload_n 0, 1) := by decide +kernel
theorem d_M_letter_25 : decode b_M_letter 25 = .ok (.bipush 97, 2) := by decide +kernel
theorem d_M_letter_27 : decode b_M_letter 27 = .ok (.if_icmp .lt 13, 3) := by decide +kernel
theorem d_M_letter_30 : decode b_M_letter 30 = .ok (.iload_n 0, 1) := by decide +kernel
theorem d_M_letter_31 : decode b_M_letter 31 = .ok (.bipush 122, 2) := by decide +kernel
theorem d_M_letter_33 : decode b_M_letter 33 = .ok (.if_icmp .gt 7, 3) := by decide +kernel
theorem d_M_letter_36 : decode b_M_letter 36 = .ok (.iconst 1, 1) := by decide +kernel
theorem d_M_letter_37 : decode b_M_letter 37 = .ok (.goto 4, 3) := by decide +kernel
theorem d_M_letter_40 : decode b_M_letter 40 = .ok (.iconst 0, 1) := by decide +kernel
theorem d_M_letter_41 : decode b_M_letter 41 = .ok (.ireturn, 1) := by decide +kernel
theorem d_M_run_0 : decode b_M_run 0 = .ok (.iload_n 1, 1) := by decide +kernel
theorem d_M_run_1 : decode b_M_run 1 = .ok (.istore_n 2, 1) := by decide +kernel
theorem d_M_run_2 : decode b_M_run 2 = .ok (.aload_n 0, 1) := by decide +kernel
theorem d_M_run_3 : decode b_M_run 3 = .ok (.iconst 0, 1) := by decide +kernel
theorem d_M_run_4 : decode b_M_run 4 = .ok (.putfield 34, 3) := by decide +kernel
theorem d_M_run_7 : decode b_M_run 7 = .ok (.iload_n 2, 1) := by decide +kernel
theorem d_M_run_8 : decode b_M_run 8 = .ok (.aload_n 0, 1) := by decide +kernel
theorem d_M_run_9 : decode b_M_run 9 = .ok (.getfield 26, 3) := by decide +kernel
theorem d_M_run_12 : decode b_M_run 12 = .ok (.if_icmp .ge 81, 3) := by decide +kernel
theorem d_M_run_15 : decode b_M_run 15 = .ok (.aload_n 0, 1) := by decide +kernel
theorem d_M_run_16 : decode b_M_run 16 = .ok (.getfield 9, 3) := by decide +kernel
theorem d_M_run_19 : decode b_M_run 19 = .ok (.iload_n 2, 1) := by decide +kernel
theorem d_M_run_20 : decode b_M_run 20 = .ok (.baload, 1) := by decide +kernel
theorem d_M_run_21 : decode b_M_run 21 = .ok (.invokestatic 37, 3) := by decide +kernel
theorem d_M_run_24 : decode b_M_run 24 = .ok (.ifCond .eq 69, 3) := by decide +kernel
theorem d_M_run_27 : decode b_M_run 27 = .ok (.aload_n 0, 1) := by decide +kernel
theorem d_M_run_28 : decode b_M_run 28 = .ok (.getfield 20, 3) := by decide +kernel
theorem d_M_run_31 : decode b_M_run 31 = .ok (.aload_n 0, 1) := by decide +kernel
theorem d_M_run_32 : decode b_M_run 32 = .ok (.getfield 34, 3) := by decide +kernel
theorem d_M_run_35 : decode b_M_run 35 = .ok (.aload_n 0, 1) := by decide +kernel
theorem d_M_run_36 : decode b_M_run 36 = .ok (.getfield 9, 3) := by decide +kernel
theorem d_M_run_39 : decode b_M_run 39 = .ok (.iload_n 2, 1) := by decide +kernel
theorem d_M_run_40 : decode b_M_run 40 = .ok (.baload, 1) := by decide +kernel
theorem d_M_run_41 : decode b_M_run 41 = .ok (.bipush 65, 2) := by decide +kernel
theorem d_M_run_43 : decode b_M_run 43 = .ok (.if_icmp .lt 26, 3) := by decide +kernel
theorem d_M_run_46 : decode b_M_run 46 = .ok (.aload_n 0, 1) := by decide +kernel
theorem d_M_run_47 : decode b_M_run 47 = .ok (.getfield 9, 3) := by decide +kernel
theorem d_M_run_50 : decode b_M_run 50 = .ok (.iload_n 2, 1) := by decide +kernel
theorem d_M_run_51 : decode b_M_run 51 = .ok (.baload, 1) := by decide +kernel
theorem d_M_run_52 : decode b_M_run 52 = .ok (.bipush 90, 2) := by decide +kernel
theorem d_M_run_54 : decode b_M_run 54 = .ok (.if_icmp .gt 15, 3) := by decide +kernel
theorem d_M_run_57 : decode b_M_run 57 = .ok (.aload_n 0, 1) := by decide +kernel
theorem d_M_run_58 : decode b_M_run 58 = .ok (.getfield 9, 3) := by decide +kernel
theorem d_M_run_61 : decode b_M_run 61 = .ok (.iload_n 2, 1) := by decide +kernel
theorem d_M_run_62 : decode b_M_run 62 = .ok (.baload, 1) := by decide +kernel
theorem d_M_run_63 : decode b_M_run 63 = .ok (.bipush 32, 2) := by decide +kernel
theorem d_M_run_65 : decode b_M_run 65 = .ok (.iadd, 1) := by decide +kernel
theorem d_M_run_66 : decode b_M_run 66 = .ok (.goto 9, 3) := by decide +kernel
theorem d_M_run_69 : decode b_M_run 69 = .ok (.aload_n 0, 1) := by decide +kernel
theorem d_M_run_70 : decode b_M_run 70 = .ok (.getfield 9, 3) := by decide +kernel
theorem d_M_run_73 : decode b_M_run 73 = .ok (.iload_n 2, 1) := by decide +kernel
theorem d_M_run_74 : decode b_M_run 74 = .ok (.baload, 1) := by decide +kernel
theorem d_M_run_75 : decode b_M_run 75 = .ok (.i2b, 1) := by decide +kernel
theorem d_M_run_76 : decode b_M_run 76 = .ok (.bastore, 1) := by decide +kernel
theorem d_M_run_77 : decode b_M_run 77 = .ok (.aload_n 0, 1) := by decide +kernel
theorem d_M_run_78 : decode b_M_run 78 = .ok (.dup, 1) := by decide +kernel
theorem d_M_run_79 : decode b_M_run 79 = .ok (.getfield 34, 3) := by decide +kernel
theorem d_M_run_82 : decode b_M_run 82 = .ok (.iconst 1, 1) := by decide +kernel
theorem d_M_run_83 : decode b_M_run 83 = .ok (.iadd, 1) := by decide +kernel
theorem d_M_run_84 : decode b_M_run 84 = .ok (.putfield 34, 3) := by decide +kernel
theorem d_M_run_87 : decode b_M_run 87 = .ok (.iinc 2 1, 3) := by decide +kernel
theorem d_M_run_90 : decode b_M_run 90 = .ok (.goto (-83), 3) := by decide +kernel
theorem d_M_run_93 : decode b_M_run 93 = .ok (.iload_n 2, 1) := by decide +kernel
theorem d_M_run_94 : decode b_M_run 94 = .ok (.ireturn, 1) := by decide +kernel
theorem d_M_note_0 : decode b_M_note 0 = .ok (.aload_n 0, 1) := by decide +kernel
theorem d_M_note_1 : decode b_M_note 1 = .ok (.getfield 34, 3) := by decide +kernel
theorem d_M_note_4 : decode b_M_note 4 = .ok (.istore_n 3, 1) := by decide +kernel
theorem d_M_note_5 : decode b_M_note 5 = .ok (.iload_n 2, 1) := by decide +kernel
theorem d_M_note_6 : decode b_M_note 6 = .ok (.ifCond .eq 54, 3) := by decide +kernel
theorem d_M_note_9 : decode b_M_note 9 = .ok (.iload_n 3, 1) := by decide +kernel
theorem d_M_note_10 : decode b_M_note 10 = .ok (.iconst 5, 1) := by decide +kernel
theorem d_M_note_11 : decode b_M_note 11 = .ok (.if_icmp .lt 49, 3) := by decide +kernel
theorem d_M_note_14 : decode b_M_note 14 = .ok (.aload_n 0, 1) := by decide +kernel
theorem d_M_note_15 : decode b_M_note 15 = .ok (.iconst 1, 1) := by decide +kernel
theorem d_M_note_16 : decode b_M_note 16 = .ok (.invokevirtual 41, 3) := by decide +kernel
theorem d_M_note_19 : decode b_M_note 19 = .ok (.bipush 115, 2) := by decide +kernel
theorem d_M_note_21 : decode b_M_note 21 = .ok (.if_icmp .ne 39, 3) := by decide +kernel
theorem d_M_note_24 : decode b_M_note 24 = .ok (.aload_n 0, 1) := by decide +kernel
theorem d_M_note_25 : decode b_M_note 25 = .ok (.iconst 2, 1) := by decide +kernel
theorem d_M_note_26 : decode b_M_note 26 = .ok (.invokevirtual 41, 3) := by decide +kernel
theorem d_M_note_29 : decode b_M_note 29 = .ok (.bipush 101, 2) := by decide +kernel
theorem d_M_note_31 : decode b_M_note 31 = .ok (.if_icmp .ne 29, 3) := by decide +kernel
theorem d_M_note_34 : decode b_M_note 34 = .ok (.aload_n 0, 1) := by decide +kernel
theorem d_M_note_35 : decode b_M_note 35 = .ok (.iconst 3, 1) := by decide +kernel
theorem d_M_note_36 : decode b_M_note 36 = .ok (.invokevirtual 41, 3) := by decide +kernel
theorem d_M_note_39 : decode b_M_note 39 = .ok (.bipush 105, 2) := by decide +kernel
theorem d_M_note_41 : decode b_M_note 41 = .ok (.if_icmp .ne 19, 3) := by decide +kernel
theorem d_M_note_44 : decode b_M_note 44 = .ok (.aload_n 0, 1) := by decide +kernel
theorem d_M_note_45 : decode b_M_note 45 = .ok (.getfield 20, 3) := by decide +kernel
theorem d_M_note_48 : decode b_M_note 48 = .ok (.iload_n 3, 1) := by decide +kernel
theorem d_M_note_49 : decode b_M_note 49 = .ok (.iconst 3, 1) := by decide +kernel
theorem d_M_note_50 : decode b_M_note 50 = .ok (.isub, 1) := by decide +kernel
theorem d_M_note_51 : decode b_M_note 51 = .ok (.bipush 121, 2) := by decide +kernel
theorem d_M_note_53 : decode b_M_note 53 = .ok (.bastore, 1) := by decide +kernel
theorem d_M_note_54 : decode b_M_note 54 = .ok (.iinc 3 (-2), 3) := by decide +kernel
theorem d_M_note_57 : decode b_M_note 57 = .ok (.goto 45, 3) := by decide +kernel
theorem d_M_note_60 : decode b_M_note 60 = .ok (.iload_n 2, 1) := by decide +kernel
theorem d_M_note_61 : decode b_M_note 61 = .ok (.ifCond .eq 41, 3) := by decide +kernel
theorem d_M_note_64 : decode b_M_note 64 = .ok (.iload_n 3, 1) := by decide +kernel
theorem d_M_note_65 : decode b_M_note 65 = .ok (.iconst 4, 1) := by decide +kernel
theorem d_M_note_66 : decode b_M_note 66 = .ok (.if_icmp .lt 36, 3) := by decide +kernel
theorem d_M_note_69 : decode b_M_note 69 = .ok (.aload_n 0, 1) := by decide +kernel
theorem d_M_note_70 : decode b_M_note 70 = .ok (.iconst 1, 1) := by decide +kernel
theorem d_M_note_71 : decode b_M_note 71 = .ok (.invokevirtual 41, 3) := by decide +kernel
theorem d_M_note_74 : decode b_M_note 74 = .ok (.bipush 115, 2) := by decide +kernel
theorem d_M_note_76 : decode b_M_note 76 = .ok (.if_icmp .ne 26, 3) := by decide +kernel
theorem d_M_note_79 : decode b_M_note 79 = .ok (.aload_n 0, 1) := by decide +kernel
theorem d_M_note_80 : decode b_M_note 80 = .ok (.iconst 2, 1) := by decide +kernel
theorem d_M_note_81 : decode b_M_note 81 = .ok (.invokevirtual 41, 3) := by decide +kernel
theorem d_M_note_84 : decode b_M_note 84 = .ok (.bipush 115, 2) := by decide +kernel
theorem d_M_note_86 : decode b_M_note 86 = .ok (.if_icmp .eq 16, 3) := by decide +kernel
theorem d_M_note_89 : decode b_M_note 89 = .ok (.aload_n 0, 1) := by decide +kernel
theorem d_M_note_90 : decode b_M_note 90 = .ok (.iconst 2, 1) := by decide +kernel
theorem d_M_note_91 : decode b_M_note 91 = .ok (.invokevirtual 41, 3) := by decide +kernel
theorem d_M_note_94 : decode b_M_note 94 = .ok (.bipush 117, 2) := by decide +kernel
theorem d_M_note_96 : decode b_M_note 96 = .ok (.if_icmp .eq 6, 3) := by decide +kernel
theorem d_M_note_99 : decode b_M_note 99 = .ok (.iinc 3 (-1), 3) := by decide +kernel
theorem d_M_note_102 : decode b_M_note 102 = .ok (.iload_n 3, 1) := by decide +kernel
theorem d_M_note_103 : decode b_M_note 103 = .ok (.bipush 24, 2) := by decide +kernel
theorem d_M_note_105 : decode b_M_note 105 = .ok (.if_icmp .le 6, 3) := by decide +kernel
theorem d_M_note_108 : decode b_M_note 108 = .ok (.bipush 24, 2) := by decide +kernel
theorem d_M_note_110 : decode b_M_note 110 = .ok (.istore_n 3, 1) := by decide +kernel
theorem d_M_note_111 : decode b_M_note 111 = .ok (.iconst 0, 1) := by decide +kernel
theorem d_M_note_112 : decode b_M_note 112 = .ok (.istore 4, 2) := by decide +kernel
theorem d_M_note_114 : decode b_M_note 114 = .ok (.iload 4, 2) := by decide +kernel
theorem d_M_note_116 : decode b_M_note 116 = .ok (.iload_n 3, 1) := by decide +kernel
theorem d_M_note_117 : decode b_M_note 117 = .ok (.if_icmp .ge 28, 3) := by decide +kernel
theorem d_M_note_120 : decode b_M_note 120 = .ok (.aload_n 0, 1) := by decide +kernel
theorem d_M_note_121 : decode b_M_note 121 = .ok (.getfield 13, 3) := by decide +kernel
theorem d_M_note_124 : decode b_M_note 124 = .ok (.bipush 24, 2) := by decide +kernel
theorem d_M_note_126 : decode b_M_note 126 = .ok (.iload_n 1, 1) := by decide +kernel
theorem d_M_note_127 : decode b_M_note 127 = .ok (.imul, 1) := by decide +kernel
theorem d_M_note_128 : decode b_M_note 128 = .ok (.iload 4, 2) := by decide +kernel
theorem d_M_note_130 : decode b_M_note 130 = .ok (.iadd, 1) := by decide +kernel
theorem d_M_note_131 : decode b_M_note 131 = .ok (.aload_n 0, 1) := by decide +kernel
theorem d_M_note_132 : decode b_M_note 132 = .ok (.getfield 20, 3) := by decide +kernel
theorem d_M_note_135 : decode b_M_note 135 = .ok (.iload 4, 2) := by decide +kernel
theorem d_M_note_137 : decode b_M_note 137 = .ok (.baload, 1) := by decide +kernel
theorem d_M_note_138 : decode b_M_note 138 = .ok (.bastore, 1) := by decide +kernel
theorem d_M_note_139 : decode b_M_note 139 = .ok (.iinc 4 1, 3) := by decide +kernel
theorem d_M_note_142 : decode b_M_note 142 = .ok (.goto (-28), 3) := by decide +kernel
theorem d_M_note_145 : decode b_M_note 145 = .ok (.aload_n 0, 1) := by decide +kernel
theorem d_M_note_146 : decode b_M_note 146 = .ok (.getfield 16, 3) := by decide +kernel
theorem d_M_note_149 : decode b_M_note 149 = .ok (.iload_n 1, 1) := by decide +kernel
theorem d_M_note_150 : decode b_M_note 150 = .ok (.iload_n 3, 1) := by decide +kernel
theorem d_M_note_151 : decode b_M_note 151 = .ok (.iastore, 1) := by decide +kernel
theorem d_M_note_152 : decode b_M_note 152 = .ok (.return_, 1) := by decide +kernel
theorem d_M_last_0 : decode b_M_last 0 = .ok (.aload_n 0, 1) := by decide +kernel
theorem d_M_last_1 : decode b_M_last 1 = .ok (.getfield 34, 3) := by decide +kernel
theorem d_M_last_4 : decode b_M_last 4 = .ok (.iload_n 1, 1) := by decide +kernel
theorem d_M_last_5 : decode b_M_last 5 = .ok (.if_icmp .lt 17, 3) := by decide +kernel
theorem d_M_last_8 : decode b_M_last 8 = .ok (.aload_n 0, 1) := by decide +kernel
theorem d_M_last_9 : decode b_M_last 9 = .ok (.getfield 20, 3) := by decide +kernel
theorem d_M_last_12 : decode b_M_last 12 = .ok (.aload_n 0, 1) := by decide +kernel
theorem d_M_last_13 : decode b_M_last 13 = .ok (.getfield 34, 3) := by decide +kernel
theorem d_M_last_16 : decode b_M_last 16 = .ok (.iload_n 1, 1) := by decide +kernel
theorem d_M_last_17 : decode b_M_last 17 = .ok (.isub, 1) := by decide +kernel
theorem d_M_last_18 : decode b_M_last 18 = .ok (.baload, 1) := by decide +kernel
theorem d_M_last_19 : decode b_M_last 19 = .ok (.goto 4, 3) := by decide +kernel
theorem d_M_last_22 : decode b_M_last 22 = .ok (.iconst 0, 1) := by decide +kernel
theorem d_M_last_23 : decode b_M_last 23 = .ok (.ireturn, 1) := by decide +kernel
theorem d_M_sign_0 : decode b_M_sign 0 = .ok (.aload_n 0, 1) := by decide +kernel
theorem d_M_sign_1 : decode b_M_sign 1 = .ok (.iload_n 1, 1) := by decide +kernel
theorem d_M_sign_2 : decode b_M_sign 2 = .ok (.invokevirtual 55, 3) := by decide +kernel
theorem d_M_sign_5 : decode b_M_sign 5 = .ok (.ifCond .eq 18, 3) := by decide +kernel
theorem d_M_sign_8 : decode b_M_sign 8 = .ok (.iload_n 2, 1) := by decide +kernel
theorem d_M_sign_9 : decode b_M_sign 9 = .ok (.iconst (-1), 1) := by decide +kernel
theorem d_M_sign_10 : decode b_M_sign 10 = .ok (.if_icmp .lt 13, 3) := by decide +kernel
theorem d_M_sign_13 : decode b_M_sign 13 = .ok (.iload_n 2, 1) := by decide +kernel
theorem d_M_sign_14 : decode b_M_sign 14 = .ok (.aload_n 0, 1) := by decide +kernel
theorem d_M_sign_15 : decode b_M_sign 15 = .ok (.getfield 16, 3) := by decide +kernel
theorem d_M_sign_18 : decode b_M_sign 18 = .ok (.iload_n 1, 1) := by decide +kernel
theorem d_M_sign_19 : decode b_M_sign 19 = .ok (.iaload, 1) := by decide +kernel
theorem d_M_sign_20 : decode b_M_sign 20 = .ok (.if_icmp .lt 6, 3) := by decide +kernel
theorem d_M_sign_23 : decode b_M_sign 23 = .ok (.bipush (-2), 2) := by decide +kernel
theorem d_M_sign_25 : decode b_M_sign 25 = .ok (.ireturn, 1) := by decide +kernel
theorem d_M_sign_26 : decode b_M_sign 26 = .ok (.iload_n 2, 1) := by decide +kernel
theorem d_M_sign_27 : decode b_M_sign 27 = .ok (.iconst (-1), 1) := by decide +kernel
theorem d_M_sign_28 : decode b_M_sign 28 = .ok (.if_icmp .ne 12, 3) := by decide +kernel
theorem d_M_sign_31 : decode b_M_sign 31 = .ok (.aload_n 0, 1) := by decide +kernel
theorem d_M_sign_32 : decode b_M_sign 32 = .ok (.getfield 16, 3) := by decide +kernel
theorem d_M_sign_35 : decode b_M_sign 35 = .ok (.iload_n 1, 1) := by decide +kernel
theorem d_M_sign_36 : decode b_M_sign 36 = .ok (.iaload, 1) := by decide +kernel
theorem d_M_sign_37 : decode b_M_sign 37 = .ok (.goto 14, 3) := by decide +kernel
theorem d_M_sign_40 : decode b_M_sign 40 = .ok (.aload_n 0, 1) := by decide +kernel
theorem d_M_sign_41 : decode b_M_sign 41 = .ok (.getfield 13, 3) := by decide +kernel
theorem d_M_sign_44 : decode b_M_sign 44 = .ok (.bipush 24, 2) := by decide +kernel
theorem d_M_sign_46 : decode b_M_sign 46 = .ok (.iload_n 1, 1) := by decide +kernel
theorem d_M_sign_47 : decode b_M_sign 47 = .ok (.imul, 1) := by decide +kernel
theorem d_M_sign_48 : decode b_M_sign 48 = .ok (.iload_n 2, 1) := by decide +kernel
theorem d_M_sign_49 : decode b_M_sign 49 = .ok (.iadd, 1) := by decide +kernel
theorem d_M_sign_50 : decode b_M_sign 50 = .ok (.baload, 1) := by decide +kernel
theorem d_M_sign_51 : decode b_M_sign 51 = .ok (.ireturn, 1) := by decide +kernel
theorem d_M_is_0 : decode b_M_is 0 = .ok (.iload_n 1, 1) := by decide +kernel
theorem d_M_is_1 : decode b_M_is 1 = .ok (.ifCond .lt 15, 3) := by decide +kernel
theorem d_M_is_4 : decode b_M_is 4 = .ok (.iload_n 1, 1) := by decide +kernel
theorem d_M_is_5 : decode b_M_is 5 = .ok (.aload_n 0, 1) := by decide +kernel
theorem d_M_is_6 : decode b_M_is 6 = .ok (.getfield 48, 3) := by decide +kernel
theorem d_M_is_9 : decode b_M_is 9 = .ok (.if_icmp .ge 7, 3) := by decide +kernel
theorem d_M_is_12 : decode b_M_is 12 = .ok (.iconst 1, 1) := by decide +kernel
theorem d_M_is_13 : decode b_M_is 13 = .ok (.goto 4, 3) := by decide +kernel
theorem d_M_is_16 : decode b_M_is 16 = .ok (.iconst 0, 1) := by decide +kernel
theorem d_M_is_17 : decode b_M_is 17 = .ok (.ireturn, 1) := by decide +kernel
theorem d_M_first_0 : decode b_M_first 0 = .ok (.aload_n 0, 1) := by decide +kernel
theorem d_M_first_1 : decode b_M_first 1 = .ok (.iload_n 1, 1) := by decide +kernel
theorem d_M_first_2 : decode b_M_first 2 = .ok (.invokevirtual 55, 3) := by decide +kernel
theorem d_M_first_5 : decode b_M_first 5 = .ok (.ifCond .ne 6, 3) := by decide +kernel
theorem d_M_first_8 : decode b_M_first 8 = .ok (.bipush (-2), 2) := by decide +kernel
theorem d_M_first_10 : decode b_M_first 10 = .ok (.ireturn, 1) := by decide +kernel
theorem d_M_first_11 : decode b_M_first 11 = .ok (.iconst 0, 1) := by decide +kernel
theorem d_M_first_12 : decode b_M_first 12 = .ok (.istore_n 2, 1) := by decide +kernel
theorem d_M_first_13 : decode b_M_first 13 = .ok (.aload_n 0, 1) := by decide +kernel
theorem d_M_first_14 : decode b_M_first 14 = .ok (.iload_n 2, 1) := by decide +kernel
theorem d_M_first_15 : decode b_M_first 15 = .ok (.iload_n 1, 1) := by decide +kernel
theorem d_M_first_16 : decode b_M_first 16 = .ok (.invokevirtual 58, 3) := by decide +kernel
theorem d_M_first_19 : decode b_M_first 19 = .ok (.ifCond .eq 9, 3) := by decide +kernel
theorem d_M_first_22 : decode b_M_first 22 = .ok (.iinc 2 1, 3) := by decide +kernel
theorem d_M_first_25 : decode b_M_first 25 = .ok (.goto (-12), 3) := by decide +kernel
theorem d_M_first_28 : decode b_M_first 28 = .ok (.iload_n 2, 1) := by decide +kernel
theorem d_M_first_29 : decode b_M_first 29 = .ok (.ireturn, 1) := by decide +kernel
theorem d_M_order_0 : decode b_M_order 0 = .ok (.iconst 0, 1) := by decide +kernel
theorem d_M_order_1 : decode b_M_order 1 = .ok (.istore_n 3, 1) := by decide +kernel
theorem d_M_order_2 : decode b_M_order 2 = .ok (.iload_n 3, 1) := by decide +kernel
theorem d_M_order_3 : decode b_M_order 3 = .ok (.aload_n 0, 1) := by decide +kernel
theorem d_M_order_4 : decode b_M_order 4 = .ok (.getfield 16, 3) := by decide +kernel
theorem d_M_order_7 : decode b_M_order 7 = .ok (.iload_n 1, 1) := by decide +kernel
theorem d_M_order_8 : decode b_M_order 8 = .ok (.iaload, 1) := by decide +kernel
theorem d_M_order_9 : decode b_M_order 9 = .ok (.if_icmp .ge 75, 3) := by decide +kernel
theorem d_M_order_12 : decode b_M_order 12 = .ok (.iload_n 3, 1) := by decide +kernel
theorem d_M_order_13 : decode b_M_order 13 = .ok (.aload_n 0, 1) := by decide +kernel
theorem d_M_order_14 : decode b_M_order 14 = .ok (.getfield 16, 3) := by decide +kernel
theorem d_M_order_17 : decode b_M_order 17 = .ok (.iload_n 2, 1) := by decide +kernel
theorem d_M_order_18 : decode b_M_order 18 = .ok (.iaload, 1) := by decide +kernel
theorem d_M_order_19 : decode b_M_order 19 = .ok (.if_icmp .ge 65, 3) := by decide +kernel
theorem d_M_order_22 : decode b_M_order 22 = .ok (.aload_n 0, 1) := by decide +kernel
theorem d_M_order_23 : decode b_M_order 23 = .ok (.getfield 13, 3) := by decide +kernel
theorem d_M_order_26 : decode b_M_order 26 = .ok (.bipush 24, 2) := by decide +kernel
theorem d_M_order_28 : decode b_M_order 28 = .ok (.iload_n 1, 1) := by decide +kernel
theorem d_M_order_29 : decode b_M_order 29 = .ok (.imul, 1) := by decide +kernel
theorem d_M_order_30 : decode b_M_order 30 = .ok (.iload_n 3, 1) := by decide +kernel
theorem d_M_order_31 : decode b_M_order 31 = .ok (.iadd, 1) := by decide +kernel
theorem d_M_order_32 : decode b_M_order 32 = .ok (.baload, 1) := by decide +kernel
theorem d_M_order_33 : decode b_M_order 33 = .ok (.aload_n 0, 1) := by decide +kernel
theorem d_M_order_34 : decode b_M_order 34 = .ok (.getfield 13, 3) := by decide +kernel
theorem d_M_order_37 : decode b_M_order 37 = .ok (.bipush 24, 2) := by decide +kernel
theorem d_M_order_39 : decode b_M_order 39 = .ok (.iload_n 2, 1) := by decide +kernel
theorem d_M_order_40 : decode b_M_order 40 = .ok (.imul, 1) := by decide +kernel
theorem d_M_order_41 : decode b_M_order 41 = .ok (.iload_n 3, 1) := by decide +kernel
theorem d_M_order_42 : decode b_M_order 42 = .ok (.iadd, 1) := by decide +kernel
theorem d_M_order_43 : decode b_M_order 43 = .ok (.baload, 1) := by decide +kernel
theorem d_M_order_44 : decode b_M_order 44 = .ok (.if_icmp .eq 34, 3) := by decide +kernel
theorem d_M_order_47 : decode b_M_order 47 = .ok (.aload_n 0, 1) := by decide +kernel
theorem d_M_order_48 : decode b_M_order 48 = .ok (.getfield 13, 3) := by decide +kernel
theorem d_M_order_51 : decode b_M_order 51 = .ok (.bipush 24, 2) := by decide +kernel
theorem d_M_order_53 : decode b_M_order 53 = .ok (.iload_n 1, 1) := by decide +kernel
theorem d_M_order_54 : decode b_M_order 54 = .ok (.imul, 1) := by decide +kernel
theorem d_M_order_55 : decode b_M_order 55 = .ok (.iload_n 3, 1) := by decide +kernel
theorem d_M_order_56 : decode b_M_order 56 = .ok (.iadd, 1) := by decide +kernel
theorem d_M_order_57 : decode b_M_order 57 = .ok (.baload, 1) := by decide +kernel
theorem d_M_order_58 : decode b_M_order 58 = .ok (.aload_n 0, 1) := by decide +kernel
theorem d_M_order_59 : decode b_M_order 59 = .ok (.getfield 13, 3) := by decide +kernel
theorem d_M_order_62 : decode b_M_order 62 = .ok (.bipush 24, 2) := by decide +kernel
theorem d_M_order_64 : decode b_M_order 64 = .ok (.iload_n 2, 1) := by decide +kernel
theorem d_M_order_65 : decode b_M_order 65 = .ok (.imul, 1) := by decide +kernel
theorem d_M_order_66 : decode b_M_order 66 = .ok (.iload_n 3, 1) := by decide +kernel
theorem d_M_order_67 : decode b_M_order 67 = .ok (.iadd, 1) := by decide +kernel
theorem d_M_order_68 : decode b_M_order 68 = .ok (.baload, 1) := by decide +kernel
theorem d_M_order_69 : decode b_M_order 69 = .ok (.if_icmp .ge 7, 3) := by decide +kernel
theorem d_M_order_72 : decode b_M_order 72 = .ok (.iconst (-1), 1) := by decide +kernel
theorem d_M_order_73 : decode b_M_order 73 = .ok (.goto 4, 3) := by decide +kernel
theorem d_M_order_76 : decode b_M_order 76 = .ok (.iconst 1, 1) := by decide +kernel
theorem d_M_order_77 : decode b_M_order 77 = .ok (.ireturn, 1) := by decide +kernel
theorem d_M_order_78 : decode b_M_order 78 = .ok (.iinc 3 1, 3) := by decide +kernel
theorem d_M_order_81 : decode b_M_order 81 = .ok (.goto (-79), 3) := by decide +kernel
theorem d_M_order_84 : decode b_M_order 84 = .ok (.aload_n 0, 1) := by decide +kernel
theorem d_M_order_85 : decode b_M_order 85 = .ok (.getfield 16, 3) := by decide +kernel
theorem d_M_order_88 : decode b_M_order 88 = .ok (.iload_n 1, 1) := by decide +kernel
theorem d_M_order_89 : decode b_M_order 89 = .ok (.iaload, 1) := by decide +kernel
theorem d_M_order_90 : decode b_M_order 90 = .ok (.aload_n 0, 1) := by decide +kernel
theorem d_M_order_91 : decode b_M_order 91 = .ok (.getfield 16, 3) := by decide +kernel
theorem d_M_order_94 : decode b_M_order 94 = .ok (.iload_n 2, 1) := by decide +kernel
theorem d_M_order_95 : decode b_M_order 95 = .ok (.iaload, 1) := by decide +kernel
theorem d_M_order_96 : decode b_M_order 96 = .ok (.if_icmp .ge 7, 3) := by decide +kernel
theorem d_M_order_99 : decode b_M_order 99 = .ok (.iconst (-1), 1) := by decide +kernel
theorem d_M_order_100 : decode b_M_order 100 = .ok (.goto 23, 3) := by decide +kernel
theorem d_M_order_103 : decode b_M_order 103 = .ok (.aload_n 0, 1) := by decide +kernel
theorem d_M_order_104 : decode b_M_order 104 = .ok (.getfield 16, 3) := by decide +kernel
theorem d_M_order_107 : decode b_M_order 107 = .ok (.iload_n 1, 1) := by decide +kernel
theorem d_M_order_108 : decode b_M_order 108 = .ok (.iaload, 1) := by decide +kernel
theorem d_M_order_109 : decode b_M_order 109 = .ok (.aload_n 0, 1) := by decide +kernel
theorem d_M_order_110 : decode b_M_order 110 = .ok (.getfield 16, 3) := by decide +kernel
theorem d_M_order_113 : decode b_M_order 113 = .ok (.iload_n 2, 1) := by decide +kernel
theorem d_M_order_114 : decode b_M_order 114 = .ok (.iaload, 1) := by decide +kernel
theorem d_M_order_115 : decode b_M_order 115 = .ok (.if_icmp .le 7, 3) := by decide +kernel
theorem d_M_order_118 : decode b_M_order 118 = .ok (.iconst 1, 1) := by decide +kernel
theorem d_M_order_119 : decode b_M_order 119 = .ok (.goto 4, 3) := by decide +kernel
theorem d_M_order_122 : decode b_M_order 122 = .ok (.iconst 0, 1) := by decide +kernel
theorem d_M_order_123 : decode b_M_order 123 = .ok (.ireturn, 1) := by decide +kernel
theorem d_M_different_0 : decode b_M_different 0 = .ok (.iconst 0, 1) := by decide +kernel
theorem d_M_different_1 : decode b_M_different 1 = .ok (.istore_n 1, 1) := by decide +kernel
theorem d_M_different_2 : decode b_M_different 2 = .ok (.iconst 0, 1) := by decide +kernel
theorem d_M_different_3 : decode b_M_different 3 = .ok (.istore_n 2, 1) := by decide +kernel
theorem d_M_different_4 : decode b_M_different 4 = .ok (.iload_n 2, 1) := by decide +kernel
theorem d_M_different_5 : decode b_M_different 5 = .ok (.aload_n 0, 1) := by decide +kernel
theorem d_M_different_6 : decode b_M_different 6 = .ok (.getfield 48, 3) := by decide +kernel
theorem d_M_different_9 : decode b_M_different 9 = .ok (.if_icmp .ge 26, 3) := by decide +kernel
theorem d_M_different_12 : decode b_M_different 12 = .ok (.iload_n 1, 1) := by decide +kernel
theorem d_M_different_13 : decode b_M_different 13 = .ok (.aload_n 0, 1) := by decide +kernel
theorem d_M_different_14 : decode b_M_different 14 = .ok (.iload_n 2, 1) := by decide +kernel
theorem d_M_different_15 : decode b_M_different 15 = .ok (.invokevirtual 62, 3) := by decide +kernel
theorem d_M_different_18 : decode b_M_different 18 = .ok (.iload_n 2, 1) := by decide +kernel
theorem d_M_different_19 : decode b_M_different 19 = .ok (.if_icmp .ne 7, 3) := by decide +kernel
theorem d_M_different_22 : decode b_M_different 22 = .ok (.iconst 1, 1) := by decide +kernel
theorem d_M_different_23 : decode b_M_different 23 = .ok (.goto 4, 3) := by decide +kernel
theorem d_M_different_26 : decode b_M_different 26 = .ok (.iconst 0, 1) := by decide +kernel
theorem d_M_different_27 : decode b_M_different 27 = .ok (.iadd, 1) := by decide +kernel
theorem d_M_different_28 : decode b_M_different 28 = .ok (.istore_n 1, 1) := by decide +kernel
theorem d_M_different_29 : decode b_M_different 29 = .ok (.iinc 2 1, 3) := by decide +kernel
theorem d_M_different_32 : decode b_M_different 32 = .ok (.goto (-28), 3) := by decide +kernel
theorem d_M_different_35 : decode b_M_different 35 = .ok (.iload_n 1, 1) := by decide +kernel
theorem d_M_different_36 : decode b_M_different 36 = .ok (.ireturn, 1) := by decide +kernel
theorem d_M_compare_0 : decode b_M_compare 0 = .ok (.aload_n 0, 1) := by decide +kernel
theorem d_M_compare_1 : decode b_M_compare 1 = .ok (.iload_n 1, 1) := by decide +kernel
theorem d_M_compare_2 : decode b_M_compare 2 = .ok (.invokevirtual 55, 3) := by decide +kernel
theorem d_M_compare_5 : decode b_M_compare 5 = .ok (.ifCond .eq 20, 3) := by decide +kernel
theorem d_M_compare_8 : decode b_M_compare 8 = .ok (.aload_n 0, 1) := by decide +kernel
theorem d_M_compare_9 : decode b_M_compare 9 = .ok (.iload_n 2, 1) := by decide +kernel
theorem d_M_compare_10 : decode b_M_compare 10 = .ok (.invokevirtual 55, 3) := by decide +kernel
theorem d_M_compare_13 : decode b_M_compare 13 = .ok (.ifCond .eq 12, 3) := by decide +kernel
theorem d_M_compare_16 : decode b_M_compare 16 = .ok (.aload_n 0, 1) := by decide +kernel
theorem d_M_compare_17 : decode b_M_compare 17 = .ok (.iload_n 1, 1) := by decide +kernel
theorem d_M_compare_18 : decode b_M_compare 18 = .ok (.iload_n 2, 1) := by decide +kernel
theorem d_M_compare_19 : decode b_M_compare 19 = .ok (.invokevirtual 58, 3) := by decide +kernel
theorem d_M_compare_22 : decode b_M_compare 22 = .ok (.goto 5, 3) := by decide +kernel
theorem d_M_compare_25 : decode b_M_compare 25 = .ok (.bipush (-2), 2) := by decide +kernel
theorem d_M_compare_27 : decode b_M_compare 27 = .ok (.ireturn, 1) := by decide +kernel
theorem d_M_apart_0 : decode b_M_apart 0 = .ok (.aload_n 0, 1) := by decide +kernel
theorem d_M_apart_1 : decode b_M_apart 1 = .ok (.iload_n 1, 1) := by decide +kernel
theorem d_M_apart_2 : decode b_M_apart 2 = .ok (.invokevirtual 55, 3) := by decide +kernel
theorem d_M_apart_5 : decode b_M_apart 5 = .ok (.ifCond .ne 6, 3) := by decide +kernel
theorem d_M_apart_8 : decode b_M_apart 8 = .ok (.bipush (-2), 2) := by decide +kernel
theorem d_M_apart_10 : decode b_M_apart 10 = .ok (.ireturn, 1) := by decide +kernel
theorem d_M_apart_11 : decode b_M_apart 11 = .ok (.aload_n 0, 1) := by decide +kernel
theorem d_M_apart_12 : decode b_M_apart 12 = .ok (.invokevirtual 65, 3) := by decide +kernel
theorem d_M_apart_15 : decode b_M_apart 15 = .ok (.ifCond .ne 5, 3) := by decide +kernel
theorem d_M_apart_18 : decode b_M_apart 18 = .ok (.iconst (-1), 1) := by decide +kernel
theorem d_M_apart_19 : decode b_M_apart 19 = .ok (.ireturn, 1) := by decide +kernel
theorem d_M_apart_20 : decode b_M_apart 20 = .ok (.aload_n 0, 1) := by decide +kernel
theorem d_M_apart_21 : decode b_M_apart 21 = .ok (.sipush 150, 3) := by decide +kernel
theorem d_M_apart_24 : decode b_M_apart 24 = .ok (.iconst 1, 1) := by decide +kernel
theorem d_M_apart_25 : decode b_M_apart 25 = .ok (.invokevirtual 51, 3) := by decide +kernel
theorem d_M_apart_28 : decode b_M_apart 28 = .ok (.aload_n 0, 1) := by decide +kernel
theorem d_M_apart_29 : decode b_M_apart 29 = .ok (.iload_n 1, 1) := by decide +kernel
theorem d_M_apart_30 : decode b_M_apart 30 = .ok (.sipush 150, 3) := by decide +kernel
theorem d_M_apart_33 : decode b_M_apart 33 = .ok (.invokevirtual 69, 3) := by decide +kernel
theorem d_M_apart_36 : decode b_M_apart 36 = .ok (.ireturn, 1) := by decide +kernel
theorem d_M_oneWord_0 : decode b_M_oneWord 0 = .ok (.aload_n 0, 1) := by decide +kernel
theorem d_M_oneWord_1 : decode b_M_oneWord 1 = .ok (.getfield 26, 3) := by decide +kernel
theorem d_M_oneWord_4 : decode b_M_oneWord 4 = .ok (.ifCond .le 19, 3) := by decide +kernel
theorem d_M_oneWord_7 : decode b_M_oneWord 7 = .ok (.aload_n 0, 1) := by decide +kernel
theorem d_M_oneWord_8 : decode b_M_oneWord 8 = .ok (.iconst 0, 1) := by decide +kernel
theorem d_M_oneWord_9 : decode b_M_oneWord 9 = .ok (.invokevirtual 45, 3) := by decide +kernel
theorem d_M_oneWord_12 : decode b_M_oneWord 12 = .ok (.aload_n 0, 1) := by decide +kernel
theorem d_M_oneWord_13 : decode b_M_oneWord 13 = .ok (.getfield 26, 3) := by decide +kernel
theorem d_M_oneWord_16 : decode b_M_oneWord 16 = .ok (.if_icmp .ne 7, 3) := by decide +kernel
theorem d_M_oneWord_19 : decode b_M_oneWord 19 = .ok (.iconst 1, 1) := by decide +kernel
theorem d_M_oneWord_20 : decode b_M_oneWord 20 = .ok (.goto 4, 3) := by decide +kernel
theorem d_M_oneWord_23 : decode b_M_oneWord 23 = .ok (.iconst 0, 1) := by decide +kernel
theorem d_M_oneWord_24 : decode b_M_oneWord 24 = .ok (.istore_n 1, 1) := by decide +kernel
theorem d_M_oneWord_25 : decode b_M_oneWord 25 = .ok (.aload_n 0, 1) := by decide +kernel
theorem d_M_oneWord_26 : decode b_M_oneWord 26 = .ok (.iconst 0, 1) := by decide +kernel
theorem d_M_oneWord_27 : decode b_M_oneWord 27 = .ok (.putfield 26, 3) := by decide +kernel
theorem d_M_oneWord_30 : decode b_M_oneWord 30 = .ok (.iload_n 1, 1) := by decide +kernel
theorem d_M_oneWord_31 : decode b_M_oneWord 31 = .ok (.ireturn, 1) := by decide +kernel
theorem d_M_distance_0 : decode b_M_distance 0 = .ok (.bipush 25, 2) := by decide +kernel
theorem d_M_distance_2 : decode b_M_distance 2 = .ok (.istore_n 3, 1) := by decide +kernel
theorem d_M_distance_3 : decode b_M_distance 3 = .ok (.iconst 0, 1) := by decide +kernel
theorem d_M_distance_4 : decode b_M_distance 4 = .ok (.istore 4, 2) := by decide +kernel
theorem d_M_distance_6 : decode b_M_distance 6 = .ok (.iload 4, 2) := by decide +kernel
theorem d_M_distance_8 : decode b_M_distance 8 = .ok (.aload_n 0, 1) := by decide +kernel
theorem d_M_distance_9 : decode b_M_distance 9 = .ok (.getfield 16, 3) := by decide +kernel
theorem d_M_distance_12 : decode b_M_distance 12 = .ok (.iload_n 1, 1) := by decide +kernel
theorem d_M_distance_13 : decode b_M_distance 13 = .ok (.iaload, 1) := by decide +kernel
theorem d_M_distance_14 : decode b_M_distance 14 = .ok (.if_icmp .gt 211, 3) := by decide +kernel
theorem d_M_distance_17 : decode b_M_distance 17 = .ok (.iconst 0, 1) := by decide +kernel
theorem d_M_distance_18 : decode b_M_distance 18 = .ok (.istore 5, 2) := by decide +kernel
theorem d_M_distance_20 : decode b_M_distance 20 = .ok (.iload 5, 2) := by decide +kernel
theorem d_M_distance_22 : decode b_M_distance 22 = .ok (.aload_n 0, 1) := by decide +kernel
theorem d_M_distance_23 : decode b_M_distance 23 = .ok (.getfield 16, 3) := by decide +kernel
theorem d_M_distance_26 : decode b_M_distance 26 = .ok (.iload_n 2, 1) := by decide +kernel
theorem d_M_distance_27 : decode b_M_distance 27 = .ok (.iaload, 1) := by decide +kernel
theorem d_M_distance_28 : decode b_M_distance 28 = .ok (.if_icmp .gt 191, 3) := by decide +kernel
theorem d_M_distance_31 : decode b_M_distance 31 = .ok (.iload 4, 2) := by decide +kernel
theorem d_M_distance_33 : decode b_M_distance 33 = .ok (.ifCond .ne 8, 3) := by decide +kernel
theorem d_M_distance_36 : decode b_M_distance 36 = .ok (.iload 5, 2) := by decide +kernel
theorem d_M_distance_38 : decode b_M_distance 38 = .ok (.goto 16, 3) := by decide +kernel
theorem d_M_distance_41 : decode b_M_distance 41 = .ok (.iload 5, 2) := by decide +kernel
theorem d_M_distance_43 : decode b_M_distance 43 = .ok (.ifCond .ne 8, 3) := by decide +kernel
theorem d_M_distance_46 : decode b_M_distance 46 = .ok (.iload 4, 2) := by decide +kernel
theorem d_M_distance_48 : decode b_M_distance 48 = .ok (.goto 6, 3) := by decide +kernel
theorem d_M_distance_51 : decode b_M_distance 51 = .ok (.sipush 1000, 3) := by decide +kernel
theorem d_M_distance_54 : decode b_M_distance 54 = .ok (.istore 6, 2) := by decide +kernel
theorem d_M_distance_56 : decode b_M_distance 56 = .ok (.iload 4, 2) := by decide +kernel
theorem d_M_distance_58 : decode b_M_distance 58 = .ok (.ifCond .le 141, 3) := by decide +kernel
theorem d_M_distance_61 : decode b_M_distance 61 = .ok (.iload 5, 2) := by decide +kernel
theorem d_M_distance_63 : decode b_M_distance 63 = .ok (.ifCond .le 136, 3) := by decide +kernel
theorem d_M_distance_66 : decode b_M_distance 66 = .ok (.aload_n 0, 1) := by decide +kernel
theorem d_M_distance_67 : decode b_M_distance 67 = .ok (.getfield 23, 3) := by decide +kernel
theorem d_M_distance_70 : decode b_M_distance 70 = .ok (.iload_n 3, 1) := by decide +kernel
theorem d_M_distance_71 : decode b_M_distance 71 = .ok (.iload 4, 2) := by decide +kernel
theorem d_M_distance_73 : decode b_M_distance 73 = .ok (.iconst 1, 1) := by decide +kernel
theorem d_M_distance_74 : decode b_M_distance 74 = .ok (.isub, 1) := by decide +kernel
theorem d_M_distance_75 : decode b_M_distance 75 = .ok (.imul, 1) := by decide +kernel
theorem d_M_distance_76 : decode b_M_distance 76 = .ok (.iload 5, 2) := by decide +kernel
theorem d_M_distance_78 : decode b_M_distance 78 = .ok (.iadd, 1) := by decide +kernel
theorem d_M_distance_79 : decode b_M_distance 79 = .ok (.iconst 1, 1) := by decide +kernel
theorem d_M_distance_80 : decode b_M_distance 80 = .ok (.isub, 1) := by decide +kernel
theorem d_M_distance_81 : decode b_M_distance 81 = .ok (.iaload, 1) := by decide +kernel
theorem d_M_distance_82 : decode b_M_distance 82 = .ok (.aload_n 0, 1) := by decide +kernel
theorem d_M_distance_83 : decode b_M_distance 83 = .ok (.getfield 13, 3) := by decide +kernel
theorem d_M_distance_86 : decode b_M_distance 86 = .ok (.bipush 24, 2) := by decide +kernel
theorem d_M_distance_88 : decode b_M_distance 88 = .ok (.iload_n 1, 1) := by decide +kernel
theorem d_M_distance_89 : decode b_M_distance 89 = .ok (.imul, 1) := by decide +kernel
theorem d_M_distance_90 : decode b_M_distance 90 = .ok (.iload 4, 2) := by decide +kernel
theorem d_M_distance_92 : decode b_M_distance 92 = .ok (.iadd, 1) := by decide +kernel
theorem d_M_distance_93 : decode b_M_distance 93 = .ok (.iconst 1, 1) := by decide +kernel
theorem d_M_distance_94 : decode b_M_distance 94 = .ok (.isub, 1) := by decide +kernel
theorem d_M_distance_95 : decode b_M_distance 95 = .ok (.baload, 1) := by decide +kernel
theorem d_M_distance_96 : decode b_M_distance 96 = .ok (.aload_n 0, 1) := by decide +kernel
theorem d_M_distance_97 : decode b_M_distance 97 = .ok (.getfield 13, 3) := by decide +kernel
theorem d_M_distance_100 : decode b_M_distance 100 = .ok (.bipush 24, 2) := by decide +kernel
theorem d_M_distance_102 : decode b_M_distance 102 = .ok (.iload_n 2, 1) := by decide +kernel
theorem d_M_distance_103 : decode b_M_distance 103 = .ok (.imul, 1) := by decide +kernel
theorem d_M_distance_104 : decode b_M_distance 104 = .ok (.iload 5, 2) := by decide +kernel
theorem d_M_distance_106 : decode b_M_distance 106 = .ok (.iadd, 1) := by decide +kernel
theorem d_M_distance_107 : decode b_M_distance 107 = .ok (.iconst 1, 1) := by decide +kernel
theorem d_M_distance_108 : decode b_M_distance 108 = .ok (.isub, 1) := by decide +kernel
theorem d_M_distance_109 : decode b_M_distance 109 = .ok (.baload, 1) := by decide +kernel
theorem d_M_distance_110 : decode b_M_distance 110 = .ok (.if_icmp .ne 7, 3) := by decide +kernel
theorem d_M_distance_113 : decode b_M_distance 113 = .ok (.iconst 0, 1) := by decide +kernel
theorem d_M_distance_114 : decode b_M_distance 114 = .ok (.goto 4, 3) := by decide +kernel
theorem d_M_distance_117 : decode b_M_distance 117 = .ok (.iconst 1, 1) := by decide +kernel
theorem d_M_distance_118 : decode b_M_distance 118 = .ok (.iadd, 1) := by decide +kernel
theorem d_M_distance_119 : decode b_M_distance 119 = .ok (.istore 6, 2) := by decide +kernel
theorem d_M_distance_121 : decode b_M_distance 121 = .ok (.aload_n 0, 1) := by decide +kernel
theorem d_M_distance_122 : decode b_M_distance 122 = .ok (.getfield 23, 3) := by decide +kernel
theorem d_M_distance_125 : decode b_M_distance 125 = .ok (.iload_n 3, 1) := by decide +kernel
theorem d_M_distance_126 : decode b_M_distance 126 = .ok (.iload 4, 2) := by decide +kernel
theorem d_M_distance_128 : decode b_M_distance 128 = .ok (.iconst 1, 1) := by decide +kernel
theorem d_M_distance_129 : decode b_M_distance 129 = .ok (.isub, 1) := by decide +kernel
theorem d_M_distance_130 : decode b_M_distance 130 = .ok (.imul, 1) := by decide +kernel
theorem d_M_distance_131 : decode b_M_distance 131 = .ok (.iload 5, 2) := by decide +kernel
theorem d_M_distance_133 : decode b_M_distance 133 = .ok (.iadd, 1) := by decide +kernel
theorem d_M_distance_134 : decode b_M_distance 134 = .ok (.iaload, 1) := by decide +kernel
theorem d_M_distance_135 : decode b_M_distance 135 = .ok (.iconst 1, 1) := by decide +kernel
theorem d_M_distance_136 : decode b_M_distance 136 = .ok (.iadd, 1) := by decide +kernel
theorem d_M_distance_137 : decode b_M_distance 137 = .ok (.iload 6, 2) := by decide +kernel
theorem d_M_distance_139 : decode b_M_distance 139 = .ok (.if_icmp .ge 21, 3) := by decide +kernel
theorem d_M_distance_142 : decode b_M_distance 142 = .ok (.aload_n 0, 1) := by decide +kernel
theorem d_M_distance_143 : decode b_M_distance 143 = .ok (.getfield 23, 3) := by decide +kernel
theorem d_M_distance_146 : decode b_M_distance 146 = .ok (.iload_n 3, 1) := by decide +kernel
theorem d_M_distance_147 : decode b_M_distance 147 = .ok (.iload 4, 2) := by decide +kernel
theorem d_M_distance_149 : decode b_M_distance 149 = .ok (.iconst 1, 1) := by decide +kernel
theorem d_M_distance_150 : decode b_M_distance 150 = .ok (.isub, 1) := by decide +kernel
theorem d_M_distance_151 : decode b_M_distance 151 = .ok (.imul, 1) := by decide +kernel
theorem d_M_distance_152 : decode b_M_distance 152 = .ok (.iload 5, 2) := by decide +kernel
theorem d_M_distance_154 : decode b_M_distance 154 = .ok (.iadd, 1) := by decide +kernel
theorem d_M_distance_155 : decode b_M_distance 155 = .ok (.iaload, 1) := by decide +kernel
theorem d_M_distance_156 : decode b_M_distance 156 = .ok (.iconst 1, 1) := by decide +kernel
theorem d_M_distance_157 : decode b_M_distance 157 = .ok (.iadd, 1) := by decide +kernel
theorem d_M_distance_158 : decode b_M_distance 158 = .ok (.istore 6, 2) := by decide +kernel
theorem d_M_distance_160 : decode b_M_distance 160 = .ok (.aload_n 0, 1) := by decide +kernel
theorem d_M_distance_161 : decode b_M_distance 161 = .ok (.getfield 23, 3) := by decide +kernel
theorem d_M_distance_164 : decode b_M_distance 164 = .ok (.iload_n 3, 1) := by decide +kernel
theorem d_M_distance_165 : decode b_M_distance 165 = .ok (.iload 4, 2) := by decide +kernel
theorem d_M_distance_167 : decode b_M_distance 167 = .ok (.imul, 1) := by decide +kernel
theorem d_M_distance_168 : decode b_M_distance 168 = .ok (.iload 5, 2) := by decide +kernel
theorem d_M_distance_170 : decode b_M_distance 170 = .ok (.iadd, 1) := by decide +kernel
theorem d_M_distance_171 : decode b_M_distance 171 = .ok (.iconst 1, 1) := by decide +kernel
theorem d_M_distance_172 : decode b_M_distance 172 = .ok (.isub, 1) := by decide +kernel
theorem d_M_distance_173 : decode b_M_distance 173 = .ok (.iaload, 1) := by decide +kernel
theorem d_M_distance_174 : decode b_M_distance 174 = .ok (.iconst 1, 1) := by decide +kernel
theorem d_M_distance_175 : decode b_M_distance 175 = .ok (.iadd, 1) := by decide +kernel
theorem d_M_distance_176 : decode b_M_distance 176 = .ok (.iload 6, 2) := by decide +kernel
theorem d_M_distance_178 : decode b_M_distance 178 = .ok (.if_icmp .ge 21, 3) := by decide +kernel
theorem d_M_distance_181 : decode b_M_distance 181 = .ok (.aload_n 0, 1) := by decide +kernel
theorem d_M_distance_182 : decode b_M_distance 182 = .ok (.getfield 23, 3) := by decide +kernel
theorem d_M_distance_185 : decode b_M_distance 185 = .ok (.iload_n 3, 1) := by decide +kernel
theorem d_M_distance_186 : decode b_M_distance 186 = .ok (.iload 4, 2) := by decide +kernel
theorem d_M_distance_188 : decode b_M_distance 188 = .ok (.imul, 1) := by decide +kernel
theorem d_M_distance_189 : decode b_M_distance 189 = .ok (.iload 5, 2) := by decide +kernel
theorem d_M_distance_191 : decode b_M_distance 191 = .ok (.iadd, 1) := by decide +kernel
theorem d_M_distance_192 : decode b_M_distance 192 = .ok (.iconst 1, 1) := by decide +kernel
theorem d_M_distance_193 : decode b_M_distance 193 = .ok (.isub, 1) := by decide +kernel
theorem d_M_distance_194 : decode b_M_distance 194 = .ok (.iaload, 1) := by decide +kernel
theorem d_M_distance_195 : decode b_M_distance 195 = .ok (.iconst 1, 1) := by decide +kernel
theorem d_M_distance_196 : decode b_M_distance 196 = .ok (.iadd, 1) := by decide +kernel
theorem d_M_distance_197 : decode b_M_distance 197 = .ok (.istore 6, 2) := by decide +kernel
theorem d_M_distance_199 : decode b_M_distance 199 = .ok (.aload_n 0, 1) := by decide +kernel
theorem d_M_distance_200 : decode b_M_distance 200 = .ok (.getfield 23, 3) := by decide +kernel
theorem d_M_distance_203 : decode b_M_distance 203 = .ok (.iload_n 3, 1) := by decide +kernel
theorem d_M_distance_204 : decode b_M_distance 204 = .ok (.iload 4, 2) := by decide +kernel
theorem d_M_distance_206 : decode b_M_distance 206 = .ok (.imul, 1) := by decide +kernel
theorem d_M_distance_207 : decode b_M_distance 207 = .ok (.iload 5, 2) := by decide +kernel
theorem d_M_distance_209 : decode b_M_distance 209 = .ok (.iadd, 1) := by decide +kernel
theorem d_M_distance_210 : decode b_M_distance 210 = .ok (.iload 6, 2) := by decide +kernel
theorem d_M_distance_212 : decode b_M_distance 212 = .ok (.iastore, 1) := by decide +kernel
theorem d_M_distance_213 : decode b_M_distance 213 = .ok (.iinc 5 1, 3) := by decide +kernel
theorem d_M_distance_216 : decode b_M_distance 216 = .ok (.goto (-196), 3) := by decide +kernel
theorem d_M_distance_219 : decode b_M_distance 219 = .ok (.iinc 4 1, 3) := by decide +kernel
theorem d_M_distance_222 : decode b_M_distance 222 = .ok (.goto (-216), 3) := by decide +kernel
theorem d_M_distance_225 : decode b_M_distance 225 = .ok (.aload_n 0, 1) := by decide +kernel
theorem d_M_distance_226 : decode b_M_distance 226 = .ok (.getfield 23, 3) := by decide +kernel
theorem d_M_distance_229 : decode b_M_distance 229 = .ok (.iload_n 3, 1) := by decide +kernel
theorem d_M_distance_230 : decode b_M_distance 230 = .ok (.aload_n 0, 1) := by decide +kernel
theorem d_M_distance_231 : decode b_M_distance 231 = .ok (.getfield 16, 3) := by decide +kernel
theorem d_M_distance_234 : decode b_M_distance 234 = .ok (.iload_n 1, 1) := by decide +kernel
theorem d_M_distance_235 : decode b_M_distance 235 = .ok (.iaload, 1) := by decide +kernel
theorem d_M_distance_236 : decode b_M_distance 236 = .ok (.imul, 1) := by decide +kernel
theorem d_M_distance_237 : decode b_M_distance 237 = .ok (.aload_n 0, 1) := by decide +kernel
theorem d_M_distance_238 : decode b_M_distance 238 = .ok (.getfield 16, 3) := by decide +kernel
theorem d_M_distance_241 : decode b_M_distance 241 = .ok (.iload_n 2, 1) := by decide +kernel
theorem d_M_distance_242 : decode b_M_distance 242 = .ok (.iaload, 1) := by decide +kernel
theorem d_M_distance_243 : decode b_M_distance 243 = .ok (.iadd, 1) := by decide +kernel
theorem d_M_distance_244 : decode b_M_distance 244 = .ok (.iaload, 1) := by decide +kernel
theorem d_M_distance_245 : decode b_M_distance 245 = .ok (.ireturn, 1) := by decide +kernel
theorem d_M_nearest_0 : decode b_M_nearest 0 = .ok (.aload_n 0, 1) := by decide +kernel
theorem d_M_nearest_1 : decode b_M_nearest 1 = .ok (.invokevirtual 65, 3) := by decide +kernel
theorem d_M_nearest_4 : decode b_M_nearest 4 = .ok (.ifCond .ne 5, 3) := by decide +kernel
theorem d_M_nearest_7 : decode b_M_nearest 7 = .ok (.iconst (-1), 1) := by decide +kernel
theorem d_M_nearest_8 : decode b_M_nearest 8 = .ok (.ireturn, 1) := by decide +kernel
theorem d_M_nearest_9 : decode b_M_nearest 9 = .ok (.aload_n 0, 1) := by decide +kernel
theorem d_M_nearest_10 : decode b_M_nearest 10 = .ok (.sipush 150, 3) := by decide +kernel
theorem d_M_nearest_13 : decode b_M_nearest 13 = .ok (.iconst 1, 1) := by decide +kernel
theorem d_M_nearest_14 : decode b_M_nearest 14 = .ok (.invokevirtual 51, 3) := by decide +kernel
theorem d_M_nearest_17 : decode b_M_nearest 17 = .ok (.bipush (-2), 2) := by decide +kernel
theorem d_M_nearest_19 : decode b_M_nearest 19 = .ok (.istore_n 1, 1) := by decide +kernel
theorem d_M_nearest_20 : decode b_M_nearest 20 = .ok (.bipush 100, 2) := by decide +kernel
theorem d_M_nearest_22 : decode b_M_nearest 22 = .ok (.istore_n 2, 1) := by decide +kernel
theorem d_M_nearest_23 : decode b_M_nearest 23 = .ok (.iconst 0, 1) := by decide +kernel
theorem d_M_nearest_24 : decode b_M_nearest 24 = .ok (.istore_n 3, 1) := by decide +kernel
theorem d_M_nearest_25 : decode b_M_nearest 25 = .ok (.iload_n 3, 1) := by decide +kernel
theorem d_M_nearest_26 : decode b_M_nearest 26 = .ok (.aload_n 0, 1) := by decide +kernel
theorem d_M_nearest_27 : decode b_M_nearest 27 = .ok (.getfield 48, 3) := by decide +kernel
theorem d_M_nearest_30 : decode b_M_nearest 30 = .ok (.if_icmp .ge 33, 3) := by decide +kernel
theorem d_M_nearest_33 : decode b_M_nearest 33 = .ok (.aload_n 0, 1) := by decide +kernel
theorem d_M_nearest_34 : decode b_M_nearest 34 = .ok (.iload_n 3, 1) := by decide +kernel
theorem d_M_nearest_35 : decode b_M_nearest 35 = .ok (.sipush 150, 3) := by decide +kernel
theorem d_M_nearest_38 : decode b_M_nearest 38 = .ok (.invokevirtual 69, 3) := by decide +kernel
theorem d_M_nearest_41 : decode b_M_nearest 41 = .ok (.istore 4, 2) := by decide +kernel
theorem d_M_nearest_43 : decode b_M_nearest 43 = .ok (.iload 4, 2) := by decide +kernel
theorem d_M_nearest_45 : decode b_M_nearest 45 = .ok (.iload_n 2, 1) := by decide +kernel
theorem d_M_nearest_46 : decode b_M_nearest 46 = .ok (.if_icmp .lt 6, 3) := by decide +kernel
theorem d_M_nearest_49 : decode b_M_nearest 49 = .ok (.goto 8, 3) := by decide +kernel
theorem d_M_nearest_52 : decode b_M_nearest 52 = .ok (.iload_n 3, 1) := by decide +kernel
theorem d_M_nearest_53 : decode b_M_nearest 53 = .ok (.istore_n 1, 1) := by decide +kernel
theorem d_M_nearest_54 : decode b_M_nearest 54 = .ok (.iload 4, 2) := by decide +kernel
theorem d_M_nearest_56 : decode b_M_nearest 56 = .ok (.istore_n 2, 1) := by decide +kernel
theorem d_M_nearest_57 : decode b_M_nearest 57 = .ok (.iinc 3 1, 3) := by decide +kernel
theorem d_M_nearest_60 : decode b_M_nearest 60 = .ok (.goto (-35), 3) := by decide +kernel
theorem d_M_nearest_63 : decode b_M_nearest 63 = .ok (.iload_n 1, 1) := by decide +kernel
theorem d_M_nearest_64 : decode b_M_nearest 64 = .ok (.ireturn, 1) := by decide +kernel
theorem d_M_plain_0 : decode b_M_plain 0 = .ok (.aload_n 0, 1) := by decide +kernel
theorem d_M_plain_1 : decode b_M_plain 1 = .ok (.invokevirtual 65, 3) := by decide +kernel
theorem d_M_plain_4 : decode b_M_plain 4 = .ok (.ifCond .eq 13, 3) := by decide +kernel
theorem d_M_plain_7 : decode b_M_plain 7 = .ok (.aload_n 0, 1) := by decide +kernel
theorem d_M_plain_8 : decode b_M_plain 8 = .ok (.getfield 48, 3) := by decide +kernel
theorem d_M_plain_11 : decode b_M_plain 11 = .ok (.sipush 150, 3) := by decide +kernel
theorem d_M_plain_14 : decode b_M_plain 14 = .ok (.if_icmp .ne 5, 3) := by decide +kernel
theorem d_M_plain_17 : decode b_M_plain 17 = .ok (.iconst (-1), 1) := by decide +kernel
theorem d_M_plain_18 : decode b_M_plain 18 = .ok (.ireturn, 1) := by decide +kernel
theorem d_M_plain_19 : decode b_M_plain 19 = .ok (.aload_n 0, 1) := by decide +kernel
theorem d_M_plain_20 : decode b_M_plain 20 = .ok (.aload_n 0, 1) := by decide +kernel
theorem d_M_plain_21 : decode b_M_plain 21 = .ok (.getfield 48, 3) := by decide +kernel
theorem d_M_plain_24 : decode b_M_plain 24 = .ok (.iconst 0, 1) := by decide +kernel
theorem d_M_plain_25 : decode b_M_plain 25 = .ok (.invokevirtual 51, 3) := by decide +kernel
theorem d_M_plain_28 : decode b_M_plain 28 = .ok (.aload_n 0, 1) := by decide +kernel
theorem d_M_plain_29 : decode b_M_plain 29 = .ok (.dup, 1) := by decide +kernel
theorem d_M_plain_30 : decode b_M_plain 30 = .ok (.getfield 48, 3) := by decide +kernel
theorem d_M_plain_33 : decode b_M_plain 33 = .ok (.iconst 1, 1) := by decide +kernel
theorem d_M_plain_34 : decode b_M_plain 34 = .ok (.iadd, 1) := by decide +kernel
theorem d_M_plain_35 : decode b_M_plain 35 = .ok (.putfield 48, 3) := by decide +kernel
theorem d_M_plain_38 : decode b_M_plain 38 = .ok (.aload_n 0, 1) := by decide +kernel
theorem d_M_plain_39 : decode b_M_plain 39 = .ok (.getfield 48, 3) := by decide +kernel
theorem d_M_plain_42 : decode b_M_plain 42 = .ok (.ireturn, 1) := by decide +kernel
theorem d_L_law_0 : decode b_L_law 0 = .ok (.new 7, 3) := by decide +kernel
theorem d_L_law_3 : decode b_L_law 3 = .ok (.dup, 1) := by decide +kernel
theorem d_L_law_4 : decode b_L_law 4 = .ok (.invokespecial 9, 3) := by decide +kernel
theorem d_L_law_7 : decode b_L_law 7 = .ok (.astore_n 1, 1) := by decide +kernel
theorem d_L_law_8 : decode b_L_law 8 = .ok (.new 10, 3) := by decide +kernel
theorem d_L_law_11 : decode b_L_law 11 = .ok (.dup, 1) := by decide +kernel
theorem d_L_law_12 : decode b_L_law 12 = .ok (.invokespecial 12, 3) := by decide +kernel
theorem d_L_law_15 : decode b_L_law 15 = .ok (.astore_n 2, 1) := by decide +kernel
theorem d_L_law_16 : decode b_L_law 16 = .ok (.iconst 0, 1) := by decide +kernel
theorem d_L_law_17 : decode b_L_law 17 = .ok (.istore_n 3, 1) := by decide +kernel
theorem d_L_law_18 : decode b_L_law 18 = .ok (.iload_n 3, 1) := by decide +kernel
theorem d_L_law_19 : decode b_L_law 19 = .ok (.aload_n 0, 1) := by decide +kernel
theorem d_L_law_20 : decode b_L_law 20 = .ok (.arraylength, 1) := by decide +kernel
theorem d_L_law_21 : decode b_L_law 21 = .ok (.bipush 6, 2) := by decide +kernel
theorem d_L_law_23 : decode b_L_law 23 = .ok (.isub, 1) := by decide +kernel
theorem d_L_law_24 : decode b_L_law 24 = .ok (.if_icmp .gt 320, 3) := by decide +kernel
theorem d_L_law_27 : decode b_L_law 27 = .ok (.aload_n 0, 1) := by decide +kernel
theorem d_L_law_28 : decode b_L_law 28 = .ok (.iload_n 3, 1) := by decide +kernel
theorem d_L_law_29 : decode b_L_law 29 = .ok (.iaload, 1) := by decide +kernel
theorem d_L_law_30 : decode b_L_law 30 = .ok (.bipush 15, 2) := by decide +kernel
theorem d_L_law_32 : decode b_L_law 32 = .ok (.iand, 1) := by decide +kernel
theorem d_L_law_33 : decode b_L_law 33 = .ok (.tableswitch 305 0 9 #[55, 118, 141, 154, 187, 200, 223, 256, 279, 292], 55) := by decide +kernel
theorem d_L_law_88 : decode b_L_law 88 = .ok (.aload_n 1, 1) := by decide +kernel
theorem d_L_law_89 : decode b_L_law 89 = .ok (.aload_n 0, 1) := by decide +kernel
theorem d_L_law_90 : decode b_L_law 90 = .ok (.iload_n 3, 1) := by decide +kernel
theorem d_L_law_91 : decode b_L_law 91 = .ok (.iconst 1, 1) := by decide +kernel
theorem d_L_law_92 : decode b_L_law 92 = .ok (.iadd, 1) := by decide +kernel
theorem d_L_law_93 : decode b_L_law 93 = .ok (.iaload, 1) := by decide +kernel
theorem d_L_law_94 : decode b_L_law 94 = .ok (.aload_n 0, 1) := by decide +kernel
theorem d_L_law_95 : decode b_L_law 95 = .ok (.iload_n 3, 1) := by decide +kernel
theorem d_L_law_96 : decode b_L_law 96 = .ok (.iconst 2, 1) := by decide +kernel
theorem d_L_law_97 : decode b_L_law 97 = .ok (.iadd, 1) := by decide +kernel
theorem d_L_law_98 : decode b_L_law 98 = .ok (.iaload, 1) := by decide +kernel
theorem d_L_law_99 : decode b_L_law 99 = .ok (.aload_n 0, 1) := by decide +kernel
theorem d_L_law_100 : decode b_L_law 100 = .ok (.iload_n 3, 1) := by decide +kernel
theorem d_L_law_101 : decode b_L_law 101 = .ok (.iconst 3, 1) := by decide +kernel
theorem d_L_law_102 : decode b_L_law 102 = .ok (.iadd, 1) := by decide +kernel
theorem d_L_law_103 : decode b_L_law 103 = .ok (.iaload, 1) := by decide +kernel
theorem d_L_law_104 : decode b_L_law 104 = .ok (.aload_n 0, 1) := by decide +kernel
theorem d_L_law_105 : decode b_L_law 105 = .ok (.iload_n 3, 1) := by decide +kernel
theorem d_L_law_106 : decode b_L_law 106 = .ok (.iconst 4, 1) := by decide +kernel
theorem d_L_law_107 : decode b_L_law 107 = .ok (.iadd, 1) := by decide +kernel
theorem d_L_law_108 : decode b_L_law 108 = .ok (.iaload, 1) := by decide +kernel
theorem d_L_law_109 : decode b_L_law 109 = .ok (.aload_n 0, 1) := by decide +kernel
theorem d_L_law_110 : decode b_L_law 110 = .ok (.iload_n 3, 1) := by decide +kernel
theorem d_L_law_111 : decode b_L_law 111 = .ok (.iconst 5, 1) := by decide +kernel
theorem d_L_law_112 : decode b_L_law 112 = .ok (.iadd, 1) := by decide +kernel
theorem d_L_law_113 : decode b_L_law 113 = .ok (.iaload, 1) := by decide +kernel
theorem d_L_law_114 : decode b_L_law 114 = .ok (.invokevirtual 13, 3) := by decide +kernel
theorem d_L_law_117 : decode b_L_law 117 = .ok (.aload_n 2, 1) := by decide +kernel
theorem d_L_law_118 : decode b_L_law 118 = .ok (.aload_n 0, 1) := by decide +kernel
theorem d_L_law_119 : decode b_L_law 119 = .ok (.iload_n 3, 1) := by decide +kernel
theorem d_L_law_120 : decode b_L_law 120 = .ok (.iconst 1, 1) := by decide +kernel
theorem d_L_law_121 : decode b_L_law 121 = .ok (.iadd, 1) := by decide +kernel
theorem d_L_law_122 : decode b_L_law 122 = .ok (.iaload, 1) := by decide +kernel
theorem d_L_law_123 : decode b_L_law 123 = .ok (.aload_n 0, 1) := by decide +kernel
theorem d_L_law_124 : decode b_L_law 124 = .ok (.iload_n 3, 1) := by decide +kernel
theorem d_L_law_125 : decode b_L_law 125 = .ok (.iconst 2, 1) := by decide +kernel
theorem d_L_law_126 : decode b_L_law 126 = .ok (.iadd, 1) := by decide +kernel
theorem d_L_law_127 : decode b_L_law 127 = .ok (.iaload, 1) := by decide +kernel
theorem d_L_law_128 : decode b_L_law 128 = .ok (.aload_n 0, 1) := by decide +kernel
theorem d_L_law_129 : decode b_L_law 129 = .ok (.iload_n 3, 1) := by decide +kernel
theorem d_L_law_130 : decode b_L_law 130 = .ok (.iconst 3, 1) := by decide +kernel
theorem d_L_law_131 : decode b_L_law 131 = .ok (.iadd, 1) := by decide +kernel
theorem d_L_law_132 : decode b_L_law 132 = .ok (.iaload, 1) := by decide +kernel
theorem d_L_law_133 : decode b_L_law 133 = .ok (.aload_n 0, 1) := by decide +kernel
theorem d_L_law_134 : decode b_L_law 134 = .ok (.iload_n 3, 1) := by decide +kernel
theorem d_L_law_135 : decode b_L_law 135 = .ok (.iconst 4, 1) := by decide +kernel
theorem d_L_law_136 : decode b_L_law 136 = .ok (.iadd, 1) := by decide +kernel
theorem d_L_law_137 : decode b_L_law 137 = .ok (.iaload, 1) := by decide +kernel
theorem d_L_law_138 : decode b_L_law 138 = .ok (.aload_n 0, 1) := by decide +kernel
theorem d_L_law_139 : decode b_L_law 139 = .ok (.iload_n 3, 1) := by decide +kernel
theorem d_L_law_140 : decode b_L_law 140 = .ok (.iconst 5, 1) := by decide +kernel
theorem d_L_law_141 : decode b_L_law 141 = .ok (.iadd, 1) := by decide +kernel
theorem d_L_law_142 : decode b_L_law 142 = .ok (.iaload, 1) := by decide +kernel
theorem d_L_law_143 : decode b_L_law 143 = .ok (.invokevirtual 17, 3) := by decide +kernel
theorem d_L_law_146 : decode b_L_law 146 = .ok (.if_icmp .eq 192, 3) := by decide +kernel
theorem d_L_law_149 : decode b_L_law 149 = .ok (.iconst 0, 1) := by decide +kernel
theorem d_L_law_150 : decode b_L_law 150 = .ok (.ireturn, 1) := by decide +kernel
theorem d_L_law_151 : decode b_L_law 151 = .ok (.aload_n 1, 1) := by decide +kernel
theorem d_L_law_152 : decode b_L_law 152 = .ok (.aload_n 0, 1) := by decide +kernel
theorem d_L_law_153 : decode b_L_law 153 = .ok (.iload_n 3, 1) := by decide +kernel
theorem d_L_law_154 : decode b_L_law 154 = .ok (.iconst 1, 1) := by decide +kernel
theorem d_L_law_155 : decode b_L_law 155 = .ok (.iadd, 1) := by decide +kernel
theorem d_L_law_156 : decode b_L_law 156 = .ok (.iaload, 1) := by decide +kernel
theorem d_L_law_157 : decode b_L_law 157 = .ok (.invokevirtual 18, 3) := by decide +kernel
theorem d_L_law_160 : decode b_L_law 160 = .ok (.aload_n 2, 1) := by decide +kernel
theorem d_L_law_161 : decode b_L_law 161 = .ok (.aload_n 0, 1) := by decide +kernel
theorem d_L_law_162 : decode b_L_law 162 = .ok (.iload_n 3, 1) := by decide +kernel
theorem d_L_law_163 : decode b_L_law 163 = .ok (.iconst 1, 1) := by decide +kernel
theorem d_L_law_164 : decode b_L_law 164 = .ok (.iadd, 1) := by decide +kernel
theorem d_L_law_165 : decode b_L_law 165 = .ok (.iaload, 1) := by decide +kernel
theorem d_L_law_166 : decode b_L_law 166 = .ok (.invokevirtual 22, 3) := by decide +kernel
theorem d_L_law_169 : decode b_L_law 169 = .ok (.if_icmp .eq 169, 3) := by decide +kernel
theorem d_L_law_172 : decode b_L_law 172 = .ok (.iconst 0, 1) := by decide +kernel
theorem d_L_law_173 : decode b_L_law 173 = .ok (.ireturn, 1) := by decide +kernel
theorem d_L_law_174 : decode b_L_law 174 = .ok (.aload_n 1, 1) := by decide +kernel
theorem d_L_law_175 : decode b_L_law 175 = .ok (.invokevirtual 23, 3) := by decide +kernel
theorem d_L_law_178 : decode b_L_law 178 = .ok (.aload_n 2, 1) := by decide +kernel
theorem d_L_law_179 : decode b_L_law 179 = .ok (.invokevirtual 27, 3) := by decide +kernel
theorem d_L_law_182 : decode b_L_law 182 = .ok (.if_icmp .eq 156, 3) := by decide +kernel
theorem d_L_law_185 : decode b_L_law 185 = .ok (.iconst 0, 1) := by decide +kernel
theorem d_L_law_186 : decode b_L_law 186 = .ok (.ireturn, 1) := by decide +kernel
theorem d_L_law_187 : decode b_L_law 187 = .ok (.aload_n 1, 1) := by decide +kernel
theorem d_L_law_188 : decode b_L_law 188 = .ok (.aload_n 0, 1) := by decide +kernel
theorem d_L_law_189 : decode b_L_law 189 = .ok (.iload_n 3, 1) := by decide +kernel
theorem d_L_law_190 : decode b_L_law 190 = .ok (.iconst 1, 1) := by decide +kernel
theorem d_L_law_191 : decode b_L_law 191 = .ok (.iadd, 1) := by decide +kernel
theorem d_L_law_192 : decode b_L_law 192 = .ok (.iaload, 1) := by decide +kernel
theorem d_L_law_193 : decode b_L_law 193 = .ok (.aload_n 0, 1) := by decide +kernel
theorem d_L_law_194 : decode b_L_law 194 = .ok (.iload_n 3, 1) := by decide +kernel
theorem d_L_law_195 : decode b_L_law 195 = .ok (.iconst 2, 1) := by decide +kernel
theorem d_L_law_196 : decode b_L_law 196 = .ok (.iadd, 1) := by decide +kernel
theorem d_L_law_197 : decode b_L_law 197 = .ok (.iaload, 1) := by decide +kernel
theorem d_L_law_198 : decode b_L_law 198 = .ok (.invokevirtual 28, 3) := by decide +kernel
theorem d_L_law_201 : decode b_L_law 201 = .ok (.aload_n 2, 1) := by decide +kernel
theorem d_L_law_202 : decode b_L_law 202 = .ok (.aload_n 0, 1) := by decide +kernel
theorem d_L_law_203 : decode b_L_law 203 = .ok (.iload_n 3, 1) := by decide +kernel
theorem d_L_law_204 : decode b_L_law 204 = .ok (.iconst 1, 1) := by decide +kernel
theorem d_L_law_205 : decode b_L_law 205 = .ok (.iadd, 1) := by decide +kernel
theorem d_L_law_206 : decode b_L_law 206 = .ok (.iaload, 1) := by decide +kernel
theorem d_L_law_207 : decode b_L_law 207 = .ok (.aload_n 0, 1) := by decide +kernel
theorem d_L_law_208 : decode b_L_law 208 = .ok (.iload_n 3, 1) := by decide +kernel
theorem d_L_law_209 : decode b_L_law 209 = .ok (.iconst 2, 1) := by decide +kernel
theorem d_L_law_210 : decode b_L_law 210 = .ok (.iadd, 1) := by decide +kernel
theorem d_L_law_211 : decode b_L_law 211 = .ok (.iaload, 1) := by decide +kernel
theorem d_L_law_212 : decode b_L_law 212 = .ok (.invokevirtual 32, 3) := by decide +kernel
theorem d_L_law_215 : decode b_L_law 215 = .ok (.if_icmp .eq 123, 3) := by decide +kernel
theorem d_L_law_218 : decode b_L_law 218 = .ok (.iconst 0, 1) := by decide +kernel
theorem d_L_law_219 : decode b_L_law 219 = .ok (.ireturn, 1) := by decide +kernel
theorem d_L_law_220 : decode b_L_law 220 = .ok (.aload_n 1, 1) := by decide +kernel
theorem d_L_law_221 : decode b_L_law 221 = .ok (.invokevirtual 33, 3) := by decide +kernel
theorem d_L_law_224 : decode b_L_law 224 = .ok (.aload_n 2, 1) := by decide +kernel
theorem d_L_law_225 : decode b_L_law 225 = .ok (.invokevirtual 36, 3) := by decide +kernel
theorem d_L_law_228 : decode b_L_law 228 = .ok (.if_icmp .eq 110, 3) := by decide +kernel
theorem d_L_law_231 : decode b_L_law 231 = .ok (.iconst 0, 1) := by decide +kernel
theorem d_L_law_232 : decode b_L_law 232 = .ok (.ireturn, 1) := by decide +kernel
theorem d_L_law_233 : decode b_L_law 233 = .ok (.aload_n 1, 1) := by decide +kernel
theorem d_L_law_234 : decode b_L_law 234 = .ok (.aload_n 0, 1) := by decide +kernel
theorem d_L_law_235 : decode b_L_law 235 = .ok (.iload_n 3, 1) := by decide +kernel
theorem d_L_law_236 : decode b_L_law 236 = .ok (.iconst 1, 1) := by decide +kernel
theorem d_L_law_237 : decode b_L_law 237 = .ok (.iadd, 1) := by decide +kernel
theorem d_L_law_238 : decode b_L_law 238 = .ok (.iaload, 1) := by decide +kernel
theorem d_L_law_239 : decode b_L_law 239 = .ok (.invokevirtual 37, 3) := by decide +kernel
theorem d_L_law_242 : decode b_L_law 242 = .ok (.aload_n 2, 1) := by decide +kernel
theorem d_L_law_243 : decode b_L_law 243 = .ok (.aload_n 0, 1) := by decide +kernel
theorem d_L_law_244 : decode b_L_law 244 = .ok (.iload_n 3, 1) := by decide +kernel
theorem d_L_law_245 : decode b_L_law 245 = .ok (.iconst 1, 1) := by decide +kernel
theorem d_L_law_246 : decode b_L_law 246 = .ok (.iadd, 1) := by decide +kernel
theorem d_L_law_247 : decode b_L_law 247 = .ok (.iaload, 1) := by decide +kernel
theorem d_L_law_248 : decode b_L_law 248 = .ok (.invokevirtual 40, 3) := by decide +kernel
theorem d_L_law_251 : decode b_L_law 251 = .ok (.if_icmp .eq 87, 3) := by decide +kernel
theorem d_L_law_254 : decode b_L_law 254 = .ok (.iconst 0, 1) := by decide +kernel
theorem d_L_law_255 : decode b_L_law 255 = .ok (.ireturn, 1) := by decide +kernel
theorem d_L_law_256 : decode b_L_law 256 = .ok (.aload_n 1, 1) := by decide +kernel
theorem d_L_law_257 : decode b_L_law 257 = .ok (.aload_n 0, 1) := by decide +kernel
theorem d_L_law_258 : decode b_L_law 258 = .ok (.iload_n 3, 1) := by decide +kernel
theorem d_L_law_259 : decode b_L_law 259 = .ok (.iconst 1, 1) := by decide +kernel
theorem d_L_law_260 : decode b_L_law 260 = .ok (.iadd, 1) := by decide +kernel
theorem d_L_law_261 : decode b_L_law 261 = .ok (.iaload, 1) := by decide +kernel
theorem d_L_law_262 : decode b_L_law 262 = .ok (.aload_n 0, 1) := by decide +kernel
theorem d_L_law_263 : decode b_L_law 263 = .ok (.iload_n 3, 1) := by decide +kernel
theorem d_L_law_264 : decode b_L_law 264 = .ok (.iconst 2, 1) := by decide +kernel
theorem d_L_law_265 : decode b_L_law 265 = .ok (.iadd, 1) := by decide +kernel
theorem d_L_law_266 : decode b_L_law 266 = .ok (.iaload, 1) := by decide +kernel
theorem d_L_law_267 : decode b_L_law 267 = .ok (.invokevirtual 41, 3) := by decide +kernel
theorem d_L_law_270 : decode b_L_law 270 = .ok (.aload_n 2, 1) := by decide +kernel
theorem d_L_law_271 : decode b_L_law 271 = .ok (.aload_n 0, 1) := by decide +kernel
theorem d_L_law_272 : decode b_L_law 272 = .ok (.iload_n 3, 1) := by decide +kernel
theorem d_L_law_273 : decode b_L_law 273 = .ok (.iconst 1, 1) := by decide +kernel
theorem d_L_law_274 : decode b_L_law 274 = .ok (.iadd, 1) := by decide +kernel
theorem d_L_law_275 : decode b_L_law 275 = .ok (.iaload, 1) := by decide +kernel
theorem d_L_law_276 : decode b_L_law 276 = .ok (.aload_n 0, 1) := by decide +kernel
theorem d_L_law_277 : decode b_L_law 277 = .ok (.iload_n 3, 1) := by decide +kernel
theorem d_L_law_278 : decode b_L_law 278 = .ok (.iconst 2, 1) := by decide +kernel
theorem d_L_law_279 : decode b_L_law 279 = .ok (.iadd, 1) := by decide +kernel
theorem d_L_law_280 : decode b_L_law 280 = .ok (.iaload, 1) := by decide +kernel
theorem d_L_law_281 : decode b_L_law 281 = .ok (.invokevirtual 44, 3) := by decide +kernel
theorem d_L_law_284 : decode b_L_law 284 = .ok (.if_icmp .eq 54, 3) := by decide +kernel
theorem d_L_law_287 : decode b_L_law 287 = .ok (.iconst 0, 1) := by decide +kernel
theorem d_L_law_288 : decode b_L_law 288 = .ok (.ireturn, 1) := by decide +kernel
theorem d_L_law_289 : decode b_L_law 289 = .ok (.aload_n 1, 1) := by decide +kernel
theorem d_L_law_290 : decode b_L_law 290 = .ok (.aload_n 0, 1) := by decide +kernel
theorem d_L_law_291 : decode b_L_law 291 = .ok (.iload_n 3, 1) := by decide +kernel
theorem d_L_law_292 : decode b_L_law 292 = .ok (.iconst 1, 1) := by decide +kernel
theorem d_L_law_293 : decode b_L_law 293 = .ok (.iadd, 1) := by decide +kernel
theorem d_L_law_294 : decode b_L_law 294 = .ok (.iaload, 1) := by decide +kernel
theorem d_L_law_295 : decode b_L_law 295 = .ok (.invokevirtual 45, 3) := by decide +kernel
theorem d_L_law_298 : decode b_L_law 298 = .ok (.aload_n 2, 1) := by decide +kernel
theorem d_L_law_299 : decode b_L_law 299 = .ok (.aload_n 0, 1) := by decide +kernel
theorem d_L_law_300 : decode b_L_law 300 = .ok (.iload_n 3, 1) := by decide +kernel
theorem d_L_law_301 : decode b_L_law 301 = .ok (.iconst 1, 1) := by decide +kernel
theorem d_L_law_302 : decode b_L_law 302 = .ok (.iadd, 1) := by decide +kernel
theorem d_L_law_303 : decode b_L_law 303 = .ok (.iaload, 1) := by decide +kernel
theorem d_L_law_304 : decode b_L_law 304 = .ok (.invokevirtual 48, 3) := by decide +kernel
theorem d_L_law_307 : decode b_L_law 307 = .ok (.if_icmp .eq 31, 3) := by decide +kernel
theorem d_L_law_310 : decode b_L_law 310 = .ok (.iconst 0, 1) := by decide +kernel
theorem d_L_law_311 : decode b_L_law 311 = .ok (.ireturn, 1) := by decide +kernel
theorem d_L_law_312 : decode b_L_law 312 = .ok (.aload_n 1, 1) := by decide +kernel
theorem d_L_law_313 : decode b_L_law 313 = .ok (.invokevirtual 49, 3) := by decide +kernel
theorem d_L_law_316 : decode b_L_law 316 = .ok (.aload_n 2, 1) := by decide +kernel
theorem d_L_law_317 : decode b_L_law 317 = .ok (.invokevirtual 52, 3) := by decide +kernel
theorem d_L_law_320 : decode b_L_law 320 = .ok (.if_icmp .eq 18, 3) := by decide +kernel
theorem d_L_law_323 : decode b_L_law 323 = .ok (.iconst 0, 1) := by decide +kernel
theorem d_L_law_324 : decode b_L_law 324 = .ok (.ireturn, 1) := by decide +kernel
theorem d_L_law_325 : decode b_L_law 325 = .ok (.aload_n 1, 1) := by decide +kernel
theorem d_L_law_326 : decode b_L_law 326 = .ok (.invokevirtual 53, 3) := by decide +kernel
theorem d_L_law_329 : decode b_L_law 329 = .ok (.aload_n 2, 1) := by decide +kernel
theorem d_L_law_330 : decode b_L_law 330 = .ok (.invokevirtual 56, 3) := by decide +kernel
theorem d_L_law_333 : decode b_L_law 333 = .ok (.if_icmp .eq 5, 3) := by decide +kernel
theorem d_L_law_336 : decode b_L_law 336 = .ok (.iconst 0, 1) := by decide +kernel
theorem d_L_law_337 : decode b_L_law 337 = .ok (.ireturn, 1) := by decide +kernel
theorem d_L_law_338 : decode b_L_law 338 = .ok (.iinc 3 6, 3) := by decide +kernel
theorem d_L_law_341 : decode b_L_law 341 = .ok (.goto (-323), 3) := by decide +kernel
theorem d_L_law_344 : decode b_L_law 344 = .ok (.iconst 1, 1) := by decide +kernel
theorem d_L_law_345 : decode b_L_law 345 = .ok (.ireturn, 1) := by decide +kernel
end
section
-- generic rows of this claim: contracts in three shapes, call rules, rows on natural numbers, field rows (gen/kit.py)
abbrev rmd (d : Nat) : Room := { frames := d, cells := 0, slots := 0, locals := 30 * d }
abbrev tyK (cB cI : ClassId) : List (ClassId × FieldType) := [(cB, .byte), (cI, .int)]
/-- what the tables say, and what a contract asks of them: the world's kinds, the words of nest mates -/
def Kn (D : va_G) (cB cI : ClassId) (U : State) : Prop := va_K D cls (tyK cB cI) U ∧ ∀ w ∈ nest4, va_Nw w U
theorem Kn.warm {D : va_G} {cB cI : ClassId} {s U : State} (hW : s.WarmedH U.vm) (h : Kn D cB cI s) : Kn D cB cI U := ⟨va_K.moved hW.alike h.1, fun w hw => by
  obtain ⟨a, i, x, q, rfl⟩ := nest4_is w hw
  exact va_Nw.warmM hW (h.2 _ hw)⟩
theorem Kn.calling {D : va_G} {cB cI : ClassId} {U : State} {g : JFrame} {mk : MethodId} {a : Array Value} (h : Kn D cB cI U) : Kn D cB cI (U.calling g mk a) := ⟨va_K.moved (u := U) (U := U.calling g mk a) (Vm.Alike.refl U.vm) h.1, fun w hw => by
  obtain ⟨b, i, x, q, rfl⟩ := nest4_is w hw
  exact va_Nw.same rfl (u := U) (U := U.calling g mk a) rfl (h.2 _ hw)⟩
/-- what a body stands on -/
def Cx (p : Program) (s : State) (m : MethodId) (meth : Method) (c : Code) (args : Array Value) (cc : ByteArray) (own : String) (nL : Nat) (rt : Option FieldType) (D : va_G) (cB cI : ClassId) : Prop :=
  p.tables.exec = Jvm.exec ∧ c.code = cc ∧ c.maxLocals = nL ∧ meth.sig.returnType = rt ∧ meth.locks = false ∧ s.vm.findClass own = some m.cls ∧ (∀ w ∈ gt, w.before args s = true) ∧ Kn D cB cI s
/-- a contract of a method that changes no cell -/
def CtP (l : Launch) (y : MethodName) (b : ByteArray) (n : Nat) (rt : Option FieldType) (d : Nat) (D : va_G) (cB cI : ClassId) (av : List Value) (wc : va_W) (φ : Int32 → Prop) : Prop :=
  Met l y (.code y b n rt :: gt) (rmd d) (va_Pc av (fun U => va_P D cls wc U.heap ∧ Kn D cB cI U)) (vp_Si φ) 0 0 (fun _ => False)
/-- a contract of a method that answers an int (or boolean) and turns the cells wc into wn u -/
def CtI {S : Type} (l : Launch) (y : MethodName) (b : ByteArray) (n : Nat) (rt : Option FieldType) (d : Nat) (D : va_G) (cB cI : ClassId) (av : List Value) (wc : va_W) (φ : Int32 → S → Prop) (wn : S → va_W) : Prop :=
  ∀ sz : Nat, Met l y (.code y b n rt :: gt) (rmd d) (va_Pc av (fun U => U.heap.size = sz ∧ va_P D cls wc U.heap ∧ Kn D cB cI U ∧ va_D (fun _ => True) wc)) (va_Qi φ (fun u t => va_P D cls (wn u) t.heap ∧ va_D (va_A wc sz) (wn u)) (va_A wc sz)) 0 0 (va_A wc sz)
/-- the same, of a void method -/
def CtV {S : Type} (l : Launch) (y : MethodName) (b : ByteArray) (n : Nat) (d : Nat) (D : va_G) (cB cI : ClassId) (av : List Value) (wc : va_W) (φ : S → Prop) (wn : S → va_W) : Prop :=
  ∀ sz : Nat, Met l y (.code y b n none :: gt) (rmd d) (va_Pc av (fun U => U.heap.size = sz ∧ va_P D cls wc U.heap ∧ Kn D cB cI U ∧ va_D (fun _ => True) wc)) (va_Qv φ (fun u t => va_P D cls (wn u) t.heap ∧ va_D (va_A wc sz) (wn u)) (va_A wc sz)) 0 0 (va_A wc sz)
theorem CtP.mk {l : Launch} {y : MethodName} {b : ByteArray} {n : Nat} {ty : FieldType} {d : Nat} {D : va_G} {cB cI : ClassId} {av : List Value} {wc : va_W} {φ : Int32 → Prop} {own : String} (hy : plainName y.cls = true) (ho : y.cls = own) (hn : (lg_sl av).length ≤ n)
    (h : ∀ (p : Program) (e : Env) (s : State) (m : MethodId) (args : Array Value) (below : List Frame) (meth : Method) (c : Code) (Q : State → Prop) (ls : Array Slot), Cx p s m meth c args b own n (some ty) D cB cI → va_P D cls wc s.heap → lv_has ls n (lv_args 0 av) →
      (∀ (v : Int32) (pc : Nat) (ls : Array Slot), φ v → narrow ty (.int v) = .int v → decode b pc = .ok (.ireturn, 1) → W p l e (rmd d) s m args below meth c s.heap [] 0 0 Q (F0 m pc ls [.int v])) →
      W p l e (rmd d) s m args below meth c s.heap [] 0 0 Q (F0 m 0 ls [])) : CtP l y b n (some ty) d D cB cI av wc φ := by
  refine Met.ofW (cc := b) (maxL := n) (ret := some ty) hy rfl ?_
  intro p e s m args below meth c s₁ B hml hv
  obtain ⟨rfl, hP, hK⟩ := hv
  have hts := atoms_spec (ws := .code y b n (some ty) :: gt) B.pre
  rw [lg_entry_eq]
  refine h p e s m _ below meth c _ _ ⟨B.exec, B.bytes, hml, B.returns, B.notSynchronized, by rw [← ho]; exact findClass_of_methodNamed B.named, fun w hw => hts w (List.mem_cons_of_mem _ hw), hK⟩ hP (lv_entry av hn) ?_
  intro v pc ls hv hn hd
  exact W.zret B.exec B.bytes B.returns hn (fun t ht hW => ⟨v, rfl, hv, ht⟩) (fun q hq => by cases hq) hd B.notSynchronized
theorem CtI.mk {S : Type} {l : Launch} {y : MethodName} {b : ByteArray} {n : Nat} {ty : FieldType} {d : Nat} {D : va_G} {cB cI : ClassId} {av : List Value} {wc : va_W} {φ : Int32 → S → Prop} {wn : S → va_W} {own : String} (hy : plainName y.cls = true) (ho : y.cls = own) (hn : (lg_sl av).length ≤ n)
    (h : ∀ (p : Program) (e : Env) (s : State) (m : MethodId) (args : Array Value) (below : List Frame) (meth : Method) (c : Code) (A : Nat → Prop) (Q : State → Prop) (ls : Array Slot), Cx p s m meth c args b own n (some ty) D cB cI → va_P D cls wc s.heap → va_D A wc → va_S A s.heap s.heap [] → (∀ q : Nat, s.heap.size ≤ q → A q) → lv_has ls n (lv_args 0 av) →
      (∀ (v : Int32) (u : S) (H : Heap) (locs : List Loc) (pc : Nat) (ls : Array Slot), φ v u → narrow ty (.int v) = .int v → va_P D cls (wn u) H → va_D A (wn u) → va_S A s.heap H locs → decode b pc = .ok (.ireturn, 1) → W p l e (rmd d) s m args below meth c H locs 0 0 Q (F0 m pc ls [.int v])) →
      W p l e (rmd d) s m args below meth c s.heap [] 0 0 Q (F0 m 0 ls [])) : CtI l y b n (some ty) d D cB cI av wc φ wn := by
  intro sz
  refine Met.ofW (cc := b) (maxL := n) (ret := some ty) hy rfl ?_
  intro p e s m args below meth c s₁ B hml hv
  obtain ⟨rfl, hsz, hP, hK, hD0⟩ := hv
  subst hsz
  have hts := atoms_spec (ws := .code y b n (some ty) :: gt) B.pre
  rw [lg_entry_eq]
  refine h p e s m _ below meth c (va_A wc s.heap.size) _ _ ⟨B.exec, B.bytes, hml, B.returns, B.notSynchronized, by rw [← ho]; exact findClass_of_methodNamed B.named, fun w hw => hts w (List.mem_cons_of_mem _ hw), hK⟩ hP (hD0.self (sz := s.heap.size)) va_S.rf (fun q h => Or.inr h) (lv_entry av hn) ?_
  intro v u H locs pc ls hv hn hP hD hS hd
  exact W.zret B.exec B.bytes B.returns hn (fun t ht hW => ⟨⟨v, u, rfl, hv, by rw [ht]; exact hP, hD⟩, hS.F ht⟩) hS.2.2 hd B.notSynchronized
theorem CtV.mk {S : Type} {l : Launch} {y : MethodName} {b : ByteArray} {n : Nat} {d : Nat} {D : va_G} {cB cI : ClassId} {av : List Value} {wc : va_W} {φ : S → Prop} {wn : S → va_W} {own : String} (hy : plainName y.cls = true) (ho : y.cls = own) (hn : (lg_sl av).length ≤ n)
    (h : ∀ (p : Program) (e : Env) (s : State) (m : MethodId) (args : Array Value) (below : List Frame) (meth : Method) (c : Code) (A : Nat → Prop) (Q : State → Prop) (ls : Array Slot), Cx p s m meth c args b own n none D cB cI → va_P D cls wc s.heap → va_D A wc → va_S A s.heap s.heap [] → (∀ q : Nat, s.heap.size ≤ q → A q) → lv_has ls n (lv_args 0 av) →
      (∀ (u : S) (H : Heap) (locs : List Loc) (pc : Nat) (ls : Array Slot), φ u → va_P D cls (wn u) H → va_D A (wn u) → va_S A s.heap H locs → decode b pc = .ok (.return_, 1) → W p l e (rmd d) s m args below meth c H locs 0 0 Q (F0 m pc ls [])) →
      W p l e (rmd d) s m args below meth c s.heap [] 0 0 Q (F0 m 0 ls [])) : CtV l y b n d D cB cI av wc φ wn := by
  intro sz
  refine Met.ofW (cc := b) (maxL := n) (ret := none) hy rfl ?_
  intro p e s m args below meth c s₁ B hml hv
  obtain ⟨rfl, hsz, hP, hK, hD0⟩ := hv
  subst hsz
  have hts := atoms_spec (ws := .code y b n none :: gt) B.pre
  rw [lg_entry_eq]
  refine h p e s m _ below meth c (va_A wc s.heap.size) _ _ ⟨B.exec, B.bytes, hml, B.returns, B.notSynchronized, by rw [← ho]; exact findClass_of_methodNamed B.named, fun w hw => hts w (List.mem_cons_of_mem _ hw), hK⟩ hP (hD0.self (sz := s.heap.size)) va_S.rf (fun q h => Or.inr h) (lv_entry av hn) ?_
  intro u H locs pc ls hv hP hD hS hd
  exact W.vret B.exec B.bytes B.returns (fun t ht hW => ⟨⟨u, rfl, hv, by rw [ht]; exact hP, hD⟩, hS.F ht⟩) hS.2.2 hd B.notSynchronized
/-- a call's site: its words -/
def Sit (own : String) (idx : Nat) (y : MethodName) (b : ByteArray) (n : Nat) (rt : Option FieldType) (k : Nat) : Prop := Cond.methodLink own idx y ∈ gt ∧ Cond.initialized y.cls ∈ gt ∧ Cond.code y b n rt ∈ gt ∧ (y.cls ≠ "java/lang/invoke/MethodHandle" ∧ y.cls ≠ "java/lang/invoke/VarHandle" ∧ (parseMethodDescriptor y.desc).map (fun d => d.parameters.length) = some k) ∧ n ≤ 8
def SitN (own : String) (idx : Nat) (y : MethodName) (b : ByteArray) (n : Nat) (rt : Option FieldType) (k : Nat) (host : String) : Prop := Cond.methodLinkNest own idx y host ∈ nest4 ∧ Cond.initialized y.cls ∈ gt ∧ Cond.code y b n rt ∈ gt ∧ (y.cls ≠ "java/lang/invoke/MethodHandle" ∧ y.cls ≠ "java/lang/invoke/VarHandle" ∧ (parseMethodDescriptor y.desc).map (fun d => d.parameters.length) = some k) ∧ n ≤ 8
def Rok (R : Room) (cells slots d : Nat) : Prop := d + 1 ≤ R.frames ∧ 27 + 30 * d ≤ R.locals ∧ cells ≤ R.cells ∧ slots ≤ R.slots
theorem rok {d d' : Nat} (h : d < d') : Rok (rmd d') 0 0 d := ⟨h, by show 27 + 30 * d ≤ 30 * d'; omega, Nat.zero_le _, Nat.zero_le _⟩
theorem va_fm {is : List Nat} {ws wc : va_W} (h : is.map (fun i => ws[i]?) = wc.map some) : is.filterMap (fun i => ws[i]?) = wc := by
  have h1 : (is.map (fun i => ws[i]?)).filterMap id = is.filterMap (fun i => ws[i]?) := by rw [List.filterMap_map]; rfl
  have h2 : (wc.map some).filterMap id = wc := by rw [List.filterMap_map]; simp
  rw [← h1, h, h2]
section CK
variable {p : Program} {l : Launch} {e : Env} {R : Room} {s : State} {m : MethodId} {args : Array Value} {below : List Frame} {meth : Method} {c : Code} {H : Heap} {locs : List Loc} {cells slots : Nat} {Q : State → Prop} {cc : ByteArray} {own : String} {nL : Nat} {rt : Option FieldType} {D : va_G} {cB cI : ClassId} {pc : Nat} {ls : Array Slot} {rest st0 : List Value} {ws : va_W} {A : Nat → Prop}
theorem Cx.hts (X : Cx p s m meth c args cc own nL rt D cB cI) : ∀ w ∈ gt, w.before args s = true := X.2.2.2.2.2.2.1
theorem Cx.ow (X : Cx p s m meth c args cc own nL rt D cB cI) : s.vm.findClass own = some m.cls := X.2.2.2.2.2.1
theorem Cx.kn (X : Cx p s m meth c args cc own nL rt D cB cI) : Kn D cB cI s := X.2.2.2.2.2.2.2
theorem Cx.hK (X : Cx p s m meth c args cc own nL rt D cB cI) : va_K D cls (tyK cB cI) s := X.kn.1
theorem Cx.fix (X : Cx p s m meth c args cc own nL rt D cB cI) : CallFix p m c cc nL s args gt own := ⟨X.1, X.2.1, X.2.2.1, X.ow, X.hts⟩
theorem Sit.cb {idx : Nat} {y : MethodName} {b : ByteArray} {n : Nat} {ry : Option FieldType} {k d : Nat} (S : Sit own idx y b n ry k) (X : Cx p s m meth c args cc own nL rt D cB cI) (hR : Rok R cells slots d) : CallB R s args own idx y b n ry (.code y b n ry :: gt) (rmd d) 0 0 k :=
  callB_of k X.hts (lw_gt S.2.2.1) rfl rfl rfl (X.hts _ S.2.1) (X.hts _ S.1) S.2.2.2.1 ⟨hR.1, by have h1 := S.2.2.2.2; have h2 := hR.2.1; show 8 + (n + 11) + 30 * d ≤ R.locals; omega⟩
theorem SitN.cb {idx : Nat} {y : MethodName} {b : ByteArray} {n : Nat} {ry : Option FieldType} {k d : Nat} {host : String} (S : SitN own idx y b n ry k host) (X : Cx p s m meth c args cc own nL rt D cB cI) (hR : Rok R cells slots d) : va_CN R s args own idx y host b n ry (.code y b n ry :: gt) (rmd d) 0 0 k :=
  va_cnB k X.hts (lw_gt S.2.2.1) rfl rfl rfl (X.kn.2 _ S.1) (X.hts _ S.2.1) S.2.2.2.1 ⟨hR.1, by have h1 := S.2.2.2.2; have h2 := hR.2.1; show 8 + (n + 11) + 30 * d ≤ R.locals; omega⟩
theorem va_Run.cr {mc ms : Nat} {g : JFrame} {Qa : State → Outcome → State → Prop} {free : Addr → Prop} (h : va_Run p l e R s m args below meth c H locs cells slots mc ms g rest Qa free) : CallRun p l e R s m args below meth c H locs cells slots mc ms g rest Qa free := by
  intro T hT X
  obtain ⟨v, st₀, t, T', L, h0, X', hL, e1, e2, hq, st⟩ := h T hT X
  exact ⟨v, st₀, t, T', L, h0, X', hL, e1, hq, st⟩
theorem cP_S {idx : Nat} {y : MethodName} {b : ByteArray} {n : Nat} {ry : Option FieldType} {k d : Nat} {av : List Value} {wc : va_W} {φ : Int32 → Prop} (X : Cx p s m meth c args cc own nL rt D cB cI) (S : Sit own idx y b n ry k) (hst : Cond.static y ∈ gt) (hM : CtP l y b n ry d D cB cI av wc φ) (hR : Rok R cells slots d) (hP : va_P D cls ws H) (is : List Nat) (hs : is.filterMap (fun i => ws[i]?) = wc) (hk : av.length = k) (hsz : ls.size = nL) (hst0 : st0 = av.reverse ++ rest) (hw : (rest.map fun v => v.category).sum ≤ 8) (hdg : decode cc pc = .ok (.invokestatic idx, 3))
    (kk : ∀ r : Int32, φ r → W p l e R s m args below meth c H locs cells slots Q (F0 m (pc + 3) ls (.int r :: rest))) : W p l e R s m args below meth c H locs cells slots Q (F0 m pc ls st0) :=
  vp_callSi (W.runS (As := av) (rest := rest) X.fix hM ⟨S.cb X hR, X.hts _ hst⟩ ⟨fun a U g mk q => ⟨q.1, q.2.1, Kn.calling q.2.2⟩, fun U hU hW => ⟨rfl, by rw [hU]; exact hP.sub is hs, Kn.warm hW X.kn⟩⟩ rfl hk hsz hst0 (lv_room hw) hdg ⟨hR.2.2.1, hR.2.2.2⟩) kk
theorem cP_N {idx : Nat} {y : MethodName} {b : ByteArray} {n : Nat} {ry : Option FieldType} {k d : Nat} {host : String} {av : List Value} {wc : va_W} {φ : Int32 → Prop} (X : Cx p s m meth c args cc own nL rt D cB cI) (S : SitN own idx y b n ry k host) (hst : Cond.static y ∈ gt) (hM : CtP l y b n ry d D cB cI av wc φ) (hR : Rok R cells slots d) (hP : va_P D cls ws H) (is : List Nat) (hs : is.filterMap (fun i => ws[i]?) = wc) (hk : av.length = k) (hsz : ls.size = nL) (hst0 : st0 = av.reverse ++ rest) (hw : (rest.map fun v => v.category).sum ≤ 8) (hdg : decode cc pc = .ok (.invokestatic idx, 3))
    (kk : ∀ r : Int32, φ r → W p l e R s m args below meth c H locs cells slots Q (F0 m (pc + 3) ls (.int r :: rest))) : W p l e R s m args below meth c H locs cells slots Q (F0 m pc ls st0) :=
  vp_callSi (va_runSN (As := av) (rest := rest) X.fix hM ⟨S.cb X hR, X.hts _ hst, trivial⟩ ⟨fun a U g mk q => ⟨q.1, q.2.1, Kn.calling q.2.2⟩, fun U hU hW => ⟨rfl, by rw [hU]; exact hP.sub is hs, Kn.warm hW X.kn⟩⟩ rfl hk hsz hst0 (lv_room hw) hdg ⟨hR.2.2.1, hR.2.2.2⟩).cr kk
theorem cP_V {idx : Nat} {y : MethodName} {b : ByteArray} {n : Nat} {ry : Option FieldType} {k d : Nat} {C : String} {T : u_T} {N : Nat} {a ci : Nat} {fs As : List Value} {wc : va_W} {φ : Int32 → Prop} (X : Cx p s m meth c args cc own nL rt D cB cI) (S : Sit own idx y b n ry k) (hin : Cond.instanceMethod y ∈ gt) (hse : Cond.selects C y y ∈ gt) (hM : CtP l y b n ry d D cB cI (.ref a :: As) wc φ) (hR : Rok R cells slots d) (hP : va_P D cls ws H) (q0 : Nat) (hc : cls[ci]? = some (C, T, N)) (he : ws[q0]? = some (a, .inr (ci, fs))) (is : List Nat) (hs : is.filterMap (fun i => ws[i]?) = wc) (hk : As.length = k) (hsz : ls.size = nL) (hst0 : st0 = As.reverse ++ .ref a :: rest) (hw : (rest.map fun v => v.category).sum ≤ 8) (hdg : decode cc pc = .ok (.invokevirtual idx, 3))
    (kk : ∀ r : Int32, φ r → W p l e R s m args below meth c H locs cells slots Q (F0 m (pc + 3) ls (.int r :: rest))) : W p l e R s m args below meth c H locs cells slots Q (F0 m pc ls st0) :=
  vp_callSi (W.runV (As := As) (rest := rest) X.fix hM ⟨S.cb X hR, X.hts _ hin, X.hts _ hse⟩ ⟨fun a U g mk q => ⟨q.1, q.2.1, Kn.calling q.2.2⟩, va_recv X.hK hP hc he, fun U hU hW => ⟨rfl, by rw [hU]; exact hP.sub is hs, Kn.warm hW X.kn⟩⟩ rfl hk hsz hst0 (lv_room hw) hdg ⟨hR.2.2.1, hR.2.2.2⟩) kk
theorem cI_V {S : Type} {idx : Nat} {y : MethodName} {b : ByteArray} {n : Nat} {ry : Option FieldType} {k d : Nat} {C : String} {T : u_T} {N : Nat} {a ci : Nat} {fs As : List Value} {wc wr : va_W} {φ : Int32 → S → Prop} {wn : S → va_W} (X : Cx p s m meth c args cc own nL rt D cB cI) (hSi : Sit own idx y b n ry k) (hin : Cond.instanceMethod y ∈ gt) (hse : Cond.selects C y y ∈ gt) (hM : CtI l y b n ry d D cB cI (.ref a :: As) wc φ wn) (hR : Rok R cells slots d) (hP : va_P D cls ws H) (hD : va_D A ws) (hS : va_S A s.heap H locs) (hA : ∀ q : Nat, s.heap.size ≤ q → A q) (q0 : Nat) (hc : cls[ci]? = some (C, T, N)) (he : ws[q0]? = some (a, .inr (ci, fs))) (isC isR : List Nat) (hC : isC.map (fun i => ws[i]?) = wc.map some) (hRr : isR.map (fun i => ws[i]?) = wr.map some) (hn : va_nd isC = true) (hn2 : va_nd isR = true) (hdis : ∀ i ∈ isR, i ∉ isC) (hk : As.length = k) (hsz : ls.size = nL) (hst0 : st0 = As.reverse ++ .ref a :: rest) (hw : (rest.map fun v => v.category).sum ≤ 8) (hdg : decode cc pc = .ok (.invokevirtual idx, 3))
    (kk : ∀ (r : Int32) (u : S) (H1 : Heap) (locs1 : List Loc), φ r u → va_P D cls (wr ++ wn u) H1 → va_D A (wr ++ wn u) → va_S A s.heap H1 locs1 → W p l e R s m args below meth c H1 locs1 cells slots Q (F0 m (pc + 3) ls (.int r :: rest))) : W p l e R s m args below meth c H locs cells slots Q (F0 m pc ls st0) := by
  have hF := va_free (wc := wc) hD hS hA isC hC
  refine va_calli (va_runV (As := As) (rest := rest) X.fix (hM H.size) ⟨hSi.cb X hR, X.hts _ hin, X.hts _ hse⟩ ⟨fun a U g mk q => ⟨q.1, q.2.1, q.2.2.1, Kn.calling q.2.2.2.1, q.2.2.2.2⟩, va_recv X.hK hP hc he, fun U hU hW => ⟨rfl, by rw [hU], by rw [hU]; exact hP.sub isC (va_fm hC), Kn.warm hW X.kn, (hD.sub isC hn hC).weaken (fun _ _ _ _ => trivial)⟩⟩ rfl hk hsz hst0 (lv_room hw) hdg ⟨hR.2.2.1, hR.2.2.2⟩) hS (fun q _ h => hF q h) hF (fun r u t H1 locs1 ht hvm hφ hB hz hk1 hS1 => ?_)
  obtain ⟨hP1, hD1⟩ := hB
  rw [ht] at hP1
  obtain ⟨hP2, hD2⟩ := va_join hP hD isC isR hC hRr hn2 hdis hk1 hF hP1 hD1
  exact kk r u H1 locs1 hφ hP2 hD2 hS1
theorem cV_V {S : Type} {idx : Nat} {y : MethodName} {b : ByteArray} {n : Nat} {k d : Nat} {C : String} {T : u_T} {N : Nat} {a ci : Nat} {fs As : List Value} {wc wr : va_W} {φ : S → Prop} {wn : S → va_W} (X : Cx p s m meth c args cc own nL rt D cB cI) (hSi : Sit own idx y b n none k) (hin : Cond.instanceMethod y ∈ gt) (hse : Cond.selects C y y ∈ gt) (hM : CtV l y b n d D cB cI (.ref a :: As) wc φ wn) (hR : Rok R cells slots d) (hP : va_P D cls ws H) (hD : va_D A ws) (hS : va_S A s.heap H locs) (hA : ∀ q : Nat, s.heap.size ≤ q → A q) (q0 : Nat) (hc : cls[ci]? = some (C, T, N)) (he : ws[q0]? = some (a, .inr (ci, fs))) (isC isR : List Nat) (hC : isC.map (fun i => ws[i]?) = wc.map some) (hRr : isR.map (fun i => ws[i]?) = wr.map some) (hn : va_nd isC = true) (hn2 : va_nd isR = true) (hdis : ∀ i ∈ isR, i ∉ isC) (hk : As.length = k) (hsz : ls.size = nL) (hst0 : st0 = As.reverse ++ .ref a :: rest) (hw : (rest.map fun v => v.category).sum ≤ 8) (hdg : decode cc pc = .ok (.invokevirtual idx, 3))
    (kk : ∀ (u : S) (H1 : Heap) (locs1 : List Loc), φ u → va_P D cls (wr ++ wn u) H1 → va_D A (wr ++ wn u) → va_S A s.heap H1 locs1 → W p l e R s m args below meth c H1 locs1 cells slots Q (F0 m (pc + 3) ls rest)) : W p l e R s m args below meth c H locs cells slots Q (F0 m pc ls st0) := by
  have hF := va_free (wc := wc) hD hS hA isC hC
  refine va_callv (va_runV (As := As) (rest := rest) X.fix (hM H.size) ⟨hSi.cb X hR, X.hts _ hin, X.hts _ hse⟩ ⟨fun a U g mk q => ⟨q.1, q.2.1, q.2.2.1, Kn.calling q.2.2.2.1, q.2.2.2.2⟩, va_recv X.hK hP hc he, fun U hU hW => ⟨rfl, by rw [hU], by rw [hU]; exact hP.sub isC (va_fm hC), Kn.warm hW X.kn, (hD.sub isC hn hC).weaken (fun _ _ _ _ => trivial)⟩⟩ rfl hk hsz hst0 (lv_room hw) hdg ⟨hR.2.2.1, hR.2.2.2⟩) hS (fun q _ h => hF q h) hF (fun u t H1 locs1 ht hvm hφ hB hz hk1 hS1 => ?_)
  obtain ⟨hP1, hD1⟩ := hB
  rw [ht] at hP1
  obtain ⟨hP2, hD2⟩ := va_join hP hD isC isR hC hRr hn2 hdis hk1 hF hP1 hD1
  exact kk u H1 locs1 hφ hP2 hD2 hS1
theorem cV_S {S : Type} {idx : Nat} {y : MethodName} {b : ByteArray} {n : Nat} {k d : Nat} {av : List Value} {wc wr : va_W} {φ : S → Prop} {wn : S → va_W} (X : Cx p s m meth c args cc own nL rt D cB cI) (hSi : Sit own idx y b n none k) (hst : Cond.static y ∈ gt) (hM : CtV l y b n d D cB cI av wc φ wn) (hR : Rok R cells slots d) (hP : va_P D cls ws H) (hD : va_D A ws) (hS : va_S A s.heap H locs) (hA : ∀ q : Nat, s.heap.size ≤ q → A q) (isC isR : List Nat) (hC : isC.map (fun i => ws[i]?) = wc.map some) (hRr : isR.map (fun i => ws[i]?) = wr.map some) (hn : va_nd isC = true) (hn2 : va_nd isR = true) (hdis : ∀ i ∈ isR, i ∉ isC) (hk : av.length = k) (hsz : ls.size = nL) (hst0 : st0 = av.reverse ++ rest) (hw : (rest.map fun v => v.category).sum ≤ 8) (hdg : decode cc pc = .ok (.invokestatic idx, 3))
    (kk : ∀ (u : S) (H1 : Heap) (locs1 : List Loc), φ u → va_P D cls (wr ++ wn u) H1 → va_D A (wr ++ wn u) → va_S A s.heap H1 locs1 → W p l e R s m args below meth c H1 locs1 cells slots Q (F0 m (pc + 3) ls rest)) : W p l e R s m args below meth c H locs cells slots Q (F0 m pc ls st0) := by
  have hF := va_free (wc := wc) hD hS hA isC hC
  refine va_callv (va_runS (As := av) (rest := rest) X.fix (hM H.size) ⟨hSi.cb X hR, X.hts _ hst⟩ ⟨fun a U g mk q => ⟨q.1, q.2.1, q.2.2.1, Kn.calling q.2.2.2.1, q.2.2.2.2⟩, fun U hU hW => ⟨rfl, by rw [hU], by rw [hU]; exact hP.sub isC (va_fm hC), Kn.warm hW X.kn, (hD.sub isC hn hC).weaken (fun _ _ _ _ => trivial)⟩⟩ rfl hk hsz hst0 (lv_room hw) hdg ⟨hR.2.2.1, hR.2.2.2⟩) hS (fun q _ h => hF q h) hF (fun u t H1 locs1 ht hvm hφ hB hz hk1 hS1 => ?_)
  obtain ⟨hP1, hD1⟩ := hB
  rw [ht] at hP1
  obtain ⟨hP2, hD2⟩ := va_join hP hD isC isR hC hRr hn2 hdis hk1 hF hP1 hD1
  exact kk u H1 locs1 hφ hP2 hD2 hS1
-- rows on natural numbers
theorem W.top {x y : Int32} (h : x = y) (k : W p l e R s m args below meth c H locs cells slots Q (F0 m pc ls (.int y :: rest))) : W p l e R s m args below meth c H locs cells slots Q (F0 m pc ls (.int x :: rest)) := by subst h; exact k
theorem n_iadd (X : Cx p s m meth c args cc own nL rt D cB cI) {a b : Nat} (hdg : decode cc pc = .ok (.iadd, 1)) (k : W p l e R s m args below meth c H locs cells slots Q (F0 m (pc + 1) ls (.int (nI (a + b)) :: rest))) : W p l e R s m args below meth c H locs cells slots Q (F0 m pc ls (.int (nI b) :: .int (nI a) :: rest)) :=
  lv_iadd X.1 X.2.1 hdg (W.top (nI_add a b) k)
theorem n_isub (X : Cx p s m meth c args cc own nL rt D cB cI) {a b : Nat} (h : b ≤ a) (hdg : decode cc pc = .ok (.isub, 1)) (k : W p l e R s m args below meth c H locs cells slots Q (F0 m (pc + 1) ls (.int (nI (a - b)) :: rest))) : W p l e R s m args below meth c H locs cells slots Q (F0 m pc ls (.int (nI b) :: .int (nI a) :: rest)) :=
  lv_isub X.1 X.2.1 hdg (W.top (pk_sub h) k)
theorem n_imul (X : Cx p s m meth c args cc own nL rt D cB cI) {a b : Nat} (hdg : decode cc pc = .ok (.imul, 1)) (k : W p l e R s m args below meth c H locs cells slots Q (F0 m (pc + 1) ls (.int (nI (a * b)) :: rest))) : W p l e R s m args below meth c H locs cells slots Q (F0 m pc ls (.int (nI b) :: .int (nI a) :: rest)) :=
  lv_imul X.1 X.2.1 hdg (W.top (pk_mul a b) k)
theorem n_bald (X : Cx p s m meth c args cc own nL rt D cB cI) (hP : va_P D cls ws H) (q0 : Nat) {a n : Nat} {f : Nat → Int32} (ha : ws[q0]? = some (a, .inl (cB, n, .inl f))) {k : Nat} (hk : k < n) (hn : n < 2 ^ 31) (hdg : decode cc pc = .ok (.baload, 1)) (kk : W p l e R s m args below meth c H locs cells slots Q (F0 m (pc + 1) ls (.int (f k) :: rest))) : W p l e R s m args below meth c H locs cells slots Q (F0 m pc ls (.int (nI k) :: .ref a :: rest)) := by
  refine va_bald X.1 X.2.1 X.hK hP q0 0 ha rfl (vp_in_nI hk hn) hdg ?_
  rw [nI_clamp (Nat.lt_trans hk hn)]; exact kk
theorem n_iald (X : Cx p s m meth c args cc own nL rt D cB cI) (hP : va_P D cls ws H) (q0 : Nat) {a n : Nat} {f : Nat → Int32} (ha : ws[q0]? = some (a, .inl (cI, n, .inl f))) {k : Nat} (hk : k < n) (hn : n < 2 ^ 31) (hdg : decode cc pc = .ok (.iaload, 1)) (kk : W p l e R s m args below meth c H locs cells slots Q (F0 m (pc + 1) ls (.int (f k) :: rest))) : W p l e R s m args below meth c H locs cells slots Q (F0 m pc ls (.int (nI k) :: .ref a :: rest)) := by
  refine va_iald X.1 X.2.1 X.hK hP q0 1 ha rfl (vp_in_nI hk hn) hdg ?_
  rw [nI_clamp (Nat.lt_trans hk hn)]; exact kk
theorem n_bast (X : Cx p s m meth c args cc own nL rt D cB cI) (hP : va_P D cls ws H) (hD : va_D A ws) {H0 : Heap} (hS : va_S A H0 H locs) (q0 : Nat) {a n : Nat} {f : Nat → Int32} (ha : ws[q0]? = some (a, .inl (cB, n, .inl f))) {k : Nat} {x y : Int32} (hk : k < n) (hn : n < 2 ^ 31) (hx : x.toInt8.toInt32 = y) (hdg : decode cc pc = .ok (.bastore, 1)) (kk : ∀ (H1 : Heap) (locs1 : List Loc), va_P D cls (ws.set q0 (a, .inl (cB, n, .inl (upd f k y)))) H1 → va_D A (ws.set q0 (a, .inl (cB, n, .inl (upd f k y)))) → va_S A H0 H1 locs1 → W p l e R s m args below meth c H1 locs1 cells slots Q (F0 m (pc + 1) ls rest)) : W p l e R s m args below meth c H locs cells slots Q (F0 m pc ls (.int x :: .int (nI k) :: .ref a :: rest)) := by
  refine va_bast X.1 X.2.1 X.hK hP hD hS q0 0 ha rfl (vp_in_nI hk hn) hdg ?_
  rw [nI_clamp (Nat.lt_trans hk hn), vp_nar_byte, hx]; exact kk
theorem n_iast (X : Cx p s m meth c args cc own nL rt D cB cI) (hP : va_P D cls ws H) (hD : va_D A ws) {H0 : Heap} (hS : va_S A H0 H locs) (q0 : Nat) {a n : Nat} {f : Nat → Int32} (ha : ws[q0]? = some (a, .inl (cI, n, .inl f))) {k : Nat} {x : Int32} (hk : k < n) (hn : n < 2 ^ 31) (hdg : decode cc pc = .ok (.iastore, 1)) (kk : ∀ (H1 : Heap) (locs1 : List Loc), va_P D cls (ws.set q0 (a, .inl (cI, n, .inl (upd f k x)))) H1 → va_D A (ws.set q0 (a, .inl (cI, n, .inl (upd f k x)))) → va_S A H0 H1 locs1 → W p l e R s m args below meth c H1 locs1 cells slots Q (F0 m (pc + 1) ls rest)) : W p l e R s m args below meth c H locs cells slots Q (F0 m pc ls (.int x :: .int (nI k) :: .ref a :: rest)) := by
  refine va_iast X.1 X.2.1 X.hK hP hD hS q0 1 ha rfl (vp_in_nI hk hn) hdg ?_
  rw [nI_clamp (Nat.lt_trans hk hn)]; exact kk
theorem n_inc (a k : Nat) : nI a + Int32.ofInt (k : Int) = nI (a + k) := by
  rw [← nI_add]; congr 1
theorem n_dec {a k : Nat} (h : k ≤ a) : nI a + Int32.ofInt (-(k : Int)) = nI (a - k) := by
  rw [← pk_sub h, Int32.sub_eq_add_neg, Int32.ofInt_neg]; congr 1
theorem n_byte {k : Nat} (h : k < 128) : (nI k).toInt8.toInt32 = nI k := (by decide +kernel : ∀ k : Fin 128, (nI k.val).toInt8.toInt32 = nI k.val) ⟨k, h⟩
theorem n_b2 (z : Int32) : z.toInt8.toInt32.toInt8.toInt32 = z.toInt8.toInt32 := by
  have h := pk_vb z
  rwa [vp_nar_byte] at h
theorem kb_m3 : (Int8.ofInt (-3)).toInt32 = (-3) := by decide
theorem kb_m2 : (Int8.ofInt (-2)).toInt32 = (-2) := by decide
theorem kb_6 : (Int8.ofInt 6).toInt32 = nI 6 := by decide
theorem kb_8 : (Int8.ofInt 8).toInt32 = nI 8 := by decide
theorem kb_12 : (Int8.ofInt 12).toInt32 = nI 12 := by decide
theorem kb_15 : (Int8.ofInt 15).toInt32 = nI 15 := by decide
theorem kb_16 : (Int8.ofInt 16).toInt32 = nI 16 := by decide
theorem kb_20 : (Int8.ofInt 20).toInt32 = nI 20 := by decide
theorem kb_24 : (Int8.ofInt 24).toInt32 = nI 24 := by decide
theorem kb_25 : (Int8.ofInt 25).toInt32 = nI 25 := by decide
theorem kb_31 : (Int8.ofInt 31).toInt32 = nI 31 := by decide
theorem kb_32 : (Int8.ofInt 32).toInt32 = nI 32 := by decide
theorem kb_48 : (Int8.ofInt 48).toInt32 = nI 48 := by decide
theorem kb_57 : (Int8.ofInt 57).toInt32 = nI 57 := by decide
theorem kb_65 : (Int8.ofInt 65).toInt32 = nI 65 := by decide
theorem kb_90 : (Int8.ofInt 90).toInt32 = nI 90 := by decide
theorem kb_97 : (Int8.ofInt 97).toInt32 = nI 97 := by decide
theorem kb_100 : (Int8.ofInt 100).toInt32 = nI 100 := by decide
theorem kb_101 : (Int8.ofInt 101).toInt32 = nI 101 := by decide
theorem kb_105 : (Int8.ofInt 105).toInt32 = nI 105 := by decide
theorem kb_115 : (Int8.ofInt 115).toInt32 = nI 115 := by decide
theorem kb_117 : (Int8.ofInt 117).toInt32 = nI 117 := by decide
theorem kb_121 : (Int8.ofInt 121).toInt32 = nI 121 := by decide
theorem kb_122 : (Int8.ofInt 122).toInt32 = nI 122 := by decide
theorem ki_m1 : Int32.ofInt (-1) = (-1) := by decide
theorem ki_0 : Int32.ofInt 0 = nI 0 := by decide
theorem ki_1 : Int32.ofInt 1 = nI 1 := by decide
theorem ki_2 : Int32.ofInt 2 = nI 2 := by decide
theorem ki_3 : Int32.ofInt 3 = nI 3 := by decide
theorem ki_4 : Int32.ofInt 4 = nI 4 := by decide
theorem ki_5 : Int32.ofInt 5 = nI 5 := by decide
theorem ks_150 : (Int16.ofInt 150).toInt32 = nI 150 := by decide
theorem ks_151 : (Int16.ofInt 151).toInt32 = nI 151 := by decide
theorem ks_255 : (Int16.ofInt 255).toInt32 = nI 255 := by decide
theorem ks_300 : (Int16.ofInt 300).toInt32 = nI 300 := by decide
theorem ks_625 : (Int16.ofInt 625).toInt32 = nI 625 := by decide
theorem ks_1000 : (Int16.ofInt 1000).toInt32 = nI 1000 := by decide
theorem ks_3600 : (Int16.ofInt 3600).toInt32 = nI 3600 := by decide
theorem ks_3624 : (Int16.ofInt 3624).toInt32 = nI 3624 := by decide
theorem n_icmp_eq (X : Cx p s m meth c args cc own nL rt D cB cI) {a b : Nat} (ha : a < 2 ^ 31) (hb : b < 2 ^ 31) {off : Int} {tgt : Nat} (hdg : decode cc pc = .ok (.if_icmp .eq off, 3)) (ht : (pc : Int) + off = (tgt : Int)) (kt : a = b → W p l e R s m args below meth c H locs cells slots Q (F0 m tgt ls rest)) (kf : a ≠ b → W p l e R s m args below meth c H locs cells slots Q (F0 m (pc + 3) ls rest)) : W p l e R s m args below meth c H locs cells slots Q (F0 m pc ls (.int (nI b) :: .int (nI a) :: rest)) :=
  lv_icmp_eq X.1 X.2.1 hdg ht (fun q => kt ((nI_eq ha hb).mp q)) (fun q => kf (fun z => q (by rw [z])))
theorem n_if_eq (X : Cx p s m meth c args cc own nL rt D cB cI) {a : Nat} (ha : a < 2 ^ 31) {off : Int} {tgt : Nat} (hdg : decode cc pc = .ok (.ifCond .eq off, 3)) (ht : (pc : Int) + off = (tgt : Int)) (kt : a = 0 → W p l e R s m args below meth c H locs cells slots Q (F0 m tgt ls rest)) (kf : a ≠ 0 → W p l e R s m args below meth c H locs cells slots Q (F0 m (pc + 3) ls rest)) : W p l e R s m args below meth c H locs cells slots Q (F0 m pc ls (.int (nI a) :: rest)) := by
  have hb : 0 < 2 ^ 31 := by decide
  refine lv_if_eq X.1 X.2.1 hdg ht (fun q => kt ?_) (fun q => kf ?_)
  all_goals rw [show (0 : Int32) = nI 0 from rfl] at q
  · exact (nI_eq ha hb).mp q
  · exact fun z => q (by rw [z])
theorem n_icmp_ne (X : Cx p s m meth c args cc own nL rt D cB cI) {a b : Nat} (ha : a < 2 ^ 31) (hb : b < 2 ^ 31) {off : Int} {tgt : Nat} (hdg : decode cc pc = .ok (.if_icmp .ne off, 3)) (ht : (pc : Int) + off = (tgt : Int)) (kt : a ≠ b → W p l e R s m args below meth c H locs cells slots Q (F0 m tgt ls rest)) (kf : a = b → W p l e R s m args below meth c H locs cells slots Q (F0 m (pc + 3) ls rest)) : W p l e R s m args below meth c H locs cells slots Q (F0 m pc ls (.int (nI b) :: .int (nI a) :: rest)) :=
  lv_icmp_ne X.1 X.2.1 hdg ht (fun q => kt (fun z => q (by rw [z]))) (fun q => kf ((nI_eq ha hb).mp q))
theorem n_if_ne (X : Cx p s m meth c args cc own nL rt D cB cI) {a : Nat} (ha : a < 2 ^ 31) {off : Int} {tgt : Nat} (hdg : decode cc pc = .ok (.ifCond .ne off, 3)) (ht : (pc : Int) + off = (tgt : Int)) (kt : a ≠ 0 → W p l e R s m args below meth c H locs cells slots Q (F0 m tgt ls rest)) (kf : a = 0 → W p l e R s m args below meth c H locs cells slots Q (F0 m (pc + 3) ls rest)) : W p l e R s m args below meth c H locs cells slots Q (F0 m pc ls (.int (nI a) :: rest)) := by
  have hb : 0 < 2 ^ 31 := by decide
  refine lv_if_ne X.1 X.2.1 hdg ht (fun q => kt ?_) (fun q => kf ?_)
  all_goals rw [show (0 : Int32) = nI 0 from rfl] at q
  · exact fun z => q (by rw [z])
  · exact (nI_eq ha hb).mp q
theorem n_icmp_lt (X : Cx p s m meth c args cc own nL rt D cB cI) {a b : Nat} (ha : a < 2 ^ 31) (hb : b < 2 ^ 31) {off : Int} {tgt : Nat} (hdg : decode cc pc = .ok (.if_icmp .lt off, 3)) (ht : (pc : Int) + off = (tgt : Int)) (kt : a < b → W p l e R s m args below meth c H locs cells slots Q (F0 m tgt ls rest)) (kf : b ≤ a → W p l e R s m args below meth c H locs cells slots Q (F0 m (pc + 3) ls rest)) : W p l e R s m args below meth c H locs cells slots Q (F0 m pc ls (.int (nI b) :: .int (nI a) :: rest)) :=
  lv_icmp_lt X.1 X.2.1 hdg ht (fun q => kt ((nI_ltI ha hb).mp q)) (fun q => kf (Nat.not_lt.mp (fun z => q ((nI_ltI ha hb).mpr z))))
theorem n_if_lt (X : Cx p s m meth c args cc own nL rt D cB cI) {a : Nat} (ha : a < 2 ^ 31) {off : Int} {tgt : Nat} (hdg : decode cc pc = .ok (.ifCond .lt off, 3)) (ht : (pc : Int) + off = (tgt : Int)) (kt : a < 0 → W p l e R s m args below meth c H locs cells slots Q (F0 m tgt ls rest)) (kf : 0 ≤ a → W p l e R s m args below meth c H locs cells slots Q (F0 m (pc + 3) ls rest)) : W p l e R s m args below meth c H locs cells slots Q (F0 m pc ls (.int (nI a) :: rest)) := by
  have hb : 0 < 2 ^ 31 := by decide
  refine lv_if_lt X.1 X.2.1 hdg ht (fun q => kt ?_) (fun q => kf ?_)
  all_goals rw [show (0 : Int32) = nI 0 from rfl] at q
  · exact (nI_ltI ha hb).mp q
  · exact Nat.not_lt.mp (fun z => q ((nI_ltI ha hb).mpr z))
theorem n_icmp_ge (X : Cx p s m meth c args cc own nL rt D cB cI) {a b : Nat} (ha : a < 2 ^ 31) (hb : b < 2 ^ 31) {off : Int} {tgt : Nat} (hdg : decode cc pc = .ok (.if_icmp .ge off, 3)) (ht : (pc : Int) + off = (tgt : Int)) (kt : b ≤ a → W p l e R s m args below meth c H locs cells slots Q (F0 m tgt ls rest)) (kf : a < b → W p l e R s m args below meth c H locs cells slots Q (F0 m (pc + 3) ls rest)) : W p l e R s m args below meth c H locs cells slots Q (F0 m pc ls (.int (nI b) :: .int (nI a) :: rest)) :=
  lv_icmp_ge X.1 X.2.1 hdg ht (fun q => kt ((nI_leI hb ha).mp q)) (fun q => kf (Nat.not_le.mp (fun z => q ((nI_leI hb ha).mpr z))))
theorem n_if_ge (X : Cx p s m meth c args cc own nL rt D cB cI) {a : Nat} (ha : a < 2 ^ 31) {off : Int} {tgt : Nat} (hdg : decode cc pc = .ok (.ifCond .ge off, 3)) (ht : (pc : Int) + off = (tgt : Int)) (kt : 0 ≤ a → W p l e R s m args below meth c H locs cells slots Q (F0 m tgt ls rest)) (kf : a < 0 → W p l e R s m args below meth c H locs cells slots Q (F0 m (pc + 3) ls rest)) : W p l e R s m args below meth c H locs cells slots Q (F0 m pc ls (.int (nI a) :: rest)) := by
  have hb : 0 < 2 ^ 31 := by decide
  refine lv_if_ge X.1 X.2.1 hdg ht (fun q => kt ?_) (fun q => kf ?_)
  all_goals rw [show (0 : Int32) = nI 0 from rfl] at q
  · exact (nI_leI hb ha).mp q
  · exact Nat.not_le.mp (fun z => q ((nI_leI hb ha).mpr z))
theorem n_icmp_gt (X : Cx p s m meth c args cc own nL rt D cB cI) {a b : Nat} (ha : a < 2 ^ 31) (hb : b < 2 ^ 31) {off : Int} {tgt : Nat} (hdg : decode cc pc = .ok (.if_icmp .gt off, 3)) (ht : (pc : Int) + off = (tgt : Int)) (kt : b < a → W p l e R s m args below meth c H locs cells slots Q (F0 m tgt ls rest)) (kf : a ≤ b → W p l e R s m args below meth c H locs cells slots Q (F0 m (pc + 3) ls rest)) : W p l e R s m args below meth c H locs cells slots Q (F0 m pc ls (.int (nI b) :: .int (nI a) :: rest)) :=
  lv_icmp_gt X.1 X.2.1 hdg ht (fun q => kt ((nI_ltI hb ha).mp q)) (fun q => kf (Nat.not_lt.mp (fun z => q ((nI_ltI hb ha).mpr z))))
theorem n_if_gt (X : Cx p s m meth c args cc own nL rt D cB cI) {a : Nat} (ha : a < 2 ^ 31) {off : Int} {tgt : Nat} (hdg : decode cc pc = .ok (.ifCond .gt off, 3)) (ht : (pc : Int) + off = (tgt : Int)) (kt : 0 < a → W p l e R s m args below meth c H locs cells slots Q (F0 m tgt ls rest)) (kf : a ≤ 0 → W p l e R s m args below meth c H locs cells slots Q (F0 m (pc + 3) ls rest)) : W p l e R s m args below meth c H locs cells slots Q (F0 m pc ls (.int (nI a) :: rest)) := by
  have hb : 0 < 2 ^ 31 := by decide
  refine lv_if_gt X.1 X.2.1 hdg ht (fun q => kt ?_) (fun q => kf ?_)
  all_goals rw [show (0 : Int32) = nI 0 from rfl] at q
  · exact (nI_ltI hb ha).mp q
  · exact Nat.not_lt.mp (fun z => q ((nI_ltI hb ha).mpr z))
theorem n_icmp_le (X : Cx p s m meth c args cc own nL rt D cB cI) {a b : Nat} (ha : a < 2 ^ 31) (hb : b < 2 ^ 31) {off : Int} {tgt : Nat} (hdg : decode cc pc = .ok (.if_icmp .le off, 3)) (ht : (pc : Int) + off = (tgt : Int)) (kt : a ≤ b → W p l e R s m args below meth c H locs cells slots Q (F0 m tgt ls rest)) (kf : b < a → W p l e R s m args below meth c H locs cells slots Q (F0 m (pc + 3) ls rest)) : W p l e R s m args below meth c H locs cells slots Q (F0 m pc ls (.int (nI b) :: .int (nI a) :: rest)) :=
  lv_icmp_le X.1 X.2.1 hdg ht (fun q => kt ((nI_leI ha hb).mp q)) (fun q => kf (Nat.not_le.mp (fun z => q ((nI_leI ha hb).mpr z))))
theorem n_if_le (X : Cx p s m meth c args cc own nL rt D cB cI) {a : Nat} (ha : a < 2 ^ 31) {off : Int} {tgt : Nat} (hdg : decode cc pc = .ok (.ifCond .le off, 3)) (ht : (pc : Int) + off = (tgt : Int)) (kt : a ≤ 0 → W p l e R s m args below meth c H locs cells slots Q (F0 m tgt ls rest)) (kf : 0 < a → W p l e R s m args below meth c H locs cells slots Q (F0 m (pc + 3) ls rest)) : W p l e R s m args below meth c H locs cells slots Q (F0 m pc ls (.int (nI a) :: rest)) := by
  have hb : 0 < 2 ^ 31 := by decide
  refine lv_if_le X.1 X.2.1 hdg ht (fun q => kt ?_) (fun q => kf ?_)
  all_goals rw [show (0 : Int32) = nI 0 from rfl] at q
  · exact (nI_leI ha hb).mp q
  · exact Nat.not_le.mp (fun z => q ((nI_leI ha hb).mpr z))
theorem gf_W_23 (X : Cx p s m meth c args cc R_W nL rt D cB cI) (hP : va_P D cls ws H) (q0 : Nat) {a : Nat} {v0 v1 v2 : Value} (he : ws[q0]? = some (a, .inr (1, [v0, v1, v2]))) (hdg : decode cc pc = .ok (.getfield 23, 3)) (kk : W p l e R s m args below meth c H locs cells slots Q (F0 m (pc + 3) ls (v0 :: rest))) : W p l e R s m args below meth c H locs cells slots Q (F0 m pc ls (.ref a :: rest)) :=
  va_get (ci := 1) (C := R_W) (T := F_W) (N := 3) X.1 X.2.1 X.hts ui_W X.ow X.hK hP q0 he rfl 0 (by decide) (X.hts _ tw1_20) (fun _ h9 => h9) rfl hdg kk
theorem pf_W_23 (X : Cx p s m meth c args cc R_W nL rt D cB cI) (hP : va_P D cls ws H) (hD : va_D A ws) {H0 : Heap} (hS : va_S A H0 H locs) (q0 : Nat) {a : Nat} {x : Int32} {v0 v1 v2 : Value} (he : ws[q0]? = some (a, .inr (1, [v0, v1, v2]))) (hdg : decode cc pc = .ok (.putfield 23, 3)) (kk : ∀ (H1 : Heap) (locs1 : List Loc), va_P D cls (ws.set q0 (a, .inr (1, [.int x, v1, v2]))) H1 → va_D A (ws.set q0 (a, .inr (1, [.int x, v1, v2]))) → va_S A H0 H1 locs1 → W p l e R s m args below meth c H1 locs1 cells slots Q (F0 m (pc + 3) ls rest)) : W p l e R s m args below meth c H locs cells slots Q (F0 m pc ls (.int x :: .ref a :: rest)) :=
  va_put (D := D) (ci := 1) (v := .int x) (ty := .int) (C := R_W) (T := F_W) (N := 3) X.1 X.2.1 X.hts ui_W ty_W ty_W_ok n_W X.ow X.hK hP hD hS q0 he rfl 0 (by decide) (X.hts _ tw1_20) (fun _ h9 => h9) rfl (by decide +kernel) rfl rfl (Nat.le_of_ble_eq_true rfl) hdg kk
theorem gf_T_45 (X : Cx p s m meth c args cc R_T nL rt D cB cI) (hP : va_P D cls ws H) (q0 : Nat) {a : Nat} {v0 v1 v2 : Value} (he : ws[q0]? = some (a, .inr (1, [v0, v1, v2]))) (hdg : decode cc pc = .ok (.getfield 45, 3)) (kk : W p l e R s m args below meth c H locs cells slots Q (F0 m (pc + 3) ls (v0 :: rest))) : W p l e R s m args below meth c H locs cells slots Q (F0 m pc ls (.ref a :: rest)) :=
  va_get (ci := 1) (C := R_W) (T := F_W) (N := 3) X.1 X.2.1 X.hts ui_W X.ow X.hK hP q0 he rfl 0 (by decide) (X.hts _ tw1_21) (fun _ h9 => h9) rfl hdg kk
theorem gf_W_9 (X : Cx p s m meth c args cc R_W nL rt D cB cI) (hP : va_P D cls ws H) (q0 : Nat) {a : Nat} {v0 v1 v2 : Value} (he : ws[q0]? = some (a, .inr (1, [v0, v1, v2]))) (hdg : decode cc pc = .ok (.getfield 9, 3)) (kk : W p l e R s m args below meth c H locs cells slots Q (F0 m (pc + 3) ls (v1 :: rest))) : W p l e R s m args below meth c H locs cells slots Q (F0 m pc ls (.ref a :: rest)) :=
  va_get (ci := 1) (C := R_W) (T := F_W) (N := 3) X.1 X.2.1 X.hts ui_W X.ow X.hK hP q0 he rfl 1 (by decide) (X.hts _ tw1_22) (fun _ h9 => h9) rfl hdg kk
theorem pf_W_9 (X : Cx p s m meth c args cc R_W nL rt D cB cI) (hin : meth.name = "<init>") (hP : va_P D cls ws H) (hD : va_D A ws) {H0 : Heap} (hS : va_S A H0 H locs) (q0 : Nat) {a : Nat} {x : Nat} {v0 v1 v2 : Value} (he : ws[q0]? = some (a, .inr (1, [v0, v1, v2]))) (hdg : decode cc pc = .ok (.putfield 9, 3)) (kk : ∀ (H1 : Heap) (locs1 : List Loc), va_P D cls (ws.set q0 (a, .inr (1, [v0, .ref x, v2]))) H1 → va_D A (ws.set q0 (a, .inr (1, [v0, .ref x, v2]))) → va_S A H0 H1 locs1 → W p l e R s m args below meth c H1 locs1 cells slots Q (F0 m (pc + 3) ls rest)) : W p l e R s m args below meth c H locs cells slots Q (F0 m pc ls (.ref x :: .ref a :: rest)) :=
  va_putF (D := D) (ci := 1) (v := .ref x) (ty := .array .byte) (C := R_W) (T := F_W) (N := 3) X.1 X.2.1 X.hts ui_W ty_W ty_W_ok n_W X.ow X.hK hP hD hS q0 he rfl 1 (by decide) (X.hts _ tw1_22) (fun _ h9 => h9) rfl hin rfl (by decide +kernel) rfl rfl (Nat.le_of_ble_eq_true rfl) hdg kk
theorem gf_T_51 (X : Cx p s m meth c args cc R_T nL rt D cB cI) (hP : va_P D cls ws H) (q0 : Nat) {a : Nat} {v0 v1 v2 : Value} (he : ws[q0]? = some (a, .inr (1, [v0, v1, v2]))) (hdg : decode cc pc = .ok (.getfield 51, 3)) (kk : W p l e R s m args below meth c H locs cells slots Q (F0 m (pc + 3) ls (v1 :: rest))) : W p l e R s m args below meth c H locs cells slots Q (F0 m pc ls (.ref a :: rest)) :=
  va_get (ci := 1) (C := R_W) (T := F_W) (N := 3) X.1 X.2.1 X.hts ui_W X.ow X.hK hP q0 he rfl 1 (by decide) (X.hts _ tw1_23) (fun _ h9 => h9) rfl hdg kk
theorem gf_W_15 (X : Cx p s m meth c args cc R_W nL rt D cB cI) (hP : va_P D cls ws H) (q0 : Nat) {a : Nat} {v0 v1 v2 : Value} (he : ws[q0]? = some (a, .inr (1, [v0, v1, v2]))) (hdg : decode cc pc = .ok (.getfield 15, 3)) (kk : W p l e R s m args below meth c H locs cells slots Q (F0 m (pc + 3) ls (v2 :: rest))) : W p l e R s m args below meth c H locs cells slots Q (F0 m pc ls (.ref a :: rest)) :=
  va_get (ci := 1) (C := R_W) (T := F_W) (N := 3) X.1 X.2.1 X.hts ui_W X.ow X.hK hP q0 he rfl 2 (by decide) (X.hts _ tw1_24) (fun _ h9 => h9) rfl hdg kk
theorem pf_W_15 (X : Cx p s m meth c args cc R_W nL rt D cB cI) (hin : meth.name = "<init>") (hP : va_P D cls ws H) (hD : va_D A ws) {H0 : Heap} (hS : va_S A H0 H locs) (q0 : Nat) {a : Nat} {x : Nat} {v0 v1 v2 : Value} (he : ws[q0]? = some (a, .inr (1, [v0, v1, v2]))) (hdg : decode cc pc = .ok (.putfield 15, 3)) (kk : ∀ (H1 : Heap) (locs1 : List Loc), va_P D cls (ws.set q0 (a, .inr (1, [v0, v1, .ref x]))) H1 → va_D A (ws.set q0 (a, .inr (1, [v0, v1, .ref x]))) → va_S A H0 H1 locs1 → W p l e R s m args below meth c H1 locs1 cells slots Q (F0 m (pc + 3) ls rest)) : W p l e R s m args below meth c H locs cells slots Q (F0 m pc ls (.ref x :: .ref a :: rest)) :=
  va_putF (D := D) (ci := 1) (v := .ref x) (ty := .array .int) (C := R_W) (T := F_W) (N := 3) X.1 X.2.1 X.hts ui_W ty_W ty_W_ok n_W X.ow X.hK hP hD hS q0 he rfl 2 (by decide) (X.hts _ tw1_24) (fun _ h9 => h9) rfl hin rfl (by decide +kernel) rfl rfl (Nat.le_of_ble_eq_true rfl) hdg kk
theorem gf_T_48 (X : Cx p s m meth c args cc R_T nL rt D cB cI) (hP : va_P D cls ws H) (q0 : Nat) {a : Nat} {v0 v1 v2 : Value} (he : ws[q0]? = some (a, .inr (1, [v0, v1, v2]))) (hdg : decode cc pc = .ok (.getfield 48, 3)) (kk : W p l e R s m args below meth c H locs cells slots Q (F0 m (pc + 3) ls (v2 :: rest))) : W p l e R s m args below meth c H locs cells slots Q (F0 m pc ls (.ref a :: rest)) :=
  va_get (ci := 1) (C := R_W) (T := F_W) (N := 3) X.1 X.2.1 X.hts ui_W X.ow X.hK hP q0 he rfl 2 (by decide) (X.hts _ tw1_25) (fun _ h9 => h9) rfl hdg kk
theorem gf_T_9 (X : Cx p s m meth c args cc R_T nL rt D cB cI) (hP : va_P D cls ws H) (q0 : Nat) {a : Nat} {v0 v1 v2 v3 v4 v5 : Value} (he : ws[q0]? = some (a, .inr (0, [v0, v1, v2, v3, v4, v5]))) (hdg : decode cc pc = .ok (.getfield 9, 3)) (kk : W p l e R s m args below meth c H locs cells slots Q (F0 m (pc + 3) ls (v0 :: rest))) : W p l e R s m args below meth c H locs cells slots Q (F0 m pc ls (.ref a :: rest)) :=
  va_get (ci := 0) (C := R_T) (T := F_T) (N := 6) X.1 X.2.1 X.hts ui_T X.ow X.hK hP q0 he rfl 0 (by decide) (X.hts _ tw1_35) (fun _ h9 => h9) rfl hdg kk
theorem pf_T_9 (X : Cx p s m meth c args cc R_T nL rt D cB cI) (hin : meth.name = "<init>") (hP : va_P D cls ws H) (hD : va_D A ws) {H0 : Heap} (hS : va_S A H0 H locs) (q0 : Nat) {a : Nat} {x : Nat} {v0 v1 v2 v3 v4 v5 : Value} (he : ws[q0]? = some (a, .inr (0, [v0, v1, v2, v3, v4, v5]))) (hdg : decode cc pc = .ok (.putfield 9, 3)) (kk : ∀ (H1 : Heap) (locs1 : List Loc), va_P D cls (ws.set q0 (a, .inr (0, [.ref x, v1, v2, v3, v4, v5]))) H1 → va_D A (ws.set q0 (a, .inr (0, [.ref x, v1, v2, v3, v4, v5]))) → va_S A H0 H1 locs1 → W p l e R s m args below meth c H1 locs1 cells slots Q (F0 m (pc + 3) ls rest)) : W p l e R s m args below meth c H locs cells slots Q (F0 m pc ls (.ref x :: .ref a :: rest)) :=
  va_putF (D := D) (ci := 0) (v := .ref x) (ty := .array .byte) (C := R_T) (T := F_T) (N := 6) X.1 X.2.1 X.hts ui_T ty_T ty_T_ok n_T X.ow X.hK hP hD hS q0 he rfl 0 (by decide) (X.hts _ tw1_35) (fun _ h9 => h9) rfl hin rfl (by decide +kernel) rfl rfl (Nat.le_of_ble_eq_true rfl) hdg kk
theorem gf_T_30 (X : Cx p s m meth c args cc R_T nL rt D cB cI) (hP : va_P D cls ws H) (q0 : Nat) {a : Nat} {v0 v1 v2 v3 v4 v5 : Value} (he : ws[q0]? = some (a, .inr (0, [v0, v1, v2, v3, v4, v5]))) (hdg : decode cc pc = .ok (.getfield 30, 3)) (kk : W p l e R s m args below meth c H locs cells slots Q (F0 m (pc + 3) ls (v1 :: rest))) : W p l e R s m args below meth c H locs cells slots Q (F0 m pc ls (.ref a :: rest)) :=
  va_get (ci := 0) (C := R_T) (T := F_T) (N := 6) X.1 X.2.1 X.hts ui_T X.ow X.hK hP q0 he rfl 1 (by decide) (X.hts _ tw1_36) (fun _ h9 => h9) rfl hdg kk
theorem pf_T_30 (X : Cx p s m meth c args cc R_T nL rt D cB cI) (hP : va_P D cls ws H) (hD : va_D A ws) {H0 : Heap} (hS : va_S A H0 H locs) (q0 : Nat) {a : Nat} {x : Int32} {v0 v1 v2 v3 v4 v5 : Value} (he : ws[q0]? = some (a, .inr (0, [v0, v1, v2, v3, v4, v5]))) (hdg : decode cc pc = .ok (.putfield 30, 3)) (kk : ∀ (H1 : Heap) (locs1 : List Loc), va_P D cls (ws.set q0 (a, .inr (0, [v0, .int x, v2, v3, v4, v5]))) H1 → va_D A (ws.set q0 (a, .inr (0, [v0, .int x, v2, v3, v4, v5]))) → va_S A H0 H1 locs1 → W p l e R s m args below meth c H1 locs1 cells slots Q (F0 m (pc + 3) ls rest)) : W p l e R s m args below meth c H locs cells slots Q (F0 m pc ls (.int x :: .ref a :: rest)) :=
  va_put (D := D) (ci := 0) (v := .int x) (ty := .int) (C := R_T) (T := F_T) (N := 6) X.1 X.2.1 X.hts ui_T ty_T ty_T_ok n_T X.ow X.hK hP hD hS q0 he rfl 1 (by decide) (X.hts _ tw1_36) (fun _ h9 => h9) rfl (by decide +kernel) rfl rfl (Nat.le_of_ble_eq_true rfl) hdg kk
theorem gf_T_16 (X : Cx p s m meth c args cc R_T nL rt D cB cI) (hP : va_P D cls ws H) (q0 : Nat) {a : Nat} {v0 v1 v2 v3 v4 v5 : Value} (he : ws[q0]? = some (a, .inr (0, [v0, v1, v2, v3, v4, v5]))) (hdg : decode cc pc = .ok (.getfield 16, 3)) (kk : W p l e R s m args below meth c H locs cells slots Q (F0 m (pc + 3) ls (v2 :: rest))) : W p l e R s m args below meth c H locs cells slots Q (F0 m pc ls (.ref a :: rest)) :=
  va_get (ci := 0) (C := R_T) (T := F_T) (N := 6) X.1 X.2.1 X.hts ui_T X.ow X.hK hP q0 he rfl 2 (by decide) (X.hts _ tw1_37) (fun _ h9 => h9) rfl hdg kk
theorem pf_T_16 (X : Cx p s m meth c args cc R_T nL rt D cB cI) (hin : meth.name = "<init>") (hP : va_P D cls ws H) (hD : va_D A ws) {H0 : Heap} (hS : va_S A H0 H locs) (q0 : Nat) {a : Nat} {x : Nat} {v0 v1 v2 v3 v4 v5 : Value} (he : ws[q0]? = some (a, .inr (0, [v0, v1, v2, v3, v4, v5]))) (hdg : decode cc pc = .ok (.putfield 16, 3)) (kk : ∀ (H1 : Heap) (locs1 : List Loc), va_P D cls (ws.set q0 (a, .inr (0, [v0, v1, .ref x, v3, v4, v5]))) H1 → va_D A (ws.set q0 (a, .inr (0, [v0, v1, .ref x, v3, v4, v5]))) → va_S A H0 H1 locs1 → W p l e R s m args below meth c H1 locs1 cells slots Q (F0 m (pc + 3) ls rest)) : W p l e R s m args below meth c H locs cells slots Q (F0 m pc ls (.ref x :: .ref a :: rest)) :=
  va_putF (D := D) (ci := 0) (v := .ref x) (ty := .object "WordTerms$Words") (C := R_T) (T := F_T) (N := 6) X.1 X.2.1 X.hts ui_T ty_T ty_T_ok n_T X.ow X.hK hP hD hS q0 he rfl 2 (by decide) (X.hts _ tw1_37) (fun _ h9 => h9) rfl hin rfl (by decide +kernel) rfl rfl (Nat.le_of_ble_eq_true rfl) hdg kk
theorem gf_T_20 (X : Cx p s m meth c args cc R_T nL rt D cB cI) (hP : va_P D cls ws H) (q0 : Nat) {a : Nat} {v0 v1 v2 v3 v4 v5 : Value} (he : ws[q0]? = some (a, .inr (0, [v0, v1, v2, v3, v4, v5]))) (hdg : decode cc pc = .ok (.getfield 20, 3)) (kk : W p l e R s m args below meth c H locs cells slots Q (F0 m (pc + 3) ls (v3 :: rest))) : W p l e R s m args below meth c H locs cells slots Q (F0 m pc ls (.ref a :: rest)) :=
  va_get (ci := 0) (C := R_T) (T := F_T) (N := 6) X.1 X.2.1 X.hts ui_T X.ow X.hK hP q0 he rfl 3 (by decide) (X.hts _ tw1_38) (fun _ h9 => h9) rfl hdg kk
theorem pf_T_20 (X : Cx p s m meth c args cc R_T nL rt D cB cI) (hin : meth.name = "<init>") (hP : va_P D cls ws H) (hD : va_D A ws) {H0 : Heap} (hS : va_S A H0 H locs) (q0 : Nat) {a : Nat} {x : Nat} {v0 v1 v2 v3 v4 v5 : Value} (he : ws[q0]? = some (a, .inr (0, [v0, v1, v2, v3, v4, v5]))) (hdg : decode cc pc = .ok (.putfield 20, 3)) (kk : ∀ (H1 : Heap) (locs1 : List Loc), va_P D cls (ws.set q0 (a, .inr (0, [v0, v1, v2, .ref x, v4, v5]))) H1 → va_D A (ws.set q0 (a, .inr (0, [v0, v1, v2, .ref x, v4, v5]))) → va_S A H0 H1 locs1 → W p l e R s m args below meth c H1 locs1 cells slots Q (F0 m (pc + 3) ls rest)) : W p l e R s m args below meth c H locs cells slots Q (F0 m pc ls (.ref x :: .ref a :: rest)) :=
  va_putF (D := D) (ci := 0) (v := .ref x) (ty := .object "WordTerms$Words") (C := R_T) (T := F_T) (N := 6) X.1 X.2.1 X.hts ui_T ty_T ty_T_ok n_T X.ow X.hK hP hD hS q0 he rfl 3 (by decide) (X.hts _ tw1_38) (fun _ h9 => h9) rfl hin rfl (by decide +kernel) rfl rfl (Nat.le_of_ble_eq_true rfl) hdg kk
theorem gf_T_23 (X : Cx p s m meth c args cc R_T nL rt D cB cI) (hP : va_P D cls ws H) (q0 : Nat) {a : Nat} {v0 v1 v2 v3 v4 v5 : Value} (he : ws[q0]? = some (a, .inr (0, [v0, v1, v2, v3, v4, v5]))) (hdg : decode cc pc = .ok (.getfield 23, 3)) (kk : W p l e R s m args below meth c H locs cells slots Q (F0 m (pc + 3) ls (v4 :: rest))) : W p l e R s m args below meth c H locs cells slots Q (F0 m pc ls (.ref a :: rest)) :=
  va_get (ci := 0) (C := R_T) (T := F_T) (N := 6) X.1 X.2.1 X.hts ui_T X.ow X.hK hP q0 he rfl 4 (by decide) (X.hts _ tw1_39) (fun _ h9 => h9) rfl hdg kk
theorem pf_T_23 (X : Cx p s m meth c args cc R_T nL rt D cB cI) (hP : va_P D cls ws H) (hD : va_D A ws) {H0 : Heap} (hS : va_S A H0 H locs) (q0 : Nat) {a : Nat} {x : Nat} {v0 v1 v2 v3 v4 v5 : Value} (he : ws[q0]? = some (a, .inr (0, [v0, v1, v2, v3, v4, v5]))) (hdg : decode cc pc = .ok (.putfield 23, 3)) (kk : ∀ (H1 : Heap) (locs1 : List Loc), va_P D cls (ws.set q0 (a, .inr (0, [v0, v1, v2, v3, .ref x, v5]))) H1 → va_D A (ws.set q0 (a, .inr (0, [v0, v1, v2, v3, .ref x, v5]))) → va_S A H0 H1 locs1 → W p l e R s m args below meth c H1 locs1 cells slots Q (F0 m (pc + 3) ls rest)) : W p l e R s m args below meth c H locs cells slots Q (F0 m pc ls (.ref x :: .ref a :: rest)) :=
  va_put (D := D) (ci := 0) (v := .ref x) (ty := .array .int) (C := R_T) (T := F_T) (N := 6) X.1 X.2.1 X.hts ui_T ty_T ty_T_ok n_T X.ow X.hK hP hD hS q0 he rfl 4 (by decide) (X.hts _ tw1_39) (fun _ h9 => h9) rfl (by decide +kernel) rfl rfl (Nat.le_of_ble_eq_true rfl) hdg kk
theorem gf_T_27 (X : Cx p s m meth c args cc R_T nL rt D cB cI) (hP : va_P D cls ws H) (q0 : Nat) {a : Nat} {v0 v1 v2 v3 v4 v5 : Value} (he : ws[q0]? = some (a, .inr (0, [v0, v1, v2, v3, v4, v5]))) (hdg : decode cc pc = .ok (.getfield 27, 3)) (kk : W p l e R s m args below meth c H locs cells slots Q (F0 m (pc + 3) ls (v5 :: rest))) : W p l e R s m args below meth c H locs cells slots Q (F0 m pc ls (.ref a :: rest)) :=
  va_get (ci := 0) (C := R_T) (T := F_T) (N := 6) X.1 X.2.1 X.hts ui_T X.ow X.hK hP q0 he rfl 5 (by decide) (X.hts _ tw1_40) (fun _ h9 => h9) rfl hdg kk
theorem pf_T_27 (X : Cx p s m meth c args cc R_T nL rt D cB cI) (hP : va_P D cls ws H) (hD : va_D A ws) {H0 : Heap} (hS : va_S A H0 H locs) (q0 : Nat) {a : Nat} {x : Nat} {v0 v1 v2 v3 v4 v5 : Value} (he : ws[q0]? = some (a, .inr (0, [v0, v1, v2, v3, v4, v5]))) (hdg : decode cc pc = .ok (.putfield 27, 3)) (kk : ∀ (H1 : Heap) (locs1 : List Loc), va_P D cls (ws.set q0 (a, .inr (0, [v0, v1, v2, v3, v4, .ref x]))) H1 → va_D A (ws.set q0 (a, .inr (0, [v0, v1, v2, v3, v4, .ref x]))) → va_S A H0 H1 locs1 → W p l e R s m args below meth c H1 locs1 cells slots Q (F0 m (pc + 3) ls rest)) : W p l e R s m args below meth c H locs cells slots Q (F0 m pc ls (.ref x :: .ref a :: rest)) :=
  va_put (D := D) (ci := 0) (v := .ref x) (ty := .array .int) (C := R_T) (T := F_T) (N := 6) X.1 X.2.1 X.hts ui_T ty_T ty_T_ok n_T X.ow X.hK hP hD hS q0 he rfl 5 (by decide) (X.hts _ tw1_40) (fun _ h9 => h9) rfl (by decide +kernel) rfl rfl (Nat.le_of_ble_eq_true rfl) hdg kk
theorem gf_M_9 (X : Cx p s m meth c args cc R_M nL rt D cB cI) (hP : va_P D cls ws H) (q0 : Nat) {a : Nat} {v0 v1 v2 v3 v4 v5 v6 v7 : Value} (he : ws[q0]? = some (a, .inr (2, [v0, v1, v2, v3, v4, v5, v6, v7]))) (hdg : decode cc pc = .ok (.getfield 9, 3)) (kk : W p l e R s m args below meth c H locs cells slots Q (F0 m (pc + 3) ls (v0 :: rest))) : W p l e R s m args below meth c H locs cells slots Q (F0 m pc ls (.ref a :: rest)) :=
  va_get (ci := 2) (C := R_M) (T := F_M) (N := 8) X.1 X.2.1 X.hts ui_M X.ow X.hK hP q0 he rfl 0 (by decide) (X.hts _ tw1_157) (fun _ h9 => h9) rfl hdg kk
theorem pf_M_9 (X : Cx p s m meth c args cc R_M nL rt D cB cI) (hin : meth.name = "<init>") (hP : va_P D cls ws H) (hD : va_D A ws) {H0 : Heap} (hS : va_S A H0 H locs) (q0 : Nat) {a : Nat} {x : Nat} {v0 v1 v2 v3 v4 v5 v6 v7 : Value} (he : ws[q0]? = some (a, .inr (2, [v0, v1, v2, v3, v4, v5, v6, v7]))) (hdg : decode cc pc = .ok (.putfield 9, 3)) (kk : ∀ (H1 : Heap) (locs1 : List Loc), va_P D cls (ws.set q0 (a, .inr (2, [.ref x, v1, v2, v3, v4, v5, v6, v7]))) H1 → va_D A (ws.set q0 (a, .inr (2, [.ref x, v1, v2, v3, v4, v5, v6, v7]))) → va_S A H0 H1 locs1 → W p l e R s m args below meth c H1 locs1 cells slots Q (F0 m (pc + 3) ls rest)) : W p l e R s m args below meth c H locs cells slots Q (F0 m pc ls (.ref x :: .ref a :: rest)) :=
  va_putF (D := D) (ci := 2) (v := .ref x) (ty := .array .byte) (C := R_M) (T := F_M) (N := 8) X.1 X.2.1 X.hts ui_M ty_M ty_M_ok n_M X.ow X.hK hP hD hS q0 he rfl 0 (by decide) (X.hts _ tw1_157) (fun _ h9 => h9) rfl hin rfl (by decide +kernel) rfl rfl (Nat.le_of_ble_eq_true rfl) hdg kk
theorem gf_M_26 (X : Cx p s m meth c args cc R_M nL rt D cB cI) (hP : va_P D cls ws H) (q0 : Nat) {a : Nat} {v0 v1 v2 v3 v4 v5 v6 v7 : Value} (he : ws[q0]? = some (a, .inr (2, [v0, v1, v2, v3, v4, v5, v6, v7]))) (hdg : decode cc pc = .ok (.getfield 26, 3)) (kk : W p l e R s m args below meth c H locs cells slots Q (F0 m (pc + 3) ls (v1 :: rest))) : W p l e R s m args below meth c H locs cells slots Q (F0 m pc ls (.ref a :: rest)) :=
  va_get (ci := 2) (C := R_M) (T := F_M) (N := 8) X.1 X.2.1 X.hts ui_M X.ow X.hK hP q0 he rfl 1 (by decide) (X.hts _ tw1_158) (fun _ h9 => h9) rfl hdg kk
theorem pf_M_26 (X : Cx p s m meth c args cc R_M nL rt D cB cI) (hP : va_P D cls ws H) (hD : va_D A ws) {H0 : Heap} (hS : va_S A H0 H locs) (q0 : Nat) {a : Nat} {x : Int32} {v0 v1 v2 v3 v4 v5 v6 v7 : Value} (he : ws[q0]? = some (a, .inr (2, [v0, v1, v2, v3, v4, v5, v6, v7]))) (hdg : decode cc pc = .ok (.putfield 26, 3)) (kk : ∀ (H1 : Heap) (locs1 : List Loc), va_P D cls (ws.set q0 (a, .inr (2, [v0, .int x, v2, v3, v4, v5, v6, v7]))) H1 → va_D A (ws.set q0 (a, .inr (2, [v0, .int x, v2, v3, v4, v5, v6, v7]))) → va_S A H0 H1 locs1 → W p l e R s m args below meth c H1 locs1 cells slots Q (F0 m (pc + 3) ls rest)) : W p l e R s m args below meth c H locs cells slots Q (F0 m pc ls (.int x :: .ref a :: rest)) :=
  va_put (D := D) (ci := 2) (v := .int x) (ty := .int) (C := R_M) (T := F_M) (N := 8) X.1 X.2.1 X.hts ui_M ty_M ty_M_ok n_M X.ow X.hK hP hD hS q0 he rfl 1 (by decide) (X.hts _ tw1_158) (fun _ h9 => h9) rfl (by decide +kernel) rfl rfl (Nat.le_of_ble_eq_true rfl) hdg kk
theorem gf_M_13 (X : Cx p s m meth c args cc R_M nL rt D cB cI) (hP : va_P D cls ws H) (q0 : Nat) {a : Nat} {v0 v1 v2 v3 v4 v5 v6 v7 : Value} (he : ws[q0]? = some (a, .inr (2, [v0, v1, v2, v3, v4, v5, v6, v7]))) (hdg : decode cc pc = .ok (.getfield 13, 3)) (kk : W p l e R s m args below meth c H locs cells slots Q (F0 m (pc + 3) ls (v2 :: rest))) : W p l e R s m args below meth c H locs cells slots Q (F0 m pc ls (.ref a :: rest)) :=
  va_get (ci := 2) (C := R_M) (T := F_M) (N := 8) X.1 X.2.1 X.hts ui_M X.ow X.hK hP q0 he rfl 2 (by decide) (X.hts _ tw1_159) (fun _ h9 => h9) rfl hdg kk
theorem pf_M_13 (X : Cx p s m meth c args cc R_M nL rt D cB cI) (hin : meth.name = "<init>") (hP : va_P D cls ws H) (hD : va_D A ws) {H0 : Heap} (hS : va_S A H0 H locs) (q0 : Nat) {a : Nat} {x : Nat} {v0 v1 v2 v3 v4 v5 v6 v7 : Value} (he : ws[q0]? = some (a, .inr (2, [v0, v1, v2, v3, v4, v5, v6, v7]))) (hdg : decode cc pc = .ok (.putfield 13, 3)) (kk : ∀ (H1 : Heap) (locs1 : List Loc), va_P D cls (ws.set q0 (a, .inr (2, [v0, v1, .ref x, v3, v4, v5, v6, v7]))) H1 → va_D A (ws.set q0 (a, .inr (2, [v0, v1, .ref x, v3, v4, v5, v6, v7]))) → va_S A H0 H1 locs1 → W p l e R s m args below meth c H1 locs1 cells slots Q (F0 m (pc + 3) ls rest)) : W p l e R s m args below meth c H locs cells slots Q (F0 m pc ls (.ref x :: .ref a :: rest)) :=
  va_putF (D := D) (ci := 2) (v := .ref x) (ty := .array .byte) (C := R_M) (T := F_M) (N := 8) X.1 X.2.1 X.hts ui_M ty_M ty_M_ok n_M X.ow X.hK hP hD hS q0 he rfl 2 (by decide) (X.hts _ tw1_159) (fun _ h9 => h9) rfl hin rfl (by decide +kernel) rfl rfl (Nat.le_of_ble_eq_true rfl) hdg kk
theorem gf_M_16 (X : Cx p s m meth c args cc R_M nL rt D cB cI) (hP : va_P D cls ws H) (q0 : Nat) {a : Nat} {v0 v1 v2 v3 v4 v5 v6 v7 : Value} (he : ws[q0]? = some (a, .inr (2, [v0, v1, v2, v3, v4, v5, v6, v7]))) (hdg : decode cc pc = .ok (.getfield 16, 3)) (kk : W p l e R s m args below meth c H locs cells slots Q (F0 m (pc + 3) ls (v3 :: rest))) : W p l e R s m args below meth c H locs cells slots Q (F0 m pc ls (.ref a :: rest)) :=
  va_get (ci := 2) (C := R_M) (T := F_M) (N := 8) X.1 X.2.1 X.hts ui_M X.ow X.hK hP q0 he rfl 3 (by decide) (X.hts _ tw1_160) (fun _ h9 => h9) rfl hdg kk
theorem pf_M_16 (X : Cx p s m meth c args cc R_M nL rt D cB cI) (hin : meth.name = "<init>") (hP : va_P D cls ws H) (hD : va_D A ws) {H0 : Heap} (hS : va_S A H0 H locs) (q0 : Nat) {a : Nat} {x : Nat} {v0 v1 v2 v3 v4 v5 v6 v7 : Value} (he : ws[q0]? = some (a, .inr (2, [v0, v1, v2, v3, v4, v5, v6, v7]))) (hdg : decode cc pc = .ok (.putfield 16, 3)) (kk : ∀ (H1 : Heap) (locs1 : List Loc), va_P D cls (ws.set q0 (a, .inr (2, [v0, v1, v2, .ref x, v4, v5, v6, v7]))) H1 → va_D A (ws.set q0 (a, .inr (2, [v0, v1, v2, .ref x, v4, v5, v6, v7]))) → va_S A H0 H1 locs1 → W p l e R s m args below meth c H1 locs1 cells slots Q (F0 m (pc + 3) ls rest)) : W p l e R s m args below meth c H locs cells slots Q (F0 m pc ls (.ref x :: .ref a :: rest)) :=
  va_putF (D := D) (ci := 2) (v := .ref x) (ty := .array .int) (C := R_M) (T := F_M) (N := 8) X.1 X.2.1 X.hts ui_M ty_M ty_M_ok n_M X.ow X.hK hP hD hS q0 he rfl 3 (by decide) (X.hts _ tw1_160) (fun _ h9 => h9) rfl hin rfl (by decide +kernel) rfl rfl (Nat.le_of_ble_eq_true rfl) hdg kk
theorem gf_M_48 (X : Cx p s m meth c args cc R_M nL rt D cB cI) (hP : va_P D cls ws H) (q0 : Nat) {a : Nat} {v0 v1 v2 v3 v4 v5 v6 v7 : Value} (he : ws[q0]? = some (a, .inr (2, [v0, v1, v2, v3, v4, v5, v6, v7]))) (hdg : decode cc pc = .ok (.getfield 48, 3)) (kk : W p l e R s m args below meth c H locs cells slots Q (F0 m (pc + 3) ls (v4 :: rest))) : W p l e R s m args below meth c H locs cells slots Q (F0 m pc ls (.ref a :: rest)) :=
  va_get (ci := 2) (C := R_M) (T := F_M) (N := 8) X.1 X.2.1 X.hts ui_M X.ow X.hK hP q0 he rfl 4 (by decide) (X.hts _ tw1_161) (fun _ h9 => h9) rfl hdg kk
theorem pf_M_48 (X : Cx p s m meth c args cc R_M nL rt D cB cI) (hP : va_P D cls ws H) (hD : va_D A ws) {H0 : Heap} (hS : va_S A H0 H locs) (q0 : Nat) {a : Nat} {x : Int32} {v0 v1 v2 v3 v4 v5 v6 v7 : Value} (he : ws[q0]? = some (a, .inr (2, [v0, v1, v2, v3, v4, v5, v6, v7]))) (hdg : decode cc pc = .ok (.putfield 48, 3)) (kk : ∀ (H1 : Heap) (locs1 : List Loc), va_P D cls (ws.set q0 (a, .inr (2, [v0, v1, v2, v3, .int x, v5, v6, v7]))) H1 → va_D A (ws.set q0 (a, .inr (2, [v0, v1, v2, v3, .int x, v5, v6, v7]))) → va_S A H0 H1 locs1 → W p l e R s m args below meth c H1 locs1 cells slots Q (F0 m (pc + 3) ls rest)) : W p l e R s m args below meth c H locs cells slots Q (F0 m pc ls (.int x :: .ref a :: rest)) :=
  va_put (D := D) (ci := 2) (v := .int x) (ty := .int) (C := R_M) (T := F_M) (N := 8) X.1 X.2.1 X.hts ui_M ty_M ty_M_ok n_M X.ow X.hK hP hD hS q0 he rfl 4 (by decide) (X.hts _ tw1_161) (fun _ h9 => h9) rfl (by decide +kernel) rfl rfl (Nat.le_of_ble_eq_true rfl) hdg kk
theorem gf_M_20 (X : Cx p s m meth c args cc R_M nL rt D cB cI) (hP : va_P D cls ws H) (q0 : Nat) {a : Nat} {v0 v1 v2 v3 v4 v5 v6 v7 : Value} (he : ws[q0]? = some (a, .inr (2, [v0, v1, v2, v3, v4, v5, v6, v7]))) (hdg : decode cc pc = .ok (.getfield 20, 3)) (kk : W p l e R s m args below meth c H locs cells slots Q (F0 m (pc + 3) ls (v5 :: rest))) : W p l e R s m args below meth c H locs cells slots Q (F0 m pc ls (.ref a :: rest)) :=
  va_get (ci := 2) (C := R_M) (T := F_M) (N := 8) X.1 X.2.1 X.hts ui_M X.ow X.hK hP q0 he rfl 5 (by decide) (X.hts _ tw1_162) (fun _ h9 => h9) rfl hdg kk
theorem pf_M_20 (X : Cx p s m meth c args cc R_M nL rt D cB cI) (hin : meth.name = "<init>") (hP : va_P D cls ws H) (hD : va_D A ws) {H0 : Heap} (hS : va_S A H0 H locs) (q0 : Nat) {a : Nat} {x : Nat} {v0 v1 v2 v3 v4 v5 v6 v7 : Value} (he : ws[q0]? = some (a, .inr (2, [v0, v1, v2, v3, v4, v5, v6, v7]))) (hdg : decode cc pc = .ok (.putfield 20, 3)) (kk : ∀ (H1 : Heap) (locs1 : List Loc), va_P D cls (ws.set q0 (a, .inr (2, [v0, v1, v2, v3, v4, .ref x, v6, v7]))) H1 → va_D A (ws.set q0 (a, .inr (2, [v0, v1, v2, v3, v4, .ref x, v6, v7]))) → va_S A H0 H1 locs1 → W p l e R s m args below meth c H1 locs1 cells slots Q (F0 m (pc + 3) ls rest)) : W p l e R s m args below meth c H locs cells slots Q (F0 m pc ls (.ref x :: .ref a :: rest)) :=
  va_putF (D := D) (ci := 2) (v := .ref x) (ty := .array .byte) (C := R_M) (T := F_M) (N := 8) X.1 X.2.1 X.hts ui_M ty_M ty_M_ok n_M X.ow X.hK hP hD hS q0 he rfl 5 (by decide) (X.hts _ tw1_162) (fun _ h9 => h9) rfl hin rfl (by decide +kernel) rfl rfl (Nat.le_of_ble_eq_true rfl) hdg kk
theorem gf_M_34 (X : Cx p s m meth c args cc R_M nL rt D cB cI) (hP : va_P D cls ws H) (q0 : Nat) {a : Nat} {v0 v1 v2 v3 v4 v5 v6 v7 : Value} (he : ws[q0]? = some (a, .inr (2, [v0, v1, v2, v3, v4, v5, v6, v7]))) (hdg : decode cc pc = .ok (.getfield 34, 3)) (kk : W p l e R s m args below meth c H locs cells slots Q (F0 m (pc + 3) ls (v6 :: rest))) : W p l e R s m args below meth c H locs cells slots Q (F0 m pc ls (.ref a :: rest)) :=
  va_get (ci := 2) (C := R_M) (T := F_M) (N := 8) X.1 X.2.1 X.hts ui_M X.ow X.hK hP q0 he rfl 6 (by decide) (X.hts _ tw1_163) (fun _ h9 => h9) rfl hdg kk
theorem pf_M_34 (X : Cx p s m meth c args cc R_M nL rt D cB cI) (hP : va_P D cls ws H) (hD : va_D A ws) {H0 : Heap} (hS : va_S A H0 H locs) (q0 : Nat) {a : Nat} {x : Int32} {v0 v1 v2 v3 v4 v5 v6 v7 : Value} (he : ws[q0]? = some (a, .inr (2, [v0, v1, v2, v3, v4, v5, v6, v7]))) (hdg : decode cc pc = .ok (.putfield 34, 3)) (kk : ∀ (H1 : Heap) (locs1 : List Loc), va_P D cls (ws.set q0 (a, .inr (2, [v0, v1, v2, v3, v4, v5, .int x, v7]))) H1 → va_D A (ws.set q0 (a, .inr (2, [v0, v1, v2, v3, v4, v5, .int x, v7]))) → va_S A H0 H1 locs1 → W p l e R s m args below meth c H1 locs1 cells slots Q (F0 m (pc + 3) ls rest)) : W p l e R s m args below meth c H locs cells slots Q (F0 m pc ls (.int x :: .ref a :: rest)) :=
  va_put (D := D) (ci := 2) (v := .int x) (ty := .int) (C := R_M) (T := F_M) (N := 8) X.1 X.2.1 X.hts ui_M ty_M ty_M_ok n_M X.ow X.hK hP hD hS q0 he rfl 6 (by decide) (X.hts _ tw1_163) (fun _ h9 => h9) rfl (by decide +kernel) rfl rfl (Nat.le_of_ble_eq_true rfl) hdg kk
theorem gf_M_23 (X : Cx p s m meth c args cc R_M nL rt D cB cI) (hP : va_P D cls ws H) (q0 : Nat) {a : Nat} {v0 v1 v2 v3 v4 v5 v6 v7 : Value} (he : ws[q0]? = some (a, .inr (2, [v0, v1, v2, v3, v4, v5, v6, v7]))) (hdg : decode cc pc = .ok (.getfield 23, 3)) (kk : W p l e R s m args below meth c H locs cells slots Q (F0 m (pc + 3) ls (v7 :: rest))) : W p l e R s m args below meth c H locs cells slots Q (F0 m pc ls (.ref a :: rest)) :=
  va_get (ci := 2) (C := R_M) (T := F_M) (N := 8) X.1 X.2.1 X.hts ui_M X.ow X.hK hP q0 he rfl 7 (by decide) (X.hts _ tw1_164) (fun _ h9 => h9) rfl hdg kk
theorem pf_M_23 (X : Cx p s m meth c args cc R_M nL rt D cB cI) (hin : meth.name = "<init>") (hP : va_P D cls ws H) (hD : va_D A ws) {H0 : Heap} (hS : va_S A H0 H locs) (q0 : Nat) {a : Nat} {x : Nat} {v0 v1 v2 v3 v4 v5 v6 v7 : Value} (he : ws[q0]? = some (a, .inr (2, [v0, v1, v2, v3, v4, v5, v6, v7]))) (hdg : decode cc pc = .ok (.putfield 23, 3)) (kk : ∀ (H1 : Heap) (locs1 : List Loc), va_P D cls (ws.set q0 (a, .inr (2, [v0, v1, v2, v3, v4, v5, v6, .ref x]))) H1 → va_D A (ws.set q0 (a, .inr (2, [v0, v1, v2, v3, v4, v5, v6, .ref x]))) → va_S A H0 H1 locs1 → W p l e R s m args below meth c H1 locs1 cells slots Q (F0 m (pc + 3) ls rest)) : W p l e R s m args below meth c H locs cells slots Q (F0 m pc ls (.ref x :: .ref a :: rest)) :=
  va_putF (D := D) (ci := 2) (v := .ref x) (ty := .array .int) (C := R_M) (T := F_M) (N := 8) X.1 X.2.1 X.hts ui_M ty_M ty_M_ok n_M X.ow X.hK hP hD hS q0 he rfl 7 (by decide) (X.hts _ tw1_164) (fun _ h9 => h9) rfl hin rfl (by decide +kernel) rfl rfl (Nat.le_of_ble_eq_true rfl) hdg kk
theorem n_min (X : Cx p s m meth c args cc own nL rt D cB cI) {idx : Nat} (hl : Cond.methodLink own idx y_Math_min ∈ gt) (hsz : ls.size = nL) {a b : Nat} (ha : a < 2 ^ 31) (hb : b < 2 ^ 31) (h1 : 1 ≤ R.frames) (h2 : (rest.map fun v => v.category).sum + 13 ≤ R.locals) (h3 : cells ≤ R.cells) (h4 : slots ≤ R.slots) (hdg : decode cc pc = .ok (.invokestatic idx, 3)) (kk : W p l e R s m args below meth c H locs cells slots Q (F0 m (pc + 3) ls (.int (nI (min a b)) :: rest))) : W p l e R s m args below meth c H locs cells slots Q (F0 m pc ls (.int (nI b) :: .int (nI a) :: rest)) := by
  refine va_mmin X.1 X.2.1 (by rw [X.2.2.1, hsz]) X.ow (X.hts _ hl) (X.hts _ tw1_87) (X.hts _ tw1_4) (X.hts _ tw1_88) h1 h2 h3 h4 hdg ?_
  refine W.top ?_ kk
  by_cases h : b < a
  · rw [if_pos ((nI_ltI hb ha).mpr h), Nat.min_eq_right (by omega)]
  · rw [if_neg (fun q => h ((nI_ltI hb ha).mp q)), Nat.min_eq_left (by omega)]
end CK
theorem st_T_15 : SitN R_T 15 y_W_init b_W_init 1 none 0 R_T := ⟨ntw1_16, tw1_2, tw1_18, by decide +kernel, by decide⟩
theorem st_T_34 : Sit R_T 34 y_T_put4 b_T_put4 3 none 3 := ⟨tw1_58, tw1_1, tw1_60, by decide +kernel, by decide⟩
theorem st_T_38 : Sit R_T 38 y_T_in b_T_in 3 (some .boolean) 3 := ⟨tw1_65, tw1_1, tw1_67, by decide +kernel, by decide⟩
theorem st_T_42 : Sit R_T 42 y_W_read b_W_read 6 none 3 := ⟨tw1_72, tw1_2, tw1_75, by decide +kernel, by decide⟩
theorem st_W_33 : SitN R_W 33 y_T_isSign b_T_isSign 1 (some .boolean) 1 R_T := ⟨ntw1_76, tw1_1, tw1_78, by decide +kernel, by decide⟩
theorem st_W_37 : Sit R_W 37 y_W_take b_W_take 8 none 3 := ⟨tw1_79, tw1_2, tw1_82, by decide +kernel, by decide⟩
theorem st_W_19 : SitN R_W 19 y_T_small b_T_small 1 (some .int) 1 R_T := ⟨ntw1_83, tw1_1, tw1_85, by decide +kernel, by decide⟩
theorem st_W_27 : Sit R_W 27 y_Math_min b_Math_min 2 (some .int) 2 := ⟨tw1_86, tw1_4, tw1_88, by decide +kernel, by decide⟩
theorem st_T_54 : Sit R_T 54 y_W_different b_W_different 3 (some .int) 0 := ⟨tw1_97, tw1_2, tw1_100, by decide +kernel, by decide⟩
theorem st_W_49 : Sit R_W 49 y_W_isFirst b_W_isFirst 3 (some .boolean) 1 := ⟨tw1_101, tw1_2, tw1_104, by decide +kernel, by decide⟩
theorem st_W_45 : Sit R_W 45 y_W_isSame b_W_isSame 3 (some .boolean) 2 := ⟨tw1_105, tw1_2, tw1_108, by decide +kernel, by decide⟩
theorem st_W_41 : SitN R_W 41 y_T_order b_T_order 7 (some .int) 6 R_T := ⟨ntw1_109, tw1_1, tw1_111, by decide +kernel, by decide⟩
theorem st_T_58 : Sit R_T 58 y_W_isSame b_W_isSame 3 (some .boolean) 2 := ⟨tw1_116, tw1_2, tw1_108, by decide +kernel, by decide⟩
theorem st_T_62 : Sit R_T 62 y_T_order b_T_order 7 (some .int) 6 := ⟨tw1_121, tw1_1, tw1_111, by decide +kernel, by decide⟩
theorem st_T_66 : Sit R_T 66 y_Int_signum b_Int_signum 1 (some .int) 1 := ⟨tw1_122, tw1_5, tw1_124, by decide +kernel, by decide⟩
theorem st_T_82 : Sit R_T 82 y_T_readWord b_T_readWord 3 (some .boolean) 0 := ⟨tw1_129, tw1_1, tw1_132, by decide +kernel, by decide⟩
theorem st_T_86 : Sit R_T 86 y_T_distance b_T_distance 8 (some .int) 3 := ⟨tw1_134, tw1_1, tw1_137, by decide +kernel, by decide⟩
theorem st_T_72 : Sit R_T 72 y_T_isSign b_T_isSign 1 (some .boolean) 1 := ⟨tw1_133, tw1_1, tw1_78, by decide +kernel, by decide⟩
theorem st_T_76 : Sit R_T 76 y_Math_min b_Math_min 2 (some .int) 2 := ⟨tw1_138, tw1_4, tw1_88, by decide +kernel, by decide⟩
theorem st_T_90 : Sit R_T 90 y_W_takePlain b_W_takePlain 5 none 3 := ⟨tw1_147, tw1_2, tw1_150, by decide +kernel, by decide⟩
theorem st_M_30 : Sit R_M 30 y_M_put b_M_put 3 none 1 := ⟨tw1_186, tw1_3, tw1_189, by decide +kernel, by decide⟩
theorem st_M_37 : Sit R_M 37 y_M_letter b_M_letter 1 (some .boolean) 1 := ⟨tw1_198, tw1_3, tw1_200, by decide +kernel, by decide⟩
theorem st_M_45 : Sit R_M 45 y_M_run b_M_run 3 (some .int) 1 := ⟨tw1_201, tw1_3, tw1_204, by decide +kernel, by decide⟩
theorem st_M_51 : Sit R_M 51 y_M_note b_M_note 5 none 2 := ⟨tw1_205, tw1_3, tw1_208, by decide +kernel, by decide⟩
theorem st_M_41 : Sit R_M 41 y_M_last b_M_last 2 (some .int) 1 := ⟨tw1_209, tw1_3, tw1_212, by decide +kernel, by decide⟩
theorem st_M_55 : Sit R_M 55 y_M_is b_M_is 2 (some .boolean) 1 := ⟨tw1_217, tw1_3, tw1_220, by decide +kernel, by decide⟩
theorem st_M_58 : Sit R_M 58 y_M_order b_M_order 4 (some .int) 2 := ⟨tw1_225, tw1_3, tw1_228, by decide +kernel, by decide⟩
theorem st_M_62 : Sit R_M 62 y_M_first b_M_first 3 (some .int) 1 := ⟨tw1_233, tw1_3, tw1_224, by decide +kernel, by decide⟩
theorem st_M_65 : Sit R_M 65 y_M_oneWord b_M_oneWord 2 (some .boolean) 0 := ⟨tw2_2, tw1_3, tw2_5, by decide +kernel, by decide⟩
theorem st_M_69 : Sit R_M 69 y_M_distance b_M_distance 7 (some .int) 2 := ⟨tw2_6, tw1_3, tw2_9, by decide +kernel, by decide⟩
theorem st_L_9 : Sit R_L 9 y_T_init b_T_init 1 none 0 := ⟨tw1_8, tw1_1, tw1_10, by decide +kernel, by decide⟩
theorem st_L_12 : Sit R_L 12 y_M_init b_M_init 1 none 0 := ⟨tw1_153, tw1_3, tw1_155, by decide +kernel, by decide⟩
theorem st_L_13 : Sit R_L 13 y_T_feed b_T_feed 6 (some .int) 5 := ⟨tw1_54, tw1_1, tw1_57, by decide +kernel, by decide⟩
theorem st_L_17 : Sit R_L 17 y_M_feed b_M_feed 6 (some .int) 5 := ⟨tw1_182, tw1_3, tw1_185, by decide +kernel, by decide⟩
theorem st_L_18 : Sit R_L 18 y_T_end b_T_end 2 (some .int) 1 := ⟨tw1_61, tw1_1, tw1_64, by decide +kernel, by decide⟩
theorem st_L_22 : Sit R_L 22 y_M_end b_M_end 2 (some .int) 1 := ⟨tw1_190, tw1_3, tw1_193, by decide +kernel, by decide⟩
theorem st_L_23 : Sit R_L 23 y_T_read b_T_read 1 (some .int) 0 := ⟨tw1_68, tw1_1, tw1_71, by decide +kernel, by decide⟩
theorem st_L_27 : Sit R_L 27 y_M_read b_M_read 2 (some .int) 0 := ⟨tw1_194, tw1_3, tw1_197, by decide +kernel, by decide⟩
theorem st_L_28 : Sit R_L 28 y_T_sign b_T_sign 3 (some .int) 2 := ⟨tw1_89, tw1_1, tw1_92, by decide +kernel, by decide⟩
theorem st_L_32 : Sit R_L 32 y_M_sign b_M_sign 3 (some .int) 2 := ⟨tw1_213, tw1_3, tw1_216, by decide +kernel, by decide⟩
theorem st_L_33 : Sit R_L 33 y_T_different b_T_different 1 (some .int) 0 := ⟨tw1_93, tw1_1, tw1_96, by decide +kernel, by decide⟩
theorem st_L_36 : Sit R_L 36 y_M_different b_M_different 3 (some .int) 0 := ⟨tw1_229, tw1_3, tw1_232, by decide +kernel, by decide⟩
theorem st_L_37 : Sit R_L 37 y_T_first b_T_first 3 (some .int) 1 := ⟨tw1_112, tw1_1, tw1_115, by decide +kernel, by decide⟩
theorem st_L_40 : Sit R_L 40 y_M_first b_M_first 3 (some .int) 1 := ⟨tw1_221, tw1_3, tw1_224, by decide +kernel, by decide⟩
theorem st_L_41 : Sit R_L 41 y_T_compare b_T_compare 3 (some .int) 2 := ⟨tw1_117, tw1_1, tw1_120, by decide +kernel, by decide⟩
theorem st_L_44 : Sit R_L 44 y_M_compare b_M_compare 3 (some .int) 2 := ⟨tw1_234, tw1_3, tw1_237, by decide +kernel, by decide⟩
theorem st_L_45 : Sit R_L 45 y_T_apart b_T_apart 2 (some .int) 1 := ⟨tw1_125, tw1_1, tw1_128, by decide +kernel, by decide⟩
theorem st_L_48 : Sit R_L 48 y_M_apart b_M_apart 2 (some .int) 1 := ⟨tw1_238, tw1_3, tw2_1, by decide +kernel, by decide⟩
theorem st_L_49 : Sit R_L 49 y_T_nearest b_T_nearest 5 (some .int) 0 := ⟨tw1_139, tw1_1, tw1_142, by decide +kernel, by decide⟩
theorem st_L_52 : Sit R_L 52 y_M_nearest b_M_nearest 5 (some .int) 0 := ⟨tw2_10, tw1_3, tw2_13, by decide +kernel, by decide⟩
theorem st_L_53 : Sit R_L 53 y_T_plain b_T_plain 3 (some .int) 0 := ⟨tw1_143, tw1_1, tw1_146, by decide +kernel, by decide⟩
theorem st_L_56 : Sit R_L 56 y_M_plain b_M_plain 1 (some .int) 0 := ⟨tw2_14, tw1_3, tw2_17, by decide +kernel, by decide⟩
end
section
-- the plain law: what the system computes, with no program in sight
/-- a sign of a word -/
def sg (x : Int32) : Bool := decide ((48 ≤ x.toInt ∧ x.toInt ≤ 57) ∨ (65 ≤ x.toInt ∧ x.toInt ≤ 90) ∨ (97 ≤ x.toInt ∧ x.toInt ≤ 122))
/-- small letters -/
def sm (x : Int32) : Int32 := if 65 ≤ x.toInt ∧ x.toInt ≤ 90 then x + nI 32 else x
/-- the sign's number, in small letters -/
def ch (x : Int32) : Nat := if 65 ≤ x.toInt ∧ x.toInt ≤ 90 then x.toInt.toNat + 32 else x.toInt.toNat
theorem i_lt (x y : Int32) : x < y ↔ x.toInt < y.toInt := Int32.lt_iff_toInt_lt
theorem i_le (x y : Int32) : x ≤ y ↔ x.toInt ≤ y.toInt := Int32.le_iff_toInt_le
theorem sg_nat {x : Int32} (h : sg x = true) : ∃ j : Nat, x = nI j ∧ 48 ≤ j ∧ j ≤ 122 := by
  have h1 := of_decide_eq_true h
  have h0 : ¬ x < 0 := by
    rw [i_lt]
    have : (0 : Int32).toInt = 0 := rfl
    omega
  obtain ⟨j, hj, rfl⟩ := nI_of h0
  rw [nI_toInt hj] at h1
  exact ⟨j, rfl, by omega, by omega⟩
theorem sm_ch {x : Int32} (h : sg x = true) : sm x = nI (ch x) := by
  obtain ⟨j, rfl, h1, h2⟩ := sg_nat h
  have e : (nI j).toInt = (j : Int) := nI_toInt (by omega)
  unfold sm ch
  rw [e]
  by_cases hc : 65 ≤ (j : Int) ∧ (j : Int) ≤ 90
  · rw [if_pos hc, if_pos hc, nI_add]; rfl
  · rw [if_neg hc, if_neg hc]; rfl
theorem ch_lt {x : Int32} (h : sg x = true) : ch x < 128 := by
  obtain ⟨j, rfl, h1, h2⟩ := sg_nat h
  have e : (nI j).toInt = (j : Int) := nI_toInt (by omega)
  unfold ch
  rw [e]
  split <;> omega
/-- how long the signs go on, d places before the end -/
def rl (T : Nat → Int32) (n : Nat) : Nat → Nat
  | 0 => 0
  | d + 1 => if sg (T (n - (d + 1))) = true then rl T n d + 1 else 0
theorem rl_eq {T : Nat → Int32} {n k : Nat} (hk : k ≤ n) (he : k = n ∨ sg (T k) = false) : ∀ (g p : Nat), k - p = g → p ≤ k → (∀ j, p ≤ j → j < k → sg (T j) = true) → rl T n (n - p) = k - p := by
  intro g
  induction g with
  | zero =>
    intro p h1 h2 hs
    have hp : p = k := by omega
    subst hp
    rcases he with he | he
    · subst he; simp [rl]
    · by_cases hn : p = n
      · subst hn; simp [rl]
      · obtain ⟨d, hd⟩ : ∃ d, n - p = d + 1 := ⟨n - p - 1, by omega⟩
        rw [hd]
        unfold rl
        rw [show n - (d + 1) = p by omega, he]
        simp
  | succ g ih =>
    intro p h1 h2 hs
    obtain ⟨d, hd⟩ : ∃ d, n - p = d + 1 := ⟨n - p - 1, by omega⟩
    rw [hd]
    unfold rl
    rw [show n - (d + 1) = p by omega, hs p (by omega) (by omega)]
    have h3 := ih (p + 1) (by omega) (by omega) (fun j a b => hs j (by omega) b)
    rw [show d = n - (p + 1) by omega, h3]
    simp; omega
/-- a word that ends in -ies, in -s -/
def isIes (f : Nat → Nat) (n : Nat) : Bool := decide (5 ≤ n ∧ f (n - 1) = 115 ∧ f (n - 2) = 101 ∧ f (n - 3) = 105)
def isEs (f : Nat → Nat) (n : Nat) : Bool := decide (4 ≤ n ∧ f (n - 1) = 115 ∧ f (n - 2) ≠ 115 ∧ f (n - 2) ≠ 117)
def kl (f : Nat → Nat) (n : Nat) : Nat := if isIes f n = true then n - 2 else if isEs f n = true then n - 1 else n
def kc (f : Nat → Nat) (n i : Nat) : Nat := if isIes f n = true ∧ i = n - 3 then 121 else f i
/-- the term of a word of n signs -/
def stem (f : Nat → Nat) (n : Nat) : List Nat := (List.range (min 24 (kl f n))).map (kc f n)
def plainW (f : Nat → Nat) (n : Nat) : List Nat := (List.range (min 24 n)).map f
def wf (T : Nat → Int32) (p : Nat) : Nat → Nat := fun i => ch (T (p + i))
theorem mr_len (f : Nat → Nat) (n : Nat) : ((List.range n).map f).length = n := by simp
theorem mr_get (f : Nat → Nat) {n i : Nat} (h : i < n) : ((List.range n).map f).getD i 0 = f i := by
  rw [List.getD_eq_getElem?_getD]; simp [h]
/-- the words that begin d places before the end, or later -/
def rdw (T : Nat → Int32) (n : Nat) : Nat → List (List Nat)
  | 0 => []
  | d + 1 => if sg (T (n - (d + 1))) = true ∧ (n - (d + 1) = 0 ∨ sg (T (n - (d + 1) - 1)) = false) then stem (wf T (n - (d + 1))) (rl T n (d + 1)) :: rdw T n d else rdw T n d
def RW (T : Nat → Int32) (n p : Nat) : List (List Nat) := rdw T n (n - p)
theorem RW_end {T : Nat → Int32} {n p : Nat} (h : n ≤ p) : RW T n p = [] := by
  unfold RW; rw [show n - p = 0 by omega]; rfl
theorem RW_skip {T : Nat → Int32} {n p : Nat} (h : p < n) (hs : sg (T p) = false ∨ (0 < p ∧ sg (T (p - 1)) = true)) : RW T n p = RW T n (p + 1) := by
  unfold RW
  obtain ⟨d, hd⟩ : ∃ d, n - p = d + 1 := ⟨n - p - 1, by omega⟩
  rw [hd, show n - (p + 1) = d by omega]
  conv => lhs; unfold rdw
  rw [show n - (d + 1) = p by omega, if_neg]
  rintro ⟨a, b⟩
  rcases hs with hs | ⟨h0, hs⟩
  · rw [hs] at a; cases a
  · rcases b with b | b
    · omega
    · rw [hs] at b; cases b
theorem RW_run {T : Nat → Int32} {n k : Nat} (hk : k ≤ n) : ∀ (g p : Nat), k - p = g → 0 < p → p ≤ k → (∀ j, p - 1 ≤ j → j < k → sg (T j) = true) → RW T n p = RW T n k := by
  intro g
  induction g with
  | zero => intro p h1 h0 h2 hs; rw [show p = k by omega]
  | succ g ih =>
    intro p h1 h0 h2 hs
    rw [RW_skip (by omega) (Or.inr ⟨h0, hs (p - 1) (by omega) (by omega)⟩)]
    exact ih (p + 1) (by omega) (by omega) (by omega) (fun j a b => hs j (by omega) b)
theorem RW_word {T : Nat → Int32} {n p k : Nat} (h : p < k) (hk : k ≤ n) (hs : ∀ j, p ≤ j → j < k → sg (T j) = true) (he : k = n ∨ sg (T k) = false) (hp : p = 0 ∨ sg (T (p - 1)) = false) : RW T n p = stem (wf T p) (k - p) :: RW T n k := by
  have e := rl_eq hk he _ p rfl (by omega) hs
  have e2 := RW_run (T := T) hk _ (p + 1) rfl (by omega) (by omega) (fun j a b => hs j (by omega) b)
  rw [← e2]
  unfold RW
  obtain ⟨d, hd⟩ : ∃ d, n - p = d + 1 := ⟨n - p - 1, by omega⟩
  rw [hd] at e ⊢
  rw [show n - (p + 1) = d by omega]
  conv => lhs; unfold rdw
  rw [show n - (d + 1) = p by omega, if_pos ⟨hs p (by omega) h, hp⟩, e]
theorem RW_next {T : Nat → Int32} {n k : Nat} (he : n ≤ k ∨ sg (T k) = false) : RW T n k = RW T n (k + 1) := by
  rcases Nat.lt_or_ge k n with h | h
  · rcases he with he | he
    · omega
    · exact RW_skip h (Or.inl he)
  · rw [RW_end h, RW_end (by omega)]
/-- all the tape is one word -/
def aw (T : Nat → Int32) (n : Nat) : Bool := decide (0 < n) && (List.range n).all (fun j => sg (T j))
theorem aw_t {T : Nat → Int32} {n : Nat} (h0 : 0 < n) (h : ∀ j, j < n → sg (T j) = true) : aw T n = true := by
  unfold aw; rw [Bool.and_eq_true]; exact ⟨decide_eq_true h0, List.all_eq_true.mpr fun j hj => h j (List.mem_range.mp hj)⟩
theorem aw_f {T : Nat → Int32} {n j : Nat} (hj : j < n) (h : sg (T j) = false) : aw T n = false := by
  cases e : aw T n with
  | false => rfl
  | true =>
    unfold aw at e; rw [Bool.and_eq_true] at e
    have := List.all_eq_true.mp e.2 j (List.mem_range.mpr hj)
    rw [h] at this; cases this
theorem aw_0 {T : Nat → Int32} : aw T 0 = false := rfl
theorem aw_s {T : Nat → Int32} {n : Nat} (h : aw T n = true) : 0 < n ∧ ∀ j, j < n → sg (T j) = true := by
  unfold aw at h; rw [Bool.and_eq_true] at h
  exact ⟨of_decide_eq_true h.1, fun j hj => List.all_eq_true.mp h.2 j (List.mem_range.mpr hj)⟩
theorem RW_one {T : Nat → Int32} {n : Nat} (h : aw T n = true) : RW T n 0 = [stem (wf T 0) n] := by
  obtain ⟨h0, hs⟩ := aw_s h
  rw [RW_word (k := n) h0 (Nat.le_refl _) (fun j _ b => hs j b) (Or.inl rfl) (Or.inl rfl), RW_end (Nat.le_refl _)]; rfl
/-- the arrays of sizes and signs hold these words -/
def wd (ws : List (List Nat)) (k : Nat) : List Nat := ws.getD k []
def cr (ws : List (List Nat)) (k i : Nat) : Nat := (wd ws k).getD i 0
def Rep (ws : List (List Nat)) (fS fM : Nat → Int32) : Prop := ∀ k, k < ws.length → fS k = nI (wd ws k).length ∧ (wd ws k).length ≤ 24 ∧ ∀ i, i < (wd ws k).length → fM (24 * k + i) = nI (cr ws k i) ∧ cr ws k i < 128
theorem Rep_nil (fS fM : Nat → Int32) : Rep [] fS fM := fun k h => absurd h (Nat.not_lt_zero _)
theorem wd_app {ws : List (List Nat)} {w : List Nat} {k : Nat} (h : k < ws.length) : wd (ws ++ [w]) k = wd ws k := by
  unfold wd; rw [List.getD_eq_getElem?_getD, List.getD_eq_getElem?_getD, List.getElem?_append_left h]
theorem wd_last {ws : List (List Nat)} {w : List Nat} : wd (ws ++ [w]) ws.length = w := by
  unfold wd; rw [List.getD_eq_getElem?_getD, List.getElem?_append_right (Nat.le_refl _)]; simp
theorem Rep_push {ws : List (List Nat)} {w : List Nat} {fS fM fS' fM' : Nat → Int32} (h : Rep ws fS fM) (hw : w.length ≤ 24) (hc : ∀ i, i < w.length → w.getD i 0 < 128) (hS : ∀ j, j < ws.length → fS' j = fS j) (hS2 : fS' ws.length = nI w.length) (hM : ∀ j, j < 24 * ws.length → fM' j = fM j) (hM2 : ∀ i, i < w.length → fM' (24 * ws.length + i) = nI (w.getD i 0)) : Rep (ws ++ [w]) fS' fM' := by
  intro k hk
  rw [List.length_append, List.length_singleton] at hk
  by_cases hlt : k < ws.length
  · obtain ⟨h1, h2, h3⟩ := h k hlt
    have e : wd (ws ++ [w]) k = wd ws k := wd_app hlt
    unfold cr
    rw [e]
    refine ⟨(hS k hlt).trans h1, h2, fun i hi => ?_⟩
    rw [hM _ (by omega)]
    exact h3 i hi
  · have hk2 : k = ws.length := by omega
    subst hk2
    unfold cr
    rw [wd_last]
    exact ⟨hS2, hw, fun i hi => ⟨hM2 i hi, hc i hi⟩⟩
theorem stem_len (f : Nat → Nat) (n : Nat) : (stem f n).length = min 24 (kl f n) := mr_len _ _
theorem stem_get (f : Nat → Nat) {n i : Nat} (h : i < min 24 (kl f n)) : (stem f n).getD i 0 = kc f n i := mr_get _ h
theorem plain_len (f : Nat → Nat) (n : Nat) : (plainW f n).length = min 24 n := mr_len _ _
theorem plain_get (f : Nat → Nat) {n i : Nat} (h : i < min 24 n) : (plainW f n).getD i 0 = f i := mr_get _ h
theorem kl_le (f : Nat → Nat) (n : Nat) : kl f n ≤ n := by unfold kl; split <;> (try split) <;> omega
theorem kc_lt {f : Nat → Nat} {n : Nat} (h : ∀ i, i < n → f i < 128) {i : Nat} (hi : i < n) : kc f n i < 128 := by
  unfold kc; split
  · omega
  · exact h i hi
/-- the order of words -/
def cmpL : List Nat → List Nat → Int
  | [], [] => 0
  | [], _ :: _ => -1
  | _ :: _, [] => 1
  | a :: as, b :: bs => if a < b then -1 else if b < a then 1 else cmpL as bs
theorem cmpL_0 : ∀ (a b : List Nat), cmpL a b = 0 ↔ a = b
  | [], [] => by simp [cmpL]
  | [], _ :: _ => by simp [cmpL]
  | _ :: _, [] => by simp [cmpL]
  | a :: as, b :: bs => by
    unfold cmpL
    have ih := cmpL_0 as bs
    by_cases h1 : a < b
    · rw [if_pos h1]
      constructor
      · intro h; cases h
      · intro h; simp at h; omega
    · rw [if_neg h1]
      by_cases h2 : b < a
      · rw [if_pos h2]
        constructor
        · intro h; cases h
        · intro h; simp at h; omega
      · rw [if_neg h2, ih]
        have : a = b := by omega
        subst this
        simp
theorem cmpL_in : ∀ (a b : List Nat), cmpL a b = -1 ∨ cmpL a b = 0 ∨ cmpL a b = 1
  | [], [] => by simp [cmpL]
  | [], _ :: _ => by simp [cmpL]
  | _ :: _, [] => by simp [cmpL]
  | a :: as, b :: bs => by
    unfold cmpL
    split
    · simp
    · split
      · simp
      · exact cmpL_in as bs
theorem drop_c {a : List Nat} {k : Nat} (h : k < a.length) : a.drop k = a.getD k 0 :: a.drop (k + 1) := by
  rw [List.drop_eq_getElem_cons h, List.getD_eq_getElem?_getD, List.getElem?_eq_getElem h]; rfl
theorem drop_e {a : List Nat} {k : Nat} (h : a.length ≤ k) : a.drop k = [] := List.drop_eq_nil_of_le h
/-- an answer below, at or above 0, as the order says -/
def Sgn (r : Int32) (z : Int) : Prop := (z = -1 ∧ r.toInt < 0) ∨ (z = 0 ∧ r = 0) ∨ (z = 1 ∧ 0 < r.toInt)
theorem Sgn_0 {r : Int32} {a b : List Nat} (h : Sgn r (cmpL a b)) : r = 0 ↔ a = b := by
  rw [← cmpL_0]
  rcases h with ⟨h1, h2⟩ | ⟨h1, h2⟩ | ⟨h1, h2⟩
  · rw [h1]; constructor
    · intro e; subst e; exact absurd h2 (by decide)
    · intro e; cases e
  · rw [h1, h2]; simp
  · rw [h1]; constructor
    · intro e; subst e; exact absurd h2 (by decide)
    · intro e; cases e
/-- the answer of compare -/
def sgn3 (z : Int) : Int32 := if z = -1 then -1 else if z = 0 then nI 0 else nI 1
/-- a word that stands nowhere before -/
def isF (ws : List (List Nat)) (i : Nat) : Bool := (List.range i).all (fun j => decide (wd ws j ≠ wd ws i))
theorem isF_t {ws : List (List Nat)} {i : Nat} (h : ∀ j, j < i → wd ws j ≠ wd ws i) : isF ws i = true := List.all_eq_true.mpr fun j hj => decide_eq_true (h j (List.mem_range.mp hj))
theorem isF_f {ws : List (List Nat)} {i j : Nat} (hj : j < i) (h : wd ws j = wd ws i) : isF ws i = false := by
  cases e : isF ws i with
  | false => rfl
  | true => exact absurd h (of_decide_eq_true (List.all_eq_true.mp e j (List.mem_range.mpr hj)))
def dfc (ws : List (List Nat)) : Nat → Nat
  | 0 => 0
  | i + 1 => dfc ws i + (if isF ws i = true then 1 else 0)
theorem dfc_le (ws : List (List Nat)) : ∀ i, dfc ws i ≤ i
  | 0 => Nat.le_refl _
  | i + 1 => by
    have := dfc_le ws i
    unfold dfc
    split <;> omega
/-- j is the first place of the word at k -/
def Fst (ws : List (List Nat)) (k j : Nat) : Prop := j ≤ k ∧ wd ws j = wd ws k ∧ ∀ i, i < j → wd ws i ≠ wd ws k
theorem Fst_one {ws : List (List Nat)} {k i j : Nat} (h1 : Fst ws k i) (h2 : Fst ws k j) : i = j := by
  obtain ⟨_, a, b⟩ := h1
  obtain ⟨_, c, d⟩ := h2
  rcases Nat.lt_trichotomy i j with h | h | h
  · exact absurd a (d i h)
  · exact h
  · exact absurd c (b j h)
theorem Fst_F {ws : List (List Nat)} {k j : Nat} (h : Fst ws k j) : isF ws k = decide (j = k) := by
  obtain ⟨a, b, d⟩ := h
  by_cases e : j = k
  · subst e; rw [isF_t d]; simp
  · rw [isF_f (show j < k by omega) b]; simp [e]
/-- how many signs must be put in, left out or changed: of the first i signs of u, the first j of v -/
def lev (u v : Nat → Nat) : Nat → Nat → Nat
  | 0 => fun j => j
  | i + 1 => fun j => Nat.rec (motive := fun _ => Nat) (i + 1) (fun j r => min (lev u v i j + (if u i = v j then 0 else 1)) (1 + min (lev u v i (j + 1)) r)) j
theorem lev_0 (u v : Nat → Nat) (j : Nat) : lev u v 0 j = j := rfl
theorem lev_i0 (u v : Nat → Nat) (i : Nat) : lev u v i 0 = i := by cases i <;> rfl
theorem lev_s (u v : Nat → Nat) (i j : Nat) : lev u v (i + 1) (j + 1) = min (lev u v i j + (if u i = v j then 0 else 1)) (1 + min (lev u v i (j + 1)) (lev u v (i + 1) j)) := rfl
theorem lev_le (u v : Nat → Nat) : ∀ i j, lev u v i j ≤ max i j
  | 0, j => by rw [lev_0]; omega
  | i + 1, 0 => by rw [lev_i0]; omega
  | i + 1, j + 1 => by
    rw [lev_s]
    have := lev_le u v i j
    split <;> omega
def levW (a b : List Nat) : Nat := lev (fun i => a.getD i 0) (fun i => b.getD i 0) a.length b.length
theorem levW_le {a b : List Nat} (ha : a.length ≤ 24) (hb : b.length ≤ 24) : levW a b ≤ 24 := by
  have := lev_le (fun i => a.getD i 0) (fun i => b.getD i 0) a.length b.length
  unfold levW; omega
/-- the nearest of the first k words: how near, and where -/
def nst (ws : List (List Nat)) (w : List Nat) : Nat → Nat × Int32
  | 0 => (25, -2)
  | k + 1 => if (nst ws w k).1 ≤ levW (wd ws k) w then nst ws w k else (levW (wd ws k) w, nI k)
def pt (T : Nat → Int32) (n : Nat) (v : Int32) : Nat → Int32 := upd (upd (upd (upd T n (v >>> (nI 24 &&& 31)).toInt8.toInt32) (n + 1) (v >>> (nI 16 &&& 31)).toInt8.toInt32) (n + 2) (v >>> (nI 8 &&& 31)).toInt8.toInt32) (n + 3) v.toInt8.toInt32
def pt5 (T : Nat → Int32) (n : Nat) (a b c d e : Int32) : Nat → Int32 := pt (pt (pt (pt (pt T n a) (n + 4) b) (n + 8) c) (n + 12) d) (n + 16) e
theorem i_nle {x y : Int32} (h : x < y) : ¬ y ≤ x := by rw [i_lt] at h; rw [i_le]; omega
theorem i_len {x y : Int32} (h : ¬ x < y) : y ≤ x := by rw [i_lt] at h; rw [i_le]; omega
theorem i_ltn {x y : Int32} (h : ¬ x ≤ y) : y < x := by rw [i_le] at h; rw [i_lt]; omega
/-- k is the number of a place below c -/
abbrev inR (k : Int32) (c : Nat) : Prop := 0 ≤ k.toInt ∧ k.toInt < c
theorem inR_nat {k : Int32} {c : Nat} (h : inR k c) : ∃ j : Nat, j < c ∧ k = nI j := by
  have h0 : ¬ k < 0 := by
    rw [i_lt]
    have : (0 : Int32).toInt = 0 := rfl
    have := h.1
    omega
  obtain ⟨j, hj, rfl⟩ := nI_of h0
  have := h.2
  rw [nI_toInt hj] at this
  exact ⟨j, by omega, rfl⟩
theorem inR_m1 {k : Int32} {c : Nat} (hc : c < 2 ^ 30) : (nI 0 ≤ k ∧ k ≤ nI c - nI 1) ↔ inR k c := by
  have e := pk_sub_toInt hc (show 1 < 2 ^ 30 by decide)
  have e0 : (nI 0).toInt = 0 := rfl
  unfold inR
  rw [i_le, i_le, e, e0]
  omega
theorem n_and255 {c : Nat} (h : c < 128) : nI c &&& nI 255 = nI c := by
  rw [pk_andN (show c < 2 ^ 32 by omega) 8 (by decide)]
  rw [Nat.mod_eq_of_lt (by omega)]
theorem sgn_sub {a b : Nat} {z : Int} (ha : a < 2 ^ 30) (hb : b < 2 ^ 30) (h : a ≠ b) : Sgn (nI a - nI b) (if a < b then -1 else if b < a then 1 else z) := by
  have e := pk_sub_toInt ha hb
  by_cases h1 : a < b
  · rw [if_pos h1]; exact Or.inl ⟨rfl, by omega⟩
  · rw [if_neg h1, if_pos (by omega)]; exact Or.inr (Or.inr ⟨rfl, by omega⟩)
theorem cmp_ne {u v : List Nat} {k : Nat} (hu : k < u.length) (hv : k < v.length) (h : u.getD k 0 ≠ v.getD k 0) : cmpL (u.drop k) (v.drop k) = if u.getD k 0 < v.getD k 0 then -1 else if v.getD k 0 < u.getD k 0 then 1 else 0 := by
  rw [drop_c hu, drop_c hv]; unfold cmpL
  by_cases h1 : u.getD k 0 < v.getD k 0
  · rw [if_pos h1, if_pos h1]
  · rw [if_neg h1, if_neg h1, if_pos (by omega), if_pos (by omega)]
theorem cmp_eq {u v : List Nat} {k : Nat} (hu : k < u.length) (hv : k < v.length) (h : u.getD k 0 = v.getD k 0) : cmpL (u.drop k) (v.drop k) = cmpL (u.drop (k + 1)) (v.drop (k + 1)) := by
  rw [drop_c hu, drop_c hv]; conv => lhs; unfold cmpL
  rw [if_neg (by omega), if_neg (by omega)]
theorem cmp_end {u v : List Nat} {k : Nat} (hu : k ≤ u.length) (hv : k ≤ v.length) (h : u.length ≤ k ∨ v.length ≤ k) : cmpL (u.drop k) (v.drop k) = if u.length < v.length then -1 else if v.length < u.length then 1 else 0 := by
  by_cases h1 : u.length < v.length
  · rw [if_pos h1, drop_e (show u.length ≤ k by omega), drop_c (show k < v.length by omega)]; rfl
  · rw [if_neg h1]
    by_cases h2 : v.length < u.length
    · rw [if_pos h2, drop_e (show v.length ≤ k by omega), drop_c (show k < u.length by omega)]; rfl
    · rw [if_neg h2, drop_e (show v.length ≤ k by omega), drop_e (show u.length ≤ k by omega)]; rfl
theorem sgn_end {u v : List Nat} {k : Nat} (hu : k ≤ u.length) (hv : k ≤ v.length) (h : u.length ≤ k ∨ v.length ≤ k) (h1 : u.length < 2 ^ 30) (h2 : v.length < 2 ^ 30) : Sgn (nI u.length - nI v.length) (cmpL (u.drop k) (v.drop k)) := by
  rw [cmp_end hu hv h]
  by_cases e : u.length = v.length
  · rw [if_neg (by omega), if_neg (by omega), e]
    exact Or.inr (Or.inl ⟨rfl, by rw [pk_sub (Nat.le_refl _), Nat.sub_self]; rfl⟩)
  · exact sgn_sub h1 h2 e
theorem sgn_bits (x : Int32) : (x >>> (nI 31 &&& 31)) ||| ((-x).toUInt32 >>> ((nI 31).toUInt32 &&& Int32.toUInt32 31)).toInt32 = if x.toInt < 0 then -1 else if x = 0 then nI 0 else nI 1 := by
  have e1 := pk_shr x (nI 31 &&& 31) 31 (by decide)
  have e2 := pk_ushr (-x) (nI 31) 31 (by decide)
  have hlo : -2147483648 ≤ x.toInt := Int32.le_toInt x
  have hhi : x.toInt < 2147483648 := Int32.toInt_lt x
  by_cases h : x.toInt < 0
  · rw [if_pos h]
    have : x >>> (nI 31 &&& 31) = -1 := by
      apply Int32.toInt_inj.mp
      rw [e1]
      have : (-1 : Int32).toInt = -1 := rfl
      rw [this, Int.shiftRight_eq_div_pow]
      omega
    rw [this]
    apply Int32.toBitVec_inj.mp
    rw [Int32.toBitVec_or]
    exact BitVec.allOnes_or
  · rw [if_neg h]
    have h3 : x >>> (nI 31 &&& 31) = 0 := by
      apply Int32.toInt_inj.mp
      rw [e1]
      have : (0 : Int32).toInt = 0 := rfl
      rw [this, Int.shiftRight_eq_div_pow]
      omega
    rw [h3]
    by_cases h0 : x = 0
    · subst h0; decide
    · rw [if_neg h0]
      obtain ⟨j, hj, rfl⟩ := nI_of (x := x) (by rw [i_lt]; have : (0 : Int32).toInt = 0 := rfl; omega)
      have hj0 : j ≠ 0 := fun e => h0 (by rw [e]; rfl)
      have h5 : ((-nI j).toUInt32 >>> ((nI 31).toUInt32 &&& Int32.toUInt32 31)).toInt32 = nI 1 := by
        apply Int32.toBitVec_inj.mp
        apply BitVec.eq_of_toNat_eq
        rw [e2]
        have h6 : (-nI j).toBitVec.toNat = 2 ^ 32 - j := by
          rw [Int32.toBitVec_neg, BitVec.toNat_neg, pk_tn (by omega)]
          omega
        rw [h6, pk_tn (by decide)]
        omega
      rw [h5]; decide
theorem Sgn_3 {r : Int32} {z : Int} (h : Sgn r z) : (if r.toInt < 0 then -1 else if r = 0 then nI 0 else nI 1) = sgn3 z := by
  unfold sgn3
  rcases h with ⟨h1, h2⟩ | ⟨h1, h2⟩ | ⟨h1, h2⟩
  · rw [if_pos h2, if_pos h1]
  · subst h1; subst h2; rfl
  · have h3 : ¬ r = 0 := fun e => by rw [e] at h2; exact absurd h2 (by decide)
    subst h1
    rw [if_neg (by omega), if_neg h3]; rfl
theorem inR_of {j c : Nat} (h : j < c) (hc : c < 2 ^ 31) : inR (nI j) c := by
  unfold inR; rw [nI_toInt (by omega)]; omega
theorem inS_iff {i : Int32} {n : Nat} (hn : n < 2 ^ 30) : (-1 ≤ i ∧ i ≤ nI n - nI 1) ↔ (-1 ≤ i.toInt ∧ i.toInt < n) := by
  have e := pk_sub_toInt hn (show 1 < 2 ^ 30 by decide)
  have e0 : (-1 : Int32).toInt = -1 := rfl
  rw [i_le, i_le, e, e0]
  omega
/-- the answers -/
def signA (ws : List (List Nat)) (k i : Int32) : Int32 := if inR k ws.length ∧ -1 ≤ i.toInt ∧ i.toInt < (wd ws k.toInt.toNat).length then (if i.toInt = -1 then nI (wd ws k.toInt.toNat).length else nI (cr ws k.toInt.toNat i.toInt.toNat)) else -2
theorem signA_o1 {ws : List (List Nat)} {k i : Int32} (h : ¬ inR k ws.length) : signA ws k i = -2 := by
  unfold signA; rw [if_neg (fun q => h q.1)]
theorem nI_tn {a : Nat} (h : a < 2 ^ 31) : (nI a).toInt.toNat = a := by rw [nI_toInt h]; simp
theorem signA_o2 {ws : List (List Nat)} {a : Nat} {i : Int32} (ha : a < ws.length) (hc : ws.length < 2 ^ 30) (h : ¬ (-1 ≤ i.toInt ∧ i.toInt < (wd ws a).length)) : signA ws (nI a) i = -2 := by
  unfold signA; simp only [nI_tn (show a < 2 ^ 31 by omega)]; rw [if_neg (fun q => h q.2)]
theorem signA_i {ws : List (List Nat)} {a : Nat} {i : Int32} (ha : a < ws.length) (hc : ws.length < 2 ^ 30) (h4 : (wd ws a).length ≤ 24) (h : -1 ≤ i.toInt ∧ i.toInt < (wd ws a).length) : (i = -1 ∧ signA ws (nI a) i = nI (wd ws a).length) ∨ ∃ b, b < (wd ws a).length ∧ i = nI b ∧ signA ws (nI a) i = nI (cr ws a b) := by
  have h0 : inR (nI a) ws.length := inR_of ha (by omega)
  unfold signA
  simp only [nI_tn (show a < 2 ^ 31 by omega)]
  rw [if_pos ⟨h0, h⟩]
  by_cases h1 : i.toInt = -1
  · rw [if_pos h1]; exact Or.inl ⟨Int32.toInt_inj.mp h1, rfl⟩
  · rw [if_neg h1]
    obtain ⟨b, hb, rfl⟩ := inR_nat (k := i) (c := (wd ws a).length) ⟨by omega, h.2⟩
    rw [nI_tn (show b < 2 ^ 31 by omega)]
    exact Or.inr ⟨b, hb, rfl, rfl⟩
def firstR (ws : List (List Nat)) (k r : Int32) : Prop := (∃ a j, a < ws.length ∧ k = nI a ∧ Fst ws a j ∧ r = nI j) ∨ (¬ inR k ws.length ∧ r = -2)
theorem firstR_in {ws : List (List Nat)} {k : Nat} {r : Int32} (hk : k < ws.length) (hc : ws.length < 2 ^ 30) (h : firstR ws (nI k) r) : ∃ j, Fst ws k j ∧ r = nI j := by
  rcases h with ⟨a, j, ha, hka, hF, hr⟩ | ⟨h, -⟩
  · have : k = a := (nI_eq (by omega) (by omega)).mp hka
    subst this
    exact ⟨j, hF, hr⟩
  · exact absurd (inR_of hk (by omega)) h
theorem firstR_one {ws : List (List Nat)} {k r t : Int32} (hc : ws.length < 2 ^ 30) (h1 : firstR ws k r) (h2 : firstR ws k t) : r = t := by
  rcases h1 with ⟨a, j, ha, rfl, hF, rfl⟩ | ⟨h, rfl⟩
  · obtain ⟨i, hi, rfl⟩ := firstR_in ha hc h2
    rw [Fst_one hF hi]
  · rcases h2 with ⟨a, j, ha, rfl, hF, rfl⟩ | ⟨h, rfl⟩
    · exact absurd (inR_of ha (by omega)) h
    · rfl
def compareA (ws : List (List Nat)) (k j : Int32) : Int32 := if inR k ws.length ∧ inR j ws.length then sgn3 (cmpL (wd ws k.toInt.toNat) (wd ws j.toInt.toNat)) else -2
theorem compareA_o {ws : List (List Nat)} {k j : Int32} (h : ¬ (inR k ws.length ∧ inR j ws.length)) : compareA ws k j = -2 := by
  unfold compareA; rw [if_neg h]
theorem compareA_i {ws : List (List Nat)} {a b : Nat} (ha : a < ws.length) (hb : b < ws.length) (hc : ws.length < 2 ^ 30) : compareA ws (nI a) (nI b) = sgn3 (cmpL (wd ws a) (wd ws b)) := by
  have e : (nI a).toInt = (a : Int) := nI_toInt (by omega)
  have e2 : (nI b).toInt = (b : Int) := nI_toInt (by omega)
  unfold compareA; rw [if_pos ⟨inR_of ha (by omega), inR_of hb (by omega)⟩, e, e2, Int.toNat_natCast, Int.toNat_natCast]
theorem sgn3_0 {a b : List Nat} : sgn3 (cmpL a b) = 0 ↔ a = b := by
  rw [← cmpL_0]
  rcases cmpL_in a b with h | h | h <;> rw [h] <;> decide
def feedN (n : Nat) : Nat := if n + 20 ≤ 300 then n + 20 else n
def feedA (n : Nat) : Int32 := if n + 20 ≤ 300 then nI (n + 20) else -3
def feedT (n : Nat) (T : Nat → Int32) (a b c d e : Int32) : Nat → Int32 := if n + 20 ≤ 300 then pt5 T n a b c d e else T
def endA (n : Nat) (k : Int32) : Int32 := if 0 ≤ k.toInt ∧ k.toInt ≤ n then k else -1
def endN (n : Nat) (k : Int32) : Nat := if 0 ≤ k.toInt ∧ k.toInt ≤ n then k.toInt.toNat else n
theorem feed_y {n : Nat} (T : Nat → Int32) (a b c d e : Int32) (h : n + 20 ≤ 300) : nI (n + 20) = feedA n ∧ (n + 20, pt5 T n a b c d e) = (feedN n, feedT n T a b c d e) := by
  unfold feedA feedN feedT; rw [if_pos h, if_pos h, if_pos h]; exact ⟨rfl, rfl⟩
theorem feed_n {n : Nat} (T : Nat → Int32) (a b c d e : Int32) (h : 300 < n + 20) : -3 = feedA n ∧ (n, T) = (feedN n, feedT n T a b c d e) := by
  unfold feedA feedN feedT; rw [if_neg (by omega), if_neg (by omega), if_neg (by omega)]; exact ⟨rfl, rfl⟩
theorem feedN_le {n : Nat} (h : n ≤ 300) : feedN n ≤ 300 := by unfold feedN; split <;> omega
theorem endN_le {n : Nat} (k : Int32) (h : n ≤ 300) : endN n k ≤ 300 := by unfold endN; split <;> omega
theorem end_y {n a : Nat} (h : a ≤ n) (hn : n ≤ 300) : nI a = endA n (nI a) ∧ a = endN n (nI a) := by
  have e : (nI a).toInt = (a : Int) := nI_toInt (by omega)
  unfold endA endN; rw [e, if_pos (by omega), if_pos (by omega)]; exact ⟨rfl, by simp⟩
theorem end_n {n : Nat} {k : Int32} (h : ¬ (0 ≤ k.toInt ∧ k.toInt ≤ n)) : -1 = endA n k ∧ n = endN n k := by
  unfold endA endN; rw [if_neg h, if_neg h]; exact ⟨rfl, rfl⟩
theorem inE {n : Nat} {k : Int32} (hn : n ≤ 300) (h : 0 ≤ k.toInt ∧ k.toInt ≤ n) : ∃ a, a ≤ n ∧ k = nI a := by
  obtain ⟨a, ha, e⟩ := inR_nat (k := k) (c := n + 1) ⟨h.1, by omega⟩
  exact ⟨a, by omega, e⟩
theorem kl_ies {f : Nat → Nat} {n : Nat} (h : isIes f n = true) : kl f n = n - 2 ∧ 5 ≤ n := by
  have h2 := of_decide_eq_true h
  exact ⟨by unfold kl; rw [if_pos h], h2.1⟩
theorem kl_es {f : Nat → Nat} {n : Nat} (h : isIes f n = false) (h2 : isEs f n = true) : kl f n = n - 1 := by
  unfold kl; rw [if_neg (by rw [h]; decide), if_pos h2]
theorem kl_no {f : Nat → Nat} {n : Nat} (h : isIes f n = false) (h2 : isEs f n = false) : kl f n = n := by
  unfold kl; rw [if_neg (by rw [h]; decide), if_neg (by rw [h2]; decide)]
theorem kc_no {f : Nat → Nat} {n i : Nat} (h : isIes f n = true → i ≠ n - 3) : kc f n i = f i := by
  unfold kc; rw [if_neg (fun q => h q.1 q.2)]
theorem kc_y {f : Nat → Nat} {n : Nat} (h : isIes f n = true) : kc f n (n - 3) = 121 := by
  unfold kc; rw [if_pos ⟨h, rfl⟩]
theorem upd_s {f : Nat → Int32} {k : Nat} {x : Int32} : upd f k x k = x := pk_us
theorem upd_n {f : Nat → Int32} {k j : Nat} {x : Int32} (h : j ≠ k) : upd f k x j = f j := pk_un h
/-- one more sign of a term is written -/
theorem put_s {f g : Nat → Int32} {ch : Nat → Nat} {b k : Nat} {x : Int32} (h1 : ∀ j, j < b → g j = f j) (h2 : ∀ i, i < k → g (b + i) = nI (ch i)) (hx : x = nI (ch k)) : (∀ j, j < b → upd g (b + k) x j = f j) ∧ ∀ i, i < k + 1 → upd g (b + k) x (b + i) = nI (ch i) := by
  refine ⟨fun j hj => ?_, fun i hi => ?_⟩
  · rw [upd_n (by omega)]; exact h1 j hj
  · rcases Nat.lt_or_ge i k with h | h
    · rw [upd_n (by omega)]; exact h2 i h
    · rw [show i = k by omega, upd_s]; exact hx
/-- a word that was written behind the others -/
theorem Rep_put {ws : List (List Nat)} {c : Nat → Nat} {n : Nat} {fS fM fM' : Nat → Int32} (h : Rep ws fS fM) (hn : n ≤ 24) (hc : ∀ i, i < n → c i < 128) (h1 : ∀ j, j < 24 * ws.length → fM' j = fM j) (h2 : ∀ i, i < n → fM' (24 * ws.length + i) = nI (c i)) : Rep (ws ++ [(List.range n).map c]) (upd fS ws.length (nI n)) fM' := by
  refine Rep_push h (by rw [mr_len]; exact hn) (fun i hi => ?_) (fun j hj => upd_n (by omega)) (by rw [upd_s, mr_len]) h1 (fun i hi => ?_)
  · rw [mr_len] at hi; rw [mr_get _ hi]; exact hc i hi
  · rw [mr_len] at hi; rw [mr_get _ hi]; exact h2 i hi
theorem wf_lt {T : Nat → Int32} {a n : Nat} (h : ∀ j, a ≤ j → j < a + n → sg (T j) = true) {i : Nat} (hi : i < n) : wf T a i < 128 := ch_lt (h _ (by omega) (by omega))
def apartA (ws : List (List Nat)) (T : Nat → Int32) (n : Nat) (k : Int32) : Int32 := if inR k ws.length then (if aw T n = true then nI (levW (wd ws k.toInt.toNat) (stem (wf T 0) n)) else -1) else -2
def apartN (ws : List (List Nat)) (n : Nat) (k : Int32) : Nat := if inR k ws.length then 0 else n
theorem apart_o {ws : List (List Nat)} {T : Nat → Int32} {n : Nat} {k : Int32} (h : ¬ inR k ws.length) : -2 = apartA ws T n k ∧ n = apartN ws n k := by
  unfold apartA apartN; rw [if_neg h, if_neg h]; exact ⟨rfl, rfl⟩
theorem apart_n {ws : List (List Nat)} {T : Nat → Int32} {n a : Nat} (ha : a < ws.length) (hc : ws.length ≤ 150) (h : aw T n = false) : -1 = apartA ws T n (nI a) ∧ 0 = apartN ws n (nI a) := by
  have h0 := inR_of ha (by omega)
  unfold apartA apartN; rw [if_pos h0, if_pos h0, if_neg (by rw [h]; decide)]; exact ⟨rfl, rfl⟩
theorem apart_y {ws : List (List Nat)} {T : Nat → Int32} {n a : Nat} (ha : a < ws.length) (hc : ws.length ≤ 150) (h : aw T n = true) : nI (levW (wd ws a) (stem (wf T 0) n)) = apartA ws T n (nI a) ∧ 0 = apartN ws n (nI a) := by
  have h0 := inR_of ha (by omega)
  have e : (nI a).toInt = (a : Int) := nI_toInt (by omega)
  unfold apartA apartN; rw [if_pos h0, if_pos h0, if_pos h, e, Int.toNat_natCast]; exact ⟨rfl, rfl⟩
theorem apartN_le {ws : List (List Nat)} {n : Nat} (k : Int32) (h : n ≤ 300) : apartN ws n k ≤ 300 := by unfold apartN; split <;> omega
def nearA (ws : List (List Nat)) (T : Nat → Int32) (n : Nat) : Int32 := if aw T n = true then (nst ws (stem (wf T 0) n) ws.length).2 else -1
theorem near_n {ws : List (List Nat)} {T : Nat → Int32} {n : Nat} (h : aw T n = false) : -1 = nearA ws T n := by
  unfold nearA; rw [if_neg (by rw [h]; decide)]
theorem near_y {ws : List (List Nat)} {T : Nat → Int32} {n : Nat} (h : aw T n = true) : (nst ws (stem (wf T 0) n) ws.length).2 = nearA ws T n := by
  unfold nearA; rw [if_pos h]
def plainA (ws : List (List Nat)) (T : Nat → Int32) (n : Nat) : Int32 := if aw T n = true ∧ ws.length ≠ 150 then nI (ws.length + 1) else -1
def plainS (ws : List (List Nat)) (T : Nat → Int32) (n : Nat) : List (List Nat) := if aw T n = true ∧ ws.length ≠ 150 then ws ++ [plainW (wf T 0) n] else ws
theorem plain_y {ws : List (List Nat)} {T : Nat → Int32} {n : Nat} (h : aw T n = true) (h2 : ws.length ≠ 150) : nI (ws.length + 1) = plainA ws T n ∧ ws ++ [plainW (wf T 0) n] = plainS ws T n := by
  unfold plainA plainS; rw [if_pos ⟨h, h2⟩, if_pos ⟨h, h2⟩]; exact ⟨rfl, rfl⟩
theorem plain_n {ws : List (List Nat)} {T : Nat → Int32} {n : Nat} (h : aw T n = false ∨ ws.length = 150) : -1 = plainA ws T n ∧ ws = plainS ws T n := by
  have : ¬ (aw T n = true ∧ ws.length ≠ 150) := by
    rintro ⟨a, b⟩
    rcases h with h | h
    · rw [h] at a; cases a
    · exact b h
  unfold plainA plainS; rw [if_neg this, if_neg this]; exact ⟨rfl, rfl⟩
theorem plainS_le {ws : List (List Nat)} {T : Nat → Int32} {n : Nat} (h : ws.length ≤ 150) : (plainS ws T n).length ≤ 150 := by
  unfold plainS; split
  · rw [List.length_append, List.length_singleton]; omega
  · exact h
end
section
-- leaves: methods that change no cell (gen/leaf.py)
theorem c48 : (nI 48).toInt = 48 := rfl
theorem c57 : (nI 57).toInt = 57 := rfl
theorem c65 : (nI 65).toInt = 65 := rfl
theorem c90 : (nI 90).toInt = 90 := rfl
theorem c97 : (nI 97).toInt = 97 := rfl
theorem c122 : (nI 122).toInt = 122 := rfl
set_option maxHeartbeats 4000000 in
set_option maxRecDepth 100000 in
theorem c_in (l : Launch) (D : va_G) (cB cI : ClassId) (v a b : Int32) : CtP l y_T_in b_T_in 3 (some .boolean) 0 D cB cI [.int v, .int a, .int b] [] (fun r => (r = nI 1 ∧ a ≤ v ∧ v ≤ b) ∨ (r = nI 0 ∧ ¬ (a ≤ v ∧ v ≤ b))) := by
  refine CtP.mk (own := R_T) (by decide) rfl (Nat.le_of_ble_eq_true rfl) ?_
  intro p e s m args below meth c Q ls X hP hl hret
  have hx := X.1
  have hb := X.2.1
  have hl : lv_has ls 3 [(0, .int v), (1, .int a), (2, .int b)] := hl
  refine lv_iload_n hx hb d_T_in_0 rfl (lv_at hl 0 rfl) ?_
  refine lv_iload_n hx hb d_T_in_1 rfl (lv_at hl 1 rfl) ?_
  refine lv_icmp_lt hx hb d_T_in_2 rfl (fun h2 => ?_) (fun h2 => ?_)
  · refine lv_iconst (v := (nI 0)) hx hb d_T_in_14 ki_0 ?_
    exact hret _ _ _ (Or.inr ⟨rfl, fun q => i_nle h2 q.1⟩) rfl d_T_in_15
  · refine lv_iload_n hx hb d_T_in_5 rfl (lv_at hl 0 rfl) ?_
    refine lv_iload_n hx hb d_T_in_6 rfl (lv_at hl 2 rfl) ?_
    refine lv_icmp_gt hx hb d_T_in_7 rfl (fun h7 => ?_) (fun h7 => ?_)
    · refine lv_iconst (v := (nI 0)) hx hb d_T_in_14 ki_0 ?_
      exact hret _ _ _ (Or.inr ⟨rfl, fun q => i_nle h7 q.2⟩) rfl d_T_in_15
    · refine lv_iconst (v := (nI 1)) hx hb d_T_in_10 ki_1 ?_
      refine lv_goto hx hb d_T_in_11 rfl ?_
      exact hret _ _ _ (Or.inl ⟨rfl, i_len h2, i_len h7⟩) rfl d_T_in_15

set_option maxHeartbeats 4000000 in
set_option maxRecDepth 100000 in
theorem c_isSign (l : Launch) (D : va_G) (cB cI : ClassId) (v : Int32) : CtP l y_T_isSign b_T_isSign 1 (some .boolean) 0 D cB cI [.int v] [] (fun r => (r = nI 1 ∧ sg v = true) ∨ (r = nI 0 ∧ sg v = false)) := by
  refine CtP.mk (own := R_T) (by decide) rfl (Nat.le_of_ble_eq_true rfl) ?_
  intro p e s m args below meth c Q ls X hP hl hret
  have hx := X.1
  have hb := X.2.1
  have hl : lv_has ls 1 [(0, .int v)] := hl
  refine lv_iload_n hx hb d_T_isSign_0 rfl (lv_at hl 0 rfl) ?_
  refine lv_bipush (v := (nI 48)) hx hb d_T_isSign_1 kb_48 ?_
  refine lv_icmp_lt hx hb d_T_isSign_3 rfl (fun h3 => ?_) (fun h3 => ?_)
  · refine lv_iload_n hx hb d_T_isSign_12 rfl (lv_at hl 0 rfl) ?_
    refine lv_bipush (v := (nI 97)) hx hb d_T_isSign_13 kb_97 ?_
    refine lv_icmp_lt hx hb d_T_isSign_15 rfl (fun h15 => ?_) (fun h15 => ?_)
    · refine lv_iload_n hx hb d_T_isSign_24 rfl (lv_at hl 0 rfl) ?_
      refine lv_bipush (v := (nI 65)) hx hb d_T_isSign_25 kb_65 ?_
      refine lv_icmp_lt hx hb d_T_isSign_27 rfl (fun h27 => ?_) (fun h27 => ?_)
      · refine lv_iconst (v := (nI 0)) hx hb d_T_isSign_40 ki_0 ?_
        simp only [i_lt, i_le, c48, c57, c65, c90, c97, c122] at h3 h15 h27
        exact hret _ _ _ (Or.inr ⟨rfl, decide_eq_false (by omega)⟩) rfl d_T_isSign_41
      · refine lv_iload_n hx hb d_T_isSign_30 rfl (lv_at hl 0 rfl) ?_
        refine lv_bipush (v := (nI 90)) hx hb d_T_isSign_31 kb_90 ?_
        refine lv_icmp_gt hx hb d_T_isSign_33 rfl (fun h33 => ?_) (fun h33 => ?_)
        · refine lv_iconst (v := (nI 0)) hx hb d_T_isSign_40 ki_0 ?_
          simp only [i_lt, i_le, c48, c57, c65, c90, c97, c122] at h3 h15 h27 h33
          exact hret _ _ _ (Or.inr ⟨rfl, decide_eq_false (by omega)⟩) rfl d_T_isSign_41
        · refine lv_iconst (v := (nI 1)) hx hb d_T_isSign_36 ki_1 ?_
          refine lv_goto hx hb d_T_isSign_37 rfl ?_
          simp only [i_lt, i_le, c48, c57, c65, c90, c97, c122] at h3 h15 h27 h33
          exact hret _ _ _ (Or.inl ⟨rfl, decide_eq_true (by omega)⟩) rfl d_T_isSign_41
    · refine lv_iload_n hx hb d_T_isSign_18 rfl (lv_at hl 0 rfl) ?_
      refine lv_bipush (v := (nI 122)) hx hb d_T_isSign_19 kb_122 ?_
      refine lv_icmp_le hx hb d_T_isSign_21 rfl (fun h21 => ?_) (fun h21 => ?_)
      · refine lv_iconst (v := (nI 1)) hx hb d_T_isSign_36 ki_1 ?_
        refine lv_goto hx hb d_T_isSign_37 rfl ?_
        simp only [i_lt, i_le, c48, c57, c65, c90, c97, c122] at h3 h15 h21
        exact hret _ _ _ (Or.inl ⟨rfl, decide_eq_true (by omega)⟩) rfl d_T_isSign_41
      · refine lv_iload_n hx hb d_T_isSign_24 rfl (lv_at hl 0 rfl) ?_
        refine lv_bipush (v := (nI 65)) hx hb d_T_isSign_25 kb_65 ?_
        refine lv_icmp_lt hx hb d_T_isSign_27 rfl (fun h27 => ?_) (fun h27 => ?_)
        · refine lv_iconst (v := (nI 0)) hx hb d_T_isSign_40 ki_0 ?_
          simp only [i_lt, i_le, c48, c57, c65, c90, c97, c122] at h3 h15 h21 h27
          exact hret _ _ _ (Or.inr ⟨rfl, decide_eq_false (by omega)⟩) rfl d_T_isSign_41
        · refine lv_iload_n hx hb d_T_isSign_30 rfl (lv_at hl 0 rfl) ?_
          refine lv_bipush (v := (nI 90)) hx hb d_T_isSign_31 kb_90 ?_
          refine lv_icmp_gt hx hb d_T_isSign_33 rfl (fun h33 => ?_) (fun h33 => ?_)
          · refine lv_iconst (v := (nI 0)) hx hb d_T_isSign_40 ki_0 ?_
            simp only [i_lt, i_le, c48, c57, c65, c90, c97, c122] at h3 h15 h21 h27 h33
            exact hret _ _ _ (Or.inr ⟨rfl, decide_eq_false (by omega)⟩) rfl d_T_isSign_41
          · refine lv_iconst (v := (nI 1)) hx hb d_T_isSign_36 ki_1 ?_
            refine lv_goto hx hb d_T_isSign_37 rfl ?_
            simp only [i_lt, i_le, c48, c57, c65, c90, c97, c122] at h3 h15 h21 h27 h33
            exact hret _ _ _ (Or.inl ⟨rfl, decide_eq_true (by omega)⟩) rfl d_T_isSign_41
  · refine lv_iload_n hx hb d_T_isSign_6 rfl (lv_at hl 0 rfl) ?_
    refine lv_bipush (v := (nI 57)) hx hb d_T_isSign_7 kb_57 ?_
    refine lv_icmp_le hx hb d_T_isSign_9 rfl (fun h9 => ?_) (fun h9 => ?_)
    · refine lv_iconst (v := (nI 1)) hx hb d_T_isSign_36 ki_1 ?_
      refine lv_goto hx hb d_T_isSign_37 rfl ?_
      simp only [i_lt, i_le, c48, c57, c65, c90, c97, c122] at h3 h9
      exact hret _ _ _ (Or.inl ⟨rfl, decide_eq_true (by omega)⟩) rfl d_T_isSign_41
    · refine lv_iload_n hx hb d_T_isSign_12 rfl (lv_at hl 0 rfl) ?_
      refine lv_bipush (v := (nI 97)) hx hb d_T_isSign_13 kb_97 ?_
      refine lv_icmp_lt hx hb d_T_isSign_15 rfl (fun h15 => ?_) (fun h15 => ?_)
      · refine lv_iload_n hx hb d_T_isSign_24 rfl (lv_at hl 0 rfl) ?_
        refine lv_bipush (v := (nI 65)) hx hb d_T_isSign_25 kb_65 ?_
        refine lv_icmp_lt hx hb d_T_isSign_27 rfl (fun h27 => ?_) (fun h27 => ?_)
        · refine lv_iconst (v := (nI 0)) hx hb d_T_isSign_40 ki_0 ?_
          simp only [i_lt, i_le, c48, c57, c65, c90, c97, c122] at h3 h9 h15 h27
          exact hret _ _ _ (Or.inr ⟨rfl, decide_eq_false (by omega)⟩) rfl d_T_isSign_41
        · refine lv_iload_n hx hb d_T_isSign_30 rfl (lv_at hl 0 rfl) ?_
          refine lv_bipush (v := (nI 90)) hx hb d_T_isSign_31 kb_90 ?_
          refine lv_icmp_gt hx hb d_T_isSign_33 rfl (fun h33 => ?_) (fun h33 => ?_)
          · refine lv_iconst (v := (nI 0)) hx hb d_T_isSign_40 ki_0 ?_
            simp only [i_lt, i_le, c48, c57, c65, c90, c97, c122] at h3 h9 h15 h27 h33
            exact hret _ _ _ (Or.inr ⟨rfl, decide_eq_false (by omega)⟩) rfl d_T_isSign_41
          · refine lv_iconst (v := (nI 1)) hx hb d_T_isSign_36 ki_1 ?_
            refine lv_goto hx hb d_T_isSign_37 rfl ?_
            simp only [i_lt, i_le, c48, c57, c65, c90, c97, c122] at h3 h9 h15 h27 h33
            exact hret _ _ _ (Or.inl ⟨rfl, decide_eq_true (by omega)⟩) rfl d_T_isSign_41
      · refine lv_iload_n hx hb d_T_isSign_18 rfl (lv_at hl 0 rfl) ?_
        refine lv_bipush (v := (nI 122)) hx hb d_T_isSign_19 kb_122 ?_
        refine lv_icmp_le hx hb d_T_isSign_21 rfl (fun h21 => ?_) (fun h21 => ?_)
        · refine lv_iconst (v := (nI 1)) hx hb d_T_isSign_36 ki_1 ?_
          refine lv_goto hx hb d_T_isSign_37 rfl ?_
          simp only [i_lt, i_le, c48, c57, c65, c90, c97, c122] at h3 h9 h15 h21
          exact hret _ _ _ (Or.inl ⟨rfl, decide_eq_true (by omega)⟩) rfl d_T_isSign_41
        · refine lv_iload_n hx hb d_T_isSign_24 rfl (lv_at hl 0 rfl) ?_
          refine lv_bipush (v := (nI 65)) hx hb d_T_isSign_25 kb_65 ?_
          refine lv_icmp_lt hx hb d_T_isSign_27 rfl (fun h27 => ?_) (fun h27 => ?_)
          · refine lv_iconst (v := (nI 0)) hx hb d_T_isSign_40 ki_0 ?_
            simp only [i_lt, i_le, c48, c57, c65, c90, c97, c122] at h3 h9 h15 h21 h27
            exact hret _ _ _ (Or.inr ⟨rfl, decide_eq_false (by omega)⟩) rfl d_T_isSign_41
          · refine lv_iload_n hx hb d_T_isSign_30 rfl (lv_at hl 0 rfl) ?_
            refine lv_bipush (v := (nI 90)) hx hb d_T_isSign_31 kb_90 ?_
            refine lv_icmp_gt hx hb d_T_isSign_33 rfl (fun h33 => ?_) (fun h33 => ?_)
            · refine lv_iconst (v := (nI 0)) hx hb d_T_isSign_40 ki_0 ?_
              simp only [i_lt, i_le, c48, c57, c65, c90, c97, c122] at h3 h9 h15 h21 h27 h33
              exact hret _ _ _ (Or.inr ⟨rfl, decide_eq_false (by omega)⟩) rfl d_T_isSign_41
            · refine lv_iconst (v := (nI 1)) hx hb d_T_isSign_36 ki_1 ?_
              refine lv_goto hx hb d_T_isSign_37 rfl ?_
              simp only [i_lt, i_le, c48, c57, c65, c90, c97, c122] at h3 h9 h15 h21 h27 h33
              exact hret _ _ _ (Or.inl ⟨rfl, decide_eq_true (by omega)⟩) rfl d_T_isSign_41

set_option maxHeartbeats 4000000 in
set_option maxRecDepth 100000 in
theorem c_letter (l : Launch) (D : va_G) (cB cI : ClassId) (v : Int32) : CtP l y_M_letter b_M_letter 1 (some .boolean) 0 D cB cI [.int v] [] (fun r => (r = nI 1 ∧ sg v = true) ∨ (r = nI 0 ∧ sg v = false)) := by
  refine CtP.mk (own := R_M) (by decide) rfl (Nat.le_of_ble_eq_true rfl) ?_
  intro p e s m args below meth c Q ls X hP hl hret
  have hx := X.1
  have hb := X.2.1
  have hl : lv_has ls 1 [(0, .int v)] := hl
  refine lv_iload_n hx hb d_M_letter_0 rfl (lv_at hl 0 rfl) ?_
  refine lv_bipush (v := (nI 48)) hx hb d_M_letter_1 kb_48 ?_
  refine lv_icmp_lt hx hb d_M_letter_3 rfl (fun h3 => ?_) (fun h3 => ?_)
  · refine lv_iload_n hx hb d_M_letter_12 rfl (lv_at hl 0 rfl) ?_
    refine lv_bipush (v := (nI 65)) hx hb d_M_letter_13 kb_65 ?_
    refine lv_icmp_lt hx hb d_M_letter_15 rfl (fun h15 => ?_) (fun h15 => ?_)
    · refine lv_iload_n hx hb d_M_letter_24 rfl (lv_at hl 0 rfl) ?_
      refine lv_bipush (v := (nI 97)) hx hb d_M_letter_25 kb_97 ?_
      refine lv_icmp_lt hx hb d_M_letter_27 rfl (fun h27 => ?_) (fun h27 => ?_)
      · refine lv_iconst (v := (nI 0)) hx hb d_M_letter_40 ki_0 ?_
        simp only [i_lt, i_le, c48, c57, c65, c90, c97, c122] at h3 h15 h27
        exact hret _ _ _ (Or.inr ⟨rfl, decide_eq_false (by omega)⟩) rfl d_M_letter_41
      · refine lv_iload_n hx hb d_M_letter_30 rfl (lv_at hl 0 rfl) ?_
        refine lv_bipush (v := (nI 122)) hx hb d_M_letter_31 kb_122 ?_
        refine lv_icmp_gt hx hb d_M_letter_33 rfl (fun h33 => ?_) (fun h33 => ?_)
        · refine lv_iconst (v := (nI 0)) hx hb d_M_letter_40 ki_0 ?_
          simp only [i_lt, i_le, c48, c57, c65, c90, c97, c122] at h3 h15 h27 h33
          exact hret _ _ _ (Or.inr ⟨rfl, decide_eq_false (by omega)⟩) rfl d_M_letter_41
        · refine lv_iconst (v := (nI 1)) hx hb d_M_letter_36 ki_1 ?_
          refine lv_goto hx hb d_M_letter_37 rfl ?_
          simp only [i_lt, i_le, c48, c57, c65, c90, c97, c122] at h3 h15 h27 h33
          exact hret _ _ _ (Or.inl ⟨rfl, decide_eq_true (by omega)⟩) rfl d_M_letter_41
    · refine lv_iload_n hx hb d_M_letter_18 rfl (lv_at hl 0 rfl) ?_
      refine lv_bipush (v := (nI 90)) hx hb d_M_letter_19 kb_90 ?_
      refine lv_icmp_le hx hb d_M_letter_21 rfl (fun h21 => ?_) (fun h21 => ?_)
      · refine lv_iconst (v := (nI 1)) hx hb d_M_letter_36 ki_1 ?_
        refine lv_goto hx hb d_M_letter_37 rfl ?_
        simp only [i_lt, i_le, c48, c57, c65, c90, c97, c122] at h3 h15 h21
        exact hret _ _ _ (Or.inl ⟨rfl, decide_eq_true (by omega)⟩) rfl d_M_letter_41
      · refine lv_iload_n hx hb d_M_letter_24 rfl (lv_at hl 0 rfl) ?_
        refine lv_bipush (v := (nI 97)) hx hb d_M_letter_25 kb_97 ?_
        refine lv_icmp_lt hx hb d_M_letter_27 rfl (fun h27 => ?_) (fun h27 => ?_)
        · refine lv_iconst (v := (nI 0)) hx hb d_M_letter_40 ki_0 ?_
          simp only [i_lt, i_le, c48, c57, c65, c90, c97, c122] at h3 h15 h21 h27
          exact hret _ _ _ (Or.inr ⟨rfl, decide_eq_false (by omega)⟩) rfl d_M_letter_41
        · refine lv_iload_n hx hb d_M_letter_30 rfl (lv_at hl 0 rfl) ?_
          refine lv_bipush (v := (nI 122)) hx hb d_M_letter_31 kb_122 ?_
          refine lv_icmp_gt hx hb d_M_letter_33 rfl (fun h33 => ?_) (fun h33 => ?_)
          · refine lv_iconst (v := (nI 0)) hx hb d_M_letter_40 ki_0 ?_
            simp only [i_lt, i_le, c48, c57, c65, c90, c97, c122] at h3 h15 h21 h27 h33
            exact hret _ _ _ (Or.inr ⟨rfl, decide_eq_false (by omega)⟩) rfl d_M_letter_41
          · refine lv_iconst (v := (nI 1)) hx hb d_M_letter_36 ki_1 ?_
            refine lv_goto hx hb d_M_letter_37 rfl ?_
            simp only [i_lt, i_le, c48, c57, c65, c90, c97, c122] at h3 h15 h21 h27 h33
            exact hret _ _ _ (Or.inl ⟨rfl, decide_eq_true (by omega)⟩) rfl d_M_letter_41
  · refine lv_iload_n hx hb d_M_letter_6 rfl (lv_at hl 0 rfl) ?_
    refine lv_bipush (v := (nI 57)) hx hb d_M_letter_7 kb_57 ?_
    refine lv_icmp_le hx hb d_M_letter_9 rfl (fun h9 => ?_) (fun h9 => ?_)
    · refine lv_iconst (v := (nI 1)) hx hb d_M_letter_36 ki_1 ?_
      refine lv_goto hx hb d_M_letter_37 rfl ?_
      simp only [i_lt, i_le, c48, c57, c65, c90, c97, c122] at h3 h9
      exact hret _ _ _ (Or.inl ⟨rfl, decide_eq_true (by omega)⟩) rfl d_M_letter_41
    · refine lv_iload_n hx hb d_M_letter_12 rfl (lv_at hl 0 rfl) ?_
      refine lv_bipush (v := (nI 65)) hx hb d_M_letter_13 kb_65 ?_
      refine lv_icmp_lt hx hb d_M_letter_15 rfl (fun h15 => ?_) (fun h15 => ?_)
      · refine lv_iload_n hx hb d_M_letter_24 rfl (lv_at hl 0 rfl) ?_
        refine lv_bipush (v := (nI 97)) hx hb d_M_letter_25 kb_97 ?_
        refine lv_icmp_lt hx hb d_M_letter_27 rfl (fun h27 => ?_) (fun h27 => ?_)
        · refine lv_iconst (v := (nI 0)) hx hb d_M_letter_40 ki_0 ?_
          simp only [i_lt, i_le, c48, c57, c65, c90, c97, c122] at h3 h9 h15 h27
          exact hret _ _ _ (Or.inr ⟨rfl, decide_eq_false (by omega)⟩) rfl d_M_letter_41
        · refine lv_iload_n hx hb d_M_letter_30 rfl (lv_at hl 0 rfl) ?_
          refine lv_bipush (v := (nI 122)) hx hb d_M_letter_31 kb_122 ?_
          refine lv_icmp_gt hx hb d_M_letter_33 rfl (fun h33 => ?_) (fun h33 => ?_)
          · refine lv_iconst (v := (nI 0)) hx hb d_M_letter_40 ki_0 ?_
            simp only [i_lt, i_le, c48, c57, c65, c90, c97, c122] at h3 h9 h15 h27 h33
            exact hret _ _ _ (Or.inr ⟨rfl, decide_eq_false (by omega)⟩) rfl d_M_letter_41
          · refine lv_iconst (v := (nI 1)) hx hb d_M_letter_36 ki_1 ?_
            refine lv_goto hx hb d_M_letter_37 rfl ?_
            simp only [i_lt, i_le, c48, c57, c65, c90, c97, c122] at h3 h9 h15 h27 h33
            exact hret _ _ _ (Or.inl ⟨rfl, decide_eq_true (by omega)⟩) rfl d_M_letter_41
      · refine lv_iload_n hx hb d_M_letter_18 rfl (lv_at hl 0 rfl) ?_
        refine lv_bipush (v := (nI 90)) hx hb d_M_letter_19 kb_90 ?_
        refine lv_icmp_le hx hb d_M_letter_21 rfl (fun h21 => ?_) (fun h21 => ?_)
        · refine lv_iconst (v := (nI 1)) hx hb d_M_letter_36 ki_1 ?_
          refine lv_goto hx hb d_M_letter_37 rfl ?_
          simp only [i_lt, i_le, c48, c57, c65, c90, c97, c122] at h3 h9 h15 h21
          exact hret _ _ _ (Or.inl ⟨rfl, decide_eq_true (by omega)⟩) rfl d_M_letter_41
        · refine lv_iload_n hx hb d_M_letter_24 rfl (lv_at hl 0 rfl) ?_
          refine lv_bipush (v := (nI 97)) hx hb d_M_letter_25 kb_97 ?_
          refine lv_icmp_lt hx hb d_M_letter_27 rfl (fun h27 => ?_) (fun h27 => ?_)
          · refine lv_iconst (v := (nI 0)) hx hb d_M_letter_40 ki_0 ?_
            simp only [i_lt, i_le, c48, c57, c65, c90, c97, c122] at h3 h9 h15 h21 h27
            exact hret _ _ _ (Or.inr ⟨rfl, decide_eq_false (by omega)⟩) rfl d_M_letter_41
          · refine lv_iload_n hx hb d_M_letter_30 rfl (lv_at hl 0 rfl) ?_
            refine lv_bipush (v := (nI 122)) hx hb d_M_letter_31 kb_122 ?_
            refine lv_icmp_gt hx hb d_M_letter_33 rfl (fun h33 => ?_) (fun h33 => ?_)
            · refine lv_iconst (v := (nI 0)) hx hb d_M_letter_40 ki_0 ?_
              simp only [i_lt, i_le, c48, c57, c65, c90, c97, c122] at h3 h9 h15 h21 h27 h33
              exact hret _ _ _ (Or.inr ⟨rfl, decide_eq_false (by omega)⟩) rfl d_M_letter_41
            · refine lv_iconst (v := (nI 1)) hx hb d_M_letter_36 ki_1 ?_
              refine lv_goto hx hb d_M_letter_37 rfl ?_
              simp only [i_lt, i_le, c48, c57, c65, c90, c97, c122] at h3 h9 h15 h21 h27 h33
              exact hret _ _ _ (Or.inl ⟨rfl, decide_eq_true (by omega)⟩) rfl d_M_letter_41

set_option maxHeartbeats 4000000 in
set_option maxRecDepth 100000 in
theorem c_small (l : Launch) (D : va_G) (cB cI : ClassId) (v : Int32) : CtP l y_T_small b_T_small 1 (some .int) 0 D cB cI [.int v] [] (fun r => r = sm v) := by
  refine CtP.mk (own := R_T) (by decide) rfl (Nat.le_of_ble_eq_true rfl) ?_
  intro p e s m args below meth c Q ls X hP hl hret
  have hx := X.1
  have hb := X.2.1
  have hl : lv_has ls 1 [(0, .int v)] := hl
  refine lv_iload_n hx hb d_T_small_0 rfl (lv_at hl 0 rfl) ?_
  refine lv_bipush (v := (nI 65)) hx hb d_T_small_1 kb_65 ?_
  refine lv_icmp_lt hx hb d_T_small_3 rfl (fun h3 => ?_) (fun h3 => ?_)
  · refine lv_iload_n hx hb d_T_small_19 rfl (lv_at hl 0 rfl) ?_
    simp only [i_lt, i_le, c48, c57, c65, c90, c97, c122] at h3
    exact hret _ _ _ (by unfold sm; rw [if_neg (by omega)]) rfl d_T_small_20
  · refine lv_iload_n hx hb d_T_small_6 rfl (lv_at hl 0 rfl) ?_
    refine lv_bipush (v := (nI 90)) hx hb d_T_small_7 kb_90 ?_
    refine lv_icmp_gt hx hb d_T_small_9 rfl (fun h9 => ?_) (fun h9 => ?_)
    · refine lv_iload_n hx hb d_T_small_19 rfl (lv_at hl 0 rfl) ?_
      simp only [i_lt, i_le, c48, c57, c65, c90, c97, c122] at h3 h9
      exact hret _ _ _ (by unfold sm; rw [if_neg (by omega)]) rfl d_T_small_20
    · refine lv_iload_n hx hb d_T_small_12 rfl (lv_at hl 0 rfl) ?_
      refine lv_bipush (v := (nI 32)) hx hb d_T_small_13 kb_32 ?_
      refine lv_iadd hx hb d_T_small_15 ?_
      refine lv_goto hx hb d_T_small_16 rfl ?_
      simp only [i_lt, i_le, c48, c57, c65, c90, c97, c122] at h3 h9
      exact hret _ _ _ (by unfold sm; rw [if_pos (by omega)]) rfl d_T_small_20

set_option maxHeartbeats 4000000 in
set_option maxRecDepth 100000 in
theorem c_signum (l : Launch) (D : va_G) (cB cI : ClassId) (v : Int32) : CtP l y_Int_signum b_Int_signum 1 (some .int) 0 D cB cI [.int v] [] (fun r => r = if v.toInt < 0 then -1 else if v = 0 then nI 0 else nI 1) := by
  refine CtP.mk (own := R_Int) (by decide) rfl (Nat.le_of_ble_eq_true rfl) ?_
  intro p e s m args below meth c Q ls X hP hl hret
  have hx := X.1
  have hb := X.2.1
  have hl : lv_has ls 1 [(0, .int v)] := hl
  refine lv_iload_n hx hb d_Int_signum_0 rfl (lv_at hl 0 rfl) ?_
  refine lv_bipush (v := (nI 31)) hx hb d_Int_signum_1 kb_31 ?_
  refine lv_ishr hx hb d_Int_signum_3 ?_
  refine lv_iload_n hx hb d_Int_signum_4 rfl (lv_at hl 0 rfl) ?_
  refine lv_ineg hx hb d_Int_signum_5 ?_
  refine lv_bipush (v := (nI 31)) hx hb d_Int_signum_6 kb_31 ?_
  refine lv_iushr hx hb d_Int_signum_8 rfl ?_
  refine lv_ior hx hb d_Int_signum_9 ?_
  exact hret _ _ _ (sgn_bits v) rfl d_Int_signum_10
end
section
-- methods that change no cell: the class (gen/pure.py)
set_option maxHeartbeats 4000000 in
set_option maxRecDepth 100000 in
theorem c_order (l : Launch) (D : va_G) (cB cI : ClassId) (q a b : Nat) (f : Nat → Int32) (u v : List Nat) (hu : ∀ i, i < u.length → f (a + i) = nI (u.getD i 0) ∧ u.getD i 0 < 128) (hv : ∀ i, i < v.length → f (b + i) = nI (v.getD i 0) ∧ v.getD i 0 < 128) (hau : a + u.length ≤ 3600) (hbv : b + v.length ≤ 3600) : CtP l y_T_order b_T_order 7 (some .int) 0 D cB cI [.ref q, .int (nI a), .int (nI u.length), .ref q, .int (nI b), .int (nI v.length)] [(q, .inl (cB, 3600, .inl f))] (fun r => Sgn r (cmpL u v)) := by
  refine CtP.mk (own := R_T) (by decide) rfl (Nat.le_of_ble_eq_true rfl) ?_
  intro p e s m args below meth c Q ls X hP hl hret
  have hx := X.1
  have hb := X.2.1
  have hl : lv_has ls 7 [(0, .ref q), (1, .int (nI a)), (2, .int (nI u.length)), (3, .ref q), (4, .int (nI b)), (5, .int (nI v.length))] := hl
  refine lv_iconst (v := (nI 0)) hx hb d_T_order_0 ki_0 ?_
  refine lv_istore hx hb d_T_order_1 hl (by decide) rfl (fun ls hl => ?_)
  have hl : lv_has ls 7 [(6, .int (nI 0)), (0, .ref q), (1, .int (nI a)), (2, .int (nI u.length)), (3, .ref q), (4, .int (nI b)), (5, .int (nI v.length))] := hl
  have loop : ∀ (d9 : Nat) (k : Nat), u.length - k = d9 → (k ≤ u.length) → (k ≤ v.length) → (cmpL u v = cmpL (u.drop k) (v.drop k)) → ∀ ls : Array Slot, lv_has ls 7 [(6, .int (nI k)), (0, .ref q), (1, .int (nI a)), (2, .int (nI u.length)), (3, .ref q), (4, .int (nI b)), (5, .int (nI v.length))] → W p l e (rmd 0) s m args below meth c s.heap [] 0 0 Q (F0 m 3 ls []) := by
    intro d9
    induction d9 using Nat.strongRecOn with
    | _ d9 ih_loop =>
    intro k hd hk1 hk2 hc9 ls hl
    refine lv_iload hx hb d_T_order_3 (lv_at hl 0 rfl) ?_
    refine lv_iload_n hx hb d_T_order_5 rfl (lv_at hl 3 rfl) ?_
    refine n_icmp_ge X (by omega) (by omega) d_T_order_6 rfl (fun h6 => ?_) (fun h6 => ?_)
    · refine lv_iload_n hx hb d_T_order_61 rfl (lv_at hl 3 rfl) ?_
      refine lv_iload hx hb d_T_order_62 (lv_at hl 6 rfl) ?_
      refine lv_isub hx hb d_T_order_64 ?_
      exact hret _ _ _ (by rw [hc9]; exact sgn_end hk1 hk2 (Or.inl h6) (by omega) (by omega)) rfl d_T_order_65
    · refine lv_iload hx hb d_T_order_9 (lv_at hl 0 rfl) ?_
      refine lv_iload hx hb d_T_order_11 (lv_at hl 6 rfl) ?_
      refine n_icmp_ge X (by omega) (by omega) d_T_order_13 rfl (fun h13 => ?_) (fun h13 => ?_)
      · refine lv_iload_n hx hb d_T_order_61 rfl (lv_at hl 3 rfl) ?_
        refine lv_iload hx hb d_T_order_62 (lv_at hl 6 rfl) ?_
        refine lv_isub hx hb d_T_order_64 ?_
        exact hret _ _ _ (by rw [hc9]; exact sgn_end hk1 hk2 (Or.inr h13) (by omega) (by omega)) rfl d_T_order_65
      · obtain ⟨hu1, hu2⟩ := hu k (by omega)
        obtain ⟨hv1, hv2⟩ := hv k (by omega)
        refine lv_aload_n hx hb d_T_order_16 rfl (lv_at hl 1 rfl) ?_
        refine lv_iload_n hx hb d_T_order_17 rfl (lv_at hl 2 rfl) ?_
        refine lv_iload hx hb d_T_order_18 (lv_at hl 0 rfl) ?_
        refine n_iadd X d_T_order_20 ?_
        refine n_bald X hP 0 rfl (by omega) (by decide) d_T_order_21 ?_
        refine W.top (y := (nI (u.getD k 0))) (hu1) ?_
        refine lv_aload_n hx hb d_T_order_22 rfl (lv_at hl 4 rfl) ?_
        refine lv_iload hx hb d_T_order_23 (lv_at hl 5 rfl) ?_
        refine lv_iload hx hb d_T_order_25 (lv_at hl 0 rfl) ?_
        refine n_iadd X d_T_order_27 ?_
        refine n_bald X hP 0 rfl (by omega) (by decide) d_T_order_28 ?_
        refine W.top (y := (nI (v.getD k 0))) (hv1) ?_
        refine n_icmp_eq X (by omega) (by omega) d_T_order_29 rfl (fun h29 => ?_) (fun h29 => ?_)
        · refine lv_iinc hx hb d_T_order_55 hl (k := 0) rfl (v := (nI (k + 1))) (n_inc _ 1) (by decide) rfl (fun ls hl => ?_)
          have hl : lv_has ls 7 [(6, .int (nI (k + 1))), (0, .ref q), (1, .int (nI a)), (2, .int (nI u.length)), (3, .ref q), (4, .int (nI b)), (5, .int (nI v.length))] := hl
          refine lv_goto hx hb d_T_order_58 rfl ?_
          exact ih_loop _ (by omega) (k + 1) rfl (by omega) (by omega) (by rw [hc9]; exact cmp_eq (by omega) (by omega) h29) _ hl
        · refine lv_aload_n hx hb d_T_order_32 rfl (lv_at hl 1 rfl) ?_
          refine lv_iload_n hx hb d_T_order_33 rfl (lv_at hl 2 rfl) ?_
          refine lv_iload hx hb d_T_order_34 (lv_at hl 0 rfl) ?_
          refine n_iadd X d_T_order_36 ?_
          refine n_bald X hP 0 rfl (by omega) (by decide) d_T_order_37 ?_
          refine W.top (y := (nI (u.getD k 0))) (hu1) ?_
          refine lv_sipush (v := (nI 255)) hx hb d_T_order_38 ks_255 ?_
          refine lv_iand hx hb d_T_order_41 ?_
          refine W.top (y := (nI (u.getD k 0))) (n_and255 hu2) ?_
          refine lv_aload_n hx hb d_T_order_42 rfl (lv_at hl 4 rfl) ?_
          refine lv_iload hx hb d_T_order_43 (lv_at hl 5 rfl) ?_
          refine lv_iload hx hb d_T_order_45 (lv_at hl 0 rfl) ?_
          refine n_iadd X d_T_order_47 ?_
          refine n_bald X hP 0 rfl (by omega) (by decide) d_T_order_48 ?_
          refine W.top (y := (nI (v.getD k 0))) (hv1) ?_
          refine lv_sipush (v := (nI 255)) hx hb d_T_order_49 ks_255 ?_
          refine lv_iand hx hb d_T_order_52 ?_
          refine W.top (y := (nI (v.getD k 0))) (n_and255 hv2) ?_
          refine lv_isub hx hb d_T_order_53 ?_
          exact hret _ _ _ (by rw [hc9, cmp_ne (by omega) (by omega) h29]; exact sgn_sub (by omega) (by omega) h29) rfl d_T_order_54
  exact loop _ 0 rfl (Nat.zero_le _) (Nat.zero_le _) (rfl) _ hl

set_option maxHeartbeats 4000000 in
set_option maxRecDepth 100000 in
theorem c_isSame (l : Launch) (D : va_G) (cB cI : ClassId) (q qm qs : Nat) (mv : Int32) (fM fS : Nat → Int32) (ws : List (List Nat)) (hR : Rep ws fS fM) (hc : ws.length ≤ 150) (i j : Nat) (hi : i < ws.length) (hj : j < ws.length) : CtP l y_W_isSame b_W_isSame 3 (some .boolean) 1 D cB cI [.ref q, .int (nI i), .int (nI j)] [(q, .inr (1, [.int mv, .ref qm, .ref qs])), (qm, .inl (cB, 3600, .inl fM)), (qs, .inl (cI, 150, .inl fS))] (fun r => (r = nI 1 ∧ wd ws i = wd ws j) ∨ (r = nI 0 ∧ wd ws i ≠ wd ws j)) := by
  refine CtP.mk (own := R_W) (by decide) rfl (Nat.le_of_ble_eq_true rfl) ?_
  intro p e s m args below meth c Q ls X hP hl hret
  have hx := X.1
  have hb := X.2.1
  have hl : lv_has ls 3 [(0, .ref q), (1, .int (nI i)), (2, .int (nI j))] := hl
  have hi4 := (hR i hi).2.1
  have hj4 := (hR j hj).2.1
  refine lv_aload_n hx hb d_W_isSame_0 rfl (lv_at hl 0 rfl) ?_
  refine gf_W_9 X hP 0 rfl d_W_isSame_1 ?_
  refine lv_bipush (v := (nI 24)) hx hb d_W_isSame_4 kb_24 ?_
  refine lv_iload_n hx hb d_W_isSame_6 rfl (lv_at hl 1 rfl) ?_
  refine n_imul X d_W_isSame_7 ?_
  refine lv_aload_n hx hb d_W_isSame_8 rfl (lv_at hl 0 rfl) ?_
  refine gf_W_15 X hP 0 rfl d_W_isSame_9 ?_
  refine lv_iload_n hx hb d_W_isSame_12 rfl (lv_at hl 1 rfl) ?_
  refine n_iald X hP 2 rfl (by omega) (by decide) d_W_isSame_13 ?_
  refine W.top (y := (nI ((wd ws i).length))) ((hR i hi).1) ?_
  refine lv_aload_n hx hb d_W_isSame_14 rfl (lv_at hl 0 rfl) ?_
  refine gf_W_9 X hP 0 rfl d_W_isSame_15 ?_
  refine lv_bipush (v := (nI 24)) hx hb d_W_isSame_18 kb_24 ?_
  refine lv_iload_n hx hb d_W_isSame_20 rfl (lv_at hl 2 rfl) ?_
  refine n_imul X d_W_isSame_21 ?_
  refine lv_aload_n hx hb d_W_isSame_22 rfl (lv_at hl 0 rfl) ?_
  refine gf_W_15 X hP 0 rfl d_W_isSame_23 ?_
  refine lv_iload_n hx hb d_W_isSame_26 rfl (lv_at hl 2 rfl) ?_
  refine n_iald X hP 2 rfl (by omega) (by decide) d_W_isSame_27 ?_
  refine W.top (y := (nI ((wd ws j).length))) ((hR j hj).1) ?_
  refine cP_N (rest := []) X st_W_41 tw1_110 (c_order l D cB cI qm (24 * i) (24 * j) fM (wd ws i) (wd ws j) (hR i hi).2.2 (hR j hj).2.2 (by omega) (by omega)) (rok (by decide)) hP [1] rfl rfl hl.1 rfl (Nat.le_of_ble_eq_true rfl) d_W_isSame_28 (fun r28 hr => ?_)
  refine lv_if_ne hx hb d_W_isSame_31 rfl (fun h31 => ?_) (fun h31 => ?_)
  · refine lv_iconst (v := (nI 0)) hx hb d_W_isSame_38 ki_0 ?_
    exact hret _ _ _ (Or.inr ⟨rfl, fun q => h31 ((Sgn_0 hr).mpr q)⟩) rfl d_W_isSame_39
  · refine lv_iconst (v := (nI 1)) hx hb d_W_isSame_34 ki_1 ?_
    refine lv_goto hx hb d_W_isSame_35 rfl ?_
    exact hret _ _ _ (Or.inl ⟨rfl, (Sgn_0 hr).mp h31⟩) rfl d_W_isSame_39

set_option maxHeartbeats 4000000 in
set_option maxRecDepth 100000 in
theorem c_isFirst (l : Launch) (D : va_G) (cB cI : ClassId) (q qm qs : Nat) (mv : Int32) (fM fS : Nat → Int32) (ws : List (List Nat)) (hR : Rep ws fS fM) (hc : ws.length ≤ 150) (i : Nat) (hi : i < ws.length) : CtP l y_W_isFirst b_W_isFirst 3 (some .boolean) 2 D cB cI [.ref q, .int (nI i)] [(q, .inr (1, [.int mv, .ref qm, .ref qs])), (qm, .inl (cB, 3600, .inl fM)), (qs, .inl (cI, 150, .inl fS))] (fun r => (r = nI 1 ∧ isF ws i = true) ∨ (r = nI 0 ∧ isF ws i = false)) := by
  refine CtP.mk (own := R_W) (by decide) rfl (Nat.le_of_ble_eq_true rfl) ?_
  intro p e s m args below meth c Q ls X hP hl hret
  have hx := X.1
  have hb := X.2.1
  have hl : lv_has ls 3 [(0, .ref q), (1, .int (nI i))] := hl
  refine lv_iconst (v := (nI 0)) hx hb d_W_isFirst_0 ki_0 ?_
  refine lv_istore_n hx hb d_W_isFirst_1 rfl hl (by decide) rfl (fun ls hl => ?_)
  have hl : lv_has ls 3 [(2, .int (nI 0)), (0, .ref q), (1, .int (nI i))] := hl
  have loop : ∀ (d9 : Nat) (j : Nat), i - j = d9 → (j ≤ i) → (∀ t, t < j → wd ws t ≠ wd ws i) → ∀ ls : Array Slot, lv_has ls 3 [(2, .int (nI j)), (0, .ref q), (1, .int (nI i))] → W p l e (rmd 2) s m args below meth c s.heap [] 0 0 Q (F0 m 2 ls []) := by
    intro d9
    induction d9 using Nat.strongRecOn with
    | _ d9 ih_loop =>
    intro j hd hj hn ls hl
    refine lv_iload_n hx hb d_W_isFirst_2 rfl (lv_at hl 0 rfl) ?_
    refine lv_iload_n hx hb d_W_isFirst_3 rfl (lv_at hl 2 rfl) ?_
    refine n_icmp_ge X (by omega) (by omega) d_W_isFirst_4 rfl (fun h4 => ?_) (fun h4 => ?_)
    · refine lv_iconst (v := (nI 1)) hx hb d_W_isFirst_24 ki_1 ?_
      exact hret _ _ _ (Or.inl ⟨rfl, isF_t (fun t h => hn t (by omega))⟩) rfl d_W_isFirst_25
    · refine lv_aload_n hx hb d_W_isFirst_7 rfl (lv_at hl 1 rfl) ?_
      refine lv_iload_n hx hb d_W_isFirst_8 rfl (lv_at hl 2 rfl) ?_
      refine lv_iload_n hx hb d_W_isFirst_9 rfl (lv_at hl 0 rfl) ?_
      refine cP_V (rest := []) X st_W_45 tw1_106 tw1_107 (c_isSame l D cB cI q qm qs mv fM fS ws hR hc i j hi (by omega)) (rok (by decide)) hP 0 rfl rfl [0, 1, 2] rfl rfl hl.1 rfl (Nat.le_of_ble_eq_true rfl) d_W_isFirst_10 (fun r10 hr => ?_)
      rcases hr with ⟨rfl, he⟩ | ⟨rfl, he⟩
      · refine n_if_eq X (by omega) d_W_isFirst_13 rfl (fun h13 => ?_) (fun h13 => ?_)
        · exact False.elim (by omega)
        · refine lv_iconst (v := (nI 0)) hx hb d_W_isFirst_16 ki_0 ?_
          exact hret _ _ _ (Or.inr ⟨rfl, isF_f (show j < i by omega) he.symm⟩) rfl d_W_isFirst_17
      · refine n_if_eq X (by omega) d_W_isFirst_13 rfl (fun h13 => ?_) (fun h13 => ?_)
        · refine lv_iinc hx hb d_W_isFirst_18 hl (k := 0) rfl (v := (nI (j + 1))) (n_inc _ 1) (by decide) rfl (fun ls hl => ?_)
          have hl : lv_has ls 3 [(2, .int (nI (j + 1))), (0, .ref q), (1, .int (nI i))] := hl
          refine lv_goto hx hb d_W_isFirst_21 rfl ?_
          exact ih_loop _ (by omega) (j + 1) rfl (by omega) (fun t h => (Nat.lt_or_ge t j).elim (hn t) (fun h2 => by rw [show t = j by omega]; exact Ne.symm he)) _ hl
        · exact False.elim (by omega)
  exact loop _ 0 rfl (Nat.zero_le _) (fun t h => absurd h (Nat.not_lt_zero _)) _ hl

set_option maxHeartbeats 4000000 in
set_option maxRecDepth 100000 in
theorem c_Wdifferent (l : Launch) (D : va_G) (cB cI : ClassId) (q qm qs : Nat) (mv : Int32) (fM fS : Nat → Int32) (ws : List (List Nat)) (hR : Rep ws fS fM) (hc : ws.length ≤ 150) : CtP l y_W_different b_W_different 3 (some .int) 3 D cB cI [.ref q] [(q, .inr (1, [.int (nI ws.length), .ref qm, .ref qs])), (qm, .inl (cB, 3600, .inl fM)), (qs, .inl (cI, 150, .inl fS))] (fun r => r = nI (dfc ws ws.length)) := by
  refine CtP.mk (own := R_W) (by decide) rfl (Nat.le_of_ble_eq_true rfl) ?_
  intro p e s m args below meth c Q ls X hP hl hret
  have hx := X.1
  have hb := X.2.1
  have hl : lv_has ls 3 [(0, .ref q)] := hl
  refine lv_iconst (v := (nI 0)) hx hb d_W_different_0 ki_0 ?_
  refine lv_istore_n hx hb d_W_different_1 rfl hl (by decide) rfl (fun ls hl => ?_)
  have hl : lv_has ls 3 [(1, .int (nI 0)), (0, .ref q)] := hl
  refine lv_iconst (v := (nI 0)) hx hb d_W_different_2 ki_0 ?_
  refine lv_istore_n hx hb d_W_different_3 rfl hl (by decide) rfl (fun ls hl => ?_)
  have hl : lv_has ls 3 [(2, .int (nI 0)), (1, .int (nI 0)), (0, .ref q)] := hl
  have loop : ∀ (d9 : Nat) (i : Nat) (n : Nat), ws.length - i = d9 → (i ≤ ws.length) → (n = dfc ws i) → ∀ ls : Array Slot, lv_has ls 3 [(2, .int (nI i)), (1, .int (nI n)), (0, .ref q)] → W p l e (rmd 3) s m args below meth c s.heap [] 0 0 Q (F0 m 4 ls []) := by
    intro d9
    induction d9 using Nat.strongRecOn with
    | _ d9 ih_loop =>
    intro i n hd hi hn ls hl
    refine lv_iload_n hx hb d_W_different_4 rfl (lv_at hl 0 rfl) ?_
    refine lv_aload_n hx hb d_W_different_5 rfl (lv_at hl 2 rfl) ?_
    refine gf_W_23 X hP 0 rfl d_W_different_6 ?_
    refine n_icmp_ge X (by omega) (by omega) d_W_different_9 rfl (fun h9 => ?_) (fun h9 => ?_)
    · refine lv_iload_n hx hb d_W_different_29 rfl (lv_at hl 1 rfl) ?_
      exact hret _ _ _ (by rw [hn, show i = ws.length by omega]) rfl d_W_different_30
    · refine lv_aload_n hx hb d_W_different_12 rfl (lv_at hl 2 rfl) ?_
      refine lv_iload_n hx hb d_W_different_13 rfl (lv_at hl 0 rfl) ?_
      refine cP_V (rest := []) X st_W_49 tw1_102 tw1_103 (c_isFirst l D cB cI q qm qs (nI ws.length) fM fS ws hR hc i (by omega)) (rok (by decide)) hP 0 rfl rfl [0, 1, 2] rfl rfl hl.1 rfl (Nat.le_of_ble_eq_true rfl) d_W_different_14 (fun r14 hr => ?_)
      rcases hr with ⟨rfl, he⟩ | ⟨rfl, he⟩
      · refine n_if_eq X (by omega) d_W_different_17 rfl (fun h17 => ?_) (fun h17 => ?_)
        · exact False.elim (by omega)
        · refine lv_iinc hx hb d_W_different_20 hl (k := 1) rfl (v := (nI (n + 1))) (n_inc _ 1) (by decide) rfl (fun ls hl => ?_)
          have hl : lv_has ls 3 [(1, .int (nI (n + 1))), (2, .int (nI i)), (0, .ref q)] := hl
          refine lv_iinc hx hb d_W_different_23 hl (k := 1) rfl (v := (nI (i + 1))) (n_inc _ 1) (by decide) rfl (fun ls hl => ?_)
          have hl : lv_has ls 3 [(2, .int (nI (i + 1))), (1, .int (nI (n + 1))), (0, .ref q)] := hl
          refine lv_goto hx hb d_W_different_26 rfl ?_
          exact ih_loop _ (by omega) (i + 1) (n + 1) rfl (by omega) (by rw [hn]; show _ = dfc ws i + (if isF ws i = true then 1 else 0); rw [if_pos he]) _ hl
      · refine n_if_eq X (by omega) d_W_different_17 rfl (fun h17 => ?_) (fun h17 => ?_)
        · refine lv_iinc hx hb d_W_different_23 hl (k := 0) rfl (v := (nI (i + 1))) (n_inc _ 1) (by decide) rfl (fun ls hl => ?_)
          have hl : lv_has ls 3 [(2, .int (nI (i + 1))), (1, .int (nI n)), (0, .ref q)] := hl
          refine lv_goto hx hb d_W_different_26 rfl ?_
          exact ih_loop _ (by omega) (i + 1) n rfl (by omega) (by rw [hn]; show _ = dfc ws i + (if isF ws i = true then 1 else 0); rw [if_neg (by rw [he]; decide)]; rfl) _ hl
        · exact False.elim (by omega)
  exact loop _ 0 0 rfl (Nat.zero_le _) (rfl) _ hl

set_option maxHeartbeats 4000000 in
set_option maxRecDepth 100000 in
theorem c_Tsign (l : Launch) (D : va_G) (cB cI : ClassId) (h qt q qw qb qn qm qs : Nat) (tn : Int32) (fM fS : Nat → Int32) (ws : List (List Nat)) (hR : Rep ws fS fM) (hc : ws.length ≤ 150) (k i : Int32) : CtP l y_T_sign b_T_sign 3 (some .int) 1 D cB cI [.ref h, .int k, .int i] [(h, .inr (0, [.ref qt, .int tn, .ref q, .ref qw, .ref qb, .ref qn])), (q, .inr (1, [.int (nI ws.length), .ref qm, .ref qs])), (qm, .inl (cB, 3600, .inl fM)), (qs, .inl (cI, 150, .inl fS))] (fun r => r = signA ws k i) := by
  refine CtP.mk (own := R_T) (by decide) rfl (Nat.le_of_ble_eq_true rfl) ?_
  intro p e s m args below meth c Q ls X hP hl hret
  have hx := X.1
  have hb := X.2.1
  have hl : lv_has ls 3 [(0, .ref h), (1, .int k), (2, .int i)] := hl
  refine lv_iload_n hx hb d_T_sign_0 rfl (lv_at hl 1 rfl) ?_
  refine lv_iconst (v := (nI 0)) hx hb d_T_sign_1 ki_0 ?_
  refine lv_aload_n hx hb d_T_sign_2 rfl (lv_at hl 0 rfl) ?_
  refine gf_T_16 X hP 0 rfl d_T_sign_3 ?_
  refine gf_T_45 X hP 1 rfl d_T_sign_6 ?_
  refine lv_iconst (v := (nI 1)) hx hb d_T_sign_9 ki_1 ?_
  refine lv_isub hx hb d_T_sign_10 ?_
  refine cP_S (rest := []) X st_T_38 tw1_66 (c_in l D cB cI k (nI 0) (nI ws.length - nI 1)) (rok (by decide)) hP [] rfl rfl hl.1 rfl (Nat.le_of_ble_eq_true rfl) d_T_sign_11 (fun r11 hr => ?_)
  rcases hr with ⟨rfl, hr1, hr2⟩ | ⟨rfl, hr⟩
  · obtain ⟨a, ha, rfl⟩ := inR_nat ((inR_m1 (by omega)).mp ⟨hr1, hr2⟩)
    refine n_if_eq X (by omega) d_T_sign_14 rfl (fun h14 => ?_) (fun h14 => ?_)
    · exact False.elim (by omega)
    · have ha4 := (hR a ha).2.1
      refine lv_iload_n hx hb d_T_sign_17 rfl (lv_at hl 2 rfl) ?_
      refine lv_iconst (v := (-1)) hx hb d_T_sign_18 ki_m1 ?_
      refine lv_aload_n hx hb d_T_sign_19 rfl (lv_at hl 0 rfl) ?_
      refine gf_T_16 X hP 0 rfl d_T_sign_20 ?_
      refine gf_T_48 X hP 1 rfl d_T_sign_23 ?_
      refine lv_iload_n hx hb d_T_sign_26 rfl (lv_at hl 1 rfl) ?_
      refine n_iald X hP 3 rfl (by omega) (by decide) d_T_sign_27 ?_
      refine W.top (y := (nI ((wd ws a).length))) ((hR a ha).1) ?_
      refine lv_iconst (v := (nI 1)) hx hb d_T_sign_28 ki_1 ?_
      refine lv_isub hx hb d_T_sign_29 ?_
      refine cP_S (rest := []) X st_T_38 tw1_66 (c_in l D cB cI i (-1) (nI (wd ws a).length - nI 1)) (rok (by decide)) hP [] rfl rfl hl.1 rfl (Nat.le_of_ble_eq_true rfl) d_T_sign_30 (fun r30 hr => ?_)
      rcases hr with ⟨rfl, hr1, hr2⟩ | ⟨rfl, hr⟩
      · refine n_if_ne X (by omega) d_T_sign_33 rfl (fun h33 => ?_) (fun h33 => ?_)
        · rcases signA_i ha (by omega) ha4 ((inS_iff (by omega)).mp ⟨hr1, hr2⟩) with ⟨rfl, he⟩ | ⟨b, hb9, rfl, he⟩
          · refine lv_iload_n hx hb d_T_sign_39 rfl (lv_at hl 2 rfl) ?_
            refine lv_if_ge hx hb d_T_sign_40 rfl (fun h40 => ?_) (fun h40 => ?_)
            · exact False.elim (absurd h40 (by decide))
            · refine lv_aload_n hx hb d_T_sign_43 rfl (lv_at hl 0 rfl) ?_
              refine gf_T_16 X hP 0 rfl d_T_sign_44 ?_
              refine gf_T_48 X hP 1 rfl d_T_sign_47 ?_
              refine lv_iload_n hx hb d_T_sign_50 rfl (lv_at hl 1 rfl) ?_
              refine n_iald X hP 3 rfl (by omega) (by decide) d_T_sign_51 ?_
              refine W.top (y := (nI ((wd ws a).length))) ((hR a ha).1) ?_
              refine lv_goto hx hb d_T_sign_52 rfl ?_
              exact hret _ _ _ (he.symm) rfl d_T_sign_69
          · refine lv_iload_n hx hb d_T_sign_39 rfl (lv_at hl 2 rfl) ?_
            refine lv_if_ge hx hb d_T_sign_40 rfl (fun h40 => ?_) (fun h40 => ?_)
            · refine lv_aload_n hx hb d_T_sign_55 rfl (lv_at hl 0 rfl) ?_
              refine gf_T_16 X hP 0 rfl d_T_sign_56 ?_
              refine gf_T_51 X hP 1 rfl d_T_sign_59 ?_
              refine lv_bipush (v := (nI 24)) hx hb d_T_sign_62 kb_24 ?_
              refine lv_iload_n hx hb d_T_sign_64 rfl (lv_at hl 1 rfl) ?_
              refine n_imul X d_T_sign_65 ?_
              refine lv_iload_n hx hb d_T_sign_66 rfl (lv_at hl 2 rfl) ?_
              refine n_iadd X d_T_sign_67 ?_
              refine n_bald X hP 2 rfl (by omega) (by decide) d_T_sign_68 ?_
              refine W.top (y := (nI (cr ws a b))) (((hR a ha).2.2 b hb9).1) ?_
              exact hret _ _ _ (he.symm) rfl d_T_sign_69
            · exact False.elim (h40 (nI_pos' (by omega)))
        · exact False.elim (by omega)
      · refine n_if_ne X (by omega) d_T_sign_33 rfl (fun h33 => ?_) (fun h33 => ?_)
        · exact False.elim (by omega)
        · refine lv_bipush (v := (-2)) hx hb d_T_sign_36 kb_m2 ?_
          exact hret _ _ _ ((signA_o2 ha (by omega) (fun q => hr ((inS_iff (by omega)).mpr q))).symm) rfl d_T_sign_38
  · have hr : ¬ inR k ws.length := fun q => hr ((inR_m1 (by omega)).mpr q)
    refine n_if_eq X (by omega) d_T_sign_14 rfl (fun h14 => ?_) (fun h14 => ?_)
    · refine lv_bipush (v := (-2)) hx hb d_T_sign_36 kb_m2 ?_
      exact hret _ _ _ ((signA_o1 hr).symm) rfl d_T_sign_38
    · exact False.elim (by omega)

set_option maxHeartbeats 4000000 in
set_option maxRecDepth 100000 in
theorem c_Tdifferent (l : Launch) (D : va_G) (cB cI : ClassId) (h qt q qw qb qn qm qs : Nat) (tn : Int32) (fM fS : Nat → Int32) (ws : List (List Nat)) (hR : Rep ws fS fM) (hc : ws.length ≤ 150) : CtP l y_T_different b_T_different 1 (some .int) 4 D cB cI [.ref h] [(h, .inr (0, [.ref qt, .int tn, .ref q, .ref qw, .ref qb, .ref qn])), (q, .inr (1, [.int (nI ws.length), .ref qm, .ref qs])), (qm, .inl (cB, 3600, .inl fM)), (qs, .inl (cI, 150, .inl fS))] (fun r => r = nI (dfc ws ws.length)) := by
  refine CtP.mk (own := R_T) (by decide) rfl (Nat.le_of_ble_eq_true rfl) ?_
  intro p e s m args below meth c Q ls X hP hl hret
  have hx := X.1
  have hb := X.2.1
  have hl : lv_has ls 1 [(0, .ref h)] := hl
  refine lv_aload_n hx hb d_T_different_0 rfl (lv_at hl 0 rfl) ?_
  refine gf_T_16 X hP 0 rfl d_T_different_1 ?_
  refine cP_V (rest := []) X st_T_54 tw1_98 tw1_99 (c_Wdifferent l D cB cI q qm qs 0 fM fS ws hR hc) (rok (by decide)) hP 1 rfl rfl [1, 2, 3] rfl rfl hl.1 rfl (Nat.le_of_ble_eq_true rfl) d_T_different_4 (fun r4 hr => ?_)
  exact hret _ _ _ (hr) rfl d_T_different_7

set_option maxHeartbeats 4000000 in
set_option maxRecDepth 100000 in
theorem c_Tfirst (l : Launch) (D : va_G) (cB cI : ClassId) (h qt q qw qb qn qm qs : Nat) (tn : Int32) (fM fS : Nat → Int32) (ws : List (List Nat)) (hR : Rep ws fS fM) (hc : ws.length ≤ 150) (k : Int32) : CtP l y_T_first b_T_first 3 (some .int) 2 D cB cI [.ref h, .int k] [(h, .inr (0, [.ref qt, .int tn, .ref q, .ref qw, .ref qb, .ref qn])), (q, .inr (1, [.int (nI ws.length), .ref qm, .ref qs])), (qm, .inl (cB, 3600, .inl fM)), (qs, .inl (cI, 150, .inl fS))] (fun r => firstR ws k r) := by
  refine CtP.mk (own := R_T) (by decide) rfl (Nat.le_of_ble_eq_true rfl) ?_
  intro p e s m args below meth c Q ls X hP hl hret
  have hx := X.1
  have hb := X.2.1
  have hl : lv_has ls 3 [(0, .ref h), (1, .int k)] := hl
  refine lv_iload_n hx hb d_T_first_0 rfl (lv_at hl 1 rfl) ?_
  refine lv_iconst (v := (nI 0)) hx hb d_T_first_1 ki_0 ?_
  refine lv_aload_n hx hb d_T_first_2 rfl (lv_at hl 0 rfl) ?_
  refine gf_T_16 X hP 0 rfl d_T_first_3 ?_
  refine gf_T_45 X hP 1 rfl d_T_first_6 ?_
  refine lv_iconst (v := (nI 1)) hx hb d_T_first_9 ki_1 ?_
  refine lv_isub hx hb d_T_first_10 ?_
  refine cP_S (rest := []) X st_T_38 tw1_66 (c_in l D cB cI k (nI 0) (nI ws.length - nI 1)) (rok (by decide)) hP [] rfl rfl hl.1 rfl (Nat.le_of_ble_eq_true rfl) d_T_first_11 (fun r11 hr => ?_)
  rcases hr with ⟨rfl, hr1, hr2⟩ | ⟨rfl, hr⟩
  · obtain ⟨a, ha, rfl⟩ := inR_nat ((inR_m1 (by omega)).mp ⟨hr1, hr2⟩)
    refine n_if_ne X (by omega) d_T_first_14 rfl (fun h14 => ?_) (fun h14 => ?_)
    · refine lv_iconst (v := (nI 0)) hx hb d_T_first_20 ki_0 ?_
      refine lv_istore_n hx hb d_T_first_21 rfl hl (by decide) rfl (fun ls hl => ?_)
      have hl : lv_has ls 3 [(2, .int (nI 0)), (0, .ref h), (1, .int (nI a))] := hl
      have loop : ∀ (d9 : Nat) (j : Nat), a - j = d9 → (j ≤ a) → (∀ t, t < j → wd ws t ≠ wd ws a) → ∀ ls : Array Slot, lv_has ls 3 [(2, .int (nI j)), (0, .ref h), (1, .int (nI a))] → W p l e (rmd 2) s m args below meth c s.heap [] 0 0 Q (F0 m 22 ls []) := by
        intro d9
        induction d9 using Nat.strongRecOn with
        | _ d9 ih_loop =>
        intro j hd hj hn ls hl
        refine lv_aload_n hx hb d_T_first_22 rfl (lv_at hl 1 rfl) ?_
        refine gf_T_16 X hP 0 rfl d_T_first_23 ?_
        refine lv_iload_n hx hb d_T_first_26 rfl (lv_at hl 0 rfl) ?_
        refine lv_iload_n hx hb d_T_first_27 rfl (lv_at hl 2 rfl) ?_
        refine cP_V (rest := []) X st_T_58 tw1_106 tw1_107 (c_isSame l D cB cI q qm qs (nI ws.length) fM fS ws hR hc j a (by omega) ha) (rok (by decide)) hP 1 rfl rfl [1, 2, 3] rfl rfl hl.1 rfl (Nat.le_of_ble_eq_true rfl) d_T_first_28 (fun r28 hr => ?_)
        rcases hr with ⟨rfl, he⟩ | ⟨rfl, he⟩
        · refine n_if_ne X (by omega) d_T_first_31 rfl (fun h31 => ?_) (fun h31 => ?_)
          · refine lv_iload_n hx hb d_T_first_40 rfl (lv_at hl 0 rfl) ?_
            exact hret _ _ _ (Or.inl ⟨a, j, ha, rfl, ⟨hj, he, hn⟩, rfl⟩) rfl d_T_first_41
          · exact False.elim (by omega)
        · refine n_if_ne X (by omega) d_T_first_31 rfl (fun h31 => ?_) (fun h31 => ?_)
          · exact False.elim (by omega)
          · have hja : j ≠ a := fun q => he (by rw [q])
            refine lv_iinc hx hb d_T_first_34 hl (k := 0) rfl (v := (nI (j + 1))) (n_inc _ 1) (by decide) rfl (fun ls hl => ?_)
            have hl : lv_has ls 3 [(2, .int (nI (j + 1))), (0, .ref h), (1, .int (nI a))] := hl
            refine lv_goto hx hb d_T_first_37 rfl ?_
            exact ih_loop _ (by omega) (j + 1) rfl (by omega) (fun t h => (Nat.lt_or_ge t j).elim (hn t) (fun h2 => by rw [show t = j by omega]; exact he)) _ hl
      exact loop _ 0 rfl (Nat.zero_le _) (fun t h => absurd h (Nat.not_lt_zero _)) _ hl
    · exact False.elim (by omega)
  · have hr : ¬ inR k ws.length := fun q => hr ((inR_m1 (by omega)).mpr q)
    refine n_if_ne X (by omega) d_T_first_14 rfl (fun h14 => ?_) (fun h14 => ?_)
    · exact False.elim (by omega)
    · refine lv_bipush (v := (-2)) hx hb d_T_first_17 kb_m2 ?_
      exact hret _ _ _ (Or.inr ⟨hr, rfl⟩) rfl d_T_first_19

set_option maxHeartbeats 4000000 in
set_option maxRecDepth 100000 in
theorem c_Tcompare (l : Launch) (D : va_G) (cB cI : ClassId) (h qt q qw qb qn qm qs : Nat) (tn : Int32) (fM fS : Nat → Int32) (ws : List (List Nat)) (hR : Rep ws fS fM) (hc : ws.length ≤ 150) (k j : Int32) : CtP l y_T_compare b_T_compare 3 (some .int) 1 D cB cI [.ref h, .int k, .int j] [(h, .inr (0, [.ref qt, .int tn, .ref q, .ref qw, .ref qb, .ref qn])), (q, .inr (1, [.int (nI ws.length), .ref qm, .ref qs])), (qm, .inl (cB, 3600, .inl fM)), (qs, .inl (cI, 150, .inl fS))] (fun r => r = compareA ws k j) := by
  refine CtP.mk (own := R_T) (by decide) rfl (Nat.le_of_ble_eq_true rfl) ?_
  intro p e s m args below meth c Q ls X hP hl hret
  have hx := X.1
  have hb := X.2.1
  have hl : lv_has ls 3 [(0, .ref h), (1, .int k), (2, .int j)] := hl
  refine lv_iload_n hx hb d_T_compare_0 rfl (lv_at hl 1 rfl) ?_
  refine lv_iconst (v := (nI 0)) hx hb d_T_compare_1 ki_0 ?_
  refine lv_aload_n hx hb d_T_compare_2 rfl (lv_at hl 0 rfl) ?_
  refine gf_T_16 X hP 0 rfl d_T_compare_3 ?_
  refine gf_T_45 X hP 1 rfl d_T_compare_6 ?_
  refine lv_iconst (v := (nI 1)) hx hb d_T_compare_9 ki_1 ?_
  refine lv_isub hx hb d_T_compare_10 ?_
  refine cP_S (rest := []) X st_T_38 tw1_66 (c_in l D cB cI k (nI 0) (nI ws.length - nI 1)) (rok (by decide)) hP [] rfl rfl hl.1 rfl (Nat.le_of_ble_eq_true rfl) d_T_compare_11 (fun r11 hr => ?_)
  rcases hr with ⟨rfl, hr1, hr2⟩ | ⟨rfl, hr⟩
  · obtain ⟨a, ha, rfl⟩ := inR_nat ((inR_m1 (by omega)).mp ⟨hr1, hr2⟩)
    refine n_if_eq X (by omega) d_T_compare_14 rfl (fun h14 => ?_) (fun h14 => ?_)
    · exact False.elim (by omega)
    · refine lv_iload_n hx hb d_T_compare_17 rfl (lv_at hl 2 rfl) ?_
      refine lv_iconst (v := (nI 0)) hx hb d_T_compare_18 ki_0 ?_
      refine lv_aload_n hx hb d_T_compare_19 rfl (lv_at hl 0 rfl) ?_
      refine gf_T_16 X hP 0 rfl d_T_compare_20 ?_
      refine gf_T_45 X hP 1 rfl d_T_compare_23 ?_
      refine lv_iconst (v := (nI 1)) hx hb d_T_compare_26 ki_1 ?_
      refine lv_isub hx hb d_T_compare_27 ?_
      refine cP_S (rest := []) X st_T_38 tw1_66 (c_in l D cB cI j (nI 0) (nI ws.length - nI 1)) (rok (by decide)) hP [] rfl rfl hl.1 rfl (Nat.le_of_ble_eq_true rfl) d_T_compare_28 (fun r28 hr => ?_)
      rcases hr with ⟨rfl, hr1, hr2⟩ | ⟨rfl, hr⟩
      · obtain ⟨b, hb9, rfl⟩ := inR_nat ((inR_m1 (by omega)).mp ⟨hr1, hr2⟩)
        refine n_if_ne X (by omega) d_T_compare_31 rfl (fun h31 => ?_) (fun h31 => ?_)
        · have ha4 := (hR a ha).2.1
          have hb4 := (hR b hb9).2.1
          refine lv_aload_n hx hb d_T_compare_37 rfl (lv_at hl 0 rfl) ?_
          refine gf_T_16 X hP 0 rfl d_T_compare_38 ?_
          refine gf_T_51 X hP 1 rfl d_T_compare_41 ?_
          refine lv_bipush (v := (nI 24)) hx hb d_T_compare_44 kb_24 ?_
          refine lv_iload_n hx hb d_T_compare_46 rfl (lv_at hl 1 rfl) ?_
          refine n_imul X d_T_compare_47 ?_
          refine lv_aload_n hx hb d_T_compare_48 rfl (lv_at hl 0 rfl) ?_
          refine gf_T_16 X hP 0 rfl d_T_compare_49 ?_
          refine gf_T_48 X hP 1 rfl d_T_compare_52 ?_
          refine lv_iload_n hx hb d_T_compare_55 rfl (lv_at hl 1 rfl) ?_
          refine n_iald X hP 3 rfl (by omega) (by decide) d_T_compare_56 ?_
          refine W.top (y := (nI ((wd ws a).length))) ((hR a ha).1) ?_
          refine lv_aload_n hx hb d_T_compare_57 rfl (lv_at hl 0 rfl) ?_
          refine gf_T_16 X hP 0 rfl d_T_compare_58 ?_
          refine gf_T_51 X hP 1 rfl d_T_compare_61 ?_
          refine lv_bipush (v := (nI 24)) hx hb d_T_compare_64 kb_24 ?_
          refine lv_iload_n hx hb d_T_compare_66 rfl (lv_at hl 2 rfl) ?_
          refine n_imul X d_T_compare_67 ?_
          refine lv_aload_n hx hb d_T_compare_68 rfl (lv_at hl 0 rfl) ?_
          refine gf_T_16 X hP 0 rfl d_T_compare_69 ?_
          refine gf_T_48 X hP 1 rfl d_T_compare_72 ?_
          refine lv_iload_n hx hb d_T_compare_75 rfl (lv_at hl 2 rfl) ?_
          refine n_iald X hP 3 rfl (by omega) (by decide) d_T_compare_76 ?_
          refine W.top (y := (nI ((wd ws b).length))) ((hR b hb9).1) ?_
          refine cP_S (rest := []) X st_T_62 tw1_110 (c_order l D cB cI qm (24 * a) (24 * b) fM (wd ws a) (wd ws b) (hR a ha).2.2 (hR b hb9).2.2 (by omega) (by omega)) (rok (by decide)) hP [2] rfl rfl hl.1 rfl (Nat.le_of_ble_eq_true rfl) d_T_compare_77 (fun r77 ho => ?_)
          refine cP_S (rest := []) X st_T_66 tw1_123 (c_signum l D cB cI r77) (rok (by decide)) hP [] rfl rfl hl.1 rfl (Nat.le_of_ble_eq_true rfl) d_T_compare_80 (fun r80 hr => ?_)
          exact hret _ _ _ (by rw [hr, Sgn_3 ho]; exact (compareA_i ha hb9 (by omega)).symm) rfl d_T_compare_83
        · exact False.elim (by omega)
      · have hr : ¬ inR j ws.length := fun q => hr ((inR_m1 (by omega)).mpr q)
        refine n_if_ne X (by omega) d_T_compare_31 rfl (fun h31 => ?_) (fun h31 => ?_)
        · exact False.elim (by omega)
        · refine lv_bipush (v := (-2)) hx hb d_T_compare_34 kb_m2 ?_
          exact hret _ _ _ ((compareA_o (fun q => hr q.2)).symm) rfl d_T_compare_36
  · have hr : ¬ inR k ws.length := fun q => hr ((inR_m1 (by omega)).mpr q)
    refine n_if_eq X (by omega) d_T_compare_14 rfl (fun h14 => ?_) (fun h14 => ?_)
    · refine lv_bipush (v := (-2)) hx hb d_T_compare_34 kb_m2 ?_
      exact hret _ _ _ ((compareA_o (fun q => hr q.1)).symm) rfl d_T_compare_36
    · exact False.elim (by omega)
end
section
-- methods that change no cell: the reference (gen/mpure.py)
set_option maxHeartbeats 4000000 in
set_option maxRecDepth 100000 in
theorem c_is (l : Launch) (D : va_G) (cB cI : ClassId) (g gt gm gs gw gb : Nat) (tn wl : Int32) (cn : Nat) (hc : cn ≤ 150) (k : Int32) : CtP l y_M_is b_M_is 2 (some .boolean) 0 D cB cI [.ref g, .int k] [(g, .inr (2, [.ref gt, .int tn, .ref gm, .ref gs, .int (nI cn), .ref gw, .int wl, .ref gb]))] (fun r => (r = nI 1 ∧ inR k cn) ∨ (r = nI 0 ∧ ¬ inR k cn)) := by
  refine CtP.mk (own := R_M) (by decide) rfl (Nat.le_of_ble_eq_true rfl) ?_
  intro p e s m args below meth c Q ls X hP hl hret
  have hx := X.1
  have hb := X.2.1
  have hl : lv_has ls 2 [(0, .ref g), (1, .int k)] := hl
  have e0 : (0 : Int32).toInt = 0 := rfl
  have e1 : (nI cn).toInt = (cn : Int) := nI_toInt (by omega)
  refine lv_iload_n hx hb d_M_is_0 rfl (lv_at hl 1 rfl) ?_
  refine lv_if_lt hx hb d_M_is_1 rfl (fun h1 => ?_) (fun h1 => ?_)
  · refine lv_iconst (v := (nI 0)) hx hb d_M_is_16 ki_0 ?_
    rw [i_lt] at h1
    exact hret _ _ _ (Or.inr ⟨rfl, fun q => by omega⟩) rfl d_M_is_17
  · refine lv_iload_n hx hb d_M_is_4 rfl (lv_at hl 1 rfl) ?_
    refine lv_aload_n hx hb d_M_is_5 rfl (lv_at hl 0 rfl) ?_
    refine gf_M_48 X hP 0 rfl d_M_is_6 ?_
    refine lv_icmp_ge hx hb d_M_is_9 rfl (fun h9 => ?_) (fun h9 => ?_)
    · refine lv_iconst (v := (nI 0)) hx hb d_M_is_16 ki_0 ?_
      rw [i_le] at h9
      exact hret _ _ _ (Or.inr ⟨rfl, fun q => by omega⟩) rfl d_M_is_17
    · refine lv_iconst (v := (nI 1)) hx hb d_M_is_12 ki_1 ?_
      refine lv_goto hx hb d_M_is_13 rfl ?_
      rw [i_lt] at h1
      rw [i_le] at h9
      exact hret _ _ _ (Or.inl ⟨rfl, by omega⟩) rfl d_M_is_17

set_option maxHeartbeats 4000000 in
set_option maxRecDepth 100000 in
theorem c_Morder (l : Launch) (D : va_G) (cB cI : ClassId) (g gt gm gs gw gb : Nat) (tn wl : Int32) (fM fS : Nat → Int32) (ws : List (List Nat)) (hR : Rep ws fS fM) (hc : ws.length ≤ 150) (a b : Nat) (ha : a < ws.length) (hb9 : b < ws.length) : CtP l y_M_order b_M_order 4 (some .int) 0 D cB cI [.ref g, .int (nI a), .int (nI b)] [(g, .inr (2, [.ref gt, .int tn, .ref gm, .ref gs, .int (nI ws.length), .ref gw, .int wl, .ref gb])), (gm, .inl (cB, 3624, .inl fM)), (gs, .inl (cI, 151, .inl fS))] (fun r => r = sgn3 (cmpL (wd ws a) (wd ws b))) := by
  refine CtP.mk (own := R_M) (by decide) rfl (Nat.le_of_ble_eq_true rfl) ?_
  intro p e s m args below meth c Q ls X hP hl hret
  have hx := X.1
  have hb := X.2.1
  have hl : lv_has ls 4 [(0, .ref g), (1, .int (nI a)), (2, .int (nI b))] := hl
  have ha4 := (hR a ha).2.1
  have hb4 := (hR b hb9).2.1
  refine lv_iconst (v := (nI 0)) hx hb d_M_order_0 ki_0 ?_
  refine lv_istore_n hx hb d_M_order_1 rfl hl (by decide) rfl (fun ls hl => ?_)
  have hl : lv_has ls 4 [(3, .int (nI 0)), (0, .ref g), (1, .int (nI a)), (2, .int (nI b))] := hl
  have loop : ∀ (d9 : Nat) (i : Nat), (wd ws a).length - i = d9 → (i ≤ (wd ws a).length) → (i ≤ (wd ws b).length) → (cmpL (wd ws a) (wd ws b) = cmpL ((wd ws a).drop i) ((wd ws b).drop i)) → ∀ ls : Array Slot, lv_has ls 4 [(3, .int (nI i)), (0, .ref g), (1, .int (nI a)), (2, .int (nI b))] → W p l e (rmd 0) s m args below meth c s.heap [] 0 0 Q (F0 m 2 ls []) := by
    intro d9
    induction d9 using Nat.strongRecOn with
    | _ d9 ih_loop =>
    intro i hd hk1 hk2 hc9 ls hl
    refine lv_iload_n hx hb d_M_order_2 rfl (lv_at hl 0 rfl) ?_
    refine lv_aload_n hx hb d_M_order_3 rfl (lv_at hl 1 rfl) ?_
    refine gf_M_16 X hP 0 rfl d_M_order_4 ?_
    refine lv_iload_n hx hb d_M_order_7 rfl (lv_at hl 2 rfl) ?_
    refine n_iald X hP 2 rfl (by omega) (by decide) d_M_order_8 ?_
    refine W.top (y := (nI ((wd ws a).length))) ((hR a ha).1) ?_
    refine n_icmp_ge X (by omega) (by omega) d_M_order_9 rfl (fun h9 => ?_) (fun h9 => ?_)
    · refine lv_aload_n hx hb d_M_order_84 rfl (lv_at hl 1 rfl) ?_
      refine gf_M_16 X hP 0 rfl d_M_order_85 ?_
      refine lv_iload_n hx hb d_M_order_88 rfl (lv_at hl 2 rfl) ?_
      refine n_iald X hP 2 rfl (by omega) (by decide) d_M_order_89 ?_
      refine W.top (y := (nI ((wd ws a).length))) ((hR a ha).1) ?_
      refine lv_aload_n hx hb d_M_order_90 rfl (lv_at hl 1 rfl) ?_
      refine gf_M_16 X hP 0 rfl d_M_order_91 ?_
      refine lv_iload_n hx hb d_M_order_94 rfl (lv_at hl 3 rfl) ?_
      refine n_iald X hP 2 rfl (by omega) (by decide) d_M_order_95 ?_
      refine W.top (y := (nI ((wd ws b).length))) ((hR b hb9).1) ?_
      refine n_icmp_ge X (by omega) (by omega) d_M_order_96 rfl (fun h96 => ?_) (fun h96 => ?_)
      · refine lv_aload_n hx hb d_M_order_103 rfl (lv_at hl 1 rfl) ?_
        refine gf_M_16 X hP 0 rfl d_M_order_104 ?_
        refine lv_iload_n hx hb d_M_order_107 rfl (lv_at hl 2 rfl) ?_
        refine n_iald X hP 2 rfl (by omega) (by decide) d_M_order_108 ?_
        refine W.top (y := (nI ((wd ws a).length))) ((hR a ha).1) ?_
        refine lv_aload_n hx hb d_M_order_109 rfl (lv_at hl 1 rfl) ?_
        refine gf_M_16 X hP 0 rfl d_M_order_110 ?_
        refine lv_iload_n hx hb d_M_order_113 rfl (lv_at hl 3 rfl) ?_
        refine n_iald X hP 2 rfl (by omega) (by decide) d_M_order_114 ?_
        refine W.top (y := (nI ((wd ws b).length))) ((hR b hb9).1) ?_
        refine n_icmp_le X (by omega) (by omega) d_M_order_115 rfl (fun h115 => ?_) (fun h115 => ?_)
        · refine lv_iconst (v := (nI 0)) hx hb d_M_order_122 ki_0 ?_
          exact hret _ _ _ (by rw [hc9, cmp_end hk1 hk2 (Or.inl h9), if_neg (by omega), if_neg (by omega)]; rfl) rfl d_M_order_123
        · refine lv_iconst (v := (nI 1)) hx hb d_M_order_118 ki_1 ?_
          refine lv_goto hx hb d_M_order_119 rfl ?_
          exact hret _ _ _ (by rw [hc9, cmp_end hk1 hk2 (Or.inl h9), if_neg (by omega), if_pos h115]; rfl) rfl d_M_order_123
      · refine lv_iconst (v := (-1)) hx hb d_M_order_99 ki_m1 ?_
        refine lv_goto hx hb d_M_order_100 rfl ?_
        exact hret _ _ _ (by rw [hc9, cmp_end hk1 hk2 (Or.inl h9), if_pos h96]; rfl) rfl d_M_order_123
    · refine lv_iload_n hx hb d_M_order_12 rfl (lv_at hl 0 rfl) ?_
      refine lv_aload_n hx hb d_M_order_13 rfl (lv_at hl 1 rfl) ?_
      refine gf_M_16 X hP 0 rfl d_M_order_14 ?_
      refine lv_iload_n hx hb d_M_order_17 rfl (lv_at hl 3 rfl) ?_
      refine n_iald X hP 2 rfl (by omega) (by decide) d_M_order_18 ?_
      refine W.top (y := (nI ((wd ws b).length))) ((hR b hb9).1) ?_
      refine n_icmp_ge X (by omega) (by omega) d_M_order_19 rfl (fun h19 => ?_) (fun h19 => ?_)
      · refine lv_aload_n hx hb d_M_order_84 rfl (lv_at hl 1 rfl) ?_
        refine gf_M_16 X hP 0 rfl d_M_order_85 ?_
        refine lv_iload_n hx hb d_M_order_88 rfl (lv_at hl 2 rfl) ?_
        refine n_iald X hP 2 rfl (by omega) (by decide) d_M_order_89 ?_
        refine W.top (y := (nI ((wd ws a).length))) ((hR a ha).1) ?_
        refine lv_aload_n hx hb d_M_order_90 rfl (lv_at hl 1 rfl) ?_
        refine gf_M_16 X hP 0 rfl d_M_order_91 ?_
        refine lv_iload_n hx hb d_M_order_94 rfl (lv_at hl 3 rfl) ?_
        refine n_iald X hP 2 rfl (by omega) (by decide) d_M_order_95 ?_
        refine W.top (y := (nI ((wd ws b).length))) ((hR b hb9).1) ?_
        refine n_icmp_ge X (by omega) (by omega) d_M_order_96 rfl (fun h96 => ?_) (fun h96 => ?_)
        · refine lv_aload_n hx hb d_M_order_103 rfl (lv_at hl 1 rfl) ?_
          refine gf_M_16 X hP 0 rfl d_M_order_104 ?_
          refine lv_iload_n hx hb d_M_order_107 rfl (lv_at hl 2 rfl) ?_
          refine n_iald X hP 2 rfl (by omega) (by decide) d_M_order_108 ?_
          refine W.top (y := (nI ((wd ws a).length))) ((hR a ha).1) ?_
          refine lv_aload_n hx hb d_M_order_109 rfl (lv_at hl 1 rfl) ?_
          refine gf_M_16 X hP 0 rfl d_M_order_110 ?_
          refine lv_iload_n hx hb d_M_order_113 rfl (lv_at hl 3 rfl) ?_
          refine n_iald X hP 2 rfl (by omega) (by decide) d_M_order_114 ?_
          refine W.top (y := (nI ((wd ws b).length))) ((hR b hb9).1) ?_
          refine n_icmp_le X (by omega) (by omega) d_M_order_115 rfl (fun h115 => ?_) (fun h115 => ?_)
          · refine lv_iconst (v := (nI 0)) hx hb d_M_order_122 ki_0 ?_
            exact hret _ _ _ (by rw [hc9, cmp_end hk1 hk2 (Or.inr h19), if_neg (by omega), if_neg (by omega)]; rfl) rfl d_M_order_123
          · refine lv_iconst (v := (nI 1)) hx hb d_M_order_118 ki_1 ?_
            refine lv_goto hx hb d_M_order_119 rfl ?_
            exact hret _ _ _ (by rw [hc9, cmp_end hk1 hk2 (Or.inr h19), if_neg (by omega), if_pos h115]; rfl) rfl d_M_order_123
        · refine lv_iconst (v := (-1)) hx hb d_M_order_99 ki_m1 ?_
          refine lv_goto hx hb d_M_order_100 rfl ?_
          exact hret _ _ _ (by rw [hc9, cmp_end hk1 hk2 (Or.inr h19), if_pos h96]; rfl) rfl d_M_order_123
      · obtain ⟨hu1, hu2⟩ := (hR a ha).2.2 i h9
        obtain ⟨hv1, hv2⟩ := (hR b hb9).2.2 i h19
        have hcu : cr ws a i = (wd ws a).getD i 0 := rfl
        have hcv : cr ws b i = (wd ws b).getD i 0 := rfl
        refine lv_aload_n hx hb d_M_order_22 rfl (lv_at hl 1 rfl) ?_
        refine gf_M_13 X hP 0 rfl d_M_order_23 ?_
        refine lv_bipush (v := (nI 24)) hx hb d_M_order_26 kb_24 ?_
        refine lv_iload_n hx hb d_M_order_28 rfl (lv_at hl 2 rfl) ?_
        refine n_imul X d_M_order_29 ?_
        refine lv_iload_n hx hb d_M_order_30 rfl (lv_at hl 0 rfl) ?_
        refine n_iadd X d_M_order_31 ?_
        refine n_bald X hP 1 rfl (by omega) (by decide) d_M_order_32 ?_
        refine W.top (y := (nI (cr ws a i))) (hu1) ?_
        refine lv_aload_n hx hb d_M_order_33 rfl (lv_at hl 1 rfl) ?_
        refine gf_M_13 X hP 0 rfl d_M_order_34 ?_
        refine lv_bipush (v := (nI 24)) hx hb d_M_order_37 kb_24 ?_
        refine lv_iload_n hx hb d_M_order_39 rfl (lv_at hl 3 rfl) ?_
        refine n_imul X d_M_order_40 ?_
        refine lv_iload_n hx hb d_M_order_41 rfl (lv_at hl 0 rfl) ?_
        refine n_iadd X d_M_order_42 ?_
        refine n_bald X hP 1 rfl (by omega) (by decide) d_M_order_43 ?_
        refine W.top (y := (nI (cr ws b i))) (hv1) ?_
        refine n_icmp_eq X (by omega) (by omega) d_M_order_44 rfl (fun h44 => ?_) (fun h44 => ?_)
        · refine lv_iinc hx hb d_M_order_78 hl (k := 0) rfl (v := (nI (i + 1))) (n_inc _ 1) (by decide) rfl (fun ls hl => ?_)
          have hl : lv_has ls 4 [(3, .int (nI (i + 1))), (0, .ref g), (1, .int (nI a)), (2, .int (nI b))] := hl
          refine lv_goto hx hb d_M_order_81 rfl ?_
          exact ih_loop _ (by omega) (i + 1) rfl (by omega) (by omega) (by rw [hc9]; exact cmp_eq h9 h19 h44) _ hl
        · refine lv_aload_n hx hb d_M_order_47 rfl (lv_at hl 1 rfl) ?_
          refine gf_M_13 X hP 0 rfl d_M_order_48 ?_
          refine lv_bipush (v := (nI 24)) hx hb d_M_order_51 kb_24 ?_
          refine lv_iload_n hx hb d_M_order_53 rfl (lv_at hl 2 rfl) ?_
          refine n_imul X d_M_order_54 ?_
          refine lv_iload_n hx hb d_M_order_55 rfl (lv_at hl 0 rfl) ?_
          refine n_iadd X d_M_order_56 ?_
          refine n_bald X hP 1 rfl (by omega) (by decide) d_M_order_57 ?_
          refine W.top (y := (nI (cr ws a i))) (hu1) ?_
          refine lv_aload_n hx hb d_M_order_58 rfl (lv_at hl 1 rfl) ?_
          refine gf_M_13 X hP 0 rfl d_M_order_59 ?_
          refine lv_bipush (v := (nI 24)) hx hb d_M_order_62 kb_24 ?_
          refine lv_iload_n hx hb d_M_order_64 rfl (lv_at hl 3 rfl) ?_
          refine n_imul X d_M_order_65 ?_
          refine lv_iload_n hx hb d_M_order_66 rfl (lv_at hl 0 rfl) ?_
          refine n_iadd X d_M_order_67 ?_
          refine n_bald X hP 1 rfl (by omega) (by decide) d_M_order_68 ?_
          refine W.top (y := (nI (cr ws b i))) (hv1) ?_
          refine n_icmp_ge X (by omega) (by omega) d_M_order_69 rfl (fun h69 => ?_) (fun h69 => ?_)
          · refine lv_iconst (v := (nI 1)) hx hb d_M_order_76 ki_1 ?_
            exact hret _ _ _ (by rw [hc9, cmp_ne h9 h19 h44, if_neg (by omega), if_pos (by omega)]; rfl) rfl d_M_order_77
          · refine lv_iconst (v := (-1)) hx hb d_M_order_72 ki_m1 ?_
            refine lv_goto hx hb d_M_order_73 rfl ?_
            exact hret _ _ _ (by rw [hc9, cmp_ne h9 h19 h44, if_pos (by omega)]; rfl) rfl d_M_order_77
  exact loop _ 0 rfl (Nat.zero_le _) (Nat.zero_le _) (rfl) _ hl

set_option maxHeartbeats 4000000 in
set_option maxRecDepth 100000 in
theorem c_Msign (l : Launch) (D : va_G) (cB cI : ClassId) (g gt gm gs gw gb : Nat) (tn wl : Int32) (fM fS : Nat → Int32) (ws : List (List Nat)) (hR : Rep ws fS fM) (hc : ws.length ≤ 150) (k i : Int32) : CtP l y_M_sign b_M_sign 3 (some .int) 1 D cB cI [.ref g, .int k, .int i] [(g, .inr (2, [.ref gt, .int tn, .ref gm, .ref gs, .int (nI ws.length), .ref gw, .int wl, .ref gb])), (gm, .inl (cB, 3624, .inl fM)), (gs, .inl (cI, 151, .inl fS))] (fun r => r = signA ws k i) := by
  refine CtP.mk (own := R_M) (by decide) rfl (Nat.le_of_ble_eq_true rfl) ?_
  intro p e s m args below meth c Q ls X hP hl hret
  have hx := X.1
  have hb := X.2.1
  have hl : lv_has ls 3 [(0, .ref g), (1, .int k), (2, .int i)] := hl
  have em : (-1 : Int32).toInt = -1 := rfl
  refine lv_aload_n hx hb d_M_sign_0 rfl (lv_at hl 0 rfl) ?_
  refine lv_iload_n hx hb d_M_sign_1 rfl (lv_at hl 1 rfl) ?_
  refine cP_V (rest := []) X st_M_55 tw1_219 tw0_6 (c_is l D cB cI g gt gm gs gw gb tn wl ws.length hc k) (rok (by decide)) hP 0 rfl rfl [0] rfl rfl hl.1 rfl (Nat.le_of_ble_eq_true rfl) d_M_sign_2 (fun r2 hr => ?_)
  rcases hr with ⟨rfl, hr⟩ | ⟨rfl, hr⟩
  · obtain ⟨a, ha, rfl⟩ := inR_nat hr
    refine n_if_eq X (by omega) d_M_sign_5 rfl (fun h5 => ?_) (fun h5 => ?_)
    · exact False.elim (by omega)
    · have ha4 := (hR a ha).2.1
      have el : (nI (wd ws a).length).toInt = ((wd ws a).length : Int) := nI_toInt (by omega)
      refine lv_iload_n hx hb d_M_sign_8 rfl (lv_at hl 2 rfl) ?_
      refine lv_iconst (v := (-1)) hx hb d_M_sign_9 ki_m1 ?_
      refine lv_icmp_lt hx hb d_M_sign_10 rfl (fun h10 => ?_) (fun h10 => ?_)
      · rw [i_lt, em] at h10
        refine lv_bipush (v := (-2)) hx hb d_M_sign_23 kb_m2 ?_
        exact hret _ _ _ ((signA_o2 ha (by omega) (by omega)).symm) rfl d_M_sign_25
      · rw [i_lt, em] at h10
        refine lv_iload_n hx hb d_M_sign_13 rfl (lv_at hl 2 rfl) ?_
        refine lv_aload_n hx hb d_M_sign_14 rfl (lv_at hl 0 rfl) ?_
        refine gf_M_16 X hP 0 rfl d_M_sign_15 ?_
        refine lv_iload_n hx hb d_M_sign_18 rfl (lv_at hl 1 rfl) ?_
        refine n_iald X hP 2 rfl (by omega) (by decide) d_M_sign_19 ?_
        refine W.top (y := (nI ((wd ws a).length))) ((hR a ha).1) ?_
        refine lv_icmp_lt hx hb d_M_sign_20 rfl (fun h20 => ?_) (fun h20 => ?_)
        · rw [i_lt, el] at h20
          rcases signA_i ha (by omega) ha4 ⟨by omega, h20⟩ with ⟨rfl, he⟩ | ⟨b, hb9, rfl, he⟩
          · refine lv_iload_n hx hb d_M_sign_26 rfl (lv_at hl 2 rfl) ?_
            refine lv_iconst (v := (-1)) hx hb d_M_sign_27 ki_m1 ?_
            refine lv_icmp_ne hx hb d_M_sign_28 rfl (fun h28 => ?_) (fun h28 => ?_)
            · exact False.elim (h28 rfl)
            · refine lv_aload_n hx hb d_M_sign_31 rfl (lv_at hl 0 rfl) ?_
              refine gf_M_16 X hP 0 rfl d_M_sign_32 ?_
              refine lv_iload_n hx hb d_M_sign_35 rfl (lv_at hl 1 rfl) ?_
              refine n_iald X hP 2 rfl (by omega) (by decide) d_M_sign_36 ?_
              refine W.top (y := (nI ((wd ws a).length))) ((hR a ha).1) ?_
              refine lv_goto hx hb d_M_sign_37 rfl ?_
              exact hret _ _ _ (he.symm) rfl d_M_sign_51
          · refine lv_iload_n hx hb d_M_sign_26 rfl (lv_at hl 2 rfl) ?_
            refine lv_iconst (v := (-1)) hx hb d_M_sign_27 ki_m1 ?_
            refine lv_icmp_ne hx hb d_M_sign_28 rfl (fun h28 => ?_) (fun h28 => ?_)
            · refine lv_aload_n hx hb d_M_sign_40 rfl (lv_at hl 0 rfl) ?_
              refine gf_M_13 X hP 0 rfl d_M_sign_41 ?_
              refine lv_bipush (v := (nI 24)) hx hb d_M_sign_44 kb_24 ?_
              refine lv_iload_n hx hb d_M_sign_46 rfl (lv_at hl 1 rfl) ?_
              refine n_imul X d_M_sign_47 ?_
              refine lv_iload_n hx hb d_M_sign_48 rfl (lv_at hl 2 rfl) ?_
              refine n_iadd X d_M_sign_49 ?_
              refine n_bald X hP 1 rfl (by omega) (by decide) d_M_sign_50 ?_
              refine W.top (y := (nI (cr ws a b))) (((hR a ha).2.2 b hb9).1) ?_
              exact hret _ _ _ (he.symm) rfl d_M_sign_51
            · exact False.elim (by have h7 := congrArg Int32.toInt h28; rw [em, nI_toInt (by omega)] at h7; omega)
        · rw [i_lt, el] at h20
          refine lv_bipush (v := (-2)) hx hb d_M_sign_23 kb_m2 ?_
          exact hret _ _ _ ((signA_o2 ha (by omega) (by omega)).symm) rfl d_M_sign_25
  · refine n_if_eq X (by omega) d_M_sign_5 rfl (fun h5 => ?_) (fun h5 => ?_)
    · refine lv_bipush (v := (-2)) hx hb d_M_sign_23 kb_m2 ?_
      exact hret _ _ _ ((signA_o1 hr).symm) rfl d_M_sign_25
    · exact False.elim (by omega)

set_option maxHeartbeats 4000000 in
set_option maxRecDepth 100000 in
theorem c_Mfirst (l : Launch) (D : va_G) (cB cI : ClassId) (g gt gm gs gw gb : Nat) (tn wl : Int32) (fM fS : Nat → Int32) (ws : List (List Nat)) (hR : Rep ws fS fM) (hc : ws.length ≤ 150) (k : Int32) : CtP l y_M_first b_M_first 3 (some .int) 1 D cB cI [.ref g, .int k] [(g, .inr (2, [.ref gt, .int tn, .ref gm, .ref gs, .int (nI ws.length), .ref gw, .int wl, .ref gb])), (gm, .inl (cB, 3624, .inl fM)), (gs, .inl (cI, 151, .inl fS))] (fun r => firstR ws k r) := by
  refine CtP.mk (own := R_M) (by decide) rfl (Nat.le_of_ble_eq_true rfl) ?_
  intro p e s m args below meth c Q ls X hP hl hret
  have hx := X.1
  have hb := X.2.1
  have hl : lv_has ls 3 [(0, .ref g), (1, .int k)] := hl
  refine lv_aload_n hx hb d_M_first_0 rfl (lv_at hl 0 rfl) ?_
  refine lv_iload_n hx hb d_M_first_1 rfl (lv_at hl 1 rfl) ?_
  refine cP_V (rest := []) X st_M_55 tw1_219 tw0_6 (c_is l D cB cI g gt gm gs gw gb tn wl ws.length hc k) (rok (by decide)) hP 0 rfl rfl [0] rfl rfl hl.1 rfl (Nat.le_of_ble_eq_true rfl) d_M_first_2 (fun r2 hr => ?_)
  rcases hr with ⟨rfl, hr⟩ | ⟨rfl, hr⟩
  · obtain ⟨a, ha, rfl⟩ := inR_nat hr
    refine n_if_ne X (by omega) d_M_first_5 rfl (fun h5 => ?_) (fun h5 => ?_)
    · refine lv_iconst (v := (nI 0)) hx hb d_M_first_11 ki_0 ?_
      refine lv_istore_n hx hb d_M_first_12 rfl hl (by decide) rfl (fun ls hl => ?_)
      have hl : lv_has ls 3 [(2, .int (nI 0)), (0, .ref g), (1, .int (nI a))] := hl
      have loop : ∀ (d9 : Nat) (j : Nat), a - j = d9 → (j ≤ a) → (∀ t, t < j → wd ws t ≠ wd ws a) → ∀ ls : Array Slot, lv_has ls 3 [(2, .int (nI j)), (0, .ref g), (1, .int (nI a))] → W p l e (rmd 1) s m args below meth c s.heap [] 0 0 Q (F0 m 13 ls []) := by
        intro d9
        induction d9 using Nat.strongRecOn with
        | _ d9 ih_loop =>
        intro j hd hj hn ls hl
        refine lv_aload_n hx hb d_M_first_13 rfl (lv_at hl 1 rfl) ?_
        refine lv_iload_n hx hb d_M_first_14 rfl (lv_at hl 0 rfl) ?_
        refine lv_iload_n hx hb d_M_first_15 rfl (lv_at hl 2 rfl) ?_
        refine cP_V (rest := []) X st_M_58 tw1_227 tw0_7 (c_Morder l D cB cI g gt gm gs gw gb tn wl fM fS ws hR hc j a (by omega) ha) (rok (by decide)) hP 0 rfl rfl [0, 1, 2] rfl rfl hl.1 rfl (Nat.le_of_ble_eq_true rfl) d_M_first_16 (fun r16 ho => ?_)
        refine lv_if_eq hx hb d_M_first_19 rfl (fun h19 => ?_) (fun h19 => ?_)
        · have he := sgn3_0.mp (ho.symm.trans h19)
          refine lv_iload_n hx hb d_M_first_28 rfl (lv_at hl 0 rfl) ?_
          exact hret _ _ _ (Or.inl ⟨a, j, ha, rfl, ⟨hj, he, hn⟩, rfl⟩) rfl d_M_first_29
        · have he : wd ws j ≠ wd ws a := fun q => h19 (ho.trans (sgn3_0.mpr q))
          have hja : j ≠ a := fun q => he (by rw [q])
          refine lv_iinc hx hb d_M_first_22 hl (k := 0) rfl (v := (nI (j + 1))) (n_inc _ 1) (by decide) rfl (fun ls hl => ?_)
          have hl : lv_has ls 3 [(2, .int (nI (j + 1))), (0, .ref g), (1, .int (nI a))] := hl
          refine lv_goto hx hb d_M_first_25 rfl ?_
          exact ih_loop _ (by omega) (j + 1) rfl (by omega) (fun t h => (Nat.lt_or_ge t j).elim (hn t) (fun h2 => by rw [show t = j by omega]; exact he)) _ hl
      exact loop _ 0 rfl (Nat.zero_le _) (fun t h => absurd h (Nat.not_lt_zero _)) _ hl
    · exact False.elim (by omega)
  · refine n_if_ne X (by omega) d_M_first_5 rfl (fun h5 => ?_) (fun h5 => ?_)
    · exact False.elim (by omega)
    · refine lv_bipush (v := (-2)) hx hb d_M_first_8 kb_m2 ?_
      exact hret _ _ _ (Or.inr ⟨hr, rfl⟩) rfl d_M_first_10

set_option maxHeartbeats 4000000 in
set_option maxRecDepth 100000 in
theorem c_Mdifferent (l : Launch) (D : va_G) (cB cI : ClassId) (g gt gm gs gw gb : Nat) (tn wl : Int32) (fM fS : Nat → Int32) (ws : List (List Nat)) (hR : Rep ws fS fM) (hc : ws.length ≤ 150) : CtP l y_M_different b_M_different 3 (some .int) 2 D cB cI [.ref g] [(g, .inr (2, [.ref gt, .int tn, .ref gm, .ref gs, .int (nI ws.length), .ref gw, .int wl, .ref gb])), (gm, .inl (cB, 3624, .inl fM)), (gs, .inl (cI, 151, .inl fS))] (fun r => r = nI (dfc ws ws.length)) := by
  refine CtP.mk (own := R_M) (by decide) rfl (Nat.le_of_ble_eq_true rfl) ?_
  intro p e s m args below meth c Q ls X hP hl hret
  have hx := X.1
  have hb := X.2.1
  have hl : lv_has ls 3 [(0, .ref g)] := hl
  refine lv_iconst (v := (nI 0)) hx hb d_M_different_0 ki_0 ?_
  refine lv_istore_n hx hb d_M_different_1 rfl hl (by decide) rfl (fun ls hl => ?_)
  have hl : lv_has ls 3 [(1, .int (nI 0)), (0, .ref g)] := hl
  refine lv_iconst (v := (nI 0)) hx hb d_M_different_2 ki_0 ?_
  refine lv_istore_n hx hb d_M_different_3 rfl hl (by decide) rfl (fun ls hl => ?_)
  have hl : lv_has ls 3 [(2, .int (nI 0)), (1, .int (nI 0)), (0, .ref g)] := hl
  have loop : ∀ (d9 : Nat) (i : Nat) (n : Nat), ws.length - i = d9 → (i ≤ ws.length) → (n = dfc ws i) → ∀ ls : Array Slot, lv_has ls 3 [(2, .int (nI i)), (1, .int (nI n)), (0, .ref g)] → W p l e (rmd 2) s m args below meth c s.heap [] 0 0 Q (F0 m 4 ls []) := by
    intro d9
    induction d9 using Nat.strongRecOn with
    | _ d9 ih_loop =>
    intro i n hd hi hn ls hl
    refine lv_iload_n hx hb d_M_different_4 rfl (lv_at hl 0 rfl) ?_
    refine lv_aload_n hx hb d_M_different_5 rfl (lv_at hl 2 rfl) ?_
    refine gf_M_48 X hP 0 rfl d_M_different_6 ?_
    refine n_icmp_ge X (by omega) (by omega) d_M_different_9 rfl (fun h9 => ?_) (fun h9 => ?_)
    · refine lv_iload_n hx hb d_M_different_35 rfl (lv_at hl 1 rfl) ?_
      exact hret _ _ _ (by rw [hn, show i = ws.length by omega]) rfl d_M_different_36
    · refine lv_iload_n hx hb d_M_different_12 rfl (lv_at hl 1 rfl) ?_
      refine lv_aload_n hx hb d_M_different_13 rfl (lv_at hl 2 rfl) ?_
      refine lv_iload_n hx hb d_M_different_14 rfl (lv_at hl 0 rfl) ?_
      refine cP_V (rest := [.int (nI n)]) X st_M_62 tw1_222 tw1_223 (c_Mfirst l D cB cI g gt gm gs gw gb tn wl fM fS ws hR hc (nI i)) (rok (by decide)) hP 0 rfl rfl [0, 1, 2] rfl rfl hl.1 rfl (Nat.le_of_ble_eq_true rfl) d_M_different_15 (fun r15 hr => ?_)
      obtain ⟨j, hF, rfl⟩ := firstR_in h9 (by omega) hr
      have hF2 := Fst_F hF
      have hF3 := hF.1
      refine lv_iload_n hx hb d_M_different_18 rfl (lv_at hl 0 rfl) ?_
      refine n_icmp_ne X (by omega) (by omega) d_M_different_19 rfl (fun h19 => ?_) (fun h19 => ?_)
      · refine lv_iconst (v := (nI 0)) hx hb d_M_different_26 ki_0 ?_
        refine n_iadd X d_M_different_27 ?_
        refine lv_istore_n hx hb d_M_different_28 rfl hl (by decide) rfl (fun ls hl => ?_)
        have hl : lv_has ls 3 [(1, .int (nI (n + 0))), (2, .int (nI i)), (0, .ref g)] := hl
        refine lv_iinc hx hb d_M_different_29 hl (k := 1) rfl (v := (nI (i + 1))) (n_inc _ 1) (by decide) rfl (fun ls hl => ?_)
        have hl : lv_has ls 3 [(2, .int (nI (i + 1))), (1, .int (nI (n + 0))), (0, .ref g)] := hl
        refine lv_goto hx hb d_M_different_32 rfl ?_
        exact ih_loop _ (by omega) (i + 1) (n + 0) rfl (by omega) (by rw [hn]; show _ = dfc ws i + (if isF ws i = true then 1 else 0); rw [if_neg (by rw [hF2]; exact fun q => h19 (of_decide_eq_true q))]) _ hl
      · refine lv_iconst (v := (nI 1)) hx hb d_M_different_22 ki_1 ?_
        refine lv_goto hx hb d_M_different_23 rfl ?_
        refine n_iadd X d_M_different_27 ?_
        refine lv_istore_n hx hb d_M_different_28 rfl hl (by decide) rfl (fun ls hl => ?_)
        have hl : lv_has ls 3 [(1, .int (nI (n + 1))), (2, .int (nI i)), (0, .ref g)] := hl
        refine lv_iinc hx hb d_M_different_29 hl (k := 1) rfl (v := (nI (i + 1))) (n_inc _ 1) (by decide) rfl (fun ls hl => ?_)
        have hl : lv_has ls 3 [(2, .int (nI (i + 1))), (1, .int (nI (n + 1))), (0, .ref g)] := hl
        refine lv_goto hx hb d_M_different_32 rfl ?_
        exact ih_loop _ (by omega) (i + 1) (n + 1) rfl (by omega) (by rw [hn]; show _ = dfc ws i + (if isF ws i = true then 1 else 0); rw [if_pos (by rw [hF2]; exact decide_eq_true h19)]) _ hl
  exact loop _ 0 0 rfl (Nat.zero_le _) (rfl) _ hl

set_option maxHeartbeats 4000000 in
set_option maxRecDepth 100000 in
theorem c_Mcompare (l : Launch) (D : va_G) (cB cI : ClassId) (g gt gm gs gw gb : Nat) (tn wl : Int32) (fM fS : Nat → Int32) (ws : List (List Nat)) (hR : Rep ws fS fM) (hc : ws.length ≤ 150) (k j : Int32) : CtP l y_M_compare b_M_compare 3 (some .int) 1 D cB cI [.ref g, .int k, .int j] [(g, .inr (2, [.ref gt, .int tn, .ref gm, .ref gs, .int (nI ws.length), .ref gw, .int wl, .ref gb])), (gm, .inl (cB, 3624, .inl fM)), (gs, .inl (cI, 151, .inl fS))] (fun r => r = compareA ws k j) := by
  refine CtP.mk (own := R_M) (by decide) rfl (Nat.le_of_ble_eq_true rfl) ?_
  intro p e s m args below meth c Q ls X hP hl hret
  have hx := X.1
  have hb := X.2.1
  have hl : lv_has ls 3 [(0, .ref g), (1, .int k), (2, .int j)] := hl
  refine lv_aload_n hx hb d_M_compare_0 rfl (lv_at hl 0 rfl) ?_
  refine lv_iload_n hx hb d_M_compare_1 rfl (lv_at hl 1 rfl) ?_
  refine cP_V (rest := []) X st_M_55 tw1_219 tw0_6 (c_is l D cB cI g gt gm gs gw gb tn wl ws.length hc k) (rok (by decide)) hP 0 rfl rfl [0] rfl rfl hl.1 rfl (Nat.le_of_ble_eq_true rfl) d_M_compare_2 (fun r2 hr => ?_)
  rcases hr with ⟨rfl, hr⟩ | ⟨rfl, hr⟩
  · obtain ⟨a, ha, rfl⟩ := inR_nat hr
    refine n_if_eq X (by omega) d_M_compare_5 rfl (fun h5 => ?_) (fun h5 => ?_)
    · exact False.elim (by omega)
    · refine lv_aload_n hx hb d_M_compare_8 rfl (lv_at hl 0 rfl) ?_
      refine lv_iload_n hx hb d_M_compare_9 rfl (lv_at hl 2 rfl) ?_
      refine cP_V (rest := []) X st_M_55 tw1_219 tw0_6 (c_is l D cB cI g gt gm gs gw gb tn wl ws.length hc j) (rok (by decide)) hP 0 rfl rfl [0] rfl rfl hl.1 rfl (Nat.le_of_ble_eq_true rfl) d_M_compare_10 (fun r10 hr => ?_)
      rcases hr with ⟨rfl, hr⟩ | ⟨rfl, hr⟩
      · obtain ⟨b, hb9, rfl⟩ := inR_nat hr
        refine n_if_eq X (by omega) d_M_compare_13 rfl (fun h13 => ?_) (fun h13 => ?_)
        · exact False.elim (by omega)
        · refine lv_aload_n hx hb d_M_compare_16 rfl (lv_at hl 0 rfl) ?_
          refine lv_iload_n hx hb d_M_compare_17 rfl (lv_at hl 1 rfl) ?_
          refine lv_iload_n hx hb d_M_compare_18 rfl (lv_at hl 2 rfl) ?_
          refine cP_V (rest := []) X st_M_58 tw1_227 tw0_7 (c_Morder l D cB cI g gt gm gs gw gb tn wl fM fS ws hR hc a b ha hb9) (rok (by decide)) hP 0 rfl rfl [0, 1, 2] rfl rfl hl.1 rfl (Nat.le_of_ble_eq_true rfl) d_M_compare_19 (fun r19 hr => ?_)
          refine lv_goto hx hb d_M_compare_22 rfl ?_
          exact hret _ _ _ (by rw [hr]; exact (compareA_i ha hb9 (by omega)).symm) rfl d_M_compare_27
      · refine n_if_eq X (by omega) d_M_compare_13 rfl (fun h13 => ?_) (fun h13 => ?_)
        · refine lv_bipush (v := (-2)) hx hb d_M_compare_25 kb_m2 ?_
          exact hret _ _ _ ((compareA_o (fun q => hr q.2)).symm) rfl d_M_compare_27
        · exact False.elim (by omega)
  · refine n_if_eq X (by omega) d_M_compare_5 rfl (fun h5 => ?_) (fun h5 => ?_)
    · refine lv_bipush (v := (-2)) hx hb d_M_compare_25 kb_m2 ?_
      exact hret _ _ _ ((compareA_o (fun q => hr q.1)).symm) rfl d_M_compare_27
    · exact False.elim (by omega)

set_option maxHeartbeats 4000000 in
set_option maxRecDepth 100000 in
theorem c_last (l : Launch) (D : va_G) (cB cI : ClassId) (g gt gm gs gw gb : Nat) (tn cn : Int32) (n : Nat) (fW : Nat → Int32) (k : Nat) (hk0 : 0 < k) (hk : k ≤ n) (hn : n ≤ 300) : CtP l y_M_last b_M_last 2 (some .int) 0 D cB cI [.ref g, .int (nI k)] [(g, .inr (2, [.ref gt, .int tn, .ref gm, .ref gs, .int cn, .ref gw, .int (nI n), .ref gb])), (gw, .inl (cB, 300, .inl fW))] (fun r => r = fW (n - k)) := by
  refine CtP.mk (own := R_M) (by decide) rfl (Nat.le_of_ble_eq_true rfl) ?_
  intro p e s m args below meth c Q ls X hP hl hret
  have hx := X.1
  have hb := X.2.1
  have hl : lv_has ls 2 [(0, .ref g), (1, .int (nI k))] := hl
  refine lv_aload_n hx hb d_M_last_0 rfl (lv_at hl 0 rfl) ?_
  refine gf_M_34 X hP 0 rfl d_M_last_1 ?_
  refine lv_iload_n hx hb d_M_last_4 rfl (lv_at hl 1 rfl) ?_
  refine n_icmp_lt X (by omega) (by omega) d_M_last_5 rfl (fun h5 => ?_) (fun h5 => ?_)
  · exact False.elim (by omega)
  · refine lv_aload_n hx hb d_M_last_8 rfl (lv_at hl 0 rfl) ?_
    refine gf_M_20 X hP 0 rfl d_M_last_9 ?_
    refine lv_aload_n hx hb d_M_last_12 rfl (lv_at hl 0 rfl) ?_
    refine gf_M_34 X hP 0 rfl d_M_last_13 ?_
    refine lv_iload_n hx hb d_M_last_16 rfl (lv_at hl 1 rfl) ?_
    refine n_isub X (by omega) d_M_last_17 ?_
    refine n_bald X hP 1 rfl (by omega) (by decide) d_M_last_18 ?_
    refine lv_goto hx hb d_M_last_19 rfl ?_
    exact hret _ _ _ (rfl) rfl d_M_last_23
end
section
-- methods that change cells: the class, first part (gen/tmut.py)
set_option maxHeartbeats 4000000 in
set_option maxRecDepth 100000 in
theorem c_put4 (l : Launch) (D : va_G) (cB cI : ClassId) (q n : Nat) (T : Nat → Int32) (v : Int32) (hn : n + 4 ≤ 300) : CtV (S := Unit) l y_T_put4 b_T_put4 3 0 D cB cI [.ref q, .int (nI n), .int v] [(q, .inl (cB, 300, .inl T))] (fun _ => True) (fun _ => [(q, .inl (cB, 300, .inl (pt T n v)))]) := by
  refine CtV.mk (own := R_T) (by decide) rfl (Nat.le_of_ble_eq_true rfl) ?_
  intro p e s m args below meth c A Q ls X hP hD hS hA hl hret
  have hx := X.1
  have hb := X.2.1
  have hl : lv_has ls 3 [(0, .ref q), (1, .int (nI n)), (2, .int v)] := hl
  refine lv_aload_n hx hb d_T_put4_0 rfl (lv_at hl 0 rfl) ?_
  refine lv_iload_n hx hb d_T_put4_1 rfl (lv_at hl 1 rfl) ?_
  refine lv_iload_n hx hb d_T_put4_2 rfl (lv_at hl 2 rfl) ?_
  refine lv_bipush (v := (nI 24)) hx hb d_T_put4_3 kb_24 ?_
  refine lv_ishr hx hb d_T_put4_5 ?_
  refine lv_i2b hx hb d_T_put4_6 (v := ((v >>> ((nI 24) &&& 31)).toInt8.toInt32)) (rfl) ?_
  refine n_bast X hP hD hS 0 rfl (by omega) (by decide) (n_b2 _) d_T_put4_7 (fun H locs hP hD hS => ?_)
  have hP : va_P D cls [(q, .inl (cB, 300, .inl (upd T n ((v >>> ((nI 24) &&& 31)).toInt8.toInt32))))] H := hP
  have hD : va_D A [(q, .inl (cB, 300, .inl (upd T n ((v >>> ((nI 24) &&& 31)).toInt8.toInt32))))] := hD
  refine lv_aload_n hx hb d_T_put4_8 rfl (lv_at hl 0 rfl) ?_
  refine lv_iload_n hx hb d_T_put4_9 rfl (lv_at hl 1 rfl) ?_
  refine lv_iconst (v := (nI 1)) hx hb d_T_put4_10 ki_1 ?_
  refine n_iadd X d_T_put4_11 ?_
  refine lv_iload_n hx hb d_T_put4_12 rfl (lv_at hl 2 rfl) ?_
  refine lv_bipush (v := (nI 16)) hx hb d_T_put4_13 kb_16 ?_
  refine lv_ishr hx hb d_T_put4_15 ?_
  refine lv_i2b hx hb d_T_put4_16 (v := ((v >>> ((nI 16) &&& 31)).toInt8.toInt32)) (rfl) ?_
  refine n_bast X hP hD hS 0 rfl (by omega) (by decide) (n_b2 _) d_T_put4_17 (fun H locs hP hD hS => ?_)
  have hP : va_P D cls [(q, .inl (cB, 300, .inl (upd (upd T n ((v >>> ((nI 24) &&& 31)).toInt8.toInt32)) (n + 1) ((v >>> ((nI 16) &&& 31)).toInt8.toInt32))))] H := hP
  have hD : va_D A [(q, .inl (cB, 300, .inl (upd (upd T n ((v >>> ((nI 24) &&& 31)).toInt8.toInt32)) (n + 1) ((v >>> ((nI 16) &&& 31)).toInt8.toInt32))))] := hD
  refine lv_aload_n hx hb d_T_put4_18 rfl (lv_at hl 0 rfl) ?_
  refine lv_iload_n hx hb d_T_put4_19 rfl (lv_at hl 1 rfl) ?_
  refine lv_iconst (v := (nI 2)) hx hb d_T_put4_20 ki_2 ?_
  refine n_iadd X d_T_put4_21 ?_
  refine lv_iload_n hx hb d_T_put4_22 rfl (lv_at hl 2 rfl) ?_
  refine lv_bipush (v := (nI 8)) hx hb d_T_put4_23 kb_8 ?_
  refine lv_ishr hx hb d_T_put4_25 ?_
  refine lv_i2b hx hb d_T_put4_26 (v := ((v >>> ((nI 8) &&& 31)).toInt8.toInt32)) (rfl) ?_
  refine n_bast X hP hD hS 0 rfl (by omega) (by decide) (n_b2 _) d_T_put4_27 (fun H locs hP hD hS => ?_)
  have hP : va_P D cls [(q, .inl (cB, 300, .inl (upd (upd (upd T n ((v >>> ((nI 24) &&& 31)).toInt8.toInt32)) (n + 1) ((v >>> ((nI 16) &&& 31)).toInt8.toInt32)) (n + 2) ((v >>> ((nI 8) &&& 31)).toInt8.toInt32))))] H := hP
  have hD : va_D A [(q, .inl (cB, 300, .inl (upd (upd (upd T n ((v >>> ((nI 24) &&& 31)).toInt8.toInt32)) (n + 1) ((v >>> ((nI 16) &&& 31)).toInt8.toInt32)) (n + 2) ((v >>> ((nI 8) &&& 31)).toInt8.toInt32))))] := hD
  refine lv_aload_n hx hb d_T_put4_28 rfl (lv_at hl 0 rfl) ?_
  refine lv_iload_n hx hb d_T_put4_29 rfl (lv_at hl 1 rfl) ?_
  refine lv_iconst (v := (nI 3)) hx hb d_T_put4_30 ki_3 ?_
  refine n_iadd X d_T_put4_31 ?_
  refine lv_iload_n hx hb d_T_put4_32 rfl (lv_at hl 2 rfl) ?_
  refine lv_i2b hx hb d_T_put4_33 (v := v.toInt8.toInt32) (rfl) ?_
  refine n_bast X hP hD hS 0 rfl (by omega) (by decide) (n_b2 _) d_T_put4_34 (fun H locs hP hD hS => ?_)
  have hP : va_P D cls [(q, .inl (cB, 300, .inl (upd (upd (upd (upd T n ((v >>> ((nI 24) &&& 31)).toInt8.toInt32)) (n + 1) ((v >>> ((nI 16) &&& 31)).toInt8.toInt32)) (n + 2) ((v >>> ((nI 8) &&& 31)).toInt8.toInt32)) (n + 3) v.toInt8.toInt32)))] H := hP
  have hD : va_D A [(q, .inl (cB, 300, .inl (upd (upd (upd (upd T n ((v >>> ((nI 24) &&& 31)).toInt8.toInt32)) (n + 1) ((v >>> ((nI 16) &&& 31)).toInt8.toInt32)) (n + 2) ((v >>> ((nI 8) &&& 31)).toInt8.toInt32)) (n + 3) v.toInt8.toInt32)))] := hD
  exact hret () _ _ _ _ (trivial) hP hD hS d_T_put4_35

set_option maxHeartbeats 4000000 in
set_option maxRecDepth 100000 in
theorem c_Tfeed (l : Launch) (D : va_G) (cB cI : ClassId) (h qt q qw qb qn : Nat) (n : Nat) (T : Nat → Int32) (hn : n ≤ 300) (a b c9 d e9 : Int32) : CtI (S := Nat × (Nat → Int32)) l y_T_feed b_T_feed 6 (some .int) 1 D cB cI [.ref h, .int a, .int b, .int c9, .int d, .int e9] [(h, .inr (0, [.ref qt, .int (nI n), .ref q, .ref qw, .ref qb, .ref qn])), (qt, .inl (cB, 300, .inl T))] (fun r u => r = feedA n ∧ u = (feedN n, feedT n T a b c9 d e9)) (fun u => [(h, .inr (0, [.ref qt, .int (nI u.1), .ref q, .ref qw, .ref qb, .ref qn])), (qt, .inl (cB, 300, .inl u.2))]) := by
  refine CtI.mk (own := R_T) (by decide) rfl (Nat.le_of_ble_eq_true rfl) ?_
  intro p e s m args below meth c A Q ls X hP hD hS hA hl hret
  have hx := X.1
  have hb := X.2.1
  have hl : lv_has ls 6 [(0, .ref h), (1, .int a), (2, .int b), (3, .int c9), (4, .int d), (5, .int e9)] := hl
  refine lv_aload_n hx hb d_T_feed_0 rfl (lv_at hl 0 rfl) ?_
  refine gf_T_30 X hP 0 rfl d_T_feed_1 ?_
  refine lv_bipush (v := (nI 20)) hx hb d_T_feed_4 kb_20 ?_
  refine n_iadd X d_T_feed_6 ?_
  refine lv_sipush (v := (nI 300)) hx hb d_T_feed_7 ks_300 ?_
  refine n_icmp_le X (by omega) (by omega) d_T_feed_10 rfl (fun h10 => ?_) (fun h10 => ?_)
  · refine lv_aload_n hx hb d_T_feed_16 rfl (lv_at hl 0 rfl) ?_
    refine gf_T_9 X hP 0 rfl d_T_feed_17 ?_
    refine lv_aload_n hx hb d_T_feed_20 rfl (lv_at hl 0 rfl) ?_
    refine gf_T_30 X hP 0 rfl d_T_feed_21 ?_
    refine lv_iload_n hx hb d_T_feed_24 rfl (lv_at hl 1 rfl) ?_
    refine cV_S (rest := []) (wr := [(h, .inr (0, [.ref qt, .int (nI n), .ref q, .ref qw, .ref qb, .ref qn]))]) X st_T_34 tw1_59 (c_put4 l D cB cI qt n T a (by omega)) (rok (by decide)) hP hD hS hA [1] [0] rfl rfl (by decide) (by decide) (by decide) rfl hl.1 rfl (Nat.le_of_ble_eq_true rfl) d_T_feed_25 (fun u9 H locs hr hP hD hS => ?_)
    have hP : va_P D cls [(h, .inr (0, [.ref qt, .int (nI n), .ref q, .ref qw, .ref qb, .ref qn])), (qt, .inl (cB, 300, .inl (pt T n a)))] H := hP
    have hD : va_D A [(h, .inr (0, [.ref qt, .int (nI n), .ref q, .ref qw, .ref qb, .ref qn])), (qt, .inl (cB, 300, .inl (pt T n a)))] := hD
    refine lv_aload_n hx hb d_T_feed_28 rfl (lv_at hl 0 rfl) ?_
    refine gf_T_9 X hP 0 rfl d_T_feed_29 ?_
    refine lv_aload_n hx hb d_T_feed_32 rfl (lv_at hl 0 rfl) ?_
    refine gf_T_30 X hP 0 rfl d_T_feed_33 ?_
    refine lv_iconst (v := (nI 4)) hx hb d_T_feed_36 ki_4 ?_
    refine n_iadd X d_T_feed_37 ?_
    refine lv_iload_n hx hb d_T_feed_38 rfl (lv_at hl 2 rfl) ?_
    refine cV_S (rest := []) (wr := [(h, .inr (0, [.ref qt, .int (nI n), .ref q, .ref qw, .ref qb, .ref qn]))]) X st_T_34 tw1_59 (c_put4 l D cB cI qt (n + 4) (pt T n a) b (by omega)) (rok (by decide)) hP hD hS hA [1] [0] rfl rfl (by decide) (by decide) (by decide) rfl hl.1 rfl (Nat.le_of_ble_eq_true rfl) d_T_feed_39 (fun u9 H locs hr hP hD hS => ?_)
    have hP : va_P D cls [(h, .inr (0, [.ref qt, .int (nI n), .ref q, .ref qw, .ref qb, .ref qn])), (qt, .inl (cB, 300, .inl (pt (pt T n a) (n + 4) b)))] H := hP
    have hD : va_D A [(h, .inr (0, [.ref qt, .int (nI n), .ref q, .ref qw, .ref qb, .ref qn])), (qt, .inl (cB, 300, .inl (pt (pt T n a) (n + 4) b)))] := hD
    refine lv_aload_n hx hb d_T_feed_42 rfl (lv_at hl 0 rfl) ?_
    refine gf_T_9 X hP 0 rfl d_T_feed_43 ?_
    refine lv_aload_n hx hb d_T_feed_46 rfl (lv_at hl 0 rfl) ?_
    refine gf_T_30 X hP 0 rfl d_T_feed_47 ?_
    refine lv_bipush (v := (nI 8)) hx hb d_T_feed_50 kb_8 ?_
    refine n_iadd X d_T_feed_52 ?_
    refine lv_iload_n hx hb d_T_feed_53 rfl (lv_at hl 3 rfl) ?_
    refine cV_S (rest := []) (wr := [(h, .inr (0, [.ref qt, .int (nI n), .ref q, .ref qw, .ref qb, .ref qn]))]) X st_T_34 tw1_59 (c_put4 l D cB cI qt (n + 8) (pt (pt T n a) (n + 4) b) c9 (by omega)) (rok (by decide)) hP hD hS hA [1] [0] rfl rfl (by decide) (by decide) (by decide) rfl hl.1 rfl (Nat.le_of_ble_eq_true rfl) d_T_feed_54 (fun u9 H locs hr hP hD hS => ?_)
    have hP : va_P D cls [(h, .inr (0, [.ref qt, .int (nI n), .ref q, .ref qw, .ref qb, .ref qn])), (qt, .inl (cB, 300, .inl (pt (pt (pt T n a) (n + 4) b) (n + 8) c9)))] H := hP
    have hD : va_D A [(h, .inr (0, [.ref qt, .int (nI n), .ref q, .ref qw, .ref qb, .ref qn])), (qt, .inl (cB, 300, .inl (pt (pt (pt T n a) (n + 4) b) (n + 8) c9)))] := hD
    refine lv_aload_n hx hb d_T_feed_57 rfl (lv_at hl 0 rfl) ?_
    refine gf_T_9 X hP 0 rfl d_T_feed_58 ?_
    refine lv_aload_n hx hb d_T_feed_61 rfl (lv_at hl 0 rfl) ?_
    refine gf_T_30 X hP 0 rfl d_T_feed_62 ?_
    refine lv_bipush (v := (nI 12)) hx hb d_T_feed_65 kb_12 ?_
    refine n_iadd X d_T_feed_67 ?_
    refine lv_iload hx hb d_T_feed_68 (lv_at hl 4 rfl) ?_
    refine cV_S (rest := []) (wr := [(h, .inr (0, [.ref qt, .int (nI n), .ref q, .ref qw, .ref qb, .ref qn]))]) X st_T_34 tw1_59 (c_put4 l D cB cI qt (n + 12) (pt (pt (pt T n a) (n + 4) b) (n + 8) c9) d (by omega)) (rok (by decide)) hP hD hS hA [1] [0] rfl rfl (by decide) (by decide) (by decide) rfl hl.1 rfl (Nat.le_of_ble_eq_true rfl) d_T_feed_70 (fun u9 H locs hr hP hD hS => ?_)
    have hP : va_P D cls [(h, .inr (0, [.ref qt, .int (nI n), .ref q, .ref qw, .ref qb, .ref qn])), (qt, .inl (cB, 300, .inl (pt (pt (pt (pt T n a) (n + 4) b) (n + 8) c9) (n + 12) d)))] H := hP
    have hD : va_D A [(h, .inr (0, [.ref qt, .int (nI n), .ref q, .ref qw, .ref qb, .ref qn])), (qt, .inl (cB, 300, .inl (pt (pt (pt (pt T n a) (n + 4) b) (n + 8) c9) (n + 12) d)))] := hD
    refine lv_aload_n hx hb d_T_feed_73 rfl (lv_at hl 0 rfl) ?_
    refine gf_T_9 X hP 0 rfl d_T_feed_74 ?_
    refine lv_aload_n hx hb d_T_feed_77 rfl (lv_at hl 0 rfl) ?_
    refine gf_T_30 X hP 0 rfl d_T_feed_78 ?_
    refine lv_bipush (v := (nI 16)) hx hb d_T_feed_81 kb_16 ?_
    refine n_iadd X d_T_feed_83 ?_
    refine lv_iload hx hb d_T_feed_84 (lv_at hl 5 rfl) ?_
    refine cV_S (rest := []) (wr := [(h, .inr (0, [.ref qt, .int (nI n), .ref q, .ref qw, .ref qb, .ref qn]))]) X st_T_34 tw1_59 (c_put4 l D cB cI qt (n + 16) (pt (pt (pt (pt T n a) (n + 4) b) (n + 8) c9) (n + 12) d) e9 (by omega)) (rok (by decide)) hP hD hS hA [1] [0] rfl rfl (by decide) (by decide) (by decide) rfl hl.1 rfl (Nat.le_of_ble_eq_true rfl) d_T_feed_86 (fun u9 H locs hr hP hD hS => ?_)
    have hP : va_P D cls [(h, .inr (0, [.ref qt, .int (nI n), .ref q, .ref qw, .ref qb, .ref qn])), (qt, .inl (cB, 300, .inl (pt (pt (pt (pt (pt T n a) (n + 4) b) (n + 8) c9) (n + 12) d) (n + 16) e9)))] H := hP
    have hD : va_D A [(h, .inr (0, [.ref qt, .int (nI n), .ref q, .ref qw, .ref qb, .ref qn])), (qt, .inl (cB, 300, .inl (pt (pt (pt (pt (pt T n a) (n + 4) b) (n + 8) c9) (n + 12) d) (n + 16) e9)))] := hD
    refine lv_aload_n hx hb d_T_feed_89 rfl (lv_at hl 0 rfl) ?_
    refine lv_dup hx hb d_T_feed_90 rfl ?_
    refine gf_T_30 X hP 0 rfl d_T_feed_91 ?_
    refine lv_bipush (v := (nI 20)) hx hb d_T_feed_94 kb_20 ?_
    refine n_iadd X d_T_feed_96 ?_
    refine pf_T_30 X hP hD hS 0 rfl d_T_feed_97 (fun H locs hP hD hS => ?_)
    have hP : va_P D cls [(h, .inr (0, [.ref qt, .int (nI (n + 20)), .ref q, .ref qw, .ref qb, .ref qn])), (qt, .inl (cB, 300, .inl (pt (pt (pt (pt (pt T n a) (n + 4) b) (n + 8) c9) (n + 12) d) (n + 16) e9)))] H := hP
    have hD : va_D A [(h, .inr (0, [.ref qt, .int (nI (n + 20)), .ref q, .ref qw, .ref qb, .ref qn])), (qt, .inl (cB, 300, .inl (pt (pt (pt (pt (pt T n a) (n + 4) b) (n + 8) c9) (n + 12) d) (n + 16) e9)))] := hD
    refine lv_aload_n hx hb d_T_feed_100 rfl (lv_at hl 0 rfl) ?_
    refine gf_T_30 X hP 0 rfl d_T_feed_101 ?_
    exact hret _ (n + 20, pt5 T n a b c9 d e9) _ _ _ _ (feed_y T a b c9 d e9 h10) rfl hP hD hS d_T_feed_104
  · refine lv_bipush (v := (-3)) hx hb d_T_feed_13 kb_m3 ?_
    exact hret _ (n, T) _ _ _ _ (feed_n T a b c9 d e9 h10) rfl hP hD hS d_T_feed_15

set_option maxHeartbeats 4000000 in
set_option maxRecDepth 100000 in
theorem c_Tend (l : Launch) (D : va_G) (cB cI : ClassId) (h qt q qw qb qn : Nat) (n : Nat) (hn : n ≤ 300) (k : Int32) : CtI (S := Nat) l y_T_end b_T_end 2 (some .int) 1 D cB cI [.ref h, .int k] [(h, .inr (0, [.ref qt, .int (nI n), .ref q, .ref qw, .ref qb, .ref qn]))] (fun r u => r = endA n k ∧ u = endN n k) (fun u => [(h, .inr (0, [.ref qt, .int (nI u), .ref q, .ref qw, .ref qb, .ref qn]))]) := by
  refine CtI.mk (own := R_T) (by decide) rfl (Nat.le_of_ble_eq_true rfl) ?_
  intro p e s m args below meth c A Q ls X hP hD hS hA hl hret
  have hx := X.1
  have hb := X.2.1
  have hl : lv_has ls 2 [(0, .ref h), (1, .int k)] := hl
  have e0 : (nI 0).toInt = 0 := rfl
  have e1 : (nI n).toInt = (n : Int) := nI_toInt (by omega)
  refine lv_iload_n hx hb d_T_end_0 rfl (lv_at hl 1 rfl) ?_
  refine lv_iconst (v := (nI 0)) hx hb d_T_end_1 ki_0 ?_
  refine lv_aload_n hx hb d_T_end_2 rfl (lv_at hl 0 rfl) ?_
  refine gf_T_30 X hP 0 rfl d_T_end_3 ?_
  refine cP_S (rest := []) X st_T_38 tw1_66 (c_in l D cB cI k (nI 0) (nI n)) (rok (by decide)) hP [] rfl rfl hl.1 rfl (Nat.le_of_ble_eq_true rfl) d_T_end_6 (fun r6 hr => ?_)
  rcases hr with ⟨rfl, hr1, hr2⟩ | ⟨rfl, hr⟩
  · rw [i_le, e0] at hr1
    rw [i_le, e1] at hr2
    obtain ⟨a, ha, rfl⟩ := inE (k := k) hn ⟨by omega, by omega⟩
    refine n_if_ne X (by omega) d_T_end_9 rfl (fun h9 => ?_) (fun h9 => ?_)
    · refine lv_aload_n hx hb d_T_end_14 rfl (lv_at hl 0 rfl) ?_
      refine lv_iload_n hx hb d_T_end_15 rfl (lv_at hl 1 rfl) ?_
      refine pf_T_30 X hP hD hS 0 rfl d_T_end_16 (fun H locs hP hD hS => ?_)
      have hP : va_P D cls [(h, .inr (0, [.ref qt, .int (nI a), .ref q, .ref qw, .ref qb, .ref qn]))] H := hP
      have hD : va_D A [(h, .inr (0, [.ref qt, .int (nI a), .ref q, .ref qw, .ref qb, .ref qn]))] := hD
      refine lv_iload_n hx hb d_T_end_19 rfl (lv_at hl 1 rfl) ?_
      exact hret _ a _ _ _ _ (end_y ha hn) rfl hP hD hS d_T_end_20
    · exact False.elim (by omega)
  · rw [i_le, i_le, e0, e1] at hr
    refine n_if_ne X (by omega) d_T_end_9 rfl (fun h9 => ?_) (fun h9 => ?_)
    · exact False.elim (by omega)
    · refine lv_iconst (v := (-1)) hx hb d_T_end_12 ki_m1 ?_
      exact hret _ n _ _ _ _ (end_n hr) rfl hP hD hS d_T_end_13

set_option maxHeartbeats 4000000 in
set_option maxRecDepth 100000 in
theorem c_take (l : Launch) (D : va_G) (cB cI : ClassId) (q qm qs qt : Nat) (fM fS T : Nat → Int32) (ws : List (List Nat)) (hR : Rep ws fS fM) (hc : ws.length < 150) (a b : Nat) (hab : a < b) (hb300 : b ≤ 300) (hs : ∀ j, a ≤ j → j < b → sg (T j) = true) : CtV (S := (Nat → Int32) × (Nat → Int32)) l y_W_take b_W_take 8 2 D cB cI [.ref q, .ref qt, .int (nI a), .int (nI b)] [(q, .inr (1, [.int (nI ws.length), .ref qm, .ref qs])), (qm, .inl (cB, 3600, .inl fM)), (qs, .inl (cI, 150, .inl fS)), (qt, .inl (cB, 300, .inl T))] (fun u => Rep (ws ++ [stem (wf T a) (b - a)]) u.2 u.1) (fun u => [(q, .inr (1, [.int (nI (ws.length + 1)), .ref qm, .ref qs])), (qm, .inl (cB, 3600, .inl u.1)), (qs, .inl (cI, 150, .inl u.2)), (qt, .inl (cB, 300, .inl T))]) := by
  refine CtV.mk (own := R_W) (by decide) rfl (Nat.le_of_ble_eq_true rfl) ?_
  intro p e s m args below meth c A Q ls X hP hD hS hA hl hret
  have hx := X.1
  have hb := X.2.1
  have hl : lv_has ls 8 [(0, .ref q), (1, .ref qt), (2, .int (nI a)), (3, .int (nI b))] := hl
  have hlt : ∀ i, i < b - a → wf T a i < 128 := fun i hi => ch_lt (hs _ (by omega) (by omega))
  have J121 : ∀ (kp : Nat) (la : Int32), (kp = kl (wf T a) (b - a)) → ((la = -1 ∧ isIes (wf T a) (b - a) = false) ∨ (la = nI 121 ∧ isIes (wf T a) (b - a) = true)) → ∀ (H : Heap) (locs : List Loc) (ls : Array Slot), lv_has ls 8 [(5, .int (nI kp)), (6, .int la), (4, .int (nI (b - a))), (0, .ref q), (1, .ref qt), (2, .int (nI a)), (3, .int (nI b))] → va_P D cls [(q, .inr (1, [.int (nI ws.length), .ref qm, .ref qs])), (qm, .inl (cB, 3600, .inl fM)), (qs, .inl (cI, 150, .inl fS)), (qt, .inl (cB, 300, .inl T))] H → va_D A [(q, .inr (1, [.int (nI ws.length), .ref qm, .ref qs])), (qm, .inl (cB, 3600, .inl fM)), (qs, .inl (cI, 150, .inl fS)), (qt, .inl (cB, 300, .inl T))] → va_S A s.heap H locs → W p l e (rmd 2) s m args below meth c H locs 0 0 Q (F0 m 121 ls []) := by
    intro kp la hkp hla H locs ls hl hP hD hS
    have hkl := kl_le (wf T a) (b - a)
    refine lv_aload_n hx hb d_W_take_121 rfl (lv_at hl 3 rfl) ?_
    refine gf_W_15 X hP 0 rfl d_W_take_122 ?_
    refine lv_aload_n hx hb d_W_take_125 rfl (lv_at hl 3 rfl) ?_
    refine gf_W_23 X hP 0 rfl d_W_take_126 ?_
    refine lv_bipush (v := (nI 24)) hx hb d_W_take_129 kb_24 ?_
    refine lv_iload hx hb d_W_take_131 (lv_at hl 0 rfl) ?_
    refine n_min X tw1_86 hl.1 (by omega) (by omega) (Nat.le_of_ble_eq_true rfl) (Nat.le_of_ble_eq_true rfl) (Nat.zero_le _) (Nat.zero_le _) d_W_take_133 ?_
    refine n_iast X hP hD hS 2 rfl (by omega) (by decide) d_W_take_136 (fun H locs hP hD hS => ?_)
    have hP : va_P D cls [(q, .inr (1, [.int (nI ws.length), .ref qm, .ref qs])), (qm, .inl (cB, 3600, .inl fM)), (qs, .inl (cI, 150, .inl (upd fS ws.length (nI (min 24 kp))))), (qt, .inl (cB, 300, .inl T))] H := hP
    have hD : va_D A [(q, .inr (1, [.int (nI ws.length), .ref qm, .ref qs])), (qm, .inl (cB, 3600, .inl fM)), (qs, .inl (cI, 150, .inl (upd fS ws.length (nI (min 24 kp))))), (qt, .inl (cB, 300, .inl T))] := hD
    refine lv_iconst (v := (nI 0)) hx hb d_W_take_137 ki_0 ?_
    refine lv_istore hx hb d_W_take_138 hl (by decide) rfl (fun ls hl => ?_)
    have hl : lv_has ls 8 [(7, .int (nI 0)), (5, .int (nI kp)), (6, .int la), (4, .int (nI (b - a))), (0, .ref q), (1, .ref qt), (2, .int (nI a)), (3, .int (nI b))] := hl
    have loop : ∀ (d9 : Nat) (i : Nat) (gM : Nat → Int32), min 24 kp - i = d9 → (i ≤ min 24 kp) → (∀ j, j < 24 * ws.length → gM j = fM j) → (∀ t, t < i → gM (24 * ws.length + t) = nI (kc (wf T a) (b - a) t)) → ∀ (H : Heap) (locs : List Loc) (ls : Array Slot), lv_has ls 8 [(7, .int (nI i)), (5, .int (nI kp)), (6, .int la), (4, .int (nI (b - a))), (0, .ref q), (1, .ref qt), (2, .int (nI a)), (3, .int (nI b))] → va_P D cls [(q, .inr (1, [.int (nI ws.length), .ref qm, .ref qs])), (qm, .inl (cB, 3600, .inl gM)), (qs, .inl (cI, 150, .inl (upd fS ws.length (nI (min 24 kp))))), (qt, .inl (cB, 300, .inl T))] H → va_D A [(q, .inr (1, [.int (nI ws.length), .ref qm, .ref qs])), (qm, .inl (cB, 3600, .inl gM)), (qs, .inl (cI, 150, .inl (upd fS ws.length (nI (min 24 kp))))), (qt, .inl (cB, 300, .inl T))] → va_S A s.heap H locs → W p l e (rmd 2) s m args below meth c H locs 0 0 Q (F0 m 140 ls []) := by
      intro d9
      induction d9 using Nat.strongRecOn with
      | _ d9 ih_loop =>
      intro i gM hd hi h1 h2 H locs ls hl hP hD hS
      refine lv_iload hx hb d_W_take_140 (lv_at hl 0 rfl) ?_
      refine lv_aload_n hx hb d_W_take_142 rfl (lv_at hl 4 rfl) ?_
      refine gf_W_15 X hP 0 rfl d_W_take_143 ?_
      refine lv_aload_n hx hb d_W_take_146 rfl (lv_at hl 4 rfl) ?_
      refine gf_W_23 X hP 0 rfl d_W_take_147 ?_
      refine n_iald X hP 2 rfl (by omega) (by decide) d_W_take_150 ?_
      refine W.top (y := (nI (min 24 kp))) (upd_s) ?_
      refine n_icmp_ge X (by omega) (by omega) d_W_take_151 rfl (fun h151 => ?_) (fun h151 => ?_)
      · have e2 : stem (wf T a) (b - a) = (List.range (min 24 kp)).map (kc (wf T a) (b - a)) := by rw [hkp]; rfl
        refine lv_aload_n hx hb d_W_take_204 rfl (lv_at hl 4 rfl) ?_
        refine lv_dup hx hb d_W_take_205 rfl ?_
        refine gf_W_23 X hP 0 rfl d_W_take_206 ?_
        refine lv_iconst (v := (nI 1)) hx hb d_W_take_209 ki_1 ?_
        refine n_iadd X d_W_take_210 ?_
        refine pf_W_23 X hP hD hS 0 rfl d_W_take_211 (fun H locs hP hD hS => ?_)
        have hP : va_P D cls [(q, .inr (1, [.int (nI (ws.length + 1)), .ref qm, .ref qs])), (qm, .inl (cB, 3600, .inl gM)), (qs, .inl (cI, 150, .inl (upd fS ws.length (nI (min 24 kp))))), (qt, .inl (cB, 300, .inl T))] H := hP
        have hD : va_D A [(q, .inr (1, [.int (nI (ws.length + 1)), .ref qm, .ref qs])), (qm, .inl (cB, 3600, .inl gM)), (qs, .inl (cI, 150, .inl (upd fS ws.length (nI (min 24 kp))))), (qt, .inl (cB, 300, .inl T))] := hD
        exact hret (gM, upd fS ws.length (nI (min 24 kp))) _ _ _ _ (by rw [e2]; exact Rep_put hR (by omega) (fun t ht => kc_lt hlt (by omega)) h1 (fun t ht => h2 t (by omega))) hP hD hS d_W_take_214
      · have hsi : sg (T (a + i)) = true := hs _ (by omega) (by omega)
        refine lv_aload_n hx hb d_W_take_154 rfl (lv_at hl 4 rfl) ?_
        refine gf_W_9 X hP 0 rfl d_W_take_155 ?_
        refine lv_bipush (v := (nI 24)) hx hb d_W_take_158 kb_24 ?_
        refine lv_aload_n hx hb d_W_take_160 rfl (lv_at hl 4 rfl) ?_
        refine gf_W_23 X hP 0 rfl d_W_take_161 ?_
        refine n_imul X d_W_take_164 ?_
        refine lv_iload hx hb d_W_take_165 (lv_at hl 0 rfl) ?_
        refine n_iadd X d_W_take_167 ?_
        refine lv_iload hx hb d_W_take_168 (lv_at hl 0 rfl) ?_
        refine lv_iload hx hb d_W_take_170 (lv_at hl 1 rfl) ?_
        refine lv_iconst (v := (nI 1)) hx hb d_W_take_172 ki_1 ?_
        refine n_isub X (by omega) d_W_take_173 ?_
        refine n_icmp_ne X (by omega) (by omega) d_W_take_174 rfl (fun h174 => ?_) (fun h174 => ?_)
        · refine lv_aload_n hx hb d_W_take_187 rfl (lv_at hl 5 rfl) ?_
          refine lv_iload_n hx hb d_W_take_188 rfl (lv_at hl 6 rfl) ?_
          refine lv_iload hx hb d_W_take_189 (lv_at hl 0 rfl) ?_
          refine n_iadd X d_W_take_191 ?_
          refine n_bald X hP 3 rfl (by omega) (by decide) d_W_take_192 ?_
          refine cP_N (rest := [.int (nI ((24 * ws.length) + i)), .ref qm]) X st_W_19 tw1_84 (c_small l D cB cI (T (a + i))) (rok (by decide)) hP [] rfl rfl hl.1 rfl (Nat.le_of_ble_eq_true rfl) d_W_take_193 (fun r193 hr => ?_)
          subst hr
          refine W.top (y := (nI (ch (T (a + i))))) (sm_ch hsi) ?_
          have hkc : kc (wf T a) (b - a) i = ch (T (a + i)) := kc_no (fun q => by have h9 := kl_ies q; omega)
          refine lv_i2b hx hb d_W_take_196 (v := (nI (ch (T (a + i))))) (n_byte (by have h9 := kc_lt hlt (i := i) (by omega); omega)) ?_
          refine n_bast X hP hD hS 1 rfl (by omega) (by decide) (n_byte (by have h9 := kc_lt hlt (i := i) (by omega); omega)) d_W_take_197 (fun H locs hP hD hS => ?_)
          have hP : va_P D cls [(q, .inr (1, [.int (nI ws.length), .ref qm, .ref qs])), (qm, .inl (cB, 3600, .inl (upd gM ((24 * ws.length) + i) (nI (ch (T (a + i))))))), (qs, .inl (cI, 150, .inl (upd fS ws.length (nI (min 24 kp))))), (qt, .inl (cB, 300, .inl T))] H := hP
          have hD : va_D A [(q, .inr (1, [.int (nI ws.length), .ref qm, .ref qs])), (qm, .inl (cB, 3600, .inl (upd gM ((24 * ws.length) + i) (nI (ch (T (a + i))))))), (qs, .inl (cI, 150, .inl (upd fS ws.length (nI (min 24 kp))))), (qt, .inl (cB, 300, .inl T))] := hD
          refine lv_iinc hx hb d_W_take_198 hl (k := 0) rfl (v := (nI (i + 1))) (n_inc _ 1) (by decide) rfl (fun ls hl => ?_)
          have hl : lv_has ls 8 [(7, .int (nI (i + 1))), (5, .int (nI kp)), (6, .int la), (4, .int (nI (b - a))), (0, .ref q), (1, .ref qt), (2, .int (nI a)), (3, .int (nI b))] := hl
          refine lv_goto hx hb d_W_take_201 rfl ?_
          obtain ⟨h3, h4⟩ := put_s (x := nI (ch (T (a + i)))) h1 h2 (by rw [hkc])
          exact ih_loop _ (by omega) (i + 1) (upd gM (24 * ws.length + i) (nI (ch (T (a + i))))) rfl (by omega) (h3) (h4) _ _ _ hl hP hD hS
        · refine lv_iload hx hb d_W_take_177 (lv_at hl 2 rfl) ?_
          rcases hla with ⟨rfl, hie⟩ | ⟨rfl, hie⟩
          · refine lv_if_le hx hb d_W_take_179 rfl (fun h179 => ?_) (fun h179 => ?_)
            · refine lv_aload_n hx hb d_W_take_187 rfl (lv_at hl 5 rfl) ?_
              refine lv_iload_n hx hb d_W_take_188 rfl (lv_at hl 6 rfl) ?_
              refine lv_iload hx hb d_W_take_189 (lv_at hl 0 rfl) ?_
              refine n_iadd X d_W_take_191 ?_
              refine n_bald X hP 3 rfl (by omega) (by decide) d_W_take_192 ?_
              refine cP_N (rest := [.int (nI ((24 * ws.length) + i)), .ref qm]) X st_W_19 tw1_84 (c_small l D cB cI (T (a + i))) (rok (by decide)) hP [] rfl rfl hl.1 rfl (Nat.le_of_ble_eq_true rfl) d_W_take_193 (fun r193 hr => ?_)
              subst hr
              refine W.top (y := (nI (ch (T (a + i))))) (sm_ch hsi) ?_
              have hkc : kc (wf T a) (b - a) i = ch (T (a + i)) := kc_no (fun q => by rw [hie] at q; cases q)
              refine lv_i2b hx hb d_W_take_196 (v := (nI (ch (T (a + i))))) (n_byte (by have h9 := kc_lt hlt (i := i) (by omega); omega)) ?_
              refine n_bast X hP hD hS 1 rfl (by omega) (by decide) (n_byte (by have h9 := kc_lt hlt (i := i) (by omega); omega)) d_W_take_197 (fun H locs hP hD hS => ?_)
              have hP : va_P D cls [(q, .inr (1, [.int (nI ws.length), .ref qm, .ref qs])), (qm, .inl (cB, 3600, .inl (upd gM ((24 * ws.length) + i) (nI (ch (T (a + i))))))), (qs, .inl (cI, 150, .inl (upd fS ws.length (nI (min 24 kp))))), (qt, .inl (cB, 300, .inl T))] H := hP
              have hD : va_D A [(q, .inr (1, [.int (nI ws.length), .ref qm, .ref qs])), (qm, .inl (cB, 3600, .inl (upd gM ((24 * ws.length) + i) (nI (ch (T (a + i))))))), (qs, .inl (cI, 150, .inl (upd fS ws.length (nI (min 24 kp))))), (qt, .inl (cB, 300, .inl T))] := hD
              refine lv_iinc hx hb d_W_take_198 hl (k := 0) rfl (v := (nI (i + 1))) (n_inc _ 1) (by decide) rfl (fun ls hl => ?_)
              have hl : lv_has ls 8 [(7, .int (nI (i + 1))), (5, .int (nI kp)), (6, .int (-1)), (4, .int (nI (b - a))), (0, .ref q), (1, .ref qt), (2, .int (nI a)), (3, .int (nI b))] := hl
              refine lv_goto hx hb d_W_take_201 rfl ?_
              obtain ⟨h3, h4⟩ := put_s (x := nI (ch (T (a + i)))) h1 h2 (by rw [hkc])
              exact ih_loop _ (by omega) (i + 1) (upd gM (24 * ws.length + i) (nI (ch (T (a + i))))) rfl (by omega) (h3) (h4) _ _ _ hl hP hD hS
            · exact False.elim (h179 (by decide))
          · refine n_if_le X (by omega) d_W_take_179 rfl (fun h179 => ?_) (fun h179 => ?_)
            · exact False.elim (by omega)
            · refine lv_iload hx hb d_W_take_182 (lv_at hl 2 rfl) ?_
              refine lv_goto hx hb d_W_take_184 rfl ?_
              have hkc : kc (wf T a) (b - a) i = 121 := by have h9 := kl_ies hie; rw [show i = b - a - 3 by omega]; exact kc_y hie
              refine lv_i2b hx hb d_W_take_196 (v := (nI 121)) (n_byte (by have h9 := kc_lt hlt (i := i) (by omega); omega)) ?_
              refine n_bast X hP hD hS 1 rfl (by omega) (by decide) (n_byte (by have h9 := kc_lt hlt (i := i) (by omega); omega)) d_W_take_197 (fun H locs hP hD hS => ?_)
              have hP : va_P D cls [(q, .inr (1, [.int (nI ws.length), .ref qm, .ref qs])), (qm, .inl (cB, 3600, .inl (upd gM ((24 * ws.length) + i) (nI 121)))), (qs, .inl (cI, 150, .inl (upd fS ws.length (nI (min 24 kp))))), (qt, .inl (cB, 300, .inl T))] H := hP
              have hD : va_D A [(q, .inr (1, [.int (nI ws.length), .ref qm, .ref qs])), (qm, .inl (cB, 3600, .inl (upd gM ((24 * ws.length) + i) (nI 121)))), (qs, .inl (cI, 150, .inl (upd fS ws.length (nI (min 24 kp))))), (qt, .inl (cB, 300, .inl T))] := hD
              refine lv_iinc hx hb d_W_take_198 hl (k := 0) rfl (v := (nI (i + 1))) (n_inc _ 1) (by decide) rfl (fun ls hl => ?_)
              have hl : lv_has ls 8 [(7, .int (nI (i + 1))), (5, .int (nI kp)), (6, .int (nI 121)), (4, .int (nI (b - a))), (0, .ref q), (1, .ref qt), (2, .int (nI a)), (3, .int (nI b))] := hl
              refine lv_goto hx hb d_W_take_201 rfl ?_
              obtain ⟨h3, h4⟩ := put_s (x := nI 121) h1 h2 (by rw [hkc])
              exact ih_loop _ (by omega) (i + 1) (upd gM (24 * ws.length + i) (nI 121)) rfl (by omega) (h3) (h4) _ _ _ hl hP hD hS
    exact loop _ 0 fM rfl (Nat.zero_le _) (fun _ _ => rfl) (fun t h => absurd h (Nat.not_lt_zero _)) _ _ _ hl hP hD hS
  have J70 : (isIes (wf T a) (b - a) = false) → ∀ (H : Heap) (locs : List Loc) (ls : Array Slot), lv_has ls 8 [(6, .int (-1)), (5, .int (nI (b - a))), (4, .int (nI (b - a))), (0, .ref q), (1, .ref qt), (2, .int (nI a)), (3, .int (nI b))] → va_P D cls [(q, .inr (1, [.int (nI ws.length), .ref qm, .ref qs])), (qm, .inl (cB, 3600, .inl fM)), (qs, .inl (cI, 150, .inl fS)), (qt, .inl (cB, 300, .inl T))] H → va_D A [(q, .inr (1, [.int (nI ws.length), .ref qm, .ref qs])), (qm, .inl (cB, 3600, .inl fM)), (qs, .inl (cI, 150, .inl fS)), (qt, .inl (cB, 300, .inl T))] → va_S A s.heap H locs → W p l e (rmd 2) s m args below meth c H locs 0 0 Q (F0 m 70 ls []) := by
    intro  hie H locs ls hl hP hD hS
    refine lv_iload hx hb d_W_take_70 (lv_at hl 2 rfl) ?_
    refine lv_iconst (v := (nI 4)) hx hb d_W_take_72 ki_4 ?_
    refine n_icmp_lt X (by omega) (by omega) d_W_take_73 rfl (fun h73 => ?_) (fun h73 => ?_)
    · exact J121 (b - a) (-1) ((kl_no hie (decide_eq_false (by omega))).symm) (Or.inl ⟨rfl, hie⟩) _ _ _ (lv_sub hl [1, 0, 2, 3, 4, 5, 6] rfl) hP hD hS
    · refine lv_aload_n hx hb d_W_take_76 rfl (lv_at hl 4 rfl) ?_
      refine lv_iload_n hx hb d_W_take_77 rfl (lv_at hl 6 rfl) ?_
      refine lv_iconst (v := (nI 1)) hx hb d_W_take_78 ki_1 ?_
      refine n_isub X (by omega) d_W_take_79 ?_
      refine n_bald X hP 3 rfl (by omega) (by decide) d_W_take_80 ?_
      refine cP_N (rest := []) X st_W_19 tw1_84 (c_small l D cB cI (T (b - 1))) (rok (by decide)) hP [] rfl rfl hl.1 rfl (Nat.le_of_ble_eq_true rfl) d_W_take_81 (fun r81 hr => ?_)
      subst hr
      refine W.top (y := (nI (ch (T (b - 1))))) (sm_ch (hs _ (by omega) (by omega))) ?_
      have hw1 : wf T a (b - a - 1) = ch (T (b - 1)) := by unfold wf; rw [show a + (b - a - 1) = b - 1 by omega]
      have hq1 : ch (T (b - 1)) < 128 := ch_lt (hs _ (by omega) (by omega))
      refine lv_bipush (v := (nI 115)) hx hb d_W_take_84 kb_115 ?_
      refine n_icmp_ne X (by omega) (by omega) d_W_take_86 rfl (fun h86 => ?_) (fun h86 => ?_)
      · exact J121 (b - a) (-1) ((kl_no hie (decide_eq_false (by omega))).symm) (Or.inl ⟨rfl, hie⟩) _ _ _ (lv_sub hl [1, 0, 2, 3, 4, 5, 6] rfl) hP hD hS
      · refine lv_aload_n hx hb d_W_take_89 rfl (lv_at hl 4 rfl) ?_
        refine lv_iload_n hx hb d_W_take_90 rfl (lv_at hl 6 rfl) ?_
        refine lv_iconst (v := (nI 2)) hx hb d_W_take_91 ki_2 ?_
        refine n_isub X (by omega) d_W_take_92 ?_
        refine n_bald X hP 3 rfl (by omega) (by decide) d_W_take_93 ?_
        refine cP_N (rest := []) X st_W_19 tw1_84 (c_small l D cB cI (T (b - 2))) (rok (by decide)) hP [] rfl rfl hl.1 rfl (Nat.le_of_ble_eq_true rfl) d_W_take_94 (fun r94 hr => ?_)
        subst hr
        refine W.top (y := (nI (ch (T (b - 2))))) (sm_ch (hs _ (by omega) (by omega))) ?_
        have hw2 : wf T a (b - a - 2) = ch (T (b - 2)) := by unfold wf; rw [show a + (b - a - 2) = b - 2 by omega]
        have hq2 : ch (T (b - 2)) < 128 := ch_lt (hs _ (by omega) (by omega))
        refine lv_bipush (v := (nI 115)) hx hb d_W_take_97 kb_115 ?_
        refine n_icmp_eq X (by omega) (by omega) d_W_take_99 rfl (fun h99 => ?_) (fun h99 => ?_)
        · exact J121 (b - a) (-1) ((kl_no hie (decide_eq_false (by omega))).symm) (Or.inl ⟨rfl, hie⟩) _ _ _ (lv_sub hl [1, 0, 2, 3, 4, 5, 6] rfl) hP hD hS
        · refine lv_aload_n hx hb d_W_take_102 rfl (lv_at hl 4 rfl) ?_
          refine lv_iload_n hx hb d_W_take_103 rfl (lv_at hl 6 rfl) ?_
          refine lv_iconst (v := (nI 2)) hx hb d_W_take_104 ki_2 ?_
          refine n_isub X (by omega) d_W_take_105 ?_
          refine n_bald X hP 3 rfl (by omega) (by decide) d_W_take_106 ?_
          refine cP_N (rest := []) X st_W_19 tw1_84 (c_small l D cB cI (T (b - 2))) (rok (by decide)) hP [] rfl rfl hl.1 rfl (Nat.le_of_ble_eq_true rfl) d_W_take_107 (fun r107 hr => ?_)
          subst hr
          refine W.top (y := (nI (ch (T (b - 2))))) (sm_ch (hs _ (by omega) (by omega))) ?_
          have hw2 : wf T a (b - a - 2) = ch (T (b - 2)) := by unfold wf; rw [show a + (b - a - 2) = b - 2 by omega]
          have hq2 : ch (T (b - 2)) < 128 := ch_lt (hs _ (by omega) (by omega))
          refine lv_bipush (v := (nI 117)) hx hb d_W_take_110 kb_117 ?_
          refine n_icmp_eq X (by omega) (by omega) d_W_take_112 rfl (fun h112 => ?_) (fun h112 => ?_)
          · exact J121 (b - a) (-1) ((kl_no hie (decide_eq_false (by omega))).symm) (Or.inl ⟨rfl, hie⟩) _ _ _ (lv_sub hl [1, 0, 2, 3, 4, 5, 6] rfl) hP hD hS
          · refine lv_iload hx hb d_W_take_115 (lv_at hl 2 rfl) ?_
            refine lv_iconst (v := (nI 1)) hx hb d_W_take_117 ki_1 ?_
            refine n_isub X (by omega) d_W_take_118 ?_
            refine lv_istore hx hb d_W_take_119 hl (by decide) rfl (fun ls hl => ?_)
            have hl : lv_has ls 8 [(5, .int (nI ((b - a) - 1))), (6, .int (-1)), (4, .int (nI (b - a))), (0, .ref q), (1, .ref qt), (2, .int (nI a)), (3, .int (nI b))] := hl
            exact J121 (b - a - 1) (-1) ((kl_es hie (decide_eq_true (by omega))).symm) (Or.inl ⟨rfl, hie⟩) _ _ _ hl hP hD hS
  refine lv_iload_n hx hb d_W_take_0 rfl (lv_at hl 3 rfl) ?_
  refine lv_iload_n hx hb d_W_take_1 rfl (lv_at hl 2 rfl) ?_
  refine n_isub X (by omega) d_W_take_2 ?_
  refine lv_istore hx hb d_W_take_3 hl (by decide) rfl (fun ls hl => ?_)
  have hl : lv_has ls 8 [(4, .int (nI (b - a))), (0, .ref q), (1, .ref qt), (2, .int (nI a)), (3, .int (nI b))] := hl
  refine lv_iload hx hb d_W_take_5 (lv_at hl 0 rfl) ?_
  refine lv_istore hx hb d_W_take_7 hl (by decide) rfl (fun ls hl => ?_)
  have hl : lv_has ls 8 [(5, .int (nI (b - a))), (4, .int (nI (b - a))), (0, .ref q), (1, .ref qt), (2, .int (nI a)), (3, .int (nI b))] := hl
  refine lv_iconst (v := (-1)) hx hb d_W_take_9 ki_m1 ?_
  refine lv_istore hx hb d_W_take_10 hl (by decide) rfl (fun ls hl => ?_)
  have hl : lv_has ls 8 [(6, .int (-1)), (5, .int (nI (b - a))), (4, .int (nI (b - a))), (0, .ref q), (1, .ref qt), (2, .int (nI a)), (3, .int (nI b))] := hl
  refine lv_iload hx hb d_W_take_12 (lv_at hl 2 rfl) ?_
  refine lv_iconst (v := (nI 5)) hx hb d_W_take_14 ki_5 ?_
  refine n_icmp_lt X (by omega) (by omega) d_W_take_15 rfl (fun h15 => ?_) (fun h15 => ?_)
  · exact J70  (decide_eq_false (by omega)) _ _ _ hl hP hD hS
  · refine lv_aload_n hx hb d_W_take_18 rfl (lv_at hl 4 rfl) ?_
    refine lv_iload_n hx hb d_W_take_19 rfl (lv_at hl 6 rfl) ?_
    refine lv_iconst (v := (nI 3)) hx hb d_W_take_20 ki_3 ?_
    refine n_isub X (by omega) d_W_take_21 ?_
    refine n_bald X hP 3 rfl (by omega) (by decide) d_W_take_22 ?_
    refine cP_N (rest := []) X st_W_19 tw1_84 (c_small l D cB cI (T (b - 3))) (rok (by decide)) hP [] rfl rfl hl.1 rfl (Nat.le_of_ble_eq_true rfl) d_W_take_23 (fun r23 hr => ?_)
    subst hr
    refine W.top (y := (nI (ch (T (b - 3))))) (sm_ch (hs _ (by omega) (by omega))) ?_
    have hw3 : wf T a (b - a - 3) = ch (T (b - 3)) := by unfold wf; rw [show a + (b - a - 3) = b - 3 by omega]
    have hq3 : ch (T (b - 3)) < 128 := ch_lt (hs _ (by omega) (by omega))
    refine lv_bipush (v := (nI 105)) hx hb d_W_take_26 kb_105 ?_
    refine n_icmp_ne X (by omega) (by omega) d_W_take_28 rfl (fun h28 => ?_) (fun h28 => ?_)
    · exact J70  (decide_eq_false (by omega)) _ _ _ hl hP hD hS
    · refine lv_aload_n hx hb d_W_take_31 rfl (lv_at hl 4 rfl) ?_
      refine lv_iload_n hx hb d_W_take_32 rfl (lv_at hl 6 rfl) ?_
      refine lv_iconst (v := (nI 2)) hx hb d_W_take_33 ki_2 ?_
      refine n_isub X (by omega) d_W_take_34 ?_
      refine n_bald X hP 3 rfl (by omega) (by decide) d_W_take_35 ?_
      refine cP_N (rest := []) X st_W_19 tw1_84 (c_small l D cB cI (T (b - 2))) (rok (by decide)) hP [] rfl rfl hl.1 rfl (Nat.le_of_ble_eq_true rfl) d_W_take_36 (fun r36 hr => ?_)
      subst hr
      refine W.top (y := (nI (ch (T (b - 2))))) (sm_ch (hs _ (by omega) (by omega))) ?_
      have hw2 : wf T a (b - a - 2) = ch (T (b - 2)) := by unfold wf; rw [show a + (b - a - 2) = b - 2 by omega]
      have hq2 : ch (T (b - 2)) < 128 := ch_lt (hs _ (by omega) (by omega))
      refine lv_bipush (v := (nI 101)) hx hb d_W_take_39 kb_101 ?_
      refine n_icmp_ne X (by omega) (by omega) d_W_take_41 rfl (fun h41 => ?_) (fun h41 => ?_)
      · exact J70  (decide_eq_false (by omega)) _ _ _ hl hP hD hS
      · refine lv_aload_n hx hb d_W_take_44 rfl (lv_at hl 4 rfl) ?_
        refine lv_iload_n hx hb d_W_take_45 rfl (lv_at hl 6 rfl) ?_
        refine lv_iconst (v := (nI 1)) hx hb d_W_take_46 ki_1 ?_
        refine n_isub X (by omega) d_W_take_47 ?_
        refine n_bald X hP 3 rfl (by omega) (by decide) d_W_take_48 ?_
        refine cP_N (rest := []) X st_W_19 tw1_84 (c_small l D cB cI (T (b - 1))) (rok (by decide)) hP [] rfl rfl hl.1 rfl (Nat.le_of_ble_eq_true rfl) d_W_take_49 (fun r49 hr => ?_)
        subst hr
        refine W.top (y := (nI (ch (T (b - 1))))) (sm_ch (hs _ (by omega) (by omega))) ?_
        have hw1 : wf T a (b - a - 1) = ch (T (b - 1)) := by unfold wf; rw [show a + (b - a - 1) = b - 1 by omega]
        have hq1 : ch (T (b - 1)) < 128 := ch_lt (hs _ (by omega) (by omega))
        refine lv_bipush (v := (nI 115)) hx hb d_W_take_52 kb_115 ?_
        refine n_icmp_ne X (by omega) (by omega) d_W_take_54 rfl (fun h54 => ?_) (fun h54 => ?_)
        · exact J70  (decide_eq_false (by omega)) _ _ _ hl hP hD hS
        · have hie : isIes (wf T a) (b - a) = true := decide_eq_true (by omega)
          refine lv_iload hx hb d_W_take_57 (lv_at hl 2 rfl) ?_
          refine lv_iconst (v := (nI 2)) hx hb d_W_take_59 ki_2 ?_
          refine n_isub X (by omega) d_W_take_60 ?_
          refine lv_istore hx hb d_W_take_61 hl (by decide) rfl (fun ls hl => ?_)
          have hl : lv_has ls 8 [(5, .int (nI ((b - a) - 2))), (6, .int (-1)), (4, .int (nI (b - a))), (0, .ref q), (1, .ref qt), (2, .int (nI a)), (3, .int (nI b))] := hl
          refine lv_bipush (v := (nI 121)) hx hb d_W_take_63 kb_121 ?_
          refine lv_istore hx hb d_W_take_65 hl (by decide) rfl (fun ls hl => ?_)
          have hl : lv_has ls 8 [(6, .int (nI 121)), (5, .int (nI ((b - a) - 2))), (4, .int (nI (b - a))), (0, .ref q), (1, .ref qt), (2, .int (nI a)), (3, .int (nI b))] := hl
          refine lv_goto hx hb d_W_take_67 rfl ?_
          exact J121 (b - a - 2) (nI 121) ((kl_ies hie).1.symm) (Or.inr ⟨rfl, hie⟩) _ _ _ (lv_sub hl [1, 0, 2, 3, 4, 5, 6] rfl) hP hD hS

set_option maxHeartbeats 4000000 in
set_option maxRecDepth 100000 in
theorem c_takePlain (l : Launch) (D : va_G) (cB cI : ClassId) (q qm qs qt : Nat) (fM fS T : Nat → Int32) (ws : List (List Nat)) (hR : Rep ws fS fM) (hc : ws.length < 150) (a b : Nat) (hab : a < b) (hb300 : b ≤ 300) (hs : ∀ j, a ≤ j → j < b → sg (T j) = true) : CtV (S := (Nat → Int32) × (Nat → Int32)) l y_W_takePlain b_W_takePlain 5 2 D cB cI [.ref q, .ref qt, .int (nI a), .int (nI b)] [(q, .inr (1, [.int (nI ws.length), .ref qm, .ref qs])), (qm, .inl (cB, 3600, .inl fM)), (qs, .inl (cI, 150, .inl fS)), (qt, .inl (cB, 300, .inl T))] (fun u => Rep (ws ++ [plainW (wf T a) (b - a)]) u.2 u.1) (fun u => [(q, .inr (1, [.int (nI (ws.length + 1)), .ref qm, .ref qs])), (qm, .inl (cB, 3600, .inl u.1)), (qs, .inl (cI, 150, .inl u.2)), (qt, .inl (cB, 300, .inl T))]) := by
  refine CtV.mk (own := R_W) (by decide) rfl (Nat.le_of_ble_eq_true rfl) ?_
  intro p e s m args below meth c A Q ls X hP hD hS hA hl hret
  have hx := X.1
  have hb := X.2.1
  have hl : lv_has ls 5 [(0, .ref q), (1, .ref qt), (2, .int (nI a)), (3, .int (nI b))] := hl
  have hlt : ∀ i, i < b - a → wf T a i < 128 := fun i hi => ch_lt (hs _ (by omega) (by omega))
  refine lv_aload_n hx hb d_W_takePlain_0 rfl (lv_at hl 0 rfl) ?_
  refine gf_W_15 X hP 0 rfl d_W_takePlain_1 ?_
  refine lv_aload_n hx hb d_W_takePlain_4 rfl (lv_at hl 0 rfl) ?_
  refine gf_W_23 X hP 0 rfl d_W_takePlain_5 ?_
  refine lv_bipush (v := (nI 24)) hx hb d_W_takePlain_8 kb_24 ?_
  refine lv_iload_n hx hb d_W_takePlain_10 rfl (lv_at hl 3 rfl) ?_
  refine lv_iload_n hx hb d_W_takePlain_11 rfl (lv_at hl 2 rfl) ?_
  refine n_isub X (by omega) d_W_takePlain_12 ?_
  refine n_min X tw1_86 hl.1 (by omega) (by omega) (Nat.le_of_ble_eq_true rfl) (Nat.le_of_ble_eq_true rfl) (Nat.zero_le _) (Nat.zero_le _) d_W_takePlain_13 ?_
  refine n_iast X hP hD hS 2 rfl (by omega) (by decide) d_W_takePlain_16 (fun H locs hP hD hS => ?_)
  have hP : va_P D cls [(q, .inr (1, [.int (nI ws.length), .ref qm, .ref qs])), (qm, .inl (cB, 3600, .inl fM)), (qs, .inl (cI, 150, .inl (upd fS ws.length (nI (min 24 (b - a)))))), (qt, .inl (cB, 300, .inl T))] H := hP
  have hD : va_D A [(q, .inr (1, [.int (nI ws.length), .ref qm, .ref qs])), (qm, .inl (cB, 3600, .inl fM)), (qs, .inl (cI, 150, .inl (upd fS ws.length (nI (min 24 (b - a)))))), (qt, .inl (cB, 300, .inl T))] := hD
  refine lv_iconst (v := (nI 0)) hx hb d_W_takePlain_17 ki_0 ?_
  refine lv_istore hx hb d_W_takePlain_18 hl (by decide) rfl (fun ls hl => ?_)
  have hl : lv_has ls 5 [(4, .int (nI 0)), (0, .ref q), (1, .ref qt), (2, .int (nI a)), (3, .int (nI b))] := hl
  have loop : ∀ (d9 : Nat) (i : Nat) (gM : Nat → Int32), min 24 (b - a) - i = d9 → (i ≤ min 24 (b - a)) → (∀ j, j < 24 * ws.length → gM j = fM j) → (∀ t, t < i → gM (24 * ws.length + t) = nI (wf T a t)) → ∀ (H : Heap) (locs : List Loc) (ls : Array Slot), lv_has ls 5 [(4, .int (nI i)), (0, .ref q), (1, .ref qt), (2, .int (nI a)), (3, .int (nI b))] → va_P D cls [(q, .inr (1, [.int (nI ws.length), .ref qm, .ref qs])), (qm, .inl (cB, 3600, .inl gM)), (qs, .inl (cI, 150, .inl (upd fS ws.length (nI (min 24 (b - a)))))), (qt, .inl (cB, 300, .inl T))] H → va_D A [(q, .inr (1, [.int (nI ws.length), .ref qm, .ref qs])), (qm, .inl (cB, 3600, .inl gM)), (qs, .inl (cI, 150, .inl (upd fS ws.length (nI (min 24 (b - a)))))), (qt, .inl (cB, 300, .inl T))] → va_S A s.heap H locs → W p l e (rmd 2) s m args below meth c H locs 0 0 Q (F0 m 20 ls []) := by
    intro d9
    induction d9 using Nat.strongRecOn with
    | _ d9 ih_loop =>
    intro i gM hd hi h1 h2 H locs ls hl hP hD hS
    refine lv_iload hx hb d_W_takePlain_20 (lv_at hl 0 rfl) ?_
    refine lv_aload_n hx hb d_W_takePlain_22 rfl (lv_at hl 1 rfl) ?_
    refine gf_W_15 X hP 0 rfl d_W_takePlain_23 ?_
    refine lv_aload_n hx hb d_W_takePlain_26 rfl (lv_at hl 1 rfl) ?_
    refine gf_W_23 X hP 0 rfl d_W_takePlain_27 ?_
    refine n_iald X hP 2 rfl (by omega) (by decide) d_W_takePlain_30 ?_
    refine W.top (y := (nI (min 24 (b - a)))) (upd_s) ?_
    refine n_icmp_ge X (by omega) (by omega) d_W_takePlain_31 rfl (fun h31 => ?_) (fun h31 => ?_)
    · refine lv_aload_n hx hb d_W_takePlain_65 rfl (lv_at hl 1 rfl) ?_
      refine lv_dup hx hb d_W_takePlain_66 rfl ?_
      refine gf_W_23 X hP 0 rfl d_W_takePlain_67 ?_
      refine lv_iconst (v := (nI 1)) hx hb d_W_takePlain_70 ki_1 ?_
      refine n_iadd X d_W_takePlain_71 ?_
      refine pf_W_23 X hP hD hS 0 rfl d_W_takePlain_72 (fun H locs hP hD hS => ?_)
      have hP : va_P D cls [(q, .inr (1, [.int (nI (ws.length + 1)), .ref qm, .ref qs])), (qm, .inl (cB, 3600, .inl gM)), (qs, .inl (cI, 150, .inl (upd fS ws.length (nI (min 24 (b - a)))))), (qt, .inl (cB, 300, .inl T))] H := hP
      have hD : va_D A [(q, .inr (1, [.int (nI (ws.length + 1)), .ref qm, .ref qs])), (qm, .inl (cB, 3600, .inl gM)), (qs, .inl (cI, 150, .inl (upd fS ws.length (nI (min 24 (b - a)))))), (qt, .inl (cB, 300, .inl T))] := hD
      exact hret (gM, upd fS ws.length (nI (min 24 (b - a)))) _ _ _ _ (Rep_put hR (by omega) (fun t ht => hlt t (by omega)) h1 (fun t ht => h2 t (by omega))) hP hD hS d_W_takePlain_75
    · have hsi : sg (T (a + i)) = true := hs _ (by omega) (by omega)
      refine lv_aload_n hx hb d_W_takePlain_34 rfl (lv_at hl 1 rfl) ?_
      refine gf_W_9 X hP 0 rfl d_W_takePlain_35 ?_
      refine lv_bipush (v := (nI 24)) hx hb d_W_takePlain_38 kb_24 ?_
      refine lv_aload_n hx hb d_W_takePlain_40 rfl (lv_at hl 1 rfl) ?_
      refine gf_W_23 X hP 0 rfl d_W_takePlain_41 ?_
      refine n_imul X d_W_takePlain_44 ?_
      refine lv_iload hx hb d_W_takePlain_45 (lv_at hl 0 rfl) ?_
      refine n_iadd X d_W_takePlain_47 ?_
      refine lv_aload_n hx hb d_W_takePlain_48 rfl (lv_at hl 2 rfl) ?_
      refine lv_iload_n hx hb d_W_takePlain_49 rfl (lv_at hl 3 rfl) ?_
      refine lv_iload hx hb d_W_takePlain_50 (lv_at hl 0 rfl) ?_
      refine n_iadd X d_W_takePlain_52 ?_
      refine n_bald X hP 3 rfl (by omega) (by decide) d_W_takePlain_53 ?_
      refine cP_N (rest := [.int (nI ((24 * ws.length) + i)), .ref qm]) X st_W_19 tw1_84 (c_small l D cB cI (T (a + i))) (rok (by decide)) hP [] rfl rfl hl.1 rfl (Nat.le_of_ble_eq_true rfl) d_W_takePlain_54 (fun r54 hr => ?_)
      subst hr
      refine W.top (y := (nI (ch (T (a + i))))) (sm_ch hsi) ?_
      have hq := ch_lt hsi
      refine lv_i2b hx hb d_W_takePlain_57 (v := (nI (ch (T (a + i))))) (n_byte (by omega)) ?_
      refine n_bast X hP hD hS 1 rfl (by omega) (by decide) (n_byte (by omega)) d_W_takePlain_58 (fun H locs hP hD hS => ?_)
      have hP : va_P D cls [(q, .inr (1, [.int (nI ws.length), .ref qm, .ref qs])), (qm, .inl (cB, 3600, .inl (upd gM ((24 * ws.length) + i) (nI (ch (T (a + i))))))), (qs, .inl (cI, 150, .inl (upd fS ws.length (nI (min 24 (b - a)))))), (qt, .inl (cB, 300, .inl T))] H := hP
      have hD : va_D A [(q, .inr (1, [.int (nI ws.length), .ref qm, .ref qs])), (qm, .inl (cB, 3600, .inl (upd gM ((24 * ws.length) + i) (nI (ch (T (a + i))))))), (qs, .inl (cI, 150, .inl (upd fS ws.length (nI (min 24 (b - a)))))), (qt, .inl (cB, 300, .inl T))] := hD
      refine lv_iinc hx hb d_W_takePlain_59 hl (k := 0) rfl (v := (nI (i + 1))) (n_inc _ 1) (by decide) rfl (fun ls hl => ?_)
      have hl : lv_has ls 5 [(4, .int (nI (i + 1))), (0, .ref q), (1, .ref qt), (2, .int (nI a)), (3, .int (nI b))] := hl
      refine lv_goto hx hb d_W_takePlain_62 rfl ?_
      obtain ⟨h3, h4⟩ := put_s (x := nI (ch (T (a + i)))) h1 h2 rfl
      exact ih_loop _ (by omega) (i + 1) (upd gM (24 * ws.length + i) (nI (ch (T (a + i))))) rfl (by omega) (h3) (h4) _ _ _ hl hP hD hS
  exact loop _ 0 fM rfl (Nat.zero_le _) (fun _ _ => rfl) (fun t h => absurd h (Nat.not_lt_zero _)) _ _ _ hl hP hD hS

set_option maxHeartbeats 4000000 in
set_option maxRecDepth 100000 in
theorem c_Wread (l : Launch) (D : va_G) (cB cI : ClassId) (q qm qs qt : Nat) (mv : Int32) (fM fS T : Nat → Int32) (n : Nat) (hn : n ≤ 300) : CtV (S := (Nat → Int32) × (Nat → Int32)) l y_W_read b_W_read 6 3 D cB cI [.ref q, .ref qt, .int (nI 0), .int (nI n)] [(q, .inr (1, [.int mv, .ref qm, .ref qs])), (qm, .inl (cB, 3600, .inl fM)), (qs, .inl (cI, 150, .inl fS)), (qt, .inl (cB, 300, .inl T))] (fun u => (RW T n 0).length ≤ 150 ∧ Rep (RW T n 0) u.2 u.1) (fun u => [(q, .inr (1, [.int (nI ((RW T n 0).length)), .ref qm, .ref qs])), (qm, .inl (cB, 3600, .inl u.1)), (qs, .inl (cI, 150, .inl u.2)), (qt, .inl (cB, 300, .inl T))]) := by
  refine CtV.mk (own := R_W) (by decide) rfl (Nat.le_of_ble_eq_true rfl) ?_
  intro p e s m args below meth c A Q ls X hP hD hS hA hl hret
  have hx := X.1
  have hb := X.2.1
  have hl : lv_has ls 6 [(0, .ref q), (1, .ref qt), (2, .int (nI 0)), (3, .int (nI n))] := hl
  refine lv_aload_n hx hb d_W_read_0 rfl (lv_at hl 0 rfl) ?_
  refine lv_iconst (v := (nI 0)) hx hb d_W_read_1 ki_0 ?_
  refine pf_W_23 X hP hD hS 0 rfl d_W_read_2 (fun H locs hP hD hS => ?_)
  have hP : va_P D cls [(q, .inr (1, [.int (nI 0), .ref qm, .ref qs])), (qm, .inl (cB, 3600, .inl fM)), (qs, .inl (cI, 150, .inl fS)), (qt, .inl (cB, 300, .inl T))] H := hP
  have hD : va_D A [(q, .inr (1, [.int (nI 0), .ref qm, .ref qs])), (qm, .inl (cB, 3600, .inl fM)), (qs, .inl (cI, 150, .inl fS)), (qt, .inl (cB, 300, .inl T))] := hD
  refine lv_iload_n hx hb d_W_read_5 rfl (lv_at hl 2 rfl) ?_
  refine lv_istore hx hb d_W_read_6 hl (by decide) rfl (fun ls hl => ?_)
  have hl : lv_has ls 6 [(4, .int (nI 0)), (0, .ref q), (1, .ref qt), (2, .int (nI 0)), (3, .int (nI n))] := hl
  have loop : ∀ (d9 : Nat) (p0 : Nat) (ws : List (List Nat)) (fM : Nat → Int32) (fS : Nat → Int32), n + 1 - p0 = d9 → (p0 ≤ n + 1) → (2 * ws.length ≤ p0) → (Rep ws fS fM) → (ws ++ RW T n p0 = RW T n 0) → (p0 = 0 ∨ n < p0 ∨ sg (T (p0 - 1)) = false) → ∀ (H : Heap) (locs : List Loc) (ls : Array Slot), lv_has ls 6 [(4, .int (nI p0)), (0, .ref q), (1, .ref qt), (2, .int (nI 0)), (3, .int (nI n))] → va_P D cls [(q, .inr (1, [.int (nI ws.length), .ref qm, .ref qs])), (qm, .inl (cB, 3600, .inl fM)), (qs, .inl (cI, 150, .inl fS)), (qt, .inl (cB, 300, .inl T))] H → va_D A [(q, .inr (1, [.int (nI ws.length), .ref qm, .ref qs])), (qm, .inl (cB, 3600, .inl fM)), (qs, .inl (cI, 150, .inl fS)), (qt, .inl (cB, 300, .inl T))] → va_S A s.heap H locs → W p l e (rmd 3) s m args below meth c H locs 0 0 Q (F0 m 8 ls []) := by
    intro d9
    induction d9 using Nat.strongRecOn with
    | _ d9 ih_loop =>
    intro p0 ws fM fS hd hp h2 hR hw hz H locs ls hl hP hD hS
    refine lv_iload hx hb d_W_read_8 (lv_at hl 0 rfl) ?_
    refine lv_iload_n hx hb d_W_read_10 rfl (lv_at hl 4 rfl) ?_
    refine n_icmp_ge X (by omega) (by omega) d_W_read_11 rfl (fun h11 => ?_) (fun h11 => ?_)
    · rw [RW_end h11, List.append_nil] at hw
      subst hw
      exact hret (fM, fS) _ _ _ _ (⟨by omega, hR⟩) hP hD hS d_W_read_65
    · refine lv_iload hx hb d_W_read_14 (lv_at hl 0 rfl) ?_
      refine lv_istore hx hb d_W_read_16 hl (by decide) rfl (fun ls hl => ?_)
      have hl : lv_has ls 6 [(5, .int (nI p0)), (4, .int (nI p0)), (0, .ref q), (1, .ref qt), (2, .int (nI 0)), (3, .int (nI n))] := hl
      have J40 : ∀ (k : Nat), (p0 ≤ k) → (k ≤ n) → (∀ j, p0 ≤ j → j < k → sg (T j) = true) → (k = n ∨ sg (T k) = false) → ∀ (H : Heap) (locs : List Loc) (ls : Array Slot), lv_has ls 6 [(5, .int (nI k)), (4, .int (nI p0)), (0, .ref q), (1, .ref qt), (2, .int (nI 0)), (3, .int (nI n))] → va_P D cls [(q, .inr (1, [.int (nI ws.length), .ref qm, .ref qs])), (qm, .inl (cB, 3600, .inl fM)), (qs, .inl (cI, 150, .inl fS)), (qt, .inl (cB, 300, .inl T))] H → va_D A [(q, .inr (1, [.int (nI ws.length), .ref qm, .ref qs])), (qm, .inl (cB, 3600, .inl fM)), (qs, .inl (cI, 150, .inl fS)), (qt, .inl (cB, 300, .inl T))] → va_S A s.heap H locs → W p l e (rmd 3) s m args below meth c H locs 0 0 Q (F0 m 40 ls []) := by
        intro k hk1 hk2 hs he H locs ls hl hP hD hS
        refine lv_iload hx hb d_W_read_40 (lv_at hl 0 rfl) ?_
        refine lv_iload hx hb d_W_read_42 (lv_at hl 1 rfl) ?_
        refine n_icmp_le X (by omega) (by omega) d_W_read_44 rfl (fun h44 => ?_) (fun h44 => ?_)
        · have hkp : k = p0 := by omega
          subst hkp
          refine lv_iload hx hb d_W_read_56 (lv_at hl 0 rfl) ?_
          refine lv_iconst (v := (nI 1)) hx hb d_W_read_58 ki_1 ?_
          refine n_iadd X d_W_read_59 ?_
          refine lv_istore hx hb d_W_read_60 hl (by decide) rfl (fun ls hl => ?_)
          have hl : lv_has ls 6 [(4, .int (nI (k + 1))), (5, .int (nI k)), (0, .ref q), (1, .ref qt), (2, .int (nI 0)), (3, .int (nI n))] := hl
          refine lv_goto hx hb d_W_read_62 rfl ?_
          exact ih_loop _ (by omega) (k + 1) ws fM fS rfl (by omega) (by omega) (hR) (by rw [← hw]; congr 1; exact (RW_next (he.imp (fun e => by omega) id)).symm) (he.elim (fun q => Or.inr (Or.inl (by omega))) (fun q => Or.inr (Or.inr q))) _ _ _ (lv_sub hl [0, 2, 3, 4, 5] rfl) hP hD hS
        · refine lv_aload_n hx hb d_W_read_47 rfl (lv_at hl 2 rfl) ?_
          refine lv_aload_n hx hb d_W_read_48 rfl (lv_at hl 3 rfl) ?_
          refine lv_iload hx hb d_W_read_49 (lv_at hl 1 rfl) ?_
          refine lv_iload hx hb d_W_read_51 (lv_at hl 0 rfl) ?_
          refine cV_V (rest := []) (wr := []) X st_W_37 tw1_80 tw1_81 (c_take l D cB cI q qm qs qt fM fS T ws hR (by omega) p0 k h44 (by omega) hs) (rok (by decide)) hP hD hS hA 0 rfl rfl [0, 1, 2, 3] [] rfl rfl (by decide) (by decide) (by decide) rfl hl.1 rfl (Nat.le_of_ble_eq_true rfl) d_W_read_53 (fun u9 H locs hr hP hD hS => ?_)
          obtain ⟨gM, gS⟩ := u9
          have hP : va_P D cls [(q, .inr (1, [.int (nI (ws.length + 1)), .ref qm, .ref qs])), (qm, .inl (cB, 3600, .inl gM)), (qs, .inl (cI, 150, .inl gS)), (qt, .inl (cB, 300, .inl T))] H := hP
          have hD : va_D A [(q, .inr (1, [.int (nI (ws.length + 1)), .ref qm, .ref qs])), (qm, .inl (cB, 3600, .inl gM)), (qs, .inl (cI, 150, .inl gS)), (qt, .inl (cB, 300, .inl T))] := hD
          have hlen : (ws ++ [stem (wf T p0) (k - p0)]).length = ws.length + 1 := by simp
          rw [← hlen] at hP hD
          refine lv_iload hx hb d_W_read_56 (lv_at hl 0 rfl) ?_
          refine lv_iconst (v := (nI 1)) hx hb d_W_read_58 ki_1 ?_
          refine n_iadd X d_W_read_59 ?_
          refine lv_istore hx hb d_W_read_60 hl (by decide) rfl (fun ls hl => ?_)
          have hl : lv_has ls 6 [(4, .int (nI (k + 1))), (5, .int (nI k)), (0, .ref q), (1, .ref qt), (2, .int (nI 0)), (3, .int (nI n))] := hl
          refine lv_goto hx hb d_W_read_62 rfl ?_
          exact ih_loop _ (by omega) (k + 1) (ws ++ [stem (wf T p0) (k - p0)]) gM gS rfl (by omega) (by omega) (hr) (by rw [← hw, RW_word h44 hk2 hs he (hz.imp id (fun q => q.elim (fun q => by omega) id)), ← RW_next (he.imp (fun e => by omega) id)]; simp) (he.elim (fun q => Or.inr (Or.inl (by omega))) (fun q => Or.inr (Or.inr q))) _ _ _ (lv_sub hl [0, 2, 3, 4, 5] rfl) hP hD hS
      have inner : ∀ (d9 : Nat) (k : Nat), n - k = d9 → (p0 ≤ k) → (k ≤ n) → (∀ j, p0 ≤ j → j < k → sg (T j) = true) → ∀ (H : Heap) (locs : List Loc) (ls : Array Slot), lv_has ls 6 [(5, .int (nI k)), (4, .int (nI p0)), (0, .ref q), (1, .ref qt), (2, .int (nI 0)), (3, .int (nI n))] → va_P D cls [(q, .inr (1, [.int (nI ws.length), .ref qm, .ref qs])), (qm, .inl (cB, 3600, .inl fM)), (qs, .inl (cI, 150, .inl fS)), (qt, .inl (cB, 300, .inl T))] H → va_D A [(q, .inr (1, [.int (nI ws.length), .ref qm, .ref qs])), (qm, .inl (cB, 3600, .inl fM)), (qs, .inl (cI, 150, .inl fS)), (qt, .inl (cB, 300, .inl T))] → va_S A s.heap H locs → W p l e (rmd 3) s m args below meth c H locs 0 0 Q (F0 m 18 ls []) := by
        intro d9
        induction d9 using Nat.strongRecOn with
        | _ d9 ih_inner =>
        intro k hd hk1 hk2 hs H locs ls hl hP hD hS
        refine lv_iload hx hb d_W_read_18 (lv_at hl 0 rfl) ?_
        refine lv_iload_n hx hb d_W_read_20 rfl (lv_at hl 5 rfl) ?_
        refine n_icmp_ge X (by omega) (by omega) d_W_read_21 rfl (fun h21 => ?_) (fun h21 => ?_)
        · exact J40 k (hk1) (hk2) (hs) (Or.inl (by omega)) _ _ _ hl hP hD hS
        · refine lv_aload_n hx hb d_W_read_24 rfl (lv_at hl 3 rfl) ?_
          refine lv_iload hx hb d_W_read_25 (lv_at hl 0 rfl) ?_
          refine n_bald X hP 3 rfl (by omega) (by decide) d_W_read_27 ?_
          refine cP_N (rest := []) X st_W_33 tw1_77 (c_isSign l D cB cI (T k)) (rok (by decide)) hP [] rfl rfl hl.1 rfl (Nat.le_of_ble_eq_true rfl) d_W_read_28 (fun r28 hr => ?_)
          rcases hr with ⟨rfl, he⟩ | ⟨rfl, he⟩
          · refine n_if_eq X (by omega) d_W_read_31 rfl (fun h31 => ?_) (fun h31 => ?_)
            · exact False.elim (by omega)
            · refine lv_iinc hx hb d_W_read_34 hl (k := 0) rfl (v := (nI (k + 1))) (n_inc _ 1) (by decide) rfl (fun ls hl => ?_)
              have hl : lv_has ls 6 [(5, .int (nI (k + 1))), (4, .int (nI p0)), (0, .ref q), (1, .ref qt), (2, .int (nI 0)), (3, .int (nI n))] := hl
              refine lv_goto hx hb d_W_read_37 rfl ?_
              exact ih_inner _ (by omega) (k + 1) rfl (by omega) (by omega) (fun j a b => (Nat.lt_or_ge j k).elim (hs j a) (fun h9 => by rw [show j = k by omega]; exact he)) _ _ _ hl hP hD hS
          · refine n_if_eq X (by omega) d_W_read_31 rfl (fun h31 => ?_) (fun h31 => ?_)
            · exact J40 k (hk1) (hk2) (hs) (Or.inr he) _ _ _ hl hP hD hS
            · exact False.elim (by omega)
      exact inner _ p0 rfl (Nat.le_refl _) (by omega) (fun j a b => absurd a (by omega)) _ _ _ hl hP hD hS
  exact loop _ 0 ([]) fM fS rfl (Nat.zero_le _) (Nat.zero_le _) (Rep_nil _ _) (rfl) (Or.inl rfl) _ _ _ hl hP hD hS
end
section
-- more of the plain law
def lw (x w : List Nat) (i j : Nat) : Nat := lev (fun t => x.getD t 0) (fun t => w.getD t 0) i j
theorem lw_0 (x w : List Nat) (j : Nat) : lw x w 0 j = j := rfl
theorem lw_i0 (x w : List Nat) (i : Nat) : lw x w i 0 = i := lev_i0 _ _ i
theorem lw_s (x w : List Nat) (i j : Nat) : lw x w (i + 1) (j + 1) = min (lw x w i j + (if x.getD i 0 = w.getD j 0 then 0 else 1)) (1 + min (lw x w i (j + 1)) (lw x w (i + 1) j)) := rfl
theorem lw_le (x w : List Nat) (i j : Nat) : lw x w i j ≤ max i j := lev_le _ _ i j
theorem levW_lw (x w : List Nat) : levW x w = lw x w x.length w.length := rfl
theorem lev_put {gn : Nat → Int32} {x w : List Nat} {i j s : Nat} (hg : ∀ t, t ≤ j → gn t = nI (lw x w (i + 1) t)) (hs : s = if x.getD i 0 = w.getD j 0 then 0 else 1) : ∀ t, t ≤ j + 1 → upd gn (j + 1) (nI (min (lw x w i j + s) (1 + min (lw x w i (j + 1)) (lw x w (i + 1) j)))) t = nI (lw x w (i + 1) t) := by
  intro t ht
  rcases Nat.lt_or_ge t (j + 1) with h | h
  · rw [upd_n (by omega)]; exact hg t (by omega)
  · rw [show t = j + 1 by omega, upd_s, hs, lw_s]
theorem row_put {g : Nat → Int32} {j : Nat} (hg : ∀ t, t < j → g t = nI t) : ∀ t, t < j + 1 → upd g j (nI j) t = nI t := by
  intro t ht
  rcases Nat.lt_or_ge t j with h | h
  · rw [upd_n (by omega)]; exact hg t h
  · rw [show t = j by omega, upd_s]
theorem nst_keep {ws : List (List Nat)} {w : List Nat} {k : Nat} (h : (nst ws w k).1 ≤ levW (wd ws k) w) : nst ws w (k + 1) = nst ws w k := by
  show (if (nst ws w k).1 ≤ levW (wd ws k) w then nst ws w k else (levW (wd ws k) w, nI k)) = _
  rw [if_pos h]
theorem nst_take {ws : List (List Nat)} {w : List Nat} {k : Nat} (h : levW (wd ws k) w < (nst ws w k).1) : nst ws w (k + 1) = (levW (wd ws k) w, nI k) := by
  show (if (nst ws w k).1 ≤ levW (wd ws k) w then nst ws w k else (levW (wd ws k) w, nI k)) = _
  rw [if_neg (by omega)]
theorem nst_le (ws : List (List Nat)) (w : List Nat) : ∀ k, (nst ws w k).1 ≤ 25
  | 0 => Nat.le_refl _
  | k + 1 => by
    have ih := nst_le ws w k
    by_cases h : (nst ws w k).1 ≤ levW (wd ws k) w
    · rw [nst_keep h]; exact ih
    · rw [nst_take (by omega)]; show levW (wd ws k) w ≤ 25; omega
theorem stem_le (f : Nat → Nat) (n : Nat) : (stem f n).length ≤ 24 := by rw [stem_len]; omega
theorem Rep_one {w : List Nat} {fS fM : Nat → Int32} (h : Rep [w] fS fM) : fS 0 = nI w.length ∧ ∀ i, i < w.length → fM i = nI (w.getD i 0) ∧ w.getD i 0 < 128 := by
  obtain ⟨h1, _, h3⟩ := h 0 (by simp)
  refine ⟨h1, fun i hi => ?_⟩
  have h4 := h3 i hi
  rw [show 24 * 0 + i = i by omega] at h4
  exact h4
-- methods that change cells: the class, second part (gen/tmut2.py)
set_option maxHeartbeats 4000000 in
set_option maxRecDepth 100000 in
theorem c_Tread (l : Launch) (D : va_G) (cB cI : ClassId) (h qt q qw qb qn : Nat) (qm qs n : Nat) (mv : Int32) (fM fS T : Nat → Int32) (hn : n ≤ 300) : CtI (S := (Nat → Int32) × (Nat → Int32)) l y_T_read b_T_read 1 (some .int) 4 D cB cI [.ref h] [(h, .inr (0, [.ref qt, .int (nI n), .ref q, .ref qw, .ref qb, .ref qn])), (q, .inr (1, [.int mv, .ref qm, .ref qs])), (qm, .inl (cB, 3600, .inl fM)), (qs, .inl (cI, 150, .inl fS)), (qt, .inl (cB, 300, .inl T))] (fun r u => (RW T n 0).length ≤ 150 ∧ Rep (RW T n 0) u.2 u.1 ∧ r = nI (RW T n 0).length) (fun u => [(h, .inr (0, [.ref qt, .int (nI 0), .ref q, .ref qw, .ref qb, .ref qn])), (q, .inr (1, [.int (nI ((RW T n 0).length)), .ref qm, .ref qs])), (qm, .inl (cB, 3600, .inl u.1)), (qs, .inl (cI, 150, .inl u.2)), (qt, .inl (cB, 300, .inl T))]) := by
  refine CtI.mk (own := R_T) (by decide) rfl (Nat.le_of_ble_eq_true rfl) ?_
  intro p e s m args below meth c A Q ls X hP hD hS hA hl hret
  have hx := X.1
  have hb := X.2.1
  have hl : lv_has ls 1 [(0, .ref h)] := hl
  refine lv_aload_n hx hb d_T_read_0 rfl (lv_at hl 0 rfl) ?_
  refine gf_T_16 X hP 0 rfl d_T_read_1 ?_
  refine lv_aload_n hx hb d_T_read_4 rfl (lv_at hl 0 rfl) ?_
  refine gf_T_9 X hP 0 rfl d_T_read_5 ?_
  refine lv_iconst (v := (nI 0)) hx hb d_T_read_8 ki_0 ?_
  refine lv_aload_n hx hb d_T_read_9 rfl (lv_at hl 0 rfl) ?_
  refine gf_T_30 X hP 0 rfl d_T_read_10 ?_
  refine cV_V (rest := []) (wr := [(h, .inr (0, [.ref qt, .int (nI n), .ref q, .ref qw, .ref qb, .ref qn]))]) X st_T_42 tw1_73 tw1_74 (c_Wread l D cB cI q qm qs qt mv fM fS T n hn) (rok (by decide)) hP hD hS hA 1 rfl rfl [1, 2, 3, 4] [0] rfl rfl (by decide) (by decide) (by decide) rfl hl.1 rfl (Nat.le_of_ble_eq_true rfl) d_T_read_13 (fun u9 H locs hr hP hD hS => ?_)
  obtain ⟨gM, gS⟩ := u9
  have hP : va_P D cls [(h, .inr (0, [.ref qt, .int (nI n), .ref q, .ref qw, .ref qb, .ref qn])), (q, .inr (1, [.int (nI ((RW T n 0).length)), .ref qm, .ref qs])), (qm, .inl (cB, 3600, .inl gM)), (qs, .inl (cI, 150, .inl gS)), (qt, .inl (cB, 300, .inl T))] H := hP
  have hD : va_D A [(h, .inr (0, [.ref qt, .int (nI n), .ref q, .ref qw, .ref qb, .ref qn])), (q, .inr (1, [.int (nI ((RW T n 0).length)), .ref qm, .ref qs])), (qm, .inl (cB, 3600, .inl gM)), (qs, .inl (cI, 150, .inl gS)), (qt, .inl (cB, 300, .inl T))] := hD
  refine lv_aload_n hx hb d_T_read_16 rfl (lv_at hl 0 rfl) ?_
  refine lv_iconst (v := (nI 0)) hx hb d_T_read_17 ki_0 ?_
  refine pf_T_30 X hP hD hS 0 rfl d_T_read_18 (fun H locs hP hD hS => ?_)
  have hP : va_P D cls [(h, .inr (0, [.ref qt, .int (nI 0), .ref q, .ref qw, .ref qb, .ref qn])), (q, .inr (1, [.int (nI ((RW T n 0).length)), .ref qm, .ref qs])), (qm, .inl (cB, 3600, .inl gM)), (qs, .inl (cI, 150, .inl gS)), (qt, .inl (cB, 300, .inl T))] H := hP
  have hD : va_D A [(h, .inr (0, [.ref qt, .int (nI 0), .ref q, .ref qw, .ref qb, .ref qn])), (q, .inr (1, [.int (nI ((RW T n 0).length)), .ref qm, .ref qs])), (qm, .inl (cB, 3600, .inl gM)), (qs, .inl (cI, 150, .inl gS)), (qt, .inl (cB, 300, .inl T))] := hD
  refine lv_aload_n hx hb d_T_read_21 rfl (lv_at hl 0 rfl) ?_
  refine gf_T_16 X hP 0 rfl d_T_read_22 ?_
  refine gf_T_45 X hP 1 rfl d_T_read_25 ?_
  exact hret _ (gM, gS) _ _ _ _ (⟨hr.1, hr.2, rfl⟩) rfl hP hD hS d_T_read_28

set_option maxHeartbeats 4000000 in
set_option maxRecDepth 100000 in
theorem c_readWord (l : Launch) (D : va_G) (cB cI : ClassId) (h qt q qw qb qn : Nat) (vm vs n : Nat) (wm : Int32) (wM wS T : Nat → Int32) (hn : n ≤ 300) : CtI (S := Int32 × (Nat → Int32) × (Nat → Int32)) l y_T_readWord b_T_readWord 3 (some .boolean) 4 D cB cI [.ref h] [(h, .inr (0, [.ref qt, .int (nI n), .ref q, .ref qw, .ref qb, .ref qn])), (qw, .inr (1, [.int wm, .ref vm, .ref vs])), (vm, .inl (cB, 3600, .inl wM)), (vs, .inl (cI, 150, .inl wS)), (qt, .inl (cB, 300, .inl T))] (fun r u => (r = nI 1 ∧ aw T n = true ∧ Rep [stem (wf T 0) n] u.2.2 u.2.1) ∨ (r = nI 0 ∧ aw T n = false)) (fun u => [(h, .inr (0, [.ref qt, .int (nI 0), .ref q, .ref qw, .ref qb, .ref qn])), (qw, .inr (1, [.int u.1, .ref vm, .ref vs])), (vm, .inl (cB, 3600, .inl u.2.1)), (vs, .inl (cI, 150, .inl u.2.2)), (qt, .inl (cB, 300, .inl T))]) := by
  refine CtI.mk (own := R_T) (by decide) rfl (Nat.le_of_ble_eq_true rfl) ?_
  intro p e s m args below meth c A Q ls X hP hD hS hA hl hret
  have hx := X.1
  have hb := X.2.1
  have hl : lv_has ls 3 [(0, .ref h)] := hl
  refine lv_aload_n hx hb d_T_readWord_0 rfl (lv_at hl 0 rfl) ?_
  refine gf_T_30 X hP 0 rfl d_T_readWord_1 ?_
  refine lv_istore_n hx hb d_T_readWord_4 rfl hl (by decide) rfl (fun ls hl => ?_)
  have hl : lv_has ls 3 [(1, .int (nI n)), (0, .ref h)] := hl
  refine lv_aload_n hx hb d_T_readWord_5 rfl (lv_at hl 1 rfl) ?_
  refine lv_iconst (v := (nI 0)) hx hb d_T_readWord_6 ki_0 ?_
  refine pf_T_30 X hP hD hS 0 rfl d_T_readWord_7 (fun H locs hP hD hS => ?_)
  have hP : va_P D cls [(h, .inr (0, [.ref qt, .int (nI 0), .ref q, .ref qw, .ref qb, .ref qn])), (qw, .inr (1, [.int wm, .ref vm, .ref vs])), (vm, .inl (cB, 3600, .inl wM)), (vs, .inl (cI, 150, .inl wS)), (qt, .inl (cB, 300, .inl T))] H := hP
  have hD : va_D A [(h, .inr (0, [.ref qt, .int (nI 0), .ref q, .ref qw, .ref qb, .ref qn])), (qw, .inr (1, [.int wm, .ref vm, .ref vs])), (vm, .inl (cB, 3600, .inl wM)), (vs, .inl (cI, 150, .inl wS)), (qt, .inl (cB, 300, .inl T))] := hD
  refine lv_iconst (v := (nI 0)) hx hb d_T_readWord_10 ki_0 ?_
  refine lv_istore_n hx hb d_T_readWord_11 rfl hl (by decide) rfl (fun ls hl => ?_)
  have hl : lv_has ls 3 [(2, .int (nI 0)), (1, .int (nI n)), (0, .ref h)] := hl
  have loop : ∀ (d9 : Nat) (k : Nat), n - k = d9 → (k ≤ n) → (∀ j, j < k → sg (T j) = true) → ∀ (H : Heap) (locs : List Loc) (ls : Array Slot), lv_has ls 3 [(2, .int (nI k)), (1, .int (nI n)), (0, .ref h)] → va_P D cls [(h, .inr (0, [.ref qt, .int (nI 0), .ref q, .ref qw, .ref qb, .ref qn])), (qw, .inr (1, [.int wm, .ref vm, .ref vs])), (vm, .inl (cB, 3600, .inl wM)), (vs, .inl (cI, 150, .inl wS)), (qt, .inl (cB, 300, .inl T))] H → va_D A [(h, .inr (0, [.ref qt, .int (nI 0), .ref q, .ref qw, .ref qb, .ref qn])), (qw, .inr (1, [.int wm, .ref vm, .ref vs])), (vm, .inl (cB, 3600, .inl wM)), (vs, .inl (cI, 150, .inl wS)), (qt, .inl (cB, 300, .inl T))] → va_S A s.heap H locs → W p l e (rmd 4) s m args below meth c H locs 0 0 Q (F0 m 12 ls []) := by
    intro d9
    induction d9 using Nat.strongRecOn with
    | _ d9 ih_loop =>
    intro k hd hk hs H locs ls hl hP hD hS
    refine lv_iload_n hx hb d_T_readWord_12 rfl (lv_at hl 0 rfl) ?_
    refine lv_iload_n hx hb d_T_readWord_13 rfl (lv_at hl 1 rfl) ?_
    refine n_icmp_ge X (by omega) (by omega) d_T_readWord_14 rfl (fun h14 => ?_) (fun h14 => ?_)
    · refine lv_aload_n hx hb d_T_readWord_37 rfl (lv_at hl 2 rfl) ?_
      refine gf_T_20 X hP 0 rfl d_T_readWord_38 ?_
      refine lv_aload_n hx hb d_T_readWord_41 rfl (lv_at hl 2 rfl) ?_
      refine gf_T_9 X hP 0 rfl d_T_readWord_42 ?_
      refine lv_iconst (v := (nI 0)) hx hb d_T_readWord_45 ki_0 ?_
      refine lv_iload_n hx hb d_T_readWord_46 rfl (lv_at hl 1 rfl) ?_
      refine cV_V (rest := []) (wr := [(h, .inr (0, [.ref qt, .int (nI 0), .ref q, .ref qw, .ref qb, .ref qn]))]) X st_T_42 tw1_73 tw1_74 (c_Wread l D cB cI qw vm vs qt wm wM wS T n hn) (rok (by decide)) hP hD hS hA 1 rfl rfl [1, 2, 3, 4] [0] rfl rfl (by decide) (by decide) (by decide) rfl hl.1 rfl (Nat.le_of_ble_eq_true rfl) d_T_readWord_47 (fun u9 H locs hr hP hD hS => ?_)
      obtain ⟨gM, gS⟩ := u9
      have hP : va_P D cls [(h, .inr (0, [.ref qt, .int (nI 0), .ref q, .ref qw, .ref qb, .ref qn])), (qw, .inr (1, [.int (nI ((RW T n 0).length)), .ref vm, .ref vs])), (vm, .inl (cB, 3600, .inl gM)), (vs, .inl (cI, 150, .inl gS)), (qt, .inl (cB, 300, .inl T))] H := hP
      have hD : va_D A [(h, .inr (0, [.ref qt, .int (nI 0), .ref q, .ref qw, .ref qb, .ref qn])), (qw, .inr (1, [.int (nI ((RW T n 0).length)), .ref vm, .ref vs])), (vm, .inl (cB, 3600, .inl gM)), (vs, .inl (cI, 150, .inl gS)), (qt, .inl (cB, 300, .inl T))] := hD
      refine lv_iload_n hx hb d_T_readWord_50 rfl (lv_at hl 1 rfl) ?_
      refine n_if_le X (by omega) d_T_readWord_51 rfl (fun h51 => ?_) (fun h51 => ?_)
      · have hn0 : n = 0 := by omega
        subst hn0
        refine lv_iconst (v := (nI 0)) hx hb d_T_readWord_58 ki_0 ?_
        exact hret _ (nI (RW T 0 0).length, gM, gS) _ _ _ _ (Or.inr ⟨rfl, aw_0⟩) rfl hP hD hS d_T_readWord_59
      · have haw : aw T n = true := aw_t h51 (fun j hj => hs j (by omega))
        refine lv_iconst (v := (nI 1)) hx hb d_T_readWord_54 ki_1 ?_
        refine lv_goto hx hb d_T_readWord_55 rfl ?_
        exact hret _ (nI (RW T n 0).length, gM, gS) _ _ _ _ (Or.inl ⟨rfl, haw, by rw [← RW_one haw]; exact hr.2⟩) rfl hP hD hS d_T_readWord_59
    · refine lv_aload_n hx hb d_T_readWord_17 rfl (lv_at hl 2 rfl) ?_
      refine gf_T_9 X hP 0 rfl d_T_readWord_18 ?_
      refine lv_iload_n hx hb d_T_readWord_21 rfl (lv_at hl 0 rfl) ?_
      refine n_bald X hP 4 rfl (by omega) (by decide) d_T_readWord_22 ?_
      refine cP_S (rest := []) X st_T_72 tw1_77 (c_isSign l D cB cI (T k)) (rok (by decide)) hP [] rfl rfl hl.1 rfl (Nat.le_of_ble_eq_true rfl) d_T_readWord_23 (fun r23 hr => ?_)
      rcases hr with ⟨rfl, he⟩ | ⟨rfl, he⟩
      · refine n_if_ne X (by omega) d_T_readWord_26 rfl (fun h26 => ?_) (fun h26 => ?_)
        · refine lv_iinc hx hb d_T_readWord_31 hl (k := 0) rfl (v := (nI (k + 1))) (n_inc _ 1) (by decide) rfl (fun ls hl => ?_)
          have hl : lv_has ls 3 [(2, .int (nI (k + 1))), (1, .int (nI n)), (0, .ref h)] := hl
          refine lv_goto hx hb d_T_readWord_34 rfl ?_
          exact ih_loop _ (by omega) (k + 1) rfl (by omega) (fun j b => (Nat.lt_or_ge j k).elim (hs j) (fun h9 => by rw [show j = k by omega]; exact he)) _ _ _ hl hP hD hS
        · exact False.elim (by omega)
      · refine n_if_ne X (by omega) d_T_readWord_26 rfl (fun h26 => ?_) (fun h26 => ?_)
        · exact False.elim (by omega)
        · refine lv_iconst (v := (nI 0)) hx hb d_T_readWord_29 ki_0 ?_
          exact hret _ (wm, wM, wS) _ _ _ _ (Or.inr ⟨rfl, aw_f h14 he⟩) rfl hP hD hS d_T_readWord_30
  exact loop _ 0 rfl (Nat.zero_le _) (fun t h => absurd h (Nat.not_lt_zero _)) _ _ _ hl hP hD hS

set_option maxHeartbeats 4000000 in
set_option maxRecDepth 100000 in
theorem c_Tdistance (l : Launch) (D : va_G) (cB cI : ClassId) (h qt q qw qb qn : Nat) (vm vs qm : Nat) (tn wm : Int32) (wM wS fM fb fn : Nat → Int32) (x w9 : List Nat) (at9 : Nat) (hx9 : ∀ i, i < x.length → fM (at9 + i) = nI (x.getD i 0) ∧ x.getD i 0 < 128) (hxa : at9 + x.length ≤ 3600) (hx4 : x.length ≤ 24) (hw4 : w9.length ≤ 24) (hvs : wS 0 = nI w9.length) (hvm : ∀ i, i < w9.length → wM i = nI (w9.getD i 0) ∧ w9.getD i 0 < 128) : CtI (S := Nat × Nat × (Nat → Int32) × (Nat → Int32)) l y_T_distance b_T_distance 8 (some .int) 1 D cB cI [.ref h, .ref qm, .int (nI at9), .int (nI x.length)] [(h, .inr (0, [.ref qt, .int tn, .ref q, .ref qw, .ref qb, .ref qn])), (qw, .inr (1, [.int wm, .ref vm, .ref vs])), (vm, .inl (cB, 3600, .inl wM)), (vs, .inl (cI, 150, .inl wS)), (qb, .inl (cI, 25, .inl fb)), (qn, .inl (cI, 25, .inl fn)), (qm, .inl (cB, 3600, .inl fM))] (fun r u => r = nI (levW x w9)) (fun u => [(h, .inr (0, [.ref qt, .int tn, .ref q, .ref qw, .ref u.1, .ref u.2.1])), (qw, .inr (1, [.int wm, .ref vm, .ref vs])), (vm, .inl (cB, 3600, .inl wM)), (vs, .inl (cI, 150, .inl wS)), (u.1, .inl (cI, 25, .inl u.2.2.1)), (u.2.1, .inl (cI, 25, .inl u.2.2.2)), (qm, .inl (cB, 3600, .inl fM))]) := by
  refine CtI.mk (own := R_T) (by decide) rfl (Nat.le_of_ble_eq_true rfl) ?_
  intro p e s m args below meth c A Q ls X hP hD hS hA hl hret
  have hx := X.1
  have hb := X.2.1
  have hl : lv_has ls 8 [(0, .ref h), (1, .ref qm), (2, .int (nI at9)), (3, .int (nI x.length))] := hl
  refine lv_aload_n hx hb d_T_distance_0 rfl (lv_at hl 0 rfl) ?_
  refine gf_T_20 X hP 0 rfl d_T_distance_1 ?_
  refine gf_T_48 X hP 1 rfl d_T_distance_4 ?_
  refine lv_iconst (v := (nI 0)) hx hb d_T_distance_7 ki_0 ?_
  refine n_iald X hP 3 rfl (by omega) (by decide) d_T_distance_8 ?_
  refine W.top (y := (nI w9.length)) (hvs) ?_
  refine lv_istore hx hb d_T_distance_9 hl (by decide) rfl (fun ls hl => ?_)
  have hl : lv_has ls 8 [(4, .int (nI w9.length)), (0, .ref h), (1, .ref qm), (2, .int (nI at9)), (3, .int (nI x.length))] := hl
  refine lv_iconst (v := (nI 0)) hx hb d_T_distance_11 ki_0 ?_
  refine lv_istore hx hb d_T_distance_12 hl (by decide) rfl (fun ls hl => ?_)
  have hl : lv_has ls 8 [(5, .int (nI 0)), (4, .int (nI w9.length)), (0, .ref h), (1, .ref qm), (2, .int (nI at9)), (3, .int (nI x.length))] := hl
  have la : ∀ (d9 : Nat) (j : Nat) (fb : Nat → Int32), w9.length + 1 - j = d9 → (j ≤ w9.length + 1) → (∀ t, t < j → fb t = nI t) → ∀ (H : Heap) (locs : List Loc) (ls : Array Slot), lv_has ls 8 [(5, .int (nI j)), (4, .int (nI w9.length)), (0, .ref h), (1, .ref qm), (2, .int (nI at9)), (3, .int (nI x.length))] → va_P D cls [(h, .inr (0, [.ref qt, .int tn, .ref q, .ref qw, .ref qb, .ref qn])), (qw, .inr (1, [.int wm, .ref vm, .ref vs])), (vm, .inl (cB, 3600, .inl wM)), (vs, .inl (cI, 150, .inl wS)), (qb, .inl (cI, 25, .inl fb)), (qn, .inl (cI, 25, .inl fn)), (qm, .inl (cB, 3600, .inl fM))] H → va_D A [(h, .inr (0, [.ref qt, .int tn, .ref q, .ref qw, .ref qb, .ref qn])), (qw, .inr (1, [.int wm, .ref vm, .ref vs])), (vm, .inl (cB, 3600, .inl wM)), (vs, .inl (cI, 150, .inl wS)), (qb, .inl (cI, 25, .inl fb)), (qn, .inl (cI, 25, .inl fn)), (qm, .inl (cB, 3600, .inl fM))] → va_S A s.heap H locs → W p l e (rmd 1) s m args below meth c H locs 0 0 Q (F0 m 14 ls []) := by
    intro d9
    induction d9 using Nat.strongRecOn with
    | _ d9 ih_la =>
    intro j fb hd hj hf H locs ls hl hP hD hS
    refine lv_iload hx hb d_T_distance_14 (lv_at hl 0 rfl) ?_
    refine lv_iload hx hb d_T_distance_16 (lv_at hl 1 rfl) ?_
    refine n_icmp_gt X (by omega) (by omega) d_T_distance_18 rfl (fun h18 => ?_) (fun h18 => ?_)
    · refine lv_iconst (v := (nI 1)) hx hb d_T_distance_36 ki_1 ?_
      refine lv_istore hx hb d_T_distance_37 hl (by decide) rfl (fun ls hl => ?_)
      have hl : lv_has ls 8 [(5, .int (nI 1)), (4, .int (nI w9.length)), (0, .ref h), (1, .ref qm), (2, .int (nI at9)), (3, .int (nI x.length))] := hl
      have lb : ∀ (d9 : Nat) (i : Nat) (pb : Nat) (pn : Nat) (fb : Nat → Int32) (fn : Nat → Int32), x.length - i = d9 → (i ≤ x.length) → (∀ t, t ≤ w9.length → fb t = nI (lw x w9 i t)) → ∀ (H : Heap) (locs : List Loc) (ls : Array Slot), lv_has ls 8 [(5, .int (nI (i + 1))), (4, .int (nI w9.length)), (0, .ref h), (1, .ref qm), (2, .int (nI at9)), (3, .int (nI x.length))] → va_P D cls [(h, .inr (0, [.ref qt, .int tn, .ref q, .ref qw, .ref pb, .ref pn])), (qw, .inr (1, [.int wm, .ref vm, .ref vs])), (vm, .inl (cB, 3600, .inl wM)), (vs, .inl (cI, 150, .inl wS)), (pb, .inl (cI, 25, .inl fb)), (pn, .inl (cI, 25, .inl fn)), (qm, .inl (cB, 3600, .inl fM))] H → va_D A [(h, .inr (0, [.ref qt, .int tn, .ref q, .ref qw, .ref pb, .ref pn])), (qw, .inr (1, [.int wm, .ref vm, .ref vs])), (vm, .inl (cB, 3600, .inl wM)), (vs, .inl (cI, 150, .inl wS)), (pb, .inl (cI, 25, .inl fb)), (pn, .inl (cI, 25, .inl fn)), (qm, .inl (cB, 3600, .inl fM))] → va_S A s.heap H locs → W p l e (rmd 1) s m args below meth c H locs 0 0 Q (F0 m 39 ls []) := by
        intro d9
        induction d9 using Nat.strongRecOn with
        | _ d9 ih_lb =>
        intro i pb pn fb fn hd hi hf H locs ls hl hP hD hS
        refine lv_iload hx hb d_T_distance_39 (lv_at hl 0 rfl) ?_
        refine lv_iload_n hx hb d_T_distance_41 rfl (lv_at hl 5 rfl) ?_
        refine n_icmp_gt X (by omega) (by omega) d_T_distance_42 rfl (fun h42 => ?_) (fun h42 => ?_)
        · refine lv_aload_n hx hb d_T_distance_168 rfl (lv_at hl 2 rfl) ?_
          refine gf_T_23 X hP 0 rfl d_T_distance_169 ?_
          refine lv_iload hx hb d_T_distance_172 (lv_at hl 1 rfl) ?_
          refine n_iald X hP 4 rfl (by omega) (by decide) d_T_distance_174 ?_
          refine W.top (y := (nI (lw x w9 i w9.length))) (hf _ (Nat.le_refl _)) ?_
          exact hret _ (pb, pn, fb, fn) _ _ _ _ (by rw [show i = x.length by omega]; rfl) rfl hP hD hS d_T_distance_175
        · refine lv_aload_n hx hb d_T_distance_45 rfl (lv_at hl 2 rfl) ?_
          refine gf_T_27 X hP 0 rfl d_T_distance_46 ?_
          refine lv_iconst (v := (nI 0)) hx hb d_T_distance_49 ki_0 ?_
          refine lv_iload hx hb d_T_distance_50 (lv_at hl 0 rfl) ?_
          refine n_iast X hP hD hS 5 rfl (by omega) (by decide) d_T_distance_52 (fun H locs hP hD hS => ?_)
          have hP : va_P D cls [(h, .inr (0, [.ref qt, .int tn, .ref q, .ref qw, .ref pb, .ref pn])), (qw, .inr (1, [.int wm, .ref vm, .ref vs])), (vm, .inl (cB, 3600, .inl wM)), (vs, .inl (cI, 150, .inl wS)), (pb, .inl (cI, 25, .inl fb)), (pn, .inl (cI, 25, .inl (upd fn 0 (nI (i + 1))))), (qm, .inl (cB, 3600, .inl fM))] H := hP
          have hD : va_D A [(h, .inr (0, [.ref qt, .int tn, .ref q, .ref qw, .ref pb, .ref pn])), (qw, .inr (1, [.int wm, .ref vm, .ref vs])), (vm, .inl (cB, 3600, .inl wM)), (vs, .inl (cI, 150, .inl wS)), (pb, .inl (cI, 25, .inl fb)), (pn, .inl (cI, 25, .inl (upd fn 0 (nI (i + 1))))), (qm, .inl (cB, 3600, .inl fM))] := hD
          refine lv_iconst (v := (nI 1)) hx hb d_T_distance_53 ki_1 ?_
          refine lv_istore hx hb d_T_distance_54 hl (by decide) rfl (fun ls hl => ?_)
          have hl : lv_has ls 8 [(6, .int (nI 1)), (5, .int (nI (i + 1))), (4, .int (nI w9.length)), (0, .ref h), (1, .ref qm), (2, .int (nI at9)), (3, .int (nI x.length))] := hl
          have lc : ∀ (d9 : Nat) (j : Nat) (gn : Nat → Int32), w9.length - j = d9 → (j ≤ w9.length) → (∀ t, t ≤ j → gn t = nI (lw x w9 (i + 1) t)) → ∀ (H : Heap) (locs : List Loc) (ls : Array Slot), lv_has ls 8 [(6, .int (nI (j + 1))), (5, .int (nI (i + 1))), (4, .int (nI w9.length)), (0, .ref h), (1, .ref qm), (2, .int (nI at9)), (3, .int (nI x.length))] → va_P D cls [(h, .inr (0, [.ref qt, .int tn, .ref q, .ref qw, .ref pb, .ref pn])), (qw, .inr (1, [.int wm, .ref vm, .ref vs])), (vm, .inl (cB, 3600, .inl wM)), (vs, .inl (cI, 150, .inl wS)), (pb, .inl (cI, 25, .inl fb)), (pn, .inl (cI, 25, .inl gn)), (qm, .inl (cB, 3600, .inl fM))] H → va_D A [(h, .inr (0, [.ref qt, .int tn, .ref q, .ref qw, .ref pb, .ref pn])), (qw, .inr (1, [.int wm, .ref vm, .ref vs])), (vm, .inl (cB, 3600, .inl wM)), (vs, .inl (cI, 150, .inl wS)), (pb, .inl (cI, 25, .inl fb)), (pn, .inl (cI, 25, .inl gn)), (qm, .inl (cB, 3600, .inl fM))] → va_S A s.heap H locs → W p l e (rmd 1) s m args below meth c H locs 0 0 Q (F0 m 56 ls []) := by
            intro d9
            induction d9 using Nat.strongRecOn with
            | _ d9 ih_lc =>
            intro j gn hd hj hg H locs ls hl hP hD hS
            refine lv_iload hx hb d_T_distance_56 (lv_at hl 0 rfl) ?_
            refine lv_iload hx hb d_T_distance_58 (lv_at hl 2 rfl) ?_
            refine n_icmp_gt X (by omega) (by omega) d_T_distance_60 rfl (fun h60 => ?_) (fun h60 => ?_)
            · refine lv_aload_n hx hb d_T_distance_142 rfl (lv_at hl 3 rfl) ?_
              refine gf_T_23 X hP 0 rfl d_T_distance_143 ?_
              refine lv_astore hx hb d_T_distance_146 hl (by decide) rfl (fun ls hl => ?_)
              have hl : lv_has ls 8 [(6, .ref pb), (5, .int (nI (i + 1))), (4, .int (nI w9.length)), (0, .ref h), (1, .ref qm), (2, .int (nI at9)), (3, .int (nI x.length))] := hl
              refine lv_aload_n hx hb d_T_distance_148 rfl (lv_at hl 3 rfl) ?_
              refine lv_aload_n hx hb d_T_distance_149 rfl (lv_at hl 3 rfl) ?_
              refine gf_T_27 X hP 0 rfl d_T_distance_150 ?_
              refine pf_T_23 X hP hD hS 0 rfl d_T_distance_153 (fun H locs hP hD hS => ?_)
              have hP : va_P D cls [(h, .inr (0, [.ref qt, .int tn, .ref q, .ref qw, .ref pn, .ref pn])), (qw, .inr (1, [.int wm, .ref vm, .ref vs])), (vm, .inl (cB, 3600, .inl wM)), (vs, .inl (cI, 150, .inl wS)), (pb, .inl (cI, 25, .inl fb)), (pn, .inl (cI, 25, .inl gn)), (qm, .inl (cB, 3600, .inl fM))] H := hP
              have hD : va_D A [(h, .inr (0, [.ref qt, .int tn, .ref q, .ref qw, .ref pn, .ref pn])), (qw, .inr (1, [.int wm, .ref vm, .ref vs])), (vm, .inl (cB, 3600, .inl wM)), (vs, .inl (cI, 150, .inl wS)), (pb, .inl (cI, 25, .inl fb)), (pn, .inl (cI, 25, .inl gn)), (qm, .inl (cB, 3600, .inl fM))] := hD
              refine lv_aload_n hx hb d_T_distance_156 rfl (lv_at hl 3 rfl) ?_
              refine lv_aload hx hb d_T_distance_157 (lv_at hl 0 rfl) ?_
              refine pf_T_27 X hP hD hS 0 rfl d_T_distance_159 (fun H locs hP hD hS => ?_)
              have hP : va_P D cls [(h, .inr (0, [.ref qt, .int tn, .ref q, .ref qw, .ref pn, .ref pb])), (qw, .inr (1, [.int wm, .ref vm, .ref vs])), (vm, .inl (cB, 3600, .inl wM)), (vs, .inl (cI, 150, .inl wS)), (pb, .inl (cI, 25, .inl fb)), (pn, .inl (cI, 25, .inl gn)), (qm, .inl (cB, 3600, .inl fM))] H := hP
              have hD : va_D A [(h, .inr (0, [.ref qt, .int tn, .ref q, .ref qw, .ref pn, .ref pb])), (qw, .inr (1, [.int wm, .ref vm, .ref vs])), (vm, .inl (cB, 3600, .inl wM)), (vs, .inl (cI, 150, .inl wS)), (pb, .inl (cI, 25, .inl fb)), (pn, .inl (cI, 25, .inl gn)), (qm, .inl (cB, 3600, .inl fM))] := hD
              refine lv_iinc hx hb d_T_distance_162 hl (k := 1) rfl (v := (nI (i + 1 + 1))) (n_inc _ 1) (by decide) rfl (fun ls hl => ?_)
              have hl : lv_has ls 8 [(5, .int (nI (i + 1 + 1))), (6, .ref pb), (4, .int (nI w9.length)), (0, .ref h), (1, .ref qm), (2, .int (nI at9)), (3, .int (nI x.length))] := hl
              refine lv_goto hx hb d_T_distance_165 rfl ?_
              have hP : va_P D cls [(h, .inr (0, [.ref qt, .int tn, .ref q, .ref qw, .ref pn, .ref pb])), (qw, .inr (1, [.int wm, .ref vm, .ref vs])), (vm, .inl (cB, 3600, .inl wM)), (vs, .inl (cI, 150, .inl wS)), (pn, .inl (cI, 25, .inl gn)), (pb, .inl (cI, 25, .inl fb)), (qm, .inl (cB, 3600, .inl fM))] H := hP.sub [0, 1, 2, 3, 5, 4, 6] rfl
              have hD : va_D A [(h, .inr (0, [.ref qt, .int tn, .ref q, .ref qw, .ref pn, .ref pb])), (qw, .inr (1, [.int wm, .ref vm, .ref vs])), (vm, .inl (cB, 3600, .inl wM)), (vs, .inl (cI, 150, .inl wS)), (pn, .inl (cI, 25, .inl gn)), (pb, .inl (cI, 25, .inl fb)), (qm, .inl (cB, 3600, .inl fM))] := hD.sub [0, 1, 2, 3, 5, 4, 6] (by decide) rfl
              exact ih_lb _ (by omega) (i + 1) pn pb gn fb rfl (by omega) (fun t h => hg t (by omega)) _ _ _ (lv_sub hl [0, 2, 3, 4, 5, 6] rfl) hP hD hS
            · obtain ⟨hu1, hu2⟩ := hx9 i (by omega)
              obtain ⟨hv1, hv2⟩ := hvm j (by omega)
              have q1 := lw_le x w9 i j
              have q2 := lw_le x w9 i (j + 1)
              have q3 := lw_le x w9 (i + 1) j
              have J93 : ∀ (s9 : Nat), (s9 = if x.getD i 0 = w9.getD j 0 then 0 else 1) → ∀ (H : Heap) (locs : List Loc) (ls : Array Slot), lv_has ls 8 [(7, .int (nI s9)), (6, .int (nI (j + 1))), (5, .int (nI (i + 1))), (4, .int (nI w9.length)), (0, .ref h), (1, .ref qm), (2, .int (nI at9)), (3, .int (nI x.length))] → va_P D cls [(h, .inr (0, [.ref qt, .int tn, .ref q, .ref qw, .ref pb, .ref pn])), (qw, .inr (1, [.int wm, .ref vm, .ref vs])), (vm, .inl (cB, 3600, .inl wM)), (vs, .inl (cI, 150, .inl wS)), (pb, .inl (cI, 25, .inl fb)), (pn, .inl (cI, 25, .inl gn)), (qm, .inl (cB, 3600, .inl fM))] H → va_D A [(h, .inr (0, [.ref qt, .int tn, .ref q, .ref qw, .ref pb, .ref pn])), (qw, .inr (1, [.int wm, .ref vm, .ref vs])), (vm, .inl (cB, 3600, .inl wM)), (vs, .inl (cI, 150, .inl wS)), (pb, .inl (cI, 25, .inl fb)), (pn, .inl (cI, 25, .inl gn)), (qm, .inl (cB, 3600, .inl fM))] → va_S A s.heap H locs → W p l e (rmd 1) s m args below meth c H locs 0 0 Q (F0 m 93 ls []) := by
                intro s9 hs9 H locs ls hl hP hD hS
                have hs1 : s9 ≤ 1 := by rw [hs9]; split <;> omega
                refine lv_aload_n hx hb d_T_distance_93 rfl (lv_at hl 4 rfl) ?_
                refine gf_T_27 X hP 0 rfl d_T_distance_94 ?_
                refine lv_iload hx hb d_T_distance_97 (lv_at hl 1 rfl) ?_
                refine lv_aload_n hx hb d_T_distance_99 rfl (lv_at hl 4 rfl) ?_
                refine gf_T_23 X hP 0 rfl d_T_distance_100 ?_
                refine lv_iload hx hb d_T_distance_103 (lv_at hl 1 rfl) ?_
                refine lv_iconst (v := (nI 1)) hx hb d_T_distance_105 ki_1 ?_
                refine n_isub X (by omega) d_T_distance_106 ?_
                refine n_iald X hP 4 rfl (by omega) (by decide) d_T_distance_107 ?_
                refine W.top (y := (nI (lw x w9 i j))) (hf j (by omega)) ?_
                refine lv_iload hx hb d_T_distance_108 (lv_at hl 0 rfl) ?_
                refine n_iadd X d_T_distance_110 ?_
                refine lv_iconst (v := (nI 1)) hx hb d_T_distance_111 ki_1 ?_
                refine lv_aload_n hx hb d_T_distance_112 rfl (lv_at hl 4 rfl) ?_
                refine gf_T_23 X hP 0 rfl d_T_distance_113 ?_
                refine lv_iload hx hb d_T_distance_116 (lv_at hl 1 rfl) ?_
                refine n_iald X hP 4 rfl (by omega) (by decide) d_T_distance_118 ?_
                refine W.top (y := (nI (lw x w9 i (j + 1)))) (hf (j + 1) (by omega)) ?_
                refine lv_aload_n hx hb d_T_distance_119 rfl (lv_at hl 4 rfl) ?_
                refine gf_T_27 X hP 0 rfl d_T_distance_120 ?_
                refine lv_iload hx hb d_T_distance_123 (lv_at hl 1 rfl) ?_
                refine lv_iconst (v := (nI 1)) hx hb d_T_distance_125 ki_1 ?_
                refine n_isub X (by omega) d_T_distance_126 ?_
                refine n_iald X hP 5 rfl (by omega) (by decide) d_T_distance_127 ?_
                refine W.top (y := (nI (lw x w9 (i + 1) j))) (hg j (Nat.le_refl _)) ?_
                refine n_min X tw1_138 hl.1 (by omega) (by omega) (Nat.le_of_ble_eq_true rfl) (Nat.le_of_ble_eq_true rfl) (Nat.zero_le _) (Nat.zero_le _) d_T_distance_128 ?_
                refine n_iadd X d_T_distance_131 ?_
                refine n_min X tw1_138 hl.1 (by omega) (by omega) (Nat.le_of_ble_eq_true rfl) (Nat.le_of_ble_eq_true rfl) (Nat.zero_le _) (Nat.zero_le _) d_T_distance_132 ?_
                refine n_iast X hP hD hS 5 rfl (by omega) (by decide) d_T_distance_135 (fun H locs hP hD hS => ?_)
                have hP : va_P D cls [(h, .inr (0, [.ref qt, .int tn, .ref q, .ref qw, .ref pb, .ref pn])), (qw, .inr (1, [.int wm, .ref vm, .ref vs])), (vm, .inl (cB, 3600, .inl wM)), (vs, .inl (cI, 150, .inl wS)), (pb, .inl (cI, 25, .inl fb)), (pn, .inl (cI, 25, .inl (upd gn (j + 1) (nI (min ((lw x w9 i j) + s9) (1 + (min (lw x w9 i (j + 1)) (lw x w9 (i + 1) j)))))))), (qm, .inl (cB, 3600, .inl fM))] H := hP
                have hD : va_D A [(h, .inr (0, [.ref qt, .int tn, .ref q, .ref qw, .ref pb, .ref pn])), (qw, .inr (1, [.int wm, .ref vm, .ref vs])), (vm, .inl (cB, 3600, .inl wM)), (vs, .inl (cI, 150, .inl wS)), (pb, .inl (cI, 25, .inl fb)), (pn, .inl (cI, 25, .inl (upd gn (j + 1) (nI (min ((lw x w9 i j) + s9) (1 + (min (lw x w9 i (j + 1)) (lw x w9 (i + 1) j)))))))), (qm, .inl (cB, 3600, .inl fM))] := hD
                refine lv_iinc hx hb d_T_distance_136 hl (k := 1) rfl (v := (nI (j + 1 + 1))) (n_inc _ 1) (by decide) rfl (fun ls hl => ?_)
                have hl : lv_has ls 8 [(6, .int (nI (j + 1 + 1))), (7, .int (nI s9)), (5, .int (nI (i + 1))), (4, .int (nI w9.length)), (0, .ref h), (1, .ref qm), (2, .int (nI at9)), (3, .int (nI x.length))] := hl
                refine lv_goto hx hb d_T_distance_139 rfl ?_
                exact ih_lc _ (by omega) (j + 1) (upd gn (j + 1) (nI (min (lw x w9 i j + s9) (1 + min (lw x w9 i (j + 1)) (lw x w9 (i + 1) j))))) rfl (by omega) (lev_put hg hs9) _ _ _ (lv_sub hl [0, 2, 3, 4, 5, 6, 7] rfl) hP hD hS
              refine lv_aload_n hx hb d_T_distance_63 rfl (lv_at hl 4 rfl) ?_
              refine lv_iload_n hx hb d_T_distance_64 rfl (lv_at hl 5 rfl) ?_
              refine lv_iload hx hb d_T_distance_65 (lv_at hl 1 rfl) ?_
              refine n_iadd X d_T_distance_67 ?_
              refine lv_iconst (v := (nI 1)) hx hb d_T_distance_68 ki_1 ?_
              refine n_isub X (by omega) d_T_distance_69 ?_
              refine n_bald X hP 6 rfl (by omega) (by decide) d_T_distance_70 ?_
              refine W.top (y := (nI (x.getD i 0))) (by rw [show at9 + (i + 1) - 1 = at9 + i by omega]; exact hu1) ?_
              refine lv_aload_n hx hb d_T_distance_71 rfl (lv_at hl 3 rfl) ?_
              refine gf_T_20 X hP 0 rfl d_T_distance_72 ?_
              refine gf_T_51 X hP 1 rfl d_T_distance_75 ?_
              refine lv_iload hx hb d_T_distance_78 (lv_at hl 0 rfl) ?_
              refine lv_iconst (v := (nI 1)) hx hb d_T_distance_80 ki_1 ?_
              refine n_isub X (by omega) d_T_distance_81 ?_
              refine n_bald X hP 2 rfl (by omega) (by decide) d_T_distance_82 ?_
              refine W.top (y := (nI (w9.getD j 0))) (by rw [show j + 1 - 1 = j by omega]; exact hv1) ?_
              refine n_icmp_ne X (by omega) (by omega) d_T_distance_83 rfl (fun h83 => ?_) (fun h83 => ?_)
              · refine lv_iconst (v := (nI 1)) hx hb d_T_distance_90 ki_1 ?_
                refine lv_istore hx hb d_T_distance_91 hl (by decide) rfl (fun ls hl => ?_)
                have hl : lv_has ls 8 [(7, .int (nI 1)), (6, .int (nI (j + 1))), (5, .int (nI (i + 1))), (4, .int (nI w9.length)), (0, .ref h), (1, .ref qm), (2, .int (nI at9)), (3, .int (nI x.length))] := hl
                exact J93 1 ((if_neg h83).symm) _ _ _ hl hP hD hS
              · refine lv_iconst (v := (nI 0)) hx hb d_T_distance_86 ki_0 ?_
                refine lv_goto hx hb d_T_distance_87 rfl ?_
                refine lv_istore hx hb d_T_distance_91 hl (by decide) rfl (fun ls hl => ?_)
                have hl : lv_has ls 8 [(7, .int (nI 0)), (6, .int (nI (j + 1))), (5, .int (nI (i + 1))), (4, .int (nI w9.length)), (0, .ref h), (1, .ref qm), (2, .int (nI at9)), (3, .int (nI x.length))] := hl
                exact J93 0 ((if_pos h83).symm) _ _ _ hl hP hD hS
          exact lc _ 0 (upd fn 0 (nI (i + 1))) rfl (Nat.zero_le _) (fun t h => by rw [show t = 0 by omega, upd_s, lw_i0]) _ _ _ hl hP hD hS
      exact lb _ 0 qb qn fb fn rfl (Nat.zero_le _) (fun t h => hf t (by omega)) _ _ _ hl hP hD hS
    · refine lv_aload_n hx hb d_T_distance_21 rfl (lv_at hl 2 rfl) ?_
      refine gf_T_23 X hP 0 rfl d_T_distance_22 ?_
      refine lv_iload hx hb d_T_distance_25 (lv_at hl 0 rfl) ?_
      refine lv_iload hx hb d_T_distance_27 (lv_at hl 0 rfl) ?_
      refine n_iast X hP hD hS 4 rfl (by omega) (by decide) d_T_distance_29 (fun H locs hP hD hS => ?_)
      have hP : va_P D cls [(h, .inr (0, [.ref qt, .int tn, .ref q, .ref qw, .ref qb, .ref qn])), (qw, .inr (1, [.int wm, .ref vm, .ref vs])), (vm, .inl (cB, 3600, .inl wM)), (vs, .inl (cI, 150, .inl wS)), (qb, .inl (cI, 25, .inl (upd fb j (nI j)))), (qn, .inl (cI, 25, .inl fn)), (qm, .inl (cB, 3600, .inl fM))] H := hP
      have hD : va_D A [(h, .inr (0, [.ref qt, .int tn, .ref q, .ref qw, .ref qb, .ref qn])), (qw, .inr (1, [.int wm, .ref vm, .ref vs])), (vm, .inl (cB, 3600, .inl wM)), (vs, .inl (cI, 150, .inl wS)), (qb, .inl (cI, 25, .inl (upd fb j (nI j)))), (qn, .inl (cI, 25, .inl fn)), (qm, .inl (cB, 3600, .inl fM))] := hD
      refine lv_iinc hx hb d_T_distance_30 hl (k := 0) rfl (v := (nI (j + 1))) (n_inc _ 1) (by decide) rfl (fun ls hl => ?_)
      have hl : lv_has ls 8 [(5, .int (nI (j + 1))), (4, .int (nI w9.length)), (0, .ref h), (1, .ref qm), (2, .int (nI at9)), (3, .int (nI x.length))] := hl
      refine lv_goto hx hb d_T_distance_33 rfl ?_
      exact ih_la _ (by omega) (j + 1) (upd fb j (nI j)) rfl (by omega) (row_put hf) _ _ _ hl hP hD hS
  exact la _ 0 fb rfl (Nat.zero_le _) (fun t h => absurd h (Nat.not_lt_zero _)) _ _ _ hl hP hD hS

set_option maxHeartbeats 4000000 in
set_option maxRecDepth 100000 in
theorem c_Tapart (l : Launch) (D : va_G) (cB cI : ClassId) (h qt q qw qb qn : Nat) (qm qs vm vs n : Nat) (wm : Int32) (fM fS wM wS T fb fn : Nat → Int32) (ws : List (List Nat)) (hR : Rep ws fS fM) (hc : ws.length ≤ 150) (hn : n ≤ 300) (k : Int32) : CtI (S := Nat × Int32 × (Nat → Int32) × (Nat → Int32) × Nat × Nat × (Nat → Int32) × (Nat → Int32)) l y_T_apart b_T_apart 2 (some .int) 5 D cB cI [.ref h, .int k] [(h, .inr (0, [.ref qt, .int (nI n), .ref q, .ref qw, .ref qb, .ref qn])), (qt, .inl (cB, 300, .inl T)), (q, .inr (1, [.int (nI ws.length), .ref qm, .ref qs])), (qm, .inl (cB, 3600, .inl fM)), (qs, .inl (cI, 150, .inl fS)), (qw, .inr (1, [.int wm, .ref vm, .ref vs])), (vm, .inl (cB, 3600, .inl wM)), (vs, .inl (cI, 150, .inl wS)), (qb, .inl (cI, 25, .inl fb)), (qn, .inl (cI, 25, .inl fn))] (fun r u => r = apartA ws T n k ∧ u.1 = apartN ws n k) (fun u => [(h, .inr (0, [.ref qt, .int (nI u.1), .ref q, .ref qw, .ref u.2.2.2.2.1, .ref u.2.2.2.2.2.1])), (qt, .inl (cB, 300, .inl T)), (q, .inr (1, [.int (nI ws.length), .ref qm, .ref qs])), (qm, .inl (cB, 3600, .inl fM)), (qs, .inl (cI, 150, .inl fS)), (qw, .inr (1, [.int u.2.1, .ref vm, .ref vs])), (vm, .inl (cB, 3600, .inl u.2.2.1)), (vs, .inl (cI, 150, .inl u.2.2.2.1)), (u.2.2.2.2.1, .inl (cI, 25, .inl u.2.2.2.2.2.2.1)), (u.2.2.2.2.2.1, .inl (cI, 25, .inl u.2.2.2.2.2.2.2))]) := by
  refine CtI.mk (own := R_T) (by decide) rfl (Nat.le_of_ble_eq_true rfl) ?_
  intro p e s m args below meth c A Q ls X hP hD hS hA hl hret
  have hx := X.1
  have hb := X.2.1
  have hl : lv_has ls 2 [(0, .ref h), (1, .int k)] := hl
  refine lv_iload_n hx hb d_T_apart_0 rfl (lv_at hl 1 rfl) ?_
  refine lv_iconst (v := (nI 0)) hx hb d_T_apart_1 ki_0 ?_
  refine lv_aload_n hx hb d_T_apart_2 rfl (lv_at hl 0 rfl) ?_
  refine gf_T_16 X hP 0 rfl d_T_apart_3 ?_
  refine gf_T_45 X hP 2 rfl d_T_apart_6 ?_
  refine lv_iconst (v := (nI 1)) hx hb d_T_apart_9 ki_1 ?_
  refine lv_isub hx hb d_T_apart_10 ?_
  refine cP_S (rest := []) X st_T_38 tw1_66 (c_in l D cB cI k (nI 0) (nI ws.length - nI 1)) (rok (by decide)) hP [] rfl rfl hl.1 rfl (Nat.le_of_ble_eq_true rfl) d_T_apart_11 (fun r11 hr => ?_)
  rcases hr with ⟨rfl, hr1, hr2⟩ | ⟨rfl, hr⟩
  · obtain ⟨a, ha, rfl⟩ := inR_nat ((inR_m1 (by omega)).mp ⟨hr1, hr2⟩)
    refine n_if_ne X (by omega) d_T_apart_14 rfl (fun h14 => ?_) (fun h14 => ?_)
    · have ha4 := (hR a ha).2.1
      refine lv_aload_n hx hb d_T_apart_20 rfl (lv_at hl 0 rfl) ?_
      refine cI_V (rest := []) (wr := [(q, .inr (1, [.int (nI ws.length), .ref qm, .ref qs])), (qm, .inl (cB, 3600, .inl fM)), (qs, .inl (cI, 150, .inl fS)), (qb, .inl (cI, 25, .inl fb)), (qn, .inl (cI, 25, .inl fn))]) X st_T_82 tw1_131 tw0_0 (c_readWord l D cB cI h qt q qw qb qn vm vs n wm wM wS T hn) (rok (by decide)) hP hD hS hA 0 rfl rfl [0, 5, 6, 7, 1] [2, 3, 4, 8, 9] rfl rfl (by decide) (by decide) (by decide) rfl hl.1 rfl (Nat.le_of_ble_eq_true rfl) d_T_apart_21 (fun r21 u9 H locs hr hP hD hS => ?_)
      obtain ⟨wm2, wM2, wS2⟩ := u9
      have hP : va_P D cls [(q, .inr (1, [.int (nI ws.length), .ref qm, .ref qs])), (qm, .inl (cB, 3600, .inl fM)), (qs, .inl (cI, 150, .inl fS)), (qb, .inl (cI, 25, .inl fb)), (qn, .inl (cI, 25, .inl fn)), (h, .inr (0, [.ref qt, .int (nI 0), .ref q, .ref qw, .ref qb, .ref qn])), (qw, .inr (1, [.int wm2, .ref vm, .ref vs])), (vm, .inl (cB, 3600, .inl wM2)), (vs, .inl (cI, 150, .inl wS2)), (qt, .inl (cB, 300, .inl T))] H := hP
      have hD : va_D A [(q, .inr (1, [.int (nI ws.length), .ref qm, .ref qs])), (qm, .inl (cB, 3600, .inl fM)), (qs, .inl (cI, 150, .inl fS)), (qb, .inl (cI, 25, .inl fb)), (qn, .inl (cI, 25, .inl fn)), (h, .inr (0, [.ref qt, .int (nI 0), .ref q, .ref qw, .ref qb, .ref qn])), (qw, .inr (1, [.int wm2, .ref vm, .ref vs])), (vm, .inl (cB, 3600, .inl wM2)), (vs, .inl (cI, 150, .inl wS2)), (qt, .inl (cB, 300, .inl T))] := hD
      rcases hr with ⟨rfl, haw, hR1⟩ | ⟨rfl, haw⟩
      · have hP : va_P D cls [(h, .inr (0, [.ref qt, .int (nI 0), .ref q, .ref qw, .ref qb, .ref qn])), (qt, .inl (cB, 300, .inl T)), (q, .inr (1, [.int (nI ws.length), .ref qm, .ref qs])), (qm, .inl (cB, 3600, .inl fM)), (qs, .inl (cI, 150, .inl fS)), (qw, .inr (1, [.int wm2, .ref vm, .ref vs])), (vm, .inl (cB, 3600, .inl wM2)), (vs, .inl (cI, 150, .inl wS2)), (qb, .inl (cI, 25, .inl fb)), (qn, .inl (cI, 25, .inl fn))] H := hP.sub [5, 9, 0, 1, 2, 6, 7, 8, 3, 4] rfl
        have hD : va_D A [(h, .inr (0, [.ref qt, .int (nI 0), .ref q, .ref qw, .ref qb, .ref qn])), (qt, .inl (cB, 300, .inl T)), (q, .inr (1, [.int (nI ws.length), .ref qm, .ref qs])), (qm, .inl (cB, 3600, .inl fM)), (qs, .inl (cI, 150, .inl fS)), (qw, .inr (1, [.int wm2, .ref vm, .ref vs])), (vm, .inl (cB, 3600, .inl wM2)), (vs, .inl (cI, 150, .inl wS2)), (qb, .inl (cI, 25, .inl fb)), (qn, .inl (cI, 25, .inl fn))] := hD.sub [5, 9, 0, 1, 2, 6, 7, 8, 3, 4] (by decide) rfl
        obtain ⟨hv0, hv1⟩ := Rep_one hR1
        refine n_if_eq X (by omega) d_T_apart_24 rfl (fun h24 => ?_) (fun h24 => ?_)
        · exact False.elim (by omega)
        · refine lv_aload_n hx hb d_T_apart_27 rfl (lv_at hl 0 rfl) ?_
          refine lv_aload_n hx hb d_T_apart_28 rfl (lv_at hl 0 rfl) ?_
          refine gf_T_16 X hP 0 rfl d_T_apart_29 ?_
          refine gf_T_51 X hP 2 rfl d_T_apart_32 ?_
          refine lv_bipush (v := (nI 24)) hx hb d_T_apart_35 kb_24 ?_
          refine lv_iload_n hx hb d_T_apart_37 rfl (lv_at hl 1 rfl) ?_
          refine n_imul X d_T_apart_38 ?_
          refine lv_aload_n hx hb d_T_apart_39 rfl (lv_at hl 0 rfl) ?_
          refine gf_T_16 X hP 0 rfl d_T_apart_40 ?_
          refine gf_T_48 X hP 2 rfl d_T_apart_43 ?_
          refine lv_iload_n hx hb d_T_apart_46 rfl (lv_at hl 1 rfl) ?_
          refine n_iald X hP 4 rfl (by omega) (by decide) d_T_apart_47 ?_
          refine W.top (y := (nI ((wd ws a).length))) ((hR a ha).1) ?_
          refine cI_V (rest := []) (wr := [(qt, .inl (cB, 300, .inl T)), (q, .inr (1, [.int (nI ws.length), .ref qm, .ref qs])), (qs, .inl (cI, 150, .inl fS))]) X st_T_86 tw1_136 tw0_1 (c_Tdistance l D cB cI h qt q qw qb qn vm vs qm (nI 0) wm2 wM2 wS2 fM fb fn (wd ws a) (stem (wf T 0) n) (24 * a) (hR a ha).2.2 (by omega) (by omega) (stem_le _ _) hv0 hv1) (rok (by decide)) hP hD hS hA 0 rfl rfl [0, 5, 6, 7, 8, 9, 3] [1, 2, 4] rfl rfl (by decide) (by decide) (by decide) rfl hl.1 rfl (Nat.le_of_ble_eq_true rfl) d_T_apart_48 (fun r48 u9 H locs hd hP hD hS => ?_)
          obtain ⟨b2, n2, fb2, fn2⟩ := u9
          have hP : va_P D cls [(qt, .inl (cB, 300, .inl T)), (q, .inr (1, [.int (nI ws.length), .ref qm, .ref qs])), (qs, .inl (cI, 150, .inl fS)), (h, .inr (0, [.ref qt, .int (nI 0), .ref q, .ref qw, .ref b2, .ref n2])), (qw, .inr (1, [.int wm2, .ref vm, .ref vs])), (vm, .inl (cB, 3600, .inl wM2)), (vs, .inl (cI, 150, .inl wS2)), (b2, .inl (cI, 25, .inl fb2)), (n2, .inl (cI, 25, .inl fn2)), (qm, .inl (cB, 3600, .inl fM))] H := hP
          have hD : va_D A [(qt, .inl (cB, 300, .inl T)), (q, .inr (1, [.int (nI ws.length), .ref qm, .ref qs])), (qs, .inl (cI, 150, .inl fS)), (h, .inr (0, [.ref qt, .int (nI 0), .ref q, .ref qw, .ref b2, .ref n2])), (qw, .inr (1, [.int wm2, .ref vm, .ref vs])), (vm, .inl (cB, 3600, .inl wM2)), (vs, .inl (cI, 150, .inl wS2)), (b2, .inl (cI, 25, .inl fb2)), (n2, .inl (cI, 25, .inl fn2)), (qm, .inl (cB, 3600, .inl fM))] := hD
          have hP : va_P D cls [(h, .inr (0, [.ref qt, .int (nI 0), .ref q, .ref qw, .ref b2, .ref n2])), (qt, .inl (cB, 300, .inl T)), (q, .inr (1, [.int (nI ws.length), .ref qm, .ref qs])), (qm, .inl (cB, 3600, .inl fM)), (qs, .inl (cI, 150, .inl fS)), (qw, .inr (1, [.int wm2, .ref vm, .ref vs])), (vm, .inl (cB, 3600, .inl wM2)), (vs, .inl (cI, 150, .inl wS2)), (b2, .inl (cI, 25, .inl fb2)), (n2, .inl (cI, 25, .inl fn2))] H := hP.sub [3, 0, 1, 9, 2, 4, 5, 6, 7, 8] rfl
          have hD : va_D A [(h, .inr (0, [.ref qt, .int (nI 0), .ref q, .ref qw, .ref b2, .ref n2])), (qt, .inl (cB, 300, .inl T)), (q, .inr (1, [.int (nI ws.length), .ref qm, .ref qs])), (qm, .inl (cB, 3600, .inl fM)), (qs, .inl (cI, 150, .inl fS)), (qw, .inr (1, [.int wm2, .ref vm, .ref vs])), (vm, .inl (cB, 3600, .inl wM2)), (vs, .inl (cI, 150, .inl wS2)), (b2, .inl (cI, 25, .inl fb2)), (n2, .inl (cI, 25, .inl fn2))] := hD.sub [3, 0, 1, 9, 2, 4, 5, 6, 7, 8] (by decide) rfl
          refine lv_goto hx hb d_T_apart_51 rfl ?_
          exact hret _ (0, wm2, wM2, wS2, b2, n2, fb2, fn2) _ _ _ _ (by rw [hd]; exact apart_y ha hc haw) rfl hP hD hS d_T_apart_55
      · have hP : va_P D cls [(h, .inr (0, [.ref qt, .int (nI 0), .ref q, .ref qw, .ref qb, .ref qn])), (qt, .inl (cB, 300, .inl T)), (q, .inr (1, [.int (nI ws.length), .ref qm, .ref qs])), (qm, .inl (cB, 3600, .inl fM)), (qs, .inl (cI, 150, .inl fS)), (qw, .inr (1, [.int wm2, .ref vm, .ref vs])), (vm, .inl (cB, 3600, .inl wM2)), (vs, .inl (cI, 150, .inl wS2)), (qb, .inl (cI, 25, .inl fb)), (qn, .inl (cI, 25, .inl fn))] H := hP.sub [5, 9, 0, 1, 2, 6, 7, 8, 3, 4] rfl
        have hD : va_D A [(h, .inr (0, [.ref qt, .int (nI 0), .ref q, .ref qw, .ref qb, .ref qn])), (qt, .inl (cB, 300, .inl T)), (q, .inr (1, [.int (nI ws.length), .ref qm, .ref qs])), (qm, .inl (cB, 3600, .inl fM)), (qs, .inl (cI, 150, .inl fS)), (qw, .inr (1, [.int wm2, .ref vm, .ref vs])), (vm, .inl (cB, 3600, .inl wM2)), (vs, .inl (cI, 150, .inl wS2)), (qb, .inl (cI, 25, .inl fb)), (qn, .inl (cI, 25, .inl fn))] := hD.sub [5, 9, 0, 1, 2, 6, 7, 8, 3, 4] (by decide) rfl
        refine n_if_eq X (by omega) d_T_apart_24 rfl (fun h24 => ?_) (fun h24 => ?_)
        · refine lv_iconst (v := (-1)) hx hb d_T_apart_54 ki_m1 ?_
          exact hret _ (0, wm2, wM2, wS2, qb, qn, fb, fn) _ _ _ _ (apart_n ha hc haw) rfl hP hD hS d_T_apart_55
        · exact False.elim (by omega)
    · exact False.elim (by omega)
  · have hr : ¬ inR k ws.length := fun q => hr ((inR_m1 (by omega)).mpr q)
    refine n_if_ne X (by omega) d_T_apart_14 rfl (fun h14 => ?_) (fun h14 => ?_)
    · exact False.elim (by omega)
    · refine lv_bipush (v := (-2)) hx hb d_T_apart_17 kb_m2 ?_
      exact hret _ (n, wm, wM, wS, qb, qn, fb, fn) _ _ _ _ (apart_o hr) rfl hP hD hS d_T_apart_19

set_option maxHeartbeats 4000000 in
set_option maxRecDepth 100000 in
theorem c_Tnearest (l : Launch) (D : va_G) (cB cI : ClassId) (h qt q qw qb qn : Nat) (qm qs vm vs n : Nat) (wm : Int32) (fM fS wM wS T fb fn : Nat → Int32) (ws : List (List Nat)) (hR : Rep ws fS fM) (hc : ws.length ≤ 150) (hn : n ≤ 300) : CtI (S := Int32 × (Nat → Int32) × (Nat → Int32) × Nat × Nat × (Nat → Int32) × (Nat → Int32)) l y_T_nearest b_T_nearest 5 (some .int) 5 D cB cI [.ref h] [(h, .inr (0, [.ref qt, .int (nI n), .ref q, .ref qw, .ref qb, .ref qn])), (qt, .inl (cB, 300, .inl T)), (q, .inr (1, [.int (nI ws.length), .ref qm, .ref qs])), (qm, .inl (cB, 3600, .inl fM)), (qs, .inl (cI, 150, .inl fS)), (qw, .inr (1, [.int wm, .ref vm, .ref vs])), (vm, .inl (cB, 3600, .inl wM)), (vs, .inl (cI, 150, .inl wS)), (qb, .inl (cI, 25, .inl fb)), (qn, .inl (cI, 25, .inl fn))] (fun r u => r = nearA ws T n) (fun u => [(h, .inr (0, [.ref qt, .int (nI 0), .ref q, .ref qw, .ref u.2.2.2.1, .ref u.2.2.2.2.1])), (qt, .inl (cB, 300, .inl T)), (q, .inr (1, [.int (nI ws.length), .ref qm, .ref qs])), (qm, .inl (cB, 3600, .inl fM)), (qs, .inl (cI, 150, .inl fS)), (qw, .inr (1, [.int u.1, .ref vm, .ref vs])), (vm, .inl (cB, 3600, .inl u.2.1)), (vs, .inl (cI, 150, .inl u.2.2.1)), (u.2.2.2.1, .inl (cI, 25, .inl u.2.2.2.2.2.1)), (u.2.2.2.2.1, .inl (cI, 25, .inl u.2.2.2.2.2.2))]) := by
  refine CtI.mk (own := R_T) (by decide) rfl (Nat.le_of_ble_eq_true rfl) ?_
  intro p e s m args below meth c A Q ls X hP hD hS hA hl hret
  have hx := X.1
  have hb := X.2.1
  have hl : lv_has ls 5 [(0, .ref h)] := hl
  refine lv_aload_n hx hb d_T_nearest_0 rfl (lv_at hl 0 rfl) ?_
  refine cI_V (rest := []) (wr := [(q, .inr (1, [.int (nI ws.length), .ref qm, .ref qs])), (qm, .inl (cB, 3600, .inl fM)), (qs, .inl (cI, 150, .inl fS)), (qb, .inl (cI, 25, .inl fb)), (qn, .inl (cI, 25, .inl fn))]) X st_T_82 tw1_131 tw0_0 (c_readWord l D cB cI h qt q qw qb qn vm vs n wm wM wS T hn) (rok (by decide)) hP hD hS hA 0 rfl rfl [0, 5, 6, 7, 1] [2, 3, 4, 8, 9] rfl rfl (by decide) (by decide) (by decide) rfl hl.1 rfl (Nat.le_of_ble_eq_true rfl) d_T_nearest_1 (fun r1 u9 H locs hr hP hD hS => ?_)
  obtain ⟨wm2, wM2, wS2⟩ := u9
  have hP : va_P D cls [(q, .inr (1, [.int (nI ws.length), .ref qm, .ref qs])), (qm, .inl (cB, 3600, .inl fM)), (qs, .inl (cI, 150, .inl fS)), (qb, .inl (cI, 25, .inl fb)), (qn, .inl (cI, 25, .inl fn)), (h, .inr (0, [.ref qt, .int (nI 0), .ref q, .ref qw, .ref qb, .ref qn])), (qw, .inr (1, [.int wm2, .ref vm, .ref vs])), (vm, .inl (cB, 3600, .inl wM2)), (vs, .inl (cI, 150, .inl wS2)), (qt, .inl (cB, 300, .inl T))] H := hP
  have hD : va_D A [(q, .inr (1, [.int (nI ws.length), .ref qm, .ref qs])), (qm, .inl (cB, 3600, .inl fM)), (qs, .inl (cI, 150, .inl fS)), (qb, .inl (cI, 25, .inl fb)), (qn, .inl (cI, 25, .inl fn)), (h, .inr (0, [.ref qt, .int (nI 0), .ref q, .ref qw, .ref qb, .ref qn])), (qw, .inr (1, [.int wm2, .ref vm, .ref vs])), (vm, .inl (cB, 3600, .inl wM2)), (vs, .inl (cI, 150, .inl wS2)), (qt, .inl (cB, 300, .inl T))] := hD
  rcases hr with ⟨rfl, haw, hR1⟩ | ⟨rfl, haw⟩
  · have hP : va_P D cls [(h, .inr (0, [.ref qt, .int (nI 0), .ref q, .ref qw, .ref qb, .ref qn])), (qt, .inl (cB, 300, .inl T)), (q, .inr (1, [.int (nI ws.length), .ref qm, .ref qs])), (qm, .inl (cB, 3600, .inl fM)), (qs, .inl (cI, 150, .inl fS)), (qw, .inr (1, [.int wm2, .ref vm, .ref vs])), (vm, .inl (cB, 3600, .inl wM2)), (vs, .inl (cI, 150, .inl wS2)), (qb, .inl (cI, 25, .inl fb)), (qn, .inl (cI, 25, .inl fn))] H := hP.sub [5, 9, 0, 1, 2, 6, 7, 8, 3, 4] rfl
    have hD : va_D A [(h, .inr (0, [.ref qt, .int (nI 0), .ref q, .ref qw, .ref qb, .ref qn])), (qt, .inl (cB, 300, .inl T)), (q, .inr (1, [.int (nI ws.length), .ref qm, .ref qs])), (qm, .inl (cB, 3600, .inl fM)), (qs, .inl (cI, 150, .inl fS)), (qw, .inr (1, [.int wm2, .ref vm, .ref vs])), (vm, .inl (cB, 3600, .inl wM2)), (vs, .inl (cI, 150, .inl wS2)), (qb, .inl (cI, 25, .inl fb)), (qn, .inl (cI, 25, .inl fn))] := hD.sub [5, 9, 0, 1, 2, 6, 7, 8, 3, 4] (by decide) rfl
    obtain ⟨hv0, hv1⟩ := Rep_one hR1
    refine n_if_ne X (by omega) d_T_nearest_4 rfl (fun h4 => ?_) (fun h4 => ?_)
    · refine lv_bipush (v := (-2)) hx hb d_T_nearest_9 kb_m2 ?_
      refine lv_istore_n hx hb d_T_nearest_11 rfl hl (by decide) rfl (fun ls hl => ?_)
      have hl : lv_has ls 5 [(1, .int (-2)), (0, .ref h)] := hl
      refine lv_bipush (v := (nI 25)) hx hb d_T_nearest_12 kb_25 ?_
      refine lv_istore_n hx hb d_T_nearest_14 rfl hl (by decide) rfl (fun ls hl => ?_)
      have hl : lv_has ls 5 [(2, .int (nI 25)), (1, .int (-2)), (0, .ref h)] := hl
      refine lv_iconst (v := (nI 0)) hx hb d_T_nearest_15 ki_0 ?_
      refine lv_istore_n hx hb d_T_nearest_16 rfl hl (by decide) rfl (fun ls hl => ?_)
      have hl : lv_has ls 5 [(3, .int (nI 0)), (2, .int (nI 25)), (1, .int (-2)), (0, .ref h)] := hl
      have loop : ∀ (d9 : Nat) (k : Nat) (lb : Nat) (best : Int32) (pb : Nat) (pn : Nat) (fb : Nat → Int32) (fn : Nat → Int32), ws.length - k = d9 → (k ≤ ws.length) → (lb = (nst ws (stem (wf T 0) n) k).1) → (best = (nst ws (stem (wf T 0) n) k).2) → ∀ (H : Heap) (locs : List Loc) (ls : Array Slot), lv_has ls 5 [(3, .int (nI k)), (2, .int (nI lb)), (1, .int best), (0, .ref h)] → va_P D cls [(h, .inr (0, [.ref qt, .int (nI 0), .ref q, .ref qw, .ref pb, .ref pn])), (qt, .inl (cB, 300, .inl T)), (q, .inr (1, [.int (nI ws.length), .ref qm, .ref qs])), (qm, .inl (cB, 3600, .inl fM)), (qs, .inl (cI, 150, .inl fS)), (qw, .inr (1, [.int wm2, .ref vm, .ref vs])), (vm, .inl (cB, 3600, .inl wM2)), (vs, .inl (cI, 150, .inl wS2)), (pb, .inl (cI, 25, .inl fb)), (pn, .inl (cI, 25, .inl fn))] H → va_D A [(h, .inr (0, [.ref qt, .int (nI 0), .ref q, .ref qw, .ref pb, .ref pn])), (qt, .inl (cB, 300, .inl T)), (q, .inr (1, [.int (nI ws.length), .ref qm, .ref qs])), (qm, .inl (cB, 3600, .inl fM)), (qs, .inl (cI, 150, .inl fS)), (qw, .inr (1, [.int wm2, .ref vm, .ref vs])), (vm, .inl (cB, 3600, .inl wM2)), (vs, .inl (cI, 150, .inl wS2)), (pb, .inl (cI, 25, .inl fb)), (pn, .inl (cI, 25, .inl fn))] → va_S A s.heap H locs → W p l e (rmd 5) s m args below meth c H locs 0 0 Q (F0 m 17 ls []) := by
        intro d9
        induction d9 using Nat.strongRecOn with
        | _ d9 ih_loop =>
        intro k lb best pb pn fb fn hd hk h1 h2 H locs ls hl hP hD hS
        have hle := nst_le ws (stem (wf T 0) n) k
        refine lv_iload_n hx hb d_T_nearest_17 rfl (lv_at hl 0 rfl) ?_
        refine lv_aload_n hx hb d_T_nearest_18 rfl (lv_at hl 3 rfl) ?_
        refine gf_T_16 X hP 0 rfl d_T_nearest_19 ?_
        refine gf_T_45 X hP 2 rfl d_T_nearest_22 ?_
        refine n_icmp_ge X (by omega) (by omega) d_T_nearest_25 rfl (fun h25 => ?_) (fun h25 => ?_)
        · refine lv_iload_n hx hb d_T_nearest_74 rfl (lv_at hl 2 rfl) ?_
          exact hret _ (wm2, wM2, wS2, pb, pn, fb, fn) _ _ _ _ (by rw [h2, show k = ws.length by omega]; exact near_y haw) rfl hP hD hS d_T_nearest_75
        · have ha4 := (hR k h25).2.1
          refine lv_aload_n hx hb d_T_nearest_28 rfl (lv_at hl 3 rfl) ?_
          refine lv_aload_n hx hb d_T_nearest_29 rfl (lv_at hl 3 rfl) ?_
          refine gf_T_16 X hP 0 rfl d_T_nearest_30 ?_
          refine gf_T_51 X hP 2 rfl d_T_nearest_33 ?_
          refine lv_bipush (v := (nI 24)) hx hb d_T_nearest_36 kb_24 ?_
          refine lv_iload_n hx hb d_T_nearest_38 rfl (lv_at hl 0 rfl) ?_
          refine n_imul X d_T_nearest_39 ?_
          refine lv_aload_n hx hb d_T_nearest_40 rfl (lv_at hl 3 rfl) ?_
          refine gf_T_16 X hP 0 rfl d_T_nearest_41 ?_
          refine gf_T_48 X hP 2 rfl d_T_nearest_44 ?_
          refine lv_iload_n hx hb d_T_nearest_47 rfl (lv_at hl 0 rfl) ?_
          refine n_iald X hP 4 rfl (by omega) (by decide) d_T_nearest_48 ?_
          refine W.top (y := (nI ((wd ws k).length))) ((hR k h25).1) ?_
          refine cI_V (rest := []) (wr := [(qt, .inl (cB, 300, .inl T)), (q, .inr (1, [.int (nI ws.length), .ref qm, .ref qs])), (qs, .inl (cI, 150, .inl fS))]) X st_T_86 tw1_136 tw0_1 (c_Tdistance l D cB cI h qt q qw pb pn vm vs qm (nI 0) wm2 wM2 wS2 fM fb fn (wd ws k) (stem (wf T 0) n) (24 * k) (hR k h25).2.2 (by omega) (by omega) (stem_le _ _) hv0 hv1) (rok (by decide)) hP hD hS hA 0 rfl rfl [0, 5, 6, 7, 8, 9, 3] [1, 2, 4] rfl rfl (by decide) (by decide) (by decide) rfl hl.1 rfl (Nat.le_of_ble_eq_true rfl) d_T_nearest_49 (fun r49 u9 H locs hd hP hD hS => ?_)
          obtain ⟨b2, n2, fb2, fn2⟩ := u9
          have hP : va_P D cls [(qt, .inl (cB, 300, .inl T)), (q, .inr (1, [.int (nI ws.length), .ref qm, .ref qs])), (qs, .inl (cI, 150, .inl fS)), (h, .inr (0, [.ref qt, .int (nI 0), .ref q, .ref qw, .ref b2, .ref n2])), (qw, .inr (1, [.int wm2, .ref vm, .ref vs])), (vm, .inl (cB, 3600, .inl wM2)), (vs, .inl (cI, 150, .inl wS2)), (b2, .inl (cI, 25, .inl fb2)), (n2, .inl (cI, 25, .inl fn2)), (qm, .inl (cB, 3600, .inl fM))] H := hP
          have hD : va_D A [(qt, .inl (cB, 300, .inl T)), (q, .inr (1, [.int (nI ws.length), .ref qm, .ref qs])), (qs, .inl (cI, 150, .inl fS)), (h, .inr (0, [.ref qt, .int (nI 0), .ref q, .ref qw, .ref b2, .ref n2])), (qw, .inr (1, [.int wm2, .ref vm, .ref vs])), (vm, .inl (cB, 3600, .inl wM2)), (vs, .inl (cI, 150, .inl wS2)), (b2, .inl (cI, 25, .inl fb2)), (n2, .inl (cI, 25, .inl fn2)), (qm, .inl (cB, 3600, .inl fM))] := hD
          have hP : va_P D cls [(h, .inr (0, [.ref qt, .int (nI 0), .ref q, .ref qw, .ref b2, .ref n2])), (qt, .inl (cB, 300, .inl T)), (q, .inr (1, [.int (nI ws.length), .ref qm, .ref qs])), (qm, .inl (cB, 3600, .inl fM)), (qs, .inl (cI, 150, .inl fS)), (qw, .inr (1, [.int wm2, .ref vm, .ref vs])), (vm, .inl (cB, 3600, .inl wM2)), (vs, .inl (cI, 150, .inl wS2)), (b2, .inl (cI, 25, .inl fb2)), (n2, .inl (cI, 25, .inl fn2))] H := hP.sub [3, 0, 1, 9, 2, 4, 5, 6, 7, 8] rfl
          have hD : va_D A [(h, .inr (0, [.ref qt, .int (nI 0), .ref q, .ref qw, .ref b2, .ref n2])), (qt, .inl (cB, 300, .inl T)), (q, .inr (1, [.int (nI ws.length), .ref qm, .ref qs])), (qm, .inl (cB, 3600, .inl fM)), (qs, .inl (cI, 150, .inl fS)), (qw, .inr (1, [.int wm2, .ref vm, .ref vs])), (vm, .inl (cB, 3600, .inl wM2)), (vs, .inl (cI, 150, .inl wS2)), (b2, .inl (cI, 25, .inl fb2)), (n2, .inl (cI, 25, .inl fn2))] := hD.sub [3, 0, 1, 9, 2, 4, 5, 6, 7, 8] (by decide) rfl
          subst hd
          have hl4 := levW_le ha4 (stem_le (wf T 0) n)
          refine lv_istore hx hb d_T_nearest_52 hl (by decide) rfl (fun ls hl => ?_)
          have hl : lv_has ls 5 [(4, .int (nI (levW (wd ws k) (stem (wf T 0) n)))), (3, .int (nI k)), (2, .int (nI lb)), (1, .int best), (0, .ref h)] := hl
          refine lv_iload hx hb d_T_nearest_54 (lv_at hl 0 rfl) ?_
          refine lv_iload_n hx hb d_T_nearest_56 rfl (lv_at hl 2 rfl) ?_
          refine n_icmp_lt X (by omega) (by omega) d_T_nearest_57 rfl (fun h57 => ?_) (fun h57 => ?_)
          · refine lv_iload hx hb d_T_nearest_63 (lv_at hl 0 rfl) ?_
            refine lv_istore_n hx hb d_T_nearest_65 rfl hl (by decide) rfl (fun ls hl => ?_)
            have hl : lv_has ls 5 [(2, .int (nI (levW (wd ws k) (stem (wf T 0) n)))), (4, .int (nI (levW (wd ws k) (stem (wf T 0) n)))), (3, .int (nI k)), (1, .int best), (0, .ref h)] := hl
            refine lv_iload_n hx hb d_T_nearest_66 rfl (lv_at hl 2 rfl) ?_
            refine lv_istore_n hx hb d_T_nearest_67 rfl hl (by decide) rfl (fun ls hl => ?_)
            have hl : lv_has ls 5 [(1, .int (nI k)), (2, .int (nI (levW (wd ws k) (stem (wf T 0) n)))), (4, .int (nI (levW (wd ws k) (stem (wf T 0) n)))), (3, .int (nI k)), (0, .ref h)] := hl
            refine lv_iinc hx hb d_T_nearest_68 hl (k := 3) rfl (v := (nI (k + 1))) (n_inc _ 1) (by decide) rfl (fun ls hl => ?_)
            have hl : lv_has ls 5 [(3, .int (nI (k + 1))), (1, .int (nI k)), (2, .int (nI (levW (wd ws k) (stem (wf T 0) n)))), (4, .int (nI (levW (wd ws k) (stem (wf T 0) n)))), (0, .ref h)] := hl
            refine lv_goto hx hb d_T_nearest_71 rfl ?_
            exact ih_loop _ (by omega) (k + 1) (levW (wd ws k) (stem (wf T 0) n)) (nI k) b2 n2 fb2 fn2 rfl (by omega) (by rw [nst_take (by omega)]) (by rw [nst_take (by omega)]) _ _ _ (lv_sub hl [0, 2, 1, 4] rfl) hP hD hS
          · refine lv_goto hx hb d_T_nearest_60 rfl ?_
            refine lv_iinc hx hb d_T_nearest_68 hl (k := 1) rfl (v := (nI (k + 1))) (n_inc _ 1) (by decide) rfl (fun ls hl => ?_)
            have hl : lv_has ls 5 [(3, .int (nI (k + 1))), (4, .int (nI (levW (wd ws k) (stem (wf T 0) n)))), (2, .int (nI lb)), (1, .int best), (0, .ref h)] := hl
            refine lv_goto hx hb d_T_nearest_71 rfl ?_
            exact ih_loop _ (by omega) (k + 1) lb best b2 n2 fb2 fn2 rfl (by omega) (by rw [nst_keep (by omega)]; exact h1) (by rw [nst_keep (by omega)]; exact h2) _ _ _ (lv_sub hl [0, 2, 3, 4] rfl) hP hD hS
      exact loop _ 0 25 (-2) qb qn fb fn rfl (Nat.zero_le _) (rfl) (rfl) _ _ _ hl hP hD hS
    · exact False.elim (by omega)
  · have hP : va_P D cls [(h, .inr (0, [.ref qt, .int (nI 0), .ref q, .ref qw, .ref qb, .ref qn])), (qt, .inl (cB, 300, .inl T)), (q, .inr (1, [.int (nI ws.length), .ref qm, .ref qs])), (qm, .inl (cB, 3600, .inl fM)), (qs, .inl (cI, 150, .inl fS)), (qw, .inr (1, [.int wm2, .ref vm, .ref vs])), (vm, .inl (cB, 3600, .inl wM2)), (vs, .inl (cI, 150, .inl wS2)), (qb, .inl (cI, 25, .inl fb)), (qn, .inl (cI, 25, .inl fn))] H := hP.sub [5, 9, 0, 1, 2, 6, 7, 8, 3, 4] rfl
    have hD : va_D A [(h, .inr (0, [.ref qt, .int (nI 0), .ref q, .ref qw, .ref qb, .ref qn])), (qt, .inl (cB, 300, .inl T)), (q, .inr (1, [.int (nI ws.length), .ref qm, .ref qs])), (qm, .inl (cB, 3600, .inl fM)), (qs, .inl (cI, 150, .inl fS)), (qw, .inr (1, [.int wm2, .ref vm, .ref vs])), (vm, .inl (cB, 3600, .inl wM2)), (vs, .inl (cI, 150, .inl wS2)), (qb, .inl (cI, 25, .inl fb)), (qn, .inl (cI, 25, .inl fn))] := hD.sub [5, 9, 0, 1, 2, 6, 7, 8, 3, 4] (by decide) rfl
    refine n_if_ne X (by omega) d_T_nearest_4 rfl (fun h4 => ?_) (fun h4 => ?_)
    · exact False.elim (by omega)
    · refine lv_iconst (v := (-1)) hx hb d_T_nearest_7 ki_m1 ?_
      exact hret _ (wm2, wM2, wS2, qb, qn, fb, fn) _ _ _ _ (near_n haw) rfl hP hD hS d_T_nearest_8

set_option maxHeartbeats 4000000 in
set_option maxRecDepth 100000 in
theorem c_Tplain (l : Launch) (D : va_G) (cB cI : ClassId) (h qt q qw qb qn : Nat) (qm qs n : Nat) (fM fS T : Nat → Int32) (ws : List (List Nat)) (hR : Rep ws fS fM) (hc : ws.length ≤ 150) (hn : n ≤ 300) : CtI (S := (Nat → Int32) × (Nat → Int32)) l y_T_plain b_T_plain 3 (some .int) 3 D cB cI [.ref h] [(h, .inr (0, [.ref qt, .int (nI n), .ref q, .ref qw, .ref qb, .ref qn])), (q, .inr (1, [.int (nI ws.length), .ref qm, .ref qs])), (qm, .inl (cB, 3600, .inl fM)), (qs, .inl (cI, 150, .inl fS)), (qt, .inl (cB, 300, .inl T))] (fun r u => r = plainA ws T n ∧ Rep (plainS ws T n) u.2 u.1) (fun u => [(h, .inr (0, [.ref qt, .int (nI 0), .ref q, .ref qw, .ref qb, .ref qn])), (q, .inr (1, [.int (nI ((plainS ws T n).length)), .ref qm, .ref qs])), (qm, .inl (cB, 3600, .inl u.1)), (qs, .inl (cI, 150, .inl u.2)), (qt, .inl (cB, 300, .inl T))]) := by
  refine CtI.mk (own := R_T) (by decide) rfl (Nat.le_of_ble_eq_true rfl) ?_
  intro p e s m args below meth c A Q ls X hP hD hS hA hl hret
  have hx := X.1
  have hb := X.2.1
  have hl : lv_has ls 3 [(0, .ref h)] := hl
  refine lv_aload_n hx hb d_T_plain_0 rfl (lv_at hl 0 rfl) ?_
  refine gf_T_30 X hP 0 rfl d_T_plain_1 ?_
  refine lv_istore_n hx hb d_T_plain_4 rfl hl (by decide) rfl (fun ls hl => ?_)
  have hl : lv_has ls 3 [(1, .int (nI n)), (0, .ref h)] := hl
  refine lv_aload_n hx hb d_T_plain_5 rfl (lv_at hl 1 rfl) ?_
  refine lv_iconst (v := (nI 0)) hx hb d_T_plain_6 ki_0 ?_
  refine pf_T_30 X hP hD hS 0 rfl d_T_plain_7 (fun H locs hP hD hS => ?_)
  have hP : va_P D cls [(h, .inr (0, [.ref qt, .int (nI 0), .ref q, .ref qw, .ref qb, .ref qn])), (q, .inr (1, [.int (nI ws.length), .ref qm, .ref qs])), (qm, .inl (cB, 3600, .inl fM)), (qs, .inl (cI, 150, .inl fS)), (qt, .inl (cB, 300, .inl T))] H := hP
  have hD : va_D A [(h, .inr (0, [.ref qt, .int (nI 0), .ref q, .ref qw, .ref qb, .ref qn])), (q, .inr (1, [.int (nI ws.length), .ref qm, .ref qs])), (qm, .inl (cB, 3600, .inl fM)), (qs, .inl (cI, 150, .inl fS)), (qt, .inl (cB, 300, .inl T))] := hD
  refine lv_iload_n hx hb d_T_plain_10 rfl (lv_at hl 0 rfl) ?_
  refine n_if_eq X (by omega) d_T_plain_11 rfl (fun h11 => ?_) (fun h11 => ?_)
  · refine lv_iconst (v := (-1)) hx hb d_T_plain_27 ki_m1 ?_
    have h0 : aw T n = false := by rw [h11]; exact aw_0
    obtain ⟨hp1, hp2⟩ := plain_n (ws := ws) (T := T) (n := n) (Or.inl h0)
    have hp3 : ws.length = (plainS ws T n).length := congrArg List.length hp2
    rw [hp3] at hP hD
    exact hret _ (fM, fS) _ _ _ _ (⟨hp1, by rw [← hp2]; exact hR⟩) rfl hP hD hS d_T_plain_28
  · refine lv_aload_n hx hb d_T_plain_14 rfl (lv_at hl 1 rfl) ?_
    refine gf_T_16 X hP 0 rfl d_T_plain_15 ?_
    refine gf_T_45 X hP 1 rfl d_T_plain_18 ?_
    refine lv_sipush (v := (nI 150)) hx hb d_T_plain_21 ks_150 ?_
    refine n_icmp_ne X (by omega) (by omega) d_T_plain_24 rfl (fun h24 => ?_) (fun h24 => ?_)
    · refine lv_iconst (v := (nI 0)) hx hb d_T_plain_29 ki_0 ?_
      refine lv_istore_n hx hb d_T_plain_30 rfl hl (by decide) rfl (fun ls hl => ?_)
      have hl : lv_has ls 3 [(2, .int (nI 0)), (1, .int (nI n)), (0, .ref h)] := hl
      have loop : ∀ (d9 : Nat) (k : Nat), n - k = d9 → (k ≤ n) → (∀ j, j < k → sg (T j) = true) → ∀ (H : Heap) (locs : List Loc) (ls : Array Slot), lv_has ls 3 [(2, .int (nI k)), (1, .int (nI n)), (0, .ref h)] → va_P D cls [(h, .inr (0, [.ref qt, .int (nI 0), .ref q, .ref qw, .ref qb, .ref qn])), (q, .inr (1, [.int (nI ws.length), .ref qm, .ref qs])), (qm, .inl (cB, 3600, .inl fM)), (qs, .inl (cI, 150, .inl fS)), (qt, .inl (cB, 300, .inl T))] H → va_D A [(h, .inr (0, [.ref qt, .int (nI 0), .ref q, .ref qw, .ref qb, .ref qn])), (q, .inr (1, [.int (nI ws.length), .ref qm, .ref qs])), (qm, .inl (cB, 3600, .inl fM)), (qs, .inl (cI, 150, .inl fS)), (qt, .inl (cB, 300, .inl T))] → va_S A s.heap H locs → W p l e (rmd 3) s m args below meth c H locs 0 0 Q (F0 m 31 ls []) := by
        intro d9
        induction d9 using Nat.strongRecOn with
        | _ d9 ih_loop =>
        intro k hd hk hs H locs ls hl hP hD hS
        refine lv_iload_n hx hb d_T_plain_31 rfl (lv_at hl 0 rfl) ?_
        refine lv_iload_n hx hb d_T_plain_32 rfl (lv_at hl 1 rfl) ?_
        refine n_icmp_ge X (by omega) (by omega) d_T_plain_33 rfl (fun h33 => ?_) (fun h33 => ?_)
        · have haw : aw T n = true := aw_t (by omega) (fun j hj => hs j (by omega))
          obtain ⟨hp1, hp2⟩ := plain_y haw h24
          refine lv_aload_n hx hb d_T_plain_56 rfl (lv_at hl 2 rfl) ?_
          refine gf_T_16 X hP 0 rfl d_T_plain_57 ?_
          refine lv_aload_n hx hb d_T_plain_60 rfl (lv_at hl 2 rfl) ?_
          refine gf_T_9 X hP 0 rfl d_T_plain_61 ?_
          refine lv_iconst (v := (nI 0)) hx hb d_T_plain_64 ki_0 ?_
          refine lv_iload_n hx hb d_T_plain_65 rfl (lv_at hl 1 rfl) ?_
          refine cV_V (rest := []) (wr := [(h, .inr (0, [.ref qt, .int (nI 0), .ref q, .ref qw, .ref qb, .ref qn]))]) X st_T_90 tw1_148 tw1_149 (c_takePlain l D cB cI q qm qs qt fM fS T ws hR (by omega) 0 n (by omega) hn (fun j _ b => hs j (by omega))) (rok (by decide)) hP hD hS hA 1 rfl rfl [1, 2, 3, 4] [0] rfl rfl (by decide) (by decide) (by decide) rfl hl.1 rfl (Nat.le_of_ble_eq_true rfl) d_T_plain_66 (fun u9 H locs hr hP hD hS => ?_)
          obtain ⟨gM, gS⟩ := u9
          have hP : va_P D cls [(h, .inr (0, [.ref qt, .int (nI 0), .ref q, .ref qw, .ref qb, .ref qn])), (q, .inr (1, [.int (nI (ws.length + 1)), .ref qm, .ref qs])), (qm, .inl (cB, 3600, .inl gM)), (qs, .inl (cI, 150, .inl gS)), (qt, .inl (cB, 300, .inl T))] H := hP
          have hD : va_D A [(h, .inr (0, [.ref qt, .int (nI 0), .ref q, .ref qw, .ref qb, .ref qn])), (q, .inr (1, [.int (nI (ws.length + 1)), .ref qm, .ref qs])), (qm, .inl (cB, 3600, .inl gM)), (qs, .inl (cI, 150, .inl gS)), (qt, .inl (cB, 300, .inl T))] := hD
          have hp3 : ws.length + 1 = (plainS ws T n).length := by rw [← hp2]; simp
          refine lv_aload_n hx hb d_T_plain_69 rfl (lv_at hl 2 rfl) ?_
          refine gf_T_16 X hP 0 rfl d_T_plain_70 ?_
          refine gf_T_45 X hP 1 rfl d_T_plain_73 ?_
          rw [hp3] at hP hD
          exact hret _ (gM, gS) _ _ _ _ (⟨hp1, by rw [← hp2]; exact hr⟩) rfl hP hD hS d_T_plain_76
        · refine lv_aload_n hx hb d_T_plain_36 rfl (lv_at hl 2 rfl) ?_
          refine gf_T_9 X hP 0 rfl d_T_plain_37 ?_
          refine lv_iload_n hx hb d_T_plain_40 rfl (lv_at hl 0 rfl) ?_
          refine n_bald X hP 4 rfl (by omega) (by decide) d_T_plain_41 ?_
          refine cP_S (rest := []) X st_T_72 tw1_77 (c_isSign l D cB cI (T k)) (rok (by decide)) hP [] rfl rfl hl.1 rfl (Nat.le_of_ble_eq_true rfl) d_T_plain_42 (fun r42 hr => ?_)
          rcases hr with ⟨rfl, he⟩ | ⟨rfl, he⟩
          · refine n_if_ne X (by omega) d_T_plain_45 rfl (fun h45 => ?_) (fun h45 => ?_)
            · refine lv_iinc hx hb d_T_plain_50 hl (k := 0) rfl (v := (nI (k + 1))) (n_inc _ 1) (by decide) rfl (fun ls hl => ?_)
              have hl : lv_has ls 3 [(2, .int (nI (k + 1))), (1, .int (nI n)), (0, .ref h)] := hl
              refine lv_goto hx hb d_T_plain_53 rfl ?_
              exact ih_loop _ (by omega) (k + 1) rfl (by omega) (fun j b => (Nat.lt_or_ge j k).elim (hs j) (fun h9 => by rw [show j = k by omega]; exact he)) _ _ _ hl hP hD hS
            · exact False.elim (by omega)
          · refine n_if_ne X (by omega) d_T_plain_45 rfl (fun h45 => ?_) (fun h45 => ?_)
            · exact False.elim (by omega)
            · refine lv_iconst (v := (-1)) hx hb d_T_plain_48 ki_m1 ?_
              obtain ⟨hp1, hp2⟩ := plain_n (ws := ws) (T := T) (n := n) (Or.inl (aw_f h33 he))
              have hp3 : ws.length = (plainS ws T n).length := congrArg List.length hp2
              rw [hp3] at hP hD
              exact hret _ (fM, fS) _ _ _ _ (⟨hp1, by rw [← hp2]; exact hR⟩) rfl hP hD hS d_T_plain_49
      exact loop _ 0 rfl (Nat.zero_le _) (fun t h => absurd h (Nat.not_lt_zero _)) _ _ _ hl hP hD hS
    · refine lv_iconst (v := (-1)) hx hb d_T_plain_27 ki_m1 ?_
      obtain ⟨hp1, hp2⟩ := plain_n (ws := ws) (T := T) (n := n) (Or.inr h24)
      have hp3 : ws.length = (plainS ws T n).length := congrArg List.length hp2
      rw [hp3] at hP hD
      exact hret _ (fM, fS) _ _ _ _ (⟨hp1, by rw [← hp2]; exact hR⟩) rfl hP hD hS d_T_plain_28
end
section
-- more of the plain law, for the reference
/-- a word was written at place a -/
def NoteR (fM fS : Nat → Int32) (a : Nat) (w : List Nat) (gM gS : Nat → Int32) : Prop := (∀ j, j < 24 * a → gM j = fM j) ∧ (∀ j, j ≠ a → gS j = fS j) ∧ gS a = nI w.length ∧ ∀ i, i < w.length → gM (24 * a + i) = nI (w.getD i 0)
theorem note_ok {fM fS gM : Nat → Int32} {a n : Nat} {c : Nat → Nat} (h1 : ∀ j, j < 24 * a → gM j = fM j) (h2 : ∀ t, t < n → gM (24 * a + t) = nI (c t)) : NoteR fM fS a ((List.range n).map c) gM (upd fS a (nI n)) := by
  refine ⟨h1, fun j hj => upd_n hj, by rw [upd_s, mr_len], fun i hi => ?_⟩
  rw [mr_len] at hi
  rw [mr_get _ hi]; exact h2 i hi
theorem Rep_noteP {ws : List (List Nat)} {w : List Nat} {fS fM gS gM : Nat → Int32} (h : Rep ws fS fM) (hw : w.length ≤ 24) (hc : ∀ i, i < w.length → w.getD i 0 < 128) (hN : NoteR fM fS ws.length w gM gS) : Rep (ws ++ [w]) gS gM :=
  Rep_push h hw hc (fun j hj => hN.2.1 j (by omega)) hN.2.2.1 hN.1 hN.2.2.2
theorem Rep_note {ws : List (List Nat)} {w : List Nat} {fS fM gS gM : Nat → Int32} (h : Rep ws fS fM) (hl : ws.length ≤ 150) (hN : NoteR fM fS 150 w gM gS) : Rep ws gS gM := by
  intro k hk
  obtain ⟨h1, h2, h3⟩ := h k hk
  refine ⟨(hN.2.1 k (by omega)).trans h1, h2, fun i hi => ?_⟩
  rw [hN.1 _ (by omega)]; exact h3 i hi
theorem stem_lt {f : Nat → Nat} {n : Nat} (h : ∀ i, i < n → f i < 128) {i : Nat} (hi : i < (stem f n).length) : (stem f n).getD i 0 < 128 := by
  rw [stem_len] at hi
  have := kl_le f n
  rw [stem_get f hi]; exact kc_lt h (by omega)
theorem plain_lt {f : Nat → Nat} {n : Nat} (h : ∀ i, i < n → f i < 128) {i : Nat} (hi : i < (plainW f n).length) : (plainW f n).getD i 0 < 128 := by
  rw [plain_len] at hi
  rw [plain_get f hi]; exact h i (by omega)
theorem plain_le (f : Nat → Nat) (n : Nat) : (plainW f n).length ≤ 24 := by rw [plain_len]; omega
theorem tab_put {g : Nat → Int32} {x w : List Nat} {i j m : Nat} (hm : m ≤ 24) (h1 : ∀ s t, s < i → t ≤ m → g (25 * s + t) = nI (lw x w s t)) (h2 : ∀ t, t < j → g (25 * i + t) = nI (lw x w i t)) (hj : j ≤ m) : (∀ s t, s < i → t ≤ m → upd g (25 * i + j) (nI (lw x w i j)) (25 * s + t) = nI (lw x w s t)) ∧ ∀ t, t < j + 1 → upd g (25 * i + j) (nI (lw x w i j)) (25 * i + t) = nI (lw x w i t) := by
  refine ⟨fun s t hs ht => ?_, fun t ht => ?_⟩
  · rw [upd_n (by omega)]; exact h1 s t hs ht
  · rcases Nat.lt_or_ge t j with h | h
    · rw [upd_n (by omega)]; exact h2 t h
    · rw [show t = j by omega, upd_s]
theorem tab_row {g : Nat → Int32} {x w : List Nat} {i j m : Nat} (h1 : ∀ s t, s < i → t ≤ m → g (25 * s + t) = nI (lw x w s t)) (h2 : ∀ t, t < j → g (25 * i + t) = nI (lw x w i t)) (hj : m < j) : ∀ s t, s < i + 1 → t ≤ m → g (25 * s + t) = nI (lw x w s t) := by
  intro s t hs ht
  rcases Nat.lt_or_ge s i with h | h
  · exact h1 s t h ht
  · rw [show s = i by omega]; exact h2 t (by omega)
theorem lw_p {x w : List Nat} {i j s : Nat} (hi : 0 < i) (hj : 0 < j) (hs : s = if x.getD (i - 1) 0 = w.getD (j - 1) 0 then 0 else 1) : lw x w i j = min (lw x w (i - 1) (j - 1) + s) (1 + min (lw x w (i - 1) j) (lw x w i (j - 1))) := by
  obtain ⟨a, rfl⟩ : ∃ a, i = a + 1 := ⟨i - 1, by omega⟩
  obtain ⟨b, rfl⟩ : ∃ b, j = b + 1 := ⟨j - 1, by omega⟩
  rw [hs, lw_s]; rfl
theorem ies_put {fW : Nat → Int32} {f : Nat → Nat} {n : Nat} (h : isIes f n = true) (hf : ∀ i, i < n → fW i = nI (f i) ∧ f i < 128) : ∀ i, i < n - 2 → upd fW (n - 3) (nI 121) i = nI (kc f n i) ∧ kc f n i < 128 := by
  intro i hi
  refine ⟨?_, kc_lt (fun i hi => (hf i hi).2) (by omega)⟩
  by_cases e : i = n - 3
  · rw [e, upd_s, kc_y h]
  · rw [upd_n e, kc_no (fun _ => e)]; exact (hf i (by omega)).1
theorem kc_f {fW : Nat → Int32} {f : Nat → Nat} {n : Nat} (h : isIes f n = false) (hf : ∀ i, i < n → fW i = nI (f i) ∧ f i < 128) : ∀ i, i < n → fW i = nI (kc f n i) ∧ kc f n i < 128 := by
  intro i hi
  rw [kc_no (fun q => by rw [h] at q; cases q)]
  exact hf i hi
-- methods that change cells: the reference (gen/mmut.py)
set_option maxHeartbeats 4000000 in
set_option maxRecDepth 100000 in
theorem c_Mput (l : Launch) (D : va_G) (cB cI : ClassId) (g gt gm gs gw gb : Nat) (n : Nat) (cn wl : Int32) (T : Nat → Int32) (v : Int32) (hn : n + 4 ≤ 300) : CtV (S := Unit) l y_M_put b_M_put 3 0 D cB cI [.ref g, .int v] [(g, .inr (2, [.ref gt, .int (nI n), .ref gm, .ref gs, .int cn, .ref gw, .int wl, .ref gb])), (gt, .inl (cB, 300, .inl T))] (fun _ => True) (fun _ => [(g, .inr (2, [.ref gt, .int (nI (n + 4)), .ref gm, .ref gs, .int cn, .ref gw, .int wl, .ref gb])), (gt, .inl (cB, 300, .inl (pt T n v)))]) := by
  refine CtV.mk (own := R_M) (by decide) rfl (Nat.le_of_ble_eq_true rfl) ?_
  intro p e s m args below meth c A Q ls X hP hD hS hA hl hret
  have hx := X.1
  have hb := X.2.1
  have hl : lv_has ls 3 [(0, .ref g), (1, .int v)] := hl
  refine lv_bipush (v := (nI 24)) hx hb d_M_put_0 kb_24 ?_
  refine lv_istore_n hx hb d_M_put_2 rfl hl (by decide) rfl (fun ls hl => ?_)
  have hl : lv_has ls 3 [(2, .int (nI 24)), (0, .ref g), (1, .int v)] := hl
  refine lv_iload_n hx hb d_M_put_3 rfl (lv_at hl 0 rfl) ?_
  refine n_if_lt X (by omega) d_M_put_4 rfl (fun h4 => ?_) (fun h4 => ?_)
  · exact False.elim (by omega)
  · refine lv_aload_n hx hb d_M_put_7 rfl (lv_at hl 1 rfl) ?_
    refine gf_M_9 X hP 0 rfl d_M_put_8 ?_
    refine lv_aload_n hx hb d_M_put_11 rfl (lv_at hl 1 rfl) ?_
    refine gf_M_26 X hP 0 rfl d_M_put_12 ?_
    refine lv_iload_n hx hb d_M_put_15 rfl (lv_at hl 2 rfl) ?_
    refine lv_iload_n hx hb d_M_put_16 rfl (lv_at hl 0 rfl) ?_
    refine lv_ishr hx hb d_M_put_17 ?_
    refine lv_i2b hx hb d_M_put_18 (v := ((v >>> ((nI 24) &&& 31)).toInt8.toInt32)) (rfl) ?_
    refine n_bast X hP hD hS 1 rfl (by omega) (by decide) (n_b2 _) d_M_put_19 (fun H locs hP hD hS => ?_)
    have hP : va_P D cls [(g, .inr (2, [.ref gt, .int (nI n), .ref gm, .ref gs, .int cn, .ref gw, .int wl, .ref gb])), (gt, .inl (cB, 300, .inl (upd T n ((v >>> ((nI 24) &&& 31)).toInt8.toInt32))))] H := hP
    have hD : va_D A [(g, .inr (2, [.ref gt, .int (nI n), .ref gm, .ref gs, .int cn, .ref gw, .int wl, .ref gb])), (gt, .inl (cB, 300, .inl (upd T n ((v >>> ((nI 24) &&& 31)).toInt8.toInt32))))] := hD
    refine lv_aload_n hx hb d_M_put_20 rfl (lv_at hl 1 rfl) ?_
    refine lv_dup hx hb d_M_put_21 rfl ?_
    refine gf_M_26 X hP 0 rfl d_M_put_22 ?_
    refine lv_iconst (v := (nI 1)) hx hb d_M_put_25 ki_1 ?_
    refine n_iadd X d_M_put_26 ?_
    refine pf_M_26 X hP hD hS 0 rfl d_M_put_27 (fun H locs hP hD hS => ?_)
    have hP : va_P D cls [(g, .inr (2, [.ref gt, .int (nI (n + 1)), .ref gm, .ref gs, .int cn, .ref gw, .int wl, .ref gb])), (gt, .inl (cB, 300, .inl (upd T n ((v >>> ((nI 24) &&& 31)).toInt8.toInt32))))] H := hP
    have hD : va_D A [(g, .inr (2, [.ref gt, .int (nI (n + 1)), .ref gm, .ref gs, .int cn, .ref gw, .int wl, .ref gb])), (gt, .inl (cB, 300, .inl (upd T n ((v >>> ((nI 24) &&& 31)).toInt8.toInt32))))] := hD
    refine lv_iinc hx hb d_M_put_30 hl (k := 0) rfl (v := (nI 16)) (by decide) (by decide) rfl (fun ls hl => ?_)
    have hl : lv_has ls 3 [(2, .int (nI 16)), (0, .ref g), (1, .int v)] := hl
    refine lv_goto hx hb d_M_put_33 rfl ?_
    refine lv_iload_n hx hb d_M_put_3 rfl (lv_at hl 0 rfl) ?_
    refine n_if_lt X (by omega) d_M_put_4 rfl (fun h4 => ?_) (fun h4 => ?_)
    · exact False.elim (by omega)
    · refine lv_aload_n hx hb d_M_put_7 rfl (lv_at hl 1 rfl) ?_
      refine gf_M_9 X hP 0 rfl d_M_put_8 ?_
      refine lv_aload_n hx hb d_M_put_11 rfl (lv_at hl 1 rfl) ?_
      refine gf_M_26 X hP 0 rfl d_M_put_12 ?_
      refine lv_iload_n hx hb d_M_put_15 rfl (lv_at hl 2 rfl) ?_
      refine lv_iload_n hx hb d_M_put_16 rfl (lv_at hl 0 rfl) ?_
      refine lv_ishr hx hb d_M_put_17 ?_
      refine lv_i2b hx hb d_M_put_18 (v := ((v >>> ((nI 16) &&& 31)).toInt8.toInt32)) (rfl) ?_
      refine n_bast X hP hD hS 1 rfl (by omega) (by decide) (n_b2 _) d_M_put_19 (fun H locs hP hD hS => ?_)
      have hP : va_P D cls [(g, .inr (2, [.ref gt, .int (nI (n + 1)), .ref gm, .ref gs, .int cn, .ref gw, .int wl, .ref gb])), (gt, .inl (cB, 300, .inl (upd (upd T n ((v >>> ((nI 24) &&& 31)).toInt8.toInt32)) (n + 1) ((v >>> ((nI 16) &&& 31)).toInt8.toInt32))))] H := hP
      have hD : va_D A [(g, .inr (2, [.ref gt, .int (nI (n + 1)), .ref gm, .ref gs, .int cn, .ref gw, .int wl, .ref gb])), (gt, .inl (cB, 300, .inl (upd (upd T n ((v >>> ((nI 24) &&& 31)).toInt8.toInt32)) (n + 1) ((v >>> ((nI 16) &&& 31)).toInt8.toInt32))))] := hD
      refine lv_aload_n hx hb d_M_put_20 rfl (lv_at hl 1 rfl) ?_
      refine lv_dup hx hb d_M_put_21 rfl ?_
      refine gf_M_26 X hP 0 rfl d_M_put_22 ?_
      refine lv_iconst (v := (nI 1)) hx hb d_M_put_25 ki_1 ?_
      refine n_iadd X d_M_put_26 ?_
      refine W.top (y := (nI (n + 2))) (rfl) ?_
      refine pf_M_26 X hP hD hS 0 rfl d_M_put_27 (fun H locs hP hD hS => ?_)
      have hP : va_P D cls [(g, .inr (2, [.ref gt, .int (nI (n + 2)), .ref gm, .ref gs, .int cn, .ref gw, .int wl, .ref gb])), (gt, .inl (cB, 300, .inl (upd (upd T n ((v >>> ((nI 24) &&& 31)).toInt8.toInt32)) (n + 1) ((v >>> ((nI 16) &&& 31)).toInt8.toInt32))))] H := hP
      have hD : va_D A [(g, .inr (2, [.ref gt, .int (nI (n + 2)), .ref gm, .ref gs, .int cn, .ref gw, .int wl, .ref gb])), (gt, .inl (cB, 300, .inl (upd (upd T n ((v >>> ((nI 24) &&& 31)).toInt8.toInt32)) (n + 1) ((v >>> ((nI 16) &&& 31)).toInt8.toInt32))))] := hD
      refine lv_iinc hx hb d_M_put_30 hl (k := 0) rfl (v := (nI 8)) (by decide) (by decide) rfl (fun ls hl => ?_)
      have hl : lv_has ls 3 [(2, .int (nI 8)), (0, .ref g), (1, .int v)] := hl
      refine lv_goto hx hb d_M_put_33 rfl ?_
      refine lv_iload_n hx hb d_M_put_3 rfl (lv_at hl 0 rfl) ?_
      refine n_if_lt X (by omega) d_M_put_4 rfl (fun h4 => ?_) (fun h4 => ?_)
      · exact False.elim (by omega)
      · refine lv_aload_n hx hb d_M_put_7 rfl (lv_at hl 1 rfl) ?_
        refine gf_M_9 X hP 0 rfl d_M_put_8 ?_
        refine lv_aload_n hx hb d_M_put_11 rfl (lv_at hl 1 rfl) ?_
        refine gf_M_26 X hP 0 rfl d_M_put_12 ?_
        refine lv_iload_n hx hb d_M_put_15 rfl (lv_at hl 2 rfl) ?_
        refine lv_iload_n hx hb d_M_put_16 rfl (lv_at hl 0 rfl) ?_
        refine lv_ishr hx hb d_M_put_17 ?_
        refine lv_i2b hx hb d_M_put_18 (v := ((v >>> ((nI 8) &&& 31)).toInt8.toInt32)) (rfl) ?_
        refine n_bast X hP hD hS 1 rfl (by omega) (by decide) (n_b2 _) d_M_put_19 (fun H locs hP hD hS => ?_)
        have hP : va_P D cls [(g, .inr (2, [.ref gt, .int (nI (n + 2)), .ref gm, .ref gs, .int cn, .ref gw, .int wl, .ref gb])), (gt, .inl (cB, 300, .inl (upd (upd (upd T n ((v >>> ((nI 24) &&& 31)).toInt8.toInt32)) (n + 1) ((v >>> ((nI 16) &&& 31)).toInt8.toInt32)) (n + 2) ((v >>> ((nI 8) &&& 31)).toInt8.toInt32))))] H := hP
        have hD : va_D A [(g, .inr (2, [.ref gt, .int (nI (n + 2)), .ref gm, .ref gs, .int cn, .ref gw, .int wl, .ref gb])), (gt, .inl (cB, 300, .inl (upd (upd (upd T n ((v >>> ((nI 24) &&& 31)).toInt8.toInt32)) (n + 1) ((v >>> ((nI 16) &&& 31)).toInt8.toInt32)) (n + 2) ((v >>> ((nI 8) &&& 31)).toInt8.toInt32))))] := hD
        refine lv_aload_n hx hb d_M_put_20 rfl (lv_at hl 1 rfl) ?_
        refine lv_dup hx hb d_M_put_21 rfl ?_
        refine gf_M_26 X hP 0 rfl d_M_put_22 ?_
        refine lv_iconst (v := (nI 1)) hx hb d_M_put_25 ki_1 ?_
        refine n_iadd X d_M_put_26 ?_
        refine W.top (y := (nI (n + 3))) (rfl) ?_
        refine pf_M_26 X hP hD hS 0 rfl d_M_put_27 (fun H locs hP hD hS => ?_)
        have hP : va_P D cls [(g, .inr (2, [.ref gt, .int (nI (n + 3)), .ref gm, .ref gs, .int cn, .ref gw, .int wl, .ref gb])), (gt, .inl (cB, 300, .inl (upd (upd (upd T n ((v >>> ((nI 24) &&& 31)).toInt8.toInt32)) (n + 1) ((v >>> ((nI 16) &&& 31)).toInt8.toInt32)) (n + 2) ((v >>> ((nI 8) &&& 31)).toInt8.toInt32))))] H := hP
        have hD : va_D A [(g, .inr (2, [.ref gt, .int (nI (n + 3)), .ref gm, .ref gs, .int cn, .ref gw, .int wl, .ref gb])), (gt, .inl (cB, 300, .inl (upd (upd (upd T n ((v >>> ((nI 24) &&& 31)).toInt8.toInt32)) (n + 1) ((v >>> ((nI 16) &&& 31)).toInt8.toInt32)) (n + 2) ((v >>> ((nI 8) &&& 31)).toInt8.toInt32))))] := hD
        refine lv_iinc hx hb d_M_put_30 hl (k := 0) rfl (v := (nI 0)) (by decide) (by decide) rfl (fun ls hl => ?_)
        have hl : lv_has ls 3 [(2, .int (nI 0)), (0, .ref g), (1, .int v)] := hl
        refine lv_goto hx hb d_M_put_33 rfl ?_
        refine lv_iload_n hx hb d_M_put_3 rfl (lv_at hl 0 rfl) ?_
        refine n_if_lt X (by omega) d_M_put_4 rfl (fun h4 => ?_) (fun h4 => ?_)
        · exact False.elim (by omega)
        · refine lv_aload_n hx hb d_M_put_7 rfl (lv_at hl 1 rfl) ?_
          refine gf_M_9 X hP 0 rfl d_M_put_8 ?_
          refine lv_aload_n hx hb d_M_put_11 rfl (lv_at hl 1 rfl) ?_
          refine gf_M_26 X hP 0 rfl d_M_put_12 ?_
          refine lv_iload_n hx hb d_M_put_15 rfl (lv_at hl 2 rfl) ?_
          refine lv_iload_n hx hb d_M_put_16 rfl (lv_at hl 0 rfl) ?_
          refine lv_ishr hx hb d_M_put_17 ?_
          refine W.top (y := v) (sb_shr0 v) ?_
          refine lv_i2b hx hb d_M_put_18 (v := v.toInt8.toInt32) (rfl) ?_
          refine n_bast X hP hD hS 1 rfl (by omega) (by decide) (n_b2 _) d_M_put_19 (fun H locs hP hD hS => ?_)
          have hP : va_P D cls [(g, .inr (2, [.ref gt, .int (nI (n + 3)), .ref gm, .ref gs, .int cn, .ref gw, .int wl, .ref gb])), (gt, .inl (cB, 300, .inl (upd (upd (upd (upd T n ((v >>> ((nI 24) &&& 31)).toInt8.toInt32)) (n + 1) ((v >>> ((nI 16) &&& 31)).toInt8.toInt32)) (n + 2) ((v >>> ((nI 8) &&& 31)).toInt8.toInt32)) (n + 3) v.toInt8.toInt32)))] H := hP
          have hD : va_D A [(g, .inr (2, [.ref gt, .int (nI (n + 3)), .ref gm, .ref gs, .int cn, .ref gw, .int wl, .ref gb])), (gt, .inl (cB, 300, .inl (upd (upd (upd (upd T n ((v >>> ((nI 24) &&& 31)).toInt8.toInt32)) (n + 1) ((v >>> ((nI 16) &&& 31)).toInt8.toInt32)) (n + 2) ((v >>> ((nI 8) &&& 31)).toInt8.toInt32)) (n + 3) v.toInt8.toInt32)))] := hD
          refine lv_aload_n hx hb d_M_put_20 rfl (lv_at hl 1 rfl) ?_
          refine lv_dup hx hb d_M_put_21 rfl ?_
          refine gf_M_26 X hP 0 rfl d_M_put_22 ?_
          refine lv_iconst (v := (nI 1)) hx hb d_M_put_25 ki_1 ?_
          refine n_iadd X d_M_put_26 ?_
          refine W.top (y := (nI (n + 4))) (rfl) ?_
          refine pf_M_26 X hP hD hS 0 rfl d_M_put_27 (fun H locs hP hD hS => ?_)
          have hP : va_P D cls [(g, .inr (2, [.ref gt, .int (nI (n + 4)), .ref gm, .ref gs, .int cn, .ref gw, .int wl, .ref gb])), (gt, .inl (cB, 300, .inl (upd (upd (upd (upd T n ((v >>> ((nI 24) &&& 31)).toInt8.toInt32)) (n + 1) ((v >>> ((nI 16) &&& 31)).toInt8.toInt32)) (n + 2) ((v >>> ((nI 8) &&& 31)).toInt8.toInt32)) (n + 3) v.toInt8.toInt32)))] H := hP
          have hD : va_D A [(g, .inr (2, [.ref gt, .int (nI (n + 4)), .ref gm, .ref gs, .int cn, .ref gw, .int wl, .ref gb])), (gt, .inl (cB, 300, .inl (upd (upd (upd (upd T n ((v >>> ((nI 24) &&& 31)).toInt8.toInt32)) (n + 1) ((v >>> ((nI 16) &&& 31)).toInt8.toInt32)) (n + 2) ((v >>> ((nI 8) &&& 31)).toInt8.toInt32)) (n + 3) v.toInt8.toInt32)))] := hD
          refine lv_iinc hx hb d_M_put_30 hl (k := 0) rfl (v := (-8)) (by decide) (by decide) rfl (fun ls hl => ?_)
          have hl : lv_has ls 3 [(2, .int (-8)), (0, .ref g), (1, .int v)] := hl
          refine lv_goto hx hb d_M_put_33 rfl ?_
          refine lv_iload_n hx hb d_M_put_3 rfl (lv_at hl 0 rfl) ?_
          refine lv_if_lt hx hb d_M_put_4 rfl (fun h4 => ?_) (fun h4 => ?_)
          · exact hret () _ _ _ _ (trivial) hP hD hS d_M_put_36
          · exact False.elim (h4 (by decide))

set_option maxHeartbeats 4000000 in
set_option maxRecDepth 100000 in
theorem c_Mfeed (l : Launch) (D : va_G) (cB cI : ClassId) (g gt gm gs gw gb : Nat) (n : Nat) (cn wl : Int32) (T : Nat → Int32) (hn : n ≤ 300) (a b c9 d e9 : Int32) : CtI (S := Nat × (Nat → Int32)) l y_M_feed b_M_feed 6 (some .int) 1 D cB cI [.ref g, .int a, .int b, .int c9, .int d, .int e9] [(g, .inr (2, [.ref gt, .int (nI n), .ref gm, .ref gs, .int cn, .ref gw, .int wl, .ref gb])), (gt, .inl (cB, 300, .inl T))] (fun r u => r = feedA n ∧ u = (feedN n, feedT n T a b c9 d e9)) (fun u => [(g, .inr (2, [.ref gt, .int (nI u.1), .ref gm, .ref gs, .int cn, .ref gw, .int wl, .ref gb])), (gt, .inl (cB, 300, .inl u.2))]) := by
  refine CtI.mk (own := R_M) (by decide) rfl (Nat.le_of_ble_eq_true rfl) ?_
  intro p e s m args below meth c A Q ls X hP hD hS hA hl hret
  have hx := X.1
  have hb := X.2.1
  have hl : lv_has ls 6 [(0, .ref g), (1, .int a), (2, .int b), (3, .int c9), (4, .int d), (5, .int e9)] := hl
  refine lv_aload_n hx hb d_M_feed_0 rfl (lv_at hl 0 rfl) ?_
  refine gf_M_26 X hP 0 rfl d_M_feed_1 ?_
  refine lv_bipush (v := (nI 20)) hx hb d_M_feed_4 kb_20 ?_
  refine n_iadd X d_M_feed_6 ?_
  refine lv_sipush (v := (nI 300)) hx hb d_M_feed_7 ks_300 ?_
  refine n_icmp_le X (by omega) (by omega) d_M_feed_10 rfl (fun h10 => ?_) (fun h10 => ?_)
  · refine lv_aload_n hx hb d_M_feed_16 rfl (lv_at hl 0 rfl) ?_
    refine lv_iload_n hx hb d_M_feed_17 rfl (lv_at hl 1 rfl) ?_
    refine cV_V (rest := []) (wr := []) X st_M_30 tw1_188 tw0_2 (c_Mput l D cB cI g gt gm gs gw gb n cn wl T a (by omega)) (rok (by decide)) hP hD hS hA 0 rfl rfl [0, 1] [] rfl rfl (by decide) (by decide) (by decide) rfl hl.1 rfl (Nat.le_of_ble_eq_true rfl) d_M_feed_18 (fun u9 H locs hr hP hD hS => ?_)
    have hP : va_P D cls [(g, .inr (2, [.ref gt, .int (nI (n + 4)), .ref gm, .ref gs, .int cn, .ref gw, .int wl, .ref gb])), (gt, .inl (cB, 300, .inl (pt T n a)))] H := hP
    have hD : va_D A [(g, .inr (2, [.ref gt, .int (nI (n + 4)), .ref gm, .ref gs, .int cn, .ref gw, .int wl, .ref gb])), (gt, .inl (cB, 300, .inl (pt T n a)))] := hD
    refine lv_aload_n hx hb d_M_feed_21 rfl (lv_at hl 0 rfl) ?_
    refine lv_iload_n hx hb d_M_feed_22 rfl (lv_at hl 2 rfl) ?_
    refine cV_V (rest := []) (wr := []) X st_M_30 tw1_188 tw0_2 (c_Mput l D cB cI g gt gm gs gw gb (n + 4) cn wl (pt T n a) b (by omega)) (rok (by decide)) hP hD hS hA 0 rfl rfl [0, 1] [] rfl rfl (by decide) (by decide) (by decide) rfl hl.1 rfl (Nat.le_of_ble_eq_true rfl) d_M_feed_23 (fun u9 H locs hr hP hD hS => ?_)
    have hP : va_P D cls [(g, .inr (2, [.ref gt, .int (nI (n + 8)), .ref gm, .ref gs, .int cn, .ref gw, .int wl, .ref gb])), (gt, .inl (cB, 300, .inl (pt (pt T n a) (n + 4) b)))] H := hP
    have hD : va_D A [(g, .inr (2, [.ref gt, .int (nI (n + 8)), .ref gm, .ref gs, .int cn, .ref gw, .int wl, .ref gb])), (gt, .inl (cB, 300, .inl (pt (pt T n a) (n + 4) b)))] := hD
    refine lv_aload_n hx hb d_M_feed_26 rfl (lv_at hl 0 rfl) ?_
    refine lv_iload_n hx hb d_M_feed_27 rfl (lv_at hl 3 rfl) ?_
    refine cV_V (rest := []) (wr := []) X st_M_30 tw1_188 tw0_2 (c_Mput l D cB cI g gt gm gs gw gb (n + 8) cn wl (pt (pt T n a) (n + 4) b) c9 (by omega)) (rok (by decide)) hP hD hS hA 0 rfl rfl [0, 1] [] rfl rfl (by decide) (by decide) (by decide) rfl hl.1 rfl (Nat.le_of_ble_eq_true rfl) d_M_feed_28 (fun u9 H locs hr hP hD hS => ?_)
    have hP : va_P D cls [(g, .inr (2, [.ref gt, .int (nI (n + 12)), .ref gm, .ref gs, .int cn, .ref gw, .int wl, .ref gb])), (gt, .inl (cB, 300, .inl (pt (pt (pt T n a) (n + 4) b) (n + 8) c9)))] H := hP
    have hD : va_D A [(g, .inr (2, [.ref gt, .int (nI (n + 12)), .ref gm, .ref gs, .int cn, .ref gw, .int wl, .ref gb])), (gt, .inl (cB, 300, .inl (pt (pt (pt T n a) (n + 4) b) (n + 8) c9)))] := hD
    refine lv_aload_n hx hb d_M_feed_31 rfl (lv_at hl 0 rfl) ?_
    refine lv_iload hx hb d_M_feed_32 (lv_at hl 4 rfl) ?_
    refine cV_V (rest := []) (wr := []) X st_M_30 tw1_188 tw0_2 (c_Mput l D cB cI g gt gm gs gw gb (n + 12) cn wl (pt (pt (pt T n a) (n + 4) b) (n + 8) c9) d (by omega)) (rok (by decide)) hP hD hS hA 0 rfl rfl [0, 1] [] rfl rfl (by decide) (by decide) (by decide) rfl hl.1 rfl (Nat.le_of_ble_eq_true rfl) d_M_feed_34 (fun u9 H locs hr hP hD hS => ?_)
    have hP : va_P D cls [(g, .inr (2, [.ref gt, .int (nI (n + 16)), .ref gm, .ref gs, .int cn, .ref gw, .int wl, .ref gb])), (gt, .inl (cB, 300, .inl (pt (pt (pt (pt T n a) (n + 4) b) (n + 8) c9) (n + 12) d)))] H := hP
    have hD : va_D A [(g, .inr (2, [.ref gt, .int (nI (n + 16)), .ref gm, .ref gs, .int cn, .ref gw, .int wl, .ref gb])), (gt, .inl (cB, 300, .inl (pt (pt (pt (pt T n a) (n + 4) b) (n + 8) c9) (n + 12) d)))] := hD
    refine lv_aload_n hx hb d_M_feed_37 rfl (lv_at hl 0 rfl) ?_
    refine lv_iload hx hb d_M_feed_38 (lv_at hl 5 rfl) ?_
    refine cV_V (rest := []) (wr := []) X st_M_30 tw1_188 tw0_2 (c_Mput l D cB cI g gt gm gs gw gb (n + 16) cn wl (pt (pt (pt (pt T n a) (n + 4) b) (n + 8) c9) (n + 12) d) e9 (by omega)) (rok (by decide)) hP hD hS hA 0 rfl rfl [0, 1] [] rfl rfl (by decide) (by decide) (by decide) rfl hl.1 rfl (Nat.le_of_ble_eq_true rfl) d_M_feed_40 (fun u9 H locs hr hP hD hS => ?_)
    have hP : va_P D cls [(g, .inr (2, [.ref gt, .int (nI (n + 20)), .ref gm, .ref gs, .int cn, .ref gw, .int wl, .ref gb])), (gt, .inl (cB, 300, .inl (pt (pt (pt (pt (pt T n a) (n + 4) b) (n + 8) c9) (n + 12) d) (n + 16) e9)))] H := hP
    have hD : va_D A [(g, .inr (2, [.ref gt, .int (nI (n + 20)), .ref gm, .ref gs, .int cn, .ref gw, .int wl, .ref gb])), (gt, .inl (cB, 300, .inl (pt (pt (pt (pt (pt T n a) (n + 4) b) (n + 8) c9) (n + 12) d) (n + 16) e9)))] := hD
    refine lv_aload_n hx hb d_M_feed_43 rfl (lv_at hl 0 rfl) ?_
    refine gf_M_26 X hP 0 rfl d_M_feed_44 ?_
    exact hret _ (n + 20, pt5 T n a b c9 d e9) _ _ _ _ (feed_y T a b c9 d e9 h10) rfl hP hD hS d_M_feed_47
  · refine lv_bipush (v := (-3)) hx hb d_M_feed_13 kb_m3 ?_
    exact hret _ (n, T) _ _ _ _ (feed_n T a b c9 d e9 h10) rfl hP hD hS d_M_feed_15

set_option maxHeartbeats 4000000 in
set_option maxRecDepth 100000 in
theorem c_Mend (l : Launch) (D : va_G) (cB cI : ClassId) (g gt gm gs gw gb : Nat) (n : Nat) (cn wl : Int32) (hn : n ≤ 300) (k : Int32) : CtI (S := Nat) l y_M_end b_M_end 2 (some .int) 1 D cB cI [.ref g, .int k] [(g, .inr (2, [.ref gt, .int (nI n), .ref gm, .ref gs, .int cn, .ref gw, .int wl, .ref gb]))] (fun r u => r = endA n k ∧ u = endN n k) (fun u => [(g, .inr (2, [.ref gt, .int (nI u), .ref gm, .ref gs, .int cn, .ref gw, .int wl, .ref gb]))]) := by
  refine CtI.mk (own := R_M) (by decide) rfl (Nat.le_of_ble_eq_true rfl) ?_
  intro p e s m args below meth c A Q ls X hP hD hS hA hl hret
  have hx := X.1
  have hb := X.2.1
  have hl : lv_has ls 2 [(0, .ref g), (1, .int k)] := hl
  have e0 : (0 : Int32).toInt = 0 := rfl
  have e1 : (nI n).toInt = (n : Int) := nI_toInt (by omega)
  refine lv_iload_n hx hb d_M_end_0 rfl (lv_at hl 1 rfl) ?_
  refine lv_if_lt hx hb d_M_end_1 rfl (fun h1 => ?_) (fun h1 => ?_)
  · rw [i_lt, e0] at h1
    refine lv_iconst (v := (-1)) hx hb d_M_end_12 ki_m1 ?_
    exact hret _ n _ _ _ _ (end_n (by omega)) rfl hP hD hS d_M_end_13
  · rw [i_lt, e0] at h1
    refine lv_iload_n hx hb d_M_end_4 rfl (lv_at hl 1 rfl) ?_
    refine lv_aload_n hx hb d_M_end_5 rfl (lv_at hl 0 rfl) ?_
    refine gf_M_26 X hP 0 rfl d_M_end_6 ?_
    refine lv_icmp_le hx hb d_M_end_9 rfl (fun h9 => ?_) (fun h9 => ?_)
    · rw [i_le, e1] at h9
      obtain ⟨a, ha, rfl⟩ := inE (k := k) hn ⟨by omega, by omega⟩
      refine lv_aload_n hx hb d_M_end_14 rfl (lv_at hl 0 rfl) ?_
      refine lv_iload_n hx hb d_M_end_15 rfl (lv_at hl 1 rfl) ?_
      refine pf_M_26 X hP hD hS 0 rfl d_M_end_16 (fun H locs hP hD hS => ?_)
      have hP : va_P D cls [(g, .inr (2, [.ref gt, .int (nI a), .ref gm, .ref gs, .int cn, .ref gw, .int wl, .ref gb]))] H := hP
      have hD : va_D A [(g, .inr (2, [.ref gt, .int (nI a), .ref gm, .ref gs, .int cn, .ref gw, .int wl, .ref gb]))] := hD
      refine lv_iload_n hx hb d_M_end_19 rfl (lv_at hl 1 rfl) ?_
      exact hret _ a _ _ _ _ (end_y ha hn) rfl hP hD hS d_M_end_20
    · rw [i_le, e1] at h9
      refine lv_iconst (v := (-1)) hx hb d_M_end_12 ki_m1 ?_
      exact hret _ n _ _ _ _ (end_n (by omega)) rfl hP hD hS d_M_end_13

set_option maxHeartbeats 4000000 in
set_option maxRecDepth 100000 in
theorem c_run (l : Launch) (D : va_G) (cB cI : ClassId) (g gt gm gs gw gb : Nat) (n a : Nat) (cn wl : Int32) (T fW : Nat → Int32) (hn : n ≤ 300) (ha : a ≤ n) : CtI (S := Nat × (Nat → Int32)) l y_M_run b_M_run 3 (some .int) 1 D cB cI [.ref g, .int (nI a)] [(g, .inr (2, [.ref gt, .int (nI n), .ref gm, .ref gs, .int cn, .ref gw, .int wl, .ref gb])), (gt, .inl (cB, 300, .inl T)), (gw, .inl (cB, 300, .inl fW))] (fun r u => r = nI (a + u.1) ∧ a + u.1 ≤ n ∧ (∀ j, a ≤ j → j < a + u.1 → sg (T j) = true) ∧ (a + u.1 = n ∨ sg (T (a + u.1)) = false) ∧ ∀ i, i < u.1 → u.2 i = nI (wf T a i)) (fun u => [(g, .inr (2, [.ref gt, .int (nI n), .ref gm, .ref gs, .int cn, .ref gw, .int (nI u.1), .ref gb])), (gt, .inl (cB, 300, .inl T)), (gw, .inl (cB, 300, .inl u.2))]) := by
  refine CtI.mk (own := R_M) (by decide) rfl (Nat.le_of_ble_eq_true rfl) ?_
  intro p e s m args below meth c A Q ls X hP hD hS hA hl hret
  have hx := X.1
  have hb := X.2.1
  have hl : lv_has ls 3 [(0, .ref g), (1, .int (nI a))] := hl
  refine lv_iload_n hx hb d_M_run_0 rfl (lv_at hl 1 rfl) ?_
  refine lv_istore_n hx hb d_M_run_1 rfl hl (by decide) rfl (fun ls hl => ?_)
  have hl : lv_has ls 3 [(2, .int (nI a)), (0, .ref g), (1, .int (nI a))] := hl
  refine lv_aload_n hx hb d_M_run_2 rfl (lv_at hl 1 rfl) ?_
  refine lv_iconst (v := (nI 0)) hx hb d_M_run_3 ki_0 ?_
  refine pf_M_34 X hP hD hS 0 rfl d_M_run_4 (fun H locs hP hD hS => ?_)
  have hP : va_P D cls [(g, .inr (2, [.ref gt, .int (nI n), .ref gm, .ref gs, .int cn, .ref gw, .int (nI 0), .ref gb])), (gt, .inl (cB, 300, .inl T)), (gw, .inl (cB, 300, .inl fW))] H := hP
  have hD : va_D A [(g, .inr (2, [.ref gt, .int (nI n), .ref gm, .ref gs, .int cn, .ref gw, .int (nI 0), .ref gb])), (gt, .inl (cB, 300, .inl T)), (gw, .inl (cB, 300, .inl fW))] := hD
  have loop : ∀ (d9 : Nat) (k : Nat) (fW : Nat → Int32), n - (a + k) = d9 → (a + k ≤ n) → (∀ j, a ≤ j → j < a + k → sg (T j) = true) → (∀ i, i < k → fW i = nI (wf T a i)) → ∀ (H : Heap) (locs : List Loc) (ls : Array Slot), lv_has ls 3 [(2, .int (nI (a + k))), (0, .ref g), (1, .int (nI a))] → va_P D cls [(g, .inr (2, [.ref gt, .int (nI n), .ref gm, .ref gs, .int cn, .ref gw, .int (nI k), .ref gb])), (gt, .inl (cB, 300, .inl T)), (gw, .inl (cB, 300, .inl fW))] H → va_D A [(g, .inr (2, [.ref gt, .int (nI n), .ref gm, .ref gs, .int cn, .ref gw, .int (nI k), .ref gb])), (gt, .inl (cB, 300, .inl T)), (gw, .inl (cB, 300, .inl fW))] → va_S A s.heap H locs → W p l e (rmd 1) s m args below meth c H locs 0 0 Q (F0 m 7 ls []) := by
    intro d9
    induction d9 using Nat.strongRecOn with
    | _ d9 ih_loop =>
    intro k fW hd hk hs hf H locs ls hl hP hD hS
    refine lv_iload_n hx hb d_M_run_7 rfl (lv_at hl 0 rfl) ?_
    refine lv_aload_n hx hb d_M_run_8 rfl (lv_at hl 1 rfl) ?_
    refine gf_M_26 X hP 0 rfl d_M_run_9 ?_
    refine n_icmp_ge X (by omega) (by omega) d_M_run_12 rfl (fun h12 => ?_) (fun h12 => ?_)
    · refine lv_iload_n hx hb d_M_run_93 rfl (lv_at hl 0 rfl) ?_
      exact hret _ (k, fW) _ _ _ _ (⟨rfl, hk, hs, Or.inl (by omega), hf⟩) rfl hP hD hS d_M_run_94
    · refine lv_aload_n hx hb d_M_run_15 rfl (lv_at hl 1 rfl) ?_
      refine gf_M_9 X hP 0 rfl d_M_run_16 ?_
      refine lv_iload_n hx hb d_M_run_19 rfl (lv_at hl 0 rfl) ?_
      refine n_bald X hP 1 rfl (by omega) (by decide) d_M_run_20 ?_
      refine cP_S (rest := []) X st_M_37 tw1_199 (c_letter l D cB cI (T (a + k))) (rok (by decide)) hP [] rfl rfl hl.1 rfl (Nat.le_of_ble_eq_true rfl) d_M_run_21 (fun r21 hr => ?_)
      rcases hr with ⟨rfl, he⟩ | ⟨rfl, he⟩
      · refine n_if_eq X (by omega) d_M_run_24 rfl (fun h24 => ?_) (fun h24 => ?_)
        · exact False.elim (by omega)
        · refine lv_aload_n hx hb d_M_run_27 rfl (lv_at hl 1 rfl) ?_
          refine gf_M_20 X hP 0 rfl d_M_run_28 ?_
          refine lv_aload_n hx hb d_M_run_31 rfl (lv_at hl 1 rfl) ?_
          refine gf_M_34 X hP 0 rfl d_M_run_32 ?_
          refine lv_aload_n hx hb d_M_run_35 rfl (lv_at hl 1 rfl) ?_
          refine gf_M_9 X hP 0 rfl d_M_run_36 ?_
          refine lv_iload_n hx hb d_M_run_39 rfl (lv_at hl 0 rfl) ?_
          refine n_bald X hP 1 rfl (by omega) (by decide) d_M_run_40 ?_
          refine lv_bipush (v := (nI 65)) hx hb d_M_run_41 kb_65 ?_
          refine lv_icmp_lt hx hb d_M_run_43 rfl (fun h43 => ?_) (fun h43 => ?_)
          · refine lv_aload_n hx hb d_M_run_69 rfl (lv_at hl 1 rfl) ?_
            refine gf_M_9 X hP 0 rfl d_M_run_70 ?_
            refine lv_iload_n hx hb d_M_run_73 rfl (lv_at hl 0 rfl) ?_
            refine n_bald X hP 1 rfl (by omega) (by decide) d_M_run_74 ?_
            refine W.top (y := (nI (ch (T (a + k))))) (by rw [← sm_ch he]; unfold sm; rw [if_neg (by simp only [i_lt, c65] at h43; omega)]) ?_
            refine lv_i2b hx hb d_M_run_75 (v := (nI (ch (T (a + k))))) (n_byte (by exact ch_lt he)) ?_
            refine n_bast X hP hD hS 2 rfl (by omega) (by decide) (n_byte (ch_lt he)) d_M_run_76 (fun H locs hP hD hS => ?_)
            have hP : va_P D cls [(g, .inr (2, [.ref gt, .int (nI n), .ref gm, .ref gs, .int cn, .ref gw, .int (nI k), .ref gb])), (gt, .inl (cB, 300, .inl T)), (gw, .inl (cB, 300, .inl (upd fW k (nI (ch (T (a + k)))))))] H := hP
            have hD : va_D A [(g, .inr (2, [.ref gt, .int (nI n), .ref gm, .ref gs, .int cn, .ref gw, .int (nI k), .ref gb])), (gt, .inl (cB, 300, .inl T)), (gw, .inl (cB, 300, .inl (upd fW k (nI (ch (T (a + k)))))))] := hD
            refine lv_aload_n hx hb d_M_run_77 rfl (lv_at hl 1 rfl) ?_
            refine lv_dup hx hb d_M_run_78 rfl ?_
            refine gf_M_34 X hP 0 rfl d_M_run_79 ?_
            refine lv_iconst (v := (nI 1)) hx hb d_M_run_82 ki_1 ?_
            refine n_iadd X d_M_run_83 ?_
            refine pf_M_34 X hP hD hS 0 rfl d_M_run_84 (fun H locs hP hD hS => ?_)
            have hP : va_P D cls [(g, .inr (2, [.ref gt, .int (nI n), .ref gm, .ref gs, .int cn, .ref gw, .int (nI (k + 1)), .ref gb])), (gt, .inl (cB, 300, .inl T)), (gw, .inl (cB, 300, .inl (upd fW k (nI (ch (T (a + k)))))))] H := hP
            have hD : va_D A [(g, .inr (2, [.ref gt, .int (nI n), .ref gm, .ref gs, .int cn, .ref gw, .int (nI (k + 1)), .ref gb])), (gt, .inl (cB, 300, .inl T)), (gw, .inl (cB, 300, .inl (upd fW k (nI (ch (T (a + k)))))))] := hD
            refine lv_iinc hx hb d_M_run_87 hl (k := 0) rfl (v := (nI (a + k + 1))) (n_inc _ 1) (by decide) rfl (fun ls hl => ?_)
            have hl : lv_has ls 3 [(2, .int (nI (a + k + 1))), (0, .ref g), (1, .int (nI a))] := hl
            refine lv_goto hx hb d_M_run_90 rfl ?_
            exact ih_loop _ (by omega) (k + 1) (upd fW k (nI (ch (T (a + k))))) rfl (by omega) (fun j p q => (Nat.lt_or_ge j (a + k)).elim (hs j p) (fun h9 => by rw [show j = a + k by omega]; exact he)) (fun i hi => (Nat.lt_or_ge i k).elim (fun h9 => by rw [upd_n (by omega)]; exact hf i h9) (fun h9 => by rw [show i = k by omega, upd_s]; rfl)) _ _ _ hl hP hD hS
          · refine lv_aload_n hx hb d_M_run_46 rfl (lv_at hl 1 rfl) ?_
            refine gf_M_9 X hP 0 rfl d_M_run_47 ?_
            refine lv_iload_n hx hb d_M_run_50 rfl (lv_at hl 0 rfl) ?_
            refine n_bald X hP 1 rfl (by omega) (by decide) d_M_run_51 ?_
            refine lv_bipush (v := (nI 90)) hx hb d_M_run_52 kb_90 ?_
            refine lv_icmp_gt hx hb d_M_run_54 rfl (fun h54 => ?_) (fun h54 => ?_)
            · refine lv_aload_n hx hb d_M_run_69 rfl (lv_at hl 1 rfl) ?_
              refine gf_M_9 X hP 0 rfl d_M_run_70 ?_
              refine lv_iload_n hx hb d_M_run_73 rfl (lv_at hl 0 rfl) ?_
              refine n_bald X hP 1 rfl (by omega) (by decide) d_M_run_74 ?_
              refine W.top (y := (nI (ch (T (a + k))))) (by rw [← sm_ch he]; unfold sm; rw [if_neg (by simp only [i_lt, c90] at h54; omega)]) ?_
              refine lv_i2b hx hb d_M_run_75 (v := (nI (ch (T (a + k))))) (n_byte (by exact ch_lt he)) ?_
              refine n_bast X hP hD hS 2 rfl (by omega) (by decide) (n_byte (ch_lt he)) d_M_run_76 (fun H locs hP hD hS => ?_)
              have hP : va_P D cls [(g, .inr (2, [.ref gt, .int (nI n), .ref gm, .ref gs, .int cn, .ref gw, .int (nI k), .ref gb])), (gt, .inl (cB, 300, .inl T)), (gw, .inl (cB, 300, .inl (upd fW k (nI (ch (T (a + k)))))))] H := hP
              have hD : va_D A [(g, .inr (2, [.ref gt, .int (nI n), .ref gm, .ref gs, .int cn, .ref gw, .int (nI k), .ref gb])), (gt, .inl (cB, 300, .inl T)), (gw, .inl (cB, 300, .inl (upd fW k (nI (ch (T (a + k)))))))] := hD
              refine lv_aload_n hx hb d_M_run_77 rfl (lv_at hl 1 rfl) ?_
              refine lv_dup hx hb d_M_run_78 rfl ?_
              refine gf_M_34 X hP 0 rfl d_M_run_79 ?_
              refine lv_iconst (v := (nI 1)) hx hb d_M_run_82 ki_1 ?_
              refine n_iadd X d_M_run_83 ?_
              refine pf_M_34 X hP hD hS 0 rfl d_M_run_84 (fun H locs hP hD hS => ?_)
              have hP : va_P D cls [(g, .inr (2, [.ref gt, .int (nI n), .ref gm, .ref gs, .int cn, .ref gw, .int (nI (k + 1)), .ref gb])), (gt, .inl (cB, 300, .inl T)), (gw, .inl (cB, 300, .inl (upd fW k (nI (ch (T (a + k)))))))] H := hP
              have hD : va_D A [(g, .inr (2, [.ref gt, .int (nI n), .ref gm, .ref gs, .int cn, .ref gw, .int (nI (k + 1)), .ref gb])), (gt, .inl (cB, 300, .inl T)), (gw, .inl (cB, 300, .inl (upd fW k (nI (ch (T (a + k)))))))] := hD
              refine lv_iinc hx hb d_M_run_87 hl (k := 0) rfl (v := (nI (a + k + 1))) (n_inc _ 1) (by decide) rfl (fun ls hl => ?_)
              have hl : lv_has ls 3 [(2, .int (nI (a + k + 1))), (0, .ref g), (1, .int (nI a))] := hl
              refine lv_goto hx hb d_M_run_90 rfl ?_
              exact ih_loop _ (by omega) (k + 1) (upd fW k (nI (ch (T (a + k))))) rfl (by omega) (fun j p q => (Nat.lt_or_ge j (a + k)).elim (hs j p) (fun h9 => by rw [show j = a + k by omega]; exact he)) (fun i hi => (Nat.lt_or_ge i k).elim (fun h9 => by rw [upd_n (by omega)]; exact hf i h9) (fun h9 => by rw [show i = k by omega, upd_s]; rfl)) _ _ _ hl hP hD hS
            · refine lv_aload_n hx hb d_M_run_57 rfl (lv_at hl 1 rfl) ?_
              refine gf_M_9 X hP 0 rfl d_M_run_58 ?_
              refine lv_iload_n hx hb d_M_run_61 rfl (lv_at hl 0 rfl) ?_
              refine n_bald X hP 1 rfl (by omega) (by decide) d_M_run_62 ?_
              refine lv_bipush (v := (nI 32)) hx hb d_M_run_63 kb_32 ?_
              refine lv_iadd hx hb d_M_run_65 ?_
              refine lv_goto hx hb d_M_run_66 rfl ?_
              refine W.top (y := (nI (ch (T (a + k))))) (by rw [← sm_ch he]; unfold sm; rw [if_pos (by simp only [i_lt, c65] at h43; simp only [i_lt, c90] at h54; omega)]) ?_
              refine lv_i2b hx hb d_M_run_75 (v := (nI (ch (T (a + k))))) (n_byte (by exact ch_lt he)) ?_
              refine n_bast X hP hD hS 2 rfl (by omega) (by decide) (n_byte (ch_lt he)) d_M_run_76 (fun H locs hP hD hS => ?_)
              have hP : va_P D cls [(g, .inr (2, [.ref gt, .int (nI n), .ref gm, .ref gs, .int cn, .ref gw, .int (nI k), .ref gb])), (gt, .inl (cB, 300, .inl T)), (gw, .inl (cB, 300, .inl (upd fW k (nI (ch (T (a + k)))))))] H := hP
              have hD : va_D A [(g, .inr (2, [.ref gt, .int (nI n), .ref gm, .ref gs, .int cn, .ref gw, .int (nI k), .ref gb])), (gt, .inl (cB, 300, .inl T)), (gw, .inl (cB, 300, .inl (upd fW k (nI (ch (T (a + k)))))))] := hD
              refine lv_aload_n hx hb d_M_run_77 rfl (lv_at hl 1 rfl) ?_
              refine lv_dup hx hb d_M_run_78 rfl ?_
              refine gf_M_34 X hP 0 rfl d_M_run_79 ?_
              refine lv_iconst (v := (nI 1)) hx hb d_M_run_82 ki_1 ?_
              refine n_iadd X d_M_run_83 ?_
              refine pf_M_34 X hP hD hS 0 rfl d_M_run_84 (fun H locs hP hD hS => ?_)
              have hP : va_P D cls [(g, .inr (2, [.ref gt, .int (nI n), .ref gm, .ref gs, .int cn, .ref gw, .int (nI (k + 1)), .ref gb])), (gt, .inl (cB, 300, .inl T)), (gw, .inl (cB, 300, .inl (upd fW k (nI (ch (T (a + k)))))))] H := hP
              have hD : va_D A [(g, .inr (2, [.ref gt, .int (nI n), .ref gm, .ref gs, .int cn, .ref gw, .int (nI (k + 1)), .ref gb])), (gt, .inl (cB, 300, .inl T)), (gw, .inl (cB, 300, .inl (upd fW k (nI (ch (T (a + k)))))))] := hD
              refine lv_iinc hx hb d_M_run_87 hl (k := 0) rfl (v := (nI (a + k + 1))) (n_inc _ 1) (by decide) rfl (fun ls hl => ?_)
              have hl : lv_has ls 3 [(2, .int (nI (a + k + 1))), (0, .ref g), (1, .int (nI a))] := hl
              refine lv_goto hx hb d_M_run_90 rfl ?_
              exact ih_loop _ (by omega) (k + 1) (upd fW k (nI (ch (T (a + k))))) rfl (by omega) (fun j p q => (Nat.lt_or_ge j (a + k)).elim (hs j p) (fun h9 => by rw [show j = a + k by omega]; exact he)) (fun i hi => (Nat.lt_or_ge i k).elim (fun h9 => by rw [upd_n (by omega)]; exact hf i h9) (fun h9 => by rw [show i = k by omega, upd_s]; rfl)) _ _ _ hl hP hD hS
      · refine n_if_eq X (by omega) d_M_run_24 rfl (fun h24 => ?_) (fun h24 => ?_)
        · refine lv_iload_n hx hb d_M_run_93 rfl (lv_at hl 0 rfl) ?_
          exact hret _ (k, fW) _ _ _ _ (⟨rfl, hk, hs, Or.inr he, hf⟩) rfl hP hD hS d_M_run_94
        · exact False.elim (by omega)
  exact loop _ 0 fW rfl (ha) (fun j p q => absurd p (by omega)) (fun t h => absurd h (Nat.not_lt_zero _)) _ _ _ hl hP hD hS

set_option maxHeartbeats 4000000 in
set_option maxRecDepth 100000 in
theorem c_noteS (l : Launch) (D : va_G) (cB cI : ClassId) (g gt gm gs gw gb : Nat) (tn cn : Int32) (n a : Nat) (fM fS fW : Nat → Int32) (f : Nat → Nat) (hf : ∀ i, i < n → fW i = nI (f i) ∧ f i < 128) (hn : n ≤ 300) (ha : a ≤ 150) : CtV (S := (Nat → Int32) × (Nat → Int32) × (Nat → Int32)) l y_M_note b_M_note 5 1 D cB cI [.ref g, .int (nI a), .int (nI 1)] [(g, .inr (2, [.ref gt, .int tn, .ref gm, .ref gs, .int cn, .ref gw, .int (nI n), .ref gb])), (gm, .inl (cB, 3624, .inl fM)), (gs, .inl (cI, 151, .inl fS)), (gw, .inl (cB, 300, .inl fW))] (fun u => NoteR fM fS a (stem f n) u.1 u.2.1) (fun u => [(g, .inr (2, [.ref gt, .int tn, .ref gm, .ref gs, .int cn, .ref gw, .int (nI n), .ref gb])), (gm, .inl (cB, 3624, .inl u.1)), (gs, .inl (cI, 151, .inl u.2.1)), (gw, .inl (cB, 300, .inl u.2.2))]) := by
  refine CtV.mk (own := R_M) (by decide) rfl (Nat.le_of_ble_eq_true rfl) ?_
  intro p e s m args below meth c A Q ls X hP hD hS hA hl hret
  have hx := X.1
  have hb := X.2.1
  have hl : lv_has ls 5 [(0, .ref g), (1, .int (nI a)), (2, .int (nI 1))] := hl
  have J102 : ∀ (n2 : Nat) (fW : Nat → Int32), (n2 = kl f n) → (n2 ≤ n) → (∀ i, i < n2 → fW i = nI (kc f n i) ∧ kc f n i < 128) → ∀ (H : Heap) (locs : List Loc) (ls : Array Slot), lv_has ls 5 [(3, .int (nI n2)), (0, .ref g), (1, .int (nI a)), (2, .int (nI 1))] → va_P D cls [(g, .inr (2, [.ref gt, .int tn, .ref gm, .ref gs, .int cn, .ref gw, .int (nI n), .ref gb])), (gm, .inl (cB, 3624, .inl fM)), (gs, .inl (cI, 151, .inl fS)), (gw, .inl (cB, 300, .inl fW))] H → va_D A [(g, .inr (2, [.ref gt, .int tn, .ref gm, .ref gs, .int cn, .ref gw, .int (nI n), .ref gb])), (gm, .inl (cB, 3624, .inl fM)), (gs, .inl (cI, 151, .inl fS)), (gw, .inl (cB, 300, .inl fW))] → va_S A s.heap H locs → W p l e (rmd 1) s m args below meth c H locs 0 0 Q (F0 m 102 ls []) := by
    intro n2 fW h2 hle hf H locs ls hl hP hD hS
    have J111 : ∀ (n3 : Nat), (n3 = min 24 n2) → ∀ (H : Heap) (locs : List Loc) (ls : Array Slot), lv_has ls 5 [(3, .int (nI n3)), (0, .ref g), (1, .int (nI a)), (2, .int (nI 1))] → va_P D cls [(g, .inr (2, [.ref gt, .int tn, .ref gm, .ref gs, .int cn, .ref gw, .int (nI n), .ref gb])), (gm, .inl (cB, 3624, .inl fM)), (gs, .inl (cI, 151, .inl fS)), (gw, .inl (cB, 300, .inl fW))] H → va_D A [(g, .inr (2, [.ref gt, .int tn, .ref gm, .ref gs, .int cn, .ref gw, .int (nI n), .ref gb])), (gm, .inl (cB, 3624, .inl fM)), (gs, .inl (cI, 151, .inl fS)), (gw, .inl (cB, 300, .inl fW))] → va_S A s.heap H locs → W p l e (rmd 1) s m args below meth c H locs 0 0 Q (F0 m 111 ls []) := by
      intro n3 h3 H locs ls hl hP hD hS
      refine lv_iconst (v := (nI 0)) hx hb d_M_note_111 ki_0 ?_
      refine lv_istore hx hb d_M_note_112 hl (by decide) rfl (fun ls hl => ?_)
      have hl : lv_has ls 5 [(4, .int (nI 0)), (3, .int (nI n3)), (0, .ref g), (1, .int (nI a)), (2, .int (nI 1))] := hl
      have loop : ∀ (d9 : Nat) (i : Nat) (gM : Nat → Int32), n3 - i = d9 → (i ≤ n3) → (∀ j, j < 24 * a → gM j = fM j) → (∀ t, t < i → gM (24 * a + t) = nI (kc f n t)) → ∀ (H : Heap) (locs : List Loc) (ls : Array Slot), lv_has ls 5 [(4, .int (nI i)), (3, .int (nI n3)), (0, .ref g), (1, .int (nI a)), (2, .int (nI 1))] → va_P D cls [(g, .inr (2, [.ref gt, .int tn, .ref gm, .ref gs, .int cn, .ref gw, .int (nI n), .ref gb])), (gm, .inl (cB, 3624, .inl gM)), (gs, .inl (cI, 151, .inl fS)), (gw, .inl (cB, 300, .inl fW))] H → va_D A [(g, .inr (2, [.ref gt, .int tn, .ref gm, .ref gs, .int cn, .ref gw, .int (nI n), .ref gb])), (gm, .inl (cB, 3624, .inl gM)), (gs, .inl (cI, 151, .inl fS)), (gw, .inl (cB, 300, .inl fW))] → va_S A s.heap H locs → W p l e (rmd 1) s m args below meth c H locs 0 0 Q (F0 m 114 ls []) := by
        intro d9
        induction d9 using Nat.strongRecOn with
        | _ d9 ih_loop =>
        intro i gM hd hi p1 p2 H locs ls hl hP hD hS
        refine lv_iload hx hb d_M_note_114 (lv_at hl 0 rfl) ?_
        refine lv_iload_n hx hb d_M_note_116 rfl (lv_at hl 1 rfl) ?_
        refine n_icmp_ge X (by omega) (by omega) d_M_note_117 rfl (fun h117 => ?_) (fun h117 => ?_)
        · have hw9 : stem f n = (List.range n3).map (kc f n) := by rw [h3, h2]; rfl
          refine lv_aload_n hx hb d_M_note_145 rfl (lv_at hl 2 rfl) ?_
          refine gf_M_16 X hP 0 rfl d_M_note_146 ?_
          refine lv_iload_n hx hb d_M_note_149 rfl (lv_at hl 3 rfl) ?_
          refine lv_iload_n hx hb d_M_note_150 rfl (lv_at hl 1 rfl) ?_
          refine n_iast X hP hD hS 2 rfl (by omega) (by decide) d_M_note_151 (fun H locs hP hD hS => ?_)
          have hP : va_P D cls [(g, .inr (2, [.ref gt, .int tn, .ref gm, .ref gs, .int cn, .ref gw, .int (nI n), .ref gb])), (gm, .inl (cB, 3624, .inl gM)), (gs, .inl (cI, 151, .inl (upd fS a (nI n3)))), (gw, .inl (cB, 300, .inl fW))] H := hP
          have hD : va_D A [(g, .inr (2, [.ref gt, .int tn, .ref gm, .ref gs, .int cn, .ref gw, .int (nI n), .ref gb])), (gm, .inl (cB, 3624, .inl gM)), (gs, .inl (cI, 151, .inl (upd fS a (nI n3)))), (gw, .inl (cB, 300, .inl fW))] := hD
          exact hret (gM, upd fS a (nI n3), fW) _ _ _ _ (by rw [hw9]; exact note_ok p1 (fun t ht => p2 t (by omega))) hP hD hS d_M_note_152
        · obtain ⟨g1, g2⟩ := hf i (by omega)
          refine lv_aload_n hx hb d_M_note_120 rfl (lv_at hl 2 rfl) ?_
          refine gf_M_13 X hP 0 rfl d_M_note_121 ?_
          refine lv_bipush (v := (nI 24)) hx hb d_M_note_124 kb_24 ?_
          refine lv_iload_n hx hb d_M_note_126 rfl (lv_at hl 3 rfl) ?_
          refine n_imul X d_M_note_127 ?_
          refine lv_iload hx hb d_M_note_128 (lv_at hl 0 rfl) ?_
          refine n_iadd X d_M_note_130 ?_
          refine lv_aload_n hx hb d_M_note_131 rfl (lv_at hl 2 rfl) ?_
          refine gf_M_20 X hP 0 rfl d_M_note_132 ?_
          refine lv_iload hx hb d_M_note_135 (lv_at hl 0 rfl) ?_
          refine n_bald X hP 3 rfl (by omega) (by decide) d_M_note_137 ?_
          refine W.top (y := (nI (kc f n i))) (g1) ?_
          refine n_bast X hP hD hS 1 rfl (by omega) (by decide) (n_byte (by omega)) d_M_note_138 (fun H locs hP hD hS => ?_)
          have hP : va_P D cls [(g, .inr (2, [.ref gt, .int tn, .ref gm, .ref gs, .int cn, .ref gw, .int (nI n), .ref gb])), (gm, .inl (cB, 3624, .inl (upd gM ((24 * a) + i) (nI (kc f n i))))), (gs, .inl (cI, 151, .inl fS)), (gw, .inl (cB, 300, .inl fW))] H := hP
          have hD : va_D A [(g, .inr (2, [.ref gt, .int tn, .ref gm, .ref gs, .int cn, .ref gw, .int (nI n), .ref gb])), (gm, .inl (cB, 3624, .inl (upd gM ((24 * a) + i) (nI (kc f n i))))), (gs, .inl (cI, 151, .inl fS)), (gw, .inl (cB, 300, .inl fW))] := hD
          refine lv_iinc hx hb d_M_note_139 hl (k := 0) rfl (v := (nI (i + 1))) (n_inc _ 1) (by decide) rfl (fun ls hl => ?_)
          have hl : lv_has ls 5 [(4, .int (nI (i + 1))), (3, .int (nI n3)), (0, .ref g), (1, .int (nI a)), (2, .int (nI 1))] := hl
          refine lv_goto hx hb d_M_note_142 rfl ?_
          obtain ⟨p3, p4⟩ := put_s (ch := kc f n) (x := nI (kc f n i)) p1 p2 rfl
          exact ih_loop _ (by omega) (i + 1) (upd gM (24 * a + i) (nI (kc f n i))) rfl (by omega) (p3) (p4) _ _ _ hl hP hD hS
      exact loop _ 0 fM rfl (Nat.zero_le _) (fun _ _ => rfl) (fun t h => absurd h (Nat.not_lt_zero _)) _ _ _ hl hP hD hS
    refine lv_iload_n hx hb d_M_note_102 rfl (lv_at hl 0 rfl) ?_
    refine lv_bipush (v := (nI 24)) hx hb d_M_note_103 kb_24 ?_
    refine n_icmp_le X (by omega) (by omega) d_M_note_105 rfl (fun h105 => ?_) (fun h105 => ?_)
    · exact J111 n2 (by omega) _ _ _ hl hP hD hS
    · refine lv_bipush (v := (nI 24)) hx hb d_M_note_108 kb_24 ?_
      refine lv_istore_n hx hb d_M_note_110 rfl hl (by decide) rfl (fun ls hl => ?_)
      have hl : lv_has ls 5 [(3, .int (nI 24)), (0, .ref g), (1, .int (nI a)), (2, .int (nI 1))] := hl
      exact J111 24 (by omega) _ _ _ hl hP hD hS
  have J60 : (isIes f n = false) → ∀ (H : Heap) (locs : List Loc) (ls : Array Slot), lv_has ls 5 [(3, .int (nI n)), (0, .ref g), (1, .int (nI a)), (2, .int (nI 1))] → va_P D cls [(g, .inr (2, [.ref gt, .int tn, .ref gm, .ref gs, .int cn, .ref gw, .int (nI n), .ref gb])), (gm, .inl (cB, 3624, .inl fM)), (gs, .inl (cI, 151, .inl fS)), (gw, .inl (cB, 300, .inl fW))] H → va_D A [(g, .inr (2, [.ref gt, .int tn, .ref gm, .ref gs, .int cn, .ref gw, .int (nI n), .ref gb])), (gm, .inl (cB, 3624, .inl fM)), (gs, .inl (cI, 151, .inl fS)), (gw, .inl (cB, 300, .inl fW))] → va_S A s.heap H locs → W p l e (rmd 1) s m args below meth c H locs 0 0 Q (F0 m 60 ls []) := by
    intro  hie H locs ls hl hP hD hS
    refine lv_iload_n hx hb d_M_note_60 rfl (lv_at hl 3 rfl) ?_
    refine n_if_eq X (by omega) d_M_note_61 rfl (fun h61 => ?_) (fun h61 => ?_)
    · exact False.elim (by omega)
    · refine lv_iload_n hx hb d_M_note_64 rfl (lv_at hl 0 rfl) ?_
      refine lv_iconst (v := (nI 4)) hx hb d_M_note_65 ki_4 ?_
      refine n_icmp_lt X (by omega) (by omega) d_M_note_66 rfl (fun h66 => ?_) (fun h66 => ?_)
      · exact J102 n fW ((kl_no hie (decide_eq_false (by omega))).symm) (Nat.le_refl _) (kc_f hie hf) _ _ _ hl hP hD hS
      · refine lv_aload_n hx hb d_M_note_69 rfl (lv_at hl 1 rfl) ?_
        refine lv_iconst (v := (nI 1)) hx hb d_M_note_70 ki_1 ?_
        refine cP_V (rest := []) X st_M_41 tw1_211 tw0_5 (c_last l D cB cI g gt gm gs gw gb tn cn n fW 1 (by decide) (by omega) hn) (rok (by decide)) hP 0 rfl rfl [0, 3] rfl rfl hl.1 rfl (Nat.le_of_ble_eq_true rfl) d_M_note_71 (fun r71 hr => ?_)
        subst hr
        obtain ⟨f1, b1⟩ := hf (n - 1) (by omega)
        refine W.top (y := (nI (f (n - 1)))) (f1) ?_
        refine lv_bipush (v := (nI 115)) hx hb d_M_note_74 kb_115 ?_
        refine n_icmp_ne X (by omega) (by omega) d_M_note_76 rfl (fun h76 => ?_) (fun h76 => ?_)
        · exact J102 n fW ((kl_no hie (decide_eq_false (by omega))).symm) (Nat.le_refl _) (kc_f hie hf) _ _ _ hl hP hD hS
        · refine lv_aload_n hx hb d_M_note_79 rfl (lv_at hl 1 rfl) ?_
          refine lv_iconst (v := (nI 2)) hx hb d_M_note_80 ki_2 ?_
          refine cP_V (rest := []) X st_M_41 tw1_211 tw0_5 (c_last l D cB cI g gt gm gs gw gb tn cn n fW 2 (by decide) (by omega) hn) (rok (by decide)) hP 0 rfl rfl [0, 3] rfl rfl hl.1 rfl (Nat.le_of_ble_eq_true rfl) d_M_note_81 (fun r81 hr => ?_)
          subst hr
          obtain ⟨f2, b2⟩ := hf (n - 2) (by omega)
          refine W.top (y := (nI (f (n - 2)))) (f2) ?_
          refine lv_bipush (v := (nI 115)) hx hb d_M_note_84 kb_115 ?_
          refine n_icmp_eq X (by omega) (by omega) d_M_note_86 rfl (fun h86 => ?_) (fun h86 => ?_)
          · exact J102 n fW ((kl_no hie (decide_eq_false (by omega))).symm) (Nat.le_refl _) (kc_f hie hf) _ _ _ hl hP hD hS
          · refine lv_aload_n hx hb d_M_note_89 rfl (lv_at hl 1 rfl) ?_
            refine lv_iconst (v := (nI 2)) hx hb d_M_note_90 ki_2 ?_
            refine cP_V (rest := []) X st_M_41 tw1_211 tw0_5 (c_last l D cB cI g gt gm gs gw gb tn cn n fW 2 (by decide) (by omega) hn) (rok (by decide)) hP 0 rfl rfl [0, 3] rfl rfl hl.1 rfl (Nat.le_of_ble_eq_true rfl) d_M_note_91 (fun r91 hr => ?_)
            subst hr
            obtain ⟨f2, b2⟩ := hf (n - 2) (by omega)
            refine W.top (y := (nI (f (n - 2)))) (f2) ?_
            refine lv_bipush (v := (nI 117)) hx hb d_M_note_94 kb_117 ?_
            refine n_icmp_eq X (by omega) (by omega) d_M_note_96 rfl (fun h96 => ?_) (fun h96 => ?_)
            · exact J102 n fW ((kl_no hie (decide_eq_false (by omega))).symm) (Nat.le_refl _) (kc_f hie hf) _ _ _ hl hP hD hS
            · refine lv_iinc hx hb d_M_note_99 hl (k := 0) rfl (v := (nI (n - 1))) (n_dec (k := 1) (by omega)) (by decide) rfl (fun ls hl => ?_)
              have hl : lv_has ls 5 [(3, .int (nI (n - 1))), (0, .ref g), (1, .int (nI a)), (2, .int (nI 1))] := hl
              exact J102 (n - 1) fW ((kl_es hie (decide_eq_true (by omega))).symm) (by omega) (fun i hi => kc_f hie hf i (by omega)) _ _ _ hl hP hD hS
  refine lv_aload_n hx hb d_M_note_0 rfl (lv_at hl 0 rfl) ?_
  refine gf_M_34 X hP 0 rfl d_M_note_1 ?_
  refine lv_istore_n hx hb d_M_note_4 rfl hl (by decide) rfl (fun ls hl => ?_)
  have hl : lv_has ls 5 [(3, .int (nI n)), (0, .ref g), (1, .int (nI a)), (2, .int (nI 1))] := hl
  refine lv_iload_n hx hb d_M_note_5 rfl (lv_at hl 3 rfl) ?_
  refine n_if_eq X (by omega) d_M_note_6 rfl (fun h6 => ?_) (fun h6 => ?_)
  · exact False.elim (by omega)
  · refine lv_iload_n hx hb d_M_note_9 rfl (lv_at hl 0 rfl) ?_
    refine lv_iconst (v := (nI 5)) hx hb d_M_note_10 ki_5 ?_
    refine n_icmp_lt X (by omega) (by omega) d_M_note_11 rfl (fun h11 => ?_) (fun h11 => ?_)
    · exact J60  (decide_eq_false (by omega)) _ _ _ hl hP hD hS
    · refine lv_aload_n hx hb d_M_note_14 rfl (lv_at hl 1 rfl) ?_
      refine lv_iconst (v := (nI 1)) hx hb d_M_note_15 ki_1 ?_
      refine cP_V (rest := []) X st_M_41 tw1_211 tw0_5 (c_last l D cB cI g gt gm gs gw gb tn cn n fW 1 (by decide) (by omega) hn) (rok (by decide)) hP 0 rfl rfl [0, 3] rfl rfl hl.1 rfl (Nat.le_of_ble_eq_true rfl) d_M_note_16 (fun r16 hr => ?_)
      subst hr
      obtain ⟨f1, b1⟩ := hf (n - 1) (by omega)
      refine W.top (y := (nI (f (n - 1)))) (f1) ?_
      refine lv_bipush (v := (nI 115)) hx hb d_M_note_19 kb_115 ?_
      refine n_icmp_ne X (by omega) (by omega) d_M_note_21 rfl (fun h21 => ?_) (fun h21 => ?_)
      · exact J60  (decide_eq_false (by omega)) _ _ _ hl hP hD hS
      · refine lv_aload_n hx hb d_M_note_24 rfl (lv_at hl 1 rfl) ?_
        refine lv_iconst (v := (nI 2)) hx hb d_M_note_25 ki_2 ?_
        refine cP_V (rest := []) X st_M_41 tw1_211 tw0_5 (c_last l D cB cI g gt gm gs gw gb tn cn n fW 2 (by decide) (by omega) hn) (rok (by decide)) hP 0 rfl rfl [0, 3] rfl rfl hl.1 rfl (Nat.le_of_ble_eq_true rfl) d_M_note_26 (fun r26 hr => ?_)
        subst hr
        obtain ⟨f2, b2⟩ := hf (n - 2) (by omega)
        refine W.top (y := (nI (f (n - 2)))) (f2) ?_
        refine lv_bipush (v := (nI 101)) hx hb d_M_note_29 kb_101 ?_
        refine n_icmp_ne X (by omega) (by omega) d_M_note_31 rfl (fun h31 => ?_) (fun h31 => ?_)
        · exact J60  (decide_eq_false (by omega)) _ _ _ hl hP hD hS
        · refine lv_aload_n hx hb d_M_note_34 rfl (lv_at hl 1 rfl) ?_
          refine lv_iconst (v := (nI 3)) hx hb d_M_note_35 ki_3 ?_
          refine cP_V (rest := []) X st_M_41 tw1_211 tw0_5 (c_last l D cB cI g gt gm gs gw gb tn cn n fW 3 (by decide) (by omega) hn) (rok (by decide)) hP 0 rfl rfl [0, 3] rfl rfl hl.1 rfl (Nat.le_of_ble_eq_true rfl) d_M_note_36 (fun r36 hr => ?_)
          subst hr
          obtain ⟨f3, b3⟩ := hf (n - 3) (by omega)
          refine W.top (y := (nI (f (n - 3)))) (f3) ?_
          refine lv_bipush (v := (nI 105)) hx hb d_M_note_39 kb_105 ?_
          refine n_icmp_ne X (by omega) (by omega) d_M_note_41 rfl (fun h41 => ?_) (fun h41 => ?_)
          · exact J60  (decide_eq_false (by omega)) _ _ _ hl hP hD hS
          · have hie : isIes f n = true := decide_eq_true (by omega)
            refine lv_aload_n hx hb d_M_note_44 rfl (lv_at hl 1 rfl) ?_
            refine gf_M_20 X hP 0 rfl d_M_note_45 ?_
            refine lv_iload_n hx hb d_M_note_48 rfl (lv_at hl 0 rfl) ?_
            refine lv_iconst (v := (nI 3)) hx hb d_M_note_49 ki_3 ?_
            refine n_isub X (by omega) d_M_note_50 ?_
            refine lv_bipush (v := (nI 121)) hx hb d_M_note_51 kb_121 ?_
            refine n_bast X hP hD hS 3 rfl (by omega) (by decide) (n_byte (by omega)) d_M_note_53 (fun H locs hP hD hS => ?_)
            have hP : va_P D cls [(g, .inr (2, [.ref gt, .int tn, .ref gm, .ref gs, .int cn, .ref gw, .int (nI n), .ref gb])), (gm, .inl (cB, 3624, .inl fM)), (gs, .inl (cI, 151, .inl fS)), (gw, .inl (cB, 300, .inl (upd fW (n - 3) (nI 121))))] H := hP
            have hD : va_D A [(g, .inr (2, [.ref gt, .int tn, .ref gm, .ref gs, .int cn, .ref gw, .int (nI n), .ref gb])), (gm, .inl (cB, 3624, .inl fM)), (gs, .inl (cI, 151, .inl fS)), (gw, .inl (cB, 300, .inl (upd fW (n - 3) (nI 121))))] := hD
            refine lv_iinc hx hb d_M_note_54 hl (k := 0) rfl (v := (nI (n - 2))) (n_dec (k := 2) (by omega)) (by decide) rfl (fun ls hl => ?_)
            have hl : lv_has ls 5 [(3, .int (nI (n - 2))), (0, .ref g), (1, .int (nI a)), (2, .int (nI 1))] := hl
            refine lv_goto hx hb d_M_note_57 rfl ?_
            exact J102 (n - 2) (upd fW (n - 3) (nI 121)) ((kl_ies hie).1.symm) (by omega) (ies_put hie hf) _ _ _ hl hP hD hS

set_option maxHeartbeats 4000000 in
set_option maxRecDepth 100000 in
theorem c_noteP (l : Launch) (D : va_G) (cB cI : ClassId) (g gt gm gs gw gb : Nat) (tn cn : Int32) (n a : Nat) (fM fS fW : Nat → Int32) (f : Nat → Nat) (hf : ∀ i, i < n → fW i = nI (f i) ∧ f i < 128) (hn : n ≤ 300) (ha : a ≤ 150) : CtV (S := (Nat → Int32) × (Nat → Int32) × (Nat → Int32)) l y_M_note b_M_note 5 1 D cB cI [.ref g, .int (nI a), .int (nI 0)] [(g, .inr (2, [.ref gt, .int tn, .ref gm, .ref gs, .int cn, .ref gw, .int (nI n), .ref gb])), (gm, .inl (cB, 3624, .inl fM)), (gs, .inl (cI, 151, .inl fS)), (gw, .inl (cB, 300, .inl fW))] (fun u => NoteR fM fS a (plainW f n) u.1 u.2.1) (fun u => [(g, .inr (2, [.ref gt, .int tn, .ref gm, .ref gs, .int cn, .ref gw, .int (nI n), .ref gb])), (gm, .inl (cB, 3624, .inl u.1)), (gs, .inl (cI, 151, .inl u.2.1)), (gw, .inl (cB, 300, .inl u.2.2))]) := by
  refine CtV.mk (own := R_M) (by decide) rfl (Nat.le_of_ble_eq_true rfl) ?_
  intro p e s m args below meth c A Q ls X hP hD hS hA hl hret
  have hx := X.1
  have hb := X.2.1
  have hl : lv_has ls 5 [(0, .ref g), (1, .int (nI a)), (2, .int (nI 0))] := hl
  have J102 : ∀ (n2 : Nat) (fW : Nat → Int32), (n2 = n) → (n2 ≤ n) → (∀ i, i < n2 → fW i = nI (f i) ∧ f i < 128) → ∀ (H : Heap) (locs : List Loc) (ls : Array Slot), lv_has ls 5 [(3, .int (nI n2)), (0, .ref g), (1, .int (nI a)), (2, .int (nI 0))] → va_P D cls [(g, .inr (2, [.ref gt, .int tn, .ref gm, .ref gs, .int cn, .ref gw, .int (nI n), .ref gb])), (gm, .inl (cB, 3624, .inl fM)), (gs, .inl (cI, 151, .inl fS)), (gw, .inl (cB, 300, .inl fW))] H → va_D A [(g, .inr (2, [.ref gt, .int tn, .ref gm, .ref gs, .int cn, .ref gw, .int (nI n), .ref gb])), (gm, .inl (cB, 3624, .inl fM)), (gs, .inl (cI, 151, .inl fS)), (gw, .inl (cB, 300, .inl fW))] → va_S A s.heap H locs → W p l e (rmd 1) s m args below meth c H locs 0 0 Q (F0 m 102 ls []) := by
    intro n2 fW h2 hle hf H locs ls hl hP hD hS
    have J111 : ∀ (n3 : Nat), (n3 = min 24 n2) → ∀ (H : Heap) (locs : List Loc) (ls : Array Slot), lv_has ls 5 [(3, .int (nI n3)), (0, .ref g), (1, .int (nI a)), (2, .int (nI 0))] → va_P D cls [(g, .inr (2, [.ref gt, .int tn, .ref gm, .ref gs, .int cn, .ref gw, .int (nI n), .ref gb])), (gm, .inl (cB, 3624, .inl fM)), (gs, .inl (cI, 151, .inl fS)), (gw, .inl (cB, 300, .inl fW))] H → va_D A [(g, .inr (2, [.ref gt, .int tn, .ref gm, .ref gs, .int cn, .ref gw, .int (nI n), .ref gb])), (gm, .inl (cB, 3624, .inl fM)), (gs, .inl (cI, 151, .inl fS)), (gw, .inl (cB, 300, .inl fW))] → va_S A s.heap H locs → W p l e (rmd 1) s m args below meth c H locs 0 0 Q (F0 m 111 ls []) := by
      intro n3 h3 H locs ls hl hP hD hS
      refine lv_iconst (v := (nI 0)) hx hb d_M_note_111 ki_0 ?_
      refine lv_istore hx hb d_M_note_112 hl (by decide) rfl (fun ls hl => ?_)
      have hl : lv_has ls 5 [(4, .int (nI 0)), (3, .int (nI n3)), (0, .ref g), (1, .int (nI a)), (2, .int (nI 0))] := hl
      have loop : ∀ (d9 : Nat) (i : Nat) (gM : Nat → Int32), n3 - i = d9 → (i ≤ n3) → (∀ j, j < 24 * a → gM j = fM j) → (∀ t, t < i → gM (24 * a + t) = nI (f t)) → ∀ (H : Heap) (locs : List Loc) (ls : Array Slot), lv_has ls 5 [(4, .int (nI i)), (3, .int (nI n3)), (0, .ref g), (1, .int (nI a)), (2, .int (nI 0))] → va_P D cls [(g, .inr (2, [.ref gt, .int tn, .ref gm, .ref gs, .int cn, .ref gw, .int (nI n), .ref gb])), (gm, .inl (cB, 3624, .inl gM)), (gs, .inl (cI, 151, .inl fS)), (gw, .inl (cB, 300, .inl fW))] H → va_D A [(g, .inr (2, [.ref gt, .int tn, .ref gm, .ref gs, .int cn, .ref gw, .int (nI n), .ref gb])), (gm, .inl (cB, 3624, .inl gM)), (gs, .inl (cI, 151, .inl fS)), (gw, .inl (cB, 300, .inl fW))] → va_S A s.heap H locs → W p l e (rmd 1) s m args below meth c H locs 0 0 Q (F0 m 114 ls []) := by
        intro d9
        induction d9 using Nat.strongRecOn with
        | _ d9 ih_loop =>
        intro i gM hd hi p1 p2 H locs ls hl hP hD hS
        refine lv_iload hx hb d_M_note_114 (lv_at hl 0 rfl) ?_
        refine lv_iload_n hx hb d_M_note_116 rfl (lv_at hl 1 rfl) ?_
        refine n_icmp_ge X (by omega) (by omega) d_M_note_117 rfl (fun h117 => ?_) (fun h117 => ?_)
        · have hw9 : plainW f n = (List.range n3).map (f) := by rw [h3, h2]; rfl
          refine lv_aload_n hx hb d_M_note_145 rfl (lv_at hl 2 rfl) ?_
          refine gf_M_16 X hP 0 rfl d_M_note_146 ?_
          refine lv_iload_n hx hb d_M_note_149 rfl (lv_at hl 3 rfl) ?_
          refine lv_iload_n hx hb d_M_note_150 rfl (lv_at hl 1 rfl) ?_
          refine n_iast X hP hD hS 2 rfl (by omega) (by decide) d_M_note_151 (fun H locs hP hD hS => ?_)
          have hP : va_P D cls [(g, .inr (2, [.ref gt, .int tn, .ref gm, .ref gs, .int cn, .ref gw, .int (nI n), .ref gb])), (gm, .inl (cB, 3624, .inl gM)), (gs, .inl (cI, 151, .inl (upd fS a (nI n3)))), (gw, .inl (cB, 300, .inl fW))] H := hP
          have hD : va_D A [(g, .inr (2, [.ref gt, .int tn, .ref gm, .ref gs, .int cn, .ref gw, .int (nI n), .ref gb])), (gm, .inl (cB, 3624, .inl gM)), (gs, .inl (cI, 151, .inl (upd fS a (nI n3)))), (gw, .inl (cB, 300, .inl fW))] := hD
          exact hret (gM, upd fS a (nI n3), fW) _ _ _ _ (by rw [hw9]; exact note_ok p1 (fun t ht => p2 t (by omega))) hP hD hS d_M_note_152
        · obtain ⟨g1, g2⟩ := hf i (by omega)
          refine lv_aload_n hx hb d_M_note_120 rfl (lv_at hl 2 rfl) ?_
          refine gf_M_13 X hP 0 rfl d_M_note_121 ?_
          refine lv_bipush (v := (nI 24)) hx hb d_M_note_124 kb_24 ?_
          refine lv_iload_n hx hb d_M_note_126 rfl (lv_at hl 3 rfl) ?_
          refine n_imul X d_M_note_127 ?_
          refine lv_iload hx hb d_M_note_128 (lv_at hl 0 rfl) ?_
          refine n_iadd X d_M_note_130 ?_
          refine lv_aload_n hx hb d_M_note_131 rfl (lv_at hl 2 rfl) ?_
          refine gf_M_20 X hP 0 rfl d_M_note_132 ?_
          refine lv_iload hx hb d_M_note_135 (lv_at hl 0 rfl) ?_
          refine n_bald X hP 3 rfl (by omega) (by decide) d_M_note_137 ?_
          refine W.top (y := (nI (f i))) (g1) ?_
          refine n_bast X hP hD hS 1 rfl (by omega) (by decide) (n_byte (by omega)) d_M_note_138 (fun H locs hP hD hS => ?_)
          have hP : va_P D cls [(g, .inr (2, [.ref gt, .int tn, .ref gm, .ref gs, .int cn, .ref gw, .int (nI n), .ref gb])), (gm, .inl (cB, 3624, .inl (upd gM ((24 * a) + i) (nI (f i))))), (gs, .inl (cI, 151, .inl fS)), (gw, .inl (cB, 300, .inl fW))] H := hP
          have hD : va_D A [(g, .inr (2, [.ref gt, .int tn, .ref gm, .ref gs, .int cn, .ref gw, .int (nI n), .ref gb])), (gm, .inl (cB, 3624, .inl (upd gM ((24 * a) + i) (nI (f i))))), (gs, .inl (cI, 151, .inl fS)), (gw, .inl (cB, 300, .inl fW))] := hD
          refine lv_iinc hx hb d_M_note_139 hl (k := 0) rfl (v := (nI (i + 1))) (n_inc _ 1) (by decide) rfl (fun ls hl => ?_)
          have hl : lv_has ls 5 [(4, .int (nI (i + 1))), (3, .int (nI n3)), (0, .ref g), (1, .int (nI a)), (2, .int (nI 0))] := hl
          refine lv_goto hx hb d_M_note_142 rfl ?_
          obtain ⟨p3, p4⟩ := put_s (ch := f) (x := nI (f i)) p1 p2 rfl
          exact ih_loop _ (by omega) (i + 1) (upd gM (24 * a + i) (nI (f i))) rfl (by omega) (p3) (p4) _ _ _ hl hP hD hS
      exact loop _ 0 fM rfl (Nat.zero_le _) (fun _ _ => rfl) (fun t h => absurd h (Nat.not_lt_zero _)) _ _ _ hl hP hD hS
    refine lv_iload_n hx hb d_M_note_102 rfl (lv_at hl 0 rfl) ?_
    refine lv_bipush (v := (nI 24)) hx hb d_M_note_103 kb_24 ?_
    refine n_icmp_le X (by omega) (by omega) d_M_note_105 rfl (fun h105 => ?_) (fun h105 => ?_)
    · exact J111 n2 (by omega) _ _ _ hl hP hD hS
    · refine lv_bipush (v := (nI 24)) hx hb d_M_note_108 kb_24 ?_
      refine lv_istore_n hx hb d_M_note_110 rfl hl (by decide) rfl (fun ls hl => ?_)
      have hl : lv_has ls 5 [(3, .int (nI 24)), (0, .ref g), (1, .int (nI a)), (2, .int (nI 0))] := hl
      exact J111 24 (by omega) _ _ _ hl hP hD hS
  refine lv_aload_n hx hb d_M_note_0 rfl (lv_at hl 0 rfl) ?_
  refine gf_M_34 X hP 0 rfl d_M_note_1 ?_
  refine lv_istore_n hx hb d_M_note_4 rfl hl (by decide) rfl (fun ls hl => ?_)
  have hl : lv_has ls 5 [(3, .int (nI n)), (0, .ref g), (1, .int (nI a)), (2, .int (nI 0))] := hl
  refine lv_iload_n hx hb d_M_note_5 rfl (lv_at hl 3 rfl) ?_
  refine n_if_eq X (by omega) d_M_note_6 rfl (fun h6 => ?_) (fun h6 => ?_)
  · refine lv_iload_n hx hb d_M_note_60 rfl (lv_at hl 3 rfl) ?_
    refine n_if_eq X (by omega) d_M_note_61 rfl (fun h61 => ?_) (fun h61 => ?_)
    · exact J102 n fW (rfl) (Nat.le_refl _) (hf) _ _ _ hl hP hD hS
    · exact False.elim (by omega)
  · exact False.elim (by omega)

set_option maxHeartbeats 4000000 in
set_option maxRecDepth 100000 in
theorem c_oneWord (l : Launch) (D : va_G) (cB cI : ClassId) (g gt gm gs gw gb : Nat) (n : Nat) (cn wl : Int32) (T fW : Nat → Int32) (hn : n ≤ 300) : CtI (S := Int32 × (Nat → Int32)) l y_M_oneWord b_M_oneWord 2 (some .boolean) 2 D cB cI [.ref g] [(g, .inr (2, [.ref gt, .int (nI n), .ref gm, .ref gs, .int cn, .ref gw, .int wl, .ref gb])), (gt, .inl (cB, 300, .inl T)), (gw, .inl (cB, 300, .inl fW))] (fun r u => (r = nI 1 ∧ aw T n = true ∧ u.1 = nI n ∧ ∀ i, i < n → u.2 i = nI (wf T 0 i) ∧ wf T 0 i < 128) ∨ (r = nI 0 ∧ aw T n = false)) (fun u => [(g, .inr (2, [.ref gt, .int (nI 0), .ref gm, .ref gs, .int cn, .ref gw, .int u.1, .ref gb])), (gt, .inl (cB, 300, .inl T)), (gw, .inl (cB, 300, .inl u.2))]) := by
  refine CtI.mk (own := R_M) (by decide) rfl (Nat.le_of_ble_eq_true rfl) ?_
  intro p e s m args below meth c A Q ls X hP hD hS hA hl hret
  have hx := X.1
  have hb := X.2.1
  have hl : lv_has ls 2 [(0, .ref g)] := hl
  refine lv_aload_n hx hb d_M_oneWord_0 rfl (lv_at hl 0 rfl) ?_
  refine gf_M_26 X hP 0 rfl d_M_oneWord_1 ?_
  refine n_if_le X (by omega) d_M_oneWord_4 rfl (fun h4 => ?_) (fun h4 => ?_)
  · have hn0 : aw T n = false := by rw [show n = 0 by omega]; exact aw_0
    refine lv_iconst (v := (nI 0)) hx hb d_M_oneWord_23 ki_0 ?_
    refine lv_istore_n hx hb d_M_oneWord_24 rfl hl (by decide) rfl (fun ls hl => ?_)
    have hl : lv_has ls 2 [(1, .int (nI 0)), (0, .ref g)] := hl
    refine lv_aload_n hx hb d_M_oneWord_25 rfl (lv_at hl 1 rfl) ?_
    refine lv_iconst (v := (nI 0)) hx hb d_M_oneWord_26 ki_0 ?_
    refine pf_M_26 X hP hD hS 0 rfl d_M_oneWord_27 (fun H locs hP hD hS => ?_)
    have hP : va_P D cls [(g, .inr (2, [.ref gt, .int (nI 0), .ref gm, .ref gs, .int cn, .ref gw, .int wl, .ref gb])), (gt, .inl (cB, 300, .inl T)), (gw, .inl (cB, 300, .inl fW))] H := hP
    have hD : va_D A [(g, .inr (2, [.ref gt, .int (nI 0), .ref gm, .ref gs, .int cn, .ref gw, .int wl, .ref gb])), (gt, .inl (cB, 300, .inl T)), (gw, .inl (cB, 300, .inl fW))] := hD
    refine lv_iload_n hx hb d_M_oneWord_30 rfl (lv_at hl 0 rfl) ?_
    exact hret _ (wl, fW) _ _ _ _ (Or.inr ⟨rfl, hn0⟩) rfl hP hD hS d_M_oneWord_31
  · refine lv_aload_n hx hb d_M_oneWord_7 rfl (lv_at hl 0 rfl) ?_
    refine lv_iconst (v := (nI 0)) hx hb d_M_oneWord_8 ki_0 ?_
    refine cI_V (rest := []) (wr := []) X st_M_45 tw1_203 tw0_3 (c_run l D cB cI g gt gm gs gw gb n 0 cn wl T fW hn (Nat.zero_le _)) (rok (by decide)) hP hD hS hA 0 rfl rfl [0, 1, 2] [] rfl rfl (by decide) (by decide) (by decide) rfl hl.1 rfl (Nat.le_of_ble_eq_true rfl) d_M_oneWord_9 (fun r9 u9 H locs hr hP hD hS => ?_)
    obtain ⟨k, fW2⟩ := u9
    have hP : va_P D cls [(g, .inr (2, [.ref gt, .int (nI n), .ref gm, .ref gs, .int cn, .ref gw, .int (nI k), .ref gb])), (gt, .inl (cB, 300, .inl T)), (gw, .inl (cB, 300, .inl fW2))] H := hP
    have hD : va_D A [(g, .inr (2, [.ref gt, .int (nI n), .ref gm, .ref gs, .int cn, .ref gw, .int (nI k), .ref gb])), (gt, .inl (cB, 300, .inl T)), (gw, .inl (cB, 300, .inl fW2))] := hD
    obtain ⟨rfl, q1, q2, q3, q4⟩ := hr
    dsimp only at q1 q2 q3 q4
    rw [Nat.zero_add] at q1 q2 q3
    refine lv_aload_n hx hb d_M_oneWord_12 rfl (lv_at hl 0 rfl) ?_
    refine gf_M_26 X hP 0 rfl d_M_oneWord_13 ?_
    refine n_icmp_ne X (by omega) (by omega) d_M_oneWord_16 rfl (fun h16 => ?_) (fun h16 => ?_)
    · have hk : k ≠ n := by omega
      refine lv_iconst (v := (nI 0)) hx hb d_M_oneWord_23 ki_0 ?_
      refine lv_istore_n hx hb d_M_oneWord_24 rfl hl (by decide) rfl (fun ls hl => ?_)
      have hl : lv_has ls 2 [(1, .int (nI 0)), (0, .ref g)] := hl
      refine lv_aload_n hx hb d_M_oneWord_25 rfl (lv_at hl 1 rfl) ?_
      refine lv_iconst (v := (nI 0)) hx hb d_M_oneWord_26 ki_0 ?_
      refine pf_M_26 X hP hD hS 0 rfl d_M_oneWord_27 (fun H locs hP hD hS => ?_)
      have hP : va_P D cls [(g, .inr (2, [.ref gt, .int (nI 0), .ref gm, .ref gs, .int cn, .ref gw, .int (nI k), .ref gb])), (gt, .inl (cB, 300, .inl T)), (gw, .inl (cB, 300, .inl fW2))] H := hP
      have hD : va_D A [(g, .inr (2, [.ref gt, .int (nI 0), .ref gm, .ref gs, .int cn, .ref gw, .int (nI k), .ref gb])), (gt, .inl (cB, 300, .inl T)), (gw, .inl (cB, 300, .inl fW2))] := hD
      refine lv_iload_n hx hb d_M_oneWord_30 rfl (lv_at hl 0 rfl) ?_
      exact hret _ (nI k, fW2) _ _ _ _ (Or.inr ⟨rfl, aw_f (show k < n by omega) (q3.resolve_left hk)⟩) rfl hP hD hS d_M_oneWord_31
    · have hk : k = n := by omega
      subst hk
      refine lv_iconst (v := (nI 1)) hx hb d_M_oneWord_19 ki_1 ?_
      refine lv_goto hx hb d_M_oneWord_20 rfl ?_
      refine lv_istore_n hx hb d_M_oneWord_24 rfl hl (by decide) rfl (fun ls hl => ?_)
      have hl : lv_has ls 2 [(1, .int (nI 1)), (0, .ref g)] := hl
      refine lv_aload_n hx hb d_M_oneWord_25 rfl (lv_at hl 1 rfl) ?_
      refine lv_iconst (v := (nI 0)) hx hb d_M_oneWord_26 ki_0 ?_
      refine pf_M_26 X hP hD hS 0 rfl d_M_oneWord_27 (fun H locs hP hD hS => ?_)
      have hP : va_P D cls [(g, .inr (2, [.ref gt, .int (nI 0), .ref gm, .ref gs, .int cn, .ref gw, .int (nI k), .ref gb])), (gt, .inl (cB, 300, .inl T)), (gw, .inl (cB, 300, .inl fW2))] H := hP
      have hD : va_D A [(g, .inr (2, [.ref gt, .int (nI 0), .ref gm, .ref gs, .int cn, .ref gw, .int (nI k), .ref gb])), (gt, .inl (cB, 300, .inl T)), (gw, .inl (cB, 300, .inl fW2))] := hD
      refine lv_iload_n hx hb d_M_oneWord_30 rfl (lv_at hl 0 rfl) ?_
      exact hret _ (nI k, fW2) _ _ _ _ (Or.inl ⟨rfl, aw_t h4 (fun j hj => q2 j (Nat.zero_le _) hj), rfl, fun i hi => ⟨q4 i hi, ch_lt (q2 _ (Nat.zero_le _) (by omega))⟩⟩) rfl hP hD hS d_M_oneWord_31

set_option maxHeartbeats 4000000 in
set_option maxRecDepth 100000 in
theorem c_Mread (l : Launch) (D : va_G) (cB cI : ClassId) (g gt gm gs gw gb : Nat) (n : Nat) (cn wl : Int32) (T fM fS fW : Nat → Int32) (hn : n ≤ 300) : CtI (S := (Nat → Int32) × (Nat → Int32) × Int32 × (Nat → Int32)) l y_M_read b_M_read 2 (some .int) 2 D cB cI [.ref g] [(g, .inr (2, [.ref gt, .int (nI n), .ref gm, .ref gs, .int cn, .ref gw, .int wl, .ref gb])), (gt, .inl (cB, 300, .inl T)), (gm, .inl (cB, 3624, .inl fM)), (gs, .inl (cI, 151, .inl fS)), (gw, .inl (cB, 300, .inl fW))] (fun r u => (RW T n 0).length ≤ 150 ∧ Rep (RW T n 0) u.2.1 u.1 ∧ r = nI (RW T n 0).length) (fun u => [(g, .inr (2, [.ref gt, .int (nI 0), .ref gm, .ref gs, .int (nI ((RW T n 0).length)), .ref gw, .int u.2.2.1, .ref gb])), (gt, .inl (cB, 300, .inl T)), (gm, .inl (cB, 3624, .inl u.1)), (gs, .inl (cI, 151, .inl u.2.1)), (gw, .inl (cB, 300, .inl u.2.2.2))]) := by
  refine CtI.mk (own := R_M) (by decide) rfl (Nat.le_of_ble_eq_true rfl) ?_
  intro p e s m args below meth c A Q ls X hP hD hS hA hl hret
  have hx := X.1
  have hb := X.2.1
  have hl : lv_has ls 2 [(0, .ref g)] := hl
  refine lv_aload_n hx hb d_M_read_0 rfl (lv_at hl 0 rfl) ?_
  refine lv_iconst (v := (nI 0)) hx hb d_M_read_1 ki_0 ?_
  refine pf_M_48 X hP hD hS 0 rfl d_M_read_2 (fun H locs hP hD hS => ?_)
  have hP : va_P D cls [(g, .inr (2, [.ref gt, .int (nI n), .ref gm, .ref gs, .int (nI 0), .ref gw, .int wl, .ref gb])), (gt, .inl (cB, 300, .inl T)), (gm, .inl (cB, 3624, .inl fM)), (gs, .inl (cI, 151, .inl fS)), (gw, .inl (cB, 300, .inl fW))] H := hP
  have hD : va_D A [(g, .inr (2, [.ref gt, .int (nI n), .ref gm, .ref gs, .int (nI 0), .ref gw, .int wl, .ref gb])), (gt, .inl (cB, 300, .inl T)), (gm, .inl (cB, 3624, .inl fM)), (gs, .inl (cI, 151, .inl fS)), (gw, .inl (cB, 300, .inl fW))] := hD
  refine lv_iconst (v := (nI 0)) hx hb d_M_read_5 ki_0 ?_
  refine lv_istore_n hx hb d_M_read_6 rfl hl (by decide) rfl (fun ls hl => ?_)
  have hl : lv_has ls 2 [(1, .int (nI 0)), (0, .ref g)] := hl
  have loop : ∀ (d9 : Nat) (p0 : Nat) (ws : List (List Nat)) (fM : Nat → Int32) (fS : Nat → Int32) (wl : Int32) (fW : Nat → Int32), n - p0 = d9 → (p0 ≤ n) → (2 * ws.length ≤ p0 + 1) → (p0 < n → sg (T p0) = true → 2 * ws.length ≤ p0 ∧ (p0 = 0 ∨ sg (T (p0 - 1)) = false)) → (Rep ws fS fM) → (ws ++ RW T n p0 = RW T n 0) → ∀ (H : Heap) (locs : List Loc) (ls : Array Slot), lv_has ls 2 [(1, .int (nI p0)), (0, .ref g)] → va_P D cls [(g, .inr (2, [.ref gt, .int (nI n), .ref gm, .ref gs, .int (nI ws.length), .ref gw, .int wl, .ref gb])), (gt, .inl (cB, 300, .inl T)), (gm, .inl (cB, 3624, .inl fM)), (gs, .inl (cI, 151, .inl fS)), (gw, .inl (cB, 300, .inl fW))] H → va_D A [(g, .inr (2, [.ref gt, .int (nI n), .ref gm, .ref gs, .int (nI ws.length), .ref gw, .int wl, .ref gb])), (gt, .inl (cB, 300, .inl T)), (gm, .inl (cB, 3624, .inl fM)), (gs, .inl (cI, 151, .inl fS)), (gw, .inl (cB, 300, .inl fW))] → va_S A s.heap H locs → W p l e (rmd 2) s m args below meth c H locs 0 0 Q (F0 m 7 ls []) := by
    intro d9
    induction d9 using Nat.strongRecOn with
    | _ d9 ih_loop =>
    intro p0 ws fM fS wl fW hd hp h2 h3 hR hw H locs ls hl hP hD hS
    refine lv_iload_n hx hb d_M_read_7 rfl (lv_at hl 0 rfl) ?_
    refine lv_aload_n hx hb d_M_read_8 rfl (lv_at hl 1 rfl) ?_
    refine gf_M_26 X hP 0 rfl d_M_read_9 ?_
    refine n_icmp_ge X (by omega) (by omega) d_M_read_12 rfl (fun h12 => ?_) (fun h12 => ?_)
    · rw [RW_end h12, List.append_nil] at hw
      subst hw
      refine lv_aload_n hx hb d_M_read_61 rfl (lv_at hl 1 rfl) ?_
      refine lv_iconst (v := (nI 0)) hx hb d_M_read_62 ki_0 ?_
      refine pf_M_26 X hP hD hS 0 rfl d_M_read_63 (fun H locs hP hD hS => ?_)
      have hP : va_P D cls [(g, .inr (2, [.ref gt, .int (nI 0), .ref gm, .ref gs, .int (nI ((RW T n 0).length)), .ref gw, .int wl, .ref gb])), (gt, .inl (cB, 300, .inl T)), (gm, .inl (cB, 3624, .inl fM)), (gs, .inl (cI, 151, .inl fS)), (gw, .inl (cB, 300, .inl fW))] H := hP
      have hD : va_D A [(g, .inr (2, [.ref gt, .int (nI 0), .ref gm, .ref gs, .int (nI ((RW T n 0).length)), .ref gw, .int wl, .ref gb])), (gt, .inl (cB, 300, .inl T)), (gm, .inl (cB, 3624, .inl fM)), (gs, .inl (cI, 151, .inl fS)), (gw, .inl (cB, 300, .inl fW))] := hD
      refine lv_aload_n hx hb d_M_read_66 rfl (lv_at hl 1 rfl) ?_
      refine gf_M_48 X hP 0 rfl d_M_read_67 ?_
      exact hret _ (fM, fS, wl, fW) _ _ _ _ (⟨by omega, hR, rfl⟩) rfl hP hD hS d_M_read_70
    · refine lv_aload_n hx hb d_M_read_15 rfl (lv_at hl 1 rfl) ?_
      refine gf_M_9 X hP 0 rfl d_M_read_16 ?_
      refine lv_iload_n hx hb d_M_read_19 rfl (lv_at hl 0 rfl) ?_
      refine n_bald X hP 1 rfl (by omega) (by decide) d_M_read_20 ?_
      refine cP_S (rest := []) X st_M_37 tw1_199 (c_letter l D cB cI (T p0)) (rok (by decide)) hP [] rfl rfl hl.1 rfl (Nat.le_of_ble_eq_true rfl) d_M_read_21 (fun r21 hr => ?_)
      rcases hr with ⟨rfl, he⟩ | ⟨rfl, he⟩
      · refine n_if_ne X (by omega) d_M_read_24 rfl (fun h24 => ?_) (fun h24 => ?_)
        · obtain ⟨h5, h6⟩ := h3 h12 he
          refine lv_aload_n hx hb d_M_read_33 rfl (lv_at hl 1 rfl) ?_
          refine lv_iload_n hx hb d_M_read_34 rfl (lv_at hl 0 rfl) ?_
          refine cI_V (rest := []) (wr := [(gm, .inl (cB, 3624, .inl fM)), (gs, .inl (cI, 151, .inl fS))]) X st_M_45 tw1_203 tw0_3 (c_run l D cB cI g gt gm gs gw gb n p0 (nI ws.length) wl T fW hn hp) (rok (by decide)) hP hD hS hA 0 rfl rfl [0, 1, 4] [2, 3] rfl rfl (by decide) (by decide) (by decide) rfl hl.1 rfl (Nat.le_of_ble_eq_true rfl) d_M_read_35 (fun r35 u9 H locs hr hP hD hS => ?_)
          obtain ⟨k, fW2⟩ := u9
          have hP : va_P D cls [(gm, .inl (cB, 3624, .inl fM)), (gs, .inl (cI, 151, .inl fS)), (g, .inr (2, [.ref gt, .int (nI n), .ref gm, .ref gs, .int (nI ws.length), .ref gw, .int (nI k), .ref gb])), (gt, .inl (cB, 300, .inl T)), (gw, .inl (cB, 300, .inl fW2))] H := hP
          have hD : va_D A [(gm, .inl (cB, 3624, .inl fM)), (gs, .inl (cI, 151, .inl fS)), (g, .inr (2, [.ref gt, .int (nI n), .ref gm, .ref gs, .int (nI ws.length), .ref gw, .int (nI k), .ref gb])), (gt, .inl (cB, 300, .inl T)), (gw, .inl (cB, 300, .inl fW2))] := hD
          obtain ⟨rfl, q1, q2, q3, q4⟩ := hr
          dsimp only at q1 q2 q3 q4
          have hk : 0 < k := by
            rcases Nat.eq_zero_or_pos k with h9 | h9
            · subst h9
              rcases q3 with q3 | q3
              · omega
              · rw [Nat.add_zero, he] at q3; cases q3
            · exact h9
          refine lv_istore_n hx hb d_M_read_38 rfl hl (by decide) rfl (fun ls hl => ?_)
          have hl : lv_has ls 2 [(1, .int (nI (p0 + k))), (0, .ref g)] := hl
          refine lv_aload_n hx hb d_M_read_39 rfl (lv_at hl 1 rfl) ?_
          refine lv_aload_n hx hb d_M_read_40 rfl (lv_at hl 1 rfl) ?_
          refine gf_M_48 X hP 2 rfl d_M_read_41 ?_
          refine lv_iconst (v := (nI 1)) hx hb d_M_read_44 ki_1 ?_
          refine cV_V (rest := []) (wr := [(gt, .inl (cB, 300, .inl T))]) X st_M_51 tw1_207 tw0_4 (c_noteS l D cB cI g gt gm gs gw gb (nI n) (nI ws.length) k ws.length fM fS fW2 (wf T p0) (fun i hi => ⟨q4 i hi, ch_lt (q2 _ (by omega) (by omega))⟩) (by omega) (by omega)) (rok (by decide)) hP hD hS hA 2 rfl rfl [2, 0, 1, 4] [3] rfl rfl (by decide) (by decide) (by decide) rfl hl.1 rfl (Nat.le_of_ble_eq_true rfl) d_M_read_45 (fun u9 H locs hN hP hD hS => ?_)
          obtain ⟨gM, gS, gW⟩ := u9
          have hP : va_P D cls [(gt, .inl (cB, 300, .inl T)), (g, .inr (2, [.ref gt, .int (nI n), .ref gm, .ref gs, .int (nI ws.length), .ref gw, .int (nI k), .ref gb])), (gm, .inl (cB, 3624, .inl gM)), (gs, .inl (cI, 151, .inl gS)), (gw, .inl (cB, 300, .inl gW))] H := hP
          have hD : va_D A [(gt, .inl (cB, 300, .inl T)), (g, .inr (2, [.ref gt, .int (nI n), .ref gm, .ref gs, .int (nI ws.length), .ref gw, .int (nI k), .ref gb])), (gm, .inl (cB, 3624, .inl gM)), (gs, .inl (cI, 151, .inl gS)), (gw, .inl (cB, 300, .inl gW))] := hD
          have hR2 := Rep_noteP hR (stem_le _ _) (fun i hi => stem_lt (fun i hi => ch_lt (q2 _ (by omega) (by omega))) hi) hN
          have hlen : (ws ++ [stem (wf T p0) k]).length = ws.length + 1 := by simp
          refine lv_aload_n hx hb d_M_read_48 rfl (lv_at hl 1 rfl) ?_
          refine lv_dup hx hb d_M_read_49 rfl ?_
          refine gf_M_48 X hP 1 rfl d_M_read_50 ?_
          refine lv_iconst (v := (nI 1)) hx hb d_M_read_53 ki_1 ?_
          refine n_iadd X d_M_read_54 ?_
          refine W.top (y := (nI ((ws ++ [stem (wf T p0) k]).length))) (by rw [hlen]) ?_
          refine pf_M_48 X hP hD hS 1 rfl d_M_read_55 (fun H locs hP hD hS => ?_)
          have hP : va_P D cls [(gt, .inl (cB, 300, .inl T)), (g, .inr (2, [.ref gt, .int (nI n), .ref gm, .ref gs, .int (nI ((ws ++ [stem (wf T p0) k]).length)), .ref gw, .int (nI k), .ref gb])), (gm, .inl (cB, 3624, .inl gM)), (gs, .inl (cI, 151, .inl gS)), (gw, .inl (cB, 300, .inl gW))] H := hP
          have hD : va_D A [(gt, .inl (cB, 300, .inl T)), (g, .inr (2, [.ref gt, .int (nI n), .ref gm, .ref gs, .int (nI ((ws ++ [stem (wf T p0) k]).length)), .ref gw, .int (nI k), .ref gb])), (gm, .inl (cB, 3624, .inl gM)), (gs, .inl (cI, 151, .inl gS)), (gw, .inl (cB, 300, .inl gW))] := hD
          refine lv_goto hx hb d_M_read_58 rfl ?_
          have hP : va_P D cls [(g, .inr (2, [.ref gt, .int (nI n), .ref gm, .ref gs, .int (nI ((ws ++ [stem (wf T p0) k]).length)), .ref gw, .int (nI k), .ref gb])), (gt, .inl (cB, 300, .inl T)), (gm, .inl (cB, 3624, .inl gM)), (gs, .inl (cI, 151, .inl gS)), (gw, .inl (cB, 300, .inl gW))] H := hP.sub [1, 0, 2, 3, 4] rfl
          have hD : va_D A [(g, .inr (2, [.ref gt, .int (nI n), .ref gm, .ref gs, .int (nI ((ws ++ [stem (wf T p0) k]).length)), .ref gw, .int (nI k), .ref gb])), (gt, .inl (cB, 300, .inl T)), (gm, .inl (cB, 3624, .inl gM)), (gs, .inl (cI, 151, .inl gS)), (gw, .inl (cB, 300, .inl gW))] := hD.sub [1, 0, 2, 3, 4] (by decide) rfl
          exact ih_loop _ (by omega) (p0 + k) (ws ++ [stem (wf T p0) k]) gM gS (nI k) gW rfl (q1) (by omega) (fun a b => by rcases q3 with q3 | q3; (· omega); (· rw [q3] at b; cases b)) (hR2) (by rw [← hw, RW_word (k := p0 + k) (by omega) q1 q2 q3 h6, Nat.add_sub_cancel_left]; simp) _ _ _ hl hP hD hS
        · exact False.elim (by omega)
      · refine n_if_ne X (by omega) d_M_read_24 rfl (fun h24 => ?_) (fun h24 => ?_)
        · exact False.elim (by omega)
        · refine lv_iinc hx hb d_M_read_27 hl (k := 0) rfl (v := (nI (p0 + 1))) (n_inc _ 1) (by decide) rfl (fun ls hl => ?_)
          have hl : lv_has ls 2 [(1, .int (nI (p0 + 1))), (0, .ref g)] := hl
          refine lv_goto hx hb d_M_read_30 rfl ?_
          exact ih_loop _ (by omega) (p0 + 1) ws fM fS wl fW rfl (by omega) (by omega) (fun _ _ => ⟨by omega, Or.inr (by rw [Nat.add_sub_cancel]; exact he)⟩) (hR) (by rw [← hw, RW_next (k := p0) (Or.inr he)]) _ _ _ hl hP hD hS
  exact loop _ 0 ([]) fM fS wl fW rfl (Nat.zero_le _) (Nat.zero_le _) (fun _ _ => ⟨Nat.zero_le _, Or.inl rfl⟩) (Rep_nil _ _) (rfl) _ _ _ hl hP hD hS
end
section
-- methods that change cells: the reference, second part (gen/mmut2.py)
set_option maxHeartbeats 4000000 in
set_option maxRecDepth 100000 in
theorem c_Mdistance (l : Launch) (D : va_G) (cB cI : ClassId) (g gt gm gs gw gb : Nat) (tn cn wl : Int32) (fM fS fB : Nat → Int32) (x w9 : List Nat) (a b : Nat) (ha : a ≤ 150) (hb9 : b ≤ 150) (hsa : fS a = nI x.length) (hsb : fS b = nI w9.length) (hx4 : x.length ≤ 24) (hw4 : w9.length ≤ 24) (hxa : ∀ i, i < x.length → fM (24 * a + i) = nI (x.getD i 0) ∧ x.getD i 0 < 128) (hxb : ∀ i, i < w9.length → fM (24 * b + i) = nI (w9.getD i 0) ∧ w9.getD i 0 < 128) : CtI (S := (Nat → Int32)) l y_M_distance b_M_distance 7 (some .int) 0 D cB cI [.ref g, .int (nI a), .int (nI b)] [(g, .inr (2, [.ref gt, .int tn, .ref gm, .ref gs, .int cn, .ref gw, .int wl, .ref gb])), (gm, .inl (cB, 3624, .inl fM)), (gs, .inl (cI, 151, .inl fS)), (gb, .inl (cI, 625, .inl fB))] (fun r u => r = nI (levW x w9)) (fun u => [(g, .inr (2, [.ref gt, .int tn, .ref gm, .ref gs, .int cn, .ref gw, .int wl, .ref gb])), (gm, .inl (cB, 3624, .inl fM)), (gs, .inl (cI, 151, .inl fS)), (gb, .inl (cI, 625, .inl u))]) := by
  refine CtI.mk (own := R_M) (by decide) rfl (Nat.le_of_ble_eq_true rfl) ?_
  intro p e s m args below meth c A Q ls X hP hD hS hA hl hret
  have hx := X.1
  have hb := X.2.1
  have hl : lv_has ls 7 [(0, .ref g), (1, .int (nI a)), (2, .int (nI b))] := hl
  refine lv_bipush (v := (nI 25)) hx hb d_M_distance_0 kb_25 ?_
  refine lv_istore_n hx hb d_M_distance_2 rfl hl (by decide) rfl (fun ls hl => ?_)
  have hl : lv_has ls 7 [(3, .int (nI 25)), (0, .ref g), (1, .int (nI a)), (2, .int (nI b))] := hl
  refine lv_iconst (v := (nI 0)) hx hb d_M_distance_3 ki_0 ?_
  refine lv_istore hx hb d_M_distance_4 hl (by decide) rfl (fun ls hl => ?_)
  have hl : lv_has ls 7 [(4, .int (nI 0)), (3, .int (nI 25)), (0, .ref g), (1, .int (nI a)), (2, .int (nI b))] := hl
  have la : ∀ (d9 : Nat) (i : Nat) (fB : Nat → Int32), x.length + 1 - i = d9 → (i ≤ x.length + 1) → (∀ s t, s < i → t ≤ w9.length → fB (25 * s + t) = nI (lw x w9 s t)) → ∀ (H : Heap) (locs : List Loc) (ls : Array Slot), lv_has ls 7 [(4, .int (nI i)), (3, .int (nI 25)), (0, .ref g), (1, .int (nI a)), (2, .int (nI b))] → va_P D cls [(g, .inr (2, [.ref gt, .int tn, .ref gm, .ref gs, .int cn, .ref gw, .int wl, .ref gb])), (gm, .inl (cB, 3624, .inl fM)), (gs, .inl (cI, 151, .inl fS)), (gb, .inl (cI, 625, .inl fB))] H → va_D A [(g, .inr (2, [.ref gt, .int tn, .ref gm, .ref gs, .int cn, .ref gw, .int wl, .ref gb])), (gm, .inl (cB, 3624, .inl fM)), (gs, .inl (cI, 151, .inl fS)), (gb, .inl (cI, 625, .inl fB))] → va_S A s.heap H locs → W p l e (rmd 0) s m args below meth c H locs 0 0 Q (F0 m 6 ls []) := by
    intro d9
    induction d9 using Nat.strongRecOn with
    | _ d9 ih_la =>
    intro i fB hd hi h1 H locs ls hl hP hD hS
    refine lv_iload hx hb d_M_distance_6 (lv_at hl 0 rfl) ?_
    refine lv_aload_n hx hb d_M_distance_8 rfl (lv_at hl 2 rfl) ?_
    refine gf_M_16 X hP 0 rfl d_M_distance_9 ?_
    refine lv_iload_n hx hb d_M_distance_12 rfl (lv_at hl 3 rfl) ?_
    refine n_iald X hP 2 rfl (by omega) (by decide) d_M_distance_13 ?_
    refine W.top (y := (nI x.length)) (hsa) ?_
    refine n_icmp_gt X (by omega) (by omega) d_M_distance_14 rfl (fun h14 => ?_) (fun h14 => ?_)
    · refine lv_aload_n hx hb d_M_distance_225 rfl (lv_at hl 2 rfl) ?_
      refine gf_M_23 X hP 0 rfl d_M_distance_226 ?_
      refine lv_iload_n hx hb d_M_distance_229 rfl (lv_at hl 1 rfl) ?_
      refine lv_aload_n hx hb d_M_distance_230 rfl (lv_at hl 2 rfl) ?_
      refine gf_M_16 X hP 0 rfl d_M_distance_231 ?_
      refine lv_iload_n hx hb d_M_distance_234 rfl (lv_at hl 3 rfl) ?_
      refine n_iald X hP 2 rfl (by omega) (by decide) d_M_distance_235 ?_
      refine W.top (y := (nI x.length)) (hsa) ?_
      refine n_imul X d_M_distance_236 ?_
      refine lv_aload_n hx hb d_M_distance_237 rfl (lv_at hl 2 rfl) ?_
      refine gf_M_16 X hP 0 rfl d_M_distance_238 ?_
      refine lv_iload_n hx hb d_M_distance_241 rfl (lv_at hl 4 rfl) ?_
      refine n_iald X hP 2 rfl (by omega) (by decide) d_M_distance_242 ?_
      refine W.top (y := (nI w9.length)) (hsb) ?_
      refine n_iadd X d_M_distance_243 ?_
      refine n_iald X hP 3 rfl (by omega) (by decide) d_M_distance_244 ?_
      exact hret _ fB _ _ _ _ (by rw [h1 _ _ (by omega) (Nat.le_refl _)]; rfl) rfl hP hD hS d_M_distance_245
    · refine lv_iconst (v := (nI 0)) hx hb d_M_distance_17 ki_0 ?_
      refine lv_istore hx hb d_M_distance_18 hl (by decide) rfl (fun ls hl => ?_)
      have hl : lv_has ls 7 [(5, .int (nI 0)), (4, .int (nI i)), (3, .int (nI 25)), (0, .ref g), (1, .int (nI a)), (2, .int (nI b))] := hl
      have lb : ∀ (d9 : Nat) (j : Nat) (gB : Nat → Int32), w9.length + 1 - j = d9 → (j ≤ w9.length + 1) → (∀ s t, s < i → t ≤ w9.length → gB (25 * s + t) = nI (lw x w9 s t)) → (∀ t, t < j → gB (25 * i + t) = nI (lw x w9 i t)) → ∀ (H : Heap) (locs : List Loc) (ls : Array Slot), lv_has ls 7 [(5, .int (nI j)), (4, .int (nI i)), (3, .int (nI 25)), (0, .ref g), (1, .int (nI a)), (2, .int (nI b))] → va_P D cls [(g, .inr (2, [.ref gt, .int tn, .ref gm, .ref gs, .int cn, .ref gw, .int wl, .ref gb])), (gm, .inl (cB, 3624, .inl fM)), (gs, .inl (cI, 151, .inl fS)), (gb, .inl (cI, 625, .inl gB))] H → va_D A [(g, .inr (2, [.ref gt, .int tn, .ref gm, .ref gs, .int cn, .ref gw, .int wl, .ref gb])), (gm, .inl (cB, 3624, .inl fM)), (gs, .inl (cI, 151, .inl fS)), (gb, .inl (cI, 625, .inl gB))] → va_S A s.heap H locs → W p l e (rmd 0) s m args below meth c H locs 0 0 Q (F0 m 20 ls []) := by
        intro d9
        induction d9 using Nat.strongRecOn with
        | _ d9 ih_lb =>
        intro j gB hd hj h2 h3 H locs ls hl hP hD hS
        refine lv_iload hx hb d_M_distance_20 (lv_at hl 0 rfl) ?_
        refine lv_aload_n hx hb d_M_distance_22 rfl (lv_at hl 3 rfl) ?_
        refine gf_M_16 X hP 0 rfl d_M_distance_23 ?_
        refine lv_iload_n hx hb d_M_distance_26 rfl (lv_at hl 5 rfl) ?_
        refine n_iald X hP 2 rfl (by omega) (by decide) d_M_distance_27 ?_
        refine W.top (y := (nI w9.length)) (hsb) ?_
        refine n_icmp_gt X (by omega) (by omega) d_M_distance_28 rfl (fun h28 => ?_) (fun h28 => ?_)
        · refine lv_iinc hx hb d_M_distance_219 hl (k := 1) rfl (v := (nI (i + 1))) (n_inc _ 1) (by decide) rfl (fun ls hl => ?_)
          have hl : lv_has ls 7 [(4, .int (nI (i + 1))), (5, .int (nI j)), (3, .int (nI 25)), (0, .ref g), (1, .int (nI a)), (2, .int (nI b))] := hl
          refine lv_goto hx hb d_M_distance_222 rfl ?_
          exact ih_la _ (by omega) (i + 1) gB rfl (by omega) (tab_row h2 h3 h28) _ _ _ (lv_sub hl [0, 2, 3, 4, 5] rfl) hP hD hS
        · have J199 : ∀ (v9 : Nat), (v9 = lw x w9 i j) → ∀ (H : Heap) (locs : List Loc) (ls : Array Slot), lv_has ls 7 [(6, .int (nI v9)), (5, .int (nI j)), (4, .int (nI i)), (3, .int (nI 25)), (0, .ref g), (1, .int (nI a)), (2, .int (nI b))] → va_P D cls [(g, .inr (2, [.ref gt, .int tn, .ref gm, .ref gs, .int cn, .ref gw, .int wl, .ref gb])), (gm, .inl (cB, 3624, .inl fM)), (gs, .inl (cI, 151, .inl fS)), (gb, .inl (cI, 625, .inl gB))] H → va_D A [(g, .inr (2, [.ref gt, .int tn, .ref gm, .ref gs, .int cn, .ref gw, .int wl, .ref gb])), (gm, .inl (cB, 3624, .inl fM)), (gs, .inl (cI, 151, .inl fS)), (gb, .inl (cI, 625, .inl gB))] → va_S A s.heap H locs → W p l e (rmd 0) s m args below meth c H locs 0 0 Q (F0 m 199 ls []) := by
            intro v9 hv H locs ls hl hP hD hS
            subst hv
            obtain ⟨p1, p2⟩ := tab_put hw4 h2 h3 (show j ≤ w9.length by omega)
            refine lv_aload_n hx hb d_M_distance_199 rfl (lv_at hl 4 rfl) ?_
            refine gf_M_23 X hP 0 rfl d_M_distance_200 ?_
            refine lv_iload_n hx hb d_M_distance_203 rfl (lv_at hl 3 rfl) ?_
            refine lv_iload hx hb d_M_distance_204 (lv_at hl 2 rfl) ?_
            refine n_imul X d_M_distance_206 ?_
            refine lv_iload hx hb d_M_distance_207 (lv_at hl 1 rfl) ?_
            refine n_iadd X d_M_distance_209 ?_
            refine lv_iload hx hb d_M_distance_210 (lv_at hl 0 rfl) ?_
            refine n_iast X hP hD hS 3 rfl (by omega) (by decide) d_M_distance_212 (fun H locs hP hD hS => ?_)
            have hP : va_P D cls [(g, .inr (2, [.ref gt, .int tn, .ref gm, .ref gs, .int cn, .ref gw, .int wl, .ref gb])), (gm, .inl (cB, 3624, .inl fM)), (gs, .inl (cI, 151, .inl fS)), (gb, .inl (cI, 625, .inl (upd gB ((25 * i) + j) (nI (lw x w9 i j)))))] H := hP
            have hD : va_D A [(g, .inr (2, [.ref gt, .int tn, .ref gm, .ref gs, .int cn, .ref gw, .int wl, .ref gb])), (gm, .inl (cB, 3624, .inl fM)), (gs, .inl (cI, 151, .inl fS)), (gb, .inl (cI, 625, .inl (upd gB ((25 * i) + j) (nI (lw x w9 i j)))))] := hD
            refine lv_iinc hx hb d_M_distance_213 hl (k := 1) rfl (v := (nI (j + 1))) (n_inc _ 1) (by decide) rfl (fun ls hl => ?_)
            have hl : lv_has ls 7 [(5, .int (nI (j + 1))), (6, .int (nI (lw x w9 i j))), (4, .int (nI i)), (3, .int (nI 25)), (0, .ref g), (1, .int (nI a)), (2, .int (nI b))] := hl
            refine lv_goto hx hb d_M_distance_216 rfl ?_
            exact ih_lb _ (by omega) (j + 1) (upd gB (25 * i + j) (nI (lw x w9 i j))) rfl (by omega) (p1) (p2) _ _ _ (lv_sub hl [0, 2, 3, 4, 5, 6] rfl) hP hD hS
          refine lv_iload hx hb d_M_distance_31 (lv_at hl 1 rfl) ?_
          refine n_if_ne X (by omega) d_M_distance_33 rfl (fun h33 => ?_) (fun h33 => ?_)
          · refine lv_iload hx hb d_M_distance_41 (lv_at hl 0 rfl) ?_
            refine n_if_ne X (by omega) d_M_distance_43 rfl (fun h43 => ?_) (fun h43 => ?_)
            · refine lv_sipush (v := (nI 1000)) hx hb d_M_distance_51 ks_1000 ?_
              refine lv_istore hx hb d_M_distance_54 hl (by decide) rfl (fun ls hl => ?_)
              have hl : lv_has ls 7 [(6, .int (nI 1000)), (5, .int (nI j)), (4, .int (nI i)), (3, .int (nI 25)), (0, .ref g), (1, .int (nI a)), (2, .int (nI b))] := hl
              refine lv_iload hx hb d_M_distance_56 (lv_at hl 2 rfl) ?_
              refine n_if_le X (by omega) d_M_distance_58 rfl (fun h58 => ?_) (fun h58 => ?_)
              · exact False.elim (by omega)
              · refine lv_iload hx hb d_M_distance_61 (lv_at hl 1 rfl) ?_
                refine n_if_le X (by omega) d_M_distance_63 rfl (fun h63 => ?_) (fun h63 => ?_)
                · exact False.elim (by omega)
                · obtain ⟨u1, u2⟩ := hxa (i - 1) (by omega)
                  obtain ⟨v1, v2⟩ := hxb (j - 1) (by omega)
                  have q1 := lw_le x w9 (i - 1) (j - 1)
                  have q2 := lw_le x w9 (i - 1) j
                  have q3 := lw_le x w9 i (j - 1)
                  have g1 : gB (25 * (i - 1) + j - 1) = nI (lw x w9 (i - 1) (j - 1)) := by rw [show 25 * (i - 1) + j - 1 = 25 * (i - 1) + (j - 1) by omega]; exact h2 _ _ (by omega) (by omega)
                  have g2 : gB (25 * (i - 1) + j) = nI (lw x w9 (i - 1) j) := h2 _ _ (by omega) (by omega)
                  have g3 : gB (25 * i + j - 1) = nI (lw x w9 i (j - 1)) := by rw [show 25 * i + j - 1 = 25 * i + (j - 1) by omega]; exact h3 _ (by omega)
                  have J121 : ∀ (s9 : Nat), (s9 = if x.getD (i - 1) 0 = w9.getD (j - 1) 0 then 0 else 1) → ∀ (H : Heap) (locs : List Loc) (ls : Array Slot), lv_has ls 7 [(6, .int (nI (lw x w9 (i - 1) (j - 1) + s9))), (5, .int (nI j)), (4, .int (nI i)), (3, .int (nI 25)), (0, .ref g), (1, .int (nI a)), (2, .int (nI b))] → va_P D cls [(g, .inr (2, [.ref gt, .int tn, .ref gm, .ref gs, .int cn, .ref gw, .int wl, .ref gb])), (gm, .inl (cB, 3624, .inl fM)), (gs, .inl (cI, 151, .inl fS)), (gb, .inl (cI, 625, .inl gB))] H → va_D A [(g, .inr (2, [.ref gt, .int tn, .ref gm, .ref gs, .int cn, .ref gw, .int wl, .ref gb])), (gm, .inl (cB, 3624, .inl fM)), (gs, .inl (cI, 151, .inl fS)), (gb, .inl (cI, 625, .inl gB))] → va_S A s.heap H locs → W p l e (rmd 0) s m args below meth c H locs 0 0 Q (F0 m 121 ls []) := by
                    intro s9 hs H locs ls hl hP hD hS
                    have hs1 : s9 ≤ 1 := by rw [hs]; split <;> omega
                    have hp := lw_p (x := x) (w := w9) (i := i) (j := j) (by omega) (by omega) hs
                    have J160 : ∀ (v9 : Nat), (v9 = min (lw x w9 (i - 1) (j - 1) + s9) (1 + lw x w9 (i - 1) j)) → ∀ (H : Heap) (locs : List Loc) (ls : Array Slot), lv_has ls 7 [(6, .int (nI v9)), (5, .int (nI j)), (4, .int (nI i)), (3, .int (nI 25)), (0, .ref g), (1, .int (nI a)), (2, .int (nI b))] → va_P D cls [(g, .inr (2, [.ref gt, .int tn, .ref gm, .ref gs, .int cn, .ref gw, .int wl, .ref gb])), (gm, .inl (cB, 3624, .inl fM)), (gs, .inl (cI, 151, .inl fS)), (gb, .inl (cI, 625, .inl gB))] H → va_D A [(g, .inr (2, [.ref gt, .int tn, .ref gm, .ref gs, .int cn, .ref gw, .int wl, .ref gb])), (gm, .inl (cB, 3624, .inl fM)), (gs, .inl (cI, 151, .inl fS)), (gb, .inl (cI, 625, .inl gB))] → va_S A s.heap H locs → W p l e (rmd 0) s m args below meth c H locs 0 0 Q (F0 m 160 ls []) := by
                      intro v9 hv H locs ls hl hP hD hS
                      refine lv_aload_n hx hb d_M_distance_160 rfl (lv_at hl 4 rfl) ?_
                      refine gf_M_23 X hP 0 rfl d_M_distance_161 ?_
                      refine lv_iload_n hx hb d_M_distance_164 rfl (lv_at hl 3 rfl) ?_
                      refine lv_iload hx hb d_M_distance_165 (lv_at hl 2 rfl) ?_
                      refine n_imul X d_M_distance_167 ?_
                      refine lv_iload hx hb d_M_distance_168 (lv_at hl 1 rfl) ?_
                      refine n_iadd X d_M_distance_170 ?_
                      refine lv_iconst (v := (nI 1)) hx hb d_M_distance_171 ki_1 ?_
                      refine n_isub X (by omega) d_M_distance_172 ?_
                      refine n_iald X hP 3 rfl (by omega) (by decide) d_M_distance_173 ?_
                      refine W.top (y := (nI (lw x w9 i (j - 1)))) (g3) ?_
                      refine lv_iconst (v := (nI 1)) hx hb d_M_distance_174 ki_1 ?_
                      refine n_iadd X d_M_distance_175 ?_
                      refine lv_iload hx hb d_M_distance_176 (lv_at hl 0 rfl) ?_
                      refine n_icmp_ge X (by omega) (by omega) d_M_distance_178 rfl (fun h178 => ?_) (fun h178 => ?_)
                      · exact J199 v9 (by omega) _ _ _ hl hP hD hS
                      · refine lv_aload_n hx hb d_M_distance_181 rfl (lv_at hl 4 rfl) ?_
                        refine gf_M_23 X hP 0 rfl d_M_distance_182 ?_
                        refine lv_iload_n hx hb d_M_distance_185 rfl (lv_at hl 3 rfl) ?_
                        refine lv_iload hx hb d_M_distance_186 (lv_at hl 2 rfl) ?_
                        refine n_imul X d_M_distance_188 ?_
                        refine lv_iload hx hb d_M_distance_189 (lv_at hl 1 rfl) ?_
                        refine n_iadd X d_M_distance_191 ?_
                        refine lv_iconst (v := (nI 1)) hx hb d_M_distance_192 ki_1 ?_
                        refine n_isub X (by omega) d_M_distance_193 ?_
                        refine n_iald X hP 3 rfl (by omega) (by decide) d_M_distance_194 ?_
                        refine W.top (y := (nI (lw x w9 i (j - 1)))) (g3) ?_
                        refine lv_iconst (v := (nI 1)) hx hb d_M_distance_195 ki_1 ?_
                        refine n_iadd X d_M_distance_196 ?_
                        refine lv_istore hx hb d_M_distance_197 hl (by decide) rfl (fun ls hl => ?_)
                        have hl : lv_has ls 7 [(6, .int (nI ((lw x w9 i (j - 1)) + 1))), (5, .int (nI j)), (4, .int (nI i)), (3, .int (nI 25)), (0, .ref g), (1, .int (nI a)), (2, .int (nI b))] := hl
                        exact J199 (lw x w9 i (j - 1) + 1) (by omega) _ _ _ hl hP hD hS
                    refine lv_aload_n hx hb d_M_distance_121 rfl (lv_at hl 4 rfl) ?_
                    refine gf_M_23 X hP 0 rfl d_M_distance_122 ?_
                    refine lv_iload_n hx hb d_M_distance_125 rfl (lv_at hl 3 rfl) ?_
                    refine lv_iload hx hb d_M_distance_126 (lv_at hl 2 rfl) ?_
                    refine lv_iconst (v := (nI 1)) hx hb d_M_distance_128 ki_1 ?_
                    refine n_isub X (by omega) d_M_distance_129 ?_
                    refine n_imul X d_M_distance_130 ?_
                    refine lv_iload hx hb d_M_distance_131 (lv_at hl 1 rfl) ?_
                    refine n_iadd X d_M_distance_133 ?_
                    refine n_iald X hP 3 rfl (by omega) (by decide) d_M_distance_134 ?_
                    refine W.top (y := (nI (lw x w9 (i - 1) j))) (g2) ?_
                    refine lv_iconst (v := (nI 1)) hx hb d_M_distance_135 ki_1 ?_
                    refine n_iadd X d_M_distance_136 ?_
                    refine lv_iload hx hb d_M_distance_137 (lv_at hl 0 rfl) ?_
                    refine n_icmp_ge X (by omega) (by omega) d_M_distance_139 rfl (fun h139 => ?_) (fun h139 => ?_)
                    · exact J160 (lw x w9 (i - 1) (j - 1) + s9) (by omega) _ _ _ hl hP hD hS
                    · refine lv_aload_n hx hb d_M_distance_142 rfl (lv_at hl 4 rfl) ?_
                      refine gf_M_23 X hP 0 rfl d_M_distance_143 ?_
                      refine lv_iload_n hx hb d_M_distance_146 rfl (lv_at hl 3 rfl) ?_
                      refine lv_iload hx hb d_M_distance_147 (lv_at hl 2 rfl) ?_
                      refine lv_iconst (v := (nI 1)) hx hb d_M_distance_149 ki_1 ?_
                      refine n_isub X (by omega) d_M_distance_150 ?_
                      refine n_imul X d_M_distance_151 ?_
                      refine lv_iload hx hb d_M_distance_152 (lv_at hl 1 rfl) ?_
                      refine n_iadd X d_M_distance_154 ?_
                      refine n_iald X hP 3 rfl (by omega) (by decide) d_M_distance_155 ?_
                      refine W.top (y := (nI (lw x w9 (i - 1) j))) (g2) ?_
                      refine lv_iconst (v := (nI 1)) hx hb d_M_distance_156 ki_1 ?_
                      refine n_iadd X d_M_distance_157 ?_
                      refine lv_istore hx hb d_M_distance_158 hl (by decide) rfl (fun ls hl => ?_)
                      have hl : lv_has ls 7 [(6, .int (nI ((lw x w9 (i - 1) j) + 1))), (5, .int (nI j)), (4, .int (nI i)), (3, .int (nI 25)), (0, .ref g), (1, .int (nI a)), (2, .int (nI b))] := hl
                      exact J160 (lw x w9 (i - 1) j + 1) (by omega) _ _ _ hl hP hD hS
                  refine lv_aload_n hx hb d_M_distance_66 rfl (lv_at hl 4 rfl) ?_
                  refine gf_M_23 X hP 0 rfl d_M_distance_67 ?_
                  refine lv_iload_n hx hb d_M_distance_70 rfl (lv_at hl 3 rfl) ?_
                  refine lv_iload hx hb d_M_distance_71 (lv_at hl 2 rfl) ?_
                  refine lv_iconst (v := (nI 1)) hx hb d_M_distance_73 ki_1 ?_
                  refine n_isub X (by omega) d_M_distance_74 ?_
                  refine n_imul X d_M_distance_75 ?_
                  refine lv_iload hx hb d_M_distance_76 (lv_at hl 1 rfl) ?_
                  refine n_iadd X d_M_distance_78 ?_
                  refine lv_iconst (v := (nI 1)) hx hb d_M_distance_79 ki_1 ?_
                  refine n_isub X (by omega) d_M_distance_80 ?_
                  refine n_iald X hP 3 rfl (by omega) (by decide) d_M_distance_81 ?_
                  refine W.top (y := (nI (lw x w9 (i - 1) (j - 1)))) (g1) ?_
                  refine lv_aload_n hx hb d_M_distance_82 rfl (lv_at hl 4 rfl) ?_
                  refine gf_M_13 X hP 0 rfl d_M_distance_83 ?_
                  refine lv_bipush (v := (nI 24)) hx hb d_M_distance_86 kb_24 ?_
                  refine lv_iload_n hx hb d_M_distance_88 rfl (lv_at hl 5 rfl) ?_
                  refine n_imul X d_M_distance_89 ?_
                  refine lv_iload hx hb d_M_distance_90 (lv_at hl 2 rfl) ?_
                  refine n_iadd X d_M_distance_92 ?_
                  refine lv_iconst (v := (nI 1)) hx hb d_M_distance_93 ki_1 ?_
                  refine n_isub X (by omega) d_M_distance_94 ?_
                  refine n_bald X hP 1 rfl (by omega) (by decide) d_M_distance_95 ?_
                  refine W.top (y := (nI (x.getD (i - 1) 0))) (by rw [show 24 * a + i - 1 = 24 * a + (i - 1) by omega]; exact u1) ?_
                  refine lv_aload_n hx hb d_M_distance_96 rfl (lv_at hl 4 rfl) ?_
                  refine gf_M_13 X hP 0 rfl d_M_distance_97 ?_
                  refine lv_bipush (v := (nI 24)) hx hb d_M_distance_100 kb_24 ?_
                  refine lv_iload_n hx hb d_M_distance_102 rfl (lv_at hl 6 rfl) ?_
                  refine n_imul X d_M_distance_103 ?_
                  refine lv_iload hx hb d_M_distance_104 (lv_at hl 1 rfl) ?_
                  refine n_iadd X d_M_distance_106 ?_
                  refine lv_iconst (v := (nI 1)) hx hb d_M_distance_107 ki_1 ?_
                  refine n_isub X (by omega) d_M_distance_108 ?_
                  refine n_bald X hP 1 rfl (by omega) (by decide) d_M_distance_109 ?_
                  refine W.top (y := (nI (w9.getD (j - 1) 0))) (by rw [show 24 * b + j - 1 = 24 * b + (j - 1) by omega]; exact v1) ?_
                  refine n_icmp_ne X (by omega) (by omega) d_M_distance_110 rfl (fun h110 => ?_) (fun h110 => ?_)
                  · refine lv_iconst (v := (nI 1)) hx hb d_M_distance_117 ki_1 ?_
                    refine n_iadd X d_M_distance_118 ?_
                    refine lv_istore hx hb d_M_distance_119 hl (by decide) rfl (fun ls hl => ?_)
                    have hl : lv_has ls 7 [(6, .int (nI ((lw x w9 (i - 1) (j - 1)) + 1))), (5, .int (nI j)), (4, .int (nI i)), (3, .int (nI 25)), (0, .ref g), (1, .int (nI a)), (2, .int (nI b))] := hl
                    exact J121 1 ((if_neg h110).symm) _ _ _ hl hP hD hS
                  · refine lv_iconst (v := (nI 0)) hx hb d_M_distance_113 ki_0 ?_
                    refine lv_goto hx hb d_M_distance_114 rfl ?_
                    refine n_iadd X d_M_distance_118 ?_
                    refine lv_istore hx hb d_M_distance_119 hl (by decide) rfl (fun ls hl => ?_)
                    have hl : lv_has ls 7 [(6, .int (nI ((lw x w9 (i - 1) (j - 1)) + 0))), (5, .int (nI j)), (4, .int (nI i)), (3, .int (nI 25)), (0, .ref g), (1, .int (nI a)), (2, .int (nI b))] := hl
                    exact J121 0 ((if_pos h110).symm) _ _ _ hl hP hD hS
            · refine lv_iload hx hb d_M_distance_46 (lv_at hl 1 rfl) ?_
              refine lv_goto hx hb d_M_distance_48 rfl ?_
              refine lv_istore hx hb d_M_distance_54 hl (by decide) rfl (fun ls hl => ?_)
              have hl : lv_has ls 7 [(6, .int (nI i)), (5, .int (nI j)), (4, .int (nI i)), (3, .int (nI 25)), (0, .ref g), (1, .int (nI a)), (2, .int (nI b))] := hl
              refine lv_iload hx hb d_M_distance_56 (lv_at hl 2 rfl) ?_
              refine n_if_le X (by omega) d_M_distance_58 rfl (fun h58 => ?_) (fun h58 => ?_)
              · exact False.elim (by omega)
              · refine lv_iload hx hb d_M_distance_61 (lv_at hl 1 rfl) ?_
                refine n_if_le X (by omega) d_M_distance_63 rfl (fun h63 => ?_) (fun h63 => ?_)
                · exact J199 i (by rw [h43, lw_i0]) _ _ _ hl hP hD hS
                · exact False.elim (by omega)
          · have hi0 : i = 0 := h33
            refine lv_iload hx hb d_M_distance_36 (lv_at hl 0 rfl) ?_
            refine lv_goto hx hb d_M_distance_38 rfl ?_
            refine lv_istore hx hb d_M_distance_54 hl (by decide) rfl (fun ls hl => ?_)
            have hl : lv_has ls 7 [(6, .int (nI j)), (5, .int (nI j)), (4, .int (nI i)), (3, .int (nI 25)), (0, .ref g), (1, .int (nI a)), (2, .int (nI b))] := hl
            refine lv_iload hx hb d_M_distance_56 (lv_at hl 2 rfl) ?_
            refine n_if_le X (by omega) d_M_distance_58 rfl (fun h58 => ?_) (fun h58 => ?_)
            · exact J199 j (by rw [hi0, lw_0]) _ _ _ hl hP hD hS
            · exact False.elim (by omega)
      exact lb _ 0 fB rfl (Nat.zero_le _) (h1) (fun t h => absurd h (Nat.not_lt_zero _)) _ _ _ hl hP hD hS
  exact la _ 0 fB rfl (Nat.zero_le _) (fun s t h _ => absurd h (Nat.not_lt_zero _)) _ _ _ hl hP hD hS

set_option maxHeartbeats 4000000 in
set_option maxRecDepth 100000 in
theorem c_Mapart (l : Launch) (D : va_G) (cB cI : ClassId) (g gt gm gs gw gb : Nat) (n : Nat) (wl : Int32) (fM fS fW T fB : Nat → Int32) (ws : List (List Nat)) (hR : Rep ws fS fM) (hc : ws.length ≤ 150) (hn : n ≤ 300) (k : Int32) : CtI (S := Nat × (Nat → Int32) × (Nat → Int32) × Int32 × (Nat → Int32) × (Nat → Int32)) l y_M_apart b_M_apart 2 (some .int) 3 D cB cI [.ref g, .int k] [(g, .inr (2, [.ref gt, .int (nI n), .ref gm, .ref gs, .int (nI ws.length), .ref gw, .int wl, .ref gb])), (gt, .inl (cB, 300, .inl T)), (gm, .inl (cB, 3624, .inl fM)), (gs, .inl (cI, 151, .inl fS)), (gw, .inl (cB, 300, .inl fW)), (gb, .inl (cI, 625, .inl fB))] (fun r u => r = apartA ws T n k ∧ u.1 = apartN ws n k ∧ Rep ws u.2.2.1 u.2.1) (fun u => [(g, .inr (2, [.ref gt, .int (nI u.1), .ref gm, .ref gs, .int (nI ws.length), .ref gw, .int u.2.2.2.1, .ref gb])), (gt, .inl (cB, 300, .inl T)), (gm, .inl (cB, 3624, .inl u.2.1)), (gs, .inl (cI, 151, .inl u.2.2.1)), (gw, .inl (cB, 300, .inl u.2.2.2.2.1)), (gb, .inl (cI, 625, .inl u.2.2.2.2.2))]) := by
  refine CtI.mk (own := R_M) (by decide) rfl (Nat.le_of_ble_eq_true rfl) ?_
  intro p e s m args below meth c A Q ls X hP hD hS hA hl hret
  have hx := X.1
  have hb := X.2.1
  have hl : lv_has ls 2 [(0, .ref g), (1, .int k)] := hl
  refine lv_aload_n hx hb d_M_apart_0 rfl (lv_at hl 0 rfl) ?_
  refine lv_iload_n hx hb d_M_apart_1 rfl (lv_at hl 1 rfl) ?_
  refine cP_V (rest := []) X st_M_55 tw1_219 tw0_6 (c_is l D cB cI g gt gm gs gw gb (nI n) wl ws.length hc k) (rok (by decide)) hP 0 rfl rfl [0] rfl rfl hl.1 rfl (Nat.le_of_ble_eq_true rfl) d_M_apart_2 (fun r2 hr => ?_)
  rcases hr with ⟨rfl, hr⟩ | ⟨rfl, hr⟩
  · obtain ⟨a, ha, rfl⟩ := inR_nat hr
    refine n_if_ne X (by omega) d_M_apart_5 rfl (fun h5 => ?_) (fun h5 => ?_)
    · refine lv_aload_n hx hb d_M_apart_11 rfl (lv_at hl 0 rfl) ?_
      refine cI_V (rest := []) (wr := [(gm, .inl (cB, 3624, .inl fM)), (gs, .inl (cI, 151, .inl fS)), (gb, .inl (cI, 625, .inl fB))]) X st_M_65 tw2_4 tw0_8 (c_oneWord l D cB cI g gt gm gs gw gb n (nI ws.length) wl T fW hn) (rok (by decide)) hP hD hS hA 0 rfl rfl [0, 1, 4] [2, 3, 5] rfl rfl (by decide) (by decide) (by decide) rfl hl.1 rfl (Nat.le_of_ble_eq_true rfl) d_M_apart_12 (fun r12 u9 H locs hr hP hD hS => ?_)
      obtain ⟨wl2, fW2⟩ := u9
      have hP : va_P D cls [(gm, .inl (cB, 3624, .inl fM)), (gs, .inl (cI, 151, .inl fS)), (gb, .inl (cI, 625, .inl fB)), (g, .inr (2, [.ref gt, .int (nI 0), .ref gm, .ref gs, .int (nI ws.length), .ref gw, .int wl2, .ref gb])), (gt, .inl (cB, 300, .inl T)), (gw, .inl (cB, 300, .inl fW2))] H := hP
      have hD : va_D A [(gm, .inl (cB, 3624, .inl fM)), (gs, .inl (cI, 151, .inl fS)), (gb, .inl (cI, 625, .inl fB)), (g, .inr (2, [.ref gt, .int (nI 0), .ref gm, .ref gs, .int (nI ws.length), .ref gw, .int wl2, .ref gb])), (gt, .inl (cB, 300, .inl T)), (gw, .inl (cB, 300, .inl fW2))] := hD
      rcases hr with ⟨rfl, haw, hwl, hf⟩ | ⟨rfl, haw⟩
      · have hP : va_P D cls [(g, .inr (2, [.ref gt, .int (nI 0), .ref gm, .ref gs, .int (nI ws.length), .ref gw, .int wl2, .ref gb])), (gt, .inl (cB, 300, .inl T)), (gm, .inl (cB, 3624, .inl fM)), (gs, .inl (cI, 151, .inl fS)), (gw, .inl (cB, 300, .inl fW2)), (gb, .inl (cI, 625, .inl fB))] H := hP.sub [3, 4, 0, 1, 5, 2] rfl
        have hD : va_D A [(g, .inr (2, [.ref gt, .int (nI 0), .ref gm, .ref gs, .int (nI ws.length), .ref gw, .int wl2, .ref gb])), (gt, .inl (cB, 300, .inl T)), (gm, .inl (cB, 3624, .inl fM)), (gs, .inl (cI, 151, .inl fS)), (gw, .inl (cB, 300, .inl fW2)), (gb, .inl (cI, 625, .inl fB))] := hD.sub [3, 4, 0, 1, 5, 2] (by decide) rfl
        dsimp only at hwl hf
        subst hwl
        refine n_if_ne X (by omega) d_M_apart_15 rfl (fun h15 => ?_) (fun h15 => ?_)
        · refine lv_aload_n hx hb d_M_apart_20 rfl (lv_at hl 0 rfl) ?_
          refine lv_sipush (v := (nI 150)) hx hb d_M_apart_21 ks_150 ?_
          refine lv_iconst (v := (nI 1)) hx hb d_M_apart_24 ki_1 ?_
          refine cV_V (rest := []) (wr := [(gt, .inl (cB, 300, .inl T)), (gb, .inl (cI, 625, .inl fB))]) X st_M_51 tw1_207 tw0_4 (c_noteS l D cB cI g gt gm gs gw gb (nI 0) (nI ws.length) n 150 fM fS fW2 (wf T 0) hf hn (Nat.le_refl _)) (rok (by decide)) hP hD hS hA 0 rfl rfl [0, 2, 3, 4] [1, 5] rfl rfl (by decide) (by decide) (by decide) rfl hl.1 rfl (Nat.le_of_ble_eq_true rfl) d_M_apart_25 (fun u9 H locs hN hP hD hS => ?_)
          obtain ⟨gM, gS, gW⟩ := u9
          have hP : va_P D cls [(gt, .inl (cB, 300, .inl T)), (gb, .inl (cI, 625, .inl fB)), (g, .inr (2, [.ref gt, .int (nI 0), .ref gm, .ref gs, .int (nI ws.length), .ref gw, .int (nI n), .ref gb])), (gm, .inl (cB, 3624, .inl gM)), (gs, .inl (cI, 151, .inl gS)), (gw, .inl (cB, 300, .inl gW))] H := hP
          have hD : va_D A [(gt, .inl (cB, 300, .inl T)), (gb, .inl (cI, 625, .inl fB)), (g, .inr (2, [.ref gt, .int (nI 0), .ref gm, .ref gs, .int (nI ws.length), .ref gw, .int (nI n), .ref gb])), (gm, .inl (cB, 3624, .inl gM)), (gs, .inl (cI, 151, .inl gS)), (gw, .inl (cB, 300, .inl gW))] := hD
          have hR2 := Rep_note hR hc hN
          have hP : va_P D cls [(g, .inr (2, [.ref gt, .int (nI 0), .ref gm, .ref gs, .int (nI ws.length), .ref gw, .int (nI n), .ref gb])), (gt, .inl (cB, 300, .inl T)), (gm, .inl (cB, 3624, .inl gM)), (gs, .inl (cI, 151, .inl gS)), (gw, .inl (cB, 300, .inl gW)), (gb, .inl (cI, 625, .inl fB))] H := hP.sub [2, 0, 3, 4, 5, 1] rfl
          have hD : va_D A [(g, .inr (2, [.ref gt, .int (nI 0), .ref gm, .ref gs, .int (nI ws.length), .ref gw, .int (nI n), .ref gb])), (gt, .inl (cB, 300, .inl T)), (gm, .inl (cB, 3624, .inl gM)), (gs, .inl (cI, 151, .inl gS)), (gw, .inl (cB, 300, .inl gW)), (gb, .inl (cI, 625, .inl fB))] := hD.sub [2, 0, 3, 4, 5, 1] (by decide) rfl
          have hst : ∀ i, i < (stem (wf T 0) n).length → gM (24 * 150 + i) = nI ((stem (wf T 0) n).getD i 0) ∧ (stem (wf T 0) n).getD i 0 < 128 := fun i hi => ⟨hN.2.2.2 i hi, stem_lt (fun i hi => (hf i hi).2) hi⟩
          refine lv_aload_n hx hb d_M_apart_28 rfl (lv_at hl 0 rfl) ?_
          refine lv_iload_n hx hb d_M_apart_29 rfl (lv_at hl 1 rfl) ?_
          refine lv_sipush (v := (nI 150)) hx hb d_M_apart_30 ks_150 ?_
          refine cI_V (rest := []) (wr := [(gt, .inl (cB, 300, .inl T)), (gw, .inl (cB, 300, .inl gW))]) X st_M_69 tw2_8 tw0_9 (c_Mdistance l D cB cI g gt gm gs gw gb (nI 0) (nI ws.length) (nI n) gM gS fB (wd ws a) (stem (wf T 0) n) a 150 (by omega) (Nat.le_refl _) (hR2 a ha).1 hN.2.2.1 (hR2 a ha).2.1 (stem_le _ _) (hR2 a ha).2.2 hst) (rok (by decide)) hP hD hS hA 0 rfl rfl [0, 2, 3, 5] [1, 4] rfl rfl (by decide) (by decide) (by decide) rfl hl.1 rfl (Nat.le_of_ble_eq_true rfl) d_M_apart_33 (fun r33 hB H locs hd hP hD hS => ?_)
          have hP : va_P D cls [(gt, .inl (cB, 300, .inl T)), (gw, .inl (cB, 300, .inl gW)), (g, .inr (2, [.ref gt, .int (nI 0), .ref gm, .ref gs, .int (nI ws.length), .ref gw, .int (nI n), .ref gb])), (gm, .inl (cB, 3624, .inl gM)), (gs, .inl (cI, 151, .inl gS)), (gb, .inl (cI, 625, .inl hB))] H := hP
          have hD : va_D A [(gt, .inl (cB, 300, .inl T)), (gw, .inl (cB, 300, .inl gW)), (g, .inr (2, [.ref gt, .int (nI 0), .ref gm, .ref gs, .int (nI ws.length), .ref gw, .int (nI n), .ref gb])), (gm, .inl (cB, 3624, .inl gM)), (gs, .inl (cI, 151, .inl gS)), (gb, .inl (cI, 625, .inl hB))] := hD
          have hP : va_P D cls [(g, .inr (2, [.ref gt, .int (nI 0), .ref gm, .ref gs, .int (nI ws.length), .ref gw, .int (nI n), .ref gb])), (gt, .inl (cB, 300, .inl T)), (gm, .inl (cB, 3624, .inl gM)), (gs, .inl (cI, 151, .inl gS)), (gw, .inl (cB, 300, .inl gW)), (gb, .inl (cI, 625, .inl hB))] H := hP.sub [2, 0, 3, 4, 1, 5] rfl
          have hD : va_D A [(g, .inr (2, [.ref gt, .int (nI 0), .ref gm, .ref gs, .int (nI ws.length), .ref gw, .int (nI n), .ref gb])), (gt, .inl (cB, 300, .inl T)), (gm, .inl (cB, 3624, .inl gM)), (gs, .inl (cI, 151, .inl gS)), (gw, .inl (cB, 300, .inl gW)), (gb, .inl (cI, 625, .inl hB))] := hD.sub [2, 0, 3, 4, 1, 5] (by decide) rfl
          exact hret _ (0, gM, gS, nI n, gW, hB) _ _ _ _ (⟨by rw [hd]; exact (apart_y ha hc haw).1, (apart_y ha hc haw).2, hR2⟩) rfl hP hD hS d_M_apart_36
        · exact False.elim (by omega)
      · have hP : va_P D cls [(g, .inr (2, [.ref gt, .int (nI 0), .ref gm, .ref gs, .int (nI ws.length), .ref gw, .int wl2, .ref gb])), (gt, .inl (cB, 300, .inl T)), (gm, .inl (cB, 3624, .inl fM)), (gs, .inl (cI, 151, .inl fS)), (gw, .inl (cB, 300, .inl fW2)), (gb, .inl (cI, 625, .inl fB))] H := hP.sub [3, 4, 0, 1, 5, 2] rfl
        have hD : va_D A [(g, .inr (2, [.ref gt, .int (nI 0), .ref gm, .ref gs, .int (nI ws.length), .ref gw, .int wl2, .ref gb])), (gt, .inl (cB, 300, .inl T)), (gm, .inl (cB, 3624, .inl fM)), (gs, .inl (cI, 151, .inl fS)), (gw, .inl (cB, 300, .inl fW2)), (gb, .inl (cI, 625, .inl fB))] := hD.sub [3, 4, 0, 1, 5, 2] (by decide) rfl
        refine n_if_ne X (by omega) d_M_apart_15 rfl (fun h15 => ?_) (fun h15 => ?_)
        · exact False.elim (by omega)
        · refine lv_iconst (v := (-1)) hx hb d_M_apart_18 ki_m1 ?_
          exact hret _ (0, fM, fS, wl2, fW2, fB) _ _ _ _ (⟨(apart_n ha hc haw).1, (apart_n ha hc haw).2, hR⟩) rfl hP hD hS d_M_apart_19
    · exact False.elim (by omega)
  · refine n_if_ne X (by omega) d_M_apart_5 rfl (fun h5 => ?_) (fun h5 => ?_)
    · exact False.elim (by omega)
    · refine lv_bipush (v := (-2)) hx hb d_M_apart_8 kb_m2 ?_
      exact hret _ (n, fM, fS, wl, fW, fB) _ _ _ _ (⟨(apart_o hr).1, (apart_o (T := T) hr).2, hR⟩) rfl hP hD hS d_M_apart_10

set_option maxHeartbeats 4000000 in
set_option maxRecDepth 100000 in
theorem c_Mnearest (l : Launch) (D : va_G) (cB cI : ClassId) (g gt gm gs gw gb : Nat) (n : Nat) (wl : Int32) (fM fS fW T fB : Nat → Int32) (ws : List (List Nat)) (hR : Rep ws fS fM) (hc : ws.length ≤ 150) (hn : n ≤ 300) : CtI (S := (Nat → Int32) × (Nat → Int32) × Int32 × (Nat → Int32) × (Nat → Int32)) l y_M_nearest b_M_nearest 5 (some .int) 3 D cB cI [.ref g] [(g, .inr (2, [.ref gt, .int (nI n), .ref gm, .ref gs, .int (nI ws.length), .ref gw, .int wl, .ref gb])), (gt, .inl (cB, 300, .inl T)), (gm, .inl (cB, 3624, .inl fM)), (gs, .inl (cI, 151, .inl fS)), (gw, .inl (cB, 300, .inl fW)), (gb, .inl (cI, 625, .inl fB))] (fun r u => r = nearA ws T n ∧ Rep ws u.2.1 u.1) (fun u => [(g, .inr (2, [.ref gt, .int (nI 0), .ref gm, .ref gs, .int (nI ws.length), .ref gw, .int u.2.2.1, .ref gb])), (gt, .inl (cB, 300, .inl T)), (gm, .inl (cB, 3624, .inl u.1)), (gs, .inl (cI, 151, .inl u.2.1)), (gw, .inl (cB, 300, .inl u.2.2.2.1)), (gb, .inl (cI, 625, .inl u.2.2.2.2))]) := by
  refine CtI.mk (own := R_M) (by decide) rfl (Nat.le_of_ble_eq_true rfl) ?_
  intro p e s m args below meth c A Q ls X hP hD hS hA hl hret
  have hx := X.1
  have hb := X.2.1
  have hl : lv_has ls 5 [(0, .ref g)] := hl
  refine lv_aload_n hx hb d_M_nearest_0 rfl (lv_at hl 0 rfl) ?_
  refine cI_V (rest := []) (wr := [(gm, .inl (cB, 3624, .inl fM)), (gs, .inl (cI, 151, .inl fS)), (gb, .inl (cI, 625, .inl fB))]) X st_M_65 tw2_4 tw0_8 (c_oneWord l D cB cI g gt gm gs gw gb n (nI ws.length) wl T fW hn) (rok (by decide)) hP hD hS hA 0 rfl rfl [0, 1, 4] [2, 3, 5] rfl rfl (by decide) (by decide) (by decide) rfl hl.1 rfl (Nat.le_of_ble_eq_true rfl) d_M_nearest_1 (fun r1 u9 H locs hr hP hD hS => ?_)
  obtain ⟨wl2, fW2⟩ := u9
  have hP : va_P D cls [(gm, .inl (cB, 3624, .inl fM)), (gs, .inl (cI, 151, .inl fS)), (gb, .inl (cI, 625, .inl fB)), (g, .inr (2, [.ref gt, .int (nI 0), .ref gm, .ref gs, .int (nI ws.length), .ref gw, .int wl2, .ref gb])), (gt, .inl (cB, 300, .inl T)), (gw, .inl (cB, 300, .inl fW2))] H := hP
  have hD : va_D A [(gm, .inl (cB, 3624, .inl fM)), (gs, .inl (cI, 151, .inl fS)), (gb, .inl (cI, 625, .inl fB)), (g, .inr (2, [.ref gt, .int (nI 0), .ref gm, .ref gs, .int (nI ws.length), .ref gw, .int wl2, .ref gb])), (gt, .inl (cB, 300, .inl T)), (gw, .inl (cB, 300, .inl fW2))] := hD
  rcases hr with ⟨rfl, haw, hwl, hf⟩ | ⟨rfl, haw⟩
  · have hP : va_P D cls [(g, .inr (2, [.ref gt, .int (nI 0), .ref gm, .ref gs, .int (nI ws.length), .ref gw, .int wl2, .ref gb])), (gt, .inl (cB, 300, .inl T)), (gm, .inl (cB, 3624, .inl fM)), (gs, .inl (cI, 151, .inl fS)), (gw, .inl (cB, 300, .inl fW2)), (gb, .inl (cI, 625, .inl fB))] H := hP.sub [3, 4, 0, 1, 5, 2] rfl
    have hD : va_D A [(g, .inr (2, [.ref gt, .int (nI 0), .ref gm, .ref gs, .int (nI ws.length), .ref gw, .int wl2, .ref gb])), (gt, .inl (cB, 300, .inl T)), (gm, .inl (cB, 3624, .inl fM)), (gs, .inl (cI, 151, .inl fS)), (gw, .inl (cB, 300, .inl fW2)), (gb, .inl (cI, 625, .inl fB))] := hD.sub [3, 4, 0, 1, 5, 2] (by decide) rfl
    dsimp only at hwl hf
    subst hwl
    refine n_if_ne X (by omega) d_M_nearest_4 rfl (fun h4 => ?_) (fun h4 => ?_)
    · refine lv_aload_n hx hb d_M_nearest_9 rfl (lv_at hl 0 rfl) ?_
      refine lv_sipush (v := (nI 150)) hx hb d_M_nearest_10 ks_150 ?_
      refine lv_iconst (v := (nI 1)) hx hb d_M_nearest_13 ki_1 ?_
      refine cV_V (rest := []) (wr := [(gt, .inl (cB, 300, .inl T)), (gb, .inl (cI, 625, .inl fB))]) X st_M_51 tw1_207 tw0_4 (c_noteS l D cB cI g gt gm gs gw gb (nI 0) (nI ws.length) n 150 fM fS fW2 (wf T 0) hf hn (Nat.le_refl _)) (rok (by decide)) hP hD hS hA 0 rfl rfl [0, 2, 3, 4] [1, 5] rfl rfl (by decide) (by decide) (by decide) rfl hl.1 rfl (Nat.le_of_ble_eq_true rfl) d_M_nearest_14 (fun u9 H locs hN hP hD hS => ?_)
      obtain ⟨gM, gS, gW⟩ := u9
      have hP : va_P D cls [(gt, .inl (cB, 300, .inl T)), (gb, .inl (cI, 625, .inl fB)), (g, .inr (2, [.ref gt, .int (nI 0), .ref gm, .ref gs, .int (nI ws.length), .ref gw, .int (nI n), .ref gb])), (gm, .inl (cB, 3624, .inl gM)), (gs, .inl (cI, 151, .inl gS)), (gw, .inl (cB, 300, .inl gW))] H := hP
      have hD : va_D A [(gt, .inl (cB, 300, .inl T)), (gb, .inl (cI, 625, .inl fB)), (g, .inr (2, [.ref gt, .int (nI 0), .ref gm, .ref gs, .int (nI ws.length), .ref gw, .int (nI n), .ref gb])), (gm, .inl (cB, 3624, .inl gM)), (gs, .inl (cI, 151, .inl gS)), (gw, .inl (cB, 300, .inl gW))] := hD
      have hR2 := Rep_note hR hc hN
      have hP : va_P D cls [(g, .inr (2, [.ref gt, .int (nI 0), .ref gm, .ref gs, .int (nI ws.length), .ref gw, .int (nI n), .ref gb])), (gt, .inl (cB, 300, .inl T)), (gm, .inl (cB, 3624, .inl gM)), (gs, .inl (cI, 151, .inl gS)), (gw, .inl (cB, 300, .inl gW)), (gb, .inl (cI, 625, .inl fB))] H := hP.sub [2, 0, 3, 4, 5, 1] rfl
      have hD : va_D A [(g, .inr (2, [.ref gt, .int (nI 0), .ref gm, .ref gs, .int (nI ws.length), .ref gw, .int (nI n), .ref gb])), (gt, .inl (cB, 300, .inl T)), (gm, .inl (cB, 3624, .inl gM)), (gs, .inl (cI, 151, .inl gS)), (gw, .inl (cB, 300, .inl gW)), (gb, .inl (cI, 625, .inl fB))] := hD.sub [2, 0, 3, 4, 5, 1] (by decide) rfl
      have hst : ∀ i, i < (stem (wf T 0) n).length → gM (24 * 150 + i) = nI ((stem (wf T 0) n).getD i 0) ∧ (stem (wf T 0) n).getD i 0 < 128 := fun i hi => ⟨hN.2.2.2 i hi, stem_lt (fun i hi => (hf i hi).2) hi⟩
      refine lv_bipush (v := (-2)) hx hb d_M_nearest_17 kb_m2 ?_
      refine lv_istore_n hx hb d_M_nearest_19 rfl hl (by decide) rfl (fun ls hl => ?_)
      have hl : lv_has ls 5 [(1, .int (-2)), (0, .ref g)] := hl
      refine lv_bipush (v := (nI 100)) hx hb d_M_nearest_20 kb_100 ?_
      refine lv_istore_n hx hb d_M_nearest_22 rfl hl (by decide) rfl (fun ls hl => ?_)
      have hl : lv_has ls 5 [(2, .int (nI 100)), (1, .int (-2)), (0, .ref g)] := hl
      refine lv_iconst (v := (nI 0)) hx hb d_M_nearest_23 ki_0 ?_
      refine lv_istore_n hx hb d_M_nearest_24 rfl hl (by decide) rfl (fun ls hl => ?_)
      have hl : lv_has ls 5 [(3, .int (nI 0)), (2, .int (nI 100)), (1, .int (-2)), (0, .ref g)] := hl
      have loop : ∀ (d9 : Nat) (k : Nat) (lb : Nat) (best : Int32) (fB : Nat → Int32), ws.length - k = d9 → (k ≤ ws.length) → (lb ≤ 100) → (∀ d, d ≤ 24 → (lb ≤ d ↔ (nst ws (stem (wf T 0) n) k).1 ≤ d)) → (best = (nst ws (stem (wf T 0) n) k).2) → ∀ (H : Heap) (locs : List Loc) (ls : Array Slot), lv_has ls 5 [(3, .int (nI k)), (2, .int (nI lb)), (1, .int best), (0, .ref g)] → va_P D cls [(g, .inr (2, [.ref gt, .int (nI 0), .ref gm, .ref gs, .int (nI ws.length), .ref gw, .int (nI n), .ref gb])), (gt, .inl (cB, 300, .inl T)), (gm, .inl (cB, 3624, .inl gM)), (gs, .inl (cI, 151, .inl gS)), (gw, .inl (cB, 300, .inl gW)), (gb, .inl (cI, 625, .inl fB))] H → va_D A [(g, .inr (2, [.ref gt, .int (nI 0), .ref gm, .ref gs, .int (nI ws.length), .ref gw, .int (nI n), .ref gb])), (gt, .inl (cB, 300, .inl T)), (gm, .inl (cB, 3624, .inl gM)), (gs, .inl (cI, 151, .inl gS)), (gw, .inl (cB, 300, .inl gW)), (gb, .inl (cI, 625, .inl fB))] → va_S A s.heap H locs → W p l e (rmd 3) s m args below meth c H locs 0 0 Q (F0 m 25 ls []) := by
        intro d9
        induction d9 using Nat.strongRecOn with
        | _ d9 ih_loop =>
        intro k lb best fB hd hk hlb h1 h2 H locs ls hl hP hD hS
        refine lv_iload_n hx hb d_M_nearest_25 rfl (lv_at hl 0 rfl) ?_
        refine lv_aload_n hx hb d_M_nearest_26 rfl (lv_at hl 3 rfl) ?_
        refine gf_M_48 X hP 0 rfl d_M_nearest_27 ?_
        refine n_icmp_ge X (by omega) (by omega) d_M_nearest_30 rfl (fun h30 => ?_) (fun h30 => ?_)
        · refine lv_iload_n hx hb d_M_nearest_63 rfl (lv_at hl 2 rfl) ?_
          exact hret _ (gM, gS, nI n, gW, fB) _ _ _ _ (⟨by rw [h2, show k = ws.length by omega]; exact near_y haw, hR2⟩) rfl hP hD hS d_M_nearest_64
        · refine lv_aload_n hx hb d_M_nearest_33 rfl (lv_at hl 3 rfl) ?_
          refine lv_iload_n hx hb d_M_nearest_34 rfl (lv_at hl 0 rfl) ?_
          refine lv_sipush (v := (nI 150)) hx hb d_M_nearest_35 ks_150 ?_
          refine cI_V (rest := []) (wr := [(gt, .inl (cB, 300, .inl T)), (gw, .inl (cB, 300, .inl gW))]) X st_M_69 tw2_8 tw0_9 (c_Mdistance l D cB cI g gt gm gs gw gb (nI 0) (nI ws.length) (nI n) gM gS fB (wd ws k) (stem (wf T 0) n) k 150 (by omega) (Nat.le_refl _) (hR2 k h30).1 hN.2.2.1 (hR2 k h30).2.1 (stem_le _ _) (hR2 k h30).2.2 hst) (rok (by decide)) hP hD hS hA 0 rfl rfl [0, 2, 3, 5] [1, 4] rfl rfl (by decide) (by decide) (by decide) rfl hl.1 rfl (Nat.le_of_ble_eq_true rfl) d_M_nearest_38 (fun r38 hB H locs hd hP hD hS => ?_)
          have hP : va_P D cls [(gt, .inl (cB, 300, .inl T)), (gw, .inl (cB, 300, .inl gW)), (g, .inr (2, [.ref gt, .int (nI 0), .ref gm, .ref gs, .int (nI ws.length), .ref gw, .int (nI n), .ref gb])), (gm, .inl (cB, 3624, .inl gM)), (gs, .inl (cI, 151, .inl gS)), (gb, .inl (cI, 625, .inl hB))] H := hP
          have hD : va_D A [(gt, .inl (cB, 300, .inl T)), (gw, .inl (cB, 300, .inl gW)), (g, .inr (2, [.ref gt, .int (nI 0), .ref gm, .ref gs, .int (nI ws.length), .ref gw, .int (nI n), .ref gb])), (gm, .inl (cB, 3624, .inl gM)), (gs, .inl (cI, 151, .inl gS)), (gb, .inl (cI, 625, .inl hB))] := hD
          have hP : va_P D cls [(g, .inr (2, [.ref gt, .int (nI 0), .ref gm, .ref gs, .int (nI ws.length), .ref gw, .int (nI n), .ref gb])), (gt, .inl (cB, 300, .inl T)), (gm, .inl (cB, 3624, .inl gM)), (gs, .inl (cI, 151, .inl gS)), (gw, .inl (cB, 300, .inl gW)), (gb, .inl (cI, 625, .inl hB))] H := hP.sub [2, 0, 3, 4, 1, 5] rfl
          have hD : va_D A [(g, .inr (2, [.ref gt, .int (nI 0), .ref gm, .ref gs, .int (nI ws.length), .ref gw, .int (nI n), .ref gb])), (gt, .inl (cB, 300, .inl T)), (gm, .inl (cB, 3624, .inl gM)), (gs, .inl (cI, 151, .inl gS)), (gw, .inl (cB, 300, .inl gW)), (gb, .inl (cI, 625, .inl hB))] := hD.sub [2, 0, 3, 4, 1, 5] (by decide) rfl
          subst hd
          have hl4 := levW_le (hR2 k h30).2.1 (stem_le (wf T 0) n)
          have h9 := h1 _ hl4
          refine lv_istore hx hb d_M_nearest_41 hl (by decide) rfl (fun ls hl => ?_)
          have hl : lv_has ls 5 [(4, .int (nI (levW (wd ws k) (stem (wf T 0) n)))), (3, .int (nI k)), (2, .int (nI lb)), (1, .int best), (0, .ref g)] := hl
          refine lv_iload hx hb d_M_nearest_43 (lv_at hl 0 rfl) ?_
          refine lv_iload_n hx hb d_M_nearest_45 rfl (lv_at hl 2 rfl) ?_
          refine n_icmp_lt X (by omega) (by omega) d_M_nearest_46 rfl (fun h46 => ?_) (fun h46 => ?_)
          · have hT := nst_take (ws := ws) (w := (stem (wf T 0) n)) (k := k) (by omega)
            refine lv_iload_n hx hb d_M_nearest_52 rfl (lv_at hl 1 rfl) ?_
            refine lv_istore_n hx hb d_M_nearest_53 rfl hl (by decide) rfl (fun ls hl => ?_)
            have hl : lv_has ls 5 [(1, .int (nI k)), (4, .int (nI (levW (wd ws k) (stem (wf T 0) n)))), (3, .int (nI k)), (2, .int (nI lb)), (0, .ref g)] := hl
            refine lv_iload hx hb d_M_nearest_54 (lv_at hl 1 rfl) ?_
            refine lv_istore_n hx hb d_M_nearest_56 rfl hl (by decide) rfl (fun ls hl => ?_)
            have hl : lv_has ls 5 [(2, .int (nI (levW (wd ws k) (stem (wf T 0) n)))), (1, .int (nI k)), (4, .int (nI (levW (wd ws k) (stem (wf T 0) n)))), (3, .int (nI k)), (0, .ref g)] := hl
            refine lv_iinc hx hb d_M_nearest_57 hl (k := 3) rfl (v := (nI (k + 1))) (n_inc _ 1) (by decide) rfl (fun ls hl => ?_)
            have hl : lv_has ls 5 [(3, .int (nI (k + 1))), (2, .int (nI (levW (wd ws k) (stem (wf T 0) n)))), (1, .int (nI k)), (4, .int (nI (levW (wd ws k) (stem (wf T 0) n)))), (0, .ref g)] := hl
            refine lv_goto hx hb d_M_nearest_60 rfl ?_
            exact ih_loop _ (by omega) (k + 1) (levW (wd ws k) (stem (wf T 0) n)) (nI k) hB rfl (by omega) (by omega) (fun d hd => by rw [hT]) (by rw [hT]) _ _ _ (lv_sub hl [0, 1, 2, 4] rfl) hP hD hS
          · have hK := nst_keep (ws := ws) (w := (stem (wf T 0) n)) (k := k) (by omega)
            refine lv_goto hx hb d_M_nearest_49 rfl ?_
            refine lv_iinc hx hb d_M_nearest_57 hl (k := 1) rfl (v := (nI (k + 1))) (n_inc _ 1) (by decide) rfl (fun ls hl => ?_)
            have hl : lv_has ls 5 [(3, .int (nI (k + 1))), (4, .int (nI (levW (wd ws k) (stem (wf T 0) n)))), (2, .int (nI lb)), (1, .int best), (0, .ref g)] := hl
            refine lv_goto hx hb d_M_nearest_60 rfl ?_
            exact ih_loop _ (by omega) (k + 1) lb best hB rfl (by omega) (hlb) (fun d hd => by rw [hK]; exact h1 d hd) (by rw [hK]; exact h2) _ _ _ (lv_sub hl [0, 2, 3, 4] rfl) hP hD hS
      exact loop _ 0 100 (-2) fB rfl (Nat.zero_le _) (Nat.le_refl _) (fun d hd => ⟨fun q => absurd q (by omega), fun q => by have q2 : 25 ≤ d := q; omega⟩) (rfl) _ _ _ hl hP hD hS
    · exact False.elim (by omega)
  · have hP : va_P D cls [(g, .inr (2, [.ref gt, .int (nI 0), .ref gm, .ref gs, .int (nI ws.length), .ref gw, .int wl2, .ref gb])), (gt, .inl (cB, 300, .inl T)), (gm, .inl (cB, 3624, .inl fM)), (gs, .inl (cI, 151, .inl fS)), (gw, .inl (cB, 300, .inl fW2)), (gb, .inl (cI, 625, .inl fB))] H := hP.sub [3, 4, 0, 1, 5, 2] rfl
    have hD : va_D A [(g, .inr (2, [.ref gt, .int (nI 0), .ref gm, .ref gs, .int (nI ws.length), .ref gw, .int wl2, .ref gb])), (gt, .inl (cB, 300, .inl T)), (gm, .inl (cB, 3624, .inl fM)), (gs, .inl (cI, 151, .inl fS)), (gw, .inl (cB, 300, .inl fW2)), (gb, .inl (cI, 625, .inl fB))] := hD.sub [3, 4, 0, 1, 5, 2] (by decide) rfl
    refine n_if_ne X (by omega) d_M_nearest_4 rfl (fun h4 => ?_) (fun h4 => ?_)
    · exact False.elim (by omega)
    · refine lv_iconst (v := (-1)) hx hb d_M_nearest_7 ki_m1 ?_
      exact hret _ (fM, fS, wl2, fW2, fB) _ _ _ _ (⟨near_n haw, hR⟩) rfl hP hD hS d_M_nearest_8

set_option maxHeartbeats 4000000 in
set_option maxRecDepth 100000 in
theorem c_Mplain (l : Launch) (D : va_G) (cB cI : ClassId) (g gt gm gs gw gb : Nat) (n : Nat) (wl : Int32) (fM fS fW T : Nat → Int32) (ws : List (List Nat)) (hR : Rep ws fS fM) (hc : ws.length ≤ 150) (hn : n ≤ 300) : CtI (S := (Nat → Int32) × (Nat → Int32) × Int32 × (Nat → Int32)) l y_M_plain b_M_plain 1 (some .int) 3 D cB cI [.ref g] [(g, .inr (2, [.ref gt, .int (nI n), .ref gm, .ref gs, .int (nI ws.length), .ref gw, .int wl, .ref gb])), (gt, .inl (cB, 300, .inl T)), (gm, .inl (cB, 3624, .inl fM)), (gs, .inl (cI, 151, .inl fS)), (gw, .inl (cB, 300, .inl fW))] (fun r u => r = plainA ws T n ∧ Rep (plainS ws T n) u.2.1 u.1) (fun u => [(g, .inr (2, [.ref gt, .int (nI 0), .ref gm, .ref gs, .int (nI ((plainS ws T n).length)), .ref gw, .int u.2.2.1, .ref gb])), (gt, .inl (cB, 300, .inl T)), (gm, .inl (cB, 3624, .inl u.1)), (gs, .inl (cI, 151, .inl u.2.1)), (gw, .inl (cB, 300, .inl u.2.2.2))]) := by
  refine CtI.mk (own := R_M) (by decide) rfl (Nat.le_of_ble_eq_true rfl) ?_
  intro p e s m args below meth c A Q ls X hP hD hS hA hl hret
  have hx := X.1
  have hb := X.2.1
  have hl : lv_has ls 1 [(0, .ref g)] := hl
  refine lv_aload_n hx hb d_M_plain_0 rfl (lv_at hl 0 rfl) ?_
  refine cI_V (rest := []) (wr := [(gm, .inl (cB, 3624, .inl fM)), (gs, .inl (cI, 151, .inl fS))]) X st_M_65 tw2_4 tw0_8 (c_oneWord l D cB cI g gt gm gs gw gb n (nI ws.length) wl T fW hn) (rok (by decide)) hP hD hS hA 0 rfl rfl [0, 1, 4] [2, 3] rfl rfl (by decide) (by decide) (by decide) rfl hl.1 rfl (Nat.le_of_ble_eq_true rfl) d_M_plain_1 (fun r1 u9 H locs hr hP hD hS => ?_)
  obtain ⟨wl2, fW2⟩ := u9
  have hP : va_P D cls [(gm, .inl (cB, 3624, .inl fM)), (gs, .inl (cI, 151, .inl fS)), (g, .inr (2, [.ref gt, .int (nI 0), .ref gm, .ref gs, .int (nI ws.length), .ref gw, .int wl2, .ref gb])), (gt, .inl (cB, 300, .inl T)), (gw, .inl (cB, 300, .inl fW2))] H := hP
  have hD : va_D A [(gm, .inl (cB, 3624, .inl fM)), (gs, .inl (cI, 151, .inl fS)), (g, .inr (2, [.ref gt, .int (nI 0), .ref gm, .ref gs, .int (nI ws.length), .ref gw, .int wl2, .ref gb])), (gt, .inl (cB, 300, .inl T)), (gw, .inl (cB, 300, .inl fW2))] := hD
  rcases hr with ⟨rfl, haw, hwl, hf⟩ | ⟨rfl, haw⟩
  · have hP : va_P D cls [(g, .inr (2, [.ref gt, .int (nI 0), .ref gm, .ref gs, .int (nI ws.length), .ref gw, .int wl2, .ref gb])), (gt, .inl (cB, 300, .inl T)), (gm, .inl (cB, 3624, .inl fM)), (gs, .inl (cI, 151, .inl fS)), (gw, .inl (cB, 300, .inl fW2))] H := hP.sub [2, 3, 0, 1, 4] rfl
    have hD : va_D A [(g, .inr (2, [.ref gt, .int (nI 0), .ref gm, .ref gs, .int (nI ws.length), .ref gw, .int wl2, .ref gb])), (gt, .inl (cB, 300, .inl T)), (gm, .inl (cB, 3624, .inl fM)), (gs, .inl (cI, 151, .inl fS)), (gw, .inl (cB, 300, .inl fW2))] := hD.sub [2, 3, 0, 1, 4] (by decide) rfl
    dsimp only at hwl hf
    subst hwl
    refine n_if_eq X (by omega) d_M_plain_4 rfl (fun h4 => ?_) (fun h4 => ?_)
    · exact False.elim (by omega)
    · refine lv_aload_n hx hb d_M_plain_7 rfl (lv_at hl 0 rfl) ?_
      refine gf_M_48 X hP 0 rfl d_M_plain_8 ?_
      refine lv_sipush (v := (nI 150)) hx hb d_M_plain_11 ks_150 ?_
      refine n_icmp_ne X (by omega) (by omega) d_M_plain_14 rfl (fun h14 => ?_) (fun h14 => ?_)
      · obtain ⟨hp1, hp2⟩ := plain_y haw h14
        refine lv_aload_n hx hb d_M_plain_19 rfl (lv_at hl 0 rfl) ?_
        refine lv_aload_n hx hb d_M_plain_20 rfl (lv_at hl 0 rfl) ?_
        refine gf_M_48 X hP 0 rfl d_M_plain_21 ?_
        refine lv_iconst (v := (nI 0)) hx hb d_M_plain_24 ki_0 ?_
        refine cV_V (rest := []) (wr := [(gt, .inl (cB, 300, .inl T))]) X st_M_51 tw1_207 tw0_4 (c_noteP l D cB cI g gt gm gs gw gb (nI 0) (nI ws.length) n ws.length fM fS fW2 (wf T 0) hf hn hc) (rok (by decide)) hP hD hS hA 0 rfl rfl [0, 2, 3, 4] [1] rfl rfl (by decide) (by decide) (by decide) rfl hl.1 rfl (Nat.le_of_ble_eq_true rfl) d_M_plain_25 (fun u9 H locs hN hP hD hS => ?_)
        obtain ⟨gM, gS, gW⟩ := u9
        have hP : va_P D cls [(gt, .inl (cB, 300, .inl T)), (g, .inr (2, [.ref gt, .int (nI 0), .ref gm, .ref gs, .int (nI ws.length), .ref gw, .int (nI n), .ref gb])), (gm, .inl (cB, 3624, .inl gM)), (gs, .inl (cI, 151, .inl gS)), (gw, .inl (cB, 300, .inl gW))] H := hP
        have hD : va_D A [(gt, .inl (cB, 300, .inl T)), (g, .inr (2, [.ref gt, .int (nI 0), .ref gm, .ref gs, .int (nI ws.length), .ref gw, .int (nI n), .ref gb])), (gm, .inl (cB, 3624, .inl gM)), (gs, .inl (cI, 151, .inl gS)), (gw, .inl (cB, 300, .inl gW))] := hD
        have hP : va_P D cls [(g, .inr (2, [.ref gt, .int (nI 0), .ref gm, .ref gs, .int (nI ws.length), .ref gw, .int (nI n), .ref gb])), (gt, .inl (cB, 300, .inl T)), (gm, .inl (cB, 3624, .inl gM)), (gs, .inl (cI, 151, .inl gS)), (gw, .inl (cB, 300, .inl gW))] H := hP.sub [1, 0, 2, 3, 4] rfl
        have hD : va_D A [(g, .inr (2, [.ref gt, .int (nI 0), .ref gm, .ref gs, .int (nI ws.length), .ref gw, .int (nI n), .ref gb])), (gt, .inl (cB, 300, .inl T)), (gm, .inl (cB, 3624, .inl gM)), (gs, .inl (cI, 151, .inl gS)), (gw, .inl (cB, 300, .inl gW))] := hD.sub [1, 0, 2, 3, 4] (by decide) rfl
        have hR2 := Rep_noteP hR (plain_le _ _) (fun i hi => plain_lt (fun i hi => (hf i hi).2) hi) hN
        have hp3 : ws.length + 1 = (plainS ws T n).length := by rw [← hp2]; simp
        refine lv_aload_n hx hb d_M_plain_28 rfl (lv_at hl 0 rfl) ?_
        refine lv_dup hx hb d_M_plain_29 rfl ?_
        refine gf_M_48 X hP 0 rfl d_M_plain_30 ?_
        refine lv_iconst (v := (nI 1)) hx hb d_M_plain_33 ki_1 ?_
        refine n_iadd X d_M_plain_34 ?_
        refine pf_M_48 X hP hD hS 0 rfl d_M_plain_35 (fun H locs hP hD hS => ?_)
        have hP : va_P D cls [(g, .inr (2, [.ref gt, .int (nI 0), .ref gm, .ref gs, .int (nI (ws.length + 1)), .ref gw, .int (nI n), .ref gb])), (gt, .inl (cB, 300, .inl T)), (gm, .inl (cB, 3624, .inl gM)), (gs, .inl (cI, 151, .inl gS)), (gw, .inl (cB, 300, .inl gW))] H := hP
        have hD : va_D A [(g, .inr (2, [.ref gt, .int (nI 0), .ref gm, .ref gs, .int (nI (ws.length + 1)), .ref gw, .int (nI n), .ref gb])), (gt, .inl (cB, 300, .inl T)), (gm, .inl (cB, 3624, .inl gM)), (gs, .inl (cI, 151, .inl gS)), (gw, .inl (cB, 300, .inl gW))] := hD
        refine lv_aload_n hx hb d_M_plain_38 rfl (lv_at hl 0 rfl) ?_
        refine gf_M_48 X hP 0 rfl d_M_plain_39 ?_
        rw [hp3] at hP hD
        exact hret _ (gM, gS, nI n, gW) _ _ _ _ (⟨hp1, by rw [← hp2]; exact hR2⟩) rfl hP hD hS d_M_plain_42
      · refine lv_iconst (v := (-1)) hx hb d_M_plain_17 ki_m1 ?_
        obtain ⟨hp1, hp2⟩ := plain_n (ws := ws) (T := T) (n := n) (Or.inr h14)
        have hp3 : ws.length = (plainS ws T n).length := congrArg List.length hp2
        rw [hp3] at hP hD
        exact hret _ (fM, fS, nI n, fW2) _ _ _ _ (⟨hp1, by rw [← hp2]; exact hR⟩) rfl hP hD hS d_M_plain_18
  · have hP : va_P D cls [(g, .inr (2, [.ref gt, .int (nI 0), .ref gm, .ref gs, .int (nI ws.length), .ref gw, .int wl2, .ref gb])), (gt, .inl (cB, 300, .inl T)), (gm, .inl (cB, 3624, .inl fM)), (gs, .inl (cI, 151, .inl fS)), (gw, .inl (cB, 300, .inl fW2))] H := hP.sub [2, 3, 0, 1, 4] rfl
    have hD : va_D A [(g, .inr (2, [.ref gt, .int (nI 0), .ref gm, .ref gs, .int (nI ws.length), .ref gw, .int wl2, .ref gb])), (gt, .inl (cB, 300, .inl T)), (gm, .inl (cB, 3624, .inl fM)), (gs, .inl (cI, 151, .inl fS)), (gw, .inl (cB, 300, .inl fW2))] := hD.sub [2, 3, 0, 1, 4] (by decide) rfl
    refine n_if_eq X (by omega) d_M_plain_4 rfl (fun h4 => ?_) (fun h4 => ?_)
    · refine lv_iconst (v := (-1)) hx hb d_M_plain_17 ki_m1 ?_
      obtain ⟨hp1, hp2⟩ := plain_n (ws := ws) (T := T) (n := n) (Or.inl haw)
      have hp3 : ws.length = (plainS ws T n).length := congrArg List.length hp2
      rw [hp3] at hP hD
      exact hret _ (fM, fS, wl2, fW2) _ _ _ _ (⟨hp1, by rw [← hp2]; exact hR⟩) rfl hP hD hS d_M_plain_18
    · exact False.elim (by omega)
end
section
-- constructors: they make cells (gen/ctor.py)
abbrev rmk (d mc ms : Nat) : Room := { frames := d, cells := mc, slots := ms, locals := 30 * d }
/-- a contract of a constructor: it makes mc cells of ms slots -/
def CtK {S : Type} (l : Launch) (y : MethodName) (b : ByteArray) (n : Nat) (d mc ms : Nat) (D : va_G) (cB cI : ClassId) (av : List Value) (wc : va_W) (φ : S → Prop) (wn : S → va_W) : Prop :=
  ∀ sz : Nat, Met l y (.code y b n none :: gt) (rmk d mc ms) (va_Pc av (fun U => U.heap.size = sz ∧ va_P D cls wc U.heap ∧ Kn D cB cI U ∧ va_D (fun _ => True) wc)) (va_Qv φ (fun u t => va_P D cls (wn u) t.heap ∧ va_D (va_A wc sz) (wn u)) (va_A wc sz)) mc ms (va_A wc sz)
theorem CtK.mk {S : Type} {l : Launch} {y : MethodName} {b : ByteArray} {n : Nat} {d mc ms : Nat} {D : va_G} {cB cI : ClassId} {av : List Value} {wc : va_W} {φ : S → Prop} {wn : S → va_W} {own : String} (hy : plainName y.cls = true) (ho : y.cls = own) (hi : y.name = "<init>") (hn : (lg_sl av).length ≤ n)
    (h : ∀ (p : Program) (e : Env) (s : State) (m : MethodId) (args : Array Value) (below : List Frame) (meth : Method) (c : Code) (A : Nat → Prop) (Q : State → Prop) (ls : Array Slot), Cx p s m meth c args b own n none D cB cI → meth.name = "<init>" → va_P D cls wc s.heap → va_D A wc → va_S A s.heap s.heap [] → (∀ q : Nat, s.heap.size ≤ q → A q) → lv_has ls n (lv_args 0 av) →
      (∀ (u : S) (H : Heap) (locs : List Loc) (pc : Nat) (ls : Array Slot), φ u → va_P D cls (wn u) H → va_D A (wn u) → va_S A s.heap H locs → decode b pc = .ok (.return_, 1) → W p l e (rmk d mc ms) s m args below meth c H locs mc ms Q (F0 m pc ls [])) →
      W p l e (rmk d mc ms) s m args below meth c s.heap [] 0 0 Q (F0 m 0 ls [])) : CtK l y b n d mc ms D cB cI av wc φ wn := by
  intro sz
  refine Met.ofW (cc := b) (maxL := n) (ret := none) hy rfl ?_
  intro p e s m args below meth c s₁ B hml hv
  obtain ⟨rfl, hsz, hP, hK, hD0⟩ := hv
  subst hsz
  have hts := atoms_spec (ws := .code y b n none :: gt) B.pre
  rw [lg_entry_eq]
  refine h p e s m _ below meth c (va_A wc s.heap.size) _ _ ⟨B.exec, B.bytes, hml, B.returns, B.notSynchronized, by rw [← ho]; exact findClass_of_methodNamed B.named, fun w hw => hts w (List.mem_cons_of_mem _ hw), hK⟩ ((name_of_methodNamed B.named B.method).1.trans hi) hP (hD0.self (sz := s.heap.size)) va_S.rf (fun q h => Or.inr h) (lv_entry av hn) ?_
  intro u H locs pc ls hv hP hD hS hd
  exact W.vret B.exec B.bytes B.returns (fun t ht hW => ⟨⟨u, rfl, hv, by rw [ht]; exact hP, hD⟩, hS.F ht⟩) hS.2.2 hd B.notSynchronized
section KK
variable {p : Program} {l : Launch} {e : Env} {R : Room} {s : State} {m : MethodId} {args : Array Value} {below : List Frame} {meth : Method} {c : Code} {H : Heap} {locs : List Loc} {cells slots : Nat} {Q : State → Prop} {cc : ByteArray} {own : String} {nL : Nat} {rt : Option FieldType} {D : va_G} {cB cI : ClassId} {pc : Nat} {ls : Array Slot} {rest st0 : List Value} {ws : va_W} {A : Nat → Prop}
theorem cK_I {S : Type} {idx : Nat} {y : MethodName} {b : ByteArray} {n d mc ms : Nat} {a : Nat} {wc wr : va_W} {φ : S → Prop} {wn : S → va_W} (X : Cx p s m meth c args cc own nL rt D cB cI) (hSi : Sit own idx y b n none 0) (hy1 : y.name = "<init>") (hin : Cond.instanceMethod y ∈ gt) (hM : CtK l y b n d mc ms D cB cI [.ref a] wc φ wn) (hR : d + 1 ≤ R.frames ∧ 27 + 30 * d ≤ R.locals) (hP : va_P D cls ws H) (hD : va_D A ws) (hS : va_S A s.heap H locs) (hA : ∀ q : Nat, s.heap.size ≤ q → A q) (isC isR : List Nat) (hC : isC.map (fun i => ws[i]?) = wc.map some) (hRr : isR.map (fun i => ws[i]?) = wr.map some) (hn : va_nd isC = true) (hn2 : va_nd isR = true) (hdis : ∀ i ∈ isR, i ∉ isC) (hsz : ls.size = nL) (hw : (rest.map fun v => v.category).sum ≤ 8) (hdg : decode cc pc = .ok (.invokespecial idx, 3)) (hf : cells + mc ≤ R.cells ∧ slots + ms ≤ R.slots)
    (kk : ∀ (u : S) (H1 : Heap) (locs1 : List Loc), φ u → va_P D cls (wr ++ wn u) H1 → va_D A (wr ++ wn u) → va_S A s.heap H1 locs1 → W p l e R s m args below meth c H1 locs1 (cells + mc) (slots + ms) Q (F0 m (pc + 3) ls rest)) : W p l e R s m args below meth c H locs cells slots Q (F0 m pc ls (.ref a :: rest)) := by
  have hF := va_free (wc := wc) hD hS hA isC hC
  have cb : CallB R s args own idx y b n none (.code y b n none :: gt) (rmk d mc ms) mc ms 0 := callB_of 0 X.hts (lw_gt hSi.2.2.1) rfl rfl rfl (X.hts _ hSi.2.1) (X.hts _ hSi.1) hSi.2.2.2.1 ⟨hR.1, by have h1 := hSi.2.2.2.2; have h2 := hR.2; show 8 + (n + 11) + 30 * d ≤ R.locals; omega⟩
  refine va_callv (va_runI (As := []) (rest := rest) X.fix (hM H.size) ⟨cb, hy1, X.hts _ hin⟩ ⟨fun a U g mk q => ⟨q.1, q.2.1, q.2.2.1, Kn.calling q.2.2.2.1, q.2.2.2.2⟩, fun U hU hW => ⟨rfl, by rw [hU], by rw [hU]; exact hP.sub isC (va_fm hC), Kn.warm hW X.kn, (hD.sub isC hn hC).weaken (fun _ _ _ _ => trivial)⟩⟩ rfl rfl hsz rfl (lv_room hw) hdg hf) hS (fun q _ h => hF q h) hF (fun u t H1 locs1 ht hvm hφ hB hz hk1 hS1 => ?_)
  obtain ⟨hP1, hD1⟩ := hB
  rw [ht] at hP1
  obtain ⟨hP2, hD2⟩ := va_join hP hD isC isR hC hRr hn2 hdis hk1 hF hP1 hD1
  exact kk u H1 locs1 hφ hP2 hD2 hS1
theorem cK_N {S : Type} {idx : Nat} {y : MethodName} {b : ByteArray} {n d mc ms : Nat} {a : Nat} {host : String} {wc wr : va_W} {φ : S → Prop} {wn : S → va_W} (X : Cx p s m meth c args cc own nL rt D cB cI) (hSi : SitN own idx y b n none 0 host) (hy1 : y.name = "<init>") (hin : Cond.instanceMethod y ∈ gt) (hM : CtK l y b n d mc ms D cB cI [.ref a] wc φ wn) (hR : d + 1 ≤ R.frames ∧ 27 + 30 * d ≤ R.locals) (hP : va_P D cls ws H) (hD : va_D A ws) (hS : va_S A s.heap H locs) (hA : ∀ q : Nat, s.heap.size ≤ q → A q) (isC isR : List Nat) (hC : isC.map (fun i => ws[i]?) = wc.map some) (hRr : isR.map (fun i => ws[i]?) = wr.map some) (hn : va_nd isC = true) (hn2 : va_nd isR = true) (hdis : ∀ i ∈ isR, i ∉ isC) (hsz : ls.size = nL) (hw : (rest.map fun v => v.category).sum ≤ 8) (hdg : decode cc pc = .ok (.invokespecial idx, 3)) (hf : cells + mc ≤ R.cells ∧ slots + ms ≤ R.slots)
    (kk : ∀ (u : S) (H1 : Heap) (locs1 : List Loc), φ u → va_P D cls (wr ++ wn u) H1 → va_D A (wr ++ wn u) → va_S A s.heap H1 locs1 → W p l e R s m args below meth c H1 locs1 (cells + mc) (slots + ms) Q (F0 m (pc + 3) ls rest)) : W p l e R s m args below meth c H locs cells slots Q (F0 m pc ls (.ref a :: rest)) := by
  have hF := va_free (wc := wc) hD hS hA isC hC
  have cb : va_CN R s args own idx y host b n none (.code y b n none :: gt) (rmk d mc ms) mc ms 0 := va_cnB 0 X.hts (lw_gt hSi.2.2.1) rfl rfl rfl (X.kn.2 _ hSi.1) (X.hts _ hSi.2.1) hSi.2.2.2.1 ⟨hR.1, by have h1 := hSi.2.2.2.2; have h2 := hR.2; show 8 + (n + 11) + 30 * d ≤ R.locals; omega⟩
  refine va_callv (va_runIN (As := []) (rest := rest) X.fix (hM H.size) ⟨cb, hy1, X.hts _ hin⟩ ⟨fun a U g mk q => ⟨q.1, q.2.1, q.2.2.1, Kn.calling q.2.2.2.1, q.2.2.2.2⟩, fun U hU hW => ⟨rfl, by rw [hU], by rw [hU]; exact hP.sub isC (va_fm hC), Kn.warm hW X.kn, (hD.sub isC hn hC).weaken (fun _ _ _ _ => trivial)⟩⟩ rfl rfl hsz rfl (lv_room hw) hdg hf) hS (fun q _ h => hF q h) hF (fun u t H1 locs1 ht hvm hφ hB hz hk1 hS1 => ?_)
  obtain ⟨hP1, hD1⟩ := hB
  rw [ht] at hP1
  obtain ⟨hP2, hD2⟩ := va_join hP hD isC isR hC hRr hn2 hdis hk1 hF hP1 hD1
  exact kk u H1 locs1 hφ hP2 hD2 hS1
theorem n_newB (X : Cx p s m meth c args cc own nL rt D cB cI) (hP : va_P D cls ws H) (hD : va_D A ws) (hS : va_S A s.heap H locs) (hA : ∀ q : Nat, s.heap.size ≤ q → A q) {N : Nat} (hN : N ≤ 65536) (hc : cells + 1 ≤ R.cells) (hs : slots + N ≤ R.slots) (hdg : decode cc pc = .ok (.newarray .byte, 2))
    (kk : ∀ (q : Nat) (H1 : Heap), va_P D cls (ws ++ [(q, .inl (cB, N, .inl (fun _ => 0)))]) H1 → va_D A (ws ++ [(q, .inl (cB, N, .inl (fun _ => 0)))]) → va_S A s.heap H1 locs → W p l e R s m args below meth c H1 locs (cells + 1) (slots + N) Q (F0 m (pc + 2) ls (.ref q :: rest))) : W p l e R s m args below meth c H locs cells slots Q (F0 m pc ls (.int (nI N) :: rest)) := by
  refine va_newa (atype := .byte) (ty := .byte) (a0 := (N, .inl (fun _ => 0))) (N' := N) X.1 X.2.1 (X.hts _ tw1_33) rfl X.hK hP hD hS hA (fun _ => rfl) (nI_pos (by omega)) (nI_clamp (by omega)) (by show N * 1 ≤ _; omega) hc hs hdg (fun q cA H1 hK1 hP1 hD1 hS1 => ?_)
  have e1 : s.vm.findClass "[B" = some cA := (hK1.2 2 _ rfl).2
  have e2 : s.vm.findClass "[B" = some cB := (hK1.2 0 _ rfl).2
  obtain rfl : cA = cB := Option.some.inj (e1.symm.trans e2)
  exact kk q H1 hP1 hD1 hS1
theorem n_newI (X : Cx p s m meth c args cc own nL rt D cB cI) (hP : va_P D cls ws H) (hD : va_D A ws) (hS : va_S A s.heap H locs) (hA : ∀ q : Nat, s.heap.size ≤ q → A q) {N : Nat} (hN : N ≤ 65536) (hc : cells + 1 ≤ R.cells) (hs : slots + N ≤ R.slots) (hdg : decode cc pc = .ok (.newarray .int, 2))
    (kk : ∀ (q : Nat) (H1 : Heap), va_P D cls (ws ++ [(q, .inl (cI, N, .inl (fun _ => 0)))]) H1 → va_D A (ws ++ [(q, .inl (cI, N, .inl (fun _ => 0)))]) → va_S A s.heap H1 locs → W p l e R s m args below meth c H1 locs (cells + 1) (slots + N) Q (F0 m (pc + 2) ls (.ref q :: rest))) : W p l e R s m args below meth c H locs cells slots Q (F0 m pc ls (.int (nI N) :: rest)) := by
  refine va_newa (atype := .int) (ty := .int) (a0 := (N, .inl (fun _ => 0))) (N' := N) X.1 X.2.1 (X.hts _ tw1_34) rfl X.hK hP hD hS hA (fun _ => rfl) (nI_pos (by omega)) (nI_clamp (by omega)) (by show N * 4 ≤ _; omega) hc hs hdg (fun q cA H1 hK1 hP1 hD1 hS1 => ?_)
  have e1 : s.vm.findClass "[I" = some cA := (hK1.2 2 _ rfl).2
  have e2 : s.vm.findClass "[I" = some cI := (hK1.2 1 _ rfl).2
  obtain rfl : cA = cI := Option.some.inj (e1.symm.trans e2)
  exact kk q H1 hP1 hD1 hS1
end KK
theorem born_T : ∀ j, j < 6 → defaultValue (ty_T j) = vp_V [.null, .int 0, .null, .null, .null, .null] j := fun j hj => by
  rcases (show j = 0 ∨ j = 1 ∨ j = 2 ∨ j = 3 ∨ j = 4 ∨ j = 5 by omega) with rfl | rfl | rfl | rfl | rfl | rfl <;> rfl
theorem born_W : ∀ j, j < 3 → defaultValue (ty_W j) = vp_V [.int 0, .null, .null] j := fun j hj => by
  rcases (show j = 0 ∨ j = 1 ∨ j = 2 by omega) with rfl | rfl | rfl <;> rfl
theorem born_M : ∀ j, j < 8 → defaultValue (ty_M j) = vp_V [.null, .int 0, .null, .null, .int 0, .null, .int 0, .null] j := fun j hj => by
  rcases (show j = 0 ∨ j = 1 ∨ j = 2 ∨ j = 3 ∨ j = 4 ∨ j = 5 ∨ j = 6 ∨ j = 7 by omega) with rfl | rfl | rfl | rfl | rfl | rfl | rfl | rfl <;> rfl
set_option maxHeartbeats 4000000 in
set_option maxRecDepth 100000 in
theorem c_Winit (l : Launch) (D : va_G) (cB cI : ClassId) (q : Nat) : CtK (S := Nat × Nat) l y_W_init b_W_init 1 1 2 3750 D cB cI [.ref q] [(q, .inr (1, [.int 0, .null, .null]))] (fun _ => True) (fun u => [(q, .inr (1, [.int 0, .ref u.1, .ref u.2])), (u.1, .inl (cB, 3600, .inl (fun _ => 0))), (u.2, .inl (cI, 150, .inl (fun _ => 0)))]) := by
  refine CtK.mk (own := R_W) (by decide) rfl rfl (Nat.le_of_ble_eq_true rfl) ?_
  intro p e s m args below meth c A Q ls X hin hP hD hS hA hl hret
  have hx := X.1
  have hb := X.2.1
  have hl : lv_has ls 1 [(0, .ref q)] := hl
  refine lv_aload_n hx hb d_W_init_0 rfl (lv_at hl 0 rfl) ?_
  refine W.objInit hx hb X.ow (X.hts _ tw1_19) (X.hts _ tw1_12) (X.hts _ tw1_13) rfl (by rw [X.2.2.1]; exact hl.1) rfl d_W_init_1 (Nat.le_of_ble_eq_true rfl) (Nat.le_of_ble_eq_true rfl) ?_
  refine W.eq (g2 := F0 m 4 ls []) rfl ?_
  refine lv_aload_n hx hb d_W_init_4 rfl (lv_at hl 0 rfl) ?_
  refine lv_sipush (v := (nI 3600)) hx hb d_W_init_5 ks_3600 ?_
  refine n_newB X hP hD hS hA (Nat.le_of_ble_eq_true rfl) (Nat.le_of_ble_eq_true rfl) (Nat.le_of_ble_eq_true rfl) d_W_init_8 (fun q8 H hP hD hS => ?_)
  have hP : va_P D cls [(q, .inr (1, [.int 0, .null, .null])), (q8, .inl (cB, 3600, .inl (fun _ => 0)))] H := hP
  have hD : va_D A [(q, .inr (1, [.int 0, .null, .null])), (q8, .inl (cB, 3600, .inl (fun _ => 0)))] := hD
  refine pf_W_9 X hin hP hD hS 0 rfl d_W_init_10 (fun H locs hP hD hS => ?_)
  have hP : va_P D cls [(q, .inr (1, [.int 0, .ref q8, .null])), (q8, .inl (cB, 3600, .inl (fun _ => 0)))] H := hP
  have hD : va_D A [(q, .inr (1, [.int 0, .ref q8, .null])), (q8, .inl (cB, 3600, .inl (fun _ => 0)))] := hD
  refine lv_aload_n hx hb d_W_init_13 rfl (lv_at hl 0 rfl) ?_
  refine lv_sipush (v := (nI 150)) hx hb d_W_init_14 ks_150 ?_
  refine n_newI X hP hD hS hA (Nat.le_of_ble_eq_true rfl) (Nat.le_of_ble_eq_true rfl) (Nat.le_of_ble_eq_true rfl) d_W_init_17 (fun q17 H hP hD hS => ?_)
  have hP : va_P D cls [(q, .inr (1, [.int 0, .ref q8, .null])), (q8, .inl (cB, 3600, .inl (fun _ => 0))), (q17, .inl (cI, 150, .inl (fun _ => 0)))] H := hP
  have hD : va_D A [(q, .inr (1, [.int 0, .ref q8, .null])), (q8, .inl (cB, 3600, .inl (fun _ => 0))), (q17, .inl (cI, 150, .inl (fun _ => 0)))] := hD
  refine pf_W_15 X hin hP hD hS 0 rfl d_W_init_19 (fun H locs hP hD hS => ?_)
  have hP : va_P D cls [(q, .inr (1, [.int 0, .ref q8, .ref q17])), (q8, .inl (cB, 3600, .inl (fun _ => 0))), (q17, .inl (cI, 150, .inl (fun _ => 0)))] H := hP
  have hD : va_D A [(q, .inr (1, [.int 0, .ref q8, .ref q17])), (q8, .inl (cB, 3600, .inl (fun _ => 0))), (q17, .inl (cI, 150, .inl (fun _ => 0)))] := hD
  exact hret (q8, q17) _ _ _ _ trivial hP hD hS d_W_init_22

set_option maxHeartbeats 4000000 in
set_option maxRecDepth 100000 in
theorem c_Tinit (l : Launch) (D : va_G) (cB cI : ClassId) (h : Nat) : CtK (S := Nat × Nat × Nat × Nat × Nat × Nat × Nat × Nat × Nat) l y_T_init b_T_init 1 2 9 7856 D cB cI [.ref h] [(h, .inr (0, [.null, .int 0, .null, .null, .null, .null]))] (fun _ => True) (fun u => [(h, .inr (0, [.ref u.1, .int 0, .ref u.2.1, .ref u.2.2.2.2.1, .ref u.2.2.2.2.2.2.2.1, .ref u.2.2.2.2.2.2.2.2])), (u.1, .inl (cB, 300, .inl (fun _ => 0))), (u.2.1, .inr (1, [.int 0, .ref u.2.2.1, .ref u.2.2.2.1])), (u.2.2.1, .inl (cB, 3600, .inl (fun _ => 0))), (u.2.2.2.1, .inl (cI, 150, .inl (fun _ => 0))), (u.2.2.2.2.1, .inr (1, [.int 0, .ref u.2.2.2.2.2.1, .ref u.2.2.2.2.2.2.1])), (u.2.2.2.2.2.1, .inl (cB, 3600, .inl (fun _ => 0))), (u.2.2.2.2.2.2.1, .inl (cI, 150, .inl (fun _ => 0))), (u.2.2.2.2.2.2.2.1, .inl (cI, 25, .inl (fun _ => 0))), (u.2.2.2.2.2.2.2.2, .inl (cI, 25, .inl (fun _ => 0)))]) := by
  refine CtK.mk (own := R_T) (by decide) rfl rfl (Nat.le_of_ble_eq_true rfl) ?_
  intro p e s m args below meth c A Q ls X hin hP hD hS hA hl hret
  have hx := X.1
  have hb := X.2.1
  have hl : lv_has ls 1 [(0, .ref h)] := hl
  refine lv_aload_n hx hb d_T_init_0 rfl (lv_at hl 0 rfl) ?_
  refine W.objInit hx hb X.ow (X.hts _ tw1_11) (X.hts _ tw1_12) (X.hts _ tw1_13) rfl (by rw [X.2.2.1]; exact hl.1) rfl d_T_init_1 (Nat.le_of_ble_eq_true rfl) (Nat.le_of_ble_eq_true rfl) ?_
  refine W.eq (g2 := F0 m 4 ls []) rfl ?_
  refine lv_aload_n hx hb d_T_init_4 rfl (lv_at hl 0 rfl) ?_
  refine lv_sipush (v := (nI 300)) hx hb d_T_init_5 ks_300 ?_
  refine n_newB X hP hD hS hA (Nat.le_of_ble_eq_true rfl) (Nat.le_of_ble_eq_true rfl) (Nat.le_of_ble_eq_true rfl) d_T_init_8 (fun q8 H hP hD hS => ?_)
  have hP : va_P D cls [(h, .inr (0, [.null, .int 0, .null, .null, .null, .null])), (q8, .inl (cB, 300, .inl (fun _ => 0)))] H := hP
  have hD : va_D A [(h, .inr (0, [.null, .int 0, .null, .null, .null, .null])), (q8, .inl (cB, 300, .inl (fun _ => 0)))] := hD
  refine pf_T_9 X hin hP hD hS 0 rfl d_T_init_10 (fun H locs hP hD hS => ?_)
  have hP : va_P D cls [(h, .inr (0, [.ref q8, .int 0, .null, .null, .null, .null])), (q8, .inl (cB, 300, .inl (fun _ => 0)))] H := hP
  have hD : va_D A [(h, .inr (0, [.ref q8, .int 0, .null, .null, .null, .null])), (q8, .inl (cB, 300, .inl (fun _ => 0)))] := hD
  refine lv_aload_n hx hb d_T_init_13 rfl (lv_at hl 0 rfl) ?_
  refine va_new (ci := 1) (fs := [.int 0, .null, .null]) (C := R_W) (T := F_W) (N := 3) X.1 X.2.1 X.hts ui_W ty_W ty_W_ok X.ow (X.hts _ tw1_14) (X.hts _ tw1_15) (X.hts _ tw1_2) X.hK hP hD hS hA rfl (born_W) (Nat.le_of_ble_eq_true rfl) (Nat.le_of_ble_eq_true rfl) d_T_init_14 (fun q14 H hP hD hS => ?_)
  have hP : va_P D cls [(h, .inr (0, [.ref q8, .int 0, .null, .null, .null, .null])), (q8, .inl (cB, 300, .inl (fun _ => 0))), (q14, .inr (1, [.int 0, .null, .null]))] H := hP
  have hD : va_D A [(h, .inr (0, [.ref q8, .int 0, .null, .null, .null, .null])), (q8, .inl (cB, 300, .inl (fun _ => 0))), (q14, .inr (1, [.int 0, .null, .null]))] := hD
  refine lv_dup hx hb d_T_init_17 rfl ?_
  refine cK_N (rest := [.ref q14, .ref h]) (wr := [(h, .inr (0, [.ref q8, .int 0, .null, .null, .null, .null])), (q8, .inl (cB, 300, .inl (fun _ => 0)))]) X st_T_15 rfl tw1_17 (c_Winit l D cB cI q14) ⟨Nat.le_of_ble_eq_true rfl, Nat.le_of_ble_eq_true rfl⟩ hP hD hS hA [2] [0, 1] rfl rfl (by decide) (by decide) (by decide) hl.1 (Nat.le_of_ble_eq_true rfl) d_T_init_18 ⟨Nat.le_of_ble_eq_true rfl, Nat.le_of_ble_eq_true rfl⟩ (fun u9 H locs hr hP hD hS => ?_)
  obtain ⟨xm, xs⟩ := u9
  have hP : va_P D cls [(h, .inr (0, [.ref q8, .int 0, .null, .null, .null, .null])), (q8, .inl (cB, 300, .inl (fun _ => 0))), (q14, .inr (1, [.int 0, .ref xm, .ref xs])), (xm, .inl (cB, 3600, .inl (fun _ => 0))), (xs, .inl (cI, 150, .inl (fun _ => 0)))] H := hP
  have hD : va_D A [(h, .inr (0, [.ref q8, .int 0, .null, .null, .null, .null])), (q8, .inl (cB, 300, .inl (fun _ => 0))), (q14, .inr (1, [.int 0, .ref xm, .ref xs])), (xm, .inl (cB, 3600, .inl (fun _ => 0))), (xs, .inl (cI, 150, .inl (fun _ => 0)))] := hD
  refine pf_T_16 X hin hP hD hS 0 rfl d_T_init_21 (fun H locs hP hD hS => ?_)
  have hP : va_P D cls [(h, .inr (0, [.ref q8, .int 0, .ref q14, .null, .null, .null])), (q8, .inl (cB, 300, .inl (fun _ => 0))), (q14, .inr (1, [.int 0, .ref xm, .ref xs])), (xm, .inl (cB, 3600, .inl (fun _ => 0))), (xs, .inl (cI, 150, .inl (fun _ => 0)))] H := hP
  have hD : va_D A [(h, .inr (0, [.ref q8, .int 0, .ref q14, .null, .null, .null])), (q8, .inl (cB, 300, .inl (fun _ => 0))), (q14, .inr (1, [.int 0, .ref xm, .ref xs])), (xm, .inl (cB, 3600, .inl (fun _ => 0))), (xs, .inl (cI, 150, .inl (fun _ => 0)))] := hD
  refine lv_aload_n hx hb d_T_init_24 rfl (lv_at hl 0 rfl) ?_
  refine va_new (ci := 1) (fs := [.int 0, .null, .null]) (C := R_W) (T := F_W) (N := 3) X.1 X.2.1 X.hts ui_W ty_W ty_W_ok X.ow (X.hts _ tw1_14) (X.hts _ tw1_15) (X.hts _ tw1_2) X.hK hP hD hS hA rfl (born_W) (Nat.le_of_ble_eq_true rfl) (Nat.le_of_ble_eq_true rfl) d_T_init_25 (fun q25 H hP hD hS => ?_)
  have hP : va_P D cls [(h, .inr (0, [.ref q8, .int 0, .ref q14, .null, .null, .null])), (q8, .inl (cB, 300, .inl (fun _ => 0))), (q14, .inr (1, [.int 0, .ref xm, .ref xs])), (xm, .inl (cB, 3600, .inl (fun _ => 0))), (xs, .inl (cI, 150, .inl (fun _ => 0))), (q25, .inr (1, [.int 0, .null, .null]))] H := hP
  have hD : va_D A [(h, .inr (0, [.ref q8, .int 0, .ref q14, .null, .null, .null])), (q8, .inl (cB, 300, .inl (fun _ => 0))), (q14, .inr (1, [.int 0, .ref xm, .ref xs])), (xm, .inl (cB, 3600, .inl (fun _ => 0))), (xs, .inl (cI, 150, .inl (fun _ => 0))), (q25, .inr (1, [.int 0, .null, .null]))] := hD
  refine lv_dup hx hb d_T_init_28 rfl ?_
  refine cK_N (rest := [.ref q25, .ref h]) (wr := [(h, .inr (0, [.ref q8, .int 0, .ref q14, .null, .null, .null])), (q8, .inl (cB, 300, .inl (fun _ => 0))), (q14, .inr (1, [.int 0, .ref xm, .ref xs])), (xm, .inl (cB, 3600, .inl (fun _ => 0))), (xs, .inl (cI, 150, .inl (fun _ => 0)))]) X st_T_15 rfl tw1_17 (c_Winit l D cB cI q25) ⟨Nat.le_of_ble_eq_true rfl, Nat.le_of_ble_eq_true rfl⟩ hP hD hS hA [5] [0, 1, 2, 3, 4] rfl rfl (by decide) (by decide) (by decide) hl.1 (Nat.le_of_ble_eq_true rfl) d_T_init_29 ⟨Nat.le_of_ble_eq_true rfl, Nat.le_of_ble_eq_true rfl⟩ (fun u9 H locs hr hP hD hS => ?_)
  obtain ⟨vm, vs⟩ := u9
  have hP : va_P D cls [(h, .inr (0, [.ref q8, .int 0, .ref q14, .null, .null, .null])), (q8, .inl (cB, 300, .inl (fun _ => 0))), (q14, .inr (1, [.int 0, .ref xm, .ref xs])), (xm, .inl (cB, 3600, .inl (fun _ => 0))), (xs, .inl (cI, 150, .inl (fun _ => 0))), (q25, .inr (1, [.int 0, .ref vm, .ref vs])), (vm, .inl (cB, 3600, .inl (fun _ => 0))), (vs, .inl (cI, 150, .inl (fun _ => 0)))] H := hP
  have hD : va_D A [(h, .inr (0, [.ref q8, .int 0, .ref q14, .null, .null, .null])), (q8, .inl (cB, 300, .inl (fun _ => 0))), (q14, .inr (1, [.int 0, .ref xm, .ref xs])), (xm, .inl (cB, 3600, .inl (fun _ => 0))), (xs, .inl (cI, 150, .inl (fun _ => 0))), (q25, .inr (1, [.int 0, .ref vm, .ref vs])), (vm, .inl (cB, 3600, .inl (fun _ => 0))), (vs, .inl (cI, 150, .inl (fun _ => 0)))] := hD
  refine pf_T_20 X hin hP hD hS 0 rfl d_T_init_32 (fun H locs hP hD hS => ?_)
  have hP : va_P D cls [(h, .inr (0, [.ref q8, .int 0, .ref q14, .ref q25, .null, .null])), (q8, .inl (cB, 300, .inl (fun _ => 0))), (q14, .inr (1, [.int 0, .ref xm, .ref xs])), (xm, .inl (cB, 3600, .inl (fun _ => 0))), (xs, .inl (cI, 150, .inl (fun _ => 0))), (q25, .inr (1, [.int 0, .ref vm, .ref vs])), (vm, .inl (cB, 3600, .inl (fun _ => 0))), (vs, .inl (cI, 150, .inl (fun _ => 0)))] H := hP
  have hD : va_D A [(h, .inr (0, [.ref q8, .int 0, .ref q14, .ref q25, .null, .null])), (q8, .inl (cB, 300, .inl (fun _ => 0))), (q14, .inr (1, [.int 0, .ref xm, .ref xs])), (xm, .inl (cB, 3600, .inl (fun _ => 0))), (xs, .inl (cI, 150, .inl (fun _ => 0))), (q25, .inr (1, [.int 0, .ref vm, .ref vs])), (vm, .inl (cB, 3600, .inl (fun _ => 0))), (vs, .inl (cI, 150, .inl (fun _ => 0)))] := hD
  refine lv_aload_n hx hb d_T_init_35 rfl (lv_at hl 0 rfl) ?_
  refine lv_bipush (v := (nI 25)) hx hb d_T_init_36 kb_25 ?_
  refine n_newI X hP hD hS hA (Nat.le_of_ble_eq_true rfl) (Nat.le_of_ble_eq_true rfl) (Nat.le_of_ble_eq_true rfl) d_T_init_38 (fun q38 H hP hD hS => ?_)
  have hP : va_P D cls [(h, .inr (0, [.ref q8, .int 0, .ref q14, .ref q25, .null, .null])), (q8, .inl (cB, 300, .inl (fun _ => 0))), (q14, .inr (1, [.int 0, .ref xm, .ref xs])), (xm, .inl (cB, 3600, .inl (fun _ => 0))), (xs, .inl (cI, 150, .inl (fun _ => 0))), (q25, .inr (1, [.int 0, .ref vm, .ref vs])), (vm, .inl (cB, 3600, .inl (fun _ => 0))), (vs, .inl (cI, 150, .inl (fun _ => 0))), (q38, .inl (cI, 25, .inl (fun _ => 0)))] H := hP
  have hD : va_D A [(h, .inr (0, [.ref q8, .int 0, .ref q14, .ref q25, .null, .null])), (q8, .inl (cB, 300, .inl (fun _ => 0))), (q14, .inr (1, [.int 0, .ref xm, .ref xs])), (xm, .inl (cB, 3600, .inl (fun _ => 0))), (xs, .inl (cI, 150, .inl (fun _ => 0))), (q25, .inr (1, [.int 0, .ref vm, .ref vs])), (vm, .inl (cB, 3600, .inl (fun _ => 0))), (vs, .inl (cI, 150, .inl (fun _ => 0))), (q38, .inl (cI, 25, .inl (fun _ => 0)))] := hD
  refine pf_T_23 X hP hD hS 0 rfl d_T_init_40 (fun H locs hP hD hS => ?_)
  have hP : va_P D cls [(h, .inr (0, [.ref q8, .int 0, .ref q14, .ref q25, .ref q38, .null])), (q8, .inl (cB, 300, .inl (fun _ => 0))), (q14, .inr (1, [.int 0, .ref xm, .ref xs])), (xm, .inl (cB, 3600, .inl (fun _ => 0))), (xs, .inl (cI, 150, .inl (fun _ => 0))), (q25, .inr (1, [.int 0, .ref vm, .ref vs])), (vm, .inl (cB, 3600, .inl (fun _ => 0))), (vs, .inl (cI, 150, .inl (fun _ => 0))), (q38, .inl (cI, 25, .inl (fun _ => 0)))] H := hP
  have hD : va_D A [(h, .inr (0, [.ref q8, .int 0, .ref q14, .ref q25, .ref q38, .null])), (q8, .inl (cB, 300, .inl (fun _ => 0))), (q14, .inr (1, [.int 0, .ref xm, .ref xs])), (xm, .inl (cB, 3600, .inl (fun _ => 0))), (xs, .inl (cI, 150, .inl (fun _ => 0))), (q25, .inr (1, [.int 0, .ref vm, .ref vs])), (vm, .inl (cB, 3600, .inl (fun _ => 0))), (vs, .inl (cI, 150, .inl (fun _ => 0))), (q38, .inl (cI, 25, .inl (fun _ => 0)))] := hD
  refine lv_aload_n hx hb d_T_init_43 rfl (lv_at hl 0 rfl) ?_
  refine lv_bipush (v := (nI 25)) hx hb d_T_init_44 kb_25 ?_
  refine n_newI X hP hD hS hA (Nat.le_of_ble_eq_true rfl) (Nat.le_of_ble_eq_true rfl) (Nat.le_of_ble_eq_true rfl) d_T_init_46 (fun q46 H hP hD hS => ?_)
  have hP : va_P D cls [(h, .inr (0, [.ref q8, .int 0, .ref q14, .ref q25, .ref q38, .null])), (q8, .inl (cB, 300, .inl (fun _ => 0))), (q14, .inr (1, [.int 0, .ref xm, .ref xs])), (xm, .inl (cB, 3600, .inl (fun _ => 0))), (xs, .inl (cI, 150, .inl (fun _ => 0))), (q25, .inr (1, [.int 0, .ref vm, .ref vs])), (vm, .inl (cB, 3600, .inl (fun _ => 0))), (vs, .inl (cI, 150, .inl (fun _ => 0))), (q38, .inl (cI, 25, .inl (fun _ => 0))), (q46, .inl (cI, 25, .inl (fun _ => 0)))] H := hP
  have hD : va_D A [(h, .inr (0, [.ref q8, .int 0, .ref q14, .ref q25, .ref q38, .null])), (q8, .inl (cB, 300, .inl (fun _ => 0))), (q14, .inr (1, [.int 0, .ref xm, .ref xs])), (xm, .inl (cB, 3600, .inl (fun _ => 0))), (xs, .inl (cI, 150, .inl (fun _ => 0))), (q25, .inr (1, [.int 0, .ref vm, .ref vs])), (vm, .inl (cB, 3600, .inl (fun _ => 0))), (vs, .inl (cI, 150, .inl (fun _ => 0))), (q38, .inl (cI, 25, .inl (fun _ => 0))), (q46, .inl (cI, 25, .inl (fun _ => 0)))] := hD
  refine pf_T_27 X hP hD hS 0 rfl d_T_init_48 (fun H locs hP hD hS => ?_)
  have hP : va_P D cls [(h, .inr (0, [.ref q8, .int 0, .ref q14, .ref q25, .ref q38, .ref q46])), (q8, .inl (cB, 300, .inl (fun _ => 0))), (q14, .inr (1, [.int 0, .ref xm, .ref xs])), (xm, .inl (cB, 3600, .inl (fun _ => 0))), (xs, .inl (cI, 150, .inl (fun _ => 0))), (q25, .inr (1, [.int 0, .ref vm, .ref vs])), (vm, .inl (cB, 3600, .inl (fun _ => 0))), (vs, .inl (cI, 150, .inl (fun _ => 0))), (q38, .inl (cI, 25, .inl (fun _ => 0))), (q46, .inl (cI, 25, .inl (fun _ => 0)))] H := hP
  have hD : va_D A [(h, .inr (0, [.ref q8, .int 0, .ref q14, .ref q25, .ref q38, .ref q46])), (q8, .inl (cB, 300, .inl (fun _ => 0))), (q14, .inr (1, [.int 0, .ref xm, .ref xs])), (xm, .inl (cB, 3600, .inl (fun _ => 0))), (xs, .inl (cI, 150, .inl (fun _ => 0))), (q25, .inr (1, [.int 0, .ref vm, .ref vs])), (vm, .inl (cB, 3600, .inl (fun _ => 0))), (vs, .inl (cI, 150, .inl (fun _ => 0))), (q38, .inl (cI, 25, .inl (fun _ => 0))), (q46, .inl (cI, 25, .inl (fun _ => 0)))] := hD
  exact hret (q8, q14, xm, xs, q25, vm, vs, q38, q46) _ _ _ _ trivial hP hD hS d_T_init_51

set_option maxHeartbeats 4000000 in
set_option maxRecDepth 100000 in
theorem c_Minit (l : Launch) (D : va_G) (cB cI : ClassId) (g : Nat) : CtK (S := Nat × Nat × Nat × Nat × Nat) l y_M_init b_M_init 1 1 5 5000 D cB cI [.ref g] [(g, .inr (2, [.null, .int 0, .null, .null, .int 0, .null, .int 0, .null]))] (fun _ => True) (fun u => [(g, .inr (2, [.ref u.1, .int 0, .ref u.2.1, .ref u.2.2.1, .int 0, .ref u.2.2.2.1, .int 0, .ref u.2.2.2.2])), (u.1, .inl (cB, 300, .inl (fun _ => 0))), (u.2.1, .inl (cB, 3624, .inl (fun _ => 0))), (u.2.2.1, .inl (cI, 151, .inl (fun _ => 0))), (u.2.2.2.1, .inl (cB, 300, .inl (fun _ => 0))), (u.2.2.2.2, .inl (cI, 625, .inl (fun _ => 0)))]) := by
  refine CtK.mk (own := R_M) (by decide) rfl rfl (Nat.le_of_ble_eq_true rfl) ?_
  intro p e s m args below meth c A Q ls X hin hP hD hS hA hl hret
  have hx := X.1
  have hb := X.2.1
  have hl : lv_has ls 1 [(0, .ref g)] := hl
  refine lv_aload_n hx hb d_M_init_0 rfl (lv_at hl 0 rfl) ?_
  refine W.objInit hx hb X.ow (X.hts _ tw1_156) (X.hts _ tw1_12) (X.hts _ tw1_13) rfl (by rw [X.2.2.1]; exact hl.1) rfl d_M_init_1 (Nat.le_of_ble_eq_true rfl) (Nat.le_of_ble_eq_true rfl) ?_
  refine W.eq (g2 := F0 m 4 ls []) rfl ?_
  refine lv_aload_n hx hb d_M_init_4 rfl (lv_at hl 0 rfl) ?_
  refine lv_sipush (v := (nI 300)) hx hb d_M_init_5 ks_300 ?_
  refine n_newB X hP hD hS hA (Nat.le_of_ble_eq_true rfl) (Nat.le_of_ble_eq_true rfl) (Nat.le_of_ble_eq_true rfl) d_M_init_8 (fun q8 H hP hD hS => ?_)
  have hP : va_P D cls [(g, .inr (2, [.null, .int 0, .null, .null, .int 0, .null, .int 0, .null])), (q8, .inl (cB, 300, .inl (fun _ => 0)))] H := hP
  have hD : va_D A [(g, .inr (2, [.null, .int 0, .null, .null, .int 0, .null, .int 0, .null])), (q8, .inl (cB, 300, .inl (fun _ => 0)))] := hD
  refine pf_M_9 X hin hP hD hS 0 rfl d_M_init_10 (fun H locs hP hD hS => ?_)
  have hP : va_P D cls [(g, .inr (2, [.ref q8, .int 0, .null, .null, .int 0, .null, .int 0, .null])), (q8, .inl (cB, 300, .inl (fun _ => 0)))] H := hP
  have hD : va_D A [(g, .inr (2, [.ref q8, .int 0, .null, .null, .int 0, .null, .int 0, .null])), (q8, .inl (cB, 300, .inl (fun _ => 0)))] := hD
  refine lv_aload_n hx hb d_M_init_13 rfl (lv_at hl 0 rfl) ?_
  refine lv_sipush (v := (nI 3624)) hx hb d_M_init_14 ks_3624 ?_
  refine n_newB X hP hD hS hA (Nat.le_of_ble_eq_true rfl) (Nat.le_of_ble_eq_true rfl) (Nat.le_of_ble_eq_true rfl) d_M_init_17 (fun q17 H hP hD hS => ?_)
  have hP : va_P D cls [(g, .inr (2, [.ref q8, .int 0, .null, .null, .int 0, .null, .int 0, .null])), (q8, .inl (cB, 300, .inl (fun _ => 0))), (q17, .inl (cB, 3624, .inl (fun _ => 0)))] H := hP
  have hD : va_D A [(g, .inr (2, [.ref q8, .int 0, .null, .null, .int 0, .null, .int 0, .null])), (q8, .inl (cB, 300, .inl (fun _ => 0))), (q17, .inl (cB, 3624, .inl (fun _ => 0)))] := hD
  refine pf_M_13 X hin hP hD hS 0 rfl d_M_init_19 (fun H locs hP hD hS => ?_)
  have hP : va_P D cls [(g, .inr (2, [.ref q8, .int 0, .ref q17, .null, .int 0, .null, .int 0, .null])), (q8, .inl (cB, 300, .inl (fun _ => 0))), (q17, .inl (cB, 3624, .inl (fun _ => 0)))] H := hP
  have hD : va_D A [(g, .inr (2, [.ref q8, .int 0, .ref q17, .null, .int 0, .null, .int 0, .null])), (q8, .inl (cB, 300, .inl (fun _ => 0))), (q17, .inl (cB, 3624, .inl (fun _ => 0)))] := hD
  refine lv_aload_n hx hb d_M_init_22 rfl (lv_at hl 0 rfl) ?_
  refine lv_sipush (v := (nI 151)) hx hb d_M_init_23 ks_151 ?_
  refine n_newI X hP hD hS hA (Nat.le_of_ble_eq_true rfl) (Nat.le_of_ble_eq_true rfl) (Nat.le_of_ble_eq_true rfl) d_M_init_26 (fun q26 H hP hD hS => ?_)
  have hP : va_P D cls [(g, .inr (2, [.ref q8, .int 0, .ref q17, .null, .int 0, .null, .int 0, .null])), (q8, .inl (cB, 300, .inl (fun _ => 0))), (q17, .inl (cB, 3624, .inl (fun _ => 0))), (q26, .inl (cI, 151, .inl (fun _ => 0)))] H := hP
  have hD : va_D A [(g, .inr (2, [.ref q8, .int 0, .ref q17, .null, .int 0, .null, .int 0, .null])), (q8, .inl (cB, 300, .inl (fun _ => 0))), (q17, .inl (cB, 3624, .inl (fun _ => 0))), (q26, .inl (cI, 151, .inl (fun _ => 0)))] := hD
  refine pf_M_16 X hin hP hD hS 0 rfl d_M_init_28 (fun H locs hP hD hS => ?_)
  have hP : va_P D cls [(g, .inr (2, [.ref q8, .int 0, .ref q17, .ref q26, .int 0, .null, .int 0, .null])), (q8, .inl (cB, 300, .inl (fun _ => 0))), (q17, .inl (cB, 3624, .inl (fun _ => 0))), (q26, .inl (cI, 151, .inl (fun _ => 0)))] H := hP
  have hD : va_D A [(g, .inr (2, [.ref q8, .int 0, .ref q17, .ref q26, .int 0, .null, .int 0, .null])), (q8, .inl (cB, 300, .inl (fun _ => 0))), (q17, .inl (cB, 3624, .inl (fun _ => 0))), (q26, .inl (cI, 151, .inl (fun _ => 0)))] := hD
  refine lv_aload_n hx hb d_M_init_31 rfl (lv_at hl 0 rfl) ?_
  refine lv_sipush (v := (nI 300)) hx hb d_M_init_32 ks_300 ?_
  refine n_newB X hP hD hS hA (Nat.le_of_ble_eq_true rfl) (Nat.le_of_ble_eq_true rfl) (Nat.le_of_ble_eq_true rfl) d_M_init_35 (fun q35 H hP hD hS => ?_)
  have hP : va_P D cls [(g, .inr (2, [.ref q8, .int 0, .ref q17, .ref q26, .int 0, .null, .int 0, .null])), (q8, .inl (cB, 300, .inl (fun _ => 0))), (q17, .inl (cB, 3624, .inl (fun _ => 0))), (q26, .inl (cI, 151, .inl (fun _ => 0))), (q35, .inl (cB, 300, .inl (fun _ => 0)))] H := hP
  have hD : va_D A [(g, .inr (2, [.ref q8, .int 0, .ref q17, .ref q26, .int 0, .null, .int 0, .null])), (q8, .inl (cB, 300, .inl (fun _ => 0))), (q17, .inl (cB, 3624, .inl (fun _ => 0))), (q26, .inl (cI, 151, .inl (fun _ => 0))), (q35, .inl (cB, 300, .inl (fun _ => 0)))] := hD
  refine pf_M_20 X hin hP hD hS 0 rfl d_M_init_37 (fun H locs hP hD hS => ?_)
  have hP : va_P D cls [(g, .inr (2, [.ref q8, .int 0, .ref q17, .ref q26, .int 0, .ref q35, .int 0, .null])), (q8, .inl (cB, 300, .inl (fun _ => 0))), (q17, .inl (cB, 3624, .inl (fun _ => 0))), (q26, .inl (cI, 151, .inl (fun _ => 0))), (q35, .inl (cB, 300, .inl (fun _ => 0)))] H := hP
  have hD : va_D A [(g, .inr (2, [.ref q8, .int 0, .ref q17, .ref q26, .int 0, .ref q35, .int 0, .null])), (q8, .inl (cB, 300, .inl (fun _ => 0))), (q17, .inl (cB, 3624, .inl (fun _ => 0))), (q26, .inl (cI, 151, .inl (fun _ => 0))), (q35, .inl (cB, 300, .inl (fun _ => 0)))] := hD
  refine lv_aload_n hx hb d_M_init_40 rfl (lv_at hl 0 rfl) ?_
  refine lv_sipush (v := (nI 625)) hx hb d_M_init_41 ks_625 ?_
  refine n_newI X hP hD hS hA (Nat.le_of_ble_eq_true rfl) (Nat.le_of_ble_eq_true rfl) (Nat.le_of_ble_eq_true rfl) d_M_init_44 (fun q44 H hP hD hS => ?_)
  have hP : va_P D cls [(g, .inr (2, [.ref q8, .int 0, .ref q17, .ref q26, .int 0, .ref q35, .int 0, .null])), (q8, .inl (cB, 300, .inl (fun _ => 0))), (q17, .inl (cB, 3624, .inl (fun _ => 0))), (q26, .inl (cI, 151, .inl (fun _ => 0))), (q35, .inl (cB, 300, .inl (fun _ => 0))), (q44, .inl (cI, 625, .inl (fun _ => 0)))] H := hP
  have hD : va_D A [(g, .inr (2, [.ref q8, .int 0, .ref q17, .ref q26, .int 0, .ref q35, .int 0, .null])), (q8, .inl (cB, 300, .inl (fun _ => 0))), (q17, .inl (cB, 3624, .inl (fun _ => 0))), (q26, .inl (cI, 151, .inl (fun _ => 0))), (q35, .inl (cB, 300, .inl (fun _ => 0))), (q44, .inl (cI, 625, .inl (fun _ => 0)))] := hD
  refine pf_M_23 X hin hP hD hS 0 rfl d_M_init_46 (fun H locs hP hD hS => ?_)
  have hP : va_P D cls [(g, .inr (2, [.ref q8, .int 0, .ref q17, .ref q26, .int 0, .ref q35, .int 0, .ref q44])), (q8, .inl (cB, 300, .inl (fun _ => 0))), (q17, .inl (cB, 3624, .inl (fun _ => 0))), (q26, .inl (cI, 151, .inl (fun _ => 0))), (q35, .inl (cB, 300, .inl (fun _ => 0))), (q44, .inl (cI, 625, .inl (fun _ => 0)))] H := hP
  have hD : va_D A [(g, .inr (2, [.ref q8, .int 0, .ref q17, .ref q26, .int 0, .ref q35, .int 0, .ref q44])), (q8, .inl (cB, 300, .inl (fun _ => 0))), (q17, .inl (cB, 3624, .inl (fun _ => 0))), (q26, .inl (cI, 151, .inl (fun _ => 0))), (q35, .inl (cB, 300, .inl (fun _ => 0))), (q44, .inl (cI, 625, .inl (fun _ => 0)))] := hD
  exact hret (q8, q17, q26, q35, q44) _ _ _ _ trivial hP hD hS d_M_init_49
end
section
-- the law's body (gen/law.py)
theorem rokL {d : Nat} (h : d ≤ 6) : Rok room_1 16 12870 d := ⟨show d + 1 ≤ 7 by omega, show 27 + 30 * d ≤ 240 by omega, Nat.le_refl _, Nat.le_refl _⟩
section LL
variable {p : Program} {l : Launch} {e : Env} {R : Room} {s : State} {m : MethodId} {args : Array Value} {below : List Frame} {meth : Method} {c : Code} {H : Heap} {locs : List Loc} {cells slots : Nat} {Q : State → Prop} {cc : ByteArray} {own : String} {nL : Nat} {rt : Option FieldType} {D : va_G} {cB cI : ClassId} {pc : Nat} {ls : Array Slot} {rest : List Value} {A : Nat → Prop}
theorem n_sld (X : Cx p s m meth c args cc own nL rt D cB cI) {b L : Nat} {xs : Nat → Int32} (hX : va_X b L xs s s.heap) (hbl : b < s.heap.size) (hbA : ¬ A b) (hS : va_S A s.heap H locs) {k : Nat} (hk : k < L) (hL : L ≤ 3072) (hdg : decode cc pc = .ok (.iaload, 1)) (kk : W p l e R s m args below meth c H locs cells slots Q (F0 m (pc + 1) ls (.int (xs k) :: rest))) : W p l e R s m args below meth c H locs cells slots Q (F0 m pc ls (.int (nI k) :: .ref b :: rest)) := by
  refine va_sld X.1 X.2.1 hX hbl hbA hS (vp_in_nI hk (by omega)) hdg ?_
  rw [nI_clamp (by omega)]; exact kk
theorem n_slen (X : Cx p s m meth c args cc own nL rt D cB cI) {b L : Nat} {xs : Nat → Int32} (hX : va_X b L xs s s.heap) (hbl : b < s.heap.size) (hbA : ¬ A b) (hS : va_S A s.heap H locs) (hdg : decode cc pc = .ok (.arraylength, 1)) (kk : W p l e R s m args below meth c H locs cells slots Q (F0 m (pc + 1) ls (.int (nI L) :: rest))) : W p l e R s m args below meth c H locs cells slots Q (F0 m pc ls (.ref b :: rest)) :=
  va_slen X.1 X.2.1 hX hbl hbA hS hdg kk
end LL
set_option maxHeartbeats 4000000 in
set_option maxRecDepth 100000 in
theorem law_body {p : Program} {l : Launch} {e : Env} {s : State} {m : MethodId} {args : Array Value} {below : List Frame} {meth : Method} {c : Code} {Q : State → Prop} {D : va_G} {cB cI : ClassId} {ls : Array Slot} {A : Nat → Prop} {b L : Nat} {xs : Nat → Int32} (hL : L ≤ 3072) (X : Cx p s m meth c args b_L_law R_L 4 ret D cB cI) (hX : va_X b L xs s s.heap) (hbl : b < s.heap.size) (hbA : ¬ A b) (hA : ∀ q : Nat, s.heap.size ≤ q → A q) (hP : va_P D cls [] s.heap) (hD : va_D A []) (hS : va_S A s.heap s.heap []) (hl : lv_has ls 4 [(0, .ref b)]) (hret : ∀ (H : Heap) (locs : List Loc) (pc : Nat) (ls : Array Slot), va_S A s.heap H locs → decode b_L_law pc = .ok (.ireturn, 1) → W p l e room_1 s m args below meth c H locs 16 12870 Q (F0 m pc ls [.int (nI 1)])) : W p l e room_1 s m args below meth c s.heap [] 0 0 Q (F0 m 0 ls []) := by
  have hx := X.1
  have hb := X.2.1
  refine va_new (ci := 0) (fs := [.null, .int 0, .null, .null, .null, .null]) (C := R_T) (T := F_T) (N := 6) X.1 X.2.1 X.hts ui_T ty_T ty_T_ok X.ow (X.hts _ tw1_6) (X.hts _ tw1_7) (X.hts _ tw1_1) X.hK hP hD hS hA rfl (born_T) (Nat.le_of_ble_eq_true rfl) (Nat.le_of_ble_eq_true rfl) d_L_law_0 (fun q0 H hP hD hS => ?_)
  have hP : va_P D cls [(q0, .inr (0, [.null, .int 0, .null, .null, .null, .null]))] H := hP
  have hD : va_D A [(q0, .inr (0, [.null, .int 0, .null, .null, .null, .null]))] := hD
  refine lv_dup hx hb d_L_law_3 rfl ?_
  refine cK_I (rest := [.ref q0]) (wr := []) X st_L_9 rfl tw1_9 (c_Tinit l D cB cI q0) ⟨Nat.le_of_ble_eq_true rfl, Nat.le_of_ble_eq_true rfl⟩ hP hD hS hA [0] [] rfl rfl (by decide) (by decide) (by decide) hl.1 (Nat.le_of_ble_eq_true rfl) d_L_law_4 ⟨Nat.le_of_ble_eq_true rfl, Nat.le_of_ble_eq_true rfl⟩ (fun u9 H locs hr hP hD hS => ?_)
  obtain ⟨qt, q, qm, qs, qw, vm, vs, qb, qn⟩ := u9
  have hP : va_P D cls [(q0, .inr (0, [.ref qt, .int 0, .ref q, .ref qw, .ref qb, .ref qn])), (qt, .inl (cB, 300, .inl (fun _ => 0))), (q, .inr (1, [.int 0, .ref qm, .ref qs])), (qm, .inl (cB, 3600, .inl (fun _ => 0))), (qs, .inl (cI, 150, .inl (fun _ => 0))), (qw, .inr (1, [.int 0, .ref vm, .ref vs])), (vm, .inl (cB, 3600, .inl (fun _ => 0))), (vs, .inl (cI, 150, .inl (fun _ => 0))), (qb, .inl (cI, 25, .inl (fun _ => 0))), (qn, .inl (cI, 25, .inl (fun _ => 0)))] H := hP
  have hD : va_D A [(q0, .inr (0, [.ref qt, .int 0, .ref q, .ref qw, .ref qb, .ref qn])), (qt, .inl (cB, 300, .inl (fun _ => 0))), (q, .inr (1, [.int 0, .ref qm, .ref qs])), (qm, .inl (cB, 3600, .inl (fun _ => 0))), (qs, .inl (cI, 150, .inl (fun _ => 0))), (qw, .inr (1, [.int 0, .ref vm, .ref vs])), (vm, .inl (cB, 3600, .inl (fun _ => 0))), (vs, .inl (cI, 150, .inl (fun _ => 0))), (qb, .inl (cI, 25, .inl (fun _ => 0))), (qn, .inl (cI, 25, .inl (fun _ => 0)))] := hD
  refine lv_astore_n hx hb d_L_law_7 rfl hl (by decide) rfl (fun ls hl => ?_)
  have hl : lv_has ls 4 [(1, .ref q0), (0, .ref b)] := hl
  refine va_new (ci := 2) (fs := [.null, .int 0, .null, .null, .int 0, .null, .int 0, .null]) (C := R_M) (T := F_M) (N := 8) X.1 X.2.1 X.hts ui_M ty_M ty_M_ok X.ow (X.hts _ tw1_151) (X.hts _ tw1_152) (X.hts _ tw1_3) X.hK hP hD hS hA rfl (born_M) (Nat.le_of_ble_eq_true rfl) (Nat.le_of_ble_eq_true rfl) d_L_law_8 (fun q8 H hP hD hS => ?_)
  have hP : va_P D cls [(q0, .inr (0, [.ref qt, .int 0, .ref q, .ref qw, .ref qb, .ref qn])), (qt, .inl (cB, 300, .inl (fun _ => 0))), (q, .inr (1, [.int 0, .ref qm, .ref qs])), (qm, .inl (cB, 3600, .inl (fun _ => 0))), (qs, .inl (cI, 150, .inl (fun _ => 0))), (qw, .inr (1, [.int 0, .ref vm, .ref vs])), (vm, .inl (cB, 3600, .inl (fun _ => 0))), (vs, .inl (cI, 150, .inl (fun _ => 0))), (qb, .inl (cI, 25, .inl (fun _ => 0))), (qn, .inl (cI, 25, .inl (fun _ => 0))), (q8, .inr (2, [.null, .int 0, .null, .null, .int 0, .null, .int 0, .null]))] H := hP
  have hD : va_D A [(q0, .inr (0, [.ref qt, .int 0, .ref q, .ref qw, .ref qb, .ref qn])), (qt, .inl (cB, 300, .inl (fun _ => 0))), (q, .inr (1, [.int 0, .ref qm, .ref qs])), (qm, .inl (cB, 3600, .inl (fun _ => 0))), (qs, .inl (cI, 150, .inl (fun _ => 0))), (qw, .inr (1, [.int 0, .ref vm, .ref vs])), (vm, .inl (cB, 3600, .inl (fun _ => 0))), (vs, .inl (cI, 150, .inl (fun _ => 0))), (qb, .inl (cI, 25, .inl (fun _ => 0))), (qn, .inl (cI, 25, .inl (fun _ => 0))), (q8, .inr (2, [.null, .int 0, .null, .null, .int 0, .null, .int 0, .null]))] := hD
  refine lv_dup hx hb d_L_law_11 rfl ?_
  refine cK_I (rest := [.ref q8]) (wr := [(q0, .inr (0, [.ref qt, .int 0, .ref q, .ref qw, .ref qb, .ref qn])), (qt, .inl (cB, 300, .inl (fun _ => 0))), (q, .inr (1, [.int 0, .ref qm, .ref qs])), (qm, .inl (cB, 3600, .inl (fun _ => 0))), (qs, .inl (cI, 150, .inl (fun _ => 0))), (qw, .inr (1, [.int 0, .ref vm, .ref vs])), (vm, .inl (cB, 3600, .inl (fun _ => 0))), (vs, .inl (cI, 150, .inl (fun _ => 0))), (qb, .inl (cI, 25, .inl (fun _ => 0))), (qn, .inl (cI, 25, .inl (fun _ => 0)))]) X st_L_12 rfl tw1_154 (c_Minit l D cB cI q8) ⟨Nat.le_of_ble_eq_true rfl, Nat.le_of_ble_eq_true rfl⟩ hP hD hS hA [10] [0, 1, 2, 3, 4, 5, 6, 7, 8, 9] rfl rfl (by decide) (by decide) (by decide) hl.1 (Nat.le_of_ble_eq_true rfl) d_L_law_12 ⟨Nat.le_of_ble_eq_true rfl, Nat.le_of_ble_eq_true rfl⟩ (fun u9 H locs hr hP hD hS => ?_)
  obtain ⟨g1, gm, gs, gw, gb⟩ := u9
  have hP : va_P D cls [(q0, .inr (0, [.ref qt, .int 0, .ref q, .ref qw, .ref qb, .ref qn])), (qt, .inl (cB, 300, .inl (fun _ => 0))), (q, .inr (1, [.int 0, .ref qm, .ref qs])), (qm, .inl (cB, 3600, .inl (fun _ => 0))), (qs, .inl (cI, 150, .inl (fun _ => 0))), (qw, .inr (1, [.int 0, .ref vm, .ref vs])), (vm, .inl (cB, 3600, .inl (fun _ => 0))), (vs, .inl (cI, 150, .inl (fun _ => 0))), (qb, .inl (cI, 25, .inl (fun _ => 0))), (qn, .inl (cI, 25, .inl (fun _ => 0))), (q8, .inr (2, [.ref g1, .int 0, .ref gm, .ref gs, .int 0, .ref gw, .int 0, .ref gb])), (g1, .inl (cB, 300, .inl (fun _ => 0))), (gm, .inl (cB, 3624, .inl (fun _ => 0))), (gs, .inl (cI, 151, .inl (fun _ => 0))), (gw, .inl (cB, 300, .inl (fun _ => 0))), (gb, .inl (cI, 625, .inl (fun _ => 0)))] H := hP
  have hD : va_D A [(q0, .inr (0, [.ref qt, .int 0, .ref q, .ref qw, .ref qb, .ref qn])), (qt, .inl (cB, 300, .inl (fun _ => 0))), (q, .inr (1, [.int 0, .ref qm, .ref qs])), (qm, .inl (cB, 3600, .inl (fun _ => 0))), (qs, .inl (cI, 150, .inl (fun _ => 0))), (qw, .inr (1, [.int 0, .ref vm, .ref vs])), (vm, .inl (cB, 3600, .inl (fun _ => 0))), (vs, .inl (cI, 150, .inl (fun _ => 0))), (qb, .inl (cI, 25, .inl (fun _ => 0))), (qn, .inl (cI, 25, .inl (fun _ => 0))), (q8, .inr (2, [.ref g1, .int 0, .ref gm, .ref gs, .int 0, .ref gw, .int 0, .ref gb])), (g1, .inl (cB, 300, .inl (fun _ => 0))), (gm, .inl (cB, 3624, .inl (fun _ => 0))), (gs, .inl (cI, 151, .inl (fun _ => 0))), (gw, .inl (cB, 300, .inl (fun _ => 0))), (gb, .inl (cI, 625, .inl (fun _ => 0)))] := hD
  refine W.widen (k := 16) (n := 12870) (Nat.le_of_ble_eq_true rfl) (Nat.le_of_ble_eq_true rfl) ?_
  refine lv_astore_n hx hb d_L_law_15 rfl hl (by decide) rfl (fun ls hl => ?_)
  have hl : lv_has ls 4 [(2, .ref q8), (1, .ref q0), (0, .ref b)] := hl
  refine lv_iconst (v := (nI 0)) hx hb d_L_law_16 ki_0 ?_
  refine lv_istore_n hx hb d_L_law_17 rfl hl (by decide) rfl (fun ls hl => ?_)
  have hl : lv_has ls 4 [(3, .int (nI 0)), (2, .ref q8), (1, .ref q0), (0, .ref b)] := hl
  have loop : ∀ (d9 : Nat) (i : Nat) (n : Nat) (T : Nat → Int32) (ws : List (List Nat)) (fM : Nat → Int32) (fS : Nat → Int32) (wm : Int32) (wM : Nat → Int32) (wS : Nat → Int32) (pb : Nat) (pn : Nat) (fb : Nat → Int32) (fn : Nat → Int32) (gM : Nat → Int32) (gS : Nat → Int32) (wl : Int32) (gW : Nat → Int32) (gB : Nat → Int32), L - i = d9 → (i ≤ L) → (n ≤ 300) → (ws.length ≤ 150) → (Rep ws fS fM) → (Rep ws gS gM) → ∀ (H : Heap) (locs : List Loc) (ls : Array Slot), lv_has ls 4 [(3, .int (nI i)), (2, .ref q8), (1, .ref q0), (0, .ref b)] → va_P D cls [(q0, .inr (0, [.ref qt, .int (nI n), .ref q, .ref qw, .ref pb, .ref pn])), (qt, .inl (cB, 300, .inl T)), (q, .inr (1, [.int (nI ws.length), .ref qm, .ref qs])), (qm, .inl (cB, 3600, .inl fM)), (qs, .inl (cI, 150, .inl fS)), (qw, .inr (1, [.int wm, .ref vm, .ref vs])), (vm, .inl (cB, 3600, .inl wM)), (vs, .inl (cI, 150, .inl wS)), (pb, .inl (cI, 25, .inl fb)), (pn, .inl (cI, 25, .inl fn)), (q8, .inr (2, [.ref g1, .int (nI n), .ref gm, .ref gs, .int (nI ws.length), .ref gw, .int wl, .ref gb])), (g1, .inl (cB, 300, .inl T)), (gm, .inl (cB, 3624, .inl gM)), (gs, .inl (cI, 151, .inl gS)), (gw, .inl (cB, 300, .inl gW)), (gb, .inl (cI, 625, .inl gB))] H → va_D A [(q0, .inr (0, [.ref qt, .int (nI n), .ref q, .ref qw, .ref pb, .ref pn])), (qt, .inl (cB, 300, .inl T)), (q, .inr (1, [.int (nI ws.length), .ref qm, .ref qs])), (qm, .inl (cB, 3600, .inl fM)), (qs, .inl (cI, 150, .inl fS)), (qw, .inr (1, [.int wm, .ref vm, .ref vs])), (vm, .inl (cB, 3600, .inl wM)), (vs, .inl (cI, 150, .inl wS)), (pb, .inl (cI, 25, .inl fb)), (pn, .inl (cI, 25, .inl fn)), (q8, .inr (2, [.ref g1, .int (nI n), .ref gm, .ref gs, .int (nI ws.length), .ref gw, .int wl, .ref gb])), (g1, .inl (cB, 300, .inl T)), (gm, .inl (cB, 3624, .inl gM)), (gs, .inl (cI, 151, .inl gS)), (gw, .inl (cB, 300, .inl gW)), (gb, .inl (cI, 625, .inl gB))] → va_S A s.heap H locs → W p l e room_1 s m args below meth c H locs 16 12870 Q (F0 m 18 ls []) := by
    intro d9
    induction d9 using Nat.strongRecOn with
    | _ d9 ih_loop =>
    intro i n T ws fM fS wm wM wS pb pn fb fn gM gS wl gW gB hd hi hn hc hR hG H locs ls hl hP hD hS
    refine lv_iload_n hx hb d_L_law_18 rfl (lv_at hl 0 rfl) ?_
    refine lv_aload_n hx hb d_L_law_19 rfl (lv_at hl 3 rfl) ?_
    refine n_slen X hX hbl hbA hS d_L_law_20 ?_
    refine lv_bipush (v := (nI 6)) hx hb d_L_law_21 kb_6 ?_
    refine lv_isub hx hb d_L_law_23 ?_
    have eL := pk_sub_toInt (a := L) (b := 6) (by omega) (by decide)
    have ei : (nI i).toInt = (i : Int) := nI_toInt (by omega)
    refine lv_icmp_gt hx hb d_L_law_24 rfl (fun h24 => ?_) (fun h24 => ?_)
    · refine lv_iconst (v := (nI 1)) hx hb d_L_law_344 ki_1 ?_
      exact hret _ _ _ _ hS d_L_law_345
    · rw [i_lt, eL, ei] at h24
      refine lv_aload_n hx hb d_L_law_27 rfl (lv_at hl 3 rfl) ?_
      refine lv_iload_n hx hb d_L_law_28 rfl (lv_at hl 0 rfl) ?_
      refine n_sld X hX hbl hbA hS (by omega) hL d_L_law_29 ?_
      refine lv_bipush (v := (nI 15)) hx hb d_L_law_30 kb_15 ?_
      refine lv_iand hx hb d_L_law_32 ?_
      obtain ⟨j, hj, ej⟩ := pk_andE (xs i) (m := nI 15) 4 (by decide)
      refine W.top (y := (nI j)) (ej) ?_
      rcases (show j = 0 ∨ j = 1 ∨ j = 2 ∨ j = 3 ∨ j = 4 ∨ j = 5 ∨ j = 6 ∨ j = 7 ∨ j = 8 ∨ j = 9 ∨ 10 ≤ j by omega) with rfl | rfl | rfl | rfl | rfl | rfl | rfl | rfl | rfl | rfl | hj9
      · refine lv_tableIn hx hb d_L_law_33 (tgt := 88) (by decide) (by decide) (off := 55) rfl rfl ?_
        refine lv_aload_n hx hb d_L_law_88 rfl (lv_at hl 2 rfl) ?_
        refine lv_aload_n hx hb d_L_law_89 rfl (lv_at hl 3 rfl) ?_
        refine lv_iload_n hx hb d_L_law_90 rfl (lv_at hl 0 rfl) ?_
        refine lv_iconst (v := (nI 1)) hx hb d_L_law_91 ki_1 ?_
        refine n_iadd X d_L_law_92 ?_
        refine n_sld X hX hbl hbA hS (by omega) hL d_L_law_93 ?_
        refine lv_aload_n hx hb d_L_law_94 rfl (lv_at hl 3 rfl) ?_
        refine lv_iload_n hx hb d_L_law_95 rfl (lv_at hl 0 rfl) ?_
        refine lv_iconst (v := (nI 2)) hx hb d_L_law_96 ki_2 ?_
        refine n_iadd X d_L_law_97 ?_
        refine n_sld X hX hbl hbA hS (by omega) hL d_L_law_98 ?_
        refine lv_aload_n hx hb d_L_law_99 rfl (lv_at hl 3 rfl) ?_
        refine lv_iload_n hx hb d_L_law_100 rfl (lv_at hl 0 rfl) ?_
        refine lv_iconst (v := (nI 3)) hx hb d_L_law_101 ki_3 ?_
        refine n_iadd X d_L_law_102 ?_
        refine n_sld X hX hbl hbA hS (by omega) hL d_L_law_103 ?_
        refine lv_aload_n hx hb d_L_law_104 rfl (lv_at hl 3 rfl) ?_
        refine lv_iload_n hx hb d_L_law_105 rfl (lv_at hl 0 rfl) ?_
        refine lv_iconst (v := (nI 4)) hx hb d_L_law_106 ki_4 ?_
        refine n_iadd X d_L_law_107 ?_
        refine n_sld X hX hbl hbA hS (by omega) hL d_L_law_108 ?_
        refine lv_aload_n hx hb d_L_law_109 rfl (lv_at hl 3 rfl) ?_
        refine lv_iload_n hx hb d_L_law_110 rfl (lv_at hl 0 rfl) ?_
        refine lv_iconst (v := (nI 5)) hx hb d_L_law_111 ki_5 ?_
        refine n_iadd X d_L_law_112 ?_
        refine n_sld X hX hbl hbA hS (by omega) hL d_L_law_113 ?_
        refine cI_V (rest := []) (wr := [(q, .inr (1, [.int (nI ws.length), .ref qm, .ref qs])), (qm, .inl (cB, 3600, .inl fM)), (qs, .inl (cI, 150, .inl fS)), (qw, .inr (1, [.int wm, .ref vm, .ref vs])), (vm, .inl (cB, 3600, .inl wM)), (vs, .inl (cI, 150, .inl wS)), (pb, .inl (cI, 25, .inl fb)), (pn, .inl (cI, 25, .inl fn)), (q8, .inr (2, [.ref g1, .int (nI n), .ref gm, .ref gs, .int (nI ws.length), .ref gw, .int wl, .ref gb])), (g1, .inl (cB, 300, .inl T)), (gm, .inl (cB, 3624, .inl gM)), (gs, .inl (cI, 151, .inl gS)), (gw, .inl (cB, 300, .inl gW)), (gb, .inl (cI, 625, .inl gB))]) X st_L_13 tw1_55 tw1_56 (c_Tfeed l D cB cI q0 qt q qw pb pn n T hn (xs (i + 1)) (xs (i + 2)) (xs (i + 3)) (xs (i + 4)) (xs (i + 5))) (rokL (by decide)) hP hD hS hA 0 rfl rfl [0, 1] [2, 3, 4, 5, 6, 7, 8, 9, 10, 11, 12, 13, 14, 15] rfl rfl (by decide) (by decide) (by decide) rfl hl.1 rfl (Nat.le_of_ble_eq_true rfl) d_L_law_114 (fun r114 u9 H locs hr hP hD hS => ?_)
        obtain ⟨rfl, rfl⟩ := hr
        have hP : va_P D cls [(q, .inr (1, [.int (nI ws.length), .ref qm, .ref qs])), (qm, .inl (cB, 3600, .inl fM)), (qs, .inl (cI, 150, .inl fS)), (qw, .inr (1, [.int wm, .ref vm, .ref vs])), (vm, .inl (cB, 3600, .inl wM)), (vs, .inl (cI, 150, .inl wS)), (pb, .inl (cI, 25, .inl fb)), (pn, .inl (cI, 25, .inl fn)), (q8, .inr (2, [.ref g1, .int (nI n), .ref gm, .ref gs, .int (nI ws.length), .ref gw, .int wl, .ref gb])), (g1, .inl (cB, 300, .inl T)), (gm, .inl (cB, 3624, .inl gM)), (gs, .inl (cI, 151, .inl gS)), (gw, .inl (cB, 300, .inl gW)), (gb, .inl (cI, 625, .inl gB)), (q0, .inr (0, [.ref qt, .int (nI (feedN n)), .ref q, .ref qw, .ref pb, .ref pn])), (qt, .inl (cB, 300, .inl (feedT n T (xs (i + 1)) (xs (i + 2)) (xs (i + 3)) (xs (i + 4)) (xs (i + 5)))))] H := hP
        have hD : va_D A [(q, .inr (1, [.int (nI ws.length), .ref qm, .ref qs])), (qm, .inl (cB, 3600, .inl fM)), (qs, .inl (cI, 150, .inl fS)), (qw, .inr (1, [.int wm, .ref vm, .ref vs])), (vm, .inl (cB, 3600, .inl wM)), (vs, .inl (cI, 150, .inl wS)), (pb, .inl (cI, 25, .inl fb)), (pn, .inl (cI, 25, .inl fn)), (q8, .inr (2, [.ref g1, .int (nI n), .ref gm, .ref gs, .int (nI ws.length), .ref gw, .int wl, .ref gb])), (g1, .inl (cB, 300, .inl T)), (gm, .inl (cB, 3624, .inl gM)), (gs, .inl (cI, 151, .inl gS)), (gw, .inl (cB, 300, .inl gW)), (gb, .inl (cI, 625, .inl gB)), (q0, .inr (0, [.ref qt, .int (nI (feedN n)), .ref q, .ref qw, .ref pb, .ref pn])), (qt, .inl (cB, 300, .inl (feedT n T (xs (i + 1)) (xs (i + 2)) (xs (i + 3)) (xs (i + 4)) (xs (i + 5)))))] := hD
        refine lv_aload_n hx hb d_L_law_117 rfl (lv_at hl 1 rfl) ?_
        refine lv_aload_n hx hb d_L_law_118 rfl (lv_at hl 3 rfl) ?_
        refine lv_iload_n hx hb d_L_law_119 rfl (lv_at hl 0 rfl) ?_
        refine lv_iconst (v := (nI 1)) hx hb d_L_law_120 ki_1 ?_
        refine n_iadd X d_L_law_121 ?_
        refine n_sld X hX hbl hbA hS (by omega) hL d_L_law_122 ?_
        refine lv_aload_n hx hb d_L_law_123 rfl (lv_at hl 3 rfl) ?_
        refine lv_iload_n hx hb d_L_law_124 rfl (lv_at hl 0 rfl) ?_
        refine lv_iconst (v := (nI 2)) hx hb d_L_law_125 ki_2 ?_
        refine n_iadd X d_L_law_126 ?_
        refine n_sld X hX hbl hbA hS (by omega) hL d_L_law_127 ?_
        refine lv_aload_n hx hb d_L_law_128 rfl (lv_at hl 3 rfl) ?_
        refine lv_iload_n hx hb d_L_law_129 rfl (lv_at hl 0 rfl) ?_
        refine lv_iconst (v := (nI 3)) hx hb d_L_law_130 ki_3 ?_
        refine n_iadd X d_L_law_131 ?_
        refine n_sld X hX hbl hbA hS (by omega) hL d_L_law_132 ?_
        refine lv_aload_n hx hb d_L_law_133 rfl (lv_at hl 3 rfl) ?_
        refine lv_iload_n hx hb d_L_law_134 rfl (lv_at hl 0 rfl) ?_
        refine lv_iconst (v := (nI 4)) hx hb d_L_law_135 ki_4 ?_
        refine n_iadd X d_L_law_136 ?_
        refine n_sld X hX hbl hbA hS (by omega) hL d_L_law_137 ?_
        refine lv_aload_n hx hb d_L_law_138 rfl (lv_at hl 3 rfl) ?_
        refine lv_iload_n hx hb d_L_law_139 rfl (lv_at hl 0 rfl) ?_
        refine lv_iconst (v := (nI 5)) hx hb d_L_law_140 ki_5 ?_
        refine n_iadd X d_L_law_141 ?_
        refine n_sld X hX hbl hbA hS (by omega) hL d_L_law_142 ?_
        refine cI_V (rest := [.int (feedA n)]) (wr := [(q, .inr (1, [.int (nI ws.length), .ref qm, .ref qs])), (qm, .inl (cB, 3600, .inl fM)), (qs, .inl (cI, 150, .inl fS)), (qw, .inr (1, [.int wm, .ref vm, .ref vs])), (vm, .inl (cB, 3600, .inl wM)), (vs, .inl (cI, 150, .inl wS)), (pb, .inl (cI, 25, .inl fb)), (pn, .inl (cI, 25, .inl fn)), (gm, .inl (cB, 3624, .inl gM)), (gs, .inl (cI, 151, .inl gS)), (gw, .inl (cB, 300, .inl gW)), (gb, .inl (cI, 625, .inl gB)), (q0, .inr (0, [.ref qt, .int (nI (feedN n)), .ref q, .ref qw, .ref pb, .ref pn])), (qt, .inl (cB, 300, .inl (feedT n T (xs (i + 1)) (xs (i + 2)) (xs (i + 3)) (xs (i + 4)) (xs (i + 5)))))]) X st_L_17 tw1_183 tw1_184 (c_Mfeed l D cB cI q8 g1 gm gs gw gb n (nI ws.length) wl T hn (xs (i + 1)) (xs (i + 2)) (xs (i + 3)) (xs (i + 4)) (xs (i + 5))) (rokL (by decide)) hP hD hS hA 8 rfl rfl [8, 9] [0, 1, 2, 3, 4, 5, 6, 7, 10, 11, 12, 13, 14, 15] rfl rfl (by decide) (by decide) (by decide) rfl hl.1 rfl (Nat.le_of_ble_eq_true rfl) d_L_law_143 (fun r143 u9 H locs hr hP hD hS => ?_)
        obtain ⟨rfl, rfl⟩ := hr
        have hP : va_P D cls [(q, .inr (1, [.int (nI ws.length), .ref qm, .ref qs])), (qm, .inl (cB, 3600, .inl fM)), (qs, .inl (cI, 150, .inl fS)), (qw, .inr (1, [.int wm, .ref vm, .ref vs])), (vm, .inl (cB, 3600, .inl wM)), (vs, .inl (cI, 150, .inl wS)), (pb, .inl (cI, 25, .inl fb)), (pn, .inl (cI, 25, .inl fn)), (gm, .inl (cB, 3624, .inl gM)), (gs, .inl (cI, 151, .inl gS)), (gw, .inl (cB, 300, .inl gW)), (gb, .inl (cI, 625, .inl gB)), (q0, .inr (0, [.ref qt, .int (nI (feedN n)), .ref q, .ref qw, .ref pb, .ref pn])), (qt, .inl (cB, 300, .inl (feedT n T (xs (i + 1)) (xs (i + 2)) (xs (i + 3)) (xs (i + 4)) (xs (i + 5))))), (q8, .inr (2, [.ref g1, .int (nI (feedN n)), .ref gm, .ref gs, .int (nI ws.length), .ref gw, .int wl, .ref gb])), (g1, .inl (cB, 300, .inl (feedT n T (xs (i + 1)) (xs (i + 2)) (xs (i + 3)) (xs (i + 4)) (xs (i + 5)))))] H := hP
        have hD : va_D A [(q, .inr (1, [.int (nI ws.length), .ref qm, .ref qs])), (qm, .inl (cB, 3600, .inl fM)), (qs, .inl (cI, 150, .inl fS)), (qw, .inr (1, [.int wm, .ref vm, .ref vs])), (vm, .inl (cB, 3600, .inl wM)), (vs, .inl (cI, 150, .inl wS)), (pb, .inl (cI, 25, .inl fb)), (pn, .inl (cI, 25, .inl fn)), (gm, .inl (cB, 3624, .inl gM)), (gs, .inl (cI, 151, .inl gS)), (gw, .inl (cB, 300, .inl gW)), (gb, .inl (cI, 625, .inl gB)), (q0, .inr (0, [.ref qt, .int (nI (feedN n)), .ref q, .ref qw, .ref pb, .ref pn])), (qt, .inl (cB, 300, .inl (feedT n T (xs (i + 1)) (xs (i + 2)) (xs (i + 3)) (xs (i + 4)) (xs (i + 5))))), (q8, .inr (2, [.ref g1, .int (nI (feedN n)), .ref gm, .ref gs, .int (nI ws.length), .ref gw, .int wl, .ref gb])), (g1, .inl (cB, 300, .inl (feedT n T (xs (i + 1)) (xs (i + 2)) (xs (i + 3)) (xs (i + 4)) (xs (i + 5)))))] := hD
        refine lv_icmp_eq hx hb d_L_law_146 rfl (fun hq => ?_) (fun hq => ?_)
        · refine lv_iinc hx hb d_L_law_338 hl (k := 0) rfl (v := (nI (i + 6))) (n_inc _ 6) (by decide) rfl (fun ls hl => ?_)
          have hl : lv_has ls 4 [(3, .int (nI (i + 6))), (2, .ref q8), (1, .ref q0), (0, .ref b)] := hl
          refine lv_goto hx hb d_L_law_341 rfl ?_
          have hP : va_P D cls [(q0, .inr (0, [.ref qt, .int (nI (feedN n)), .ref q, .ref qw, .ref pb, .ref pn])), (qt, .inl (cB, 300, .inl (feedT n T (xs (i + 1)) (xs (i + 2)) (xs (i + 3)) (xs (i + 4)) (xs (i + 5))))), (q, .inr (1, [.int (nI ws.length), .ref qm, .ref qs])), (qm, .inl (cB, 3600, .inl fM)), (qs, .inl (cI, 150, .inl fS)), (qw, .inr (1, [.int wm, .ref vm, .ref vs])), (vm, .inl (cB, 3600, .inl wM)), (vs, .inl (cI, 150, .inl wS)), (pb, .inl (cI, 25, .inl fb)), (pn, .inl (cI, 25, .inl fn)), (q8, .inr (2, [.ref g1, .int (nI (feedN n)), .ref gm, .ref gs, .int (nI ws.length), .ref gw, .int wl, .ref gb])), (g1, .inl (cB, 300, .inl (feedT n T (xs (i + 1)) (xs (i + 2)) (xs (i + 3)) (xs (i + 4)) (xs (i + 5))))), (gm, .inl (cB, 3624, .inl gM)), (gs, .inl (cI, 151, .inl gS)), (gw, .inl (cB, 300, .inl gW)), (gb, .inl (cI, 625, .inl gB))] H := hP.sub [12, 13, 0, 1, 2, 3, 4, 5, 6, 7, 14, 15, 8, 9, 10, 11] rfl
          have hD : va_D A [(q0, .inr (0, [.ref qt, .int (nI (feedN n)), .ref q, .ref qw, .ref pb, .ref pn])), (qt, .inl (cB, 300, .inl (feedT n T (xs (i + 1)) (xs (i + 2)) (xs (i + 3)) (xs (i + 4)) (xs (i + 5))))), (q, .inr (1, [.int (nI ws.length), .ref qm, .ref qs])), (qm, .inl (cB, 3600, .inl fM)), (qs, .inl (cI, 150, .inl fS)), (qw, .inr (1, [.int wm, .ref vm, .ref vs])), (vm, .inl (cB, 3600, .inl wM)), (vs, .inl (cI, 150, .inl wS)), (pb, .inl (cI, 25, .inl fb)), (pn, .inl (cI, 25, .inl fn)), (q8, .inr (2, [.ref g1, .int (nI (feedN n)), .ref gm, .ref gs, .int (nI ws.length), .ref gw, .int wl, .ref gb])), (g1, .inl (cB, 300, .inl (feedT n T (xs (i + 1)) (xs (i + 2)) (xs (i + 3)) (xs (i + 4)) (xs (i + 5))))), (gm, .inl (cB, 3624, .inl gM)), (gs, .inl (cI, 151, .inl gS)), (gw, .inl (cB, 300, .inl gW)), (gb, .inl (cI, 625, .inl gB))] := hD.sub [12, 13, 0, 1, 2, 3, 4, 5, 6, 7, 14, 15, 8, 9, 10, 11] (by decide) rfl
          exact ih_loop _ (by omega) (i + 6) (feedN n) (feedT n T (xs (i + 1)) (xs (i + 2)) (xs (i + 3)) (xs (i + 4)) (xs (i + 5))) ws fM fS wm wM wS pb pn fb fn gM gS wl gW gB rfl (by omega) (feedN_le hn) (hc) (hR) (hG) _ _ _ hl hP hD hS
        · exact False.elim (hq (rfl))
      · refine lv_tableIn hx hb d_L_law_33 (tgt := 151) (by decide) (by decide) (off := 118) rfl rfl ?_
        refine lv_aload_n hx hb d_L_law_151 rfl (lv_at hl 2 rfl) ?_
        refine lv_aload_n hx hb d_L_law_152 rfl (lv_at hl 3 rfl) ?_
        refine lv_iload_n hx hb d_L_law_153 rfl (lv_at hl 0 rfl) ?_
        refine lv_iconst (v := (nI 1)) hx hb d_L_law_154 ki_1 ?_
        refine n_iadd X d_L_law_155 ?_
        refine n_sld X hX hbl hbA hS (by omega) hL d_L_law_156 ?_
        refine cI_V (rest := []) (wr := [(qt, .inl (cB, 300, .inl T)), (q, .inr (1, [.int (nI ws.length), .ref qm, .ref qs])), (qm, .inl (cB, 3600, .inl fM)), (qs, .inl (cI, 150, .inl fS)), (qw, .inr (1, [.int wm, .ref vm, .ref vs])), (vm, .inl (cB, 3600, .inl wM)), (vs, .inl (cI, 150, .inl wS)), (pb, .inl (cI, 25, .inl fb)), (pn, .inl (cI, 25, .inl fn)), (q8, .inr (2, [.ref g1, .int (nI n), .ref gm, .ref gs, .int (nI ws.length), .ref gw, .int wl, .ref gb])), (g1, .inl (cB, 300, .inl T)), (gm, .inl (cB, 3624, .inl gM)), (gs, .inl (cI, 151, .inl gS)), (gw, .inl (cB, 300, .inl gW)), (gb, .inl (cI, 625, .inl gB))]) X st_L_18 tw1_62 tw1_63 (c_Tend l D cB cI q0 qt q qw pb pn n hn (xs (i + 1))) (rokL (by decide)) hP hD hS hA 0 rfl rfl [0] [1, 2, 3, 4, 5, 6, 7, 8, 9, 10, 11, 12, 13, 14, 15] rfl rfl (by decide) (by decide) (by decide) rfl hl.1 rfl (Nat.le_of_ble_eq_true rfl) d_L_law_157 (fun r157 u9 H locs hr hP hD hS => ?_)
        obtain ⟨rfl, rfl⟩ := hr
        have hP : va_P D cls [(qt, .inl (cB, 300, .inl T)), (q, .inr (1, [.int (nI ws.length), .ref qm, .ref qs])), (qm, .inl (cB, 3600, .inl fM)), (qs, .inl (cI, 150, .inl fS)), (qw, .inr (1, [.int wm, .ref vm, .ref vs])), (vm, .inl (cB, 3600, .inl wM)), (vs, .inl (cI, 150, .inl wS)), (pb, .inl (cI, 25, .inl fb)), (pn, .inl (cI, 25, .inl fn)), (q8, .inr (2, [.ref g1, .int (nI n), .ref gm, .ref gs, .int (nI ws.length), .ref gw, .int wl, .ref gb])), (g1, .inl (cB, 300, .inl T)), (gm, .inl (cB, 3624, .inl gM)), (gs, .inl (cI, 151, .inl gS)), (gw, .inl (cB, 300, .inl gW)), (gb, .inl (cI, 625, .inl gB)), (q0, .inr (0, [.ref qt, .int (nI (endN n (xs (i + 1)))), .ref q, .ref qw, .ref pb, .ref pn]))] H := hP
        have hD : va_D A [(qt, .inl (cB, 300, .inl T)), (q, .inr (1, [.int (nI ws.length), .ref qm, .ref qs])), (qm, .inl (cB, 3600, .inl fM)), (qs, .inl (cI, 150, .inl fS)), (qw, .inr (1, [.int wm, .ref vm, .ref vs])), (vm, .inl (cB, 3600, .inl wM)), (vs, .inl (cI, 150, .inl wS)), (pb, .inl (cI, 25, .inl fb)), (pn, .inl (cI, 25, .inl fn)), (q8, .inr (2, [.ref g1, .int (nI n), .ref gm, .ref gs, .int (nI ws.length), .ref gw, .int wl, .ref gb])), (g1, .inl (cB, 300, .inl T)), (gm, .inl (cB, 3624, .inl gM)), (gs, .inl (cI, 151, .inl gS)), (gw, .inl (cB, 300, .inl gW)), (gb, .inl (cI, 625, .inl gB)), (q0, .inr (0, [.ref qt, .int (nI (endN n (xs (i + 1)))), .ref q, .ref qw, .ref pb, .ref pn]))] := hD
        refine lv_aload_n hx hb d_L_law_160 rfl (lv_at hl 1 rfl) ?_
        refine lv_aload_n hx hb d_L_law_161 rfl (lv_at hl 3 rfl) ?_
        refine lv_iload_n hx hb d_L_law_162 rfl (lv_at hl 0 rfl) ?_
        refine lv_iconst (v := (nI 1)) hx hb d_L_law_163 ki_1 ?_
        refine n_iadd X d_L_law_164 ?_
        refine n_sld X hX hbl hbA hS (by omega) hL d_L_law_165 ?_
        refine cI_V (rest := [.int (endA n (xs (i + 1)))]) (wr := [(qt, .inl (cB, 300, .inl T)), (q, .inr (1, [.int (nI ws.length), .ref qm, .ref qs])), (qm, .inl (cB, 3600, .inl fM)), (qs, .inl (cI, 150, .inl fS)), (qw, .inr (1, [.int wm, .ref vm, .ref vs])), (vm, .inl (cB, 3600, .inl wM)), (vs, .inl (cI, 150, .inl wS)), (pb, .inl (cI, 25, .inl fb)), (pn, .inl (cI, 25, .inl fn)), (g1, .inl (cB, 300, .inl T)), (gm, .inl (cB, 3624, .inl gM)), (gs, .inl (cI, 151, .inl gS)), (gw, .inl (cB, 300, .inl gW)), (gb, .inl (cI, 625, .inl gB)), (q0, .inr (0, [.ref qt, .int (nI (endN n (xs (i + 1)))), .ref q, .ref qw, .ref pb, .ref pn]))]) X st_L_22 tw1_191 tw1_192 (c_Mend l D cB cI q8 g1 gm gs gw gb n (nI ws.length) wl hn (xs (i + 1))) (rokL (by decide)) hP hD hS hA 9 rfl rfl [9] [0, 1, 2, 3, 4, 5, 6, 7, 8, 10, 11, 12, 13, 14, 15] rfl rfl (by decide) (by decide) (by decide) rfl hl.1 rfl (Nat.le_of_ble_eq_true rfl) d_L_law_166 (fun r166 u9 H locs hr hP hD hS => ?_)
        obtain ⟨rfl, rfl⟩ := hr
        have hP : va_P D cls [(qt, .inl (cB, 300, .inl T)), (q, .inr (1, [.int (nI ws.length), .ref qm, .ref qs])), (qm, .inl (cB, 3600, .inl fM)), (qs, .inl (cI, 150, .inl fS)), (qw, .inr (1, [.int wm, .ref vm, .ref vs])), (vm, .inl (cB, 3600, .inl wM)), (vs, .inl (cI, 150, .inl wS)), (pb, .inl (cI, 25, .inl fb)), (pn, .inl (cI, 25, .inl fn)), (g1, .inl (cB, 300, .inl T)), (gm, .inl (cB, 3624, .inl gM)), (gs, .inl (cI, 151, .inl gS)), (gw, .inl (cB, 300, .inl gW)), (gb, .inl (cI, 625, .inl gB)), (q0, .inr (0, [.ref qt, .int (nI (endN n (xs (i + 1)))), .ref q, .ref qw, .ref pb, .ref pn])), (q8, .inr (2, [.ref g1, .int (nI (endN n (xs (i + 1)))), .ref gm, .ref gs, .int (nI ws.length), .ref gw, .int wl, .ref gb]))] H := hP
        have hD : va_D A [(qt, .inl (cB, 300, .inl T)), (q, .inr (1, [.int (nI ws.length), .ref qm, .ref qs])), (qm, .inl (cB, 3600, .inl fM)), (qs, .inl (cI, 150, .inl fS)), (qw, .inr (1, [.int wm, .ref vm, .ref vs])), (vm, .inl (cB, 3600, .inl wM)), (vs, .inl (cI, 150, .inl wS)), (pb, .inl (cI, 25, .inl fb)), (pn, .inl (cI, 25, .inl fn)), (g1, .inl (cB, 300, .inl T)), (gm, .inl (cB, 3624, .inl gM)), (gs, .inl (cI, 151, .inl gS)), (gw, .inl (cB, 300, .inl gW)), (gb, .inl (cI, 625, .inl gB)), (q0, .inr (0, [.ref qt, .int (nI (endN n (xs (i + 1)))), .ref q, .ref qw, .ref pb, .ref pn])), (q8, .inr (2, [.ref g1, .int (nI (endN n (xs (i + 1)))), .ref gm, .ref gs, .int (nI ws.length), .ref gw, .int wl, .ref gb]))] := hD
        refine lv_icmp_eq hx hb d_L_law_169 rfl (fun hq => ?_) (fun hq => ?_)
        · refine lv_iinc hx hb d_L_law_338 hl (k := 0) rfl (v := (nI (i + 6))) (n_inc _ 6) (by decide) rfl (fun ls hl => ?_)
          have hl : lv_has ls 4 [(3, .int (nI (i + 6))), (2, .ref q8), (1, .ref q0), (0, .ref b)] := hl
          refine lv_goto hx hb d_L_law_341 rfl ?_
          have hP : va_P D cls [(q0, .inr (0, [.ref qt, .int (nI (endN n (xs (i + 1)))), .ref q, .ref qw, .ref pb, .ref pn])), (qt, .inl (cB, 300, .inl T)), (q, .inr (1, [.int (nI ws.length), .ref qm, .ref qs])), (qm, .inl (cB, 3600, .inl fM)), (qs, .inl (cI, 150, .inl fS)), (qw, .inr (1, [.int wm, .ref vm, .ref vs])), (vm, .inl (cB, 3600, .inl wM)), (vs, .inl (cI, 150, .inl wS)), (pb, .inl (cI, 25, .inl fb)), (pn, .inl (cI, 25, .inl fn)), (q8, .inr (2, [.ref g1, .int (nI (endN n (xs (i + 1)))), .ref gm, .ref gs, .int (nI ws.length), .ref gw, .int wl, .ref gb])), (g1, .inl (cB, 300, .inl T)), (gm, .inl (cB, 3624, .inl gM)), (gs, .inl (cI, 151, .inl gS)), (gw, .inl (cB, 300, .inl gW)), (gb, .inl (cI, 625, .inl gB))] H := hP.sub [14, 0, 1, 2, 3, 4, 5, 6, 7, 8, 15, 9, 10, 11, 12, 13] rfl
          have hD : va_D A [(q0, .inr (0, [.ref qt, .int (nI (endN n (xs (i + 1)))), .ref q, .ref qw, .ref pb, .ref pn])), (qt, .inl (cB, 300, .inl T)), (q, .inr (1, [.int (nI ws.length), .ref qm, .ref qs])), (qm, .inl (cB, 3600, .inl fM)), (qs, .inl (cI, 150, .inl fS)), (qw, .inr (1, [.int wm, .ref vm, .ref vs])), (vm, .inl (cB, 3600, .inl wM)), (vs, .inl (cI, 150, .inl wS)), (pb, .inl (cI, 25, .inl fb)), (pn, .inl (cI, 25, .inl fn)), (q8, .inr (2, [.ref g1, .int (nI (endN n (xs (i + 1)))), .ref gm, .ref gs, .int (nI ws.length), .ref gw, .int wl, .ref gb])), (g1, .inl (cB, 300, .inl T)), (gm, .inl (cB, 3624, .inl gM)), (gs, .inl (cI, 151, .inl gS)), (gw, .inl (cB, 300, .inl gW)), (gb, .inl (cI, 625, .inl gB))] := hD.sub [14, 0, 1, 2, 3, 4, 5, 6, 7, 8, 15, 9, 10, 11, 12, 13] (by decide) rfl
          exact ih_loop _ (by omega) (i + 6) (endN n (xs (i + 1))) T ws fM fS wm wM wS pb pn fb fn gM gS wl gW gB rfl (by omega) (endN_le _ hn) (hc) (hR) (hG) _ _ _ hl hP hD hS
        · exact False.elim (hq (rfl))
      · refine lv_tableIn hx hb d_L_law_33 (tgt := 174) (by decide) (by decide) (off := 141) rfl rfl ?_
        refine lv_aload_n hx hb d_L_law_174 rfl (lv_at hl 2 rfl) ?_
        refine cI_V (rest := []) (wr := [(qw, .inr (1, [.int wm, .ref vm, .ref vs])), (vm, .inl (cB, 3600, .inl wM)), (vs, .inl (cI, 150, .inl wS)), (pb, .inl (cI, 25, .inl fb)), (pn, .inl (cI, 25, .inl fn)), (q8, .inr (2, [.ref g1, .int (nI n), .ref gm, .ref gs, .int (nI ws.length), .ref gw, .int wl, .ref gb])), (g1, .inl (cB, 300, .inl T)), (gm, .inl (cB, 3624, .inl gM)), (gs, .inl (cI, 151, .inl gS)), (gw, .inl (cB, 300, .inl gW)), (gb, .inl (cI, 625, .inl gB))]) X st_L_23 tw1_69 tw1_70 (c_Tread l D cB cI q0 qt q qw pb pn qm qs n (nI ws.length) fM fS T hn) (rokL (by decide)) hP hD hS hA 0 rfl rfl [0, 2, 3, 4, 1] [5, 6, 7, 8, 9, 10, 11, 12, 13, 14, 15] rfl rfl (by decide) (by decide) (by decide) rfl hl.1 rfl (Nat.le_of_ble_eq_true rfl) d_L_law_175 (fun r175 u9 H locs hr hP hD hS => ?_)
        obtain ⟨fM2, fS2⟩ := u9
        obtain ⟨hc2, hR2, rfl⟩ := hr
        have hP : va_P D cls [(qw, .inr (1, [.int wm, .ref vm, .ref vs])), (vm, .inl (cB, 3600, .inl wM)), (vs, .inl (cI, 150, .inl wS)), (pb, .inl (cI, 25, .inl fb)), (pn, .inl (cI, 25, .inl fn)), (q8, .inr (2, [.ref g1, .int (nI n), .ref gm, .ref gs, .int (nI ws.length), .ref gw, .int wl, .ref gb])), (g1, .inl (cB, 300, .inl T)), (gm, .inl (cB, 3624, .inl gM)), (gs, .inl (cI, 151, .inl gS)), (gw, .inl (cB, 300, .inl gW)), (gb, .inl (cI, 625, .inl gB)), (q0, .inr (0, [.ref qt, .int (nI 0), .ref q, .ref qw, .ref pb, .ref pn])), (q, .inr (1, [.int (nI ((RW T n 0).length)), .ref qm, .ref qs])), (qm, .inl (cB, 3600, .inl fM2)), (qs, .inl (cI, 150, .inl fS2)), (qt, .inl (cB, 300, .inl T))] H := hP
        have hD : va_D A [(qw, .inr (1, [.int wm, .ref vm, .ref vs])), (vm, .inl (cB, 3600, .inl wM)), (vs, .inl (cI, 150, .inl wS)), (pb, .inl (cI, 25, .inl fb)), (pn, .inl (cI, 25, .inl fn)), (q8, .inr (2, [.ref g1, .int (nI n), .ref gm, .ref gs, .int (nI ws.length), .ref gw, .int wl, .ref gb])), (g1, .inl (cB, 300, .inl T)), (gm, .inl (cB, 3624, .inl gM)), (gs, .inl (cI, 151, .inl gS)), (gw, .inl (cB, 300, .inl gW)), (gb, .inl (cI, 625, .inl gB)), (q0, .inr (0, [.ref qt, .int (nI 0), .ref q, .ref qw, .ref pb, .ref pn])), (q, .inr (1, [.int (nI ((RW T n 0).length)), .ref qm, .ref qs])), (qm, .inl (cB, 3600, .inl fM2)), (qs, .inl (cI, 150, .inl fS2)), (qt, .inl (cB, 300, .inl T))] := hD
        refine lv_aload_n hx hb d_L_law_178 rfl (lv_at hl 1 rfl) ?_
        refine cI_V (rest := [.int (nI (RW T n 0).length)]) (wr := [(qw, .inr (1, [.int wm, .ref vm, .ref vs])), (vm, .inl (cB, 3600, .inl wM)), (vs, .inl (cI, 150, .inl wS)), (pb, .inl (cI, 25, .inl fb)), (pn, .inl (cI, 25, .inl fn)), (gb, .inl (cI, 625, .inl gB)), (q0, .inr (0, [.ref qt, .int (nI 0), .ref q, .ref qw, .ref pb, .ref pn])), (q, .inr (1, [.int (nI ((RW T n 0).length)), .ref qm, .ref qs])), (qm, .inl (cB, 3600, .inl fM2)), (qs, .inl (cI, 150, .inl fS2)), (qt, .inl (cB, 300, .inl T))]) X st_L_27 tw1_195 tw1_196 (c_Mread l D cB cI q8 g1 gm gs gw gb n (nI ws.length) wl T gM gS gW hn) (rokL (by decide)) hP hD hS hA 5 rfl rfl [5, 6, 7, 8, 9] [0, 1, 2, 3, 4, 10, 11, 12, 13, 14, 15] rfl rfl (by decide) (by decide) (by decide) rfl hl.1 rfl (Nat.le_of_ble_eq_true rfl) d_L_law_179 (fun r179 u9 H locs hr hP hD hS => ?_)
        obtain ⟨gM2, gS2, wl2, gW2⟩ := u9
        obtain ⟨hc3, hR3, rfl⟩ := hr
        have hP : va_P D cls [(qw, .inr (1, [.int wm, .ref vm, .ref vs])), (vm, .inl (cB, 3600, .inl wM)), (vs, .inl (cI, 150, .inl wS)), (pb, .inl (cI, 25, .inl fb)), (pn, .inl (cI, 25, .inl fn)), (gb, .inl (cI, 625, .inl gB)), (q0, .inr (0, [.ref qt, .int (nI 0), .ref q, .ref qw, .ref pb, .ref pn])), (q, .inr (1, [.int (nI ((RW T n 0).length)), .ref qm, .ref qs])), (qm, .inl (cB, 3600, .inl fM2)), (qs, .inl (cI, 150, .inl fS2)), (qt, .inl (cB, 300, .inl T)), (q8, .inr (2, [.ref g1, .int (nI 0), .ref gm, .ref gs, .int (nI ((RW T n 0).length)), .ref gw, .int wl2, .ref gb])), (g1, .inl (cB, 300, .inl T)), (gm, .inl (cB, 3624, .inl gM2)), (gs, .inl (cI, 151, .inl gS2)), (gw, .inl (cB, 300, .inl gW2))] H := hP
        have hD : va_D A [(qw, .inr (1, [.int wm, .ref vm, .ref vs])), (vm, .inl (cB, 3600, .inl wM)), (vs, .inl (cI, 150, .inl wS)), (pb, .inl (cI, 25, .inl fb)), (pn, .inl (cI, 25, .inl fn)), (gb, .inl (cI, 625, .inl gB)), (q0, .inr (0, [.ref qt, .int (nI 0), .ref q, .ref qw, .ref pb, .ref pn])), (q, .inr (1, [.int (nI ((RW T n 0).length)), .ref qm, .ref qs])), (qm, .inl (cB, 3600, .inl fM2)), (qs, .inl (cI, 150, .inl fS2)), (qt, .inl (cB, 300, .inl T)), (q8, .inr (2, [.ref g1, .int (nI 0), .ref gm, .ref gs, .int (nI ((RW T n 0).length)), .ref gw, .int wl2, .ref gb])), (g1, .inl (cB, 300, .inl T)), (gm, .inl (cB, 3624, .inl gM2)), (gs, .inl (cI, 151, .inl gS2)), (gw, .inl (cB, 300, .inl gW2))] := hD
        refine lv_icmp_eq hx hb d_L_law_182 rfl (fun hq => ?_) (fun hq => ?_)
        · refine lv_iinc hx hb d_L_law_338 hl (k := 0) rfl (v := (nI (i + 6))) (n_inc _ 6) (by decide) rfl (fun ls hl => ?_)
          have hl : lv_has ls 4 [(3, .int (nI (i + 6))), (2, .ref q8), (1, .ref q0), (0, .ref b)] := hl
          refine lv_goto hx hb d_L_law_341 rfl ?_
          have hP : va_P D cls [(q0, .inr (0, [.ref qt, .int (nI 0), .ref q, .ref qw, .ref pb, .ref pn])), (qt, .inl (cB, 300, .inl T)), (q, .inr (1, [.int (nI ((RW T n 0).length)), .ref qm, .ref qs])), (qm, .inl (cB, 3600, .inl fM2)), (qs, .inl (cI, 150, .inl fS2)), (qw, .inr (1, [.int wm, .ref vm, .ref vs])), (vm, .inl (cB, 3600, .inl wM)), (vs, .inl (cI, 150, .inl wS)), (pb, .inl (cI, 25, .inl fb)), (pn, .inl (cI, 25, .inl fn)), (q8, .inr (2, [.ref g1, .int (nI 0), .ref gm, .ref gs, .int (nI ((RW T n 0).length)), .ref gw, .int wl2, .ref gb])), (g1, .inl (cB, 300, .inl T)), (gm, .inl (cB, 3624, .inl gM2)), (gs, .inl (cI, 151, .inl gS2)), (gw, .inl (cB, 300, .inl gW2)), (gb, .inl (cI, 625, .inl gB))] H := hP.sub [6, 10, 7, 8, 9, 0, 1, 2, 3, 4, 11, 12, 13, 14, 15, 5] rfl
          have hD : va_D A [(q0, .inr (0, [.ref qt, .int (nI 0), .ref q, .ref qw, .ref pb, .ref pn])), (qt, .inl (cB, 300, .inl T)), (q, .inr (1, [.int (nI ((RW T n 0).length)), .ref qm, .ref qs])), (qm, .inl (cB, 3600, .inl fM2)), (qs, .inl (cI, 150, .inl fS2)), (qw, .inr (1, [.int wm, .ref vm, .ref vs])), (vm, .inl (cB, 3600, .inl wM)), (vs, .inl (cI, 150, .inl wS)), (pb, .inl (cI, 25, .inl fb)), (pn, .inl (cI, 25, .inl fn)), (q8, .inr (2, [.ref g1, .int (nI 0), .ref gm, .ref gs, .int (nI ((RW T n 0).length)), .ref gw, .int wl2, .ref gb])), (g1, .inl (cB, 300, .inl T)), (gm, .inl (cB, 3624, .inl gM2)), (gs, .inl (cI, 151, .inl gS2)), (gw, .inl (cB, 300, .inl gW2)), (gb, .inl (cI, 625, .inl gB))] := hD.sub [6, 10, 7, 8, 9, 0, 1, 2, 3, 4, 11, 12, 13, 14, 15, 5] (by decide) rfl
          exact ih_loop _ (by omega) (i + 6) 0 T (RW T n 0) fM2 fS2 wm wM wS pb pn fb fn gM2 gS2 wl2 gW2 gB rfl (by omega) (Nat.zero_le _) (hc2) (hR2) (hR3) _ _ _ hl hP hD hS
        · exact False.elim (hq (rfl))
      · refine lv_tableIn hx hb d_L_law_33 (tgt := 187) (by decide) (by decide) (off := 154) rfl rfl ?_
        refine lv_aload_n hx hb d_L_law_187 rfl (lv_at hl 2 rfl) ?_
        refine lv_aload_n hx hb d_L_law_188 rfl (lv_at hl 3 rfl) ?_
        refine lv_iload_n hx hb d_L_law_189 rfl (lv_at hl 0 rfl) ?_
        refine lv_iconst (v := (nI 1)) hx hb d_L_law_190 ki_1 ?_
        refine n_iadd X d_L_law_191 ?_
        refine n_sld X hX hbl hbA hS (by omega) hL d_L_law_192 ?_
        refine lv_aload_n hx hb d_L_law_193 rfl (lv_at hl 3 rfl) ?_
        refine lv_iload_n hx hb d_L_law_194 rfl (lv_at hl 0 rfl) ?_
        refine lv_iconst (v := (nI 2)) hx hb d_L_law_195 ki_2 ?_
        refine n_iadd X d_L_law_196 ?_
        refine n_sld X hX hbl hbA hS (by omega) hL d_L_law_197 ?_
        refine cP_V (rest := []) X st_L_28 tw1_90 tw1_91 (c_Tsign l D cB cI q0 qt q qw pb pn qm qs (nI n) fM fS ws hR hc (xs (i + 1)) (xs (i + 2))) (rokL (by decide)) hP 0 rfl rfl [0, 2, 3, 4] rfl rfl hl.1 rfl (Nat.le_of_ble_eq_true rfl) d_L_law_198 (fun r1 hr1 => ?_)
        refine lv_aload_n hx hb d_L_law_201 rfl (lv_at hl 1 rfl) ?_
        refine lv_aload_n hx hb d_L_law_202 rfl (lv_at hl 3 rfl) ?_
        refine lv_iload_n hx hb d_L_law_203 rfl (lv_at hl 0 rfl) ?_
        refine lv_iconst (v := (nI 1)) hx hb d_L_law_204 ki_1 ?_
        refine n_iadd X d_L_law_205 ?_
        refine n_sld X hX hbl hbA hS (by omega) hL d_L_law_206 ?_
        refine lv_aload_n hx hb d_L_law_207 rfl (lv_at hl 3 rfl) ?_
        refine lv_iload_n hx hb d_L_law_208 rfl (lv_at hl 0 rfl) ?_
        refine lv_iconst (v := (nI 2)) hx hb d_L_law_209 ki_2 ?_
        refine n_iadd X d_L_law_210 ?_
        refine n_sld X hX hbl hbA hS (by omega) hL d_L_law_211 ?_
        refine cP_V (rest := [.int r1]) X st_L_32 tw1_214 tw1_215 (c_Msign l D cB cI q8 g1 gm gs gw gb (nI n) wl gM gS ws hG hc (xs (i + 1)) (xs (i + 2))) (rokL (by decide)) hP 10 rfl rfl [10, 12, 13] rfl rfl hl.1 rfl (Nat.le_of_ble_eq_true rfl) d_L_law_212 (fun r2 hr2 => ?_)
        refine lv_icmp_eq hx hb d_L_law_215 rfl (fun hq => ?_) (fun hq => ?_)
        · refine lv_iinc hx hb d_L_law_338 hl (k := 0) rfl (v := (nI (i + 6))) (n_inc _ 6) (by decide) rfl (fun ls hl => ?_)
          have hl : lv_has ls 4 [(3, .int (nI (i + 6))), (2, .ref q8), (1, .ref q0), (0, .ref b)] := hl
          refine lv_goto hx hb d_L_law_341 rfl ?_
          exact ih_loop _ (by omega) (i + 6) n T ws fM fS wm wM wS pb pn fb fn gM gS wl gW gB rfl (by omega) (hn) (hc) (hR) (hG) _ _ _ hl hP hD hS
        · exact False.elim (hq (hr1.trans hr2.symm))
      · refine lv_tableIn hx hb d_L_law_33 (tgt := 220) (by decide) (by decide) (off := 187) rfl rfl ?_
        refine lv_aload_n hx hb d_L_law_220 rfl (lv_at hl 2 rfl) ?_
        refine cP_V (rest := []) X st_L_33 tw1_94 tw1_95 (c_Tdifferent l D cB cI q0 qt q qw pb pn qm qs (nI n) fM fS ws hR hc) (rokL (by decide)) hP 0 rfl rfl [0, 2, 3, 4] rfl rfl hl.1 rfl (Nat.le_of_ble_eq_true rfl) d_L_law_221 (fun r1 hr1 => ?_)
        refine lv_aload_n hx hb d_L_law_224 rfl (lv_at hl 1 rfl) ?_
        refine cP_V (rest := [.int r1]) X st_L_36 tw1_230 tw1_231 (c_Mdifferent l D cB cI q8 g1 gm gs gw gb (nI n) wl gM gS ws hG hc) (rokL (by decide)) hP 10 rfl rfl [10, 12, 13] rfl rfl hl.1 rfl (Nat.le_of_ble_eq_true rfl) d_L_law_225 (fun r2 hr2 => ?_)
        refine lv_icmp_eq hx hb d_L_law_228 rfl (fun hq => ?_) (fun hq => ?_)
        · refine lv_iinc hx hb d_L_law_338 hl (k := 0) rfl (v := (nI (i + 6))) (n_inc _ 6) (by decide) rfl (fun ls hl => ?_)
          have hl : lv_has ls 4 [(3, .int (nI (i + 6))), (2, .ref q8), (1, .ref q0), (0, .ref b)] := hl
          refine lv_goto hx hb d_L_law_341 rfl ?_
          exact ih_loop _ (by omega) (i + 6) n T ws fM fS wm wM wS pb pn fb fn gM gS wl gW gB rfl (by omega) (hn) (hc) (hR) (hG) _ _ _ hl hP hD hS
        · exact False.elim (hq (hr1.trans hr2.symm))
      · refine lv_tableIn hx hb d_L_law_33 (tgt := 233) (by decide) (by decide) (off := 200) rfl rfl ?_
        refine lv_aload_n hx hb d_L_law_233 rfl (lv_at hl 2 rfl) ?_
        refine lv_aload_n hx hb d_L_law_234 rfl (lv_at hl 3 rfl) ?_
        refine lv_iload_n hx hb d_L_law_235 rfl (lv_at hl 0 rfl) ?_
        refine lv_iconst (v := (nI 1)) hx hb d_L_law_236 ki_1 ?_
        refine n_iadd X d_L_law_237 ?_
        refine n_sld X hX hbl hbA hS (by omega) hL d_L_law_238 ?_
        refine cP_V (rest := []) X st_L_37 tw1_113 tw1_114 (c_Tfirst l D cB cI q0 qt q qw pb pn qm qs (nI n) fM fS ws hR hc (xs (i + 1))) (rokL (by decide)) hP 0 rfl rfl [0, 2, 3, 4] rfl rfl hl.1 rfl (Nat.le_of_ble_eq_true rfl) d_L_law_239 (fun r1 hr1 => ?_)
        refine lv_aload_n hx hb d_L_law_242 rfl (lv_at hl 1 rfl) ?_
        refine lv_aload_n hx hb d_L_law_243 rfl (lv_at hl 3 rfl) ?_
        refine lv_iload_n hx hb d_L_law_244 rfl (lv_at hl 0 rfl) ?_
        refine lv_iconst (v := (nI 1)) hx hb d_L_law_245 ki_1 ?_
        refine n_iadd X d_L_law_246 ?_
        refine n_sld X hX hbl hbA hS (by omega) hL d_L_law_247 ?_
        refine cP_V (rest := [.int r1]) X st_L_40 tw1_222 tw1_223 (c_Mfirst l D cB cI q8 g1 gm gs gw gb (nI n) wl gM gS ws hG hc (xs (i + 1))) (rokL (by decide)) hP 10 rfl rfl [10, 12, 13] rfl rfl hl.1 rfl (Nat.le_of_ble_eq_true rfl) d_L_law_248 (fun r2 hr2 => ?_)
        refine lv_icmp_eq hx hb d_L_law_251 rfl (fun hq => ?_) (fun hq => ?_)
        · refine lv_iinc hx hb d_L_law_338 hl (k := 0) rfl (v := (nI (i + 6))) (n_inc _ 6) (by decide) rfl (fun ls hl => ?_)
          have hl : lv_has ls 4 [(3, .int (nI (i + 6))), (2, .ref q8), (1, .ref q0), (0, .ref b)] := hl
          refine lv_goto hx hb d_L_law_341 rfl ?_
          exact ih_loop _ (by omega) (i + 6) n T ws fM fS wm wM wS pb pn fb fn gM gS wl gW gB rfl (by omega) (hn) (hc) (hR) (hG) _ _ _ hl hP hD hS
        · exact False.elim (hq (firstR_one (by omega) hr1 hr2))
      · refine lv_tableIn hx hb d_L_law_33 (tgt := 256) (by decide) (by decide) (off := 223) rfl rfl ?_
        refine lv_aload_n hx hb d_L_law_256 rfl (lv_at hl 2 rfl) ?_
        refine lv_aload_n hx hb d_L_law_257 rfl (lv_at hl 3 rfl) ?_
        refine lv_iload_n hx hb d_L_law_258 rfl (lv_at hl 0 rfl) ?_
        refine lv_iconst (v := (nI 1)) hx hb d_L_law_259 ki_1 ?_
        refine n_iadd X d_L_law_260 ?_
        refine n_sld X hX hbl hbA hS (by omega) hL d_L_law_261 ?_
        refine lv_aload_n hx hb d_L_law_262 rfl (lv_at hl 3 rfl) ?_
        refine lv_iload_n hx hb d_L_law_263 rfl (lv_at hl 0 rfl) ?_
        refine lv_iconst (v := (nI 2)) hx hb d_L_law_264 ki_2 ?_
        refine n_iadd X d_L_law_265 ?_
        refine n_sld X hX hbl hbA hS (by omega) hL d_L_law_266 ?_
        refine cP_V (rest := []) X st_L_41 tw1_118 tw1_119 (c_Tcompare l D cB cI q0 qt q qw pb pn qm qs (nI n) fM fS ws hR hc (xs (i + 1)) (xs (i + 2))) (rokL (by decide)) hP 0 rfl rfl [0, 2, 3, 4] rfl rfl hl.1 rfl (Nat.le_of_ble_eq_true rfl) d_L_law_267 (fun r1 hr1 => ?_)
        refine lv_aload_n hx hb d_L_law_270 rfl (lv_at hl 1 rfl) ?_
        refine lv_aload_n hx hb d_L_law_271 rfl (lv_at hl 3 rfl) ?_
        refine lv_iload_n hx hb d_L_law_272 rfl (lv_at hl 0 rfl) ?_
        refine lv_iconst (v := (nI 1)) hx hb d_L_law_273 ki_1 ?_
        refine n_iadd X d_L_law_274 ?_
        refine n_sld X hX hbl hbA hS (by omega) hL d_L_law_275 ?_
        refine lv_aload_n hx hb d_L_law_276 rfl (lv_at hl 3 rfl) ?_
        refine lv_iload_n hx hb d_L_law_277 rfl (lv_at hl 0 rfl) ?_
        refine lv_iconst (v := (nI 2)) hx hb d_L_law_278 ki_2 ?_
        refine n_iadd X d_L_law_279 ?_
        refine n_sld X hX hbl hbA hS (by omega) hL d_L_law_280 ?_
        refine cP_V (rest := [.int r1]) X st_L_44 tw1_235 tw1_236 (c_Mcompare l D cB cI q8 g1 gm gs gw gb (nI n) wl gM gS ws hG hc (xs (i + 1)) (xs (i + 2))) (rokL (by decide)) hP 10 rfl rfl [10, 12, 13] rfl rfl hl.1 rfl (Nat.le_of_ble_eq_true rfl) d_L_law_281 (fun r2 hr2 => ?_)
        refine lv_icmp_eq hx hb d_L_law_284 rfl (fun hq => ?_) (fun hq => ?_)
        · refine lv_iinc hx hb d_L_law_338 hl (k := 0) rfl (v := (nI (i + 6))) (n_inc _ 6) (by decide) rfl (fun ls hl => ?_)
          have hl : lv_has ls 4 [(3, .int (nI (i + 6))), (2, .ref q8), (1, .ref q0), (0, .ref b)] := hl
          refine lv_goto hx hb d_L_law_341 rfl ?_
          exact ih_loop _ (by omega) (i + 6) n T ws fM fS wm wM wS pb pn fb fn gM gS wl gW gB rfl (by omega) (hn) (hc) (hR) (hG) _ _ _ hl hP hD hS
        · exact False.elim (hq (hr1.trans hr2.symm))
      · refine lv_tableIn hx hb d_L_law_33 (tgt := 289) (by decide) (by decide) (off := 256) rfl rfl ?_
        refine lv_aload_n hx hb d_L_law_289 rfl (lv_at hl 2 rfl) ?_
        refine lv_aload_n hx hb d_L_law_290 rfl (lv_at hl 3 rfl) ?_
        refine lv_iload_n hx hb d_L_law_291 rfl (lv_at hl 0 rfl) ?_
        refine lv_iconst (v := (nI 1)) hx hb d_L_law_292 ki_1 ?_
        refine n_iadd X d_L_law_293 ?_
        refine n_sld X hX hbl hbA hS (by omega) hL d_L_law_294 ?_
        refine cI_V (rest := []) (wr := [(q8, .inr (2, [.ref g1, .int (nI n), .ref gm, .ref gs, .int (nI ws.length), .ref gw, .int wl, .ref gb])), (g1, .inl (cB, 300, .inl T)), (gm, .inl (cB, 3624, .inl gM)), (gs, .inl (cI, 151, .inl gS)), (gw, .inl (cB, 300, .inl gW)), (gb, .inl (cI, 625, .inl gB))]) X st_L_45 tw1_126 tw1_127 (c_Tapart l D cB cI q0 qt q qw pb pn qm qs vm vs n wm fM fS wM wS T fb fn ws hR hc hn (xs (i + 1))) (rokL (by decide)) hP hD hS hA 0 rfl rfl [0, 1, 2, 3, 4, 5, 6, 7, 8, 9] [10, 11, 12, 13, 14, 15] rfl rfl (by decide) (by decide) (by decide) rfl hl.1 rfl (Nat.le_of_ble_eq_true rfl) d_L_law_295 (fun r1 u9 H locs hr hP hD hS => ?_)
        obtain ⟨n2, wm2, wM2, wS2, pb2, pn2, fb2, fn2⟩ := u9
        obtain ⟨rfl, hn2⟩ : r1 = apartA ws T n (xs (i + 1)) ∧ n2 = apartN ws n (xs (i + 1)) := hr
        subst hn2
        have hP : va_P D cls [(q8, .inr (2, [.ref g1, .int (nI n), .ref gm, .ref gs, .int (nI ws.length), .ref gw, .int wl, .ref gb])), (g1, .inl (cB, 300, .inl T)), (gm, .inl (cB, 3624, .inl gM)), (gs, .inl (cI, 151, .inl gS)), (gw, .inl (cB, 300, .inl gW)), (gb, .inl (cI, 625, .inl gB)), (q0, .inr (0, [.ref qt, .int (nI (apartN ws n (xs (i + 1)))), .ref q, .ref qw, .ref pb2, .ref pn2])), (qt, .inl (cB, 300, .inl T)), (q, .inr (1, [.int (nI ws.length), .ref qm, .ref qs])), (qm, .inl (cB, 3600, .inl fM)), (qs, .inl (cI, 150, .inl fS)), (qw, .inr (1, [.int wm2, .ref vm, .ref vs])), (vm, .inl (cB, 3600, .inl wM2)), (vs, .inl (cI, 150, .inl wS2)), (pb2, .inl (cI, 25, .inl fb2)), (pn2, .inl (cI, 25, .inl fn2))] H := hP
        have hD : va_D A [(q8, .inr (2, [.ref g1, .int (nI n), .ref gm, .ref gs, .int (nI ws.length), .ref gw, .int wl, .ref gb])), (g1, .inl (cB, 300, .inl T)), (gm, .inl (cB, 3624, .inl gM)), (gs, .inl (cI, 151, .inl gS)), (gw, .inl (cB, 300, .inl gW)), (gb, .inl (cI, 625, .inl gB)), (q0, .inr (0, [.ref qt, .int (nI (apartN ws n (xs (i + 1)))), .ref q, .ref qw, .ref pb2, .ref pn2])), (qt, .inl (cB, 300, .inl T)), (q, .inr (1, [.int (nI ws.length), .ref qm, .ref qs])), (qm, .inl (cB, 3600, .inl fM)), (qs, .inl (cI, 150, .inl fS)), (qw, .inr (1, [.int wm2, .ref vm, .ref vs])), (vm, .inl (cB, 3600, .inl wM2)), (vs, .inl (cI, 150, .inl wS2)), (pb2, .inl (cI, 25, .inl fb2)), (pn2, .inl (cI, 25, .inl fn2))] := hD
        refine lv_aload_n hx hb d_L_law_298 rfl (lv_at hl 1 rfl) ?_
        refine lv_aload_n hx hb d_L_law_299 rfl (lv_at hl 3 rfl) ?_
        refine lv_iload_n hx hb d_L_law_300 rfl (lv_at hl 0 rfl) ?_
        refine lv_iconst (v := (nI 1)) hx hb d_L_law_301 ki_1 ?_
        refine n_iadd X d_L_law_302 ?_
        refine n_sld X hX hbl hbA hS (by omega) hL d_L_law_303 ?_
        refine cI_V (rest := [.int (apartA ws T n (xs (i + 1)))]) (wr := [(q0, .inr (0, [.ref qt, .int (nI (apartN ws n (xs (i + 1)))), .ref q, .ref qw, .ref pb2, .ref pn2])), (qt, .inl (cB, 300, .inl T)), (q, .inr (1, [.int (nI ws.length), .ref qm, .ref qs])), (qm, .inl (cB, 3600, .inl fM)), (qs, .inl (cI, 150, .inl fS)), (qw, .inr (1, [.int wm2, .ref vm, .ref vs])), (vm, .inl (cB, 3600, .inl wM2)), (vs, .inl (cI, 150, .inl wS2)), (pb2, .inl (cI, 25, .inl fb2)), (pn2, .inl (cI, 25, .inl fn2))]) X st_L_48 tw1_239 tw2_0 (c_Mapart l D cB cI q8 g1 gm gs gw gb n wl gM gS gW T gB ws hG hc hn (xs (i + 1))) (rokL (by decide)) hP hD hS hA 0 rfl rfl [0, 1, 2, 3, 4, 5] [6, 7, 8, 9, 10, 11, 12, 13, 14, 15] rfl rfl (by decide) (by decide) (by decide) rfl hl.1 rfl (Nat.le_of_ble_eq_true rfl) d_L_law_304 (fun r2 u9 H locs hr hP hD hS => ?_)
        obtain ⟨n2, gM2, gS2, wl2, gW2, gB2⟩ := u9
        obtain ⟨rfl, hn2, hG2⟩ : r2 = apartA ws T n (xs (i + 1)) ∧ n2 = apartN ws n (xs (i + 1)) ∧ Rep ws gS2 gM2 := hr
        subst hn2
        have hP : va_P D cls [(q0, .inr (0, [.ref qt, .int (nI (apartN ws n (xs (i + 1)))), .ref q, .ref qw, .ref pb2, .ref pn2])), (qt, .inl (cB, 300, .inl T)), (q, .inr (1, [.int (nI ws.length), .ref qm, .ref qs])), (qm, .inl (cB, 3600, .inl fM)), (qs, .inl (cI, 150, .inl fS)), (qw, .inr (1, [.int wm2, .ref vm, .ref vs])), (vm, .inl (cB, 3600, .inl wM2)), (vs, .inl (cI, 150, .inl wS2)), (pb2, .inl (cI, 25, .inl fb2)), (pn2, .inl (cI, 25, .inl fn2)), (q8, .inr (2, [.ref g1, .int (nI (apartN ws n (xs (i + 1)))), .ref gm, .ref gs, .int (nI ws.length), .ref gw, .int wl2, .ref gb])), (g1, .inl (cB, 300, .inl T)), (gm, .inl (cB, 3624, .inl gM2)), (gs, .inl (cI, 151, .inl gS2)), (gw, .inl (cB, 300, .inl gW2)), (gb, .inl (cI, 625, .inl gB2))] H := hP
        have hD : va_D A [(q0, .inr (0, [.ref qt, .int (nI (apartN ws n (xs (i + 1)))), .ref q, .ref qw, .ref pb2, .ref pn2])), (qt, .inl (cB, 300, .inl T)), (q, .inr (1, [.int (nI ws.length), .ref qm, .ref qs])), (qm, .inl (cB, 3600, .inl fM)), (qs, .inl (cI, 150, .inl fS)), (qw, .inr (1, [.int wm2, .ref vm, .ref vs])), (vm, .inl (cB, 3600, .inl wM2)), (vs, .inl (cI, 150, .inl wS2)), (pb2, .inl (cI, 25, .inl fb2)), (pn2, .inl (cI, 25, .inl fn2)), (q8, .inr (2, [.ref g1, .int (nI (apartN ws n (xs (i + 1)))), .ref gm, .ref gs, .int (nI ws.length), .ref gw, .int wl2, .ref gb])), (g1, .inl (cB, 300, .inl T)), (gm, .inl (cB, 3624, .inl gM2)), (gs, .inl (cI, 151, .inl gS2)), (gw, .inl (cB, 300, .inl gW2)), (gb, .inl (cI, 625, .inl gB2))] := hD
        refine lv_icmp_eq hx hb d_L_law_307 rfl (fun hq => ?_) (fun hq => ?_)
        · refine lv_iinc hx hb d_L_law_338 hl (k := 0) rfl (v := (nI (i + 6))) (n_inc _ 6) (by decide) rfl (fun ls hl => ?_)
          have hl : lv_has ls 4 [(3, .int (nI (i + 6))), (2, .ref q8), (1, .ref q0), (0, .ref b)] := hl
          refine lv_goto hx hb d_L_law_341 rfl ?_
          exact ih_loop _ (by omega) (i + 6) (apartN ws n (xs (i + 1))) T ws fM fS wm2 wM2 wS2 pb2 pn2 fb2 fn2 gM2 gS2 wl2 gW2 gB2 rfl (by omega) (apartN_le _ hn) (hc) (hR) (hG2) _ _ _ hl hP hD hS
        · exact False.elim (hq (rfl))
      · refine lv_tableIn hx hb d_L_law_33 (tgt := 312) (by decide) (by decide) (off := 279) rfl rfl ?_
        refine lv_aload_n hx hb d_L_law_312 rfl (lv_at hl 2 rfl) ?_
        refine cI_V (rest := []) (wr := [(q8, .inr (2, [.ref g1, .int (nI n), .ref gm, .ref gs, .int (nI ws.length), .ref gw, .int wl, .ref gb])), (g1, .inl (cB, 300, .inl T)), (gm, .inl (cB, 3624, .inl gM)), (gs, .inl (cI, 151, .inl gS)), (gw, .inl (cB, 300, .inl gW)), (gb, .inl (cI, 625, .inl gB))]) X st_L_49 tw1_140 tw1_141 (c_Tnearest l D cB cI q0 qt q qw pb pn qm qs vm vs n wm fM fS wM wS T fb fn ws hR hc hn) (rokL (by decide)) hP hD hS hA 0 rfl rfl [0, 1, 2, 3, 4, 5, 6, 7, 8, 9] [10, 11, 12, 13, 14, 15] rfl rfl (by decide) (by decide) (by decide) rfl hl.1 rfl (Nat.le_of_ble_eq_true rfl) d_L_law_313 (fun r1 u9 H locs hr1 hP hD hS => ?_)
        obtain ⟨wm2, wM2, wS2, pb2, pn2, fb2, fn2⟩ := u9
        have hP : va_P D cls [(q8, .inr (2, [.ref g1, .int (nI n), .ref gm, .ref gs, .int (nI ws.length), .ref gw, .int wl, .ref gb])), (g1, .inl (cB, 300, .inl T)), (gm, .inl (cB, 3624, .inl gM)), (gs, .inl (cI, 151, .inl gS)), (gw, .inl (cB, 300, .inl gW)), (gb, .inl (cI, 625, .inl gB)), (q0, .inr (0, [.ref qt, .int (nI 0), .ref q, .ref qw, .ref pb2, .ref pn2])), (qt, .inl (cB, 300, .inl T)), (q, .inr (1, [.int (nI ws.length), .ref qm, .ref qs])), (qm, .inl (cB, 3600, .inl fM)), (qs, .inl (cI, 150, .inl fS)), (qw, .inr (1, [.int wm2, .ref vm, .ref vs])), (vm, .inl (cB, 3600, .inl wM2)), (vs, .inl (cI, 150, .inl wS2)), (pb2, .inl (cI, 25, .inl fb2)), (pn2, .inl (cI, 25, .inl fn2))] H := hP
        have hD : va_D A [(q8, .inr (2, [.ref g1, .int (nI n), .ref gm, .ref gs, .int (nI ws.length), .ref gw, .int wl, .ref gb])), (g1, .inl (cB, 300, .inl T)), (gm, .inl (cB, 3624, .inl gM)), (gs, .inl (cI, 151, .inl gS)), (gw, .inl (cB, 300, .inl gW)), (gb, .inl (cI, 625, .inl gB)), (q0, .inr (0, [.ref qt, .int (nI 0), .ref q, .ref qw, .ref pb2, .ref pn2])), (qt, .inl (cB, 300, .inl T)), (q, .inr (1, [.int (nI ws.length), .ref qm, .ref qs])), (qm, .inl (cB, 3600, .inl fM)), (qs, .inl (cI, 150, .inl fS)), (qw, .inr (1, [.int wm2, .ref vm, .ref vs])), (vm, .inl (cB, 3600, .inl wM2)), (vs, .inl (cI, 150, .inl wS2)), (pb2, .inl (cI, 25, .inl fb2)), (pn2, .inl (cI, 25, .inl fn2))] := hD
        refine lv_aload_n hx hb d_L_law_316 rfl (lv_at hl 1 rfl) ?_
        refine cI_V (rest := [.int r1]) (wr := [(q0, .inr (0, [.ref qt, .int (nI 0), .ref q, .ref qw, .ref pb2, .ref pn2])), (qt, .inl (cB, 300, .inl T)), (q, .inr (1, [.int (nI ws.length), .ref qm, .ref qs])), (qm, .inl (cB, 3600, .inl fM)), (qs, .inl (cI, 150, .inl fS)), (qw, .inr (1, [.int wm2, .ref vm, .ref vs])), (vm, .inl (cB, 3600, .inl wM2)), (vs, .inl (cI, 150, .inl wS2)), (pb2, .inl (cI, 25, .inl fb2)), (pn2, .inl (cI, 25, .inl fn2))]) X st_L_52 tw2_11 tw2_12 (c_Mnearest l D cB cI q8 g1 gm gs gw gb n wl gM gS gW T gB ws hG hc hn) (rokL (by decide)) hP hD hS hA 0 rfl rfl [0, 1, 2, 3, 4, 5] [6, 7, 8, 9, 10, 11, 12, 13, 14, 15] rfl rfl (by decide) (by decide) (by decide) rfl hl.1 rfl (Nat.le_of_ble_eq_true rfl) d_L_law_317 (fun r2 u9 H locs hr2 hP hD hS => ?_)
        obtain ⟨gM2, gS2, wl2, gW2, gB2⟩ := u9
        have hP : va_P D cls [(q0, .inr (0, [.ref qt, .int (nI 0), .ref q, .ref qw, .ref pb2, .ref pn2])), (qt, .inl (cB, 300, .inl T)), (q, .inr (1, [.int (nI ws.length), .ref qm, .ref qs])), (qm, .inl (cB, 3600, .inl fM)), (qs, .inl (cI, 150, .inl fS)), (qw, .inr (1, [.int wm2, .ref vm, .ref vs])), (vm, .inl (cB, 3600, .inl wM2)), (vs, .inl (cI, 150, .inl wS2)), (pb2, .inl (cI, 25, .inl fb2)), (pn2, .inl (cI, 25, .inl fn2)), (q8, .inr (2, [.ref g1, .int (nI 0), .ref gm, .ref gs, .int (nI ws.length), .ref gw, .int wl2, .ref gb])), (g1, .inl (cB, 300, .inl T)), (gm, .inl (cB, 3624, .inl gM2)), (gs, .inl (cI, 151, .inl gS2)), (gw, .inl (cB, 300, .inl gW2)), (gb, .inl (cI, 625, .inl gB2))] H := hP
        have hD : va_D A [(q0, .inr (0, [.ref qt, .int (nI 0), .ref q, .ref qw, .ref pb2, .ref pn2])), (qt, .inl (cB, 300, .inl T)), (q, .inr (1, [.int (nI ws.length), .ref qm, .ref qs])), (qm, .inl (cB, 3600, .inl fM)), (qs, .inl (cI, 150, .inl fS)), (qw, .inr (1, [.int wm2, .ref vm, .ref vs])), (vm, .inl (cB, 3600, .inl wM2)), (vs, .inl (cI, 150, .inl wS2)), (pb2, .inl (cI, 25, .inl fb2)), (pn2, .inl (cI, 25, .inl fn2)), (q8, .inr (2, [.ref g1, .int (nI 0), .ref gm, .ref gs, .int (nI ws.length), .ref gw, .int wl2, .ref gb])), (g1, .inl (cB, 300, .inl T)), (gm, .inl (cB, 3624, .inl gM2)), (gs, .inl (cI, 151, .inl gS2)), (gw, .inl (cB, 300, .inl gW2)), (gb, .inl (cI, 625, .inl gB2))] := hD
        refine lv_icmp_eq hx hb d_L_law_320 rfl (fun hq => ?_) (fun hq => ?_)
        · refine lv_iinc hx hb d_L_law_338 hl (k := 0) rfl (v := (nI (i + 6))) (n_inc _ 6) (by decide) rfl (fun ls hl => ?_)
          have hl : lv_has ls 4 [(3, .int (nI (i + 6))), (2, .ref q8), (1, .ref q0), (0, .ref b)] := hl
          refine lv_goto hx hb d_L_law_341 rfl ?_
          exact ih_loop _ (by omega) (i + 6) 0 T ws fM fS wm2 wM2 wS2 pb2 pn2 fb2 fn2 gM2 gS2 wl2 gW2 gB2 rfl (by omega) (Nat.zero_le _) (hc) (hR) (hr2.2) _ _ _ hl hP hD hS
        · exact False.elim (hq (hr1.trans hr2.1.symm))
      · refine lv_tableIn hx hb d_L_law_33 (tgt := 325) (by decide) (by decide) (off := 292) rfl rfl ?_
        refine lv_aload_n hx hb d_L_law_325 rfl (lv_at hl 2 rfl) ?_
        refine cI_V (rest := []) (wr := [(qw, .inr (1, [.int wm, .ref vm, .ref vs])), (vm, .inl (cB, 3600, .inl wM)), (vs, .inl (cI, 150, .inl wS)), (pb, .inl (cI, 25, .inl fb)), (pn, .inl (cI, 25, .inl fn)), (q8, .inr (2, [.ref g1, .int (nI n), .ref gm, .ref gs, .int (nI ws.length), .ref gw, .int wl, .ref gb])), (g1, .inl (cB, 300, .inl T)), (gm, .inl (cB, 3624, .inl gM)), (gs, .inl (cI, 151, .inl gS)), (gw, .inl (cB, 300, .inl gW)), (gb, .inl (cI, 625, .inl gB))]) X st_L_53 tw1_144 tw1_145 (c_Tplain l D cB cI q0 qt q qw pb pn qm qs n fM fS T ws hR hc hn) (rokL (by decide)) hP hD hS hA 0 rfl rfl [0, 2, 3, 4, 1] [5, 6, 7, 8, 9, 10, 11, 12, 13, 14, 15] rfl rfl (by decide) (by decide) (by decide) rfl hl.1 rfl (Nat.le_of_ble_eq_true rfl) d_L_law_326 (fun r1 u9 H locs hr1 hP hD hS => ?_)
        obtain ⟨fM2, fS2⟩ := u9
        have hP : va_P D cls [(qw, .inr (1, [.int wm, .ref vm, .ref vs])), (vm, .inl (cB, 3600, .inl wM)), (vs, .inl (cI, 150, .inl wS)), (pb, .inl (cI, 25, .inl fb)), (pn, .inl (cI, 25, .inl fn)), (q8, .inr (2, [.ref g1, .int (nI n), .ref gm, .ref gs, .int (nI ws.length), .ref gw, .int wl, .ref gb])), (g1, .inl (cB, 300, .inl T)), (gm, .inl (cB, 3624, .inl gM)), (gs, .inl (cI, 151, .inl gS)), (gw, .inl (cB, 300, .inl gW)), (gb, .inl (cI, 625, .inl gB)), (q0, .inr (0, [.ref qt, .int (nI 0), .ref q, .ref qw, .ref pb, .ref pn])), (q, .inr (1, [.int (nI ((plainS ws T n).length)), .ref qm, .ref qs])), (qm, .inl (cB, 3600, .inl fM2)), (qs, .inl (cI, 150, .inl fS2)), (qt, .inl (cB, 300, .inl T))] H := hP
        have hD : va_D A [(qw, .inr (1, [.int wm, .ref vm, .ref vs])), (vm, .inl (cB, 3600, .inl wM)), (vs, .inl (cI, 150, .inl wS)), (pb, .inl (cI, 25, .inl fb)), (pn, .inl (cI, 25, .inl fn)), (q8, .inr (2, [.ref g1, .int (nI n), .ref gm, .ref gs, .int (nI ws.length), .ref gw, .int wl, .ref gb])), (g1, .inl (cB, 300, .inl T)), (gm, .inl (cB, 3624, .inl gM)), (gs, .inl (cI, 151, .inl gS)), (gw, .inl (cB, 300, .inl gW)), (gb, .inl (cI, 625, .inl gB)), (q0, .inr (0, [.ref qt, .int (nI 0), .ref q, .ref qw, .ref pb, .ref pn])), (q, .inr (1, [.int (nI ((plainS ws T n).length)), .ref qm, .ref qs])), (qm, .inl (cB, 3600, .inl fM2)), (qs, .inl (cI, 150, .inl fS2)), (qt, .inl (cB, 300, .inl T))] := hD
        refine lv_aload_n hx hb d_L_law_329 rfl (lv_at hl 1 rfl) ?_
        refine cI_V (rest := [.int r1]) (wr := [(qw, .inr (1, [.int wm, .ref vm, .ref vs])), (vm, .inl (cB, 3600, .inl wM)), (vs, .inl (cI, 150, .inl wS)), (pb, .inl (cI, 25, .inl fb)), (pn, .inl (cI, 25, .inl fn)), (gb, .inl (cI, 625, .inl gB)), (q0, .inr (0, [.ref qt, .int (nI 0), .ref q, .ref qw, .ref pb, .ref pn])), (q, .inr (1, [.int (nI ((plainS ws T n).length)), .ref qm, .ref qs])), (qm, .inl (cB, 3600, .inl fM2)), (qs, .inl (cI, 150, .inl fS2)), (qt, .inl (cB, 300, .inl T))]) X st_L_56 tw2_15 tw2_16 (c_Mplain l D cB cI q8 g1 gm gs gw gb n wl gM gS gW T ws hG hc hn) (rokL (by decide)) hP hD hS hA 5 rfl rfl [5, 6, 7, 8, 9] [0, 1, 2, 3, 4, 10, 11, 12, 13, 14, 15] rfl rfl (by decide) (by decide) (by decide) rfl hl.1 rfl (Nat.le_of_ble_eq_true rfl) d_L_law_330 (fun r2 u9 H locs hr2 hP hD hS => ?_)
        obtain ⟨gM2, gS2, wl2, gW2⟩ := u9
        have hP : va_P D cls [(qw, .inr (1, [.int wm, .ref vm, .ref vs])), (vm, .inl (cB, 3600, .inl wM)), (vs, .inl (cI, 150, .inl wS)), (pb, .inl (cI, 25, .inl fb)), (pn, .inl (cI, 25, .inl fn)), (gb, .inl (cI, 625, .inl gB)), (q0, .inr (0, [.ref qt, .int (nI 0), .ref q, .ref qw, .ref pb, .ref pn])), (q, .inr (1, [.int (nI ((plainS ws T n).length)), .ref qm, .ref qs])), (qm, .inl (cB, 3600, .inl fM2)), (qs, .inl (cI, 150, .inl fS2)), (qt, .inl (cB, 300, .inl T)), (q8, .inr (2, [.ref g1, .int (nI 0), .ref gm, .ref gs, .int (nI ((plainS ws T n).length)), .ref gw, .int wl2, .ref gb])), (g1, .inl (cB, 300, .inl T)), (gm, .inl (cB, 3624, .inl gM2)), (gs, .inl (cI, 151, .inl gS2)), (gw, .inl (cB, 300, .inl gW2))] H := hP
        have hD : va_D A [(qw, .inr (1, [.int wm, .ref vm, .ref vs])), (vm, .inl (cB, 3600, .inl wM)), (vs, .inl (cI, 150, .inl wS)), (pb, .inl (cI, 25, .inl fb)), (pn, .inl (cI, 25, .inl fn)), (gb, .inl (cI, 625, .inl gB)), (q0, .inr (0, [.ref qt, .int (nI 0), .ref q, .ref qw, .ref pb, .ref pn])), (q, .inr (1, [.int (nI ((plainS ws T n).length)), .ref qm, .ref qs])), (qm, .inl (cB, 3600, .inl fM2)), (qs, .inl (cI, 150, .inl fS2)), (qt, .inl (cB, 300, .inl T)), (q8, .inr (2, [.ref g1, .int (nI 0), .ref gm, .ref gs, .int (nI ((plainS ws T n).length)), .ref gw, .int wl2, .ref gb])), (g1, .inl (cB, 300, .inl T)), (gm, .inl (cB, 3624, .inl gM2)), (gs, .inl (cI, 151, .inl gS2)), (gw, .inl (cB, 300, .inl gW2))] := hD
        refine lv_icmp_eq hx hb d_L_law_333 rfl (fun hq => ?_) (fun hq => ?_)
        · refine lv_iinc hx hb d_L_law_338 hl (k := 0) rfl (v := (nI (i + 6))) (n_inc _ 6) (by decide) rfl (fun ls hl => ?_)
          have hl : lv_has ls 4 [(3, .int (nI (i + 6))), (2, .ref q8), (1, .ref q0), (0, .ref b)] := hl
          refine lv_goto hx hb d_L_law_341 rfl ?_
          have hP : va_P D cls [(q0, .inr (0, [.ref qt, .int (nI 0), .ref q, .ref qw, .ref pb, .ref pn])), (qt, .inl (cB, 300, .inl T)), (q, .inr (1, [.int (nI ((plainS ws T n).length)), .ref qm, .ref qs])), (qm, .inl (cB, 3600, .inl fM2)), (qs, .inl (cI, 150, .inl fS2)), (qw, .inr (1, [.int wm, .ref vm, .ref vs])), (vm, .inl (cB, 3600, .inl wM)), (vs, .inl (cI, 150, .inl wS)), (pb, .inl (cI, 25, .inl fb)), (pn, .inl (cI, 25, .inl fn)), (q8, .inr (2, [.ref g1, .int (nI 0), .ref gm, .ref gs, .int (nI ((plainS ws T n).length)), .ref gw, .int wl2, .ref gb])), (g1, .inl (cB, 300, .inl T)), (gm, .inl (cB, 3624, .inl gM2)), (gs, .inl (cI, 151, .inl gS2)), (gw, .inl (cB, 300, .inl gW2)), (gb, .inl (cI, 625, .inl gB))] H := hP.sub [6, 10, 7, 8, 9, 0, 1, 2, 3, 4, 11, 12, 13, 14, 15, 5] rfl
          have hD : va_D A [(q0, .inr (0, [.ref qt, .int (nI 0), .ref q, .ref qw, .ref pb, .ref pn])), (qt, .inl (cB, 300, .inl T)), (q, .inr (1, [.int (nI ((plainS ws T n).length)), .ref qm, .ref qs])), (qm, .inl (cB, 3600, .inl fM2)), (qs, .inl (cI, 150, .inl fS2)), (qw, .inr (1, [.int wm, .ref vm, .ref vs])), (vm, .inl (cB, 3600, .inl wM)), (vs, .inl (cI, 150, .inl wS)), (pb, .inl (cI, 25, .inl fb)), (pn, .inl (cI, 25, .inl fn)), (q8, .inr (2, [.ref g1, .int (nI 0), .ref gm, .ref gs, .int (nI ((plainS ws T n).length)), .ref gw, .int wl2, .ref gb])), (g1, .inl (cB, 300, .inl T)), (gm, .inl (cB, 3624, .inl gM2)), (gs, .inl (cI, 151, .inl gS2)), (gw, .inl (cB, 300, .inl gW2)), (gb, .inl (cI, 625, .inl gB))] := hD.sub [6, 10, 7, 8, 9, 0, 1, 2, 3, 4, 11, 12, 13, 14, 15, 5] (by decide) rfl
          exact ih_loop _ (by omega) (i + 6) 0 T (plainS ws T n) fM2 fS2 wm wM wS pb pn fb fn gM2 gS2 wl2 gW2 gB rfl (by omega) (Nat.zero_le _) (plainS_le hc) (hr1.2) (hr2.2) _ _ _ hl hP hD hS
        · exact False.elim (hq (hr1.1.trans hr2.1.symm))
      · have ej9 : (nI j).toInt = (j : Int) := nI_toInt (by omega)
        refine lv_tableOut hx hb d_L_law_33 (tgt := 338) (Or.inr (by rw [ej9]; omega)) rfl ?_
        refine lv_iinc hx hb d_L_law_338 hl (k := 0) rfl (v := (nI (i + 6))) (n_inc _ 6) (by decide) rfl (fun ls hl => ?_)
        have hl : lv_has ls 4 [(3, .int (nI (i + 6))), (2, .ref q8), (1, .ref q0), (0, .ref b)] := hl
        refine lv_goto hx hb d_L_law_341 rfl ?_
        exact ih_loop _ (by omega) (i + 6) n T ws fM fS wm wM wS pb pn fb fn gM gS wl gW gB rfl (by omega) (hn) (hc) (hR) (hG) _ _ _ hl hP hD hS
  exact loop _ 0 0 (fun _ => 0) ([]) (fun _ => 0) (fun _ => 0) 0 (fun _ => 0) (fun _ => 0) qb qn (fun _ => 0) (fun _ => 0) (fun _ => 0) (fun _ => 0) 0 (fun _ => 0) (fun _ => 0) rfl (Nat.zero_le _) (Nat.zero_le _) (Nat.zero_le _) (Rep_nil _ _) (Rep_nil _ _) _ _ _ hl hP hD hS
end
section
-- the skeleton (a starting text), its hole filled (gen/law.py)
/-! THE CLAIM OUT OF ONE WALK OF THE LAW'S BODY. Your part is whole_start (and what it stands on); all else here is the same for every law, but numbers. -/
def R_law : String := "WordTermsLaw"
def lw_P (b : Addr) (xs : List Int32) (args : Array Value) (s : State) : Prop := args = #[.ref b] ∧ s.IntsAt b xs ∧ xs.length ≤ 3072 ∧ (Jvm.Cond.and given_1 narrow_1).before args s = true
def lw_Q (_ : Array Value) (s : State) (o : Outcome) (t : State) : Prop := o = .returned (some (.int 1)) ∧ Framed s o t [] 16 12870
def lw_Z (below : List Frame) (a : Array Value) (s : State) : State → Prop := fun t => ∃ o, t.status = .running ∧ Ended t below o ∧ lw_Q a s o t
/-- the law's own end, with 1 on the stack, nothing written that was there before, its room as the claim has it -/
theorem lw_ret {p : Program} {l : Launch} {e : Env} {s : State} {m : MethodId} {below : List Frame} {meth : Method} {c : Code} {b : Nat} (hx : p.tables.exec = Jvm.exec) (hb : c.code = code) (hr : meth.sig.returnType = ret) (hlocks : meth.locks = false) {pc : Nat} {H : Heap} {ls : Array Slot} (hdg : decode code pc = .ok (.ireturn, 1)) : W p l e room_1 s m #[Value.ref b] below meth c H [] 16 12870 (lw_Z below #[Value.ref b] s) (F0 m pc ls [.int 1]) := by
  intro T hT X
  obtain ⟨fs, hret, hrun, hended, hW, hframe⟩ := X.leave (v := some (.int 1)) (hlocks := hlocks) (fun h => by rw [hr] at h; cases h)
  have hmeth' : T.vm.method? m = some meth := X.method'
  refine ⟨T.setFrames fs, ?_, .returned (some (.int 1)), hrun, hended, rfl, ⟨_, rfl⟩, hW, hframe⟩
  jvm_step X.here [X.here.top, hx, hb, hdg, hmeth', hr, ret, narrow_b1]
  (try refine ⟨rfl, ?_⟩); (try refine ⟨rfl, ?_⟩)
  first | (intro acts; rw [hret _ acts rfl rfl rfl]) | rw [hret _ _ rfl rfl rfl]
  exact Steps.refl _
/-- what holds at the law's entry: the machine, the code, the tables' words (any of lw_tbl by 'hts w (by decide +kernel)'), the script of L ints xs at the cell b, what the Statement gives of the start (any of its parts by flat_of_before) -/
def lw_At (p : Program) (s : State) (m : MethodId) (meth : Method) (c : Code) (b L : Nat) (xs : Nat → Int32) : Prop :=
  p.tables.exec = Jvm.exec ∧ c.code = code ∧ meth.sig.returnType = ret ∧ c.maxLocals = 4 ∧ s.vm.findClass R_law = some m.cls ∧ (∀ w ∈ lw_tbl, w.before #[Value.ref b] s = true) ∧ va_X b L xs s s.heap ∧ b < s.heap.size ∧ meth.locks = false ∧ (Jvm.Cond.and given_1 narrow_1).before #[Value.ref b] s = true
-- ===== YOUR PART BEGINS =====
/-- YOUR PART: from the entry, for every script of at most 3072 ints, the law comes to its end with true -/
theorem whole_start {p : Program} {e : Env} {s : State} {m : MethodId} {below : List Frame} {meth : Method} {c : Code} (l : Launch) {b L : Nat} {xs : Nat → Int32} (hL : L ≤ 3072) (C0 : lw_At p s m meth c b L xs) : W p l e room_1 s m #[Value.ref b] below meth c s.heap [] 0 0 (lw_Z below #[Value.ref b] s) (entryFrame m ([Value.ref b] : List Value).toArray 4) := by
  obtain ⟨hx, hb, hr, hml, hown, hts, hX, hbl, hlocks, -⟩ := C0
  have hg : ∀ w ∈ gt, w.before #[Value.ref b] s = true := fun w hw => hts w (List.mem_filter.mp hw).1
  obtain ⟨cT, iT, hT⟩ := u_known hg ui_T (hg _ tw1_7)
  obtain ⟨cW, iW, hW⟩ := u_known hg ui_W (hg _ tw1_15)
  obtain ⟨cM, iM, hM⟩ := u_known hg ui_M (hg _ tw1_152)
  obtain ⟨cB, kB, pB, hB1, hB2, hB3⟩ := Cond.arrayClass_spec (hg _ tw1_33)
  obtain ⟨cI, kI, pI, hI1, hI2, hI3⟩ := Cond.arrayClass_spec (hg _ tw1_34)
  have hK : va_K ((fun k => match k with | 0 => cT | 1 => cW | _ => cM), (fun k => match k with | 0 => iT | 1 => iW | _ => iM)) cls (tyK cB cI) s := by
    refine ⟨fun k q hk => ?_, fun k q hk => ?_⟩
    · have hlt : k < 3 := (List.getElem?_eq_some_iff.mp hk).1
      rcases (show k = 0 ∨ k = 1 ∨ k = 2 by omega) with rfl | rfl | rfl
      · cases hk; exact hT
      · cases hk; exact hW
      · cases hk; exact hM
    · have hlt : k < 2 := (List.getElem?_eq_some_iff.mp hk).1
      rcases (show k = 0 ∨ k = 1 by omega) with rfl | rfl
      · cases hk; exact ⟨fun n z => ⟨fun k h => (by cases h), kB, hB2, pB, hB3⟩, hB1⟩
      · cases hk; exact ⟨fun n z => ⟨fun k h => (by cases h), kI, hI2, pI, hI3⟩, hI1⟩
  have hN : ∀ w ∈ nest4, va_Nw w s := fun w hw => by
    obtain ⟨a, i, x, h, rfl⟩ := nest4_is w hw
    exact va_Nw.of rfl (hts _ (nest4_in _ hw))
  have hl := lv_entry ([.ref b]) (n := 4) (Nat.le_of_ble_eq_true rfl)
  rw [lg_entry_eq]
  generalize (lg_sl ([.ref b]) ++ List.replicate (4 - (lg_sl ([.ref b])).length) Slot.unset).toArray = ls at hl ⊢
  have hl : lv_has ls 4 [(0, .ref b)] := hl
  refine law_body (A := fun q => s.heap.size ≤ q) hL ⟨hx, hb, hml, hr, hlocks, hown, hg, hK, hN⟩ hX hbl (Nat.not_le.mpr hbl) (fun _ h => h) (fun k q h => by cases h) ⟨fun i j p q h => (by cases h), fun k q h => (by cases h)⟩ va_S.rf hl ?_
  intro H locs pc ls hS hd
  refine va_forget hS.2.2 ?_
  exact lw_ret hx hb hr hlocks hd
-- ===== YOUR PART ENDS =====
set_option maxHeartbeats 4000000 in
theorem lw_walk (l : Launch) (b : Addr) (xs : List Int32) : MetFree l x (headSpec (Jvm.Cond.code x code maxLocals ret :: tables_1) room_1) (lw_P b xs) (fun _ _ _ _ _ => True) lw_Q := by
  refine MetFree.of_bodyS (code := code) (maxLocals := maxLocals) (ret := ret) (by decide) ?_ ?_
  · intro args s m h hn
    obtain ⟨meth, c, h1, h2, h3, h4, h5, h6, -, -⟩ := Cond.code_spec hn (atoms_spec (ws := Jvm.Cond.code x code maxLocals ret :: tables_1) h _ List.mem_cons_self)
    exact ⟨meth, c, h1, h2, h3, h4, h5, h6⟩
  · intro p e s m args below meth c s₁ B hml0 hP _
    obtain ⟨rfl, hx, hbd, hgv⟩ := hP
    obtain ⟨scr, harrAt, hlist, hof, hsmall⟩ := hx
    obtain ⟨hcb, hkn, -, -⟩ := State.arrayAt?_spec harrAt
    have hown : s.vm.findClass R_law = some m.cls := findClass_of_methodNamed B.named
    have hts0 : ∀ c ∈ (Jvm.Cond.code x code maxLocals ret :: tables_1), c.before #[Value.ref b] s = true := atoms_spec (ws := Jvm.Cond.code x code maxLocals ret :: tables_1) B.pre
    have hts : ∀ w ∈ lw_tbl, w.before #[Value.ref b] s = true := k2_hts_sels lw_privs (fun w hw => hts0 w (List.mem_cons_of_mem _ hw)) lw_privs_ok
    have hml : c.maxLocals = 4 := B.maxLocals_eq (hts0 _ List.mem_cons_self)
    have X₀ : Stand p l e room_1 s m #[Value.ref b] below meth c s₁ [] 0 0 := Stand.of_body B
    have hh0 : s₁.heap = s.heap := by rw [B.state]; rfl
    have hsz : scr.slots.size = xs.length := by rw [← Array.length_toList, hlist, List.length_map]
    have hval : ∀ j : Nat, j < xs.length → scr.slots[j]? = some (.int (xs.getD j 0)) := fun j hj => by
      rw [← Array.getElem?_toList, hlist]
      simp [hj]
    have hbl : b < s.heap.size := (Array.getElem?_eq_some_iff.mp hcb).1
    have hX : va_X b xs.length (fun j => xs.getD j 0) s s.heap := ⟨scr, hcb, hof, hkn, hsz, hval⟩
    have K : W p l e room_1 s m #[Value.ref b] below meth c s₁.heap [] 0 0 (lw_Z below #[Value.ref b] s) (entryFrame m ([Value.ref b] : List Value).toArray 4) := by
      rw [hh0]
      exact whole_start l hbd ⟨B.exec, B.bytes, B.returns, hml, hown, hts, hX, hbl, B.notSynchronized, hgv⟩
    obtain ⟨t, a1, o, b1, b2, b3⟩ := K s₁ rfl X₀
    exact ⟨t, o, a1, b1, b2, b3⟩
theorem lw_pre_spec {args : Array Value} {s : State} (h : (Jvm.Cond.and given_1 narrow_1).before args s = true) (hr : rest_1_c.before args s = true) : ∃ (b : Addr) (xs : List Int32), lw_P b xs args s := by
  have hs := flat_of_before _ h
  have hq := flat_of_before _ hr
  have hc : (Cond.count 1).before args s = true := hs _ (by decide +kernel)
  have harr : (Cond.arrayOf (.arg 0) .int).before args s = true := hs _ (by decide +kernel)
  have hle : (Cond.le (.length (.arg 0)) (.int 3072)).before args s = true := hs _ (by decide +kernel)
  have hlen : (Cond.isInt (.length (.arg 0))).before args s = true := hq _ (by decide +kernel)
  have hall : (Cond.all (.arg 0) (.isInt (.elem (.arg 0) (.index 0)))).before args s = true := hq _ (by decide +kernel)
  obtain ⟨b, xs, hb, hx⟩ := State.ints_of_pre rfl harr hlen hall
  have hsm : xs.length < 2 ^ 31 := hx.choose_spec.2.2.2
  have hev : (Term.length (.arg 0)).eval args s none [] s = some (.int xs.length.toInt32) := hx.length_eval hb
  have hv := Cond.le_ints hev (show (Term.int 3072).eval args s none [] s = some (.int 3072) from rfl)
  have hd : xs.length.toInt32 ≤ 3072 := by
    simpa [Cond.before, Cond.holds, hv] using hle
  have hN : xs.length ≤ 3072 := (Int32.ofNat_le_ofNat hsm (by decide)).mp (show Int32.ofNat xs.length ≤ Int32.ofNat 3072 from hd)
  exact ⟨b, xs, Cond.one_arg hc (show args[0]? = some (.ref b) from hb), hx, hN, h⟩
theorem lw_comes (l : Launch) : Comes l x (Jvm.Cond.code x code maxLocals ret :: tables_1) room_1 (fun tb e args s => Calls_1 tb e args s ∧ rest_1 tb e args s ∧ Pre_1 tb e args s)
    (fun _ _ args s o t => lw_Q args s o t) := by
  intro p e ha hc hk s m args below hf hfit hheap happ hpre
  obtain ⟨b, xs, hP⟩ := lw_pre_spec hpre.2.2 hpre.2.1
  obtain ⟨k, o, h1, h2, h3, hQ⟩ := lw_walk l b xs p e ha hc hk s m args below hf ((Spec.applies_iff_loose hf).mp happ).1 hP trivial
  exact ⟨k, o, h1, h2, h3, hQ⟩
theorem lw_frame {s t : State} {o : Outcome} {args : Array Value} (h : Framed s o t [] 16 12870) :
    Framed s o t (fieldLocs frame_1_writes args s ++ arrayLocs frame_1_arrays args s ++ staticLocs frame_1_statics s) 16 12870 := h
theorem lw_limb (L : Cond) (hL : ∀ (args : Array Value) (s t : State), L.after args s (.returned (some (.int 1))) t = true) :
    ArmFor flags0 classFile x code maxLocals ret World_1 tables_1 room_1 Calls_1 rest_1 Pre_1
      (fun tb e a s o t => postC L tb e a s o t ∧ Framed s o t (fieldLocs frame_1_writes a s ++ arrayLocs frame_1_arrays a s ++ staticLocs frame_1_statics s) 16 12870) := by
  intro l _ _ _ p e ha hc hk s m args below hf hfit hheap happ hpre
  obtain ⟨k, o, h1, h2, h3, rfl, hF⟩ := lw_comes l p e ha hc hk s m args below hf hfit hheap happ hpre
  exact ⟨k, _, h1, h2, h3, hL args s _, lw_frame hF⟩
theorem i_vc : Claimed_1_1 ∧ Claimed_1_2 := ⟨lw_limb limb_1_1 (fun args s t => by simp [limb_1_1, Cond.after, Cond.holds, Cond.value]), lw_limb limb_1_2 (fun args s t => Cond.after_iff.mpr (by
  first | (rw [show limb_1_2 = Cond.eq .result (.int 1) from rfl, Cond.eq_ints (x := 1) (y := 1) rfl rfl]; simp; done) | (simp [limb_1_2, Cond.value, Term.eval]; done)))⟩
end
