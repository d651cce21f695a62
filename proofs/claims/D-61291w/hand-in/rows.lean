section
-- ===== PART A: goes FIRST, ahead of the names: the tables' words, and 'selects' of the private methods out of them =====
/-- a private method of a class that the tables say can be made, by its rows of tables_1 -/
def lw_okq (q : MethodName × Nat) : Prop := (q.1.cls ≠ "java/lang/invoke/MethodHandle" ∧ q.1.cls ≠ "java/lang/invoke/VarHandle") ∧ Cond.instantiable q.1.cls q.2 ∈ tables_1 ∧ Cond.privateMethod q.1 ∈ tables_1 ∧ Cond.instanceMethod q.1 ∈ tables_1
theorem lw_p0 : lw_okq (⟨"HyphenRows", "isLanguage", "(I)Z"⟩, 24) := ⟨⟨by decide +kernel, by decide +kernel⟩, List.mem_of_getElem? (i := 6) (by decide +kernel), List.mem_of_getElem? (i := 129) (by decide +kernel), List.mem_of_getElem? (i := 130) (by decide +kernel)⟩
theorem lw_p1 : lw_okq (⟨"HyphenRows", "isPattern", "()Z"⟩, 24) := ⟨⟨by decide +kernel, by decide +kernel⟩, List.mem_of_getElem? (i := 6) (by decide +kernel), List.mem_of_getElem? (i := 151) (by decide +kernel), List.mem_of_getElem? (i := 152) (by decide +kernel)⟩
theorem lw_p2 : lw_okq (⟨"HyphenRows", "put", "(LHyphenRows$Language;I)I"⟩, 24) := ⟨⟨by decide +kernel, by decide +kernel⟩, List.mem_of_getElem? (i := 6) (by decide +kernel), List.mem_of_getElem? (i := 155) (by decide +kernel), List.mem_of_getElem? (i := 156) (by decide +kernel)⟩
theorem lw_p3 : lw_okq (⟨"HyphenRows", "endOf", "(LHyphenRows$Language;)I"⟩, 24) := ⟨⟨by decide +kernel, by decide +kernel⟩, List.mem_of_getElem? (i := 6) (by decide +kernel), List.mem_of_getElem? (i := 159) (by decide +kernel), List.mem_of_getElem? (i := 160) (by decide +kernel)⟩
theorem lw_p4 : lw_okq (⟨"HyphenRows", "under", "(LHyphenRows$Language;II)I"⟩, 24) := ⟨⟨by decide +kernel, by decide +kernel⟩, List.mem_of_getElem? (i := 6) (by decide +kernel), List.mem_of_getElem? (i := 163) (by decide +kernel), List.mem_of_getElem? (i := 164) (by decide +kernel)⟩
theorem lw_p5 : lw_okq (⟨"HyphenRows", "grow", "(LHyphenRows$Language;)I"⟩, 24) := ⟨⟨by decide +kernel, by decide +kernel⟩, List.mem_of_getElem? (i := 6) (by decide +kernel), List.mem_of_getElem? (i := 167) (by decide +kernel), List.mem_of_getElem? (i := 168) (by decide +kernel)⟩
theorem lw_p6 : lw_okq (⟨"HyphenRows", "made", "(LHyphenRows$Language;II)I"⟩, 24) := ⟨⟨by decide +kernel, by decide +kernel⟩, List.mem_of_getElem? (i := 6) (by decide +kernel), List.mem_of_getElem? (i := 171) (by decide +kernel), List.mem_of_getElem? (i := 172) (by decide +kernel)⟩
theorem lw_p7 : lw_okq (⟨"HyphenRows", "spell", "(LHyphenRows$Language;)Z"⟩, 24) := ⟨⟨by decide +kernel, by decide +kernel⟩, List.mem_of_getElem? (i := 6) (by decide +kernel), List.mem_of_getElem? (i := 187) (by decide +kernel), List.mem_of_getElem? (i := 188) (by decide +kernel)⟩
theorem lw_p8 : lw_okq (⟨"HyphenRows", "find", "(I)I"⟩, 24) := ⟨⟨by decide +kernel, by decide +kernel⟩, List.mem_of_getElem? (i := 6) (by decide +kernel), List.mem_of_getElem? (i := 191) (by decide +kernel), List.mem_of_getElem? (i := 192) (by decide +kernel)⟩
theorem lw_p9 : lw_okq (⟨"HyphenRows", "isException", "(II)Z"⟩, 24) := ⟨⟨by decide +kernel, by decide +kernel⟩, List.mem_of_getElem? (i := 6) (by decide +kernel), List.mem_of_getElem? (i := 195) (by decide +kernel), List.mem_of_getElem? (i := 196) (by decide +kernel)⟩
theorem lw_p10 : lw_okq (⟨"HyphenRows", "weigh", "(I)V"⟩, 24) := ⟨⟨by decide +kernel, by decide +kernel⟩, List.mem_of_getElem? (i := 6) (by decide +kernel), List.mem_of_getElem? (i := 207) (by decide +kernel), List.mem_of_getElem? (i := 208) (by decide +kernel)⟩
theorem lw_p11 : lw_okq (⟨"HyphenRows", "raise", "(III)V"⟩, 24) := ⟨⟨by decide +kernel, by decide +kernel⟩, List.mem_of_getElem? (i := 6) (by decide +kernel), List.mem_of_getElem? (i := 211) (by decide +kernel), List.mem_of_getElem? (i := 212) (by decide +kernel)⟩
theorem lw_p12 : lw_okq (⟨"HyphenRowsModel", "isLanguage", "(I)Z"⟩, 25) := ⟨⟨by decide +kernel, by decide +kernel⟩, List.mem_of_getElem? (i := 234) (by decide +kernel), List.mem_of_getElem? (i := 324) (by decide +kernel), List.mem_of_getElem? (i := 325) (by decide +kernel)⟩
theorem lw_p13 : lw_okq (⟨"HyphenRowsModel", "isSame", "(II)Z"⟩, 25) := ⟨⟨by decide +kernel, by decide +kernel⟩, List.mem_of_getElem? (i := 234) (by decide +kernel), List.mem_of_getElem? (i := 343) (by decide +kernel), List.mem_of_getElem? (i := 344) (by decide +kernel)⟩
theorem lw_p14 : lw_okq (⟨"HyphenRowsModel", "isPattern", "()Z"⟩, 25) := ⟨⟨by decide +kernel, by decide +kernel⟩, List.mem_of_getElem? (i := 234) (by decide +kernel), List.mem_of_getElem? (i := 347) (by decide +kernel), List.mem_of_getElem? (i := 348) (by decide +kernel)⟩
theorem lw_p15 : lw_okq (⟨"HyphenRowsModel", "spell", "(I)Z"⟩, 25) := ⟨⟨by decide +kernel, by decide +kernel⟩, List.mem_of_getElem? (i := 234) (by decide +kernel), List.mem_of_getElem? (i := 363) (by decide +kernel), List.mem_of_getElem? (i := 364) (by decide +kernel)⟩
def lw_privs_1 : List (MethodName × Nat) := [(⟨"HyphenRows", "isLanguage", "(I)Z"⟩, 24), (⟨"HyphenRows", "isPattern", "()Z"⟩, 24), (⟨"HyphenRows", "put", "(LHyphenRows$Language;I)I"⟩, 24), (⟨"HyphenRows", "endOf", "(LHyphenRows$Language;)I"⟩, 24), (⟨"HyphenRows", "under", "(LHyphenRows$Language;II)I"⟩, 24), (⟨"HyphenRows", "grow", "(LHyphenRows$Language;)I"⟩, 24), (⟨"HyphenRows", "made", "(LHyphenRows$Language;II)I"⟩, 24), (⟨"HyphenRows", "spell", "(LHyphenRows$Language;)Z"⟩, 24), (⟨"HyphenRows", "find", "(I)I"⟩, 24), (⟨"HyphenRows", "isException", "(II)Z"⟩, 24), (⟨"HyphenRows", "weigh", "(I)V"⟩, 24), (⟨"HyphenRows", "raise", "(III)V"⟩, 24), (⟨"HyphenRowsModel", "isLanguage", "(I)Z"⟩, 25), (⟨"HyphenRowsModel", "isSame", "(II)Z"⟩, 25), (⟨"HyphenRowsModel", "isPattern", "()Z"⟩, 25), (⟨"HyphenRowsModel", "spell", "(I)Z"⟩, 25)]
theorem lw_r1 : ∀ q ∈ lw_privs_1, lw_okq q := List.forall_mem_cons.mpr ⟨lw_p0, List.forall_mem_cons.mpr ⟨lw_p1, List.forall_mem_cons.mpr ⟨lw_p2, List.forall_mem_cons.mpr ⟨lw_p3, List.forall_mem_cons.mpr ⟨lw_p4, List.forall_mem_cons.mpr ⟨lw_p5, List.forall_mem_cons.mpr ⟨lw_p6, List.forall_mem_cons.mpr ⟨lw_p7, List.forall_mem_cons.mpr ⟨lw_p8, List.forall_mem_cons.mpr ⟨lw_p9, List.forall_mem_cons.mpr ⟨lw_p10, List.forall_mem_cons.mpr ⟨lw_p11, List.forall_mem_cons.mpr ⟨lw_p12, List.forall_mem_cons.mpr ⟨lw_p13, List.forall_mem_cons.mpr ⟨lw_p14, List.forall_mem_cons.mpr ⟨lw_p15, fun _ h => absurd h List.not_mem_nil⟩⟩⟩⟩⟩⟩⟩⟩⟩⟩⟩⟩⟩⟩⟩⟩
theorem lw_p16 : lw_okq (⟨"HyphenRowsModel", "exceptionOf", "(I)I"⟩, 25) := ⟨⟨by decide +kernel, by decide +kernel⟩, List.mem_of_getElem? (i := 234) (by decide +kernel), List.mem_of_getElem? (i := 367) (by decide +kernel), List.mem_of_getElem? (i := 368) (by decide +kernel)⟩
theorem lw_p17 : lw_okq (⟨"HyphenRowsModel", "digitOf", "(II)I"⟩, 25) := ⟨⟨by decide +kernel, by decide +kernel⟩, List.mem_of_getElem? (i := 234) (by decide +kernel), List.mem_of_getElem? (i := 379) (by decide +kernel), List.mem_of_getElem? (i := 380) (by decide +kernel)⟩
theorem lw_p18 : lw_okq (⟨"HyphenRowsModel", "stands", "(II)Z"⟩, 25) := ⟨⟨by decide +kernel, by decide +kernel⟩, List.mem_of_getElem? (i := 234) (by decide +kernel), List.mem_of_getElem? (i := 383) (by decide +kernel), List.mem_of_getElem? (i := 384) (by decide +kernel)⟩
def lw_privs_2 : List (MethodName × Nat) := [(⟨"HyphenRowsModel", "exceptionOf", "(I)I"⟩, 25), (⟨"HyphenRowsModel", "digitOf", "(II)I"⟩, 25), (⟨"HyphenRowsModel", "stands", "(II)Z"⟩, 25)]
theorem lw_r2 : ∀ q ∈ lw_privs_2, lw_okq q := List.forall_mem_cons.mpr ⟨lw_p16, List.forall_mem_cons.mpr ⟨lw_p17, List.forall_mem_cons.mpr ⟨lw_p18, fun _ h => absurd h List.not_mem_nil⟩⟩⟩
def lw_privs : List (MethodName × Nat) := lw_privs_1 ++ (lw_privs_2)
def lw_tbl : List Cond := k2_sels lw_privs ++ tables_1
theorem lw_privs_ok : ∀ q ∈ lw_privs, lw_okq q := by
  show ∀ q ∈ lw_privs_1 ++ (lw_privs_2), lw_okq q
  exact List.forall_mem_append.mpr ⟨lw_r1, lw_r2⟩
-- ===== end of PART A (a starting text); the names
abbrev R_X : String := "HyphenRows"
abbrev R_G : String := "HyphenRows$Language"
abbrev R_M : String := "HyphenRowsModel"
def R_law : String := "HyphenRowsLaw"
def F_X : u_T := fun k => match k with
  | 0 => ("HyphenRows", "languages", "[LHyphenRows$Language;", true)
  | 1 => ("HyphenRows", "count", "I", false)
  | 2 => ("HyphenRows", "letterOf", "[I", true)
  | 3 => ("HyphenRows", "below", "[I", true)
  | 4 => ("HyphenRows", "beside", "[I", true)
  | 5 => ("HyphenRows", "patternOf", "[I", true)
  | 6 => ("HyphenRows", "cells", "I", false)
  | 7 => ("HyphenRows", "digits", "[B", true)
  | 8 => ("HyphenRows", "patterns", "I", false)
  | 9 => ("HyphenRows", "used", "I", false)
  | 10 => ("HyphenRows", "row", "[I", true)
  | 11 => ("HyphenRows", "before", "[I", true)
  | 12 => ("HyphenRows", "rowLength", "I", false)
  | 13 => ("HyphenRows", "word", "[I", true)
  | 14 => ("HyphenRows", "length", "I", false)
  | 15 => ("HyphenRows", "owners", "[I", true)
  | 16 => ("HyphenRows", "spelt", "[B", true)
  | 17 => ("HyphenRows", "lengths", "[I", true)
  | 18 => ("HyphenRows", "places", "[I", true)
  | 19 => ("HyphenRows", "exceptions", "I", false)
  | 20 => ("HyphenRows", "edged", "[I", true)
  | 21 => ("HyphenRows", "between", "[I", true)
  | 22 => ("HyphenRows", "found", "[I", true)
  | _ => ("HyphenRows", "foundCount", "I", false)
def t_X : Nat → FieldType := fun k => match k with
  | 0 => .array (.object "HyphenRows$Language")
  | 1 => .int
  | 2 => .array .int
  | 3 => .array .int
  | 4 => .array .int
  | 5 => .array .int
  | 6 => .int
  | 7 => .array .byte
  | 8 => .int
  | 9 => .int
  | 10 => .array .int
  | 11 => .array .int
  | 12 => .int
  | 13 => .array .int
  | 14 => .int
  | 15 => .array .int
  | 16 => .array .byte
  | 17 => .array .int
  | 18 => .array .int
  | 19 => .int
  | 20 => .array .int
  | 21 => .array .int
  | 22 => .array .int
  | _ => .int
theorem n_X : ∀ a, a < 24 → ∀ b, b < 24 → a ≠ b → (F_X a).2.1 ≠ (F_X b).2.1 := by decide +kernel
theorem t_X_ok : ∀ k, k < 24 → parseFieldDescriptor (F_X k).2.2.1 = some (t_X k) := by decide +kernel
def F_G : u_T := fun k => match k with
  | 0 => ("HyphenRows$Language", "letters", "[B", true)
  | 1 => ("HyphenRows$Language", "capitals", "[Z", true)
  | 2 => ("HyphenRows$Language", "left", "I", false)
  | 3 => ("HyphenRows$Language", "right", "I", false)
  | 4 => ("HyphenRows$Language", "whole", "Z", false)
  | _ => ("HyphenRows$Language", "root", "I", false)
def t_G : Nat → FieldType := fun k => match k with
  | 0 => .array .byte
  | 1 => .array .boolean
  | 2 => .int
  | 3 => .int
  | 4 => .boolean
  | _ => .int
theorem n_G : ∀ a, a < 6 → ∀ b, b < 6 → a ≠ b → (F_G a).2.1 ≠ (F_G b).2.1 := by decide +kernel
theorem t_G_ok : ∀ k, k < 6 → parseFieldDescriptor (F_G k).2.2.1 = some (t_G k) := by decide +kernel
def F_M : u_T := fun k => match k with
  | 0 => ("HyphenRowsModel", "languages", "I", false)
  | 1 => ("HyphenRowsModel", "letters", "[I", true)
  | 2 => ("HyphenRowsModel", "capital", "[Z", true)
  | 3 => ("HyphenRowsModel", "left", "[I", true)
  | 4 => ("HyphenRowsModel", "right", "[I", true)
  | 5 => ("HyphenRowsModel", "whole", "[Z", true)
  | 6 => ("HyphenRowsModel", "making", "I", false)
  | 7 => ("HyphenRowsModel", "row", "[I", true)
  | 8 => ("HyphenRowsModel", "before", "[I", true)
  | 9 => ("HyphenRowsModel", "patterns", "I", false)
  | 10 => ("HyphenRowsModel", "together", "I", false)
  | 11 => ("HyphenRowsModel", "owner", "[I", true)
  | 12 => ("HyphenRowsModel", "size", "[I", true)
  | 13 => ("HyphenRowsModel", "rows", "[I", true)
  | 14 => ("HyphenRowsModel", "digits", "[I", true)
  | 15 => ("HyphenRowsModel", "exceptions", "I", false)
  | 16 => ("HyphenRowsModel", "exceptionOwner", "[I", true)
  | 17 => ("HyphenRowsModel", "exceptionSize", "[I", true)
  | 18 => ("HyphenRowsModel", "exceptionRows", "[I", true)
  | 19 => ("HyphenRowsModel", "exceptionPlaces", "[I", true)
  | 20 => ("HyphenRowsModel", "signs", "I", false)
  | 21 => ("HyphenRowsModel", "word", "[I", true)
  | 22 => ("HyphenRowsModel", "edged", "[I", true)
  | 23 => ("HyphenRowsModel", "places", "I", false)
  | _ => ("HyphenRowsModel", "place", "[I", true)
def t_M : Nat → FieldType := fun k => match k with
  | 0 => .int
  | 1 => .array .int
  | 2 => .array .boolean
  | 3 => .array .int
  | 4 => .array .int
  | 5 => .array .boolean
  | 6 => .int
  | 7 => .array .int
  | 8 => .array .int
  | 9 => .int
  | 10 => .int
  | 11 => .array .int
  | 12 => .array .int
  | 13 => .array .int
  | 14 => .array .int
  | 15 => .int
  | 16 => .array .int
  | 17 => .array .int
  | 18 => .array .int
  | 19 => .array .int
  | 20 => .int
  | 21 => .array .int
  | 22 => .array .int
  | 23 => .int
  | _ => .array .int
theorem n_M : ∀ a, a < 25 → ∀ b, b < 25 → a ≠ b → (F_M a).2.1 ≠ (F_M b).2.1 := by decide +kernel
theorem t_M_ok : ∀ k, k < 25 → parseFieldDescriptor (F_M k).2.2.1 = some (t_M k) := by decide +kernel
/-- the words that last: all of the tables but the private, nest and over rows -/
def gw : List Cond := lw_tbl.filter goodWord
theorem gw_t {w : Cond} (i : Nat) (h : tables_1[i]? = some w) (hg : goodWord w = true) : w ∈ gw := List.mem_filter.mpr ⟨List.mem_append_right _ (List.mem_of_getElem? h), hg⟩
theorem gw_s {w : Cond} (i : Nat) (h : (k2_sels lw_privs)[i]? = some w) (hg : goodWord w = true) : w ∈ gw := List.mem_filter.mpr ⟨List.mem_append_left _ (List.mem_of_getElem? h), hg⟩
theorem gw_good : ∀ w ∈ gw, (w.onTables && w.keeps) = true ∨ ∃ ty, w = .arrayClass ty := fun w h => good_of_word (List.mem_filter.mp h).2
theorem i_X : ∀ w ∈ u_ws R_X F_X 24, w ∈ gw := by decide +kernel
theorem i_G : ∀ w ∈ u_ws R_G F_G 6, w ∈ gw := by decide +kernel
theorem i_M : ∀ w ∈ u_ws R_M F_M 25, w ∈ gw := by decide +kernel
-- methods
abbrev b_X_init : ByteArray := prog_1_method_1_code
abbrev y_X_init : MethodName := ⟨"HyphenRows", "<init>", "()V"⟩
abbrev b_X_language : ByteArray := prog_1_method_2_code
abbrev y_X_language : MethodName := ⟨"HyphenRows", "language", "()I"⟩
abbrev b_G_init : ByteArray := prog_2_method_1_code
abbrev y_G_init : MethodName := ⟨"HyphenRows$Language", "<init>", "()V"⟩
abbrev b_X_code : ByteArray := prog_1_method_5_code
abbrev y_X_code : MethodName := ⟨"HyphenRows", "code", "(IIIZ)I"⟩
abbrev b_X_isLanguage : ByteArray := prog_1_method_3_code
abbrev y_X_isLanguage : MethodName := ⟨"HyphenRows", "isLanguage", "(I)Z"⟩
abbrev b_X_isSign : ByteArray := prog_1_method_4_code
abbrev y_X_isSign : MethodName := ⟨"HyphenRows", "isSign", "(I)Z"⟩
abbrev b_X_ends : ByteArray := prog_1_method_6_code
abbrev y_X_ends : MethodName := ⟨"HyphenRows", "ends", "(IIIZ)I"⟩
abbrev b_X_next : ByteArray := prog_1_method_8_code
abbrev y_X_next : MethodName := ⟨"HyphenRows", "next", "(II)I"⟩
abbrev b_X_isDigit : ByteArray := prog_1_method_7_code
abbrev y_X_isDigit : MethodName := ⟨"HyphenRows", "isDigit", "(I)Z"⟩
abbrev b_X_pattern : ByteArray := prog_1_method_14_code
abbrev y_X_pattern : MethodName := ⟨"HyphenRows", "pattern", "(II)I"⟩
abbrev b_X_isPattern : ByteArray := prog_1_method_9_code
abbrev y_X_isPattern : MethodName := ⟨"HyphenRows", "isPattern", "()Z"⟩
abbrev b_X_put : ByteArray := prog_1_method_15_code
abbrev y_X_put : MethodName := ⟨"HyphenRows", "put", "(LHyphenRows$Language;I)I"⟩
abbrev b_X_endOf : ByteArray := prog_1_method_11_code
abbrev y_X_endOf : MethodName := ⟨"HyphenRows", "endOf", "(LHyphenRows$Language;)I"⟩
abbrev b_X_under : ByteArray := prog_1_method_10_code
abbrev y_X_under : MethodName := ⟨"HyphenRows", "under", "(LHyphenRows$Language;II)I"⟩
abbrev b_X_grow : ByteArray := prog_1_method_12_code
abbrev y_X_grow : MethodName := ⟨"HyphenRows", "grow", "(LHyphenRows$Language;)I"⟩
abbrev b_X_made : ByteArray := prog_1_method_13_code
abbrev y_X_made : MethodName := ⟨"HyphenRows", "made", "(LHyphenRows$Language;II)I"⟩
abbrev b_X_sign : ByteArray := prog_1_method_16_code
abbrev y_X_sign : MethodName := ⟨"HyphenRows", "sign", "(I)I"⟩
abbrev b_X_clear : ByteArray := prog_1_method_17_code
abbrev y_X_clear : MethodName := ⟨"HyphenRows", "clear", "()I"⟩
abbrev b_X_exception : ByteArray := prog_1_method_21_code
abbrev y_X_exception : MethodName := ⟨"HyphenRows", "exception", "(II)I"⟩
abbrev b_X_spell : ByteArray := prog_1_method_18_code
abbrev y_X_spell : MethodName := ⟨"HyphenRows", "spell", "(LHyphenRows$Language;)Z"⟩
abbrev b_X_find : ByteArray := prog_1_method_20_code
abbrev y_X_find : MethodName := ⟨"HyphenRows", "find", "(I)I"⟩
abbrev b_X_isException : ByteArray := prog_1_method_19_code
abbrev y_X_isException : MethodName := ⟨"HyphenRows", "isException", "(II)Z"⟩
abbrev b_X_drop : ByteArray := prog_1_method_22_code
abbrev y_X_drop : MethodName := ⟨"HyphenRows", "drop", "(I)I"⟩
abbrev b_X_run : ByteArray := prog_1_method_25_code
abbrev y_X_run : MethodName := ⟨"HyphenRows", "run", "(I)I"⟩
abbrev b_X_weigh : ByteArray := prog_1_method_23_code
abbrev y_X_weigh : MethodName := ⟨"HyphenRows", "weigh", "(I)V"⟩
abbrev b_X_raise : ByteArray := prog_1_method_24_code
abbrev y_X_raise : MethodName := ⟨"HyphenRows", "raise", "(III)V"⟩
abbrev b_X_at : ByteArray := prog_1_method_26_code
abbrev y_X_at : MethodName := ⟨"HyphenRows", "at", "(I)I"⟩
abbrev b_X_digit : ByteArray := prog_1_method_27_code
abbrev y_X_digit : MethodName := ⟨"HyphenRows", "digit", "(II)I"⟩
abbrev b_X_patterns : ByteArray := prog_1_method_28_code
abbrev y_X_patterns : MethodName := ⟨"HyphenRows", "patterns", "()I"⟩
abbrev b_X_exceptions : ByteArray := prog_1_method_29_code
abbrev y_X_exceptions : MethodName := ⟨"HyphenRows", "exceptions", "()I"⟩
abbrev b_M_init : ByteArray := prog_4_method_1_code
abbrev y_M_init : MethodName := ⟨"HyphenRowsModel", "<init>", "()V"⟩
abbrev b_M_language : ByteArray := prog_4_method_4_code
abbrev y_M_language : MethodName := ⟨"HyphenRowsModel", "language", "()I"⟩
abbrev b_M_code : ByteArray := prog_4_method_5_code
abbrev y_M_code : MethodName := ⟨"HyphenRowsModel", "code", "(IIIZ)I"⟩
abbrev b_M_isLanguage : ByteArray := prog_4_method_2_code
abbrev y_M_isLanguage : MethodName := ⟨"HyphenRowsModel", "isLanguage", "(I)Z"⟩
abbrev b_M_in : ByteArray := prog_4_method_3_code
abbrev y_M_in : MethodName := ⟨"HyphenRowsModel", "in", "(III)Z"⟩
abbrev b_M_ends : ByteArray := prog_4_method_6_code
abbrev y_M_ends : MethodName := ⟨"HyphenRowsModel", "ends", "(IIIZ)I"⟩
abbrev b_M_next : ByteArray := prog_4_method_7_code
abbrev y_M_next : MethodName := ⟨"HyphenRowsModel", "next", "(II)I"⟩
abbrev b_M_pattern : ByteArray := prog_4_method_10_code
abbrev y_M_pattern : MethodName := ⟨"HyphenRowsModel", "pattern", "(II)I"⟩
abbrev b_M_isSame : ByteArray := prog_4_method_9_code
abbrev y_M_isSame : MethodName := ⟨"HyphenRowsModel", "isSame", "(II)Z"⟩
abbrev b_M_isPattern : ByteArray := prog_4_method_8_code
abbrev y_M_isPattern : MethodName := ⟨"HyphenRowsModel", "isPattern", "()Z"⟩
abbrev b_M_sign : ByteArray := prog_4_method_11_code
abbrev y_M_sign : MethodName := ⟨"HyphenRowsModel", "sign", "(I)I"⟩
abbrev b_M_clear : ByteArray := prog_4_method_12_code
abbrev y_M_clear : MethodName := ⟨"HyphenRowsModel", "clear", "()I"⟩
abbrev b_M_exception : ByteArray := prog_4_method_15_code
abbrev y_M_exception : MethodName := ⟨"HyphenRowsModel", "exception", "(II)I"⟩
abbrev b_M_spell : ByteArray := prog_4_method_13_code
abbrev y_M_spell : MethodName := ⟨"HyphenRowsModel", "spell", "(I)Z"⟩
abbrev b_M_exceptionOf : ByteArray := prog_4_method_14_code
abbrev y_M_exceptionOf : MethodName := ⟨"HyphenRowsModel", "exceptionOf", "(I)I"⟩
abbrev b_M_drop : ByteArray := prog_4_method_16_code
abbrev y_M_drop : MethodName := ⟨"HyphenRowsModel", "drop", "(I)I"⟩
abbrev b_M_run : ByteArray := prog_4_method_19_code
abbrev y_M_run : MethodName := ⟨"HyphenRowsModel", "run", "(I)I"⟩
abbrev b_M_digitOf : ByteArray := prog_4_method_18_code
abbrev y_M_digitOf : MethodName := ⟨"HyphenRowsModel", "digitOf", "(II)I"⟩
abbrev b_M_stands : ByteArray := prog_4_method_17_code
abbrev y_M_stands : MethodName := ⟨"HyphenRowsModel", "stands", "(II)Z"⟩
abbrev b_M_at : ByteArray := prog_4_method_20_code
abbrev y_M_at : MethodName := ⟨"HyphenRowsModel", "at", "(I)I"⟩
abbrev b_M_digit : ByteArray := prog_4_method_21_code
abbrev y_M_digit : MethodName := ⟨"HyphenRowsModel", "digit", "(II)I"⟩
abbrev b_M_patterns : ByteArray := prog_4_method_22_code
abbrev y_M_patterns : MethodName := ⟨"HyphenRowsModel", "patterns", "()I"⟩
abbrev b_M_exceptions : ByteArray := prog_4_method_23_code
abbrev y_M_exceptions : MethodName := ⟨"HyphenRowsModel", "exceptions", "()I"⟩
-- words
theorem q_0 : Cond.initialized "HyphenRowsLaw" ∈ gw := gw_t 0 (by decide +kernel) rfl
theorem q_1 : Cond.initialized "HyphenRows" ∈ gw := gw_t 1 (by decide +kernel) rfl
theorem q_2 : Cond.initialized "HyphenRowsModel" ∈ gw := gw_t 2 (by decide +kernel) rfl
theorem q_3 : Cond.initialized "HyphenRows$Language" ∈ gw := gw_t 3 (by decide +kernel) rfl
theorem q_4 : Cond.initialized "java/lang/Math" ∈ gw := gw_t 4 (by decide +kernel) rfl
theorem q_5 : Cond.classLink "HyphenRowsLaw" 7 "HyphenRows" ∈ gw := gw_t 5 (by decide +kernel) rfl
theorem q_6 : Cond.instantiable "HyphenRows" 24 ∈ gw := gw_t 6 (by decide +kernel) rfl
theorem q_7 : Cond.methodLink "HyphenRowsLaw" 9 ⟨"HyphenRows", "<init>", "()V"⟩ ∈ gw := gw_t 7 (by decide +kernel) rfl
theorem q_8 : Cond.instanceMethod ⟨"HyphenRows", "<init>", "()V"⟩ ∈ gw := gw_t 8 (by decide +kernel) rfl
theorem q_9 : Cond.code ⟨"HyphenRows", "<init>", "()V"⟩ prog_1_method_1_code 1 none ∈ gw := gw_t 9 rfl rfl
theorem q_10 : Cond.methodLink "HyphenRows" 1 ⟨"java/lang/Object", "<init>", "()V"⟩ ∈ gw := gw_t 10 (by decide +kernel) rfl
theorem q_11 : Cond.instanceMethod ⟨"java/lang/Object", "<init>", "()V"⟩ ∈ gw := gw_t 11 (by decide +kernel) rfl
theorem q_12 : Cond.code ⟨"java/lang/Object", "<init>", "()V"⟩ ⟨#[0xb1]⟩ 1 none ∈ gw := gw_t 12 rfl rfl
theorem q_13 : Cond.classLink "HyphenRows" 9 "HyphenRows$Language" ∈ gw := gw_t 13 (by decide +kernel) rfl
theorem q_15 : Cond.fieldLink "HyphenRows" 11 "HyphenRows" "languages" "[LHyphenRows$Language;" ∈ gw := gw_t 15 (by decide +kernel) rfl
theorem q_16 : Cond.fieldLink "HyphenRows" 62 "HyphenRows" "count" "I" ∈ gw := gw_t 16 (by decide +kernel) rfl
theorem q_17 : Cond.fieldLink "HyphenRows" 15 "HyphenRows" "letterOf" "[I" ∈ gw := gw_t 17 (by decide +kernel) rfl
theorem q_18 : Cond.fieldLink "HyphenRows" 19 "HyphenRows" "below" "[I" ∈ gw := gw_t 18 (by decide +kernel) rfl
theorem q_19 : Cond.fieldLink "HyphenRows" 22 "HyphenRows" "beside" "[I" ∈ gw := gw_t 19 (by decide +kernel) rfl
theorem q_20 : Cond.fieldLink "HyphenRows" 25 "HyphenRows" "patternOf" "[I" ∈ gw := gw_t 20 (by decide +kernel) rfl
theorem q_21 : Cond.fieldLink "HyphenRows" 107 "HyphenRows" "cells" "I" ∈ gw := gw_t 21 (by decide +kernel) rfl
theorem q_22 : Cond.fieldLink "HyphenRows" 28 "HyphenRows" "digits" "[B" ∈ gw := gw_t 22 (by decide +kernel) rfl
theorem q_23 : Cond.fieldLink "HyphenRows" 122 "HyphenRows" "patterns" "I" ∈ gw := gw_t 23 (by decide +kernel) rfl
theorem q_24 : Cond.fieldLink "HyphenRows" 125 "HyphenRows" "used" "I" ∈ gw := gw_t 24 (by decide +kernel) rfl
theorem q_25 : Cond.fieldLink "HyphenRows" 32 "HyphenRows" "row" "[I" ∈ gw := gw_t 25 (by decide +kernel) rfl
theorem q_26 : Cond.fieldLink "HyphenRows" 35 "HyphenRows" "before" "[I" ∈ gw := gw_t 26 (by decide +kernel) rfl
theorem q_27 : Cond.fieldLink "HyphenRows" 94 "HyphenRows" "rowLength" "I" ∈ gw := gw_t 27 (by decide +kernel) rfl
theorem q_28 : Cond.fieldLink "HyphenRows" 38 "HyphenRows" "word" "[I" ∈ gw := gw_t 28 (by decide +kernel) rfl
theorem q_29 : Cond.fieldLink "HyphenRows" 131 "HyphenRows" "length" "I" ∈ gw := gw_t 29 (by decide +kernel) rfl
theorem q_30 : Cond.fieldLink "HyphenRows" 41 "HyphenRows" "owners" "[I" ∈ gw := gw_t 30 (by decide +kernel) rfl
theorem q_31 : Cond.fieldLink "HyphenRows" 44 "HyphenRows" "spelt" "[B" ∈ gw := gw_t 31 (by decide +kernel) rfl
theorem q_32 : Cond.fieldLink "HyphenRows" 47 "HyphenRows" "lengths" "[I" ∈ gw := gw_t 32 (by decide +kernel) rfl
theorem q_33 : Cond.fieldLink "HyphenRows" 50 "HyphenRows" "places" "[I" ∈ gw := gw_t 33 (by decide +kernel) rfl
theorem q_34 : Cond.fieldLink "HyphenRows" 134 "HyphenRows" "exceptions" "I" ∈ gw := gw_t 34 (by decide +kernel) rfl
theorem q_35 : Cond.fieldLink "HyphenRows" 53 "HyphenRows" "edged" "[I" ∈ gw := gw_t 35 (by decide +kernel) rfl
theorem q_36 : Cond.fieldLink "HyphenRows" 56 "HyphenRows" "between" "[I" ∈ gw := gw_t 36 (by decide +kernel) rfl
theorem q_37 : Cond.fieldLink "HyphenRows" 59 "HyphenRows" "found" "[I" ∈ gw := gw_t 37 (by decide +kernel) rfl
theorem q_38 : Cond.fieldLink "HyphenRows" 159 "HyphenRows" "foundCount" "I" ∈ gw := gw_t 38 (by decide +kernel) rfl
theorem q_88 : Cond.arrayClass .int ∈ gw := gw_t 88 (by decide +kernel) rfl
theorem q_89 : Cond.arrayClass .byte ∈ gw := gw_t 89 (by decide +kernel) rfl
theorem q_90 : Cond.methodLink "HyphenRowsLaw" 13 ⟨"HyphenRows", "language", "()I"⟩ ∈ gw := gw_t 90 (by decide +kernel) rfl
theorem q_91 : Cond.instanceMethod ⟨"HyphenRows", "language", "()I"⟩ ∈ gw := gw_t 91 (by decide +kernel) rfl
theorem q_92 : Cond.selects "HyphenRows" ⟨"HyphenRows", "language", "()I"⟩ ⟨"HyphenRows", "language", "()I"⟩ ∈ gw := gw_t 92 (by decide +kernel) rfl
theorem q_93 : Cond.code ⟨"HyphenRows", "language", "()I"⟩ prog_1_method_2_code 1 (some .int) ∈ gw := gw_t 93 rfl rfl
theorem q_94 : Cond.instantiable "HyphenRows$Language" 6 ∈ gw := gw_t 94 (by decide +kernel) rfl
theorem q_96 : Cond.instanceMethod ⟨"HyphenRows$Language", "<init>", "()V"⟩ ∈ gw := gw_t 96 (by decide +kernel) rfl
theorem q_97 : Cond.code ⟨"HyphenRows$Language", "<init>", "()V"⟩ prog_2_method_1_code 1 none ∈ gw := gw_t 97 rfl rfl
theorem q_98 : Cond.methodLink "HyphenRows$Language" 3 ⟨"java/lang/Object", "<init>", "()V"⟩ ∈ gw := gw_t 98 (by decide +kernel) rfl
theorem q_99 : Cond.fieldLink "HyphenRows$Language" 9 "HyphenRows$Language" "letters" "[B" ∈ gw := gw_t 99 (by decide +kernel) rfl
theorem q_101 : Cond.fieldLink "HyphenRows$Language" 15 "HyphenRows$Language" "capitals" "[Z" ∈ gw := gw_t 101 (by decide +kernel) rfl
theorem q_103 : Cond.fieldLink "HyphenRows$Language" 19 "HyphenRows$Language" "left" "I" ∈ gw := gw_t 103 (by decide +kernel) rfl
theorem q_105 : Cond.fieldLink "HyphenRows$Language" 23 "HyphenRows$Language" "right" "I" ∈ gw := gw_t 105 (by decide +kernel) rfl
theorem q_108 : Cond.fieldLink "HyphenRows$Language" 26 "HyphenRows$Language" "root" "I" ∈ gw := gw_t 108 (by decide +kernel) rfl
theorem q_123 : Cond.arrayClass .boolean ∈ gw := gw_t 123 (by decide +kernel) rfl
theorem q_124 : Cond.methodLink "HyphenRowsLaw" 18 ⟨"HyphenRows", "code", "(IIIZ)I"⟩ ∈ gw := gw_t 124 (by decide +kernel) rfl
theorem q_125 : Cond.instanceMethod ⟨"HyphenRows", "code", "(IIIZ)I"⟩ ∈ gw := gw_t 125 (by decide +kernel) rfl
theorem q_126 : Cond.selects "HyphenRows" ⟨"HyphenRows", "code", "(IIIZ)I"⟩ ⟨"HyphenRows", "code", "(IIIZ)I"⟩ ∈ gw := gw_t 126 (by decide +kernel) rfl
theorem q_127 : Cond.code ⟨"HyphenRows", "code", "(IIIZ)I"⟩ prog_1_method_5_code 5 (some .int) ∈ gw := gw_t 127 rfl rfl
theorem q_128 : Cond.methodLink "HyphenRows" 67 ⟨"HyphenRows", "isLanguage", "(I)Z"⟩ ∈ gw := gw_t 128 (by decide +kernel) rfl
theorem q_130 : Cond.instanceMethod ⟨"HyphenRows", "isLanguage", "(I)Z"⟩ ∈ gw := gw_t 130 (by decide +kernel) rfl
theorem q_131 : Cond.code ⟨"HyphenRows", "isLanguage", "(I)Z"⟩ prog_1_method_3_code 2 (some .boolean) ∈ gw := gw_t 131 rfl rfl
theorem q_132 : Cond.methodLink "HyphenRows" 71 ⟨"HyphenRows", "isSign", "(I)Z"⟩ ∈ gw := gw_t 132 (by decide +kernel) rfl
theorem q_133 : Cond.static ⟨"HyphenRows", "isSign", "(I)Z"⟩ ∈ gw := gw_t 133 (by decide +kernel) rfl
theorem q_134 : Cond.code ⟨"HyphenRows", "isSign", "(I)Z"⟩ prog_1_method_4_code 1 (some .boolean) ∈ gw := gw_t 134 rfl rfl
theorem q_135 : Cond.methodLink "HyphenRowsLaw" 23 ⟨"HyphenRows", "ends", "(IIIZ)I"⟩ ∈ gw := gw_t 135 (by decide +kernel) rfl
theorem q_136 : Cond.instanceMethod ⟨"HyphenRows", "ends", "(IIIZ)I"⟩ ∈ gw := gw_t 136 (by decide +kernel) rfl
theorem q_137 : Cond.selects "HyphenRows" ⟨"HyphenRows", "ends", "(IIIZ)I"⟩ ⟨"HyphenRows", "ends", "(IIIZ)I"⟩ ∈ gw := gw_t 137 (by decide +kernel) rfl
theorem q_138 : Cond.code ⟨"HyphenRows", "ends", "(IIIZ)I"⟩ prog_1_method_6_code 5 (some .int) ∈ gw := gw_t 138 rfl rfl
theorem q_139 : Cond.methodLink "HyphenRowsLaw" 27 ⟨"HyphenRows", "next", "(II)I"⟩ ∈ gw := gw_t 139 (by decide +kernel) rfl
theorem q_140 : Cond.instanceMethod ⟨"HyphenRows", "next", "(II)I"⟩ ∈ gw := gw_t 140 (by decide +kernel) rfl
theorem q_141 : Cond.selects "HyphenRows" ⟨"HyphenRows", "next", "(II)I"⟩ ⟨"HyphenRows", "next", "(II)I"⟩ ∈ gw := gw_t 141 (by decide +kernel) rfl
theorem q_142 : Cond.code ⟨"HyphenRows", "next", "(II)I"⟩ prog_1_method_8_code 3 (some .int) ∈ gw := gw_t 142 rfl rfl
theorem q_143 : Cond.methodLink "HyphenRows" 91 ⟨"HyphenRows", "isDigit", "(I)Z"⟩ ∈ gw := gw_t 143 (by decide +kernel) rfl
theorem q_144 : Cond.static ⟨"HyphenRows", "isDigit", "(I)Z"⟩ ∈ gw := gw_t 144 (by decide +kernel) rfl
theorem q_145 : Cond.code ⟨"HyphenRows", "isDigit", "(I)Z"⟩ prog_1_method_7_code 1 (some .boolean) ∈ gw := gw_t 145 rfl rfl
theorem q_146 : Cond.methodLink "HyphenRowsLaw" 32 ⟨"HyphenRows", "pattern", "(II)I"⟩ ∈ gw := gw_t 146 (by decide +kernel) rfl
theorem q_147 : Cond.instanceMethod ⟨"HyphenRows", "pattern", "(II)I"⟩ ∈ gw := gw_t 147 (by decide +kernel) rfl
theorem q_148 : Cond.selects "HyphenRows" ⟨"HyphenRows", "pattern", "(II)I"⟩ ⟨"HyphenRows", "pattern", "(II)I"⟩ ∈ gw := gw_t 148 (by decide +kernel) rfl
theorem q_149 : Cond.code ⟨"HyphenRows", "pattern", "(II)I"⟩ prog_1_method_14_code 4 (some .int) ∈ gw := gw_t 149 rfl rfl
theorem q_150 : Cond.methodLink "HyphenRows" 110 ⟨"HyphenRows", "isPattern", "()Z"⟩ ∈ gw := gw_t 150 (by decide +kernel) rfl
theorem q_152 : Cond.instanceMethod ⟨"HyphenRows", "isPattern", "()Z"⟩ ∈ gw := gw_t 152 (by decide +kernel) rfl
theorem q_153 : Cond.code ⟨"HyphenRows", "isPattern", "()Z"⟩ prog_1_method_9_code 4 (some .boolean) ∈ gw := gw_t 153 rfl rfl
theorem q_154 : Cond.methodLink "HyphenRows" 114 ⟨"HyphenRows", "put", "(LHyphenRows$Language;I)I"⟩ ∈ gw := gw_t 154 (by decide +kernel) rfl
theorem q_156 : Cond.instanceMethod ⟨"HyphenRows", "put", "(LHyphenRows$Language;I)I"⟩ ∈ gw := gw_t 156 (by decide +kernel) rfl
theorem q_157 : Cond.code ⟨"HyphenRows", "put", "(LHyphenRows$Language;I)I"⟩ prog_1_method_15_code 6 (some .int) ∈ gw := gw_t 157 rfl rfl
theorem q_158 : Cond.methodLink "HyphenRows" 118 ⟨"HyphenRows", "endOf", "(LHyphenRows$Language;)I"⟩ ∈ gw := gw_t 158 (by decide +kernel) rfl
theorem q_160 : Cond.instanceMethod ⟨"HyphenRows", "endOf", "(LHyphenRows$Language;)I"⟩ ∈ gw := gw_t 160 (by decide +kernel) rfl
theorem q_161 : Cond.code ⟨"HyphenRows", "endOf", "(LHyphenRows$Language;)I"⟩ prog_1_method_11_code 4 (some .int) ∈ gw := gw_t 161 rfl rfl
theorem q_162 : Cond.methodLink "HyphenRows" 100 ⟨"HyphenRows", "under", "(LHyphenRows$Language;II)I"⟩ ∈ gw := gw_t 162 (by decide +kernel) rfl
theorem q_164 : Cond.instanceMethod ⟨"HyphenRows", "under", "(LHyphenRows$Language;II)I"⟩ ∈ gw := gw_t 164 (by decide +kernel) rfl
theorem q_165 : Cond.code ⟨"HyphenRows", "under", "(LHyphenRows$Language;II)I"⟩ prog_1_method_10_code 5 (some .int) ∈ gw := gw_t 165 rfl rfl
theorem q_166 : Cond.methodLink "HyphenRows" 128 ⟨"HyphenRows", "grow", "(LHyphenRows$Language;)I"⟩ ∈ gw := gw_t 166 (by decide +kernel) rfl
theorem q_168 : Cond.instanceMethod ⟨"HyphenRows", "grow", "(LHyphenRows$Language;)I"⟩ ∈ gw := gw_t 168 (by decide +kernel) rfl
theorem q_169 : Cond.code ⟨"HyphenRows", "grow", "(LHyphenRows$Language;)I"⟩ prog_1_method_12_code 5 (some .int) ∈ gw := gw_t 169 rfl rfl
theorem q_170 : Cond.methodLink "HyphenRows" 104 ⟨"HyphenRows", "made", "(LHyphenRows$Language;II)I"⟩ ∈ gw := gw_t 170 (by decide +kernel) rfl
theorem q_172 : Cond.instanceMethod ⟨"HyphenRows", "made", "(LHyphenRows$Language;II)I"⟩ ∈ gw := gw_t 172 (by decide +kernel) rfl
theorem q_173 : Cond.code ⟨"HyphenRows", "made", "(LHyphenRows$Language;II)I"⟩ prog_1_method_13_code 5 (some .int) ∈ gw := gw_t 173 rfl rfl
theorem q_174 : Cond.methodLink "HyphenRowsLaw" 36 ⟨"HyphenRows", "sign", "(I)I"⟩ ∈ gw := gw_t 174 (by decide +kernel) rfl
theorem q_175 : Cond.instanceMethod ⟨"HyphenRows", "sign", "(I)I"⟩ ∈ gw := gw_t 175 (by decide +kernel) rfl
theorem q_176 : Cond.selects "HyphenRows" ⟨"HyphenRows", "sign", "(I)I"⟩ ⟨"HyphenRows", "sign", "(I)I"⟩ ∈ gw := gw_t 176 (by decide +kernel) rfl
theorem q_177 : Cond.code ⟨"HyphenRows", "sign", "(I)I"⟩ prog_1_method_16_code 2 (some .int) ∈ gw := gw_t 177 rfl rfl
theorem q_178 : Cond.methodLink "HyphenRowsLaw" 41 ⟨"HyphenRows", "clear", "()I"⟩ ∈ gw := gw_t 178 (by decide +kernel) rfl
theorem q_179 : Cond.instanceMethod ⟨"HyphenRows", "clear", "()I"⟩ ∈ gw := gw_t 179 (by decide +kernel) rfl
theorem q_180 : Cond.selects "HyphenRows" ⟨"HyphenRows", "clear", "()I"⟩ ⟨"HyphenRows", "clear", "()I"⟩ ∈ gw := gw_t 180 (by decide +kernel) rfl
theorem q_181 : Cond.code ⟨"HyphenRows", "clear", "()I"⟩ prog_1_method_17_code 2 (some .int) ∈ gw := gw_t 181 rfl rfl
theorem q_182 : Cond.methodLink "HyphenRowsLaw" 45 ⟨"HyphenRows", "exception", "(II)I"⟩ ∈ gw := gw_t 182 (by decide +kernel) rfl
theorem q_183 : Cond.instanceMethod ⟨"HyphenRows", "exception", "(II)I"⟩ ∈ gw := gw_t 183 (by decide +kernel) rfl
theorem q_184 : Cond.selects "HyphenRows" ⟨"HyphenRows", "exception", "(II)I"⟩ ⟨"HyphenRows", "exception", "(II)I"⟩ ∈ gw := gw_t 184 (by decide +kernel) rfl
theorem q_185 : Cond.code ⟨"HyphenRows", "exception", "(II)I"⟩ prog_1_method_21_code 5 (some .int) ∈ gw := gw_t 185 rfl rfl
theorem q_186 : Cond.methodLink "HyphenRows" 141 ⟨"HyphenRows", "spell", "(LHyphenRows$Language;)Z"⟩ ∈ gw := gw_t 186 (by decide +kernel) rfl
theorem q_188 : Cond.instanceMethod ⟨"HyphenRows", "spell", "(LHyphenRows$Language;)Z"⟩ ∈ gw := gw_t 188 (by decide +kernel) rfl
theorem q_189 : Cond.code ⟨"HyphenRows", "spell", "(LHyphenRows$Language;)Z"⟩ prog_1_method_18_code 3 (some .boolean) ∈ gw := gw_t 189 rfl rfl
theorem q_190 : Cond.methodLink "HyphenRows" 145 ⟨"HyphenRows", "find", "(I)I"⟩ ∈ gw := gw_t 190 (by decide +kernel) rfl
theorem q_192 : Cond.instanceMethod ⟨"HyphenRows", "find", "(I)I"⟩ ∈ gw := gw_t 192 (by decide +kernel) rfl
theorem q_193 : Cond.code ⟨"HyphenRows", "find", "(I)I"⟩ prog_1_method_20_code 3 (some .int) ∈ gw := gw_t 193 rfl rfl
theorem q_194 : Cond.methodLink "HyphenRows" 137 ⟨"HyphenRows", "isException", "(II)Z"⟩ ∈ gw := gw_t 194 (by decide +kernel) rfl
theorem q_196 : Cond.instanceMethod ⟨"HyphenRows", "isException", "(II)Z"⟩ ∈ gw := gw_t 196 (by decide +kernel) rfl
theorem q_197 : Cond.code ⟨"HyphenRows", "isException", "(II)Z"⟩ prog_1_method_19_code 5 (some .boolean) ∈ gw := gw_t 197 rfl rfl
theorem q_198 : Cond.methodLink "HyphenRowsLaw" 49 ⟨"HyphenRows", "drop", "(I)I"⟩ ∈ gw := gw_t 198 (by decide +kernel) rfl
theorem q_199 : Cond.instanceMethod ⟨"HyphenRows", "drop", "(I)I"⟩ ∈ gw := gw_t 199 (by decide +kernel) rfl
theorem q_200 : Cond.selects "HyphenRows" ⟨"HyphenRows", "drop", "(I)I"⟩ ⟨"HyphenRows", "drop", "(I)I"⟩ ∈ gw := gw_t 200 (by decide +kernel) rfl
theorem q_201 : Cond.code ⟨"HyphenRows", "drop", "(I)I"⟩ prog_1_method_22_code 4 (some .int) ∈ gw := gw_t 201 rfl rfl
theorem q_202 : Cond.methodLink "HyphenRowsLaw" 53 ⟨"HyphenRows", "run", "(I)I"⟩ ∈ gw := gw_t 202 (by decide +kernel) rfl
theorem q_203 : Cond.instanceMethod ⟨"HyphenRows", "run", "(I)I"⟩ ∈ gw := gw_t 203 (by decide +kernel) rfl
theorem q_204 : Cond.selects "HyphenRows" ⟨"HyphenRows", "run", "(I)I"⟩ ⟨"HyphenRows", "run", "(I)I"⟩ ∈ gw := gw_t 204 (by decide +kernel) rfl
theorem q_205 : Cond.code ⟨"HyphenRows", "run", "(I)I"⟩ prog_1_method_25_code 4 (some .int) ∈ gw := gw_t 205 rfl rfl
theorem q_206 : Cond.methodLink "HyphenRows" 162 ⟨"HyphenRows", "weigh", "(I)V"⟩ ∈ gw := gw_t 206 (by decide +kernel) rfl
theorem q_208 : Cond.instanceMethod ⟨"HyphenRows", "weigh", "(I)V"⟩ ∈ gw := gw_t 208 (by decide +kernel) rfl
theorem q_209 : Cond.code ⟨"HyphenRows", "weigh", "(I)V"⟩ prog_1_method_23_code 7 none ∈ gw := gw_t 209 rfl rfl
theorem q_210 : Cond.methodLink "HyphenRows" 149 ⟨"HyphenRows", "raise", "(III)V"⟩ ∈ gw := gw_t 210 (by decide +kernel) rfl
theorem q_212 : Cond.instanceMethod ⟨"HyphenRows", "raise", "(III)V"⟩ ∈ gw := gw_t 212 (by decide +kernel) rfl
theorem q_213 : Cond.code ⟨"HyphenRows", "raise", "(III)V"⟩ prog_1_method_24_code 5 none ∈ gw := gw_t 213 rfl rfl
theorem q_214 : Cond.methodLink "HyphenRows" 153 ⟨"java/lang/Math", "max", "(II)I"⟩ ∈ gw := gw_t 214 (by decide +kernel) rfl
theorem q_215 : Cond.static ⟨"java/lang/Math", "max", "(II)I"⟩ ∈ gw := gw_t 215 (by decide +kernel) rfl
theorem q_216 : Cond.code ⟨"java/lang/Math", "max", "(II)I"⟩ prog_5_method_65_code 2 (some .int) ∈ gw := gw_t 216 rfl rfl
theorem q_217 : Cond.methodLink "HyphenRowsLaw" 57 ⟨"HyphenRows", "at", "(I)I"⟩ ∈ gw := gw_t 217 (by decide +kernel) rfl
theorem q_218 : Cond.instanceMethod ⟨"HyphenRows", "at", "(I)I"⟩ ∈ gw := gw_t 218 (by decide +kernel) rfl
theorem q_219 : Cond.selects "HyphenRows" ⟨"HyphenRows", "at", "(I)I"⟩ ⟨"HyphenRows", "at", "(I)I"⟩ ∈ gw := gw_t 219 (by decide +kernel) rfl
theorem q_220 : Cond.code ⟨"HyphenRows", "at", "(I)I"⟩ prog_1_method_26_code 2 (some .int) ∈ gw := gw_t 220 rfl rfl
theorem q_221 : Cond.methodLink "HyphenRowsLaw" 61 ⟨"HyphenRows", "digit", "(II)I"⟩ ∈ gw := gw_t 221 (by decide +kernel) rfl
theorem q_222 : Cond.instanceMethod ⟨"HyphenRows", "digit", "(II)I"⟩ ∈ gw := gw_t 222 (by decide +kernel) rfl
theorem q_223 : Cond.selects "HyphenRows" ⟨"HyphenRows", "digit", "(II)I"⟩ ⟨"HyphenRows", "digit", "(II)I"⟩ ∈ gw := gw_t 223 (by decide +kernel) rfl
theorem q_224 : Cond.code ⟨"HyphenRows", "digit", "(II)I"⟩ prog_1_method_27_code 3 (some .int) ∈ gw := gw_t 224 rfl rfl
theorem q_225 : Cond.methodLink "HyphenRowsLaw" 65 ⟨"HyphenRows", "patterns", "()I"⟩ ∈ gw := gw_t 225 (by decide +kernel) rfl
theorem q_226 : Cond.instanceMethod ⟨"HyphenRows", "patterns", "()I"⟩ ∈ gw := gw_t 226 (by decide +kernel) rfl
theorem q_227 : Cond.selects "HyphenRows" ⟨"HyphenRows", "patterns", "()I"⟩ ⟨"HyphenRows", "patterns", "()I"⟩ ∈ gw := gw_t 227 (by decide +kernel) rfl
theorem q_228 : Cond.code ⟨"HyphenRows", "patterns", "()I"⟩ prog_1_method_28_code 1 (some .int) ∈ gw := gw_t 228 rfl rfl
theorem q_229 : Cond.methodLink "HyphenRowsLaw" 69 ⟨"HyphenRows", "exceptions", "()I"⟩ ∈ gw := gw_t 229 (by decide +kernel) rfl
theorem q_230 : Cond.instanceMethod ⟨"HyphenRows", "exceptions", "()I"⟩ ∈ gw := gw_t 230 (by decide +kernel) rfl
theorem q_231 : Cond.selects "HyphenRows" ⟨"HyphenRows", "exceptions", "()I"⟩ ⟨"HyphenRows", "exceptions", "()I"⟩ ∈ gw := gw_t 231 (by decide +kernel) rfl
theorem q_232 : Cond.code ⟨"HyphenRows", "exceptions", "()I"⟩ prog_1_method_29_code 1 (some .int) ∈ gw := gw_t 232 rfl rfl
theorem q_233 : Cond.classLink "HyphenRowsLaw" 10 "HyphenRowsModel" ∈ gw := gw_t 233 (by decide +kernel) rfl
theorem q_234 : Cond.instantiable "HyphenRowsModel" 25 ∈ gw := gw_t 234 (by decide +kernel) rfl
theorem q_235 : Cond.methodLink "HyphenRowsLaw" 12 ⟨"HyphenRowsModel", "<init>", "()V"⟩ ∈ gw := gw_t 235 (by decide +kernel) rfl
theorem q_236 : Cond.instanceMethod ⟨"HyphenRowsModel", "<init>", "()V"⟩ ∈ gw := gw_t 236 (by decide +kernel) rfl
theorem q_237 : Cond.code ⟨"HyphenRowsModel", "<init>", "()V"⟩ prog_4_method_1_code 1 none ∈ gw := gw_t 237 rfl rfl
theorem q_238 : Cond.methodLink "HyphenRowsModel" 1 ⟨"java/lang/Object", "<init>", "()V"⟩ ∈ gw := gw_t 238 (by decide +kernel) rfl
theorem q_239 : Cond.fieldLink "HyphenRowsModel" 65 "HyphenRowsModel" "languages" "I" ∈ gw := gw_t 239 (by decide +kernel) rfl
theorem q_240 : Cond.fieldLink "HyphenRowsModel" 7 "HyphenRowsModel" "letters" "[I" ∈ gw := gw_t 240 (by decide +kernel) rfl
theorem q_241 : Cond.fieldLink "HyphenRowsModel" 13 "HyphenRowsModel" "capital" "[Z" ∈ gw := gw_t 241 (by decide +kernel) rfl
theorem q_242 : Cond.fieldLink "HyphenRowsModel" 17 "HyphenRowsModel" "left" "[I" ∈ gw := gw_t 242 (by decide +kernel) rfl
theorem q_243 : Cond.fieldLink "HyphenRowsModel" 20 "HyphenRowsModel" "right" "[I" ∈ gw := gw_t 243 (by decide +kernel) rfl
theorem q_244 : Cond.fieldLink "HyphenRowsModel" 23 "HyphenRowsModel" "whole" "[Z" ∈ gw := gw_t 244 (by decide +kernel) rfl
theorem q_245 : Cond.fieldLink "HyphenRowsModel" 77 "HyphenRowsModel" "making" "I" ∈ gw := gw_t 245 (by decide +kernel) rfl
theorem q_246 : Cond.fieldLink "HyphenRowsModel" 26 "HyphenRowsModel" "row" "[I" ∈ gw := gw_t 246 (by decide +kernel) rfl
theorem q_247 : Cond.fieldLink "HyphenRowsModel" 29 "HyphenRowsModel" "before" "[I" ∈ gw := gw_t 247 (by decide +kernel) rfl
theorem q_248 : Cond.fieldLink "HyphenRowsModel" 80 "HyphenRowsModel" "patterns" "I" ∈ gw := gw_t 248 (by decide +kernel) rfl
theorem q_249 : Cond.fieldLink "HyphenRowsModel" 91 "HyphenRowsModel" "together" "I" ∈ gw := gw_t 249 (by decide +kernel) rfl
theorem q_250 : Cond.fieldLink "HyphenRowsModel" 32 "HyphenRowsModel" "owner" "[I" ∈ gw := gw_t 250 (by decide +kernel) rfl
theorem q_251 : Cond.fieldLink "HyphenRowsModel" 35 "HyphenRowsModel" "size" "[I" ∈ gw := gw_t 251 (by decide +kernel) rfl
theorem q_252 : Cond.fieldLink "HyphenRowsModel" 38 "HyphenRowsModel" "rows" "[I" ∈ gw := gw_t 252 (by decide +kernel) rfl
theorem q_253 : Cond.fieldLink "HyphenRowsModel" 41 "HyphenRowsModel" "digits" "[I" ∈ gw := gw_t 253 (by decide +kernel) rfl
theorem q_254 : Cond.fieldLink "HyphenRowsModel" 97 "HyphenRowsModel" "exceptions" "I" ∈ gw := gw_t 254 (by decide +kernel) rfl
theorem q_255 : Cond.fieldLink "HyphenRowsModel" 44 "HyphenRowsModel" "exceptionOwner" "[I" ∈ gw := gw_t 255 (by decide +kernel) rfl
theorem q_256 : Cond.fieldLink "HyphenRowsModel" 47 "HyphenRowsModel" "exceptionSize" "[I" ∈ gw := gw_t 256 (by decide +kernel) rfl
theorem q_257 : Cond.fieldLink "HyphenRowsModel" 50 "HyphenRowsModel" "exceptionRows" "[I" ∈ gw := gw_t 257 (by decide +kernel) rfl
theorem q_258 : Cond.fieldLink "HyphenRowsModel" 53 "HyphenRowsModel" "exceptionPlaces" "[I" ∈ gw := gw_t 258 (by decide +kernel) rfl
theorem q_259 : Cond.fieldLink "HyphenRowsModel" 94 "HyphenRowsModel" "signs" "I" ∈ gw := gw_t 259 (by decide +kernel) rfl
theorem q_260 : Cond.fieldLink "HyphenRowsModel" 56 "HyphenRowsModel" "word" "[I" ∈ gw := gw_t 260 (by decide +kernel) rfl
theorem q_261 : Cond.fieldLink "HyphenRowsModel" 59 "HyphenRowsModel" "edged" "[I" ∈ gw := gw_t 261 (by decide +kernel) rfl
theorem q_262 : Cond.fieldLink "HyphenRowsModel" 110 "HyphenRowsModel" "places" "I" ∈ gw := gw_t 262 (by decide +kernel) rfl
theorem q_263 : Cond.fieldLink "HyphenRowsModel" 62 "HyphenRowsModel" "place" "[I" ∈ gw := gw_t 263 (by decide +kernel) rfl
theorem q_315 : Cond.methodLink "HyphenRowsLaw" 17 ⟨"HyphenRowsModel", "language", "()I"⟩ ∈ gw := gw_t 315 (by decide +kernel) rfl
theorem q_316 : Cond.instanceMethod ⟨"HyphenRowsModel", "language", "()I"⟩ ∈ gw := gw_t 316 (by decide +kernel) rfl
theorem q_317 : Cond.selects "HyphenRowsModel" ⟨"HyphenRowsModel", "language", "()I"⟩ ⟨"HyphenRowsModel", "language", "()I"⟩ ∈ gw := gw_t 317 (by decide +kernel) rfl
theorem q_318 : Cond.code ⟨"HyphenRowsModel", "language", "()I"⟩ prog_4_method_4_code 1 (some .int) ∈ gw := gw_t 318 rfl rfl
theorem q_319 : Cond.methodLink "HyphenRowsLaw" 22 ⟨"HyphenRowsModel", "code", "(IIIZ)I"⟩ ∈ gw := gw_t 319 (by decide +kernel) rfl
theorem q_320 : Cond.instanceMethod ⟨"HyphenRowsModel", "code", "(IIIZ)I"⟩ ∈ gw := gw_t 320 (by decide +kernel) rfl
theorem q_321 : Cond.selects "HyphenRowsModel" ⟨"HyphenRowsModel", "code", "(IIIZ)I"⟩ ⟨"HyphenRowsModel", "code", "(IIIZ)I"⟩ ∈ gw := gw_t 321 (by decide +kernel) rfl
theorem q_322 : Cond.code ⟨"HyphenRowsModel", "code", "(IIIZ)I"⟩ prog_4_method_5_code 5 (some .int) ∈ gw := gw_t 322 rfl rfl
theorem q_323 : Cond.methodLink "HyphenRowsModel" 69 ⟨"HyphenRowsModel", "isLanguage", "(I)Z"⟩ ∈ gw := gw_t 323 (by decide +kernel) rfl
theorem q_325 : Cond.instanceMethod ⟨"HyphenRowsModel", "isLanguage", "(I)Z"⟩ ∈ gw := gw_t 325 (by decide +kernel) rfl
theorem q_326 : Cond.code ⟨"HyphenRowsModel", "isLanguage", "(I)Z"⟩ prog_4_method_2_code 2 (some .boolean) ∈ gw := gw_t 326 rfl rfl
theorem q_327 : Cond.methodLink "HyphenRowsModel" 73 ⟨"HyphenRowsModel", "in", "(III)Z"⟩ ∈ gw := gw_t 327 (by decide +kernel) rfl
theorem q_328 : Cond.static ⟨"HyphenRowsModel", "in", "(III)Z"⟩ ∈ gw := gw_t 328 (by decide +kernel) rfl
theorem q_329 : Cond.code ⟨"HyphenRowsModel", "in", "(III)Z"⟩ prog_4_method_3_code 3 (some .boolean) ∈ gw := gw_t 329 rfl rfl
theorem q_330 : Cond.methodLink "HyphenRowsLaw" 26 ⟨"HyphenRowsModel", "ends", "(IIIZ)I"⟩ ∈ gw := gw_t 330 (by decide +kernel) rfl
theorem q_331 : Cond.instanceMethod ⟨"HyphenRowsModel", "ends", "(IIIZ)I"⟩ ∈ gw := gw_t 331 (by decide +kernel) rfl
theorem q_332 : Cond.selects "HyphenRowsModel" ⟨"HyphenRowsModel", "ends", "(IIIZ)I"⟩ ⟨"HyphenRowsModel", "ends", "(IIIZ)I"⟩ ∈ gw := gw_t 332 (by decide +kernel) rfl
theorem q_333 : Cond.code ⟨"HyphenRowsModel", "ends", "(IIIZ)I"⟩ prog_4_method_6_code 5 (some .int) ∈ gw := gw_t 333 rfl rfl
theorem q_334 : Cond.methodLink "HyphenRowsLaw" 31 ⟨"HyphenRowsModel", "next", "(II)I"⟩ ∈ gw := gw_t 334 (by decide +kernel) rfl
theorem q_335 : Cond.instanceMethod ⟨"HyphenRowsModel", "next", "(II)I"⟩ ∈ gw := gw_t 335 (by decide +kernel) rfl
theorem q_336 : Cond.selects "HyphenRowsModel" ⟨"HyphenRowsModel", "next", "(II)I"⟩ ⟨"HyphenRowsModel", "next", "(II)I"⟩ ∈ gw := gw_t 336 (by decide +kernel) rfl
theorem q_337 : Cond.code ⟨"HyphenRowsModel", "next", "(II)I"⟩ prog_4_method_7_code 3 (some .int) ∈ gw := gw_t 337 rfl rfl
theorem q_338 : Cond.methodLink "HyphenRowsLaw" 35 ⟨"HyphenRowsModel", "pattern", "(II)I"⟩ ∈ gw := gw_t 338 (by decide +kernel) rfl
theorem q_339 : Cond.instanceMethod ⟨"HyphenRowsModel", "pattern", "(II)I"⟩ ∈ gw := gw_t 339 (by decide +kernel) rfl
theorem q_340 : Cond.selects "HyphenRowsModel" ⟨"HyphenRowsModel", "pattern", "(II)I"⟩ ⟨"HyphenRowsModel", "pattern", "(II)I"⟩ ∈ gw := gw_t 340 (by decide +kernel) rfl
theorem q_341 : Cond.code ⟨"HyphenRowsModel", "pattern", "(II)I"⟩ prog_4_method_10_code 7 (some .int) ∈ gw := gw_t 341 rfl rfl
theorem q_342 : Cond.methodLink "HyphenRowsModel" 83 ⟨"HyphenRowsModel", "isSame", "(II)Z"⟩ ∈ gw := gw_t 342 (by decide +kernel) rfl
theorem q_344 : Cond.instanceMethod ⟨"HyphenRowsModel", "isSame", "(II)Z"⟩ ∈ gw := gw_t 344 (by decide +kernel) rfl
theorem q_345 : Cond.code ⟨"HyphenRowsModel", "isSame", "(II)Z"⟩ prog_4_method_9_code 5 (some .boolean) ∈ gw := gw_t 345 rfl rfl
theorem q_346 : Cond.methodLink "HyphenRowsModel" 87 ⟨"HyphenRowsModel", "isPattern", "()Z"⟩ ∈ gw := gw_t 346 (by decide +kernel) rfl
theorem q_348 : Cond.instanceMethod ⟨"HyphenRowsModel", "isPattern", "()Z"⟩ ∈ gw := gw_t 348 (by decide +kernel) rfl
theorem q_349 : Cond.code ⟨"HyphenRowsModel", "isPattern", "()Z"⟩ prog_4_method_8_code 4 (some .boolean) ∈ gw := gw_t 349 rfl rfl
theorem q_350 : Cond.methodLink "HyphenRowsLaw" 40 ⟨"HyphenRowsModel", "sign", "(I)I"⟩ ∈ gw := gw_t 350 (by decide +kernel) rfl
theorem q_351 : Cond.instanceMethod ⟨"HyphenRowsModel", "sign", "(I)I"⟩ ∈ gw := gw_t 351 (by decide +kernel) rfl
theorem q_352 : Cond.selects "HyphenRowsModel" ⟨"HyphenRowsModel", "sign", "(I)I"⟩ ⟨"HyphenRowsModel", "sign", "(I)I"⟩ ∈ gw := gw_t 352 (by decide +kernel) rfl
theorem q_353 : Cond.code ⟨"HyphenRowsModel", "sign", "(I)I"⟩ prog_4_method_11_code 2 (some .int) ∈ gw := gw_t 353 rfl rfl
theorem q_354 : Cond.methodLink "HyphenRowsLaw" 44 ⟨"HyphenRowsModel", "clear", "()I"⟩ ∈ gw := gw_t 354 (by decide +kernel) rfl
theorem q_355 : Cond.instanceMethod ⟨"HyphenRowsModel", "clear", "()I"⟩ ∈ gw := gw_t 355 (by decide +kernel) rfl
theorem q_356 : Cond.selects "HyphenRowsModel" ⟨"HyphenRowsModel", "clear", "()I"⟩ ⟨"HyphenRowsModel", "clear", "()I"⟩ ∈ gw := gw_t 356 (by decide +kernel) rfl
theorem q_357 : Cond.code ⟨"HyphenRowsModel", "clear", "()I"⟩ prog_4_method_12_code 2 (some .int) ∈ gw := gw_t 357 rfl rfl
theorem q_358 : Cond.methodLink "HyphenRowsLaw" 48 ⟨"HyphenRowsModel", "exception", "(II)I"⟩ ∈ gw := gw_t 358 (by decide +kernel) rfl
theorem q_359 : Cond.instanceMethod ⟨"HyphenRowsModel", "exception", "(II)I"⟩ ∈ gw := gw_t 359 (by decide +kernel) rfl
theorem q_360 : Cond.selects "HyphenRowsModel" ⟨"HyphenRowsModel", "exception", "(II)I"⟩ ⟨"HyphenRowsModel", "exception", "(II)I"⟩ ∈ gw := gw_t 360 (by decide +kernel) rfl
theorem q_361 : Cond.code ⟨"HyphenRowsModel", "exception", "(II)I"⟩ prog_4_method_15_code 5 (some .int) ∈ gw := gw_t 361 rfl rfl
theorem q_362 : Cond.methodLink "HyphenRowsModel" 100 ⟨"HyphenRowsModel", "spell", "(I)Z"⟩ ∈ gw := gw_t 362 (by decide +kernel) rfl
theorem q_364 : Cond.instanceMethod ⟨"HyphenRowsModel", "spell", "(I)Z"⟩ ∈ gw := gw_t 364 (by decide +kernel) rfl
theorem q_365 : Cond.code ⟨"HyphenRowsModel", "spell", "(I)Z"⟩ prog_4_method_13_code 4 (some .boolean) ∈ gw := gw_t 365 rfl rfl
theorem q_366 : Cond.methodLink "HyphenRowsModel" 103 ⟨"HyphenRowsModel", "exceptionOf", "(I)I"⟩ ∈ gw := gw_t 366 (by decide +kernel) rfl
theorem q_368 : Cond.instanceMethod ⟨"HyphenRowsModel", "exceptionOf", "(I)I"⟩ ∈ gw := gw_t 368 (by decide +kernel) rfl
theorem q_369 : Cond.code ⟨"HyphenRowsModel", "exceptionOf", "(I)I"⟩ prog_4_method_14_code 5 (some .int) ∈ gw := gw_t 369 rfl rfl
theorem q_370 : Cond.methodLink "HyphenRowsLaw" 52 ⟨"HyphenRowsModel", "drop", "(I)I"⟩ ∈ gw := gw_t 370 (by decide +kernel) rfl
theorem q_371 : Cond.instanceMethod ⟨"HyphenRowsModel", "drop", "(I)I"⟩ ∈ gw := gw_t 371 (by decide +kernel) rfl
theorem q_372 : Cond.selects "HyphenRowsModel" ⟨"HyphenRowsModel", "drop", "(I)I"⟩ ⟨"HyphenRowsModel", "drop", "(I)I"⟩ ∈ gw := gw_t 372 (by decide +kernel) rfl
theorem q_373 : Cond.code ⟨"HyphenRowsModel", "drop", "(I)I"⟩ prog_4_method_16_code 4 (some .int) ∈ gw := gw_t 373 rfl rfl
theorem q_374 : Cond.methodLink "HyphenRowsLaw" 56 ⟨"HyphenRowsModel", "run", "(I)I"⟩ ∈ gw := gw_t 374 (by decide +kernel) rfl
theorem q_375 : Cond.instanceMethod ⟨"HyphenRowsModel", "run", "(I)I"⟩ ∈ gw := gw_t 375 (by decide +kernel) rfl
theorem q_376 : Cond.selects "HyphenRowsModel" ⟨"HyphenRowsModel", "run", "(I)I"⟩ ⟨"HyphenRowsModel", "run", "(I)I"⟩ ∈ gw := gw_t 376 (by decide +kernel) rfl
theorem q_377 : Cond.code ⟨"HyphenRowsModel", "run", "(I)I"⟩ prog_4_method_19_code 7 (some .int) ∈ gw := gw_t 377 rfl rfl
theorem q_378 : Cond.methodLink "HyphenRowsModel" 113 ⟨"HyphenRowsModel", "digitOf", "(II)I"⟩ ∈ gw := gw_t 378 (by decide +kernel) rfl
theorem q_380 : Cond.instanceMethod ⟨"HyphenRowsModel", "digitOf", "(II)I"⟩ ∈ gw := gw_t 380 (by decide +kernel) rfl
theorem q_381 : Cond.code ⟨"HyphenRowsModel", "digitOf", "(II)I"⟩ prog_4_method_18_code 7 (some .int) ∈ gw := gw_t 381 rfl rfl
theorem q_382 : Cond.methodLink "HyphenRowsModel" 107 ⟨"HyphenRowsModel", "stands", "(II)Z"⟩ ∈ gw := gw_t 382 (by decide +kernel) rfl
theorem q_384 : Cond.instanceMethod ⟨"HyphenRowsModel", "stands", "(II)Z"⟩ ∈ gw := gw_t 384 (by decide +kernel) rfl
theorem q_385 : Cond.code ⟨"HyphenRowsModel", "stands", "(II)Z"⟩ prog_4_method_17_code 5 (some .boolean) ∈ gw := gw_t 385 rfl rfl
theorem q_386 : Cond.methodLink "HyphenRowsLaw" 60 ⟨"HyphenRowsModel", "at", "(I)I"⟩ ∈ gw := gw_t 386 (by decide +kernel) rfl
theorem q_387 : Cond.instanceMethod ⟨"HyphenRowsModel", "at", "(I)I"⟩ ∈ gw := gw_t 387 (by decide +kernel) rfl
theorem q_388 : Cond.selects "HyphenRowsModel" ⟨"HyphenRowsModel", "at", "(I)I"⟩ ⟨"HyphenRowsModel", "at", "(I)I"⟩ ∈ gw := gw_t 388 (by decide +kernel) rfl
theorem q_389 : Cond.code ⟨"HyphenRowsModel", "at", "(I)I"⟩ prog_4_method_20_code 2 (some .int) ∈ gw := gw_t 389 rfl rfl
theorem q_390 : Cond.methodLink "HyphenRowsLaw" 64 ⟨"HyphenRowsModel", "digit", "(II)I"⟩ ∈ gw := gw_t 390 (by decide +kernel) rfl
theorem q_391 : Cond.instanceMethod ⟨"HyphenRowsModel", "digit", "(II)I"⟩ ∈ gw := gw_t 391 (by decide +kernel) rfl
theorem q_392 : Cond.selects "HyphenRowsModel" ⟨"HyphenRowsModel", "digit", "(II)I"⟩ ⟨"HyphenRowsModel", "digit", "(II)I"⟩ ∈ gw := gw_t 392 (by decide +kernel) rfl
theorem q_393 : Cond.code ⟨"HyphenRowsModel", "digit", "(II)I"⟩ prog_4_method_21_code 3 (some .int) ∈ gw := gw_t 393 rfl rfl
theorem q_394 : Cond.methodLink "HyphenRowsLaw" 68 ⟨"HyphenRowsModel", "patterns", "()I"⟩ ∈ gw := gw_t 394 (by decide +kernel) rfl
theorem q_395 : Cond.instanceMethod ⟨"HyphenRowsModel", "patterns", "()I"⟩ ∈ gw := gw_t 395 (by decide +kernel) rfl
theorem q_396 : Cond.selects "HyphenRowsModel" ⟨"HyphenRowsModel", "patterns", "()I"⟩ ⟨"HyphenRowsModel", "patterns", "()I"⟩ ∈ gw := gw_t 396 (by decide +kernel) rfl
theorem q_397 : Cond.code ⟨"HyphenRowsModel", "patterns", "()I"⟩ prog_4_method_22_code 1 (some .int) ∈ gw := gw_t 397 rfl rfl
theorem q_398 : Cond.methodLink "HyphenRowsLaw" 72 ⟨"HyphenRowsModel", "exceptions", "()I"⟩ ∈ gw := gw_t 398 (by decide +kernel) rfl
theorem q_399 : Cond.instanceMethod ⟨"HyphenRowsModel", "exceptions", "()I"⟩ ∈ gw := gw_t 399 (by decide +kernel) rfl
theorem q_400 : Cond.selects "HyphenRowsModel" ⟨"HyphenRowsModel", "exceptions", "()I"⟩ ⟨"HyphenRowsModel", "exceptions", "()I"⟩ ∈ gw := gw_t 400 (by decide +kernel) rfl
theorem q_401 : Cond.code ⟨"HyphenRowsModel", "exceptions", "()I"⟩ prog_4_method_23_code 1 (some .int) ∈ gw := gw_t 401 rfl rfl
theorem qs_0 : Cond.selects "HyphenRows" ⟨"HyphenRows", "isLanguage", "(I)Z"⟩ ⟨"HyphenRows", "isLanguage", "(I)Z"⟩ ∈ gw := gw_s 0 (by decide +kernel) rfl
theorem qs_1 : Cond.selects "HyphenRows" ⟨"HyphenRows", "isPattern", "()Z"⟩ ⟨"HyphenRows", "isPattern", "()Z"⟩ ∈ gw := gw_s 1 (by decide +kernel) rfl
theorem qs_2 : Cond.selects "HyphenRows" ⟨"HyphenRows", "put", "(LHyphenRows$Language;I)I"⟩ ⟨"HyphenRows", "put", "(LHyphenRows$Language;I)I"⟩ ∈ gw := gw_s 2 (by decide +kernel) rfl
theorem qs_3 : Cond.selects "HyphenRows" ⟨"HyphenRows", "endOf", "(LHyphenRows$Language;)I"⟩ ⟨"HyphenRows", "endOf", "(LHyphenRows$Language;)I"⟩ ∈ gw := gw_s 3 (by decide +kernel) rfl
theorem qs_4 : Cond.selects "HyphenRows" ⟨"HyphenRows", "under", "(LHyphenRows$Language;II)I"⟩ ⟨"HyphenRows", "under", "(LHyphenRows$Language;II)I"⟩ ∈ gw := gw_s 4 (by decide +kernel) rfl
theorem qs_5 : Cond.selects "HyphenRows" ⟨"HyphenRows", "grow", "(LHyphenRows$Language;)I"⟩ ⟨"HyphenRows", "grow", "(LHyphenRows$Language;)I"⟩ ∈ gw := gw_s 5 (by decide +kernel) rfl
theorem qs_6 : Cond.selects "HyphenRows" ⟨"HyphenRows", "made", "(LHyphenRows$Language;II)I"⟩ ⟨"HyphenRows", "made", "(LHyphenRows$Language;II)I"⟩ ∈ gw := gw_s 6 (by decide +kernel) rfl
theorem qs_7 : Cond.selects "HyphenRows" ⟨"HyphenRows", "spell", "(LHyphenRows$Language;)Z"⟩ ⟨"HyphenRows", "spell", "(LHyphenRows$Language;)Z"⟩ ∈ gw := gw_s 7 (by decide +kernel) rfl
theorem qs_8 : Cond.selects "HyphenRows" ⟨"HyphenRows", "find", "(I)I"⟩ ⟨"HyphenRows", "find", "(I)I"⟩ ∈ gw := gw_s 8 (by decide +kernel) rfl
theorem qs_9 : Cond.selects "HyphenRows" ⟨"HyphenRows", "isException", "(II)Z"⟩ ⟨"HyphenRows", "isException", "(II)Z"⟩ ∈ gw := gw_s 9 (by decide +kernel) rfl
theorem qs_10 : Cond.selects "HyphenRows" ⟨"HyphenRows", "weigh", "(I)V"⟩ ⟨"HyphenRows", "weigh", "(I)V"⟩ ∈ gw := gw_s 10 (by decide +kernel) rfl
theorem qs_11 : Cond.selects "HyphenRows" ⟨"HyphenRows", "raise", "(III)V"⟩ ⟨"HyphenRows", "raise", "(III)V"⟩ ∈ gw := gw_s 11 (by decide +kernel) rfl
theorem qs_12 : Cond.selects "HyphenRowsModel" ⟨"HyphenRowsModel", "isLanguage", "(I)Z"⟩ ⟨"HyphenRowsModel", "isLanguage", "(I)Z"⟩ ∈ gw := gw_s 12 (by decide +kernel) rfl
theorem qs_13 : Cond.selects "HyphenRowsModel" ⟨"HyphenRowsModel", "isSame", "(II)Z"⟩ ⟨"HyphenRowsModel", "isSame", "(II)Z"⟩ ∈ gw := gw_s 13 (by decide +kernel) rfl
theorem qs_14 : Cond.selects "HyphenRowsModel" ⟨"HyphenRowsModel", "isPattern", "()Z"⟩ ⟨"HyphenRowsModel", "isPattern", "()Z"⟩ ∈ gw := gw_s 14 (by decide +kernel) rfl
theorem qs_15 : Cond.selects "HyphenRowsModel" ⟨"HyphenRowsModel", "spell", "(I)Z"⟩ ⟨"HyphenRowsModel", "spell", "(I)Z"⟩ ∈ gw := gw_s 15 (by decide +kernel) rfl
theorem qs_16 : Cond.selects "HyphenRowsModel" ⟨"HyphenRowsModel", "exceptionOf", "(I)I"⟩ ⟨"HyphenRowsModel", "exceptionOf", "(I)I"⟩ ∈ gw := gw_s 16 (by decide +kernel) rfl
theorem qs_17 : Cond.selects "HyphenRowsModel" ⟨"HyphenRowsModel", "digitOf", "(II)I"⟩ ⟨"HyphenRowsModel", "digitOf", "(II)I"⟩ ∈ gw := gw_s 17 (by decide +kernel) rfl
theorem qs_18 : Cond.selects "HyphenRowsModel" ⟨"HyphenRowsModel", "stands", "(II)Z"⟩ ⟨"HyphenRowsModel", "stands", "(II)Z"⟩ ∈ gw := gw_s 18 (by decide +kernel) rfl
end
section
-- what each instruction of HyphenRows and its Language is
theorem d_X_init_0 : decode b_X_init 0 = .ok (.aload_n 0, 1) := by decide +kernel
theorem d_X_init_1 : decode b_X_init 1 = .ok (.invokespecial 1, 3) := by decide +kernel
theorem d_X_init_4 : decode b_X_init 4 = .ok (.aload_n 0, 1) := by decide +kernel
theorem d_X_init_5 : decode b_X_init 5 = .ok (.iconst 4, 1) := by decide +kernel
theorem d_X_init_6 : decode b_X_init 6 = .ok (.anewarray 9, 3) := by decide +kernel
theorem d_X_init_9 : decode b_X_init 9 = .ok (.putfield 11, 3) := by decide +kernel
theorem d_X_init_12 : decode b_X_init 12 = .ok (.aload_n 0, 1) := by decide +kernel
theorem d_X_init_13 : decode b_X_init 13 = .ok (.sipush 900, 3) := by decide +kernel
theorem d_X_init_16 : decode b_X_init 16 = .ok (.newarray .int, 2) := by decide +kernel
theorem d_X_init_18 : decode b_X_init 18 = .ok (.putfield 15, 3) := by decide +kernel
theorem d_X_init_21 : decode b_X_init 21 = .ok (.aload_n 0, 1) := by decide +kernel
theorem d_X_init_22 : decode b_X_init 22 = .ok (.sipush 900, 3) := by decide +kernel
theorem d_X_init_25 : decode b_X_init 25 = .ok (.newarray .int, 2) := by decide +kernel
theorem d_X_init_27 : decode b_X_init 27 = .ok (.putfield 19, 3) := by decide +kernel
theorem d_X_init_30 : decode b_X_init 30 = .ok (.aload_n 0, 1) := by decide +kernel
theorem d_X_init_31 : decode b_X_init 31 = .ok (.sipush 900, 3) := by decide +kernel
theorem d_X_init_34 : decode b_X_init 34 = .ok (.newarray .int, 2) := by decide +kernel
theorem d_X_init_36 : decode b_X_init 36 = .ok (.putfield 22, 3) := by decide +kernel
theorem d_X_init_39 : decode b_X_init 39 = .ok (.aload_n 0, 1) := by decide +kernel
theorem d_X_init_40 : decode b_X_init 40 = .ok (.sipush 900, 3) := by decide +kernel
theorem d_X_init_43 : decode b_X_init 43 = .ok (.newarray .int, 2) := by decide +kernel
theorem d_X_init_45 : decode b_X_init 45 = .ok (.putfield 25, 3) := by decide +kernel
theorem d_X_init_48 : decode b_X_init 48 = .ok (.aload_n 0, 1) := by decide +kernel
theorem d_X_init_49 : decode b_X_init 49 = .ok (.sipush 1950, 3) := by decide +kernel
theorem d_X_init_52 : decode b_X_init 52 = .ok (.newarray .byte, 2) := by decide +kernel
theorem d_X_init_54 : decode b_X_init 54 = .ok (.putfield 28, 3) := by decide +kernel
theorem d_X_init_57 : decode b_X_init 57 = .ok (.aload_n 0, 1) := by decide +kernel
theorem d_X_init_58 : decode b_X_init 58 = .ok (.bipush 12, 2) := by decide +kernel
theorem d_X_init_60 : decode b_X_init 60 = .ok (.newarray .int, 2) := by decide +kernel
theorem d_X_init_62 : decode b_X_init 62 = .ok (.putfield 32, 3) := by decide +kernel
theorem d_X_init_65 : decode b_X_init 65 = .ok (.aload_n 0, 1) := by decide +kernel
theorem d_X_init_66 : decode b_X_init 66 = .ok (.bipush 12, 2) := by decide +kernel
theorem d_X_init_68 : decode b_X_init 68 = .ok (.newarray .int, 2) := by decide +kernel
theorem d_X_init_70 : decode b_X_init 70 = .ok (.putfield 35, 3) := by decide +kernel
theorem d_X_init_73 : decode b_X_init 73 = .ok (.aload_n 0, 1) := by decide +kernel
theorem d_X_init_74 : decode b_X_init 74 = .ok (.bipush 30, 2) := by decide +kernel
theorem d_X_init_76 : decode b_X_init 76 = .ok (.newarray .int, 2) := by decide +kernel
theorem d_X_init_78 : decode b_X_init 78 = .ok (.putfield 38, 3) := by decide +kernel
theorem d_X_init_81 : decode b_X_init 81 = .ok (.aload_n 0, 1) := by decide +kernel
theorem d_X_init_82 : decode b_X_init 82 = .ok (.bipush 40, 2) := by decide +kernel
theorem d_X_init_84 : decode b_X_init 84 = .ok (.newarray .int, 2) := by decide +kernel
theorem d_X_init_86 : decode b_X_init 86 = .ok (.putfield 41, 3) := by decide +kernel
theorem d_X_init_89 : decode b_X_init 89 = .ok (.aload_n 0, 1) := by decide +kernel
theorem d_X_init_90 : decode b_X_init 90 = .ok (.sipush 1200, 3) := by decide +kernel
theorem d_X_init_93 : decode b_X_init 93 = .ok (.newarray .byte, 2) := by decide +kernel
theorem d_X_init_95 : decode b_X_init 95 = .ok (.putfield 44, 3) := by decide +kernel
theorem d_X_init_98 : decode b_X_init 98 = .ok (.aload_n 0, 1) := by decide +kernel
theorem d_X_init_99 : decode b_X_init 99 = .ok (.bipush 40, 2) := by decide +kernel
theorem d_X_init_101 : decode b_X_init 101 = .ok (.newarray .int, 2) := by decide +kernel
theorem d_X_init_103 : decode b_X_init 103 = .ok (.putfield 47, 3) := by decide +kernel
theorem d_X_init_106 : decode b_X_init 106 = .ok (.aload_n 0, 1) := by decide +kernel
theorem d_X_init_107 : decode b_X_init 107 = .ok (.bipush 40, 2) := by decide +kernel
theorem d_X_init_109 : decode b_X_init 109 = .ok (.newarray .int, 2) := by decide +kernel
theorem d_X_init_111 : decode b_X_init 111 = .ok (.putfield 50, 3) := by decide +kernel
theorem d_X_init_114 : decode b_X_init 114 = .ok (.aload_n 0, 1) := by decide +kernel
theorem d_X_init_115 : decode b_X_init 115 = .ok (.bipush 32, 2) := by decide +kernel
theorem d_X_init_117 : decode b_X_init 117 = .ok (.newarray .int, 2) := by decide +kernel
theorem d_X_init_119 : decode b_X_init 119 = .ok (.putfield 53, 3) := by decide +kernel
theorem d_X_init_122 : decode b_X_init 122 = .ok (.aload_n 0, 1) := by decide +kernel
theorem d_X_init_123 : decode b_X_init 123 = .ok (.bipush 33, 2) := by decide +kernel
theorem d_X_init_125 : decode b_X_init 125 = .ok (.newarray .int, 2) := by decide +kernel
theorem d_X_init_127 : decode b_X_init 127 = .ok (.putfield 56, 3) := by decide +kernel
theorem d_X_init_130 : decode b_X_init 130 = .ok (.aload_n 0, 1) := by decide +kernel
theorem d_X_init_131 : decode b_X_init 131 = .ok (.bipush 30, 2) := by decide +kernel
theorem d_X_init_133 : decode b_X_init 133 = .ok (.newarray .int, 2) := by decide +kernel
theorem d_X_init_135 : decode b_X_init 135 = .ok (.putfield 59, 3) := by decide +kernel
theorem d_X_init_138 : decode b_X_init 138 = .ok (.return_, 1) := by decide +kernel
theorem d_X_language_0 : decode b_X_language 0 = .ok (.aload_n 0, 1) := by decide +kernel
theorem d_X_language_1 : decode b_X_language 1 = .ok (.getfield 62, 3) := by decide +kernel
theorem d_X_language_4 : decode b_X_language 4 = .ok (.iconst 4, 1) := by decide +kernel
theorem d_X_language_5 : decode b_X_language 5 = .ok (.if_icmp .ne 6, 3) := by decide +kernel
theorem d_X_language_8 : decode b_X_language 8 = .ok (.bipush (-2), 2) := by decide +kernel
theorem d_X_language_10 : decode b_X_language 10 = .ok (.ireturn, 1) := by decide +kernel
theorem d_X_language_11 : decode b_X_language 11 = .ok (.aload_n 0, 1) := by decide +kernel
theorem d_X_language_12 : decode b_X_language 12 = .ok (.getfield 11, 3) := by decide +kernel
theorem d_X_language_15 : decode b_X_language 15 = .ok (.aload_n 0, 1) := by decide +kernel
theorem d_X_language_16 : decode b_X_language 16 = .ok (.getfield 62, 3) := by decide +kernel
theorem d_X_language_19 : decode b_X_language 19 = .ok (.new 9, 3) := by decide +kernel
theorem d_X_language_22 : decode b_X_language 22 = .ok (.dup, 1) := by decide +kernel
theorem d_X_language_23 : decode b_X_language 23 = .ok (.invokespecial 66, 3) := by decide +kernel
theorem d_X_language_26 : decode b_X_language 26 = .ok (.aastore, 1) := by decide +kernel
theorem d_X_language_27 : decode b_X_language 27 = .ok (.aload_n 0, 1) := by decide +kernel
theorem d_X_language_28 : decode b_X_language 28 = .ok (.dup, 1) := by decide +kernel
theorem d_X_language_29 : decode b_X_language 29 = .ok (.getfield 62, 3) := by decide +kernel
theorem d_X_language_32 : decode b_X_language 32 = .ok (.iconst 1, 1) := by decide +kernel
theorem d_X_language_33 : decode b_X_language 33 = .ok (.iadd, 1) := by decide +kernel
theorem d_X_language_34 : decode b_X_language 34 = .ok (.putfield 62, 3) := by decide +kernel
theorem d_X_language_37 : decode b_X_language 37 = .ok (.aload_n 0, 1) := by decide +kernel
theorem d_X_language_38 : decode b_X_language 38 = .ok (.getfield 62, 3) := by decide +kernel
theorem d_X_language_41 : decode b_X_language 41 = .ok (.iconst 1, 1) := by decide +kernel
theorem d_X_language_42 : decode b_X_language 42 = .ok (.isub, 1) := by decide +kernel
theorem d_X_language_43 : decode b_X_language 43 = .ok (.ireturn, 1) := by decide +kernel
theorem d_G_init_0 : decode b_G_init 0 = .ok (.aload_n 0, 1) := by decide +kernel
theorem d_G_init_1 : decode b_G_init 1 = .ok (.invokespecial 3, 3) := by decide +kernel
theorem d_G_init_4 : decode b_G_init 4 = .ok (.aload_n 0, 1) := by decide +kernel
theorem d_G_init_5 : decode b_G_init 5 = .ok (.sipush 256, 3) := by decide +kernel
theorem d_G_init_8 : decode b_G_init 8 = .ok (.newarray .byte, 2) := by decide +kernel
theorem d_G_init_10 : decode b_G_init 10 = .ok (.putfield 9, 3) := by decide +kernel
theorem d_G_init_13 : decode b_G_init 13 = .ok (.aload_n 0, 1) := by decide +kernel
theorem d_G_init_14 : decode b_G_init 14 = .ok (.sipush 256, 3) := by decide +kernel
theorem d_G_init_17 : decode b_G_init 17 = .ok (.newarray .boolean, 2) := by decide +kernel
theorem d_G_init_19 : decode b_G_init 19 = .ok (.putfield 15, 3) := by decide +kernel
theorem d_G_init_22 : decode b_G_init 22 = .ok (.aload_n 0, 1) := by decide +kernel
theorem d_G_init_23 : decode b_G_init 23 = .ok (.iconst 2, 1) := by decide +kernel
theorem d_G_init_24 : decode b_G_init 24 = .ok (.putfield 19, 3) := by decide +kernel
theorem d_G_init_27 : decode b_G_init 27 = .ok (.aload_n 0, 1) := by decide +kernel
theorem d_G_init_28 : decode b_G_init 28 = .ok (.iconst 3, 1) := by decide +kernel
theorem d_G_init_29 : decode b_G_init 29 = .ok (.putfield 23, 3) := by decide +kernel
theorem d_G_init_32 : decode b_G_init 32 = .ok (.aload_n 0, 1) := by decide +kernel
theorem d_G_init_33 : decode b_G_init 33 = .ok (.iconst (-1), 1) := by decide +kernel
theorem d_G_init_34 : decode b_G_init 34 = .ok (.putfield 26, 3) := by decide +kernel
theorem d_G_init_37 : decode b_G_init 37 = .ok (.return_, 1) := by decide +kernel
theorem d_X_code_0 : decode b_X_code 0 = .ok (.aload_n 0, 1) := by decide +kernel
theorem d_X_code_1 : decode b_X_code 1 = .ok (.iload_n 1, 1) := by decide +kernel
theorem d_X_code_2 : decode b_X_code 2 = .ok (.invokevirtual 67, 3) := by decide +kernel
theorem d_X_code_5 : decode b_X_code 5 = .ok (.ifCond .eq 20, 3) := by decide +kernel
theorem d_X_code_8 : decode b_X_code 8 = .ok (.iload_n 2, 1) := by decide +kernel
theorem d_X_code_9 : decode b_X_code 9 = .ok (.invokestatic 71, 3) := by decide +kernel
theorem d_X_code_12 : decode b_X_code 12 = .ok (.ifCond .eq 13, 3) := by decide +kernel
theorem d_X_code_15 : decode b_X_code 15 = .ok (.iload_n 3, 1) := by decide +kernel
theorem d_X_code_16 : decode b_X_code 16 = .ok (.ifCond .lt 9, 3) := by decide +kernel
theorem d_X_code_19 : decode b_X_code 19 = .ok (.iload_n 3, 1) := by decide +kernel
theorem d_X_code_20 : decode b_X_code 20 = .ok (.bipush 31, 2) := by decide +kernel
theorem d_X_code_22 : decode b_X_code 22 = .ok (.if_icmp .lt 5, 3) := by decide +kernel
theorem d_X_code_25 : decode b_X_code 25 = .ok (.iconst (-1), 1) := by decide +kernel
theorem d_X_code_26 : decode b_X_code 26 = .ok (.ireturn, 1) := by decide +kernel
theorem d_X_code_27 : decode b_X_code 27 = .ok (.aload_n 0, 1) := by decide +kernel
theorem d_X_code_28 : decode b_X_code 28 = .ok (.getfield 11, 3) := by decide +kernel
theorem d_X_code_31 : decode b_X_code 31 = .ok (.iload_n 1, 1) := by decide +kernel
theorem d_X_code_32 : decode b_X_code 32 = .ok (.aaload, 1) := by decide +kernel
theorem d_X_code_33 : decode b_X_code 33 = .ok (.getfield 74, 3) := by decide +kernel
theorem d_X_code_36 : decode b_X_code 36 = .ok (.iload_n 2, 1) := by decide +kernel
theorem d_X_code_37 : decode b_X_code 37 = .ok (.iload_n 3, 1) := by decide +kernel
theorem d_X_code_38 : decode b_X_code 38 = .ok (.i2b, 1) := by decide +kernel
theorem d_X_code_39 : decode b_X_code 39 = .ok (.bastore, 1) := by decide +kernel
theorem d_X_code_40 : decode b_X_code 40 = .ok (.aload_n 0, 1) := by decide +kernel
theorem d_X_code_41 : decode b_X_code 41 = .ok (.getfield 11, 3) := by decide +kernel
theorem d_X_code_44 : decode b_X_code 44 = .ok (.iload_n 1, 1) := by decide +kernel
theorem d_X_code_45 : decode b_X_code 45 = .ok (.aaload, 1) := by decide +kernel
theorem d_X_code_46 : decode b_X_code 46 = .ok (.getfield 77, 3) := by decide +kernel
theorem d_X_code_49 : decode b_X_code 49 = .ok (.iload_n 2, 1) := by decide +kernel
theorem d_X_code_50 : decode b_X_code 50 = .ok (.iload 4, 2) := by decide +kernel
theorem d_X_code_52 : decode b_X_code 52 = .ok (.bastore, 1) := by decide +kernel
theorem d_X_code_53 : decode b_X_code 53 = .ok (.iconst 1, 1) := by decide +kernel
theorem d_X_code_54 : decode b_X_code 54 = .ok (.ireturn, 1) := by decide +kernel
theorem d_X_isLanguage_0 : decode b_X_isLanguage 0 = .ok (.iload_n 1, 1) := by decide +kernel
theorem d_X_isLanguage_1 : decode b_X_isLanguage 1 = .ok (.ifCond .lt 15, 3) := by decide +kernel
theorem d_X_isLanguage_4 : decode b_X_isLanguage 4 = .ok (.iload_n 1, 1) := by decide +kernel
theorem d_X_isLanguage_5 : decode b_X_isLanguage 5 = .ok (.aload_n 0, 1) := by decide +kernel
theorem d_X_isLanguage_6 : decode b_X_isLanguage 6 = .ok (.getfield 62, 3) := by decide +kernel
theorem d_X_isLanguage_9 : decode b_X_isLanguage 9 = .ok (.if_icmp .ge 7, 3) := by decide +kernel
theorem d_X_isLanguage_12 : decode b_X_isLanguage 12 = .ok (.iconst 1, 1) := by decide +kernel
theorem d_X_isLanguage_13 : decode b_X_isLanguage 13 = .ok (.goto 4, 3) := by decide +kernel
theorem d_X_isLanguage_16 : decode b_X_isLanguage 16 = .ok (.iconst 0, 1) := by decide +kernel
theorem d_X_isLanguage_17 : decode b_X_isLanguage 17 = .ok (.ireturn, 1) := by decide +kernel
theorem d_X_isSign_0 : decode b_X_isSign 0 = .ok (.iload_n 0, 1) := by decide +kernel
theorem d_X_isSign_1 : decode b_X_isSign 1 = .ok (.ifCond .lt 14, 3) := by decide +kernel
theorem d_X_isSign_4 : decode b_X_isSign 4 = .ok (.iload_n 0, 1) := by decide +kernel
theorem d_X_isSign_5 : decode b_X_isSign 5 = .ok (.sipush 256, 3) := by decide +kernel
theorem d_X_isSign_8 : decode b_X_isSign 8 = .ok (.if_icmp .ge 7, 3) := by decide +kernel
theorem d_X_isSign_11 : decode b_X_isSign 11 = .ok (.iconst 1, 1) := by decide +kernel
theorem d_X_isSign_12 : decode b_X_isSign 12 = .ok (.goto 4, 3) := by decide +kernel
theorem d_X_isSign_15 : decode b_X_isSign 15 = .ok (.iconst 0, 1) := by decide +kernel
theorem d_X_isSign_16 : decode b_X_isSign 16 = .ok (.ireturn, 1) := by decide +kernel
theorem d_X_ends_0 : decode b_X_ends 0 = .ok (.aload_n 0, 1) := by decide +kernel
theorem d_X_ends_1 : decode b_X_ends 1 = .ok (.iload_n 1, 1) := by decide +kernel
theorem d_X_ends_2 : decode b_X_ends 2 = .ok (.invokevirtual 67, 3) := by decide +kernel
theorem d_X_ends_5 : decode b_X_ends 5 = .ok (.ifCond .eq 23, 3) := by decide +kernel
theorem d_X_ends_8 : decode b_X_ends 8 = .ok (.iload_n 2, 1) := by decide +kernel
theorem d_X_ends_9 : decode b_X_ends 9 = .ok (.ifCond .lt 19, 3) := by decide +kernel
theorem d_X_ends_12 : decode b_X_ends 12 = .ok (.iload_n 2, 1) := by decide +kernel
theorem d_X_ends_13 : decode b_X_ends 13 = .ok (.bipush 20, 2) := by decide +kernel
theorem d_X_ends_15 : decode b_X_ends 15 = .ok (.if_icmp .gt 13, 3) := by decide +kernel
theorem d_X_ends_18 : decode b_X_ends 18 = .ok (.iload_n 3, 1) := by decide +kernel
theorem d_X_ends_19 : decode b_X_ends 19 = .ok (.ifCond .lt 9, 3) := by decide +kernel
theorem d_X_ends_22 : decode b_X_ends 22 = .ok (.iload_n 3, 1) := by decide +kernel
theorem d_X_ends_23 : decode b_X_ends 23 = .ok (.bipush 20, 2) := by decide +kernel
theorem d_X_ends_25 : decode b_X_ends 25 = .ok (.if_icmp .le 5, 3) := by decide +kernel
theorem d_X_ends_28 : decode b_X_ends 28 = .ok (.iconst (-1), 1) := by decide +kernel
theorem d_X_ends_29 : decode b_X_ends 29 = .ok (.ireturn, 1) := by decide +kernel
theorem d_X_ends_30 : decode b_X_ends 30 = .ok (.aload_n 0, 1) := by decide +kernel
theorem d_X_ends_31 : decode b_X_ends 31 = .ok (.getfield 11, 3) := by decide +kernel
theorem d_X_ends_34 : decode b_X_ends 34 = .ok (.iload_n 1, 1) := by decide +kernel
theorem d_X_ends_35 : decode b_X_ends 35 = .ok (.aaload, 1) := by decide +kernel
theorem d_X_ends_36 : decode b_X_ends 36 = .ok (.iload_n 2, 1) := by decide +kernel
theorem d_X_ends_37 : decode b_X_ends 37 = .ok (.putfield 81, 3) := by decide +kernel
theorem d_X_ends_40 : decode b_X_ends 40 = .ok (.aload_n 0, 1) := by decide +kernel
theorem d_X_ends_41 : decode b_X_ends 41 = .ok (.getfield 11, 3) := by decide +kernel
theorem d_X_ends_44 : decode b_X_ends 44 = .ok (.iload_n 1, 1) := by decide +kernel
theorem d_X_ends_45 : decode b_X_ends 45 = .ok (.aaload, 1) := by decide +kernel
theorem d_X_ends_46 : decode b_X_ends 46 = .ok (.iload_n 3, 1) := by decide +kernel
theorem d_X_ends_47 : decode b_X_ends 47 = .ok (.putfield 84, 3) := by decide +kernel
theorem d_X_ends_50 : decode b_X_ends 50 = .ok (.aload_n 0, 1) := by decide +kernel
theorem d_X_ends_51 : decode b_X_ends 51 = .ok (.getfield 11, 3) := by decide +kernel
theorem d_X_ends_54 : decode b_X_ends 54 = .ok (.iload_n 1, 1) := by decide +kernel
theorem d_X_ends_55 : decode b_X_ends 55 = .ok (.aaload, 1) := by decide +kernel
theorem d_X_ends_56 : decode b_X_ends 56 = .ok (.iload 4, 2) := by decide +kernel
theorem d_X_ends_58 : decode b_X_ends 58 = .ok (.putfield 87, 3) := by decide +kernel
theorem d_X_ends_61 : decode b_X_ends 61 = .ok (.iconst 1, 1) := by decide +kernel
theorem d_X_ends_62 : decode b_X_ends 62 = .ok (.ireturn, 1) := by decide +kernel
theorem d_X_next_0 : decode b_X_next 0 = .ok (.iload_n 1, 1) := by decide +kernel
theorem d_X_next_1 : decode b_X_next 1 = .ok (.ifCond .lt 16, 3) := by decide +kernel
theorem d_X_next_4 : decode b_X_next 4 = .ok (.iload_n 1, 1) := by decide +kernel
theorem d_X_next_5 : decode b_X_next 5 = .ok (.bipush 31, 2) := by decide +kernel
theorem d_X_next_7 : decode b_X_next 7 = .ok (.if_icmp .ge 10, 3) := by decide +kernel
theorem d_X_next_10 : decode b_X_next 10 = .ok (.iload_n 2, 1) := by decide +kernel
theorem d_X_next_11 : decode b_X_next 11 = .ok (.invokestatic 91, 3) := by decide +kernel
theorem d_X_next_14 : decode b_X_next 14 = .ok (.ifCond .ne 5, 3) := by decide +kernel
theorem d_X_next_17 : decode b_X_next 17 = .ok (.iconst (-1), 1) := by decide +kernel
theorem d_X_next_18 : decode b_X_next 18 = .ok (.ireturn, 1) := by decide +kernel
theorem d_X_next_19 : decode b_X_next 19 = .ok (.aload_n 0, 1) := by decide +kernel
theorem d_X_next_20 : decode b_X_next 20 = .ok (.getfield 94, 3) := by decide +kernel
theorem d_X_next_23 : decode b_X_next 23 = .ok (.bipush 12, 2) := by decide +kernel
theorem d_X_next_25 : decode b_X_next 25 = .ok (.if_icmp .ne 6, 3) := by decide +kernel
theorem d_X_next_28 : decode b_X_next 28 = .ok (.bipush (-2), 2) := by decide +kernel
theorem d_X_next_30 : decode b_X_next 30 = .ok (.ireturn, 1) := by decide +kernel
theorem d_X_next_31 : decode b_X_next 31 = .ok (.aload_n 0, 1) := by decide +kernel
theorem d_X_next_32 : decode b_X_next 32 = .ok (.getfield 32, 3) := by decide +kernel
theorem d_X_next_35 : decode b_X_next 35 = .ok (.aload_n 0, 1) := by decide +kernel
theorem d_X_next_36 : decode b_X_next 36 = .ok (.getfield 94, 3) := by decide +kernel
theorem d_X_next_39 : decode b_X_next 39 = .ok (.iload_n 1, 1) := by decide +kernel
theorem d_X_next_40 : decode b_X_next 40 = .ok (.iastore, 1) := by decide +kernel
theorem d_X_next_41 : decode b_X_next 41 = .ok (.aload_n 0, 1) := by decide +kernel
theorem d_X_next_42 : decode b_X_next 42 = .ok (.getfield 35, 3) := by decide +kernel
theorem d_X_next_45 : decode b_X_next 45 = .ok (.aload_n 0, 1) := by decide +kernel
theorem d_X_next_46 : decode b_X_next 46 = .ok (.getfield 94, 3) := by decide +kernel
theorem d_X_next_49 : decode b_X_next 49 = .ok (.iload_n 2, 1) := by decide +kernel
theorem d_X_next_50 : decode b_X_next 50 = .ok (.iastore, 1) := by decide +kernel
theorem d_X_next_51 : decode b_X_next 51 = .ok (.aload_n 0, 1) := by decide +kernel
theorem d_X_next_52 : decode b_X_next 52 = .ok (.dup, 1) := by decide +kernel
theorem d_X_next_53 : decode b_X_next 53 = .ok (.getfield 94, 3) := by decide +kernel
theorem d_X_next_56 : decode b_X_next 56 = .ok (.iconst 1, 1) := by decide +kernel
theorem d_X_next_57 : decode b_X_next 57 = .ok (.iadd, 1) := by decide +kernel
theorem d_X_next_58 : decode b_X_next 58 = .ok (.putfield 94, 3) := by decide +kernel
theorem d_X_next_61 : decode b_X_next 61 = .ok (.aload_n 0, 1) := by decide +kernel
theorem d_X_next_62 : decode b_X_next 62 = .ok (.getfield 94, 3) := by decide +kernel
theorem d_X_next_65 : decode b_X_next 65 = .ok (.ireturn, 1) := by decide +kernel
theorem d_X_isDigit_0 : decode b_X_isDigit 0 = .ok (.iload_n 0, 1) := by decide +kernel
theorem d_X_isDigit_1 : decode b_X_isDigit 1 = .ok (.ifCond .lt 13, 3) := by decide +kernel
theorem d_X_isDigit_4 : decode b_X_isDigit 4 = .ok (.iload_n 0, 1) := by decide +kernel
theorem d_X_isDigit_5 : decode b_X_isDigit 5 = .ok (.bipush 10, 2) := by decide +kernel
theorem d_X_isDigit_7 : decode b_X_isDigit 7 = .ok (.if_icmp .ge 7, 3) := by decide +kernel
theorem d_X_isDigit_10 : decode b_X_isDigit 10 = .ok (.iconst 1, 1) := by decide +kernel
theorem d_X_isDigit_11 : decode b_X_isDigit 11 = .ok (.goto 4, 3) := by decide +kernel
theorem d_X_isDigit_14 : decode b_X_isDigit 14 = .ok (.iconst 0, 1) := by decide +kernel
theorem d_X_isDigit_15 : decode b_X_isDigit 15 = .ok (.ireturn, 1) := by decide +kernel
theorem d_X_pattern_0 : decode b_X_pattern 0 = .ok (.aload_n 0, 1) := by decide +kernel
theorem d_X_pattern_1 : decode b_X_pattern 1 = .ok (.iload_n 1, 1) := by decide +kernel
theorem d_X_pattern_2 : decode b_X_pattern 2 = .ok (.invokevirtual 67, 3) := by decide +kernel
theorem d_X_pattern_5 : decode b_X_pattern 5 = .ok (.ifCond .eq 10, 3) := by decide +kernel
theorem d_X_pattern_8 : decode b_X_pattern 8 = .ok (.iload_n 2, 1) := by decide +kernel
theorem d_X_pattern_9 : decode b_X_pattern 9 = .ok (.invokestatic 91, 3) := by decide +kernel
theorem d_X_pattern_12 : decode b_X_pattern 12 = .ok (.ifCond .ne 5, 3) := by decide +kernel
theorem d_X_pattern_15 : decode b_X_pattern 15 = .ok (.iconst (-1), 1) := by decide +kernel
theorem d_X_pattern_16 : decode b_X_pattern 16 = .ok (.ireturn, 1) := by decide +kernel
theorem d_X_pattern_17 : decode b_X_pattern 17 = .ok (.aload_n 0, 1) := by decide +kernel
theorem d_X_pattern_18 : decode b_X_pattern 18 = .ok (.invokevirtual 110, 3) := by decide +kernel
theorem d_X_pattern_21 : decode b_X_pattern 21 = .ok (.ifCond .eq 17, 3) := by decide +kernel
theorem d_X_pattern_24 : decode b_X_pattern 24 = .ok (.aload_n 0, 1) := by decide +kernel
theorem d_X_pattern_25 : decode b_X_pattern 25 = .ok (.aload_n 0, 1) := by decide +kernel
theorem d_X_pattern_26 : decode b_X_pattern 26 = .ok (.getfield 11, 3) := by decide +kernel
theorem d_X_pattern_29 : decode b_X_pattern 29 = .ok (.iload_n 1, 1) := by decide +kernel
theorem d_X_pattern_30 : decode b_X_pattern 30 = .ok (.aaload, 1) := by decide +kernel
theorem d_X_pattern_31 : decode b_X_pattern 31 = .ok (.iload_n 2, 1) := by decide +kernel
theorem d_X_pattern_32 : decode b_X_pattern 32 = .ok (.invokevirtual 114, 3) := by decide +kernel
theorem d_X_pattern_35 : decode b_X_pattern 35 = .ok (.goto 5, 3) := by decide +kernel
theorem d_X_pattern_38 : decode b_X_pattern 38 = .ok (.bipush (-3), 2) := by decide +kernel
theorem d_X_pattern_40 : decode b_X_pattern 40 = .ok (.istore_n 3, 1) := by decide +kernel
theorem d_X_pattern_41 : decode b_X_pattern 41 = .ok (.aload_n 0, 1) := by decide +kernel
theorem d_X_pattern_42 : decode b_X_pattern 42 = .ok (.iconst 0, 1) := by decide +kernel
theorem d_X_pattern_43 : decode b_X_pattern 43 = .ok (.putfield 94, 3) := by decide +kernel
theorem d_X_pattern_46 : decode b_X_pattern 46 = .ok (.iload_n 3, 1) := by decide +kernel
theorem d_X_pattern_47 : decode b_X_pattern 47 = .ok (.ireturn, 1) := by decide +kernel
theorem d_X_isPattern_0 : decode b_X_isPattern 0 = .ok (.iconst 0, 1) := by decide +kernel
theorem d_X_isPattern_1 : decode b_X_isPattern 1 = .ok (.istore_n 1, 1) := by decide +kernel
theorem d_X_isPattern_2 : decode b_X_isPattern 2 = .ok (.iconst 1, 1) := by decide +kernel
theorem d_X_isPattern_3 : decode b_X_isPattern 3 = .ok (.istore_n 2, 1) := by decide +kernel
theorem d_X_isPattern_4 : decode b_X_isPattern 4 = .ok (.iconst 0, 1) := by decide +kernel
theorem d_X_isPattern_5 : decode b_X_isPattern 5 = .ok (.istore_n 3, 1) := by decide +kernel
theorem d_X_isPattern_6 : decode b_X_isPattern 6 = .ok (.iload_n 3, 1) := by decide +kernel
theorem d_X_isPattern_7 : decode b_X_isPattern 7 = .ok (.aload_n 0, 1) := by decide +kernel
theorem d_X_isPattern_8 : decode b_X_isPattern 8 = .ok (.getfield 94, 3) := by decide +kernel
theorem d_X_isPattern_11 : decode b_X_isPattern 11 = .ok (.if_icmp .ge 61, 3) := by decide +kernel
theorem d_X_isPattern_14 : decode b_X_isPattern 14 = .ok (.iload_n 1, 1) := by decide +kernel
theorem d_X_isPattern_15 : decode b_X_isPattern 15 = .ok (.ifCond .ne 12, 3) := by decide +kernel
theorem d_X_isPattern_18 : decode b_X_isPattern 18 = .ok (.aload_n 0, 1) := by decide +kernel
theorem d_X_isPattern_19 : decode b_X_isPattern 19 = .ok (.getfield 32, 3) := by decide +kernel
theorem d_X_isPattern_22 : decode b_X_isPattern 22 = .ok (.iload_n 3, 1) := by decide +kernel
theorem d_X_isPattern_23 : decode b_X_isPattern 23 = .ok (.iaload, 1) := by decide +kernel
theorem d_X_isPattern_24 : decode b_X_isPattern 24 = .ok (.ifCond .le 7, 3) := by decide +kernel
theorem d_X_isPattern_27 : decode b_X_isPattern 27 = .ok (.iconst 1, 1) := by decide +kernel
theorem d_X_isPattern_28 : decode b_X_isPattern 28 = .ok (.goto 4, 3) := by decide +kernel
theorem d_X_isPattern_31 : decode b_X_isPattern 31 = .ok (.iconst 0, 1) := by decide +kernel
theorem d_X_isPattern_32 : decode b_X_isPattern 32 = .ok (.istore_n 1, 1) := by decide +kernel
theorem d_X_isPattern_33 : decode b_X_isPattern 33 = .ok (.iload_n 2, 1) := by decide +kernel
theorem d_X_isPattern_34 : decode b_X_isPattern 34 = .ok (.ifCond .eq 30, 3) := by decide +kernel
theorem d_X_isPattern_37 : decode b_X_isPattern 37 = .ok (.aload_n 0, 1) := by decide +kernel
theorem d_X_isPattern_38 : decode b_X_isPattern 38 = .ok (.getfield 32, 3) := by decide +kernel
theorem d_X_isPattern_41 : decode b_X_isPattern 41 = .ok (.iload_n 3, 1) := by decide +kernel
theorem d_X_isPattern_42 : decode b_X_isPattern 42 = .ok (.iaload, 1) := by decide +kernel
theorem d_X_isPattern_43 : decode b_X_isPattern 43 = .ok (.ifCond .gt 17, 3) := by decide +kernel
theorem d_X_isPattern_46 : decode b_X_isPattern 46 = .ok (.iload_n 3, 1) := by decide +kernel
theorem d_X_isPattern_47 : decode b_X_isPattern 47 = .ok (.ifCond .eq 13, 3) := by decide +kernel
theorem d_X_isPattern_50 : decode b_X_isPattern 50 = .ok (.iload_n 3, 1) := by decide +kernel
theorem d_X_isPattern_51 : decode b_X_isPattern 51 = .ok (.aload_n 0, 1) := by decide +kernel
theorem d_X_isPattern_52 : decode b_X_isPattern 52 = .ok (.getfield 94, 3) := by decide +kernel
theorem d_X_isPattern_55 : decode b_X_isPattern 55 = .ok (.iconst 1, 1) := by decide +kernel
theorem d_X_isPattern_56 : decode b_X_isPattern 56 = .ok (.isub, 1) := by decide +kernel
theorem d_X_isPattern_57 : decode b_X_isPattern 57 = .ok (.if_icmp .ne 7, 3) := by decide +kernel
theorem d_X_isPattern_60 : decode b_X_isPattern 60 = .ok (.iconst 1, 1) := by decide +kernel
theorem d_X_isPattern_61 : decode b_X_isPattern 61 = .ok (.goto 4, 3) := by decide +kernel
theorem d_X_isPattern_64 : decode b_X_isPattern 64 = .ok (.iconst 0, 1) := by decide +kernel
theorem d_X_isPattern_65 : decode b_X_isPattern 65 = .ok (.istore_n 2, 1) := by decide +kernel
theorem d_X_isPattern_66 : decode b_X_isPattern 66 = .ok (.iinc 3 1, 3) := by decide +kernel
theorem d_X_isPattern_69 : decode b_X_isPattern 69 = .ok (.goto (-63), 3) := by decide +kernel
theorem d_X_isPattern_72 : decode b_X_isPattern 72 = .ok (.iload_n 1, 1) := by decide +kernel
theorem d_X_isPattern_73 : decode b_X_isPattern 73 = .ok (.ifCond .eq 11, 3) := by decide +kernel
theorem d_X_isPattern_76 : decode b_X_isPattern 76 = .ok (.iload_n 2, 1) := by decide +kernel
theorem d_X_isPattern_77 : decode b_X_isPattern 77 = .ok (.ifCond .eq 7, 3) := by decide +kernel
theorem d_X_isPattern_80 : decode b_X_isPattern 80 = .ok (.iconst 1, 1) := by decide +kernel
theorem d_X_isPattern_81 : decode b_X_isPattern 81 = .ok (.goto 4, 3) := by decide +kernel
theorem d_X_isPattern_84 : decode b_X_isPattern 84 = .ok (.iconst 0, 1) := by decide +kernel
theorem d_X_isPattern_85 : decode b_X_isPattern 85 = .ok (.ireturn, 1) := by decide +kernel
theorem d_X_put_0 : decode b_X_put 0 = .ok (.aload_n 0, 1) := by decide +kernel
theorem d_X_put_1 : decode b_X_put 1 = .ok (.aload_n 1, 1) := by decide +kernel
theorem d_X_put_2 : decode b_X_put 2 = .ok (.invokevirtual 118, 3) := by decide +kernel
theorem d_X_put_5 : decode b_X_put 5 = .ok (.istore_n 3, 1) := by decide +kernel
theorem d_X_put_6 : decode b_X_put 6 = .ok (.iload_n 3, 1) := by decide +kernel
theorem d_X_put_7 : decode b_X_put 7 = .ok (.ifCond .ge 7, 3) := by decide +kernel
theorem d_X_put_10 : decode b_X_put 10 = .ok (.iconst (-1), 1) := by decide +kernel
theorem d_X_put_11 : decode b_X_put 11 = .ok (.goto 9, 3) := by decide +kernel
theorem d_X_put_14 : decode b_X_put 14 = .ok (.aload_n 0, 1) := by decide +kernel
theorem d_X_put_15 : decode b_X_put 15 = .ok (.getfield 25, 3) := by decide +kernel
theorem d_X_put_18 : decode b_X_put 18 = .ok (.iload_n 3, 1) := by decide +kernel
theorem d_X_put_19 : decode b_X_put 19 = .ok (.iaload, 1) := by decide +kernel
theorem d_X_put_20 : decode b_X_put 20 = .ok (.istore 4, 2) := by decide +kernel
theorem d_X_put_22 : decode b_X_put 22 = .ok (.iload 4, 2) := by decide +kernel
theorem d_X_put_24 : decode b_X_put 24 = .ok (.ifCond .ge 74, 3) := by decide +kernel
theorem d_X_put_27 : decode b_X_put 27 = .ok (.aload_n 0, 1) := by decide +kernel
theorem d_X_put_28 : decode b_X_put 28 = .ok (.getfield 122, 3) := by decide +kernel
theorem d_X_put_31 : decode b_X_put 31 = .ok (.sipush 150, 3) := by decide +kernel
theorem d_X_put_34 : decode b_X_put 34 = .ok (.if_icmp .eq 18, 3) := by decide +kernel
theorem d_X_put_37 : decode b_X_put 37 = .ok (.aload_n 0, 1) := by decide +kernel
theorem d_X_put_38 : decode b_X_put 38 = .ok (.getfield 125, 3) := by decide +kernel
theorem d_X_put_41 : decode b_X_put 41 = .ok (.aload_n 0, 1) := by decide +kernel
theorem d_X_put_42 : decode b_X_put 42 = .ok (.getfield 94, 3) := by decide +kernel
theorem d_X_put_45 : decode b_X_put 45 = .ok (.iadd, 1) := by decide +kernel
theorem d_X_put_46 : decode b_X_put 46 = .ok (.sipush 900, 3) := by decide +kernel
theorem d_X_put_49 : decode b_X_put 49 = .ok (.if_icmp .le 6, 3) := by decide +kernel
theorem d_X_put_52 : decode b_X_put 52 = .ok (.bipush (-2), 2) := by decide +kernel
theorem d_X_put_54 : decode b_X_put 54 = .ok (.ireturn, 1) := by decide +kernel
theorem d_X_put_55 : decode b_X_put 55 = .ok (.aload_n 0, 1) := by decide +kernel
theorem d_X_put_56 : decode b_X_put 56 = .ok (.aload_n 1, 1) := by decide +kernel
theorem d_X_put_57 : decode b_X_put 57 = .ok (.invokevirtual 128, 3) := by decide +kernel
theorem d_X_put_60 : decode b_X_put 60 = .ok (.istore_n 3, 1) := by decide +kernel
theorem d_X_put_61 : decode b_X_put 61 = .ok (.aload_n 0, 1) := by decide +kernel
theorem d_X_put_62 : decode b_X_put 62 = .ok (.getfield 122, 3) := by decide +kernel
theorem d_X_put_65 : decode b_X_put 65 = .ok (.istore 4, 2) := by decide +kernel
theorem d_X_put_67 : decode b_X_put 67 = .ok (.aload_n 0, 1) := by decide +kernel
theorem d_X_put_68 : decode b_X_put 68 = .ok (.getfield 25, 3) := by decide +kernel
theorem d_X_put_71 : decode b_X_put 71 = .ok (.iload_n 3, 1) := by decide +kernel
theorem d_X_put_72 : decode b_X_put 72 = .ok (.iload 4, 2) := by decide +kernel
theorem d_X_put_74 : decode b_X_put 74 = .ok (.iastore, 1) := by decide +kernel
theorem d_X_put_75 : decode b_X_put 75 = .ok (.aload_n 0, 1) := by decide +kernel
theorem d_X_put_76 : decode b_X_put 76 = .ok (.dup, 1) := by decide +kernel
theorem d_X_put_77 : decode b_X_put 77 = .ok (.getfield 122, 3) := by decide +kernel
theorem d_X_put_80 : decode b_X_put 80 = .ok (.iconst 1, 1) := by decide +kernel
theorem d_X_put_81 : decode b_X_put 81 = .ok (.iadd, 1) := by decide +kernel
theorem d_X_put_82 : decode b_X_put 82 = .ok (.putfield 122, 3) := by decide +kernel
theorem d_X_put_85 : decode b_X_put 85 = .ok (.aload_n 0, 1) := by decide +kernel
theorem d_X_put_86 : decode b_X_put 86 = .ok (.dup, 1) := by decide +kernel
theorem d_X_put_87 : decode b_X_put 87 = .ok (.getfield 125, 3) := by decide +kernel
theorem d_X_put_90 : decode b_X_put 90 = .ok (.aload_n 0, 1) := by decide +kernel
theorem d_X_put_91 : decode b_X_put 91 = .ok (.getfield 94, 3) := by decide +kernel
theorem d_X_put_94 : decode b_X_put 94 = .ok (.iadd, 1) := by decide +kernel
theorem d_X_put_95 : decode b_X_put 95 = .ok (.putfield 125, 3) := by decide +kernel
theorem d_X_put_98 : decode b_X_put 98 = .ok (.iconst 0, 1) := by decide +kernel
theorem d_X_put_99 : decode b_X_put 99 = .ok (.istore 5, 2) := by decide +kernel
theorem d_X_put_101 : decode b_X_put 101 = .ok (.iload 5, 2) := by decide +kernel
theorem d_X_put_103 : decode b_X_put 103 = .ok (.aload_n 0, 1) := by decide +kernel
theorem d_X_put_104 : decode b_X_put 104 = .ok (.getfield 94, 3) := by decide +kernel
theorem d_X_put_107 : decode b_X_put 107 = .ok (.if_icmp .ge 30, 3) := by decide +kernel
theorem d_X_put_110 : decode b_X_put 110 = .ok (.aload_n 0, 1) := by decide +kernel
theorem d_X_put_111 : decode b_X_put 111 = .ok (.getfield 28, 3) := by decide +kernel
theorem d_X_put_114 : decode b_X_put 114 = .ok (.bipush 13, 2) := by decide +kernel
theorem d_X_put_116 : decode b_X_put 116 = .ok (.iload 4, 2) := by decide +kernel
theorem d_X_put_118 : decode b_X_put 118 = .ok (.imul, 1) := by decide +kernel
theorem d_X_put_119 : decode b_X_put 119 = .ok (.iload 5, 2) := by decide +kernel
theorem d_X_put_121 : decode b_X_put 121 = .ok (.iadd, 1) := by decide +kernel
theorem d_X_put_122 : decode b_X_put 122 = .ok (.aload_n 0, 1) := by decide +kernel
theorem d_X_put_123 : decode b_X_put 123 = .ok (.getfield 35, 3) := by decide +kernel
theorem d_X_put_126 : decode b_X_put 126 = .ok (.iload 5, 2) := by decide +kernel
theorem d_X_put_128 : decode b_X_put 128 = .ok (.iaload, 1) := by decide +kernel
theorem d_X_put_129 : decode b_X_put 129 = .ok (.i2b, 1) := by decide +kernel
theorem d_X_put_130 : decode b_X_put 130 = .ok (.bastore, 1) := by decide +kernel
theorem d_X_put_131 : decode b_X_put 131 = .ok (.iinc 5 1, 3) := by decide +kernel
theorem d_X_put_134 : decode b_X_put 134 = .ok (.goto (-33), 3) := by decide +kernel
theorem d_X_put_137 : decode b_X_put 137 = .ok (.aload_n 0, 1) := by decide +kernel
theorem d_X_put_138 : decode b_X_put 138 = .ok (.getfield 28, 3) := by decide +kernel
theorem d_X_put_141 : decode b_X_put 141 = .ok (.bipush 13, 2) := by decide +kernel
theorem d_X_put_143 : decode b_X_put 143 = .ok (.iload 4, 2) := by decide +kernel
theorem d_X_put_145 : decode b_X_put 145 = .ok (.imul, 1) := by decide +kernel
theorem d_X_put_146 : decode b_X_put 146 = .ok (.aload_n 0, 1) := by decide +kernel
theorem d_X_put_147 : decode b_X_put 147 = .ok (.getfield 94, 3) := by decide +kernel
theorem d_X_put_150 : decode b_X_put 150 = .ok (.iadd, 1) := by decide +kernel
theorem d_X_put_151 : decode b_X_put 151 = .ok (.iload_n 2, 1) := by decide +kernel
theorem d_X_put_152 : decode b_X_put 152 = .ok (.i2b, 1) := by decide +kernel
theorem d_X_put_153 : decode b_X_put 153 = .ok (.bastore, 1) := by decide +kernel
theorem d_X_put_154 : decode b_X_put 154 = .ok (.iload 4, 2) := by decide +kernel
theorem d_X_put_156 : decode b_X_put 156 = .ok (.ireturn, 1) := by decide +kernel
theorem d_X_endOf_0 : decode b_X_endOf 0 = .ok (.iconst (-1), 1) := by decide +kernel
theorem d_X_endOf_1 : decode b_X_endOf 1 = .ok (.istore_n 2, 1) := by decide +kernel
theorem d_X_endOf_2 : decode b_X_endOf 2 = .ok (.iconst 0, 1) := by decide +kernel
theorem d_X_endOf_3 : decode b_X_endOf 3 = .ok (.istore_n 3, 1) := by decide +kernel
theorem d_X_endOf_4 : decode b_X_endOf 4 = .ok (.iload_n 3, 1) := by decide +kernel
theorem d_X_endOf_5 : decode b_X_endOf 5 = .ok (.aload_n 0, 1) := by decide +kernel
theorem d_X_endOf_6 : decode b_X_endOf 6 = .ok (.getfield 94, 3) := by decide +kernel
theorem d_X_endOf_9 : decode b_X_endOf 9 = .ok (.if_icmp .ge 28, 3) := by decide +kernel
theorem d_X_endOf_12 : decode b_X_endOf 12 = .ok (.aload_n 0, 1) := by decide +kernel
theorem d_X_endOf_13 : decode b_X_endOf 13 = .ok (.aload_n 1, 1) := by decide +kernel
theorem d_X_endOf_14 : decode b_X_endOf 14 = .ok (.iload_n 2, 1) := by decide +kernel
theorem d_X_endOf_15 : decode b_X_endOf 15 = .ok (.aload_n 0, 1) := by decide +kernel
theorem d_X_endOf_16 : decode b_X_endOf 16 = .ok (.getfield 32, 3) := by decide +kernel
theorem d_X_endOf_19 : decode b_X_endOf 19 = .ok (.iload_n 3, 1) := by decide +kernel
theorem d_X_endOf_20 : decode b_X_endOf 20 = .ok (.iaload, 1) := by decide +kernel
theorem d_X_endOf_21 : decode b_X_endOf 21 = .ok (.invokevirtual 100, 3) := by decide +kernel
theorem d_X_endOf_24 : decode b_X_endOf 24 = .ok (.istore_n 2, 1) := by decide +kernel
theorem d_X_endOf_25 : decode b_X_endOf 25 = .ok (.iload_n 2, 1) := by decide +kernel
theorem d_X_endOf_26 : decode b_X_endOf 26 = .ok (.ifCond .ge 5, 3) := by decide +kernel
theorem d_X_endOf_29 : decode b_X_endOf 29 = .ok (.iconst (-1), 1) := by decide +kernel
theorem d_X_endOf_30 : decode b_X_endOf 30 = .ok (.ireturn, 1) := by decide +kernel
theorem d_X_endOf_31 : decode b_X_endOf 31 = .ok (.iinc 3 1, 3) := by decide +kernel
theorem d_X_endOf_34 : decode b_X_endOf 34 = .ok (.goto (-30), 3) := by decide +kernel
theorem d_X_endOf_37 : decode b_X_endOf 37 = .ok (.iload_n 2, 1) := by decide +kernel
theorem d_X_endOf_38 : decode b_X_endOf 38 = .ok (.ireturn, 1) := by decide +kernel
theorem d_X_under_0 : decode b_X_under 0 = .ok (.iload_n 2, 1) := by decide +kernel
theorem d_X_under_1 : decode b_X_under 1 = .ok (.ifCond .ge 10, 3) := by decide +kernel
theorem d_X_under_4 : decode b_X_under 4 = .ok (.aload_n 1, 1) := by decide +kernel
theorem d_X_under_5 : decode b_X_under 5 = .ok (.getfield 97, 3) := by decide +kernel
theorem d_X_under_8 : decode b_X_under 8 = .ok (.goto 9, 3) := by decide +kernel
theorem d_X_under_11 : decode b_X_under 11 = .ok (.aload_n 0, 1) := by decide +kernel
theorem d_X_under_12 : decode b_X_under 12 = .ok (.getfield 19, 3) := by decide +kernel
theorem d_X_under_15 : decode b_X_under 15 = .ok (.iload_n 2, 1) := by decide +kernel
theorem d_X_under_16 : decode b_X_under 16 = .ok (.iaload, 1) := by decide +kernel
theorem d_X_under_17 : decode b_X_under 17 = .ok (.istore 4, 2) := by decide +kernel
theorem d_X_under_19 : decode b_X_under 19 = .ok (.iload 4, 2) := by decide +kernel
theorem d_X_under_21 : decode b_X_under 21 = .ok (.ifCond .lt 26, 3) := by decide +kernel
theorem d_X_under_24 : decode b_X_under 24 = .ok (.aload_n 0, 1) := by decide +kernel
theorem d_X_under_25 : decode b_X_under 25 = .ok (.getfield 15, 3) := by decide +kernel
theorem d_X_under_28 : decode b_X_under 28 = .ok (.iload 4, 2) := by decide +kernel
theorem d_X_under_30 : decode b_X_under 30 = .ok (.iaload, 1) := by decide +kernel
theorem d_X_under_31 : decode b_X_under 31 = .ok (.iload_n 3, 1) := by decide +kernel
theorem d_X_under_32 : decode b_X_under 32 = .ok (.if_icmp .eq 15, 3) := by decide +kernel
theorem d_X_under_35 : decode b_X_under 35 = .ok (.aload_n 0, 1) := by decide +kernel
theorem d_X_under_36 : decode b_X_under 36 = .ok (.getfield 22, 3) := by decide +kernel
theorem d_X_under_39 : decode b_X_under 39 = .ok (.iload 4, 2) := by decide +kernel
theorem d_X_under_41 : decode b_X_under 41 = .ok (.iaload, 1) := by decide +kernel
theorem d_X_under_42 : decode b_X_under 42 = .ok (.istore 4, 2) := by decide +kernel
theorem d_X_under_44 : decode b_X_under 44 = .ok (.goto (-25), 3) := by decide +kernel
theorem d_X_under_47 : decode b_X_under 47 = .ok (.iload 4, 2) := by decide +kernel
theorem d_X_under_49 : decode b_X_under 49 = .ok (.ireturn, 1) := by decide +kernel
theorem d_X_grow_0 : decode b_X_grow 0 = .ok (.iconst (-1), 1) := by decide +kernel
theorem d_X_grow_1 : decode b_X_grow 1 = .ok (.istore_n 2, 1) := by decide +kernel
theorem d_X_grow_2 : decode b_X_grow 2 = .ok (.iconst 0, 1) := by decide +kernel
theorem d_X_grow_3 : decode b_X_grow 3 = .ok (.istore_n 3, 1) := by decide +kernel
theorem d_X_grow_4 : decode b_X_grow 4 = .ok (.iload_n 3, 1) := by decide +kernel
theorem d_X_grow_5 : decode b_X_grow 5 = .ok (.aload_n 0, 1) := by decide +kernel
theorem d_X_grow_6 : decode b_X_grow 6 = .ok (.getfield 94, 3) := by decide +kernel
theorem d_X_grow_9 : decode b_X_grow 9 = .ok (.if_icmp .ge 46, 3) := by decide +kernel
theorem d_X_grow_12 : decode b_X_grow 12 = .ok (.aload_n 0, 1) := by decide +kernel
theorem d_X_grow_13 : decode b_X_grow 13 = .ok (.aload_n 1, 1) := by decide +kernel
theorem d_X_grow_14 : decode b_X_grow 14 = .ok (.iload_n 2, 1) := by decide +kernel
theorem d_X_grow_15 : decode b_X_grow 15 = .ok (.aload_n 0, 1) := by decide +kernel
theorem d_X_grow_16 : decode b_X_grow 16 = .ok (.getfield 32, 3) := by decide +kernel
theorem d_X_grow_19 : decode b_X_grow 19 = .ok (.iload_n 3, 1) := by decide +kernel
theorem d_X_grow_20 : decode b_X_grow 20 = .ok (.iaload, 1) := by decide +kernel
theorem d_X_grow_21 : decode b_X_grow 21 = .ok (.invokevirtual 100, 3) := by decide +kernel
theorem d_X_grow_24 : decode b_X_grow 24 = .ok (.istore 4, 2) := by decide +kernel
theorem d_X_grow_26 : decode b_X_grow 26 = .ok (.iload 4, 2) := by decide +kernel
theorem d_X_grow_28 : decode b_X_grow 28 = .ok (.ifCond .lt 8, 3) := by decide +kernel
theorem d_X_grow_31 : decode b_X_grow 31 = .ok (.iload 4, 2) := by decide +kernel
theorem d_X_grow_33 : decode b_X_grow 33 = .ok (.goto 15, 3) := by decide +kernel
theorem d_X_grow_36 : decode b_X_grow 36 = .ok (.aload_n 0, 1) := by decide +kernel
theorem d_X_grow_37 : decode b_X_grow 37 = .ok (.aload_n 1, 1) := by decide +kernel
theorem d_X_grow_38 : decode b_X_grow 38 = .ok (.iload_n 2, 1) := by decide +kernel
theorem d_X_grow_39 : decode b_X_grow 39 = .ok (.aload_n 0, 1) := by decide +kernel
theorem d_X_grow_40 : decode b_X_grow 40 = .ok (.getfield 32, 3) := by decide +kernel
theorem d_X_grow_43 : decode b_X_grow 43 = .ok (.iload_n 3, 1) := by decide +kernel
theorem d_X_grow_44 : decode b_X_grow 44 = .ok (.iaload, 1) := by decide +kernel
theorem d_X_grow_45 : decode b_X_grow 45 = .ok (.invokevirtual 104, 3) := by decide +kernel
theorem d_X_grow_48 : decode b_X_grow 48 = .ok (.istore_n 2, 1) := by decide +kernel
theorem d_X_grow_49 : decode b_X_grow 49 = .ok (.iinc 3 1, 3) := by decide +kernel
theorem d_X_grow_52 : decode b_X_grow 52 = .ok (.goto (-48), 3) := by decide +kernel
theorem d_X_grow_55 : decode b_X_grow 55 = .ok (.iload_n 2, 1) := by decide +kernel
theorem d_X_grow_56 : decode b_X_grow 56 = .ok (.ireturn, 1) := by decide +kernel
theorem d_X_made_0 : decode b_X_made 0 = .ok (.aload_n 0, 1) := by decide +kernel
theorem d_X_made_1 : decode b_X_made 1 = .ok (.getfield 107, 3) := by decide +kernel
theorem d_X_made_4 : decode b_X_made 4 = .ok (.istore 4, 2) := by decide +kernel
theorem d_X_made_6 : decode b_X_made 6 = .ok (.aload_n 0, 1) := by decide +kernel
theorem d_X_made_7 : decode b_X_made 7 = .ok (.dup, 1) := by decide +kernel
theorem d_X_made_8 : decode b_X_made 8 = .ok (.getfield 107, 3) := by decide +kernel
theorem d_X_made_11 : decode b_X_made 11 = .ok (.iconst 1, 1) := by decide +kernel
theorem d_X_made_12 : decode b_X_made 12 = .ok (.iadd, 1) := by decide +kernel
theorem d_X_made_13 : decode b_X_made 13 = .ok (.putfield 107, 3) := by decide +kernel
theorem d_X_made_16 : decode b_X_made 16 = .ok (.aload_n 0, 1) := by decide +kernel
theorem d_X_made_17 : decode b_X_made 17 = .ok (.getfield 15, 3) := by decide +kernel
theorem d_X_made_20 : decode b_X_made 20 = .ok (.iload 4, 2) := by decide +kernel
theorem d_X_made_22 : decode b_X_made 22 = .ok (.iload_n 3, 1) := by decide +kernel
theorem d_X_made_23 : decode b_X_made 23 = .ok (.iastore, 1) := by decide +kernel
theorem d_X_made_24 : decode b_X_made 24 = .ok (.aload_n 0, 1) := by decide +kernel
theorem d_X_made_25 : decode b_X_made 25 = .ok (.getfield 19, 3) := by decide +kernel
theorem d_X_made_28 : decode b_X_made 28 = .ok (.iload 4, 2) := by decide +kernel
theorem d_X_made_30 : decode b_X_made 30 = .ok (.iconst (-1), 1) := by decide +kernel
theorem d_X_made_31 : decode b_X_made 31 = .ok (.iastore, 1) := by decide +kernel
theorem d_X_made_32 : decode b_X_made 32 = .ok (.aload_n 0, 1) := by decide +kernel
theorem d_X_made_33 : decode b_X_made 33 = .ok (.getfield 25, 3) := by decide +kernel
theorem d_X_made_36 : decode b_X_made 36 = .ok (.iload 4, 2) := by decide +kernel
theorem d_X_made_38 : decode b_X_made 38 = .ok (.iconst (-1), 1) := by decide +kernel
theorem d_X_made_39 : decode b_X_made 39 = .ok (.iastore, 1) := by decide +kernel
theorem d_X_made_40 : decode b_X_made 40 = .ok (.aload_n 0, 1) := by decide +kernel
theorem d_X_made_41 : decode b_X_made 41 = .ok (.getfield 22, 3) := by decide +kernel
theorem d_X_made_44 : decode b_X_made 44 = .ok (.iload 4, 2) := by decide +kernel
theorem d_X_made_46 : decode b_X_made 46 = .ok (.iload_n 2, 1) := by decide +kernel
theorem d_X_made_47 : decode b_X_made 47 = .ok (.ifCond .ge 10, 3) := by decide +kernel
theorem d_X_made_50 : decode b_X_made 50 = .ok (.aload_n 1, 1) := by decide +kernel
theorem d_X_made_51 : decode b_X_made 51 = .ok (.getfield 97, 3) := by decide +kernel
theorem d_X_made_54 : decode b_X_made 54 = .ok (.goto 9, 3) := by decide +kernel
theorem d_X_made_57 : decode b_X_made 57 = .ok (.aload_n 0, 1) := by decide +kernel
theorem d_X_made_58 : decode b_X_made 58 = .ok (.getfield 19, 3) := by decide +kernel
theorem d_X_made_61 : decode b_X_made 61 = .ok (.iload_n 2, 1) := by decide +kernel
theorem d_X_made_62 : decode b_X_made 62 = .ok (.iaload, 1) := by decide +kernel
theorem d_X_made_63 : decode b_X_made 63 = .ok (.iastore, 1) := by decide +kernel
theorem d_X_made_64 : decode b_X_made 64 = .ok (.iload_n 2, 1) := by decide +kernel
theorem d_X_made_65 : decode b_X_made 65 = .ok (.ifCond .ge 12, 3) := by decide +kernel
theorem d_X_made_68 : decode b_X_made 68 = .ok (.aload_n 1, 1) := by decide +kernel
theorem d_X_made_69 : decode b_X_made 69 = .ok (.iload 4, 2) := by decide +kernel
theorem d_X_made_71 : decode b_X_made 71 = .ok (.putfield 97, 3) := by decide +kernel
theorem d_X_made_74 : decode b_X_made 74 = .ok (.goto 11, 3) := by decide +kernel
theorem d_X_made_77 : decode b_X_made 77 = .ok (.aload_n 0, 1) := by decide +kernel
theorem d_X_made_78 : decode b_X_made 78 = .ok (.getfield 19, 3) := by decide +kernel
theorem d_X_made_81 : decode b_X_made 81 = .ok (.iload_n 2, 1) := by decide +kernel
theorem d_X_made_82 : decode b_X_made 82 = .ok (.iload 4, 2) := by decide +kernel
theorem d_X_made_84 : decode b_X_made 84 = .ok (.iastore, 1) := by decide +kernel
theorem d_X_made_85 : decode b_X_made 85 = .ok (.iload 4, 2) := by decide +kernel
theorem d_X_made_87 : decode b_X_made 87 = .ok (.ireturn, 1) := by decide +kernel
theorem d_X_sign_0 : decode b_X_sign 0 = .ok (.iload_n 1, 1) := by decide +kernel
theorem d_X_sign_1 : decode b_X_sign 1 = .ok (.invokestatic 71, 3) := by decide +kernel
theorem d_X_sign_4 : decode b_X_sign 4 = .ok (.ifCond .ne 5, 3) := by decide +kernel
theorem d_X_sign_7 : decode b_X_sign 7 = .ok (.iconst (-1), 1) := by decide +kernel
theorem d_X_sign_8 : decode b_X_sign 8 = .ok (.ireturn, 1) := by decide +kernel
theorem d_X_sign_9 : decode b_X_sign 9 = .ok (.aload_n 0, 1) := by decide +kernel
theorem d_X_sign_10 : decode b_X_sign 10 = .ok (.getfield 131, 3) := by decide +kernel
theorem d_X_sign_13 : decode b_X_sign 13 = .ok (.bipush 30, 2) := by decide +kernel
theorem d_X_sign_15 : decode b_X_sign 15 = .ok (.if_icmp .ne 6, 3) := by decide +kernel
theorem d_X_sign_18 : decode b_X_sign 18 = .ok (.bipush (-2), 2) := by decide +kernel
theorem d_X_sign_20 : decode b_X_sign 20 = .ok (.ireturn, 1) := by decide +kernel
theorem d_X_sign_21 : decode b_X_sign 21 = .ok (.aload_n 0, 1) := by decide +kernel
theorem d_X_sign_22 : decode b_X_sign 22 = .ok (.getfield 38, 3) := by decide +kernel
theorem d_X_sign_25 : decode b_X_sign 25 = .ok (.aload_n 0, 1) := by decide +kernel
theorem d_X_sign_26 : decode b_X_sign 26 = .ok (.getfield 131, 3) := by decide +kernel
theorem d_X_sign_29 : decode b_X_sign 29 = .ok (.iload_n 1, 1) := by decide +kernel
theorem d_X_sign_30 : decode b_X_sign 30 = .ok (.iastore, 1) := by decide +kernel
theorem d_X_sign_31 : decode b_X_sign 31 = .ok (.aload_n 0, 1) := by decide +kernel
theorem d_X_sign_32 : decode b_X_sign 32 = .ok (.dup, 1) := by decide +kernel
theorem d_X_sign_33 : decode b_X_sign 33 = .ok (.getfield 131, 3) := by decide +kernel
theorem d_X_sign_36 : decode b_X_sign 36 = .ok (.iconst 1, 1) := by decide +kernel
theorem d_X_sign_37 : decode b_X_sign 37 = .ok (.iadd, 1) := by decide +kernel
theorem d_X_sign_38 : decode b_X_sign 38 = .ok (.putfield 131, 3) := by decide +kernel
theorem d_X_sign_41 : decode b_X_sign 41 = .ok (.aload_n 0, 1) := by decide +kernel
theorem d_X_sign_42 : decode b_X_sign 42 = .ok (.getfield 131, 3) := by decide +kernel
theorem d_X_sign_45 : decode b_X_sign 45 = .ok (.ireturn, 1) := by decide +kernel
theorem d_X_clear_0 : decode b_X_clear 0 = .ok (.aload_n 0, 1) := by decide +kernel
theorem d_X_clear_1 : decode b_X_clear 1 = .ok (.getfield 131, 3) := by decide +kernel
theorem d_X_clear_4 : decode b_X_clear 4 = .ok (.istore_n 1, 1) := by decide +kernel
theorem d_X_clear_5 : decode b_X_clear 5 = .ok (.aload_n 0, 1) := by decide +kernel
theorem d_X_clear_6 : decode b_X_clear 6 = .ok (.iconst 0, 1) := by decide +kernel
theorem d_X_clear_7 : decode b_X_clear 7 = .ok (.putfield 131, 3) := by decide +kernel
theorem d_X_clear_10 : decode b_X_clear 10 = .ok (.iload_n 1, 1) := by decide +kernel
theorem d_X_clear_11 : decode b_X_clear 11 = .ok (.ireturn, 1) := by decide +kernel
theorem d_X_exception_0 : decode b_X_exception 0 = .ok (.aload_n 0, 1) := by decide +kernel
theorem d_X_exception_1 : decode b_X_exception 1 = .ok (.iload_n 1, 1) := by decide +kernel
theorem d_X_exception_2 : decode b_X_exception 2 = .ok (.invokevirtual 67, 3) := by decide +kernel
theorem d_X_exception_5 : decode b_X_exception 5 = .ok (.ifCond .ne 5, 3) := by decide +kernel
theorem d_X_exception_8 : decode b_X_exception 8 = .ok (.iconst (-1), 1) := by decide +kernel
theorem d_X_exception_9 : decode b_X_exception 9 = .ok (.ireturn, 1) := by decide +kernel
theorem d_X_exception_10 : decode b_X_exception 10 = .ok (.aload_n 0, 1) := by decide +kernel
theorem d_X_exception_11 : decode b_X_exception 11 = .ok (.getfield 131, 3) := by decide +kernel
theorem d_X_exception_14 : decode b_X_exception 14 = .ok (.ifCond .eq 16, 3) := by decide +kernel
theorem d_X_exception_17 : decode b_X_exception 17 = .ok (.aload_n 0, 1) := by decide +kernel
theorem d_X_exception_18 : decode b_X_exception 18 = .ok (.aload_n 0, 1) := by decide +kernel
theorem d_X_exception_19 : decode b_X_exception 19 = .ok (.getfield 11, 3) := by decide +kernel
theorem d_X_exception_22 : decode b_X_exception 22 = .ok (.iload_n 1, 1) := by decide +kernel
theorem d_X_exception_23 : decode b_X_exception 23 = .ok (.aaload, 1) := by decide +kernel
theorem d_X_exception_24 : decode b_X_exception 24 = .ok (.invokevirtual 141, 3) := by decide +kernel
theorem d_X_exception_27 : decode b_X_exception 27 = .ok (.ifCond .ne 6, 3) := by decide +kernel
theorem d_X_exception_30 : decode b_X_exception 30 = .ok (.bipush (-3), 2) := by decide +kernel
theorem d_X_exception_32 : decode b_X_exception 32 = .ok (.ireturn, 1) := by decide +kernel
theorem d_X_exception_33 : decode b_X_exception 33 = .ok (.aload_n 0, 1) := by decide +kernel
theorem d_X_exception_34 : decode b_X_exception 34 = .ok (.iload_n 1, 1) := by decide +kernel
theorem d_X_exception_35 : decode b_X_exception 35 = .ok (.invokevirtual 145, 3) := by decide +kernel
theorem d_X_exception_38 : decode b_X_exception 38 = .ok (.istore_n 3, 1) := by decide +kernel
theorem d_X_exception_39 : decode b_X_exception 39 = .ok (.iload_n 3, 1) := by decide +kernel
theorem d_X_exception_40 : decode b_X_exception 40 = .ok (.bipush 40, 2) := by decide +kernel
theorem d_X_exception_42 : decode b_X_exception 42 = .ok (.if_icmp .ne 6, 3) := by decide +kernel
theorem d_X_exception_45 : decode b_X_exception 45 = .ok (.bipush (-2), 2) := by decide +kernel
theorem d_X_exception_47 : decode b_X_exception 47 = .ok (.ireturn, 1) := by decide +kernel
theorem d_X_exception_48 : decode b_X_exception 48 = .ok (.iload_n 3, 1) := by decide +kernel
theorem d_X_exception_49 : decode b_X_exception 49 = .ok (.aload_n 0, 1) := by decide +kernel
theorem d_X_exception_50 : decode b_X_exception 50 = .ok (.getfield 134, 3) := by decide +kernel
theorem d_X_exception_53 : decode b_X_exception 53 = .ok (.if_icmp .ne 70, 3) := by decide +kernel
theorem d_X_exception_56 : decode b_X_exception 56 = .ok (.aload_n 0, 1) := by decide +kernel
theorem d_X_exception_57 : decode b_X_exception 57 = .ok (.dup, 1) := by decide +kernel
theorem d_X_exception_58 : decode b_X_exception 58 = .ok (.getfield 134, 3) := by decide +kernel
theorem d_X_exception_61 : decode b_X_exception 61 = .ok (.iconst 1, 1) := by decide +kernel
theorem d_X_exception_62 : decode b_X_exception 62 = .ok (.iadd, 1) := by decide +kernel
theorem d_X_exception_63 : decode b_X_exception 63 = .ok (.putfield 134, 3) := by decide +kernel
theorem d_X_exception_66 : decode b_X_exception 66 = .ok (.aload_n 0, 1) := by decide +kernel
theorem d_X_exception_67 : decode b_X_exception 67 = .ok (.getfield 41, 3) := by decide +kernel
theorem d_X_exception_70 : decode b_X_exception 70 = .ok (.iload_n 3, 1) := by decide +kernel
theorem d_X_exception_71 : decode b_X_exception 71 = .ok (.iload_n 1, 1) := by decide +kernel
theorem d_X_exception_72 : decode b_X_exception 72 = .ok (.iastore, 1) := by decide +kernel
theorem d_X_exception_73 : decode b_X_exception 73 = .ok (.aload_n 0, 1) := by decide +kernel
theorem d_X_exception_74 : decode b_X_exception 74 = .ok (.getfield 47, 3) := by decide +kernel
theorem d_X_exception_77 : decode b_X_exception 77 = .ok (.iload_n 3, 1) := by decide +kernel
theorem d_X_exception_78 : decode b_X_exception 78 = .ok (.aload_n 0, 1) := by decide +kernel
theorem d_X_exception_79 : decode b_X_exception 79 = .ok (.getfield 131, 3) := by decide +kernel
theorem d_X_exception_82 : decode b_X_exception 82 = .ok (.iastore, 1) := by decide +kernel
theorem d_X_exception_83 : decode b_X_exception 83 = .ok (.iconst 0, 1) := by decide +kernel
theorem d_X_exception_84 : decode b_X_exception 84 = .ok (.istore 4, 2) := by decide +kernel
theorem d_X_exception_86 : decode b_X_exception 86 = .ok (.iload 4, 2) := by decide +kernel
theorem d_X_exception_88 : decode b_X_exception 88 = .ok (.aload_n 0, 1) := by decide +kernel
theorem d_X_exception_89 : decode b_X_exception 89 = .ok (.getfield 131, 3) := by decide +kernel
theorem d_X_exception_92 : decode b_X_exception 92 = .ok (.if_icmp .ge 31, 3) := by decide +kernel
theorem d_X_exception_95 : decode b_X_exception 95 = .ok (.aload_n 0, 1) := by decide +kernel
theorem d_X_exception_96 : decode b_X_exception 96 = .ok (.getfield 44, 3) := by decide +kernel
theorem d_X_exception_99 : decode b_X_exception 99 = .ok (.bipush 30, 2) := by decide +kernel
theorem d_X_exception_101 : decode b_X_exception 101 = .ok (.iload_n 3, 1) := by decide +kernel
theorem d_X_exception_102 : decode b_X_exception 102 = .ok (.imul, 1) := by decide +kernel
theorem d_X_exception_103 : decode b_X_exception 103 = .ok (.iload 4, 2) := by decide +kernel
theorem d_X_exception_105 : decode b_X_exception 105 = .ok (.iadd, 1) := by decide +kernel
theorem d_X_exception_106 : decode b_X_exception 106 = .ok (.aload_n 0, 1) := by decide +kernel
theorem d_X_exception_107 : decode b_X_exception 107 = .ok (.getfield 53, 3) := by decide +kernel
theorem d_X_exception_110 : decode b_X_exception 110 = .ok (.iload 4, 2) := by decide +kernel
theorem d_X_exception_112 : decode b_X_exception 112 = .ok (.iconst 1, 1) := by decide +kernel
theorem d_X_exception_113 : decode b_X_exception 113 = .ok (.iadd, 1) := by decide +kernel
theorem d_X_exception_114 : decode b_X_exception 114 = .ok (.iaload, 1) := by decide +kernel
theorem d_X_exception_115 : decode b_X_exception 115 = .ok (.i2b, 1) := by decide +kernel
theorem d_X_exception_116 : decode b_X_exception 116 = .ok (.bastore, 1) := by decide +kernel
theorem d_X_exception_117 : decode b_X_exception 117 = .ok (.iinc 4 1, 3) := by decide +kernel
theorem d_X_exception_120 : decode b_X_exception 120 = .ok (.goto (-34), 3) := by decide +kernel
theorem d_X_exception_123 : decode b_X_exception 123 = .ok (.aload_n 0, 1) := by decide +kernel
theorem d_X_exception_124 : decode b_X_exception 124 = .ok (.getfield 50, 3) := by decide +kernel
theorem d_X_exception_127 : decode b_X_exception 127 = .ok (.iload_n 3, 1) := by decide +kernel
theorem d_X_exception_128 : decode b_X_exception 128 = .ok (.iload_n 2, 1) := by decide +kernel
theorem d_X_exception_129 : decode b_X_exception 129 = .ok (.iastore, 1) := by decide +kernel
theorem d_X_exception_130 : decode b_X_exception 130 = .ok (.iload_n 3, 1) := by decide +kernel
theorem d_X_exception_131 : decode b_X_exception 131 = .ok (.ireturn, 1) := by decide +kernel
theorem d_X_spell_0 : decode b_X_spell 0 = .ok (.aload_n 0, 1) := by decide +kernel
theorem d_X_spell_1 : decode b_X_spell 1 = .ok (.getfield 53, 3) := by decide +kernel
theorem d_X_spell_4 : decode b_X_spell 4 = .ok (.iconst 0, 1) := by decide +kernel
theorem d_X_spell_5 : decode b_X_spell 5 = .ok (.iconst 0, 1) := by decide +kernel
theorem d_X_spell_6 : decode b_X_spell 6 = .ok (.iastore, 1) := by decide +kernel
theorem d_X_spell_7 : decode b_X_spell 7 = .ok (.iconst 0, 1) := by decide +kernel
theorem d_X_spell_8 : decode b_X_spell 8 = .ok (.istore_n 2, 1) := by decide +kernel
theorem d_X_spell_9 : decode b_X_spell 9 = .ok (.iload_n 2, 1) := by decide +kernel
theorem d_X_spell_10 : decode b_X_spell 10 = .ok (.aload_n 0, 1) := by decide +kernel
theorem d_X_spell_11 : decode b_X_spell 11 = .ok (.getfield 131, 3) := by decide +kernel
theorem d_X_spell_14 : decode b_X_spell 14 = .ok (.if_icmp .ge 41, 3) := by decide +kernel
theorem d_X_spell_17 : decode b_X_spell 17 = .ok (.aload_n 0, 1) := by decide +kernel
theorem d_X_spell_18 : decode b_X_spell 18 = .ok (.getfield 53, 3) := by decide +kernel
theorem d_X_spell_21 : decode b_X_spell 21 = .ok (.iload_n 2, 1) := by decide +kernel
theorem d_X_spell_22 : decode b_X_spell 22 = .ok (.iconst 1, 1) := by decide +kernel
theorem d_X_spell_23 : decode b_X_spell 23 = .ok (.iadd, 1) := by decide +kernel
theorem d_X_spell_24 : decode b_X_spell 24 = .ok (.aload_n 1, 1) := by decide +kernel
theorem d_X_spell_25 : decode b_X_spell 25 = .ok (.getfield 74, 3) := by decide +kernel
theorem d_X_spell_28 : decode b_X_spell 28 = .ok (.aload_n 0, 1) := by decide +kernel
theorem d_X_spell_29 : decode b_X_spell 29 = .ok (.getfield 38, 3) := by decide +kernel
theorem d_X_spell_32 : decode b_X_spell 32 = .ok (.iload_n 2, 1) := by decide +kernel
theorem d_X_spell_33 : decode b_X_spell 33 = .ok (.iaload, 1) := by decide +kernel
theorem d_X_spell_34 : decode b_X_spell 34 = .ok (.baload, 1) := by decide +kernel
theorem d_X_spell_35 : decode b_X_spell 35 = .ok (.iastore, 1) := by decide +kernel
theorem d_X_spell_36 : decode b_X_spell 36 = .ok (.aload_n 0, 1) := by decide +kernel
theorem d_X_spell_37 : decode b_X_spell 37 = .ok (.getfield 53, 3) := by decide +kernel
theorem d_X_spell_40 : decode b_X_spell 40 = .ok (.iload_n 2, 1) := by decide +kernel
theorem d_X_spell_41 : decode b_X_spell 41 = .ok (.iconst 1, 1) := by decide +kernel
theorem d_X_spell_42 : decode b_X_spell 42 = .ok (.iadd, 1) := by decide +kernel
theorem d_X_spell_43 : decode b_X_spell 43 = .ok (.iaload, 1) := by decide +kernel
theorem d_X_spell_44 : decode b_X_spell 44 = .ok (.ifCond .ne 5, 3) := by decide +kernel
theorem d_X_spell_47 : decode b_X_spell 47 = .ok (.iconst 0, 1) := by decide +kernel
theorem d_X_spell_48 : decode b_X_spell 48 = .ok (.ireturn, 1) := by decide +kernel
theorem d_X_spell_49 : decode b_X_spell 49 = .ok (.iinc 2 1, 3) := by decide +kernel
theorem d_X_spell_52 : decode b_X_spell 52 = .ok (.goto (-43), 3) := by decide +kernel
theorem d_X_spell_55 : decode b_X_spell 55 = .ok (.aload_n 0, 1) := by decide +kernel
theorem d_X_spell_56 : decode b_X_spell 56 = .ok (.getfield 53, 3) := by decide +kernel
theorem d_X_spell_59 : decode b_X_spell 59 = .ok (.aload_n 0, 1) := by decide +kernel
theorem d_X_spell_60 : decode b_X_spell 60 = .ok (.getfield 131, 3) := by decide +kernel
theorem d_X_spell_63 : decode b_X_spell 63 = .ok (.iconst 1, 1) := by decide +kernel
theorem d_X_spell_64 : decode b_X_spell 64 = .ok (.iadd, 1) := by decide +kernel
theorem d_X_spell_65 : decode b_X_spell 65 = .ok (.iconst 0, 1) := by decide +kernel
theorem d_X_spell_66 : decode b_X_spell 66 = .ok (.iastore, 1) := by decide +kernel
theorem d_X_spell_67 : decode b_X_spell 67 = .ok (.iconst 1, 1) := by decide +kernel
theorem d_X_spell_68 : decode b_X_spell 68 = .ok (.ireturn, 1) := by decide +kernel
theorem d_X_find_0 : decode b_X_find 0 = .ok (.iconst 0, 1) := by decide +kernel
theorem d_X_find_1 : decode b_X_find 1 = .ok (.istore_n 2, 1) := by decide +kernel
theorem d_X_find_2 : decode b_X_find 2 = .ok (.iload_n 2, 1) := by decide +kernel
theorem d_X_find_3 : decode b_X_find 3 = .ok (.aload_n 0, 1) := by decide +kernel
theorem d_X_find_4 : decode b_X_find 4 = .ok (.getfield 134, 3) := by decide +kernel
theorem d_X_find_7 : decode b_X_find 7 = .ok (.if_icmp .ge 18, 3) := by decide +kernel
theorem d_X_find_10 : decode b_X_find 10 = .ok (.aload_n 0, 1) := by decide +kernel
theorem d_X_find_11 : decode b_X_find 11 = .ok (.iload_n 2, 1) := by decide +kernel
theorem d_X_find_12 : decode b_X_find 12 = .ok (.iload_n 1, 1) := by decide +kernel
theorem d_X_find_13 : decode b_X_find 13 = .ok (.invokevirtual 137, 3) := by decide +kernel
theorem d_X_find_16 : decode b_X_find 16 = .ok (.ifCond .ne 9, 3) := by decide +kernel
theorem d_X_find_19 : decode b_X_find 19 = .ok (.iinc 2 1, 3) := by decide +kernel
theorem d_X_find_22 : decode b_X_find 22 = .ok (.goto (-20), 3) := by decide +kernel
theorem d_X_find_25 : decode b_X_find 25 = .ok (.iload_n 2, 1) := by decide +kernel
theorem d_X_find_26 : decode b_X_find 26 = .ok (.ireturn, 1) := by decide +kernel
theorem d_X_isException_0 : decode b_X_isException 0 = .ok (.aload_n 0, 1) := by decide +kernel
theorem d_X_isException_1 : decode b_X_isException 1 = .ok (.getfield 41, 3) := by decide +kernel
theorem d_X_isException_4 : decode b_X_isException 4 = .ok (.iload_n 1, 1) := by decide +kernel
theorem d_X_isException_5 : decode b_X_isException 5 = .ok (.iaload, 1) := by decide +kernel
theorem d_X_isException_6 : decode b_X_isException 6 = .ok (.iload_n 2, 1) := by decide +kernel
theorem d_X_isException_7 : decode b_X_isException 7 = .ok (.if_icmp .ne 16, 3) := by decide +kernel
theorem d_X_isException_10 : decode b_X_isException 10 = .ok (.aload_n 0, 1) := by decide +kernel
theorem d_X_isException_11 : decode b_X_isException 11 = .ok (.getfield 47, 3) := by decide +kernel
theorem d_X_isException_14 : decode b_X_isException 14 = .ok (.iload_n 1, 1) := by decide +kernel
theorem d_X_isException_15 : decode b_X_isException 15 = .ok (.iaload, 1) := by decide +kernel
theorem d_X_isException_16 : decode b_X_isException 16 = .ok (.aload_n 0, 1) := by decide +kernel
theorem d_X_isException_17 : decode b_X_isException 17 = .ok (.getfield 131, 3) := by decide +kernel
theorem d_X_isException_20 : decode b_X_isException 20 = .ok (.if_icmp .eq 5, 3) := by decide +kernel
theorem d_X_isException_23 : decode b_X_isException 23 = .ok (.iconst 0, 1) := by decide +kernel
theorem d_X_isException_24 : decode b_X_isException 24 = .ok (.ireturn, 1) := by decide +kernel
theorem d_X_isException_25 : decode b_X_isException 25 = .ok (.iconst 1, 1) := by decide +kernel
theorem d_X_isException_26 : decode b_X_isException 26 = .ok (.istore_n 3, 1) := by decide +kernel
theorem d_X_isException_27 : decode b_X_isException 27 = .ok (.iconst 0, 1) := by decide +kernel
theorem d_X_isException_28 : decode b_X_isException 28 = .ok (.istore 4, 2) := by decide +kernel
theorem d_X_isException_30 : decode b_X_isException 30 = .ok (.iload 4, 2) := by decide +kernel
theorem d_X_isException_32 : decode b_X_isException 32 = .ok (.aload_n 0, 1) := by decide +kernel
theorem d_X_isException_33 : decode b_X_isException 33 = .ok (.getfield 131, 3) := by decide +kernel
theorem d_X_isException_36 : decode b_X_isException 36 = .ok (.if_icmp .ge 43, 3) := by decide +kernel
theorem d_X_isException_39 : decode b_X_isException 39 = .ok (.iload_n 3, 1) := by decide +kernel
theorem d_X_isException_40 : decode b_X_isException 40 = .ok (.ifCond .eq 31, 3) := by decide +kernel
theorem d_X_isException_43 : decode b_X_isException 43 = .ok (.aload_n 0, 1) := by decide +kernel
theorem d_X_isException_44 : decode b_X_isException 44 = .ok (.getfield 44, 3) := by decide +kernel
theorem d_X_isException_47 : decode b_X_isException 47 = .ok (.bipush 30, 2) := by decide +kernel
theorem d_X_isException_49 : decode b_X_isException 49 = .ok (.iload_n 1, 1) := by decide +kernel
theorem d_X_isException_50 : decode b_X_isException 50 = .ok (.imul, 1) := by decide +kernel
theorem d_X_isException_51 : decode b_X_isException 51 = .ok (.iload 4, 2) := by decide +kernel
theorem d_X_isException_53 : decode b_X_isException 53 = .ok (.iadd, 1) := by decide +kernel
theorem d_X_isException_54 : decode b_X_isException 54 = .ok (.baload, 1) := by decide +kernel
theorem d_X_isException_55 : decode b_X_isException 55 = .ok (.aload_n 0, 1) := by decide +kernel
theorem d_X_isException_56 : decode b_X_isException 56 = .ok (.getfield 53, 3) := by decide +kernel
theorem d_X_isException_59 : decode b_X_isException 59 = .ok (.iload 4, 2) := by decide +kernel
theorem d_X_isException_61 : decode b_X_isException 61 = .ok (.iconst 1, 1) := by decide +kernel
theorem d_X_isException_62 : decode b_X_isException 62 = .ok (.iadd, 1) := by decide +kernel
theorem d_X_isException_63 : decode b_X_isException 63 = .ok (.iaload, 1) := by decide +kernel
theorem d_X_isException_64 : decode b_X_isException 64 = .ok (.if_icmp .ne 7, 3) := by decide +kernel
theorem d_X_isException_67 : decode b_X_isException 67 = .ok (.iconst 1, 1) := by decide +kernel
theorem d_X_isException_68 : decode b_X_isException 68 = .ok (.goto 4, 3) := by decide +kernel
theorem d_X_isException_71 : decode b_X_isException 71 = .ok (.iconst 0, 1) := by decide +kernel
theorem d_X_isException_72 : decode b_X_isException 72 = .ok (.istore_n 3, 1) := by decide +kernel
theorem d_X_isException_73 : decode b_X_isException 73 = .ok (.iinc 4 1, 3) := by decide +kernel
theorem d_X_isException_76 : decode b_X_isException 76 = .ok (.goto (-46), 3) := by decide +kernel
theorem d_X_isException_79 : decode b_X_isException 79 = .ok (.iload_n 3, 1) := by decide +kernel
theorem d_X_isException_80 : decode b_X_isException 80 = .ok (.ireturn, 1) := by decide +kernel
theorem d_X_drop_0 : decode b_X_drop 0 = .ok (.iload_n 1, 1) := by decide +kernel
theorem d_X_drop_1 : decode b_X_drop 1 = .ok (.ifCond .lt 11, 3) := by decide +kernel
theorem d_X_drop_4 : decode b_X_drop 4 = .ok (.iload_n 1, 1) := by decide +kernel
theorem d_X_drop_5 : decode b_X_drop 5 = .ok (.aload_n 0, 1) := by decide +kernel
theorem d_X_drop_6 : decode b_X_drop 6 = .ok (.getfield 134, 3) := by decide +kernel
theorem d_X_drop_9 : decode b_X_drop 9 = .ok (.if_icmp .lt 5, 3) := by decide +kernel
theorem d_X_drop_12 : decode b_X_drop 12 = .ok (.iconst (-1), 1) := by decide +kernel
theorem d_X_drop_13 : decode b_X_drop 13 = .ok (.ireturn, 1) := by decide +kernel
theorem d_X_drop_14 : decode b_X_drop 14 = .ok (.aload_n 0, 1) := by decide +kernel
theorem d_X_drop_15 : decode b_X_drop 15 = .ok (.dup, 1) := by decide +kernel
theorem d_X_drop_16 : decode b_X_drop 16 = .ok (.getfield 134, 3) := by decide +kernel
theorem d_X_drop_19 : decode b_X_drop 19 = .ok (.iconst 1, 1) := by decide +kernel
theorem d_X_drop_20 : decode b_X_drop 20 = .ok (.isub, 1) := by decide +kernel
theorem d_X_drop_21 : decode b_X_drop 21 = .ok (.putfield 134, 3) := by decide +kernel
theorem d_X_drop_24 : decode b_X_drop 24 = .ok (.iload_n 1, 1) := by decide +kernel
theorem d_X_drop_25 : decode b_X_drop 25 = .ok (.istore_n 2, 1) := by decide +kernel
theorem d_X_drop_26 : decode b_X_drop 26 = .ok (.iload_n 2, 1) := by decide +kernel
theorem d_X_drop_27 : decode b_X_drop 27 = .ok (.aload_n 0, 1) := by decide +kernel
theorem d_X_drop_28 : decode b_X_drop 28 = .ok (.getfield 134, 3) := by decide +kernel
theorem d_X_drop_31 : decode b_X_drop 31 = .ok (.if_icmp .ge 89, 3) := by decide +kernel
theorem d_X_drop_34 : decode b_X_drop 34 = .ok (.aload_n 0, 1) := by decide +kernel
theorem d_X_drop_35 : decode b_X_drop 35 = .ok (.getfield 41, 3) := by decide +kernel
theorem d_X_drop_38 : decode b_X_drop 38 = .ok (.iload_n 2, 1) := by decide +kernel
theorem d_X_drop_39 : decode b_X_drop 39 = .ok (.aload_n 0, 1) := by decide +kernel
theorem d_X_drop_40 : decode b_X_drop 40 = .ok (.getfield 41, 3) := by decide +kernel
theorem d_X_drop_43 : decode b_X_drop 43 = .ok (.iload_n 2, 1) := by decide +kernel
theorem d_X_drop_44 : decode b_X_drop 44 = .ok (.iconst 1, 1) := by decide +kernel
theorem d_X_drop_45 : decode b_X_drop 45 = .ok (.iadd, 1) := by decide +kernel
theorem d_X_drop_46 : decode b_X_drop 46 = .ok (.iaload, 1) := by decide +kernel
theorem d_X_drop_47 : decode b_X_drop 47 = .ok (.iastore, 1) := by decide +kernel
theorem d_X_drop_48 : decode b_X_drop 48 = .ok (.aload_n 0, 1) := by decide +kernel
theorem d_X_drop_49 : decode b_X_drop 49 = .ok (.getfield 47, 3) := by decide +kernel
theorem d_X_drop_52 : decode b_X_drop 52 = .ok (.iload_n 2, 1) := by decide +kernel
theorem d_X_drop_53 : decode b_X_drop 53 = .ok (.aload_n 0, 1) := by decide +kernel
theorem d_X_drop_54 : decode b_X_drop 54 = .ok (.getfield 47, 3) := by decide +kernel
theorem d_X_drop_57 : decode b_X_drop 57 = .ok (.iload_n 2, 1) := by decide +kernel
theorem d_X_drop_58 : decode b_X_drop 58 = .ok (.iconst 1, 1) := by decide +kernel
theorem d_X_drop_59 : decode b_X_drop 59 = .ok (.iadd, 1) := by decide +kernel
theorem d_X_drop_60 : decode b_X_drop 60 = .ok (.iaload, 1) := by decide +kernel
theorem d_X_drop_61 : decode b_X_drop 61 = .ok (.iastore, 1) := by decide +kernel
theorem d_X_drop_62 : decode b_X_drop 62 = .ok (.aload_n 0, 1) := by decide +kernel
theorem d_X_drop_63 : decode b_X_drop 63 = .ok (.getfield 50, 3) := by decide +kernel
theorem d_X_drop_66 : decode b_X_drop 66 = .ok (.iload_n 2, 1) := by decide +kernel
theorem d_X_drop_67 : decode b_X_drop 67 = .ok (.aload_n 0, 1) := by decide +kernel
theorem d_X_drop_68 : decode b_X_drop 68 = .ok (.getfield 50, 3) := by decide +kernel
theorem d_X_drop_71 : decode b_X_drop 71 = .ok (.iload_n 2, 1) := by decide +kernel
theorem d_X_drop_72 : decode b_X_drop 72 = .ok (.iconst 1, 1) := by decide +kernel
theorem d_X_drop_73 : decode b_X_drop 73 = .ok (.iadd, 1) := by decide +kernel
theorem d_X_drop_74 : decode b_X_drop 74 = .ok (.iaload, 1) := by decide +kernel
theorem d_X_drop_75 : decode b_X_drop 75 = .ok (.iastore, 1) := by decide +kernel
theorem d_X_drop_76 : decode b_X_drop 76 = .ok (.iconst 0, 1) := by decide +kernel
theorem d_X_drop_77 : decode b_X_drop 77 = .ok (.istore_n 3, 1) := by decide +kernel
theorem d_X_drop_78 : decode b_X_drop 78 = .ok (.iload_n 3, 1) := by decide +kernel
theorem d_X_drop_79 : decode b_X_drop 79 = .ok (.bipush 30, 2) := by decide +kernel
theorem d_X_drop_81 : decode b_X_drop 81 = .ok (.if_icmp .ge 33, 3) := by decide +kernel
theorem d_X_drop_84 : decode b_X_drop 84 = .ok (.aload_n 0, 1) := by decide +kernel
theorem d_X_drop_85 : decode b_X_drop 85 = .ok (.getfield 44, 3) := by decide +kernel
theorem d_X_drop_88 : decode b_X_drop 88 = .ok (.bipush 30, 2) := by decide +kernel
theorem d_X_drop_90 : decode b_X_drop 90 = .ok (.iload_n 2, 1) := by decide +kernel
theorem d_X_drop_91 : decode b_X_drop 91 = .ok (.imul, 1) := by decide +kernel
theorem d_X_drop_92 : decode b_X_drop 92 = .ok (.iload_n 3, 1) := by decide +kernel
theorem d_X_drop_93 : decode b_X_drop 93 = .ok (.iadd, 1) := by decide +kernel
theorem d_X_drop_94 : decode b_X_drop 94 = .ok (.aload_n 0, 1) := by decide +kernel
theorem d_X_drop_95 : decode b_X_drop 95 = .ok (.getfield 44, 3) := by decide +kernel
theorem d_X_drop_98 : decode b_X_drop 98 = .ok (.bipush 30, 2) := by decide +kernel
theorem d_X_drop_100 : decode b_X_drop 100 = .ok (.iload_n 2, 1) := by decide +kernel
theorem d_X_drop_101 : decode b_X_drop 101 = .ok (.iconst 1, 1) := by decide +kernel
theorem d_X_drop_102 : decode b_X_drop 102 = .ok (.iadd, 1) := by decide +kernel
theorem d_X_drop_103 : decode b_X_drop 103 = .ok (.imul, 1) := by decide +kernel
theorem d_X_drop_104 : decode b_X_drop 104 = .ok (.iload_n 3, 1) := by decide +kernel
theorem d_X_drop_105 : decode b_X_drop 105 = .ok (.iadd, 1) := by decide +kernel
theorem d_X_drop_106 : decode b_X_drop 106 = .ok (.baload, 1) := by decide +kernel
theorem d_X_drop_107 : decode b_X_drop 107 = .ok (.bastore, 1) := by decide +kernel
theorem d_X_drop_108 : decode b_X_drop 108 = .ok (.iinc 3 1, 3) := by decide +kernel
theorem d_X_drop_111 : decode b_X_drop 111 = .ok (.goto (-33), 3) := by decide +kernel
theorem d_X_drop_114 : decode b_X_drop 114 = .ok (.iinc 2 1, 3) := by decide +kernel
theorem d_X_drop_117 : decode b_X_drop 117 = .ok (.goto (-91), 3) := by decide +kernel
theorem d_X_drop_120 : decode b_X_drop 120 = .ok (.iconst 1, 1) := by decide +kernel
theorem d_X_drop_121 : decode b_X_drop 121 = .ok (.ireturn, 1) := by decide +kernel
theorem d_X_run_0 : decode b_X_run 0 = .ok (.aload_n 0, 1) := by decide +kernel
theorem d_X_run_1 : decode b_X_run 1 = .ok (.iload_n 1, 1) := by decide +kernel
theorem d_X_run_2 : decode b_X_run 2 = .ok (.invokevirtual 67, 3) := by decide +kernel
theorem d_X_run_5 : decode b_X_run 5 = .ok (.ifCond .ne 5, 3) := by decide +kernel
theorem d_X_run_8 : decode b_X_run 8 = .ok (.iconst (-1), 1) := by decide +kernel
theorem d_X_run_9 : decode b_X_run 9 = .ok (.ireturn, 1) := by decide +kernel
theorem d_X_run_10 : decode b_X_run 10 = .ok (.aload_n 0, 1) := by decide +kernel
theorem d_X_run_11 : decode b_X_run 11 = .ok (.getfield 11, 3) := by decide +kernel
theorem d_X_run_14 : decode b_X_run 14 = .ok (.iload_n 1, 1) := by decide +kernel
theorem d_X_run_15 : decode b_X_run 15 = .ok (.aaload, 1) := by decide +kernel
theorem d_X_run_16 : decode b_X_run 16 = .ok (.astore_n 2, 1) := by decide +kernel
theorem d_X_run_17 : decode b_X_run 17 = .ok (.aload_n 0, 1) := by decide +kernel
theorem d_X_run_18 : decode b_X_run 18 = .ok (.iconst 0, 1) := by decide +kernel
theorem d_X_run_19 : decode b_X_run 19 = .ok (.putfield 159, 3) := by decide +kernel
theorem d_X_run_22 : decode b_X_run 22 = .ok (.aload_n 0, 1) := by decide +kernel
theorem d_X_run_23 : decode b_X_run 23 = .ok (.getfield 131, 3) := by decide +kernel
theorem d_X_run_26 : decode b_X_run 26 = .ok (.ifCond .eq 32, 3) := by decide +kernel
theorem d_X_run_29 : decode b_X_run 29 = .ok (.aload_n 0, 1) := by decide +kernel
theorem d_X_run_30 : decode b_X_run 30 = .ok (.aload_n 2, 1) := by decide +kernel
theorem d_X_run_31 : decode b_X_run 31 = .ok (.invokevirtual 141, 3) := by decide +kernel
theorem d_X_run_34 : decode b_X_run 34 = .ok (.ifCond .eq 24, 3) := by decide +kernel
theorem d_X_run_37 : decode b_X_run 37 = .ok (.aload_n 2, 1) := by decide +kernel
theorem d_X_run_38 : decode b_X_run 38 = .ok (.getfield 87, 3) := by decide +kernel
theorem d_X_run_41 : decode b_X_run 41 = .ok (.ifCond .eq 19, 3) := by decide +kernel
theorem d_X_run_44 : decode b_X_run 44 = .ok (.aload_n 2, 1) := by decide +kernel
theorem d_X_run_45 : decode b_X_run 45 = .ok (.getfield 77, 3) := by decide +kernel
theorem d_X_run_48 : decode b_X_run 48 = .ok (.aload_n 0, 1) := by decide +kernel
theorem d_X_run_49 : decode b_X_run 49 = .ok (.getfield 38, 3) := by decide +kernel
theorem d_X_run_52 : decode b_X_run 52 = .ok (.iconst 0, 1) := by decide +kernel
theorem d_X_run_53 : decode b_X_run 53 = .ok (.iaload, 1) := by decide +kernel
theorem d_X_run_54 : decode b_X_run 54 = .ok (.baload, 1) := by decide +kernel
theorem d_X_run_55 : decode b_X_run 55 = .ok (.ifCond .eq 5, 3) := by decide +kernel
theorem d_X_run_58 : decode b_X_run 58 = .ok (.iconst 0, 1) := by decide +kernel
theorem d_X_run_59 : decode b_X_run 59 = .ok (.ireturn, 1) := by decide +kernel
theorem d_X_run_60 : decode b_X_run 60 = .ok (.aload_n 0, 1) := by decide +kernel
theorem d_X_run_61 : decode b_X_run 61 = .ok (.iload_n 1, 1) := by decide +kernel
theorem d_X_run_62 : decode b_X_run 62 = .ok (.invokevirtual 162, 3) := by decide +kernel
theorem d_X_run_65 : decode b_X_run 65 = .ok (.aload_n 2, 1) := by decide +kernel
theorem d_X_run_66 : decode b_X_run 66 = .ok (.getfield 81, 3) := by decide +kernel
theorem d_X_run_69 : decode b_X_run 69 = .ok (.iconst 1, 1) := by decide +kernel
theorem d_X_run_70 : decode b_X_run 70 = .ok (.invokestatic 153, 3) := by decide +kernel
theorem d_X_run_73 : decode b_X_run 73 = .ok (.istore_n 3, 1) := by decide +kernel
theorem d_X_run_74 : decode b_X_run 74 = .ok (.iload_n 3, 1) := by decide +kernel
theorem d_X_run_75 : decode b_X_run 75 = .ok (.aload_n 0, 1) := by decide +kernel
theorem d_X_run_76 : decode b_X_run 76 = .ok (.getfield 131, 3) := by decide +kernel
theorem d_X_run_79 : decode b_X_run 79 = .ok (.aload_n 2, 1) := by decide +kernel
theorem d_X_run_80 : decode b_X_run 80 = .ok (.getfield 84, 3) := by decide +kernel
theorem d_X_run_83 : decode b_X_run 83 = .ok (.iconst 1, 1) := by decide +kernel
theorem d_X_run_84 : decode b_X_run 84 = .ok (.invokestatic 153, 3) := by decide +kernel
theorem d_X_run_87 : decode b_X_run 87 = .ok (.isub, 1) := by decide +kernel
theorem d_X_run_88 : decode b_X_run 88 = .ok (.if_icmp .gt 45, 3) := by decide +kernel
theorem d_X_run_91 : decode b_X_run 91 = .ok (.aload_n 0, 1) := by decide +kernel
theorem d_X_run_92 : decode b_X_run 92 = .ok (.getfield 56, 3) := by decide +kernel
theorem d_X_run_95 : decode b_X_run 95 = .ok (.iload_n 3, 1) := by decide +kernel
theorem d_X_run_96 : decode b_X_run 96 = .ok (.iconst 1, 1) := by decide +kernel
theorem d_X_run_97 : decode b_X_run 97 = .ok (.iadd, 1) := by decide +kernel
theorem d_X_run_98 : decode b_X_run 98 = .ok (.iaload, 1) := by decide +kernel
theorem d_X_run_99 : decode b_X_run 99 = .ok (.iconst 1, 1) := by decide +kernel
theorem d_X_run_100 : decode b_X_run 100 = .ok (.iand, 1) := by decide +kernel
theorem d_X_run_101 : decode b_X_run 101 = .ok (.ifCond .ne 6, 3) := by decide +kernel
theorem d_X_run_104 : decode b_X_run 104 = .ok (.goto 23, 3) := by decide +kernel
theorem d_X_run_107 : decode b_X_run 107 = .ok (.aload_n 0, 1) := by decide +kernel
theorem d_X_run_108 : decode b_X_run 108 = .ok (.getfield 59, 3) := by decide +kernel
theorem d_X_run_111 : decode b_X_run 111 = .ok (.aload_n 0, 1) := by decide +kernel
theorem d_X_run_112 : decode b_X_run 112 = .ok (.getfield 159, 3) := by decide +kernel
theorem d_X_run_115 : decode b_X_run 115 = .ok (.iload_n 3, 1) := by decide +kernel
theorem d_X_run_116 : decode b_X_run 116 = .ok (.iastore, 1) := by decide +kernel
theorem d_X_run_117 : decode b_X_run 117 = .ok (.aload_n 0, 1) := by decide +kernel
theorem d_X_run_118 : decode b_X_run 118 = .ok (.dup, 1) := by decide +kernel
theorem d_X_run_119 : decode b_X_run 119 = .ok (.getfield 159, 3) := by decide +kernel
theorem d_X_run_122 : decode b_X_run 122 = .ok (.iconst 1, 1) := by decide +kernel
theorem d_X_run_123 : decode b_X_run 123 = .ok (.iadd, 1) := by decide +kernel
theorem d_X_run_124 : decode b_X_run 124 = .ok (.putfield 159, 3) := by decide +kernel
theorem d_X_run_127 : decode b_X_run 127 = .ok (.iinc 3 1, 3) := by decide +kernel
theorem d_X_run_130 : decode b_X_run 130 = .ok (.goto (-56), 3) := by decide +kernel
theorem d_X_run_133 : decode b_X_run 133 = .ok (.aload_n 0, 1) := by decide +kernel
theorem d_X_run_134 : decode b_X_run 134 = .ok (.getfield 159, 3) := by decide +kernel
theorem d_X_run_137 : decode b_X_run 137 = .ok (.ireturn, 1) := by decide +kernel
theorem d_X_weigh_0 : decode b_X_weigh 0 = .ok (.aload_n 0, 1) := by decide +kernel
theorem d_X_weigh_1 : decode b_X_weigh 1 = .ok (.getfield 11, 3) := by decide +kernel
theorem d_X_weigh_4 : decode b_X_weigh 4 = .ok (.iload_n 1, 1) := by decide +kernel
theorem d_X_weigh_5 : decode b_X_weigh 5 = .ok (.aaload, 1) := by decide +kernel
theorem d_X_weigh_6 : decode b_X_weigh 6 = .ok (.astore_n 2, 1) := by decide +kernel
theorem d_X_weigh_7 : decode b_X_weigh 7 = .ok (.iconst 0, 1) := by decide +kernel
theorem d_X_weigh_8 : decode b_X_weigh 8 = .ok (.istore_n 3, 1) := by decide +kernel
theorem d_X_weigh_9 : decode b_X_weigh 9 = .ok (.iload_n 3, 1) := by decide +kernel
theorem d_X_weigh_10 : decode b_X_weigh 10 = .ok (.aload_n 0, 1) := by decide +kernel
theorem d_X_weigh_11 : decode b_X_weigh 11 = .ok (.getfield 56, 3) := by decide +kernel
theorem d_X_weigh_14 : decode b_X_weigh 14 = .ok (.arraylength, 1) := by decide +kernel
theorem d_X_weigh_15 : decode b_X_weigh 15 = .ok (.if_icmp .ge 16, 3) := by decide +kernel
theorem d_X_weigh_18 : decode b_X_weigh 18 = .ok (.aload_n 0, 1) := by decide +kernel
theorem d_X_weigh_19 : decode b_X_weigh 19 = .ok (.getfield 56, 3) := by decide +kernel
theorem d_X_weigh_22 : decode b_X_weigh 22 = .ok (.iload_n 3, 1) := by decide +kernel
theorem d_X_weigh_23 : decode b_X_weigh 23 = .ok (.iconst 0, 1) := by decide +kernel
theorem d_X_weigh_24 : decode b_X_weigh 24 = .ok (.iastore, 1) := by decide +kernel
theorem d_X_weigh_25 : decode b_X_weigh 25 = .ok (.iinc 3 1, 3) := by decide +kernel
theorem d_X_weigh_28 : decode b_X_weigh 28 = .ok (.goto (-19), 3) := by decide +kernel
theorem d_X_weigh_31 : decode b_X_weigh 31 = .ok (.aload_n 0, 1) := by decide +kernel
theorem d_X_weigh_32 : decode b_X_weigh 32 = .ok (.iload_n 1, 1) := by decide +kernel
theorem d_X_weigh_33 : decode b_X_weigh 33 = .ok (.invokevirtual 145, 3) := by decide +kernel
theorem d_X_weigh_36 : decode b_X_weigh 36 = .ok (.istore_n 3, 1) := by decide +kernel
theorem d_X_weigh_37 : decode b_X_weigh 37 = .ok (.iload_n 3, 1) := by decide +kernel
theorem d_X_weigh_38 : decode b_X_weigh 38 = .ok (.aload_n 0, 1) := by decide +kernel
theorem d_X_weigh_39 : decode b_X_weigh 39 = .ok (.getfield 134, 3) := by decide +kernel
theorem d_X_weigh_42 : decode b_X_weigh 42 = .ok (.if_icmp .ge 42, 3) := by decide +kernel
theorem d_X_weigh_45 : decode b_X_weigh 45 = .ok (.iconst 0, 1) := by decide +kernel
theorem d_X_weigh_46 : decode b_X_weigh 46 = .ok (.istore 4, 2) := by decide +kernel
theorem d_X_weigh_48 : decode b_X_weigh 48 = .ok (.iload 4, 2) := by decide +kernel
theorem d_X_weigh_50 : decode b_X_weigh 50 = .ok (.aload_n 0, 1) := by decide +kernel
theorem d_X_weigh_51 : decode b_X_weigh 51 = .ok (.getfield 131, 3) := by decide +kernel
theorem d_X_weigh_54 : decode b_X_weigh 54 = .ok (.if_icmp .gt 29, 3) := by decide +kernel
theorem d_X_weigh_57 : decode b_X_weigh 57 = .ok (.aload_n 0, 1) := by decide +kernel
theorem d_X_weigh_58 : decode b_X_weigh 58 = .ok (.getfield 56, 3) := by decide +kernel
theorem d_X_weigh_61 : decode b_X_weigh 61 = .ok (.iload 4, 2) := by decide +kernel
theorem d_X_weigh_63 : decode b_X_weigh 63 = .ok (.iconst 1, 1) := by decide +kernel
theorem d_X_weigh_64 : decode b_X_weigh 64 = .ok (.iadd, 1) := by decide +kernel
theorem d_X_weigh_65 : decode b_X_weigh 65 = .ok (.aload_n 0, 1) := by decide +kernel
theorem d_X_weigh_66 : decode b_X_weigh 66 = .ok (.getfield 50, 3) := by decide +kernel
theorem d_X_weigh_69 : decode b_X_weigh 69 = .ok (.iload_n 3, 1) := by decide +kernel
theorem d_X_weigh_70 : decode b_X_weigh 70 = .ok (.iaload, 1) := by decide +kernel
theorem d_X_weigh_71 : decode b_X_weigh 71 = .ok (.iload 4, 2) := by decide +kernel
theorem d_X_weigh_73 : decode b_X_weigh 73 = .ok (.ishr, 1) := by decide +kernel
theorem d_X_weigh_74 : decode b_X_weigh 74 = .ok (.iconst 1, 1) := by decide +kernel
theorem d_X_weigh_75 : decode b_X_weigh 75 = .ok (.iand, 1) := by decide +kernel
theorem d_X_weigh_76 : decode b_X_weigh 76 = .ok (.iastore, 1) := by decide +kernel
theorem d_X_weigh_77 : decode b_X_weigh 77 = .ok (.iinc 4 1, 3) := by decide +kernel
theorem d_X_weigh_80 : decode b_X_weigh 80 = .ok (.goto (-32), 3) := by decide +kernel
theorem d_X_weigh_83 : decode b_X_weigh 83 = .ok (.return_, 1) := by decide +kernel
theorem d_X_weigh_84 : decode b_X_weigh 84 = .ok (.iconst 0, 1) := by decide +kernel
theorem d_X_weigh_85 : decode b_X_weigh 85 = .ok (.istore 4, 2) := by decide +kernel
theorem d_X_weigh_87 : decode b_X_weigh 87 = .ok (.iload 4, 2) := by decide +kernel
theorem d_X_weigh_89 : decode b_X_weigh 89 = .ok (.aload_n 0, 1) := by decide +kernel
theorem d_X_weigh_90 : decode b_X_weigh 90 = .ok (.getfield 131, 3) := by decide +kernel
theorem d_X_weigh_93 : decode b_X_weigh 93 = .ok (.iconst 2, 1) := by decide +kernel
theorem d_X_weigh_94 : decode b_X_weigh 94 = .ok (.iadd, 1) := by decide +kernel
theorem d_X_weigh_95 : decode b_X_weigh 95 = .ok (.if_icmp .ge 87, 3) := by decide +kernel
theorem d_X_weigh_98 : decode b_X_weigh 98 = .ok (.iconst (-1), 1) := by decide +kernel
theorem d_X_weigh_99 : decode b_X_weigh 99 = .ok (.istore 5, 2) := by decide +kernel
theorem d_X_weigh_101 : decode b_X_weigh 101 = .ok (.iload 4, 2) := by decide +kernel
theorem d_X_weigh_103 : decode b_X_weigh 103 = .ok (.istore 6, 2) := by decide +kernel
theorem d_X_weigh_105 : decode b_X_weigh 105 = .ok (.iload 6, 2) := by decide +kernel
theorem d_X_weigh_107 : decode b_X_weigh 107 = .ok (.aload_n 0, 1) := by decide +kernel
theorem d_X_weigh_108 : decode b_X_weigh 108 = .ok (.getfield 131, 3) := by decide +kernel
theorem d_X_weigh_111 : decode b_X_weigh 111 = .ok (.iconst 2, 1) := by decide +kernel
theorem d_X_weigh_112 : decode b_X_weigh 112 = .ok (.iadd, 1) := by decide +kernel
theorem d_X_weigh_113 : decode b_X_weigh 113 = .ok (.if_icmp .ge 63, 3) := by decide +kernel
theorem d_X_weigh_116 : decode b_X_weigh 116 = .ok (.aload_n 0, 1) := by decide +kernel
theorem d_X_weigh_117 : decode b_X_weigh 117 = .ok (.aload_n 2, 1) := by decide +kernel
theorem d_X_weigh_118 : decode b_X_weigh 118 = .ok (.iload 5, 2) := by decide +kernel
theorem d_X_weigh_120 : decode b_X_weigh 120 = .ok (.aload_n 0, 1) := by decide +kernel
theorem d_X_weigh_121 : decode b_X_weigh 121 = .ok (.getfield 53, 3) := by decide +kernel
theorem d_X_weigh_124 : decode b_X_weigh 124 = .ok (.iload 6, 2) := by decide +kernel
theorem d_X_weigh_126 : decode b_X_weigh 126 = .ok (.iaload, 1) := by decide +kernel
theorem d_X_weigh_127 : decode b_X_weigh 127 = .ok (.invokevirtual 100, 3) := by decide +kernel
theorem d_X_weigh_130 : decode b_X_weigh 130 = .ok (.istore 5, 2) := by decide +kernel
theorem d_X_weigh_132 : decode b_X_weigh 132 = .ok (.iload 5, 2) := by decide +kernel
theorem d_X_weigh_134 : decode b_X_weigh 134 = .ok (.ifCond .ge 6, 3) := by decide +kernel
theorem d_X_weigh_137 : decode b_X_weigh 137 = .ok (.goto 39, 3) := by decide +kernel
theorem d_X_weigh_140 : decode b_X_weigh 140 = .ok (.aload_n 0, 1) := by decide +kernel
theorem d_X_weigh_141 : decode b_X_weigh 141 = .ok (.getfield 25, 3) := by decide +kernel
theorem d_X_weigh_144 : decode b_X_weigh 144 = .ok (.iload 5, 2) := by decide +kernel
theorem d_X_weigh_146 : decode b_X_weigh 146 = .ok (.iaload, 1) := by decide +kernel
theorem d_X_weigh_147 : decode b_X_weigh 147 = .ok (.ifCond .lt 23, 3) := by decide +kernel
theorem d_X_weigh_150 : decode b_X_weigh 150 = .ok (.aload_n 0, 1) := by decide +kernel
theorem d_X_weigh_151 : decode b_X_weigh 151 = .ok (.aload_n 0, 1) := by decide +kernel
theorem d_X_weigh_152 : decode b_X_weigh 152 = .ok (.getfield 25, 3) := by decide +kernel
theorem d_X_weigh_155 : decode b_X_weigh 155 = .ok (.iload 5, 2) := by decide +kernel
theorem d_X_weigh_157 : decode b_X_weigh 157 = .ok (.iaload, 1) := by decide +kernel
theorem d_X_weigh_158 : decode b_X_weigh 158 = .ok (.iload 4, 2) := by decide +kernel
theorem d_X_weigh_160 : decode b_X_weigh 160 = .ok (.iload 6, 2) := by decide +kernel
theorem d_X_weigh_162 : decode b_X_weigh 162 = .ok (.iconst 1, 1) := by decide +kernel
theorem d_X_weigh_163 : decode b_X_weigh 163 = .ok (.iadd, 1) := by decide +kernel
theorem d_X_weigh_164 : decode b_X_weigh 164 = .ok (.iload 4, 2) := by decide +kernel
theorem d_X_weigh_166 : decode b_X_weigh 166 = .ok (.isub, 1) := by decide +kernel
theorem d_X_weigh_167 : decode b_X_weigh 167 = .ok (.invokevirtual 149, 3) := by decide +kernel
theorem d_X_weigh_170 : decode b_X_weigh 170 = .ok (.iinc 6 1, 3) := by decide +kernel
theorem d_X_weigh_173 : decode b_X_weigh 173 = .ok (.goto (-68), 3) := by decide +kernel
theorem d_X_weigh_176 : decode b_X_weigh 176 = .ok (.iinc 4 1, 3) := by decide +kernel
theorem d_X_weigh_179 : decode b_X_weigh 179 = .ok (.goto (-92), 3) := by decide +kernel
theorem d_X_weigh_182 : decode b_X_weigh 182 = .ok (.return_, 1) := by decide +kernel
theorem d_X_raise_0 : decode b_X_raise 0 = .ok (.iconst 0, 1) := by decide +kernel
theorem d_X_raise_1 : decode b_X_raise 1 = .ok (.istore 4, 2) := by decide +kernel
theorem d_X_raise_3 : decode b_X_raise 3 = .ok (.iload 4, 2) := by decide +kernel
theorem d_X_raise_5 : decode b_X_raise 5 = .ok (.iload_n 3, 1) := by decide +kernel
theorem d_X_raise_6 : decode b_X_raise 6 = .ok (.if_icmp .gt 42, 3) := by decide +kernel
theorem d_X_raise_9 : decode b_X_raise 9 = .ok (.aload_n 0, 1) := by decide +kernel
theorem d_X_raise_10 : decode b_X_raise 10 = .ok (.getfield 56, 3) := by decide +kernel
theorem d_X_raise_13 : decode b_X_raise 13 = .ok (.iload_n 2, 1) := by decide +kernel
theorem d_X_raise_14 : decode b_X_raise 14 = .ok (.iload 4, 2) := by decide +kernel
theorem d_X_raise_16 : decode b_X_raise 16 = .ok (.iadd, 1) := by decide +kernel
theorem d_X_raise_17 : decode b_X_raise 17 = .ok (.aload_n 0, 1) := by decide +kernel
theorem d_X_raise_18 : decode b_X_raise 18 = .ok (.getfield 56, 3) := by decide +kernel
theorem d_X_raise_21 : decode b_X_raise 21 = .ok (.iload_n 2, 1) := by decide +kernel
theorem d_X_raise_22 : decode b_X_raise 22 = .ok (.iload 4, 2) := by decide +kernel
theorem d_X_raise_24 : decode b_X_raise 24 = .ok (.iadd, 1) := by decide +kernel
theorem d_X_raise_25 : decode b_X_raise 25 = .ok (.iaload, 1) := by decide +kernel
theorem d_X_raise_26 : decode b_X_raise 26 = .ok (.aload_n 0, 1) := by decide +kernel
theorem d_X_raise_27 : decode b_X_raise 27 = .ok (.getfield 28, 3) := by decide +kernel
theorem d_X_raise_30 : decode b_X_raise 30 = .ok (.bipush 13, 2) := by decide +kernel
theorem d_X_raise_32 : decode b_X_raise 32 = .ok (.iload_n 1, 1) := by decide +kernel
theorem d_X_raise_33 : decode b_X_raise 33 = .ok (.imul, 1) := by decide +kernel
theorem d_X_raise_34 : decode b_X_raise 34 = .ok (.iload 4, 2) := by decide +kernel
theorem d_X_raise_36 : decode b_X_raise 36 = .ok (.iadd, 1) := by decide +kernel
theorem d_X_raise_37 : decode b_X_raise 37 = .ok (.baload, 1) := by decide +kernel
theorem d_X_raise_38 : decode b_X_raise 38 = .ok (.invokestatic 153, 3) := by decide +kernel
theorem d_X_raise_41 : decode b_X_raise 41 = .ok (.iastore, 1) := by decide +kernel
theorem d_X_raise_42 : decode b_X_raise 42 = .ok (.iinc 4 1, 3) := by decide +kernel
theorem d_X_raise_45 : decode b_X_raise 45 = .ok (.goto (-42), 3) := by decide +kernel
theorem d_X_raise_48 : decode b_X_raise 48 = .ok (.return_, 1) := by decide +kernel
theorem d_X_at_0 : decode b_X_at 0 = .ok (.iload_n 1, 1) := by decide +kernel
theorem d_X_at_1 : decode b_X_at 1 = .ok (.ifCond .lt 20, 3) := by decide +kernel
theorem d_X_at_4 : decode b_X_at 4 = .ok (.iload_n 1, 1) := by decide +kernel
theorem d_X_at_5 : decode b_X_at 5 = .ok (.aload_n 0, 1) := by decide +kernel
theorem d_X_at_6 : decode b_X_at 6 = .ok (.getfield 159, 3) := by decide +kernel
theorem d_X_at_9 : decode b_X_at 9 = .ok (.if_icmp .ge 12, 3) := by decide +kernel
theorem d_X_at_12 : decode b_X_at 12 = .ok (.aload_n 0, 1) := by decide +kernel
theorem d_X_at_13 : decode b_X_at 13 = .ok (.getfield 59, 3) := by decide +kernel
theorem d_X_at_16 : decode b_X_at 16 = .ok (.iload_n 1, 1) := by decide +kernel
theorem d_X_at_17 : decode b_X_at 17 = .ok (.iaload, 1) := by decide +kernel
theorem d_X_at_18 : decode b_X_at 18 = .ok (.goto 4, 3) := by decide +kernel
theorem d_X_at_21 : decode b_X_at 21 = .ok (.iconst (-1), 1) := by decide +kernel
theorem d_X_at_22 : decode b_X_at 22 = .ok (.ireturn, 1) := by decide +kernel
theorem d_X_digit_0 : decode b_X_digit 0 = .ok (.aload_n 0, 1) := by decide +kernel
theorem d_X_digit_1 : decode b_X_digit 1 = .ok (.iload_n 1, 1) := by decide +kernel
theorem d_X_digit_2 : decode b_X_digit 2 = .ok (.invokevirtual 67, 3) := by decide +kernel
theorem d_X_digit_5 : decode b_X_digit 5 = .ok (.ifCond .eq 15, 3) := by decide +kernel
theorem d_X_digit_8 : decode b_X_digit 8 = .ok (.iload_n 2, 1) := by decide +kernel
theorem d_X_digit_9 : decode b_X_digit 9 = .ok (.ifCond .lt 11, 3) := by decide +kernel
theorem d_X_digit_12 : decode b_X_digit 12 = .ok (.iload_n 2, 1) := by decide +kernel
theorem d_X_digit_13 : decode b_X_digit 13 = .ok (.aload_n 0, 1) := by decide +kernel
theorem d_X_digit_14 : decode b_X_digit 14 = .ok (.getfield 131, 3) := by decide +kernel
theorem d_X_digit_17 : decode b_X_digit 17 = .ok (.if_icmp .le 5, 3) := by decide +kernel
theorem d_X_digit_20 : decode b_X_digit 20 = .ok (.iconst (-1), 1) := by decide +kernel
theorem d_X_digit_21 : decode b_X_digit 21 = .ok (.ireturn, 1) := by decide +kernel
theorem d_X_digit_22 : decode b_X_digit 22 = .ok (.aload_n 0, 1) := by decide +kernel
theorem d_X_digit_23 : decode b_X_digit 23 = .ok (.aload_n 0, 1) := by decide +kernel
theorem d_X_digit_24 : decode b_X_digit 24 = .ok (.getfield 11, 3) := by decide +kernel
theorem d_X_digit_27 : decode b_X_digit 27 = .ok (.iload_n 1, 1) := by decide +kernel
theorem d_X_digit_28 : decode b_X_digit 28 = .ok (.aaload, 1) := by decide +kernel
theorem d_X_digit_29 : decode b_X_digit 29 = .ok (.invokevirtual 141, 3) := by decide +kernel
theorem d_X_digit_32 : decode b_X_digit 32 = .ok (.ifCond .ne 5, 3) := by decide +kernel
theorem d_X_digit_35 : decode b_X_digit 35 = .ok (.iconst 0, 1) := by decide +kernel
theorem d_X_digit_36 : decode b_X_digit 36 = .ok (.ireturn, 1) := by decide +kernel
theorem d_X_digit_37 : decode b_X_digit 37 = .ok (.aload_n 0, 1) := by decide +kernel
theorem d_X_digit_38 : decode b_X_digit 38 = .ok (.iload_n 1, 1) := by decide +kernel
theorem d_X_digit_39 : decode b_X_digit 39 = .ok (.invokevirtual 162, 3) := by decide +kernel
theorem d_X_digit_42 : decode b_X_digit 42 = .ok (.aload_n 0, 1) := by decide +kernel
theorem d_X_digit_43 : decode b_X_digit 43 = .ok (.getfield 56, 3) := by decide +kernel
theorem d_X_digit_46 : decode b_X_digit 46 = .ok (.iload_n 2, 1) := by decide +kernel
theorem d_X_digit_47 : decode b_X_digit 47 = .ok (.iconst 1, 1) := by decide +kernel
theorem d_X_digit_48 : decode b_X_digit 48 = .ok (.iadd, 1) := by decide +kernel
theorem d_X_digit_49 : decode b_X_digit 49 = .ok (.iaload, 1) := by decide +kernel
theorem d_X_digit_50 : decode b_X_digit 50 = .ok (.ireturn, 1) := by decide +kernel
theorem d_X_patterns_0 : decode b_X_patterns 0 = .ok (.aload_n 0, 1) := by decide +kernel
theorem d_X_patterns_1 : decode b_X_patterns 1 = .ok (.getfield 122, 3) := by decide +kernel
theorem d_X_patterns_4 : decode b_X_patterns 4 = .ok (.ireturn, 1) := by decide +kernel
theorem d_X_exceptions_0 : decode b_X_exceptions 0 = .ok (.aload_n 0, 1) := by decide +kernel
theorem d_X_exceptions_1 : decode b_X_exceptions 1 = .ok (.getfield 134, 3) := by decide +kernel
theorem d_X_exceptions_4 : decode b_X_exceptions 4 = .ok (.ireturn, 1) := by decide +kernel
end
section
-- what each instruction of HyphenRowsModel is
theorem d_M_init_0 : decode b_M_init 0 = .ok (.aload_n 0, 1) := by decide +kernel
theorem d_M_init_1 : decode b_M_init 1 = .ok (.invokespecial 1, 3) := by decide +kernel
theorem d_M_init_4 : decode b_M_init 4 = .ok (.aload_n 0, 1) := by decide +kernel
theorem d_M_init_5 : decode b_M_init 5 = .ok (.sipush 1024, 3) := by decide +kernel
theorem d_M_init_8 : decode b_M_init 8 = .ok (.newarray .int, 2) := by decide +kernel
theorem d_M_init_10 : decode b_M_init 10 = .ok (.putfield 7, 3) := by decide +kernel
theorem d_M_init_13 : decode b_M_init 13 = .ok (.aload_n 0, 1) := by decide +kernel
theorem d_M_init_14 : decode b_M_init 14 = .ok (.sipush 1024, 3) := by decide +kernel
theorem d_M_init_17 : decode b_M_init 17 = .ok (.newarray .boolean, 2) := by decide +kernel
theorem d_M_init_19 : decode b_M_init 19 = .ok (.putfield 13, 3) := by decide +kernel
theorem d_M_init_22 : decode b_M_init 22 = .ok (.aload_n 0, 1) := by decide +kernel
theorem d_M_init_23 : decode b_M_init 23 = .ok (.iconst 4, 1) := by decide +kernel
theorem d_M_init_24 : decode b_M_init 24 = .ok (.newarray .int, 2) := by decide +kernel
theorem d_M_init_26 : decode b_M_init 26 = .ok (.putfield 17, 3) := by decide +kernel
theorem d_M_init_29 : decode b_M_init 29 = .ok (.aload_n 0, 1) := by decide +kernel
theorem d_M_init_30 : decode b_M_init 30 = .ok (.iconst 4, 1) := by decide +kernel
theorem d_M_init_31 : decode b_M_init 31 = .ok (.newarray .int, 2) := by decide +kernel
theorem d_M_init_33 : decode b_M_init 33 = .ok (.putfield 20, 3) := by decide +kernel
theorem d_M_init_36 : decode b_M_init 36 = .ok (.aload_n 0, 1) := by decide +kernel
theorem d_M_init_37 : decode b_M_init 37 = .ok (.iconst 4, 1) := by decide +kernel
theorem d_M_init_38 : decode b_M_init 38 = .ok (.newarray .boolean, 2) := by decide +kernel
theorem d_M_init_40 : decode b_M_init 40 = .ok (.putfield 23, 3) := by decide +kernel
theorem d_M_init_43 : decode b_M_init 43 = .ok (.aload_n 0, 1) := by decide +kernel
theorem d_M_init_44 : decode b_M_init 44 = .ok (.bipush 12, 2) := by decide +kernel
theorem d_M_init_46 : decode b_M_init 46 = .ok (.newarray .int, 2) := by decide +kernel
theorem d_M_init_48 : decode b_M_init 48 = .ok (.putfield 26, 3) := by decide +kernel
theorem d_M_init_51 : decode b_M_init 51 = .ok (.aload_n 0, 1) := by decide +kernel
theorem d_M_init_52 : decode b_M_init 52 = .ok (.bipush 13, 2) := by decide +kernel
theorem d_M_init_54 : decode b_M_init 54 = .ok (.newarray .int, 2) := by decide +kernel
theorem d_M_init_56 : decode b_M_init 56 = .ok (.putfield 29, 3) := by decide +kernel
theorem d_M_init_59 : decode b_M_init 59 = .ok (.aload_n 0, 1) := by decide +kernel
theorem d_M_init_60 : decode b_M_init 60 = .ok (.sipush 150, 3) := by decide +kernel
theorem d_M_init_63 : decode b_M_init 63 = .ok (.newarray .int, 2) := by decide +kernel
theorem d_M_init_65 : decode b_M_init 65 = .ok (.putfield 32, 3) := by decide +kernel
theorem d_M_init_68 : decode b_M_init 68 = .ok (.aload_n 0, 1) := by decide +kernel
theorem d_M_init_69 : decode b_M_init 69 = .ok (.sipush 150, 3) := by decide +kernel
theorem d_M_init_72 : decode b_M_init 72 = .ok (.newarray .int, 2) := by decide +kernel
theorem d_M_init_74 : decode b_M_init 74 = .ok (.putfield 35, 3) := by decide +kernel
theorem d_M_init_77 : decode b_M_init 77 = .ok (.aload_n 0, 1) := by decide +kernel
theorem d_M_init_78 : decode b_M_init 78 = .ok (.sipush 1800, 3) := by decide +kernel
theorem d_M_init_81 : decode b_M_init 81 = .ok (.newarray .int, 2) := by decide +kernel
theorem d_M_init_83 : decode b_M_init 83 = .ok (.putfield 38, 3) := by decide +kernel
theorem d_M_init_86 : decode b_M_init 86 = .ok (.aload_n 0, 1) := by decide +kernel
theorem d_M_init_87 : decode b_M_init 87 = .ok (.sipush 1950, 3) := by decide +kernel
theorem d_M_init_90 : decode b_M_init 90 = .ok (.newarray .int, 2) := by decide +kernel
theorem d_M_init_92 : decode b_M_init 92 = .ok (.putfield 41, 3) := by decide +kernel
theorem d_M_init_95 : decode b_M_init 95 = .ok (.aload_n 0, 1) := by decide +kernel
theorem d_M_init_96 : decode b_M_init 96 = .ok (.bipush 40, 2) := by decide +kernel
theorem d_M_init_98 : decode b_M_init 98 = .ok (.newarray .int, 2) := by decide +kernel
theorem d_M_init_100 : decode b_M_init 100 = .ok (.putfield 44, 3) := by decide +kernel
theorem d_M_init_103 : decode b_M_init 103 = .ok (.aload_n 0, 1) := by decide +kernel
theorem d_M_init_104 : decode b_M_init 104 = .ok (.bipush 40, 2) := by decide +kernel
theorem d_M_init_106 : decode b_M_init 106 = .ok (.newarray .int, 2) := by decide +kernel
theorem d_M_init_108 : decode b_M_init 108 = .ok (.putfield 47, 3) := by decide +kernel
theorem d_M_init_111 : decode b_M_init 111 = .ok (.aload_n 0, 1) := by decide +kernel
theorem d_M_init_112 : decode b_M_init 112 = .ok (.sipush 1200, 3) := by decide +kernel
theorem d_M_init_115 : decode b_M_init 115 = .ok (.newarray .int, 2) := by decide +kernel
theorem d_M_init_117 : decode b_M_init 117 = .ok (.putfield 50, 3) := by decide +kernel
theorem d_M_init_120 : decode b_M_init 120 = .ok (.aload_n 0, 1) := by decide +kernel
theorem d_M_init_121 : decode b_M_init 121 = .ok (.bipush 40, 2) := by decide +kernel
theorem d_M_init_123 : decode b_M_init 123 = .ok (.newarray .int, 2) := by decide +kernel
theorem d_M_init_125 : decode b_M_init 125 = .ok (.putfield 53, 3) := by decide +kernel
theorem d_M_init_128 : decode b_M_init 128 = .ok (.aload_n 0, 1) := by decide +kernel
theorem d_M_init_129 : decode b_M_init 129 = .ok (.bipush 30, 2) := by decide +kernel
theorem d_M_init_131 : decode b_M_init 131 = .ok (.newarray .int, 2) := by decide +kernel
theorem d_M_init_133 : decode b_M_init 133 = .ok (.putfield 56, 3) := by decide +kernel
theorem d_M_init_136 : decode b_M_init 136 = .ok (.aload_n 0, 1) := by decide +kernel
theorem d_M_init_137 : decode b_M_init 137 = .ok (.bipush 32, 2) := by decide +kernel
theorem d_M_init_139 : decode b_M_init 139 = .ok (.newarray .int, 2) := by decide +kernel
theorem d_M_init_141 : decode b_M_init 141 = .ok (.putfield 59, 3) := by decide +kernel
theorem d_M_init_144 : decode b_M_init 144 = .ok (.aload_n 0, 1) := by decide +kernel
theorem d_M_init_145 : decode b_M_init 145 = .ok (.bipush 32, 2) := by decide +kernel
theorem d_M_init_147 : decode b_M_init 147 = .ok (.newarray .int, 2) := by decide +kernel
theorem d_M_init_149 : decode b_M_init 149 = .ok (.putfield 62, 3) := by decide +kernel
theorem d_M_init_152 : decode b_M_init 152 = .ok (.return_, 1) := by decide +kernel
theorem d_M_language_0 : decode b_M_language 0 = .ok (.aload_n 0, 1) := by decide +kernel
theorem d_M_language_1 : decode b_M_language 1 = .ok (.getfield 65, 3) := by decide +kernel
theorem d_M_language_4 : decode b_M_language 4 = .ok (.iconst 4, 1) := by decide +kernel
theorem d_M_language_5 : decode b_M_language 5 = .ok (.if_icmp .ne 6, 3) := by decide +kernel
theorem d_M_language_8 : decode b_M_language 8 = .ok (.bipush (-2), 2) := by decide +kernel
theorem d_M_language_10 : decode b_M_language 10 = .ok (.ireturn, 1) := by decide +kernel
theorem d_M_language_11 : decode b_M_language 11 = .ok (.aload_n 0, 1) := by decide +kernel
theorem d_M_language_12 : decode b_M_language 12 = .ok (.getfield 17, 3) := by decide +kernel
theorem d_M_language_15 : decode b_M_language 15 = .ok (.aload_n 0, 1) := by decide +kernel
theorem d_M_language_16 : decode b_M_language 16 = .ok (.getfield 65, 3) := by decide +kernel
theorem d_M_language_19 : decode b_M_language 19 = .ok (.iconst 2, 1) := by decide +kernel
theorem d_M_language_20 : decode b_M_language 20 = .ok (.iastore, 1) := by decide +kernel
theorem d_M_language_21 : decode b_M_language 21 = .ok (.aload_n 0, 1) := by decide +kernel
theorem d_M_language_22 : decode b_M_language 22 = .ok (.getfield 20, 3) := by decide +kernel
theorem d_M_language_25 : decode b_M_language 25 = .ok (.aload_n 0, 1) := by decide +kernel
theorem d_M_language_26 : decode b_M_language 26 = .ok (.getfield 65, 3) := by decide +kernel
theorem d_M_language_29 : decode b_M_language 29 = .ok (.iconst 3, 1) := by decide +kernel
theorem d_M_language_30 : decode b_M_language 30 = .ok (.iastore, 1) := by decide +kernel
theorem d_M_language_31 : decode b_M_language 31 = .ok (.aload_n 0, 1) := by decide +kernel
theorem d_M_language_32 : decode b_M_language 32 = .ok (.dup, 1) := by decide +kernel
theorem d_M_language_33 : decode b_M_language 33 = .ok (.getfield 65, 3) := by decide +kernel
theorem d_M_language_36 : decode b_M_language 36 = .ok (.iconst 1, 1) := by decide +kernel
theorem d_M_language_37 : decode b_M_language 37 = .ok (.iadd, 1) := by decide +kernel
theorem d_M_language_38 : decode b_M_language 38 = .ok (.putfield 65, 3) := by decide +kernel
theorem d_M_language_41 : decode b_M_language 41 = .ok (.aload_n 0, 1) := by decide +kernel
theorem d_M_language_42 : decode b_M_language 42 = .ok (.getfield 65, 3) := by decide +kernel
theorem d_M_language_45 : decode b_M_language 45 = .ok (.iconst 1, 1) := by decide +kernel
theorem d_M_language_46 : decode b_M_language 46 = .ok (.isub, 1) := by decide +kernel
theorem d_M_language_47 : decode b_M_language 47 = .ok (.ireturn, 1) := by decide +kernel
theorem d_M_code_0 : decode b_M_code 0 = .ok (.aload_n 0, 1) := by decide +kernel
theorem d_M_code_1 : decode b_M_code 1 = .ok (.iload_n 1, 1) := by decide +kernel
theorem d_M_code_2 : decode b_M_code 2 = .ok (.invokevirtual 69, 3) := by decide +kernel
theorem d_M_code_5 : decode b_M_code 5 = .ok (.ifCond .eq 24, 3) := by decide +kernel
theorem d_M_code_8 : decode b_M_code 8 = .ok (.iload_n 2, 1) := by decide +kernel
theorem d_M_code_9 : decode b_M_code 9 = .ok (.iconst 0, 1) := by decide +kernel
theorem d_M_code_10 : decode b_M_code 10 = .ok (.sipush 255, 3) := by decide +kernel
theorem d_M_code_13 : decode b_M_code 13 = .ok (.invokestatic 73, 3) := by decide +kernel
theorem d_M_code_16 : decode b_M_code 16 = .ok (.ifCond .eq 13, 3) := by decide +kernel
theorem d_M_code_19 : decode b_M_code 19 = .ok (.iload_n 3, 1) := by decide +kernel
theorem d_M_code_20 : decode b_M_code 20 = .ok (.iconst 0, 1) := by decide +kernel
theorem d_M_code_21 : decode b_M_code 21 = .ok (.bipush 30, 2) := by decide +kernel
theorem d_M_code_23 : decode b_M_code 23 = .ok (.invokestatic 73, 3) := by decide +kernel
theorem d_M_code_26 : decode b_M_code 26 = .ok (.ifCond .ne 5, 3) := by decide +kernel
theorem d_M_code_29 : decode b_M_code 29 = .ok (.iconst (-1), 1) := by decide +kernel
theorem d_M_code_30 : decode b_M_code 30 = .ok (.ireturn, 1) := by decide +kernel
theorem d_M_code_31 : decode b_M_code 31 = .ok (.aload_n 0, 1) := by decide +kernel
theorem d_M_code_32 : decode b_M_code 32 = .ok (.getfield 7, 3) := by decide +kernel
theorem d_M_code_35 : decode b_M_code 35 = .ok (.sipush 256, 3) := by decide +kernel
theorem d_M_code_38 : decode b_M_code 38 = .ok (.iload_n 1, 1) := by decide +kernel
theorem d_M_code_39 : decode b_M_code 39 = .ok (.imul, 1) := by decide +kernel
theorem d_M_code_40 : decode b_M_code 40 = .ok (.iload_n 2, 1) := by decide +kernel
theorem d_M_code_41 : decode b_M_code 41 = .ok (.iadd, 1) := by decide +kernel
theorem d_M_code_42 : decode b_M_code 42 = .ok (.iload_n 3, 1) := by decide +kernel
theorem d_M_code_43 : decode b_M_code 43 = .ok (.iastore, 1) := by decide +kernel
theorem d_M_code_44 : decode b_M_code 44 = .ok (.aload_n 0, 1) := by decide +kernel
theorem d_M_code_45 : decode b_M_code 45 = .ok (.getfield 13, 3) := by decide +kernel
theorem d_M_code_48 : decode b_M_code 48 = .ok (.sipush 256, 3) := by decide +kernel
theorem d_M_code_51 : decode b_M_code 51 = .ok (.iload_n 1, 1) := by decide +kernel
theorem d_M_code_52 : decode b_M_code 52 = .ok (.imul, 1) := by decide +kernel
theorem d_M_code_53 : decode b_M_code 53 = .ok (.iload_n 2, 1) := by decide +kernel
theorem d_M_code_54 : decode b_M_code 54 = .ok (.iadd, 1) := by decide +kernel
theorem d_M_code_55 : decode b_M_code 55 = .ok (.iload 4, 2) := by decide +kernel
theorem d_M_code_57 : decode b_M_code 57 = .ok (.bastore, 1) := by decide +kernel
theorem d_M_code_58 : decode b_M_code 58 = .ok (.iconst 1, 1) := by decide +kernel
theorem d_M_code_59 : decode b_M_code 59 = .ok (.ireturn, 1) := by decide +kernel
theorem d_M_isLanguage_0 : decode b_M_isLanguage 0 = .ok (.iload_n 1, 1) := by decide +kernel
theorem d_M_isLanguage_1 : decode b_M_isLanguage 1 = .ok (.ifCond .lt 15, 3) := by decide +kernel
theorem d_M_isLanguage_4 : decode b_M_isLanguage 4 = .ok (.iload_n 1, 1) := by decide +kernel
theorem d_M_isLanguage_5 : decode b_M_isLanguage 5 = .ok (.aload_n 0, 1) := by decide +kernel
theorem d_M_isLanguage_6 : decode b_M_isLanguage 6 = .ok (.getfield 65, 3) := by decide +kernel
theorem d_M_isLanguage_9 : decode b_M_isLanguage 9 = .ok (.if_icmp .ge 7, 3) := by decide +kernel
theorem d_M_isLanguage_12 : decode b_M_isLanguage 12 = .ok (.iconst 1, 1) := by decide +kernel
theorem d_M_isLanguage_13 : decode b_M_isLanguage 13 = .ok (.goto 4, 3) := by decide +kernel
theorem d_M_isLanguage_16 : decode b_M_isLanguage 16 = .ok (.iconst 0, 1) := by decide +kernel
theorem d_M_isLanguage_17 : decode b_M_isLanguage 17 = .ok (.ireturn, 1) := by decide +kernel
theorem d_M_in_0 : decode b_M_in 0 = .ok (.iload_n 0, 1) := by decide +kernel
theorem d_M_in_1 : decode b_M_in 1 = .ok (.iload_n 1, 1) := by decide +kernel
theorem d_M_in_2 : decode b_M_in 2 = .ok (.if_icmp .lt 12, 3) := by decide +kernel
theorem d_M_in_5 : decode b_M_in 5 = .ok (.iload_n 0, 1) := by decide +kernel
theorem d_M_in_6 : decode b_M_in 6 = .ok (.iload_n 2, 1) := by decide +kernel
theorem d_M_in_7 : decode b_M_in 7 = .ok (.if_icmp .gt 7, 3) := by decide +kernel
theorem d_M_in_10 : decode b_M_in 10 = .ok (.iconst 1, 1) := by decide +kernel
theorem d_M_in_11 : decode b_M_in 11 = .ok (.goto 4, 3) := by decide +kernel
theorem d_M_in_14 : decode b_M_in 14 = .ok (.iconst 0, 1) := by decide +kernel
theorem d_M_in_15 : decode b_M_in 15 = .ok (.ireturn, 1) := by decide +kernel
theorem d_M_ends_0 : decode b_M_ends 0 = .ok (.aload_n 0, 1) := by decide +kernel
theorem d_M_ends_1 : decode b_M_ends 1 = .ok (.iload_n 1, 1) := by decide +kernel
theorem d_M_ends_2 : decode b_M_ends 2 = .ok (.invokevirtual 69, 3) := by decide +kernel
theorem d_M_ends_5 : decode b_M_ends 5 = .ok (.ifCond .eq 23, 3) := by decide +kernel
theorem d_M_ends_8 : decode b_M_ends 8 = .ok (.iload_n 2, 1) := by decide +kernel
theorem d_M_ends_9 : decode b_M_ends 9 = .ok (.iconst 0, 1) := by decide +kernel
theorem d_M_ends_10 : decode b_M_ends 10 = .ok (.bipush 20, 2) := by decide +kernel
theorem d_M_ends_12 : decode b_M_ends 12 = .ok (.invokestatic 73, 3) := by decide +kernel
theorem d_M_ends_15 : decode b_M_ends 15 = .ok (.ifCond .eq 13, 3) := by decide +kernel
theorem d_M_ends_18 : decode b_M_ends 18 = .ok (.iload_n 3, 1) := by decide +kernel
theorem d_M_ends_19 : decode b_M_ends 19 = .ok (.iconst 0, 1) := by decide +kernel
theorem d_M_ends_20 : decode b_M_ends 20 = .ok (.bipush 20, 2) := by decide +kernel
theorem d_M_ends_22 : decode b_M_ends 22 = .ok (.invokestatic 73, 3) := by decide +kernel
theorem d_M_ends_25 : decode b_M_ends 25 = .ok (.ifCond .ne 5, 3) := by decide +kernel
theorem d_M_ends_28 : decode b_M_ends 28 = .ok (.iconst (-1), 1) := by decide +kernel
theorem d_M_ends_29 : decode b_M_ends 29 = .ok (.ireturn, 1) := by decide +kernel
theorem d_M_ends_30 : decode b_M_ends 30 = .ok (.aload_n 0, 1) := by decide +kernel
theorem d_M_ends_31 : decode b_M_ends 31 = .ok (.getfield 17, 3) := by decide +kernel
theorem d_M_ends_34 : decode b_M_ends 34 = .ok (.iload_n 1, 1) := by decide +kernel
theorem d_M_ends_35 : decode b_M_ends 35 = .ok (.iload_n 2, 1) := by decide +kernel
theorem d_M_ends_36 : decode b_M_ends 36 = .ok (.iastore, 1) := by decide +kernel
theorem d_M_ends_37 : decode b_M_ends 37 = .ok (.aload_n 0, 1) := by decide +kernel
theorem d_M_ends_38 : decode b_M_ends 38 = .ok (.getfield 20, 3) := by decide +kernel
theorem d_M_ends_41 : decode b_M_ends 41 = .ok (.iload_n 1, 1) := by decide +kernel
theorem d_M_ends_42 : decode b_M_ends 42 = .ok (.iload_n 3, 1) := by decide +kernel
theorem d_M_ends_43 : decode b_M_ends 43 = .ok (.iastore, 1) := by decide +kernel
theorem d_M_ends_44 : decode b_M_ends 44 = .ok (.aload_n 0, 1) := by decide +kernel
theorem d_M_ends_45 : decode b_M_ends 45 = .ok (.getfield 23, 3) := by decide +kernel
theorem d_M_ends_48 : decode b_M_ends 48 = .ok (.iload_n 1, 1) := by decide +kernel
theorem d_M_ends_49 : decode b_M_ends 49 = .ok (.iload 4, 2) := by decide +kernel
theorem d_M_ends_51 : decode b_M_ends 51 = .ok (.bastore, 1) := by decide +kernel
theorem d_M_ends_52 : decode b_M_ends 52 = .ok (.iconst 1, 1) := by decide +kernel
theorem d_M_ends_53 : decode b_M_ends 53 = .ok (.ireturn, 1) := by decide +kernel
theorem d_M_next_0 : decode b_M_next 0 = .ok (.iload_n 1, 1) := by decide +kernel
theorem d_M_next_1 : decode b_M_next 1 = .ok (.iconst 0, 1) := by decide +kernel
theorem d_M_next_2 : decode b_M_next 2 = .ok (.bipush 30, 2) := by decide +kernel
theorem d_M_next_4 : decode b_M_next 4 = .ok (.invokestatic 73, 3) := by decide +kernel
theorem d_M_next_7 : decode b_M_next 7 = .ok (.ifCond .eq 13, 3) := by decide +kernel
theorem d_M_next_10 : decode b_M_next 10 = .ok (.iload_n 2, 1) := by decide +kernel
theorem d_M_next_11 : decode b_M_next 11 = .ok (.iconst 0, 1) := by decide +kernel
theorem d_M_next_12 : decode b_M_next 12 = .ok (.bipush 9, 2) := by decide +kernel
theorem d_M_next_14 : decode b_M_next 14 = .ok (.invokestatic 73, 3) := by decide +kernel
theorem d_M_next_17 : decode b_M_next 17 = .ok (.ifCond .ne 5, 3) := by decide +kernel
theorem d_M_next_20 : decode b_M_next 20 = .ok (.iconst (-1), 1) := by decide +kernel
theorem d_M_next_21 : decode b_M_next 21 = .ok (.ireturn, 1) := by decide +kernel
theorem d_M_next_22 : decode b_M_next 22 = .ok (.aload_n 0, 1) := by decide +kernel
theorem d_M_next_23 : decode b_M_next 23 = .ok (.getfield 77, 3) := by decide +kernel
theorem d_M_next_26 : decode b_M_next 26 = .ok (.bipush 12, 2) := by decide +kernel
theorem d_M_next_28 : decode b_M_next 28 = .ok (.if_icmp .ne 6, 3) := by decide +kernel
theorem d_M_next_31 : decode b_M_next 31 = .ok (.bipush (-2), 2) := by decide +kernel
theorem d_M_next_33 : decode b_M_next 33 = .ok (.ireturn, 1) := by decide +kernel
theorem d_M_next_34 : decode b_M_next 34 = .ok (.aload_n 0, 1) := by decide +kernel
theorem d_M_next_35 : decode b_M_next 35 = .ok (.getfield 26, 3) := by decide +kernel
theorem d_M_next_38 : decode b_M_next 38 = .ok (.aload_n 0, 1) := by decide +kernel
theorem d_M_next_39 : decode b_M_next 39 = .ok (.getfield 77, 3) := by decide +kernel
theorem d_M_next_42 : decode b_M_next 42 = .ok (.iload_n 1, 1) := by decide +kernel
theorem d_M_next_43 : decode b_M_next 43 = .ok (.iastore, 1) := by decide +kernel
theorem d_M_next_44 : decode b_M_next 44 = .ok (.aload_n 0, 1) := by decide +kernel
theorem d_M_next_45 : decode b_M_next 45 = .ok (.getfield 29, 3) := by decide +kernel
theorem d_M_next_48 : decode b_M_next 48 = .ok (.aload_n 0, 1) := by decide +kernel
theorem d_M_next_49 : decode b_M_next 49 = .ok (.getfield 77, 3) := by decide +kernel
theorem d_M_next_52 : decode b_M_next 52 = .ok (.iload_n 2, 1) := by decide +kernel
theorem d_M_next_53 : decode b_M_next 53 = .ok (.iastore, 1) := by decide +kernel
theorem d_M_next_54 : decode b_M_next 54 = .ok (.aload_n 0, 1) := by decide +kernel
theorem d_M_next_55 : decode b_M_next 55 = .ok (.dup, 1) := by decide +kernel
theorem d_M_next_56 : decode b_M_next 56 = .ok (.getfield 77, 3) := by decide +kernel
theorem d_M_next_59 : decode b_M_next 59 = .ok (.iconst 1, 1) := by decide +kernel
theorem d_M_next_60 : decode b_M_next 60 = .ok (.iadd, 1) := by decide +kernel
theorem d_M_next_61 : decode b_M_next 61 = .ok (.putfield 77, 3) := by decide +kernel
theorem d_M_next_64 : decode b_M_next 64 = .ok (.aload_n 0, 1) := by decide +kernel
theorem d_M_next_65 : decode b_M_next 65 = .ok (.getfield 77, 3) := by decide +kernel
theorem d_M_next_68 : decode b_M_next 68 = .ok (.ireturn, 1) := by decide +kernel
theorem d_M_pattern_0 : decode b_M_pattern 0 = .ok (.aload_n 0, 1) := by decide +kernel
theorem d_M_pattern_1 : decode b_M_pattern 1 = .ok (.iload_n 1, 1) := by decide +kernel
theorem d_M_pattern_2 : decode b_M_pattern 2 = .ok (.invokevirtual 69, 3) := by decide +kernel
theorem d_M_pattern_5 : decode b_M_pattern 5 = .ok (.ifCond .eq 13, 3) := by decide +kernel
theorem d_M_pattern_8 : decode b_M_pattern 8 = .ok (.iload_n 2, 1) := by decide +kernel
theorem d_M_pattern_9 : decode b_M_pattern 9 = .ok (.iconst 0, 1) := by decide +kernel
theorem d_M_pattern_10 : decode b_M_pattern 10 = .ok (.bipush 9, 2) := by decide +kernel
theorem d_M_pattern_12 : decode b_M_pattern 12 = .ok (.invokestatic 73, 3) := by decide +kernel
theorem d_M_pattern_15 : decode b_M_pattern 15 = .ok (.ifCond .ne 5, 3) := by decide +kernel
theorem d_M_pattern_18 : decode b_M_pattern 18 = .ok (.iconst (-1), 1) := by decide +kernel
theorem d_M_pattern_19 : decode b_M_pattern 19 = .ok (.ireturn, 1) := by decide +kernel
theorem d_M_pattern_20 : decode b_M_pattern 20 = .ok (.aload_n 0, 1) := by decide +kernel
theorem d_M_pattern_21 : decode b_M_pattern 21 = .ok (.getfield 29, 3) := by decide +kernel
theorem d_M_pattern_24 : decode b_M_pattern 24 = .ok (.aload_n 0, 1) := by decide +kernel
theorem d_M_pattern_25 : decode b_M_pattern 25 = .ok (.getfield 77, 3) := by decide +kernel
theorem d_M_pattern_28 : decode b_M_pattern 28 = .ok (.iload_n 2, 1) := by decide +kernel
theorem d_M_pattern_29 : decode b_M_pattern 29 = .ok (.iastore, 1) := by decide +kernel
theorem d_M_pattern_30 : decode b_M_pattern 30 = .ok (.iconst 0, 1) := by decide +kernel
theorem d_M_pattern_31 : decode b_M_pattern 31 = .ok (.istore_n 3, 1) := by decide +kernel
theorem d_M_pattern_32 : decode b_M_pattern 32 = .ok (.iload_n 3, 1) := by decide +kernel
theorem d_M_pattern_33 : decode b_M_pattern 33 = .ok (.aload_n 0, 1) := by decide +kernel
theorem d_M_pattern_34 : decode b_M_pattern 34 = .ok (.getfield 80, 3) := by decide +kernel
theorem d_M_pattern_37 : decode b_M_pattern 37 = .ok (.if_icmp .ge 18, 3) := by decide +kernel
theorem d_M_pattern_40 : decode b_M_pattern 40 = .ok (.aload_n 0, 1) := by decide +kernel
theorem d_M_pattern_41 : decode b_M_pattern 41 = .ok (.iload_n 3, 1) := by decide +kernel
theorem d_M_pattern_42 : decode b_M_pattern 42 = .ok (.iload_n 1, 1) := by decide +kernel
theorem d_M_pattern_43 : decode b_M_pattern 43 = .ok (.invokevirtual 83, 3) := by decide +kernel
theorem d_M_pattern_46 : decode b_M_pattern 46 = .ok (.ifCond .ne 9, 3) := by decide +kernel
theorem d_M_pattern_49 : decode b_M_pattern 49 = .ok (.iinc 3 1, 3) := by decide +kernel
theorem d_M_pattern_52 : decode b_M_pattern 52 = .ok (.goto (-20), 3) := by decide +kernel
theorem d_M_pattern_55 : decode b_M_pattern 55 = .ok (.aload_n 0, 1) := by decide +kernel
theorem d_M_pattern_56 : decode b_M_pattern 56 = .ok (.getfield 77, 3) := by decide +kernel
theorem d_M_pattern_59 : decode b_M_pattern 59 = .ok (.istore 4, 2) := by decide +kernel
theorem d_M_pattern_61 : decode b_M_pattern 61 = .ok (.aload_n 0, 1) := by decide +kernel
theorem d_M_pattern_62 : decode b_M_pattern 62 = .ok (.invokevirtual 87, 3) := by decide +kernel
theorem d_M_pattern_65 : decode b_M_pattern 65 = .ok (.istore 5, 2) := by decide +kernel
theorem d_M_pattern_67 : decode b_M_pattern 67 = .ok (.aload_n 0, 1) := by decide +kernel
theorem d_M_pattern_68 : decode b_M_pattern 68 = .ok (.iconst 0, 1) := by decide +kernel
theorem d_M_pattern_69 : decode b_M_pattern 69 = .ok (.putfield 77, 3) := by decide +kernel
theorem d_M_pattern_72 : decode b_M_pattern 72 = .ok (.iload 5, 2) := by decide +kernel
theorem d_M_pattern_74 : decode b_M_pattern 74 = .ok (.ifCond .ne 6, 3) := by decide +kernel
theorem d_M_pattern_77 : decode b_M_pattern 77 = .ok (.bipush (-3), 2) := by decide +kernel
theorem d_M_pattern_79 : decode b_M_pattern 79 = .ok (.ireturn, 1) := by decide +kernel
theorem d_M_pattern_80 : decode b_M_pattern 80 = .ok (.iload_n 3, 1) := by decide +kernel
theorem d_M_pattern_81 : decode b_M_pattern 81 = .ok (.aload_n 0, 1) := by decide +kernel
theorem d_M_pattern_82 : decode b_M_pattern 82 = .ok (.getfield 80, 3) := by decide +kernel
theorem d_M_pattern_85 : decode b_M_pattern 85 = .ok (.if_icmp .ne 100, 3) := by decide +kernel
theorem d_M_pattern_88 : decode b_M_pattern 88 = .ok (.aload_n 0, 1) := by decide +kernel
theorem d_M_pattern_89 : decode b_M_pattern 89 = .ok (.getfield 80, 3) := by decide +kernel
theorem d_M_pattern_92 : decode b_M_pattern 92 = .ok (.sipush 150, 3) := by decide +kernel
theorem d_M_pattern_95 : decode b_M_pattern 95 = .ok (.if_icmp .eq 16, 3) := by decide +kernel
theorem d_M_pattern_98 : decode b_M_pattern 98 = .ok (.aload_n 0, 1) := by decide +kernel
theorem d_M_pattern_99 : decode b_M_pattern 99 = .ok (.getfield 91, 3) := by decide +kernel
theorem d_M_pattern_102 : decode b_M_pattern 102 = .ok (.iload 4, 2) := by decide +kernel
theorem d_M_pattern_104 : decode b_M_pattern 104 = .ok (.iadd, 1) := by decide +kernel
theorem d_M_pattern_105 : decode b_M_pattern 105 = .ok (.sipush 900, 3) := by decide +kernel
theorem d_M_pattern_108 : decode b_M_pattern 108 = .ok (.if_icmp .le 6, 3) := by decide +kernel
theorem d_M_pattern_111 : decode b_M_pattern 111 = .ok (.bipush (-2), 2) := by decide +kernel
theorem d_M_pattern_113 : decode b_M_pattern 113 = .ok (.ireturn, 1) := by decide +kernel
theorem d_M_pattern_114 : decode b_M_pattern 114 = .ok (.aload_n 0, 1) := by decide +kernel
theorem d_M_pattern_115 : decode b_M_pattern 115 = .ok (.getfield 32, 3) := by decide +kernel
theorem d_M_pattern_118 : decode b_M_pattern 118 = .ok (.iload_n 3, 1) := by decide +kernel
theorem d_M_pattern_119 : decode b_M_pattern 119 = .ok (.iload_n 1, 1) := by decide +kernel
theorem d_M_pattern_120 : decode b_M_pattern 120 = .ok (.iastore, 1) := by decide +kernel
theorem d_M_pattern_121 : decode b_M_pattern 121 = .ok (.aload_n 0, 1) := by decide +kernel
theorem d_M_pattern_122 : decode b_M_pattern 122 = .ok (.getfield 35, 3) := by decide +kernel
theorem d_M_pattern_125 : decode b_M_pattern 125 = .ok (.iload_n 3, 1) := by decide +kernel
theorem d_M_pattern_126 : decode b_M_pattern 126 = .ok (.iload 4, 2) := by decide +kernel
theorem d_M_pattern_128 : decode b_M_pattern 128 = .ok (.iastore, 1) := by decide +kernel
theorem d_M_pattern_129 : decode b_M_pattern 129 = .ok (.iconst 0, 1) := by decide +kernel
theorem d_M_pattern_130 : decode b_M_pattern 130 = .ok (.istore 6, 2) := by decide +kernel
theorem d_M_pattern_132 : decode b_M_pattern 132 = .ok (.iload 6, 2) := by decide +kernel
theorem d_M_pattern_134 : decode b_M_pattern 134 = .ok (.iload 4, 2) := by decide +kernel
theorem d_M_pattern_136 : decode b_M_pattern 136 = .ok (.if_icmp .ge 28, 3) := by decide +kernel
theorem d_M_pattern_139 : decode b_M_pattern 139 = .ok (.aload_n 0, 1) := by decide +kernel
theorem d_M_pattern_140 : decode b_M_pattern 140 = .ok (.getfield 38, 3) := by decide +kernel
theorem d_M_pattern_143 : decode b_M_pattern 143 = .ok (.bipush 12, 2) := by decide +kernel
theorem d_M_pattern_145 : decode b_M_pattern 145 = .ok (.iload_n 3, 1) := by decide +kernel
theorem d_M_pattern_146 : decode b_M_pattern 146 = .ok (.imul, 1) := by decide +kernel
theorem d_M_pattern_147 : decode b_M_pattern 147 = .ok (.iload 6, 2) := by decide +kernel
theorem d_M_pattern_149 : decode b_M_pattern 149 = .ok (.iadd, 1) := by decide +kernel
theorem d_M_pattern_150 : decode b_M_pattern 150 = .ok (.aload_n 0, 1) := by decide +kernel
theorem d_M_pattern_151 : decode b_M_pattern 151 = .ok (.getfield 26, 3) := by decide +kernel
theorem d_M_pattern_154 : decode b_M_pattern 154 = .ok (.iload 6, 2) := by decide +kernel
theorem d_M_pattern_156 : decode b_M_pattern 156 = .ok (.iaload, 1) := by decide +kernel
theorem d_M_pattern_157 : decode b_M_pattern 157 = .ok (.iastore, 1) := by decide +kernel
theorem d_M_pattern_158 : decode b_M_pattern 158 = .ok (.iinc 6 1, 3) := by decide +kernel
theorem d_M_pattern_161 : decode b_M_pattern 161 = .ok (.goto (-29), 3) := by decide +kernel
theorem d_M_pattern_164 : decode b_M_pattern 164 = .ok (.aload_n 0, 1) := by decide +kernel
theorem d_M_pattern_165 : decode b_M_pattern 165 = .ok (.dup, 1) := by decide +kernel
theorem d_M_pattern_166 : decode b_M_pattern 166 = .ok (.getfield 91, 3) := by decide +kernel
theorem d_M_pattern_169 : decode b_M_pattern 169 = .ok (.iload 4, 2) := by decide +kernel
theorem d_M_pattern_171 : decode b_M_pattern 171 = .ok (.iadd, 1) := by decide +kernel
theorem d_M_pattern_172 : decode b_M_pattern 172 = .ok (.putfield 91, 3) := by decide +kernel
theorem d_M_pattern_175 : decode b_M_pattern 175 = .ok (.aload_n 0, 1) := by decide +kernel
theorem d_M_pattern_176 : decode b_M_pattern 176 = .ok (.dup, 1) := by decide +kernel
theorem d_M_pattern_177 : decode b_M_pattern 177 = .ok (.getfield 80, 3) := by decide +kernel
theorem d_M_pattern_180 : decode b_M_pattern 180 = .ok (.iconst 1, 1) := by decide +kernel
theorem d_M_pattern_181 : decode b_M_pattern 181 = .ok (.iadd, 1) := by decide +kernel
theorem d_M_pattern_182 : decode b_M_pattern 182 = .ok (.putfield 80, 3) := by decide +kernel
theorem d_M_pattern_185 : decode b_M_pattern 185 = .ok (.iconst 0, 1) := by decide +kernel
theorem d_M_pattern_186 : decode b_M_pattern 186 = .ok (.istore 6, 2) := by decide +kernel
theorem d_M_pattern_188 : decode b_M_pattern 188 = .ok (.iload 6, 2) := by decide +kernel
theorem d_M_pattern_190 : decode b_M_pattern 190 = .ok (.iload 4, 2) := by decide +kernel
theorem d_M_pattern_192 : decode b_M_pattern 192 = .ok (.if_icmp .gt 28, 3) := by decide +kernel
theorem d_M_pattern_195 : decode b_M_pattern 195 = .ok (.aload_n 0, 1) := by decide +kernel
theorem d_M_pattern_196 : decode b_M_pattern 196 = .ok (.getfield 41, 3) := by decide +kernel
theorem d_M_pattern_199 : decode b_M_pattern 199 = .ok (.bipush 13, 2) := by decide +kernel
theorem d_M_pattern_201 : decode b_M_pattern 201 = .ok (.iload_n 3, 1) := by decide +kernel
theorem d_M_pattern_202 : decode b_M_pattern 202 = .ok (.imul, 1) := by decide +kernel
theorem d_M_pattern_203 : decode b_M_pattern 203 = .ok (.iload 6, 2) := by decide +kernel
theorem d_M_pattern_205 : decode b_M_pattern 205 = .ok (.iadd, 1) := by decide +kernel
theorem d_M_pattern_206 : decode b_M_pattern 206 = .ok (.aload_n 0, 1) := by decide +kernel
theorem d_M_pattern_207 : decode b_M_pattern 207 = .ok (.getfield 29, 3) := by decide +kernel
theorem d_M_pattern_210 : decode b_M_pattern 210 = .ok (.iload 6, 2) := by decide +kernel
theorem d_M_pattern_212 : decode b_M_pattern 212 = .ok (.iaload, 1) := by decide +kernel
theorem d_M_pattern_213 : decode b_M_pattern 213 = .ok (.iastore, 1) := by decide +kernel
theorem d_M_pattern_214 : decode b_M_pattern 214 = .ok (.iinc 6 1, 3) := by decide +kernel
theorem d_M_pattern_217 : decode b_M_pattern 217 = .ok (.goto (-29), 3) := by decide +kernel
theorem d_M_pattern_220 : decode b_M_pattern 220 = .ok (.iload_n 3, 1) := by decide +kernel
theorem d_M_pattern_221 : decode b_M_pattern 221 = .ok (.ireturn, 1) := by decide +kernel
theorem d_M_isSame_0 : decode b_M_isSame 0 = .ok (.aload_n 0, 1) := by decide +kernel
theorem d_M_isSame_1 : decode b_M_isSame 1 = .ok (.getfield 32, 3) := by decide +kernel
theorem d_M_isSame_4 : decode b_M_isSame 4 = .ok (.iload_n 1, 1) := by decide +kernel
theorem d_M_isSame_5 : decode b_M_isSame 5 = .ok (.iaload, 1) := by decide +kernel
theorem d_M_isSame_6 : decode b_M_isSame 6 = .ok (.iload_n 2, 1) := by decide +kernel
theorem d_M_isSame_7 : decode b_M_isSame 7 = .ok (.if_icmp .ne 20, 3) := by decide +kernel
theorem d_M_isSame_10 : decode b_M_isSame 10 = .ok (.aload_n 0, 1) := by decide +kernel
theorem d_M_isSame_11 : decode b_M_isSame 11 = .ok (.getfield 35, 3) := by decide +kernel
theorem d_M_isSame_14 : decode b_M_isSame 14 = .ok (.iload_n 1, 1) := by decide +kernel
theorem d_M_isSame_15 : decode b_M_isSame 15 = .ok (.iaload, 1) := by decide +kernel
theorem d_M_isSame_16 : decode b_M_isSame 16 = .ok (.aload_n 0, 1) := by decide +kernel
theorem d_M_isSame_17 : decode b_M_isSame 17 = .ok (.getfield 77, 3) := by decide +kernel
theorem d_M_isSame_20 : decode b_M_isSame 20 = .ok (.if_icmp .ne 7, 3) := by decide +kernel
theorem d_M_isSame_23 : decode b_M_isSame 23 = .ok (.iconst 1, 1) := by decide +kernel
theorem d_M_isSame_24 : decode b_M_isSame 24 = .ok (.goto 4, 3) := by decide +kernel
theorem d_M_isSame_27 : decode b_M_isSame 27 = .ok (.iconst 0, 1) := by decide +kernel
theorem d_M_isSame_28 : decode b_M_isSame 28 = .ok (.istore_n 3, 1) := by decide +kernel
theorem d_M_isSame_29 : decode b_M_isSame 29 = .ok (.iconst 0, 1) := by decide +kernel
theorem d_M_isSame_30 : decode b_M_isSame 30 = .ok (.istore 4, 2) := by decide +kernel
theorem d_M_isSame_32 : decode b_M_isSame 32 = .ok (.iload 4, 2) := by decide +kernel
theorem d_M_isSame_34 : decode b_M_isSame 34 = .ok (.aload_n 0, 1) := by decide +kernel
theorem d_M_isSame_35 : decode b_M_isSame 35 = .ok (.getfield 77, 3) := by decide +kernel
theorem d_M_isSame_38 : decode b_M_isSame 38 = .ok (.if_icmp .ge 41, 3) := by decide +kernel
theorem d_M_isSame_41 : decode b_M_isSame 41 = .ok (.iload_n 3, 1) := by decide +kernel
theorem d_M_isSame_42 : decode b_M_isSame 42 = .ok (.ifCond .eq 37, 3) := by decide +kernel
theorem d_M_isSame_45 : decode b_M_isSame 45 = .ok (.aload_n 0, 1) := by decide +kernel
theorem d_M_isSame_46 : decode b_M_isSame 46 = .ok (.getfield 38, 3) := by decide +kernel
theorem d_M_isSame_49 : decode b_M_isSame 49 = .ok (.bipush 12, 2) := by decide +kernel
theorem d_M_isSame_51 : decode b_M_isSame 51 = .ok (.iload_n 1, 1) := by decide +kernel
theorem d_M_isSame_52 : decode b_M_isSame 52 = .ok (.imul, 1) := by decide +kernel
theorem d_M_isSame_53 : decode b_M_isSame 53 = .ok (.iload 4, 2) := by decide +kernel
theorem d_M_isSame_55 : decode b_M_isSame 55 = .ok (.iadd, 1) := by decide +kernel
theorem d_M_isSame_56 : decode b_M_isSame 56 = .ok (.iaload, 1) := by decide +kernel
theorem d_M_isSame_57 : decode b_M_isSame 57 = .ok (.aload_n 0, 1) := by decide +kernel
theorem d_M_isSame_58 : decode b_M_isSame 58 = .ok (.getfield 26, 3) := by decide +kernel
theorem d_M_isSame_61 : decode b_M_isSame 61 = .ok (.iload 4, 2) := by decide +kernel
theorem d_M_isSame_63 : decode b_M_isSame 63 = .ok (.iaload, 1) := by decide +kernel
theorem d_M_isSame_64 : decode b_M_isSame 64 = .ok (.if_icmp .ne 7, 3) := by decide +kernel
theorem d_M_isSame_67 : decode b_M_isSame 67 = .ok (.iconst 1, 1) := by decide +kernel
theorem d_M_isSame_68 : decode b_M_isSame 68 = .ok (.goto 4, 3) := by decide +kernel
theorem d_M_isSame_71 : decode b_M_isSame 71 = .ok (.iconst 0, 1) := by decide +kernel
theorem d_M_isSame_72 : decode b_M_isSame 72 = .ok (.istore_n 3, 1) := by decide +kernel
theorem d_M_isSame_73 : decode b_M_isSame 73 = .ok (.iinc 4 1, 3) := by decide +kernel
theorem d_M_isSame_76 : decode b_M_isSame 76 = .ok (.goto (-44), 3) := by decide +kernel
theorem d_M_isSame_79 : decode b_M_isSame 79 = .ok (.iload_n 3, 1) := by decide +kernel
theorem d_M_isSame_80 : decode b_M_isSame 80 = .ok (.ireturn, 1) := by decide +kernel
theorem d_M_isPattern_0 : decode b_M_isPattern 0 = .ok (.iconst 0, 1) := by decide +kernel
theorem d_M_isPattern_1 : decode b_M_isPattern 1 = .ok (.istore_n 1, 1) := by decide +kernel
theorem d_M_isPattern_2 : decode b_M_isPattern 2 = .ok (.iconst 0, 1) := by decide +kernel
theorem d_M_isPattern_3 : decode b_M_isPattern 3 = .ok (.istore_n 2, 1) := by decide +kernel
theorem d_M_isPattern_4 : decode b_M_isPattern 4 = .ok (.iconst 0, 1) := by decide +kernel
theorem d_M_isPattern_5 : decode b_M_isPattern 5 = .ok (.istore_n 3, 1) := by decide +kernel
theorem d_M_isPattern_6 : decode b_M_isPattern 6 = .ok (.iload_n 3, 1) := by decide +kernel
theorem d_M_isPattern_7 : decode b_M_isPattern 7 = .ok (.aload_n 0, 1) := by decide +kernel
theorem d_M_isPattern_8 : decode b_M_isPattern 8 = .ok (.getfield 77, 3) := by decide +kernel
theorem d_M_isPattern_11 : decode b_M_isPattern 11 = .ok (.if_icmp .ge 61, 3) := by decide +kernel
theorem d_M_isPattern_14 : decode b_M_isPattern 14 = .ok (.iload_n 1, 1) := by decide +kernel
theorem d_M_isPattern_15 : decode b_M_isPattern 15 = .ok (.ifCond .ne 12, 3) := by decide +kernel
theorem d_M_isPattern_18 : decode b_M_isPattern 18 = .ok (.aload_n 0, 1) := by decide +kernel
theorem d_M_isPattern_19 : decode b_M_isPattern 19 = .ok (.getfield 26, 3) := by decide +kernel
theorem d_M_isPattern_22 : decode b_M_isPattern 22 = .ok (.iload_n 3, 1) := by decide +kernel
theorem d_M_isPattern_23 : decode b_M_isPattern 23 = .ok (.iaload, 1) := by decide +kernel
theorem d_M_isPattern_24 : decode b_M_isPattern 24 = .ok (.ifCond .le 7, 3) := by decide +kernel
theorem d_M_isPattern_27 : decode b_M_isPattern 27 = .ok (.iconst 1, 1) := by decide +kernel
theorem d_M_isPattern_28 : decode b_M_isPattern 28 = .ok (.goto 4, 3) := by decide +kernel
theorem d_M_isPattern_31 : decode b_M_isPattern 31 = .ok (.iconst 0, 1) := by decide +kernel
theorem d_M_isPattern_32 : decode b_M_isPattern 32 = .ok (.istore_n 1, 1) := by decide +kernel
theorem d_M_isPattern_33 : decode b_M_isPattern 33 = .ok (.iload_n 2, 1) := by decide +kernel
theorem d_M_isPattern_34 : decode b_M_isPattern 34 = .ok (.ifCond .ne 26, 3) := by decide +kernel
theorem d_M_isPattern_37 : decode b_M_isPattern 37 = .ok (.aload_n 0, 1) := by decide +kernel
theorem d_M_isPattern_38 : decode b_M_isPattern 38 = .ok (.getfield 26, 3) := by decide +kernel
theorem d_M_isPattern_41 : decode b_M_isPattern 41 = .ok (.iload_n 3, 1) := by decide +kernel
theorem d_M_isPattern_42 : decode b_M_isPattern 42 = .ok (.iaload, 1) := by decide +kernel
theorem d_M_isPattern_43 : decode b_M_isPattern 43 = .ok (.ifCond .ne 21, 3) := by decide +kernel
theorem d_M_isPattern_46 : decode b_M_isPattern 46 = .ok (.iload_n 3, 1) := by decide +kernel
theorem d_M_isPattern_47 : decode b_M_isPattern 47 = .ok (.ifCond .le 17, 3) := by decide +kernel
theorem d_M_isPattern_50 : decode b_M_isPattern 50 = .ok (.iload_n 3, 1) := by decide +kernel
theorem d_M_isPattern_51 : decode b_M_isPattern 51 = .ok (.aload_n 0, 1) := by decide +kernel
theorem d_M_isPattern_52 : decode b_M_isPattern 52 = .ok (.getfield 77, 3) := by decide +kernel
theorem d_M_isPattern_55 : decode b_M_isPattern 55 = .ok (.iconst 1, 1) := by decide +kernel
theorem d_M_isPattern_56 : decode b_M_isPattern 56 = .ok (.isub, 1) := by decide +kernel
theorem d_M_isPattern_57 : decode b_M_isPattern 57 = .ok (.if_icmp .ge 7, 3) := by decide +kernel
theorem d_M_isPattern_60 : decode b_M_isPattern 60 = .ok (.iconst 1, 1) := by decide +kernel
theorem d_M_isPattern_61 : decode b_M_isPattern 61 = .ok (.goto 4, 3) := by decide +kernel
theorem d_M_isPattern_64 : decode b_M_isPattern 64 = .ok (.iconst 0, 1) := by decide +kernel
theorem d_M_isPattern_65 : decode b_M_isPattern 65 = .ok (.istore_n 2, 1) := by decide +kernel
theorem d_M_isPattern_66 : decode b_M_isPattern 66 = .ok (.iinc 3 1, 3) := by decide +kernel
theorem d_M_isPattern_69 : decode b_M_isPattern 69 = .ok (.goto (-63), 3) := by decide +kernel
theorem d_M_isPattern_72 : decode b_M_isPattern 72 = .ok (.iload_n 1, 1) := by decide +kernel
theorem d_M_isPattern_73 : decode b_M_isPattern 73 = .ok (.ifCond .eq 11, 3) := by decide +kernel
theorem d_M_isPattern_76 : decode b_M_isPattern 76 = .ok (.iload_n 2, 1) := by decide +kernel
theorem d_M_isPattern_77 : decode b_M_isPattern 77 = .ok (.ifCond .ne 7, 3) := by decide +kernel
theorem d_M_isPattern_80 : decode b_M_isPattern 80 = .ok (.iconst 1, 1) := by decide +kernel
theorem d_M_isPattern_81 : decode b_M_isPattern 81 = .ok (.goto 4, 3) := by decide +kernel
theorem d_M_isPattern_84 : decode b_M_isPattern 84 = .ok (.iconst 0, 1) := by decide +kernel
theorem d_M_isPattern_85 : decode b_M_isPattern 85 = .ok (.ireturn, 1) := by decide +kernel
theorem d_M_sign_0 : decode b_M_sign 0 = .ok (.iload_n 1, 1) := by decide +kernel
theorem d_M_sign_1 : decode b_M_sign 1 = .ok (.iconst 0, 1) := by decide +kernel
theorem d_M_sign_2 : decode b_M_sign 2 = .ok (.sipush 255, 3) := by decide +kernel
theorem d_M_sign_5 : decode b_M_sign 5 = .ok (.invokestatic 73, 3) := by decide +kernel
theorem d_M_sign_8 : decode b_M_sign 8 = .ok (.ifCond .ne 5, 3) := by decide +kernel
theorem d_M_sign_11 : decode b_M_sign 11 = .ok (.iconst (-1), 1) := by decide +kernel
theorem d_M_sign_12 : decode b_M_sign 12 = .ok (.ireturn, 1) := by decide +kernel
theorem d_M_sign_13 : decode b_M_sign 13 = .ok (.aload_n 0, 1) := by decide +kernel
theorem d_M_sign_14 : decode b_M_sign 14 = .ok (.getfield 94, 3) := by decide +kernel
theorem d_M_sign_17 : decode b_M_sign 17 = .ok (.bipush 30, 2) := by decide +kernel
theorem d_M_sign_19 : decode b_M_sign 19 = .ok (.if_icmp .ne 6, 3) := by decide +kernel
theorem d_M_sign_22 : decode b_M_sign 22 = .ok (.bipush (-2), 2) := by decide +kernel
theorem d_M_sign_24 : decode b_M_sign 24 = .ok (.ireturn, 1) := by decide +kernel
theorem d_M_sign_25 : decode b_M_sign 25 = .ok (.aload_n 0, 1) := by decide +kernel
theorem d_M_sign_26 : decode b_M_sign 26 = .ok (.getfield 56, 3) := by decide +kernel
theorem d_M_sign_29 : decode b_M_sign 29 = .ok (.aload_n 0, 1) := by decide +kernel
theorem d_M_sign_30 : decode b_M_sign 30 = .ok (.getfield 94, 3) := by decide +kernel
theorem d_M_sign_33 : decode b_M_sign 33 = .ok (.iload_n 1, 1) := by decide +kernel
theorem d_M_sign_34 : decode b_M_sign 34 = .ok (.iastore, 1) := by decide +kernel
theorem d_M_sign_35 : decode b_M_sign 35 = .ok (.aload_n 0, 1) := by decide +kernel
theorem d_M_sign_36 : decode b_M_sign 36 = .ok (.dup, 1) := by decide +kernel
theorem d_M_sign_37 : decode b_M_sign 37 = .ok (.getfield 94, 3) := by decide +kernel
theorem d_M_sign_40 : decode b_M_sign 40 = .ok (.iconst 1, 1) := by decide +kernel
theorem d_M_sign_41 : decode b_M_sign 41 = .ok (.iadd, 1) := by decide +kernel
theorem d_M_sign_42 : decode b_M_sign 42 = .ok (.putfield 94, 3) := by decide +kernel
theorem d_M_sign_45 : decode b_M_sign 45 = .ok (.aload_n 0, 1) := by decide +kernel
theorem d_M_sign_46 : decode b_M_sign 46 = .ok (.getfield 94, 3) := by decide +kernel
theorem d_M_sign_49 : decode b_M_sign 49 = .ok (.ireturn, 1) := by decide +kernel
theorem d_M_clear_0 : decode b_M_clear 0 = .ok (.aload_n 0, 1) := by decide +kernel
theorem d_M_clear_1 : decode b_M_clear 1 = .ok (.getfield 94, 3) := by decide +kernel
theorem d_M_clear_4 : decode b_M_clear 4 = .ok (.istore_n 1, 1) := by decide +kernel
theorem d_M_clear_5 : decode b_M_clear 5 = .ok (.aload_n 0, 1) := by decide +kernel
theorem d_M_clear_6 : decode b_M_clear 6 = .ok (.iconst 0, 1) := by decide +kernel
theorem d_M_clear_7 : decode b_M_clear 7 = .ok (.putfield 94, 3) := by decide +kernel
theorem d_M_clear_10 : decode b_M_clear 10 = .ok (.iload_n 1, 1) := by decide +kernel
theorem d_M_clear_11 : decode b_M_clear 11 = .ok (.ireturn, 1) := by decide +kernel
theorem d_M_exception_0 : decode b_M_exception 0 = .ok (.aload_n 0, 1) := by decide +kernel
theorem d_M_exception_1 : decode b_M_exception 1 = .ok (.iload_n 1, 1) := by decide +kernel
theorem d_M_exception_2 : decode b_M_exception 2 = .ok (.invokevirtual 69, 3) := by decide +kernel
theorem d_M_exception_5 : decode b_M_exception 5 = .ok (.ifCond .ne 5, 3) := by decide +kernel
theorem d_M_exception_8 : decode b_M_exception 8 = .ok (.iconst (-1), 1) := by decide +kernel
theorem d_M_exception_9 : decode b_M_exception 9 = .ok (.ireturn, 1) := by decide +kernel
theorem d_M_exception_10 : decode b_M_exception 10 = .ok (.aload_n 0, 1) := by decide +kernel
theorem d_M_exception_11 : decode b_M_exception 11 = .ok (.getfield 94, 3) := by decide +kernel
theorem d_M_exception_14 : decode b_M_exception 14 = .ok (.ifCond .eq 11, 3) := by decide +kernel
theorem d_M_exception_17 : decode b_M_exception 17 = .ok (.aload_n 0, 1) := by decide +kernel
theorem d_M_exception_18 : decode b_M_exception 18 = .ok (.iload_n 1, 1) := by decide +kernel
theorem d_M_exception_19 : decode b_M_exception 19 = .ok (.invokevirtual 100, 3) := by decide +kernel
theorem d_M_exception_22 : decode b_M_exception 22 = .ok (.ifCond .ne 6, 3) := by decide +kernel
theorem d_M_exception_25 : decode b_M_exception 25 = .ok (.bipush (-3), 2) := by decide +kernel
theorem d_M_exception_27 : decode b_M_exception 27 = .ok (.ireturn, 1) := by decide +kernel
theorem d_M_exception_28 : decode b_M_exception 28 = .ok (.aload_n 0, 1) := by decide +kernel
theorem d_M_exception_29 : decode b_M_exception 29 = .ok (.iload_n 1, 1) := by decide +kernel
theorem d_M_exception_30 : decode b_M_exception 30 = .ok (.invokevirtual 103, 3) := by decide +kernel
theorem d_M_exception_33 : decode b_M_exception 33 = .ok (.istore_n 3, 1) := by decide +kernel
theorem d_M_exception_34 : decode b_M_exception 34 = .ok (.iload_n 3, 1) := by decide +kernel
theorem d_M_exception_35 : decode b_M_exception 35 = .ok (.bipush 40, 2) := by decide +kernel
theorem d_M_exception_37 : decode b_M_exception 37 = .ok (.if_icmp .ne 6, 3) := by decide +kernel
theorem d_M_exception_40 : decode b_M_exception 40 = .ok (.bipush (-2), 2) := by decide +kernel
theorem d_M_exception_42 : decode b_M_exception 42 = .ok (.ireturn, 1) := by decide +kernel
theorem d_M_exception_43 : decode b_M_exception 43 = .ok (.iload_n 3, 1) := by decide +kernel
theorem d_M_exception_44 : decode b_M_exception 44 = .ok (.aload_n 0, 1) := by decide +kernel
theorem d_M_exception_45 : decode b_M_exception 45 = .ok (.getfield 97, 3) := by decide +kernel
theorem d_M_exception_48 : decode b_M_exception 48 = .ok (.if_icmp .ne 69, 3) := by decide +kernel
theorem d_M_exception_51 : decode b_M_exception 51 = .ok (.aload_n 0, 1) := by decide +kernel
theorem d_M_exception_52 : decode b_M_exception 52 = .ok (.getfield 44, 3) := by decide +kernel
theorem d_M_exception_55 : decode b_M_exception 55 = .ok (.iload_n 3, 1) := by decide +kernel
theorem d_M_exception_56 : decode b_M_exception 56 = .ok (.iload_n 1, 1) := by decide +kernel
theorem d_M_exception_57 : decode b_M_exception 57 = .ok (.iastore, 1) := by decide +kernel
theorem d_M_exception_58 : decode b_M_exception 58 = .ok (.aload_n 0, 1) := by decide +kernel
theorem d_M_exception_59 : decode b_M_exception 59 = .ok (.getfield 47, 3) := by decide +kernel
theorem d_M_exception_62 : decode b_M_exception 62 = .ok (.iload_n 3, 1) := by decide +kernel
theorem d_M_exception_63 : decode b_M_exception 63 = .ok (.aload_n 0, 1) := by decide +kernel
theorem d_M_exception_64 : decode b_M_exception 64 = .ok (.getfield 94, 3) := by decide +kernel
theorem d_M_exception_67 : decode b_M_exception 67 = .ok (.iastore, 1) := by decide +kernel
theorem d_M_exception_68 : decode b_M_exception 68 = .ok (.iconst 0, 1) := by decide +kernel
theorem d_M_exception_69 : decode b_M_exception 69 = .ok (.istore 4, 2) := by decide +kernel
theorem d_M_exception_71 : decode b_M_exception 71 = .ok (.iload 4, 2) := by decide +kernel
theorem d_M_exception_73 : decode b_M_exception 73 = .ok (.aload_n 0, 1) := by decide +kernel
theorem d_M_exception_74 : decode b_M_exception 74 = .ok (.getfield 94, 3) := by decide +kernel
theorem d_M_exception_77 : decode b_M_exception 77 = .ok (.if_icmp .ge 30, 3) := by decide +kernel
theorem d_M_exception_80 : decode b_M_exception 80 = .ok (.aload_n 0, 1) := by decide +kernel
theorem d_M_exception_81 : decode b_M_exception 81 = .ok (.getfield 50, 3) := by decide +kernel
theorem d_M_exception_84 : decode b_M_exception 84 = .ok (.bipush 30, 2) := by decide +kernel
theorem d_M_exception_86 : decode b_M_exception 86 = .ok (.iload_n 3, 1) := by decide +kernel
theorem d_M_exception_87 : decode b_M_exception 87 = .ok (.imul, 1) := by decide +kernel
theorem d_M_exception_88 : decode b_M_exception 88 = .ok (.iload 4, 2) := by decide +kernel
theorem d_M_exception_90 : decode b_M_exception 90 = .ok (.iadd, 1) := by decide +kernel
theorem d_M_exception_91 : decode b_M_exception 91 = .ok (.aload_n 0, 1) := by decide +kernel
theorem d_M_exception_92 : decode b_M_exception 92 = .ok (.getfield 59, 3) := by decide +kernel
theorem d_M_exception_95 : decode b_M_exception 95 = .ok (.iload 4, 2) := by decide +kernel
theorem d_M_exception_97 : decode b_M_exception 97 = .ok (.iconst 1, 1) := by decide +kernel
theorem d_M_exception_98 : decode b_M_exception 98 = .ok (.iadd, 1) := by decide +kernel
theorem d_M_exception_99 : decode b_M_exception 99 = .ok (.iaload, 1) := by decide +kernel
theorem d_M_exception_100 : decode b_M_exception 100 = .ok (.iastore, 1) := by decide +kernel
theorem d_M_exception_101 : decode b_M_exception 101 = .ok (.iinc 4 1, 3) := by decide +kernel
theorem d_M_exception_104 : decode b_M_exception 104 = .ok (.goto (-33), 3) := by decide +kernel
theorem d_M_exception_107 : decode b_M_exception 107 = .ok (.aload_n 0, 1) := by decide +kernel
theorem d_M_exception_108 : decode b_M_exception 108 = .ok (.dup, 1) := by decide +kernel
theorem d_M_exception_109 : decode b_M_exception 109 = .ok (.getfield 97, 3) := by decide +kernel
theorem d_M_exception_112 : decode b_M_exception 112 = .ok (.iconst 1, 1) := by decide +kernel
theorem d_M_exception_113 : decode b_M_exception 113 = .ok (.iadd, 1) := by decide +kernel
theorem d_M_exception_114 : decode b_M_exception 114 = .ok (.putfield 97, 3) := by decide +kernel
theorem d_M_exception_117 : decode b_M_exception 117 = .ok (.aload_n 0, 1) := by decide +kernel
theorem d_M_exception_118 : decode b_M_exception 118 = .ok (.getfield 53, 3) := by decide +kernel
theorem d_M_exception_121 : decode b_M_exception 121 = .ok (.iload_n 3, 1) := by decide +kernel
theorem d_M_exception_122 : decode b_M_exception 122 = .ok (.iload_n 2, 1) := by decide +kernel
theorem d_M_exception_123 : decode b_M_exception 123 = .ok (.iastore, 1) := by decide +kernel
theorem d_M_exception_124 : decode b_M_exception 124 = .ok (.iload_n 3, 1) := by decide +kernel
theorem d_M_exception_125 : decode b_M_exception 125 = .ok (.ireturn, 1) := by decide +kernel
theorem d_M_spell_0 : decode b_M_spell 0 = .ok (.iconst 1, 1) := by decide +kernel
theorem d_M_spell_1 : decode b_M_spell 1 = .ok (.istore_n 2, 1) := by decide +kernel
theorem d_M_spell_2 : decode b_M_spell 2 = .ok (.aload_n 0, 1) := by decide +kernel
theorem d_M_spell_3 : decode b_M_spell 3 = .ok (.getfield 59, 3) := by decide +kernel
theorem d_M_spell_6 : decode b_M_spell 6 = .ok (.iconst 0, 1) := by decide +kernel
theorem d_M_spell_7 : decode b_M_spell 7 = .ok (.iconst 0, 1) := by decide +kernel
theorem d_M_spell_8 : decode b_M_spell 8 = .ok (.iastore, 1) := by decide +kernel
theorem d_M_spell_9 : decode b_M_spell 9 = .ok (.aload_n 0, 1) := by decide +kernel
theorem d_M_spell_10 : decode b_M_spell 10 = .ok (.getfield 59, 3) := by decide +kernel
theorem d_M_spell_13 : decode b_M_spell 13 = .ok (.aload_n 0, 1) := by decide +kernel
theorem d_M_spell_14 : decode b_M_spell 14 = .ok (.getfield 94, 3) := by decide +kernel
theorem d_M_spell_17 : decode b_M_spell 17 = .ok (.iconst 1, 1) := by decide +kernel
theorem d_M_spell_18 : decode b_M_spell 18 = .ok (.iadd, 1) := by decide +kernel
theorem d_M_spell_19 : decode b_M_spell 19 = .ok (.iconst 0, 1) := by decide +kernel
theorem d_M_spell_20 : decode b_M_spell 20 = .ok (.iastore, 1) := by decide +kernel
theorem d_M_spell_21 : decode b_M_spell 21 = .ok (.iconst 0, 1) := by decide +kernel
theorem d_M_spell_22 : decode b_M_spell 22 = .ok (.istore_n 3, 1) := by decide +kernel
theorem d_M_spell_23 : decode b_M_spell 23 = .ok (.iload_n 3, 1) := by decide +kernel
theorem d_M_spell_24 : decode b_M_spell 24 = .ok (.aload_n 0, 1) := by decide +kernel
theorem d_M_spell_25 : decode b_M_spell 25 = .ok (.getfield 94, 3) := by decide +kernel
theorem d_M_spell_28 : decode b_M_spell 28 = .ok (.if_icmp .ge 55, 3) := by decide +kernel
theorem d_M_spell_31 : decode b_M_spell 31 = .ok (.aload_n 0, 1) := by decide +kernel
theorem d_M_spell_32 : decode b_M_spell 32 = .ok (.getfield 59, 3) := by decide +kernel
theorem d_M_spell_35 : decode b_M_spell 35 = .ok (.iload_n 3, 1) := by decide +kernel
theorem d_M_spell_36 : decode b_M_spell 36 = .ok (.iconst 1, 1) := by decide +kernel
theorem d_M_spell_37 : decode b_M_spell 37 = .ok (.iadd, 1) := by decide +kernel
theorem d_M_spell_38 : decode b_M_spell 38 = .ok (.aload_n 0, 1) := by decide +kernel
theorem d_M_spell_39 : decode b_M_spell 39 = .ok (.getfield 7, 3) := by decide +kernel
theorem d_M_spell_42 : decode b_M_spell 42 = .ok (.sipush 256, 3) := by decide +kernel
theorem d_M_spell_45 : decode b_M_spell 45 = .ok (.iload_n 1, 1) := by decide +kernel
theorem d_M_spell_46 : decode b_M_spell 46 = .ok (.imul, 1) := by decide +kernel
theorem d_M_spell_47 : decode b_M_spell 47 = .ok (.aload_n 0, 1) := by decide +kernel
theorem d_M_spell_48 : decode b_M_spell 48 = .ok (.getfield 56, 3) := by decide +kernel
theorem d_M_spell_51 : decode b_M_spell 51 = .ok (.iload_n 3, 1) := by decide +kernel
theorem d_M_spell_52 : decode b_M_spell 52 = .ok (.iaload, 1) := by decide +kernel
theorem d_M_spell_53 : decode b_M_spell 53 = .ok (.iadd, 1) := by decide +kernel
theorem d_M_spell_54 : decode b_M_spell 54 = .ok (.iaload, 1) := by decide +kernel
theorem d_M_spell_55 : decode b_M_spell 55 = .ok (.iastore, 1) := by decide +kernel
theorem d_M_spell_56 : decode b_M_spell 56 = .ok (.iload_n 2, 1) := by decide +kernel
theorem d_M_spell_57 : decode b_M_spell 57 = .ok (.ifCond .eq 18, 3) := by decide +kernel
theorem d_M_spell_60 : decode b_M_spell 60 = .ok (.aload_n 0, 1) := by decide +kernel
theorem d_M_spell_61 : decode b_M_spell 61 = .ok (.getfield 59, 3) := by decide +kernel
theorem d_M_spell_64 : decode b_M_spell 64 = .ok (.iload_n 3, 1) := by decide +kernel
theorem d_M_spell_65 : decode b_M_spell 65 = .ok (.iconst 1, 1) := by decide +kernel
theorem d_M_spell_66 : decode b_M_spell 66 = .ok (.iadd, 1) := by decide +kernel
theorem d_M_spell_67 : decode b_M_spell 67 = .ok (.iaload, 1) := by decide +kernel
theorem d_M_spell_68 : decode b_M_spell 68 = .ok (.ifCond .le 7, 3) := by decide +kernel
theorem d_M_spell_71 : decode b_M_spell 71 = .ok (.iconst 1, 1) := by decide +kernel
theorem d_M_spell_72 : decode b_M_spell 72 = .ok (.goto 4, 3) := by decide +kernel
theorem d_M_spell_75 : decode b_M_spell 75 = .ok (.iconst 0, 1) := by decide +kernel
theorem d_M_spell_76 : decode b_M_spell 76 = .ok (.istore_n 2, 1) := by decide +kernel
theorem d_M_spell_77 : decode b_M_spell 77 = .ok (.iinc 3 1, 3) := by decide +kernel
theorem d_M_spell_80 : decode b_M_spell 80 = .ok (.goto (-57), 3) := by decide +kernel
theorem d_M_spell_83 : decode b_M_spell 83 = .ok (.iload_n 2, 1) := by decide +kernel
theorem d_M_spell_84 : decode b_M_spell 84 = .ok (.ireturn, 1) := by decide +kernel
theorem d_M_exceptionOf_0 : decode b_M_exceptionOf 0 = .ok (.iconst 0, 1) := by decide +kernel
theorem d_M_exceptionOf_1 : decode b_M_exceptionOf 1 = .ok (.istore_n 2, 1) := by decide +kernel
theorem d_M_exceptionOf_2 : decode b_M_exceptionOf 2 = .ok (.iconst 0, 1) := by decide +kernel
theorem d_M_exceptionOf_3 : decode b_M_exceptionOf 3 = .ok (.istore_n 3, 1) := by decide +kernel
theorem d_M_exceptionOf_4 : decode b_M_exceptionOf 4 = .ok (.iload_n 2, 1) := by decide +kernel
theorem d_M_exceptionOf_5 : decode b_M_exceptionOf 5 = .ok (.aload_n 0, 1) := by decide +kernel
theorem d_M_exceptionOf_6 : decode b_M_exceptionOf 6 = .ok (.getfield 97, 3) := by decide +kernel
theorem d_M_exceptionOf_9 : decode b_M_exceptionOf 9 = .ok (.if_icmp .ge 103, 3) := by decide +kernel
theorem d_M_exceptionOf_12 : decode b_M_exceptionOf 12 = .ok (.iload_n 3, 1) := by decide +kernel
theorem d_M_exceptionOf_13 : decode b_M_exceptionOf 13 = .ok (.ifCond .ne 99, 3) := by decide +kernel
theorem d_M_exceptionOf_16 : decode b_M_exceptionOf 16 = .ok (.aload_n 0, 1) := by decide +kernel
theorem d_M_exceptionOf_17 : decode b_M_exceptionOf 17 = .ok (.getfield 44, 3) := by decide +kernel
theorem d_M_exceptionOf_20 : decode b_M_exceptionOf 20 = .ok (.iload_n 2, 1) := by decide +kernel
theorem d_M_exceptionOf_21 : decode b_M_exceptionOf 21 = .ok (.iaload, 1) := by decide +kernel
theorem d_M_exceptionOf_22 : decode b_M_exceptionOf 22 = .ok (.iload_n 1, 1) := by decide +kernel
theorem d_M_exceptionOf_23 : decode b_M_exceptionOf 23 = .ok (.if_icmp .ne 20, 3) := by decide +kernel
theorem d_M_exceptionOf_26 : decode b_M_exceptionOf 26 = .ok (.aload_n 0, 1) := by decide +kernel
theorem d_M_exceptionOf_27 : decode b_M_exceptionOf 27 = .ok (.getfield 47, 3) := by decide +kernel
theorem d_M_exceptionOf_30 : decode b_M_exceptionOf 30 = .ok (.iload_n 2, 1) := by decide +kernel
theorem d_M_exceptionOf_31 : decode b_M_exceptionOf 31 = .ok (.iaload, 1) := by decide +kernel
theorem d_M_exceptionOf_32 : decode b_M_exceptionOf 32 = .ok (.aload_n 0, 1) := by decide +kernel
theorem d_M_exceptionOf_33 : decode b_M_exceptionOf 33 = .ok (.getfield 94, 3) := by decide +kernel
theorem d_M_exceptionOf_36 : decode b_M_exceptionOf 36 = .ok (.if_icmp .ne 7, 3) := by decide +kernel
theorem d_M_exceptionOf_39 : decode b_M_exceptionOf 39 = .ok (.iconst 1, 1) := by decide +kernel
theorem d_M_exceptionOf_40 : decode b_M_exceptionOf 40 = .ok (.goto 4, 3) := by decide +kernel
theorem d_M_exceptionOf_43 : decode b_M_exceptionOf 43 = .ok (.iconst 0, 1) := by decide +kernel
theorem d_M_exceptionOf_44 : decode b_M_exceptionOf 44 = .ok (.istore_n 3, 1) := by decide +kernel
theorem d_M_exceptionOf_45 : decode b_M_exceptionOf 45 = .ok (.iconst 0, 1) := by decide +kernel
theorem d_M_exceptionOf_46 : decode b_M_exceptionOf 46 = .ok (.istore 4, 2) := by decide +kernel
theorem d_M_exceptionOf_48 : decode b_M_exceptionOf 48 = .ok (.iload 4, 2) := by decide +kernel
theorem d_M_exceptionOf_50 : decode b_M_exceptionOf 50 = .ok (.aload_n 0, 1) := by decide +kernel
theorem d_M_exceptionOf_51 : decode b_M_exceptionOf 51 = .ok (.getfield 94, 3) := by decide +kernel
theorem d_M_exceptionOf_54 : decode b_M_exceptionOf 54 = .ok (.if_icmp .ge 43, 3) := by decide +kernel
theorem d_M_exceptionOf_57 : decode b_M_exceptionOf 57 = .ok (.iload_n 3, 1) := by decide +kernel
theorem d_M_exceptionOf_58 : decode b_M_exceptionOf 58 = .ok (.ifCond .eq 39, 3) := by decide +kernel
theorem d_M_exceptionOf_61 : decode b_M_exceptionOf 61 = .ok (.aload_n 0, 1) := by decide +kernel
theorem d_M_exceptionOf_62 : decode b_M_exceptionOf 62 = .ok (.getfield 50, 3) := by decide +kernel
theorem d_M_exceptionOf_65 : decode b_M_exceptionOf 65 = .ok (.bipush 30, 2) := by decide +kernel
theorem d_M_exceptionOf_67 : decode b_M_exceptionOf 67 = .ok (.iload_n 2, 1) := by decide +kernel
theorem d_M_exceptionOf_68 : decode b_M_exceptionOf 68 = .ok (.imul, 1) := by decide +kernel
theorem d_M_exceptionOf_69 : decode b_M_exceptionOf 69 = .ok (.iload 4, 2) := by decide +kernel
theorem d_M_exceptionOf_71 : decode b_M_exceptionOf 71 = .ok (.iadd, 1) := by decide +kernel
theorem d_M_exceptionOf_72 : decode b_M_exceptionOf 72 = .ok (.iaload, 1) := by decide +kernel
theorem d_M_exceptionOf_73 : decode b_M_exceptionOf 73 = .ok (.aload_n 0, 1) := by decide +kernel
theorem d_M_exceptionOf_74 : decode b_M_exceptionOf 74 = .ok (.getfield 59, 3) := by decide +kernel
theorem d_M_exceptionOf_77 : decode b_M_exceptionOf 77 = .ok (.iload 4, 2) := by decide +kernel
theorem d_M_exceptionOf_79 : decode b_M_exceptionOf 79 = .ok (.iconst 1, 1) := by decide +kernel
theorem d_M_exceptionOf_80 : decode b_M_exceptionOf 80 = .ok (.iadd, 1) := by decide +kernel
theorem d_M_exceptionOf_81 : decode b_M_exceptionOf 81 = .ok (.iaload, 1) := by decide +kernel
theorem d_M_exceptionOf_82 : decode b_M_exceptionOf 82 = .ok (.if_icmp .ne 7, 3) := by decide +kernel
theorem d_M_exceptionOf_85 : decode b_M_exceptionOf 85 = .ok (.iconst 1, 1) := by decide +kernel
theorem d_M_exceptionOf_86 : decode b_M_exceptionOf 86 = .ok (.goto 4, 3) := by decide +kernel
theorem d_M_exceptionOf_89 : decode b_M_exceptionOf 89 = .ok (.iconst 0, 1) := by decide +kernel
theorem d_M_exceptionOf_90 : decode b_M_exceptionOf 90 = .ok (.istore_n 3, 1) := by decide +kernel
theorem d_M_exceptionOf_91 : decode b_M_exceptionOf 91 = .ok (.iinc 4 1, 3) := by decide +kernel
theorem d_M_exceptionOf_94 : decode b_M_exceptionOf 94 = .ok (.goto (-46), 3) := by decide +kernel
theorem d_M_exceptionOf_97 : decode b_M_exceptionOf 97 = .ok (.iload_n 2, 1) := by decide +kernel
theorem d_M_exceptionOf_98 : decode b_M_exceptionOf 98 = .ok (.iload_n 3, 1) := by decide +kernel
theorem d_M_exceptionOf_99 : decode b_M_exceptionOf 99 = .ok (.ifCond .eq 7, 3) := by decide +kernel
theorem d_M_exceptionOf_102 : decode b_M_exceptionOf 102 = .ok (.iconst 0, 1) := by decide +kernel
theorem d_M_exceptionOf_103 : decode b_M_exceptionOf 103 = .ok (.goto 4, 3) := by decide +kernel
theorem d_M_exceptionOf_106 : decode b_M_exceptionOf 106 = .ok (.iconst 1, 1) := by decide +kernel
theorem d_M_exceptionOf_107 : decode b_M_exceptionOf 107 = .ok (.iadd, 1) := by decide +kernel
theorem d_M_exceptionOf_108 : decode b_M_exceptionOf 108 = .ok (.istore_n 2, 1) := by decide +kernel
theorem d_M_exceptionOf_109 : decode b_M_exceptionOf 109 = .ok (.goto (-105), 3) := by decide +kernel
theorem d_M_exceptionOf_112 : decode b_M_exceptionOf 112 = .ok (.iload_n 2, 1) := by decide +kernel
theorem d_M_exceptionOf_113 : decode b_M_exceptionOf 113 = .ok (.ireturn, 1) := by decide +kernel
theorem d_M_drop_0 : decode b_M_drop 0 = .ok (.iload_n 1, 1) := by decide +kernel
theorem d_M_drop_1 : decode b_M_drop 1 = .ok (.ifCond .lt 11, 3) := by decide +kernel
theorem d_M_drop_4 : decode b_M_drop 4 = .ok (.iload_n 1, 1) := by decide +kernel
theorem d_M_drop_5 : decode b_M_drop 5 = .ok (.aload_n 0, 1) := by decide +kernel
theorem d_M_drop_6 : decode b_M_drop 6 = .ok (.getfield 97, 3) := by decide +kernel
theorem d_M_drop_9 : decode b_M_drop 9 = .ok (.if_icmp .lt 5, 3) := by decide +kernel
theorem d_M_drop_12 : decode b_M_drop 12 = .ok (.iconst (-1), 1) := by decide +kernel
theorem d_M_drop_13 : decode b_M_drop 13 = .ok (.ireturn, 1) := by decide +kernel
theorem d_M_drop_14 : decode b_M_drop 14 = .ok (.aload_n 0, 1) := by decide +kernel
theorem d_M_drop_15 : decode b_M_drop 15 = .ok (.dup, 1) := by decide +kernel
theorem d_M_drop_16 : decode b_M_drop 16 = .ok (.getfield 97, 3) := by decide +kernel
theorem d_M_drop_19 : decode b_M_drop 19 = .ok (.iconst 1, 1) := by decide +kernel
theorem d_M_drop_20 : decode b_M_drop 20 = .ok (.isub, 1) := by decide +kernel
theorem d_M_drop_21 : decode b_M_drop 21 = .ok (.putfield 97, 3) := by decide +kernel
theorem d_M_drop_24 : decode b_M_drop 24 = .ok (.iload_n 1, 1) := by decide +kernel
theorem d_M_drop_25 : decode b_M_drop 25 = .ok (.istore_n 2, 1) := by decide +kernel
theorem d_M_drop_26 : decode b_M_drop 26 = .ok (.iload_n 2, 1) := by decide +kernel
theorem d_M_drop_27 : decode b_M_drop 27 = .ok (.aload_n 0, 1) := by decide +kernel
theorem d_M_drop_28 : decode b_M_drop 28 = .ok (.getfield 97, 3) := by decide +kernel
theorem d_M_drop_31 : decode b_M_drop 31 = .ok (.if_icmp .ge 90, 3) := by decide +kernel
theorem d_M_drop_34 : decode b_M_drop 34 = .ok (.aload_n 0, 1) := by decide +kernel
theorem d_M_drop_35 : decode b_M_drop 35 = .ok (.getfield 44, 3) := by decide +kernel
theorem d_M_drop_38 : decode b_M_drop 38 = .ok (.iload_n 2, 1) := by decide +kernel
theorem d_M_drop_39 : decode b_M_drop 39 = .ok (.aload_n 0, 1) := by decide +kernel
theorem d_M_drop_40 : decode b_M_drop 40 = .ok (.getfield 44, 3) := by decide +kernel
theorem d_M_drop_43 : decode b_M_drop 43 = .ok (.iload_n 2, 1) := by decide +kernel
theorem d_M_drop_44 : decode b_M_drop 44 = .ok (.iconst 1, 1) := by decide +kernel
theorem d_M_drop_45 : decode b_M_drop 45 = .ok (.iadd, 1) := by decide +kernel
theorem d_M_drop_46 : decode b_M_drop 46 = .ok (.iaload, 1) := by decide +kernel
theorem d_M_drop_47 : decode b_M_drop 47 = .ok (.iastore, 1) := by decide +kernel
theorem d_M_drop_48 : decode b_M_drop 48 = .ok (.aload_n 0, 1) := by decide +kernel
theorem d_M_drop_49 : decode b_M_drop 49 = .ok (.getfield 47, 3) := by decide +kernel
theorem d_M_drop_52 : decode b_M_drop 52 = .ok (.iload_n 2, 1) := by decide +kernel
theorem d_M_drop_53 : decode b_M_drop 53 = .ok (.aload_n 0, 1) := by decide +kernel
theorem d_M_drop_54 : decode b_M_drop 54 = .ok (.getfield 47, 3) := by decide +kernel
theorem d_M_drop_57 : decode b_M_drop 57 = .ok (.iload_n 2, 1) := by decide +kernel
theorem d_M_drop_58 : decode b_M_drop 58 = .ok (.iconst 1, 1) := by decide +kernel
theorem d_M_drop_59 : decode b_M_drop 59 = .ok (.iadd, 1) := by decide +kernel
theorem d_M_drop_60 : decode b_M_drop 60 = .ok (.iaload, 1) := by decide +kernel
theorem d_M_drop_61 : decode b_M_drop 61 = .ok (.iastore, 1) := by decide +kernel
theorem d_M_drop_62 : decode b_M_drop 62 = .ok (.aload_n 0, 1) := by decide +kernel
theorem d_M_drop_63 : decode b_M_drop 63 = .ok (.getfield 53, 3) := by decide +kernel
theorem d_M_drop_66 : decode b_M_drop 66 = .ok (.iload_n 2, 1) := by decide +kernel
theorem d_M_drop_67 : decode b_M_drop 67 = .ok (.aload_n 0, 1) := by decide +kernel
theorem d_M_drop_68 : decode b_M_drop 68 = .ok (.getfield 53, 3) := by decide +kernel
theorem d_M_drop_71 : decode b_M_drop 71 = .ok (.iload_n 2, 1) := by decide +kernel
theorem d_M_drop_72 : decode b_M_drop 72 = .ok (.iconst 1, 1) := by decide +kernel
theorem d_M_drop_73 : decode b_M_drop 73 = .ok (.iadd, 1) := by decide +kernel
theorem d_M_drop_74 : decode b_M_drop 74 = .ok (.iaload, 1) := by decide +kernel
theorem d_M_drop_75 : decode b_M_drop 75 = .ok (.iastore, 1) := by decide +kernel
theorem d_M_drop_76 : decode b_M_drop 76 = .ok (.iconst 0, 1) := by decide +kernel
theorem d_M_drop_77 : decode b_M_drop 77 = .ok (.istore_n 3, 1) := by decide +kernel
theorem d_M_drop_78 : decode b_M_drop 78 = .ok (.iload_n 3, 1) := by decide +kernel
theorem d_M_drop_79 : decode b_M_drop 79 = .ok (.bipush 30, 2) := by decide +kernel
theorem d_M_drop_81 : decode b_M_drop 81 = .ok (.if_icmp .ge 34, 3) := by decide +kernel
theorem d_M_drop_84 : decode b_M_drop 84 = .ok (.aload_n 0, 1) := by decide +kernel
theorem d_M_drop_85 : decode b_M_drop 85 = .ok (.getfield 50, 3) := by decide +kernel
theorem d_M_drop_88 : decode b_M_drop 88 = .ok (.bipush 30, 2) := by decide +kernel
theorem d_M_drop_90 : decode b_M_drop 90 = .ok (.iload_n 2, 1) := by decide +kernel
theorem d_M_drop_91 : decode b_M_drop 91 = .ok (.imul, 1) := by decide +kernel
theorem d_M_drop_92 : decode b_M_drop 92 = .ok (.iload_n 3, 1) := by decide +kernel
theorem d_M_drop_93 : decode b_M_drop 93 = .ok (.iadd, 1) := by decide +kernel
theorem d_M_drop_94 : decode b_M_drop 94 = .ok (.aload_n 0, 1) := by decide +kernel
theorem d_M_drop_95 : decode b_M_drop 95 = .ok (.getfield 50, 3) := by decide +kernel
theorem d_M_drop_98 : decode b_M_drop 98 = .ok (.bipush 30, 2) := by decide +kernel
theorem d_M_drop_100 : decode b_M_drop 100 = .ok (.iload_n 2, 1) := by decide +kernel
theorem d_M_drop_101 : decode b_M_drop 101 = .ok (.imul, 1) := by decide +kernel
theorem d_M_drop_102 : decode b_M_drop 102 = .ok (.bipush 30, 2) := by decide +kernel
theorem d_M_drop_104 : decode b_M_drop 104 = .ok (.iadd, 1) := by decide +kernel
theorem d_M_drop_105 : decode b_M_drop 105 = .ok (.iload_n 3, 1) := by decide +kernel
theorem d_M_drop_106 : decode b_M_drop 106 = .ok (.iadd, 1) := by decide +kernel
theorem d_M_drop_107 : decode b_M_drop 107 = .ok (.iaload, 1) := by decide +kernel
theorem d_M_drop_108 : decode b_M_drop 108 = .ok (.iastore, 1) := by decide +kernel
theorem d_M_drop_109 : decode b_M_drop 109 = .ok (.iinc 3 1, 3) := by decide +kernel
theorem d_M_drop_112 : decode b_M_drop 112 = .ok (.goto (-34), 3) := by decide +kernel
theorem d_M_drop_115 : decode b_M_drop 115 = .ok (.iinc 2 1, 3) := by decide +kernel
theorem d_M_drop_118 : decode b_M_drop 118 = .ok (.goto (-92), 3) := by decide +kernel
theorem d_M_drop_121 : decode b_M_drop 121 = .ok (.iconst 1, 1) := by decide +kernel
theorem d_M_drop_122 : decode b_M_drop 122 = .ok (.ireturn, 1) := by decide +kernel
theorem d_M_run_0 : decode b_M_run 0 = .ok (.aload_n 0, 1) := by decide +kernel
theorem d_M_run_1 : decode b_M_run 1 = .ok (.iload_n 1, 1) := by decide +kernel
theorem d_M_run_2 : decode b_M_run 2 = .ok (.invokevirtual 69, 3) := by decide +kernel
theorem d_M_run_5 : decode b_M_run 5 = .ok (.ifCond .ne 5, 3) := by decide +kernel
theorem d_M_run_8 : decode b_M_run 8 = .ok (.iconst (-1), 1) := by decide +kernel
theorem d_M_run_9 : decode b_M_run 9 = .ok (.ireturn, 1) := by decide +kernel
theorem d_M_run_10 : decode b_M_run 10 = .ok (.aload_n 0, 1) := by decide +kernel
theorem d_M_run_11 : decode b_M_run 11 = .ok (.iconst 0, 1) := by decide +kernel
theorem d_M_run_12 : decode b_M_run 12 = .ok (.putfield 110, 3) := by decide +kernel
theorem d_M_run_15 : decode b_M_run 15 = .ok (.aload_n 0, 1) := by decide +kernel
theorem d_M_run_16 : decode b_M_run 16 = .ok (.iload_n 1, 1) := by decide +kernel
theorem d_M_run_17 : decode b_M_run 17 = .ok (.invokevirtual 100, 3) := by decide +kernel
theorem d_M_run_20 : decode b_M_run 20 = .ok (.istore_n 2, 1) := by decide +kernel
theorem d_M_run_21 : decode b_M_run 21 = .ok (.aload_n 0, 1) := by decide +kernel
theorem d_M_run_22 : decode b_M_run 22 = .ok (.getfield 94, 3) := by decide +kernel
theorem d_M_run_25 : decode b_M_run 25 = .ok (.ifCond .le 36, 3) := by decide +kernel
theorem d_M_run_28 : decode b_M_run 28 = .ok (.aload_n 0, 1) := by decide +kernel
theorem d_M_run_29 : decode b_M_run 29 = .ok (.getfield 23, 3) := by decide +kernel
theorem d_M_run_32 : decode b_M_run 32 = .ok (.iload_n 1, 1) := by decide +kernel
theorem d_M_run_33 : decode b_M_run 33 = .ok (.baload, 1) := by decide +kernel
theorem d_M_run_34 : decode b_M_run 34 = .ok (.ifCond .eq 27, 3) := by decide +kernel
theorem d_M_run_37 : decode b_M_run 37 = .ok (.aload_n 0, 1) := by decide +kernel
theorem d_M_run_38 : decode b_M_run 38 = .ok (.getfield 13, 3) := by decide +kernel
theorem d_M_run_41 : decode b_M_run 41 = .ok (.sipush 256, 3) := by decide +kernel
theorem d_M_run_44 : decode b_M_run 44 = .ok (.iload_n 1, 1) := by decide +kernel
theorem d_M_run_45 : decode b_M_run 45 = .ok (.imul, 1) := by decide +kernel
theorem d_M_run_46 : decode b_M_run 46 = .ok (.aload_n 0, 1) := by decide +kernel
theorem d_M_run_47 : decode b_M_run 47 = .ok (.getfield 56, 3) := by decide +kernel
theorem d_M_run_50 : decode b_M_run 50 = .ok (.iconst 0, 1) := by decide +kernel
theorem d_M_run_51 : decode b_M_run 51 = .ok (.iaload, 1) := by decide +kernel
theorem d_M_run_52 : decode b_M_run 52 = .ok (.iadd, 1) := by decide +kernel
theorem d_M_run_53 : decode b_M_run 53 = .ok (.baload, 1) := by decide +kernel
theorem d_M_run_54 : decode b_M_run 54 = .ok (.ifCond .eq 7, 3) := by decide +kernel
theorem d_M_run_57 : decode b_M_run 57 = .ok (.iconst 1, 1) := by decide +kernel
theorem d_M_run_58 : decode b_M_run 58 = .ok (.goto 4, 3) := by decide +kernel
theorem d_M_run_61 : decode b_M_run 61 = .ok (.iconst 0, 1) := by decide +kernel
theorem d_M_run_62 : decode b_M_run 62 = .ok (.istore_n 3, 1) := by decide +kernel
theorem d_M_run_63 : decode b_M_run 63 = .ok (.aload_n 0, 1) := by decide +kernel
theorem d_M_run_64 : decode b_M_run 64 = .ok (.getfield 17, 3) := by decide +kernel
theorem d_M_run_67 : decode b_M_run 67 = .ok (.iload_n 1, 1) := by decide +kernel
theorem d_M_run_68 : decode b_M_run 68 = .ok (.iaload, 1) := by decide +kernel
theorem d_M_run_69 : decode b_M_run 69 = .ok (.iconst 1, 1) := by decide +kernel
theorem d_M_run_70 : decode b_M_run 70 = .ok (.if_icmp .ge 7, 3) := by decide +kernel
theorem d_M_run_73 : decode b_M_run 73 = .ok (.iconst 1, 1) := by decide +kernel
theorem d_M_run_74 : decode b_M_run 74 = .ok (.goto 9, 3) := by decide +kernel
theorem d_M_run_77 : decode b_M_run 77 = .ok (.aload_n 0, 1) := by decide +kernel
theorem d_M_run_78 : decode b_M_run 78 = .ok (.getfield 17, 3) := by decide +kernel
theorem d_M_run_81 : decode b_M_run 81 = .ok (.iload_n 1, 1) := by decide +kernel
theorem d_M_run_82 : decode b_M_run 82 = .ok (.iaload, 1) := by decide +kernel
theorem d_M_run_83 : decode b_M_run 83 = .ok (.istore 4, 2) := by decide +kernel
theorem d_M_run_85 : decode b_M_run 85 = .ok (.aload_n 0, 1) := by decide +kernel
theorem d_M_run_86 : decode b_M_run 86 = .ok (.getfield 94, 3) := by decide +kernel
theorem d_M_run_89 : decode b_M_run 89 = .ok (.aload_n 0, 1) := by decide +kernel
theorem d_M_run_90 : decode b_M_run 90 = .ok (.getfield 20, 3) := by decide +kernel
theorem d_M_run_93 : decode b_M_run 93 = .ok (.iload_n 1, 1) := by decide +kernel
theorem d_M_run_94 : decode b_M_run 94 = .ok (.iaload, 1) := by decide +kernel
theorem d_M_run_95 : decode b_M_run 95 = .ok (.iconst 1, 1) := by decide +kernel
theorem d_M_run_96 : decode b_M_run 96 = .ok (.if_icmp .ge 7, 3) := by decide +kernel
theorem d_M_run_99 : decode b_M_run 99 = .ok (.iconst 1, 1) := by decide +kernel
theorem d_M_run_100 : decode b_M_run 100 = .ok (.goto 9, 3) := by decide +kernel
theorem d_M_run_103 : decode b_M_run 103 = .ok (.aload_n 0, 1) := by decide +kernel
theorem d_M_run_104 : decode b_M_run 104 = .ok (.getfield 20, 3) := by decide +kernel
theorem d_M_run_107 : decode b_M_run 107 = .ok (.iload_n 1, 1) := by decide +kernel
theorem d_M_run_108 : decode b_M_run 108 = .ok (.iaload, 1) := by decide +kernel
theorem d_M_run_109 : decode b_M_run 109 = .ok (.isub, 1) := by decide +kernel
theorem d_M_run_110 : decode b_M_run 110 = .ok (.istore 5, 2) := by decide +kernel
theorem d_M_run_112 : decode b_M_run 112 = .ok (.iload 4, 2) := by decide +kernel
theorem d_M_run_114 : decode b_M_run 114 = .ok (.istore 6, 2) := by decide +kernel
theorem d_M_run_116 : decode b_M_run 116 = .ok (.iload 6, 2) := by decide +kernel
theorem d_M_run_118 : decode b_M_run 118 = .ok (.iload 5, 2) := by decide +kernel
theorem d_M_run_120 : decode b_M_run 120 = .ok (.if_icmp .gt 51, 3) := by decide +kernel
theorem d_M_run_123 : decode b_M_run 123 = .ok (.iload_n 2, 1) := by decide +kernel
theorem d_M_run_124 : decode b_M_run 124 = .ok (.ifCond .eq 47, 3) := by decide +kernel
theorem d_M_run_127 : decode b_M_run 127 = .ok (.iload_n 3, 1) := by decide +kernel
theorem d_M_run_128 : decode b_M_run 128 = .ok (.ifCond .ne 43, 3) := by decide +kernel
theorem d_M_run_131 : decode b_M_run 131 = .ok (.aload_n 0, 1) := by decide +kernel
theorem d_M_run_132 : decode b_M_run 132 = .ok (.iload_n 1, 1) := by decide +kernel
theorem d_M_run_133 : decode b_M_run 133 = .ok (.iload 6, 2) := by decide +kernel
theorem d_M_run_135 : decode b_M_run 135 = .ok (.invokevirtual 113, 3) := by decide +kernel
theorem d_M_run_138 : decode b_M_run 138 = .ok (.iconst 2, 1) := by decide +kernel
theorem d_M_run_139 : decode b_M_run 139 = .ok (.irem, 1) := by decide +kernel
theorem d_M_run_140 : decode b_M_run 140 = .ok (.iconst 1, 1) := by decide +kernel
theorem d_M_run_141 : decode b_M_run 141 = .ok (.if_icmp .ne 24, 3) := by decide +kernel
theorem d_M_run_144 : decode b_M_run 144 = .ok (.aload_n 0, 1) := by decide +kernel
theorem d_M_run_145 : decode b_M_run 145 = .ok (.getfield 62, 3) := by decide +kernel
theorem d_M_run_148 : decode b_M_run 148 = .ok (.aload_n 0, 1) := by decide +kernel
theorem d_M_run_149 : decode b_M_run 149 = .ok (.getfield 110, 3) := by decide +kernel
theorem d_M_run_152 : decode b_M_run 152 = .ok (.iload 6, 2) := by decide +kernel
theorem d_M_run_154 : decode b_M_run 154 = .ok (.iastore, 1) := by decide +kernel
theorem d_M_run_155 : decode b_M_run 155 = .ok (.aload_n 0, 1) := by decide +kernel
theorem d_M_run_156 : decode b_M_run 156 = .ok (.dup, 1) := by decide +kernel
theorem d_M_run_157 : decode b_M_run 157 = .ok (.getfield 110, 3) := by decide +kernel
theorem d_M_run_160 : decode b_M_run 160 = .ok (.iconst 1, 1) := by decide +kernel
theorem d_M_run_161 : decode b_M_run 161 = .ok (.iadd, 1) := by decide +kernel
theorem d_M_run_162 : decode b_M_run 162 = .ok (.putfield 110, 3) := by decide +kernel
theorem d_M_run_165 : decode b_M_run 165 = .ok (.iinc 6 1, 3) := by decide +kernel
theorem d_M_run_168 : decode b_M_run 168 = .ok (.goto (-52), 3) := by decide +kernel
theorem d_M_run_171 : decode b_M_run 171 = .ok (.aload_n 0, 1) := by decide +kernel
theorem d_M_run_172 : decode b_M_run 172 = .ok (.getfield 110, 3) := by decide +kernel
theorem d_M_run_175 : decode b_M_run 175 = .ok (.ireturn, 1) := by decide +kernel
theorem d_M_digitOf_0 : decode b_M_digitOf 0 = .ok (.aload_n 0, 1) := by decide +kernel
theorem d_M_digitOf_1 : decode b_M_digitOf 1 = .ok (.iload_n 1, 1) := by decide +kernel
theorem d_M_digitOf_2 : decode b_M_digitOf 2 = .ok (.invokevirtual 103, 3) := by decide +kernel
theorem d_M_digitOf_5 : decode b_M_digitOf 5 = .ok (.istore_n 3, 1) := by decide +kernel
theorem d_M_digitOf_6 : decode b_M_digitOf 6 = .ok (.iload_n 3, 1) := by decide +kernel
theorem d_M_digitOf_7 : decode b_M_digitOf 7 = .ok (.aload_n 0, 1) := by decide +kernel
theorem d_M_digitOf_8 : decode b_M_digitOf 8 = .ok (.getfield 97, 3) := by decide +kernel
theorem d_M_digitOf_11 : decode b_M_digitOf 11 = .ok (.if_icmp .ge 14, 3) := by decide +kernel
theorem d_M_digitOf_14 : decode b_M_digitOf 14 = .ok (.aload_n 0, 1) := by decide +kernel
theorem d_M_digitOf_15 : decode b_M_digitOf 15 = .ok (.getfield 53, 3) := by decide +kernel
theorem d_M_digitOf_18 : decode b_M_digitOf 18 = .ok (.iload_n 3, 1) := by decide +kernel
theorem d_M_digitOf_19 : decode b_M_digitOf 19 = .ok (.iaload, 1) := by decide +kernel
theorem d_M_digitOf_20 : decode b_M_digitOf 20 = .ok (.iload_n 2, 1) := by decide +kernel
theorem d_M_digitOf_21 : decode b_M_digitOf 21 = .ok (.ishr, 1) := by decide +kernel
theorem d_M_digitOf_22 : decode b_M_digitOf 22 = .ok (.iconst 1, 1) := by decide +kernel
theorem d_M_digitOf_23 : decode b_M_digitOf 23 = .ok (.iand, 1) := by decide +kernel
theorem d_M_digitOf_24 : decode b_M_digitOf 24 = .ok (.ireturn, 1) := by decide +kernel
theorem d_M_digitOf_25 : decode b_M_digitOf 25 = .ok (.iconst 0, 1) := by decide +kernel
theorem d_M_digitOf_26 : decode b_M_digitOf 26 = .ok (.istore 4, 2) := by decide +kernel
theorem d_M_digitOf_28 : decode b_M_digitOf 28 = .ok (.iconst 0, 1) := by decide +kernel
theorem d_M_digitOf_29 : decode b_M_digitOf 29 = .ok (.istore 5, 2) := by decide +kernel
theorem d_M_digitOf_31 : decode b_M_digitOf 31 = .ok (.iload 5, 2) := by decide +kernel
theorem d_M_digitOf_33 : decode b_M_digitOf 33 = .ok (.aload_n 0, 1) := by decide +kernel
theorem d_M_digitOf_34 : decode b_M_digitOf 34 = .ok (.getfield 80, 3) := by decide +kernel
theorem d_M_digitOf_37 : decode b_M_digitOf 37 = .ok (.if_icmp .ge 89, 3) := by decide +kernel
theorem d_M_digitOf_40 : decode b_M_digitOf 40 = .ok (.iconst 0, 1) := by decide +kernel
theorem d_M_digitOf_41 : decode b_M_digitOf 41 = .ok (.istore 6, 2) := by decide +kernel
theorem d_M_digitOf_43 : decode b_M_digitOf 43 = .ok (.iload 6, 2) := by decide +kernel
theorem d_M_digitOf_45 : decode b_M_digitOf 45 = .ok (.aload_n 0, 1) := by decide +kernel
theorem d_M_digitOf_46 : decode b_M_digitOf 46 = .ok (.getfield 35, 3) := by decide +kernel
theorem d_M_digitOf_49 : decode b_M_digitOf 49 = .ok (.iload 5, 2) := by decide +kernel
theorem d_M_digitOf_51 : decode b_M_digitOf 51 = .ok (.iaload, 1) := by decide +kernel
theorem d_M_digitOf_52 : decode b_M_digitOf 52 = .ok (.if_icmp .gt 68, 3) := by decide +kernel
theorem d_M_digitOf_55 : decode b_M_digitOf 55 = .ok (.aload_n 0, 1) := by decide +kernel
theorem d_M_digitOf_56 : decode b_M_digitOf 56 = .ok (.getfield 32, 3) := by decide +kernel
theorem d_M_digitOf_59 : decode b_M_digitOf 59 = .ok (.iload 5, 2) := by decide +kernel
theorem d_M_digitOf_61 : decode b_M_digitOf 61 = .ok (.iaload, 1) := by decide +kernel
theorem d_M_digitOf_62 : decode b_M_digitOf 62 = .ok (.iload_n 1, 1) := by decide +kernel
theorem d_M_digitOf_63 : decode b_M_digitOf 63 = .ok (.if_icmp .ne 57, 3) := by decide +kernel
theorem d_M_digitOf_66 : decode b_M_digitOf 66 = .ok (.aload_n 0, 1) := by decide +kernel
theorem d_M_digitOf_67 : decode b_M_digitOf 67 = .ok (.getfield 41, 3) := by decide +kernel
theorem d_M_digitOf_70 : decode b_M_digitOf 70 = .ok (.bipush 13, 2) := by decide +kernel
theorem d_M_digitOf_72 : decode b_M_digitOf 72 = .ok (.iload 5, 2) := by decide +kernel
theorem d_M_digitOf_74 : decode b_M_digitOf 74 = .ok (.imul, 1) := by decide +kernel
theorem d_M_digitOf_75 : decode b_M_digitOf 75 = .ok (.iload 6, 2) := by decide +kernel
theorem d_M_digitOf_77 : decode b_M_digitOf 77 = .ok (.iadd, 1) := by decide +kernel
theorem d_M_digitOf_78 : decode b_M_digitOf 78 = .ok (.iaload, 1) := by decide +kernel
theorem d_M_digitOf_79 : decode b_M_digitOf 79 = .ok (.iload 4, 2) := by decide +kernel
theorem d_M_digitOf_81 : decode b_M_digitOf 81 = .ok (.if_icmp .le 33, 3) := by decide +kernel
theorem d_M_digitOf_84 : decode b_M_digitOf 84 = .ok (.aload_n 0, 1) := by decide +kernel
theorem d_M_digitOf_85 : decode b_M_digitOf 85 = .ok (.iload 5, 2) := by decide +kernel
theorem d_M_digitOf_87 : decode b_M_digitOf 87 = .ok (.iload_n 2, 1) := by decide +kernel
theorem d_M_digitOf_88 : decode b_M_digitOf 88 = .ok (.iconst 1, 1) := by decide +kernel
theorem d_M_digitOf_89 : decode b_M_digitOf 89 = .ok (.iadd, 1) := by decide +kernel
theorem d_M_digitOf_90 : decode b_M_digitOf 90 = .ok (.iload 6, 2) := by decide +kernel
theorem d_M_digitOf_92 : decode b_M_digitOf 92 = .ok (.isub, 1) := by decide +kernel
theorem d_M_digitOf_93 : decode b_M_digitOf 93 = .ok (.invokevirtual 107, 3) := by decide +kernel
theorem d_M_digitOf_96 : decode b_M_digitOf 96 = .ok (.ifCond .eq 18, 3) := by decide +kernel
theorem d_M_digitOf_99 : decode b_M_digitOf 99 = .ok (.aload_n 0, 1) := by decide +kernel
theorem d_M_digitOf_100 : decode b_M_digitOf 100 = .ok (.getfield 41, 3) := by decide +kernel
theorem d_M_digitOf_103 : decode b_M_digitOf 103 = .ok (.bipush 13, 2) := by decide +kernel
theorem d_M_digitOf_105 : decode b_M_digitOf 105 = .ok (.iload 5, 2) := by decide +kernel
theorem d_M_digitOf_107 : decode b_M_digitOf 107 = .ok (.imul, 1) := by decide +kernel
theorem d_M_digitOf_108 : decode b_M_digitOf 108 = .ok (.iload 6, 2) := by decide +kernel
theorem d_M_digitOf_110 : decode b_M_digitOf 110 = .ok (.iadd, 1) := by decide +kernel
theorem d_M_digitOf_111 : decode b_M_digitOf 111 = .ok (.iaload, 1) := by decide +kernel
theorem d_M_digitOf_112 : decode b_M_digitOf 112 = .ok (.istore 4, 2) := by decide +kernel
theorem d_M_digitOf_114 : decode b_M_digitOf 114 = .ok (.iinc 6 1, 3) := by decide +kernel
theorem d_M_digitOf_117 : decode b_M_digitOf 117 = .ok (.goto (-74), 3) := by decide +kernel
theorem d_M_digitOf_120 : decode b_M_digitOf 120 = .ok (.iinc 5 1, 3) := by decide +kernel
theorem d_M_digitOf_123 : decode b_M_digitOf 123 = .ok (.goto (-92), 3) := by decide +kernel
theorem d_M_digitOf_126 : decode b_M_digitOf 126 = .ok (.iload 4, 2) := by decide +kernel
theorem d_M_digitOf_128 : decode b_M_digitOf 128 = .ok (.ireturn, 1) := by decide +kernel
theorem d_M_stands_0 : decode b_M_stands 0 = .ok (.iload_n 2, 1) := by decide +kernel
theorem d_M_stands_1 : decode b_M_stands 1 = .ok (.ifCond .lt 24, 3) := by decide +kernel
theorem d_M_stands_4 : decode b_M_stands 4 = .ok (.iload_n 2, 1) := by decide +kernel
theorem d_M_stands_5 : decode b_M_stands 5 = .ok (.aload_n 0, 1) := by decide +kernel
theorem d_M_stands_6 : decode b_M_stands 6 = .ok (.getfield 35, 3) := by decide +kernel
theorem d_M_stands_9 : decode b_M_stands 9 = .ok (.iload_n 1, 1) := by decide +kernel
theorem d_M_stands_10 : decode b_M_stands 10 = .ok (.iaload, 1) := by decide +kernel
theorem d_M_stands_11 : decode b_M_stands 11 = .ok (.iadd, 1) := by decide +kernel
theorem d_M_stands_12 : decode b_M_stands 12 = .ok (.aload_n 0, 1) := by decide +kernel
theorem d_M_stands_13 : decode b_M_stands 13 = .ok (.getfield 94, 3) := by decide +kernel
theorem d_M_stands_16 : decode b_M_stands 16 = .ok (.iconst 2, 1) := by decide +kernel
theorem d_M_stands_17 : decode b_M_stands 17 = .ok (.iadd, 1) := by decide +kernel
theorem d_M_stands_18 : decode b_M_stands 18 = .ok (.if_icmp .gt 7, 3) := by decide +kernel
theorem d_M_stands_21 : decode b_M_stands 21 = .ok (.iconst 1, 1) := by decide +kernel
theorem d_M_stands_22 : decode b_M_stands 22 = .ok (.goto 4, 3) := by decide +kernel
theorem d_M_stands_25 : decode b_M_stands 25 = .ok (.iconst 0, 1) := by decide +kernel
theorem d_M_stands_26 : decode b_M_stands 26 = .ok (.istore_n 3, 1) := by decide +kernel
theorem d_M_stands_27 : decode b_M_stands 27 = .ok (.iconst 0, 1) := by decide +kernel
theorem d_M_stands_28 : decode b_M_stands 28 = .ok (.istore 4, 2) := by decide +kernel
theorem d_M_stands_30 : decode b_M_stands 30 = .ok (.iload 4, 2) := by decide +kernel
theorem d_M_stands_32 : decode b_M_stands 32 = .ok (.aload_n 0, 1) := by decide +kernel
theorem d_M_stands_33 : decode b_M_stands 33 = .ok (.getfield 35, 3) := by decide +kernel
theorem d_M_stands_36 : decode b_M_stands 36 = .ok (.iload_n 1, 1) := by decide +kernel
theorem d_M_stands_37 : decode b_M_stands 37 = .ok (.iaload, 1) := by decide +kernel
theorem d_M_stands_38 : decode b_M_stands 38 = .ok (.if_icmp .ge 43, 3) := by decide +kernel
theorem d_M_stands_41 : decode b_M_stands 41 = .ok (.iload_n 3, 1) := by decide +kernel
theorem d_M_stands_42 : decode b_M_stands 42 = .ok (.ifCond .eq 39, 3) := by decide +kernel
theorem d_M_stands_45 : decode b_M_stands 45 = .ok (.aload_n 0, 1) := by decide +kernel
theorem d_M_stands_46 : decode b_M_stands 46 = .ok (.getfield 38, 3) := by decide +kernel
theorem d_M_stands_49 : decode b_M_stands 49 = .ok (.bipush 12, 2) := by decide +kernel
theorem d_M_stands_51 : decode b_M_stands 51 = .ok (.iload_n 1, 1) := by decide +kernel
theorem d_M_stands_52 : decode b_M_stands 52 = .ok (.imul, 1) := by decide +kernel
theorem d_M_stands_53 : decode b_M_stands 53 = .ok (.iload 4, 2) := by decide +kernel
theorem d_M_stands_55 : decode b_M_stands 55 = .ok (.iadd, 1) := by decide +kernel
theorem d_M_stands_56 : decode b_M_stands 56 = .ok (.iaload, 1) := by decide +kernel
theorem d_M_stands_57 : decode b_M_stands 57 = .ok (.aload_n 0, 1) := by decide +kernel
theorem d_M_stands_58 : decode b_M_stands 58 = .ok (.getfield 59, 3) := by decide +kernel
theorem d_M_stands_61 : decode b_M_stands 61 = .ok (.iload_n 2, 1) := by decide +kernel
theorem d_M_stands_62 : decode b_M_stands 62 = .ok (.iload 4, 2) := by decide +kernel
theorem d_M_stands_64 : decode b_M_stands 64 = .ok (.iadd, 1) := by decide +kernel
theorem d_M_stands_65 : decode b_M_stands 65 = .ok (.iaload, 1) := by decide +kernel
theorem d_M_stands_66 : decode b_M_stands 66 = .ok (.if_icmp .ne 7, 3) := by decide +kernel
theorem d_M_stands_69 : decode b_M_stands 69 = .ok (.iconst 1, 1) := by decide +kernel
theorem d_M_stands_70 : decode b_M_stands 70 = .ok (.goto 4, 3) := by decide +kernel
theorem d_M_stands_73 : decode b_M_stands 73 = .ok (.iconst 0, 1) := by decide +kernel
theorem d_M_stands_74 : decode b_M_stands 74 = .ok (.istore_n 3, 1) := by decide +kernel
theorem d_M_stands_75 : decode b_M_stands 75 = .ok (.iinc 4 1, 3) := by decide +kernel
theorem d_M_stands_78 : decode b_M_stands 78 = .ok (.goto (-48), 3) := by decide +kernel
theorem d_M_stands_81 : decode b_M_stands 81 = .ok (.iload_n 3, 1) := by decide +kernel
theorem d_M_stands_82 : decode b_M_stands 82 = .ok (.ireturn, 1) := by decide +kernel
theorem d_M_at_0 : decode b_M_at 0 = .ok (.iload_n 1, 1) := by decide +kernel
theorem d_M_at_1 : decode b_M_at 1 = .ok (.ifCond .lt 11, 3) := by decide +kernel
theorem d_M_at_4 : decode b_M_at 4 = .ok (.iload_n 1, 1) := by decide +kernel
theorem d_M_at_5 : decode b_M_at 5 = .ok (.aload_n 0, 1) := by decide +kernel
theorem d_M_at_6 : decode b_M_at 6 = .ok (.getfield 110, 3) := by decide +kernel
theorem d_M_at_9 : decode b_M_at 9 = .ok (.if_icmp .lt 7, 3) := by decide +kernel
theorem d_M_at_12 : decode b_M_at 12 = .ok (.iconst (-1), 1) := by decide +kernel
theorem d_M_at_13 : decode b_M_at 13 = .ok (.goto 9, 3) := by decide +kernel
theorem d_M_at_16 : decode b_M_at 16 = .ok (.aload_n 0, 1) := by decide +kernel
theorem d_M_at_17 : decode b_M_at 17 = .ok (.getfield 62, 3) := by decide +kernel
theorem d_M_at_20 : decode b_M_at 20 = .ok (.iload_n 1, 1) := by decide +kernel
theorem d_M_at_21 : decode b_M_at 21 = .ok (.iaload, 1) := by decide +kernel
theorem d_M_at_22 : decode b_M_at 22 = .ok (.ireturn, 1) := by decide +kernel
theorem d_M_digit_0 : decode b_M_digit 0 = .ok (.aload_n 0, 1) := by decide +kernel
theorem d_M_digit_1 : decode b_M_digit 1 = .ok (.iload_n 1, 1) := by decide +kernel
theorem d_M_digit_2 : decode b_M_digit 2 = .ok (.invokevirtual 69, 3) := by decide +kernel
theorem d_M_digit_5 : decode b_M_digit 5 = .ok (.ifCond .eq 15, 3) := by decide +kernel
theorem d_M_digit_8 : decode b_M_digit 8 = .ok (.iload_n 2, 1) := by decide +kernel
theorem d_M_digit_9 : decode b_M_digit 9 = .ok (.ifCond .lt 11, 3) := by decide +kernel
theorem d_M_digit_12 : decode b_M_digit 12 = .ok (.iload_n 2, 1) := by decide +kernel
theorem d_M_digit_13 : decode b_M_digit 13 = .ok (.aload_n 0, 1) := by decide +kernel
theorem d_M_digit_14 : decode b_M_digit 14 = .ok (.getfield 94, 3) := by decide +kernel
theorem d_M_digit_17 : decode b_M_digit 17 = .ok (.if_icmp .le 5, 3) := by decide +kernel
theorem d_M_digit_20 : decode b_M_digit 20 = .ok (.iconst (-1), 1) := by decide +kernel
theorem d_M_digit_21 : decode b_M_digit 21 = .ok (.ireturn, 1) := by decide +kernel
theorem d_M_digit_22 : decode b_M_digit 22 = .ok (.aload_n 0, 1) := by decide +kernel
theorem d_M_digit_23 : decode b_M_digit 23 = .ok (.iload_n 1, 1) := by decide +kernel
theorem d_M_digit_24 : decode b_M_digit 24 = .ok (.invokevirtual 100, 3) := by decide +kernel
theorem d_M_digit_27 : decode b_M_digit 27 = .ok (.ifCond .eq 12, 3) := by decide +kernel
theorem d_M_digit_30 : decode b_M_digit 30 = .ok (.aload_n 0, 1) := by decide +kernel
theorem d_M_digit_31 : decode b_M_digit 31 = .ok (.iload_n 1, 1) := by decide +kernel
theorem d_M_digit_32 : decode b_M_digit 32 = .ok (.iload_n 2, 1) := by decide +kernel
theorem d_M_digit_33 : decode b_M_digit 33 = .ok (.invokevirtual 113, 3) := by decide +kernel
theorem d_M_digit_36 : decode b_M_digit 36 = .ok (.goto 4, 3) := by decide +kernel
theorem d_M_digit_39 : decode b_M_digit 39 = .ok (.iconst 0, 1) := by decide +kernel
theorem d_M_digit_40 : decode b_M_digit 40 = .ok (.ireturn, 1) := by decide +kernel
theorem d_M_patterns_0 : decode b_M_patterns 0 = .ok (.aload_n 0, 1) := by decide +kernel
theorem d_M_patterns_1 : decode b_M_patterns 1 = .ok (.getfield 80, 3) := by decide +kernel
theorem d_M_patterns_4 : decode b_M_patterns 4 = .ok (.ireturn, 1) := by decide +kernel
theorem d_M_exceptions_0 : decode b_M_exceptions 0 = .ok (.aload_n 0, 1) := by decide +kernel
theorem d_M_exceptions_1 : decode b_M_exceptions 1 = .ok (.getfield 97, 3) := by decide +kernel
theorem d_M_exceptions_4 : decode b_M_exceptions 4 = .ok (.ireturn, 1) := by decide +kernel
end
section
-- what each instruction of the law is
theorem d_law_0 : decode code 0 = .ok (.new 7, 3) := by decide +kernel
theorem d_law_3 : decode code 3 = .ok (.dup, 1) := by decide +kernel
theorem d_law_4 : decode code 4 = .ok (.invokespecial 9, 3) := by decide +kernel
theorem d_law_7 : decode code 7 = .ok (.astore_n 1, 1) := by decide +kernel
theorem d_law_8 : decode code 8 = .ok (.new 10, 3) := by decide +kernel
theorem d_law_11 : decode code 11 = .ok (.dup, 1) := by decide +kernel
theorem d_law_12 : decode code 12 = .ok (.invokespecial 12, 3) := by decide +kernel
theorem d_law_15 : decode code 15 = .ok (.astore_n 2, 1) := by decide +kernel
theorem d_law_16 : decode code 16 = .ok (.iconst 0, 1) := by decide +kernel
theorem d_law_17 : decode code 17 = .ok (.istore_n 3, 1) := by decide +kernel
theorem d_law_18 : decode code 18 = .ok (.iload_n 3, 1) := by decide +kernel
theorem d_law_19 : decode code 19 = .ok (.aload_n 0, 1) := by decide +kernel
theorem d_law_20 : decode code 20 = .ok (.arraylength, 1) := by decide +kernel
theorem d_law_21 : decode code 21 = .ok (.iconst 5, 1) := by decide +kernel
theorem d_law_22 : decode code 22 = .ok (.isub, 1) := by decide +kernel
theorem d_law_23 : decode code 23 = .ok (.if_icmp .gt 501, 3) := by decide +kernel
theorem d_law_26 : decode code 26 = .ok (.aload_n 0, 1) := by decide +kernel
theorem d_law_27 : decode code 27 = .ok (.iload_n 3, 1) := by decide +kernel
theorem d_law_28 : decode code 28 = .ok (.iaload, 1) := by decide +kernel
theorem d_law_29 : decode code 29 = .ok (.bipush 15, 2) := by decide +kernel
theorem d_law_31 : decode code 31 = .ok (.iand, 1) := by decide +kernel
theorem d_law_32 : decode code 32 = .ok (.tableswitch 486 0 13 #[72, 85, 154, 223, 256, 289, 312, 325, 358, 381, 404, 427, 460, 473], 72) := by decide +kernel
theorem d_law_104 : decode code 104 = .ok (.aload_n 1, 1) := by decide +kernel
theorem d_law_105 : decode code 105 = .ok (.invokevirtual 13, 3) := by decide +kernel
theorem d_law_108 : decode code 108 = .ok (.aload_n 2, 1) := by decide +kernel
theorem d_law_109 : decode code 109 = .ok (.invokevirtual 17, 3) := by decide +kernel
theorem d_law_112 : decode code 112 = .ok (.if_icmp .eq 406, 3) := by decide +kernel
theorem d_law_115 : decode code 115 = .ok (.iconst 0, 1) := by decide +kernel
theorem d_law_116 : decode code 116 = .ok (.ireturn, 1) := by decide +kernel
theorem d_law_117 : decode code 117 = .ok (.aload_n 1, 1) := by decide +kernel
theorem d_law_118 : decode code 118 = .ok (.aload_n 0, 1) := by decide +kernel
theorem d_law_119 : decode code 119 = .ok (.iload_n 3, 1) := by decide +kernel
theorem d_law_120 : decode code 120 = .ok (.iconst 1, 1) := by decide +kernel
theorem d_law_121 : decode code 121 = .ok (.iadd, 1) := by decide +kernel
theorem d_law_122 : decode code 122 = .ok (.iaload, 1) := by decide +kernel
theorem d_law_123 : decode code 123 = .ok (.aload_n 0, 1) := by decide +kernel
theorem d_law_124 : decode code 124 = .ok (.iload_n 3, 1) := by decide +kernel
theorem d_law_125 : decode code 125 = .ok (.iconst 2, 1) := by decide +kernel
theorem d_law_126 : decode code 126 = .ok (.iadd, 1) := by decide +kernel
theorem d_law_127 : decode code 127 = .ok (.iaload, 1) := by decide +kernel
theorem d_law_128 : decode code 128 = .ok (.aload_n 0, 1) := by decide +kernel
theorem d_law_129 : decode code 129 = .ok (.iload_n 3, 1) := by decide +kernel
theorem d_law_130 : decode code 130 = .ok (.iconst 3, 1) := by decide +kernel
theorem d_law_131 : decode code 131 = .ok (.iadd, 1) := by decide +kernel
theorem d_law_132 : decode code 132 = .ok (.iaload, 1) := by decide +kernel
theorem d_law_133 : decode code 133 = .ok (.aload_n 0, 1) := by decide +kernel
theorem d_law_134 : decode code 134 = .ok (.iload_n 3, 1) := by decide +kernel
theorem d_law_135 : decode code 135 = .ok (.iconst 4, 1) := by decide +kernel
theorem d_law_136 : decode code 136 = .ok (.iadd, 1) := by decide +kernel
theorem d_law_137 : decode code 137 = .ok (.iaload, 1) := by decide +kernel
theorem d_law_138 : decode code 138 = .ok (.ifCond .eq 7, 3) := by decide +kernel
theorem d_law_141 : decode code 141 = .ok (.iconst 1, 1) := by decide +kernel
theorem d_law_142 : decode code 142 = .ok (.goto 4, 3) := by decide +kernel
theorem d_law_145 : decode code 145 = .ok (.iconst 0, 1) := by decide +kernel
theorem d_law_146 : decode code 146 = .ok (.invokevirtual 18, 3) := by decide +kernel
theorem d_law_149 : decode code 149 = .ok (.aload_n 2, 1) := by decide +kernel
theorem d_law_150 : decode code 150 = .ok (.aload_n 0, 1) := by decide +kernel
theorem d_law_151 : decode code 151 = .ok (.iload_n 3, 1) := by decide +kernel
theorem d_law_152 : decode code 152 = .ok (.iconst 1, 1) := by decide +kernel
theorem d_law_153 : decode code 153 = .ok (.iadd, 1) := by decide +kernel
theorem d_law_154 : decode code 154 = .ok (.iaload, 1) := by decide +kernel
theorem d_law_155 : decode code 155 = .ok (.aload_n 0, 1) := by decide +kernel
theorem d_law_156 : decode code 156 = .ok (.iload_n 3, 1) := by decide +kernel
theorem d_law_157 : decode code 157 = .ok (.iconst 2, 1) := by decide +kernel
theorem d_law_158 : decode code 158 = .ok (.iadd, 1) := by decide +kernel
theorem d_law_159 : decode code 159 = .ok (.iaload, 1) := by decide +kernel
theorem d_law_160 : decode code 160 = .ok (.aload_n 0, 1) := by decide +kernel
theorem d_law_161 : decode code 161 = .ok (.iload_n 3, 1) := by decide +kernel
theorem d_law_162 : decode code 162 = .ok (.iconst 3, 1) := by decide +kernel
theorem d_law_163 : decode code 163 = .ok (.iadd, 1) := by decide +kernel
theorem d_law_164 : decode code 164 = .ok (.iaload, 1) := by decide +kernel
theorem d_law_165 : decode code 165 = .ok (.aload_n 0, 1) := by decide +kernel
theorem d_law_166 : decode code 166 = .ok (.iload_n 3, 1) := by decide +kernel
theorem d_law_167 : decode code 167 = .ok (.iconst 4, 1) := by decide +kernel
theorem d_law_168 : decode code 168 = .ok (.iadd, 1) := by decide +kernel
theorem d_law_169 : decode code 169 = .ok (.iaload, 1) := by decide +kernel
theorem d_law_170 : decode code 170 = .ok (.ifCond .eq 7, 3) := by decide +kernel
theorem d_law_173 : decode code 173 = .ok (.iconst 1, 1) := by decide +kernel
theorem d_law_174 : decode code 174 = .ok (.goto 4, 3) := by decide +kernel
theorem d_law_177 : decode code 177 = .ok (.iconst 0, 1) := by decide +kernel
theorem d_law_178 : decode code 178 = .ok (.invokevirtual 22, 3) := by decide +kernel
theorem d_law_181 : decode code 181 = .ok (.if_icmp .eq 337, 3) := by decide +kernel
theorem d_law_184 : decode code 184 = .ok (.iconst 0, 1) := by decide +kernel
theorem d_law_185 : decode code 185 = .ok (.ireturn, 1) := by decide +kernel
theorem d_law_186 : decode code 186 = .ok (.aload_n 1, 1) := by decide +kernel
theorem d_law_187 : decode code 187 = .ok (.aload_n 0, 1) := by decide +kernel
theorem d_law_188 : decode code 188 = .ok (.iload_n 3, 1) := by decide +kernel
theorem d_law_189 : decode code 189 = .ok (.iconst 1, 1) := by decide +kernel
theorem d_law_190 : decode code 190 = .ok (.iadd, 1) := by decide +kernel
theorem d_law_191 : decode code 191 = .ok (.iaload, 1) := by decide +kernel
theorem d_law_192 : decode code 192 = .ok (.aload_n 0, 1) := by decide +kernel
theorem d_law_193 : decode code 193 = .ok (.iload_n 3, 1) := by decide +kernel
theorem d_law_194 : decode code 194 = .ok (.iconst 2, 1) := by decide +kernel
theorem d_law_195 : decode code 195 = .ok (.iadd, 1) := by decide +kernel
theorem d_law_196 : decode code 196 = .ok (.iaload, 1) := by decide +kernel
theorem d_law_197 : decode code 197 = .ok (.aload_n 0, 1) := by decide +kernel
theorem d_law_198 : decode code 198 = .ok (.iload_n 3, 1) := by decide +kernel
theorem d_law_199 : decode code 199 = .ok (.iconst 3, 1) := by decide +kernel
theorem d_law_200 : decode code 200 = .ok (.iadd, 1) := by decide +kernel
theorem d_law_201 : decode code 201 = .ok (.iaload, 1) := by decide +kernel
theorem d_law_202 : decode code 202 = .ok (.aload_n 0, 1) := by decide +kernel
theorem d_law_203 : decode code 203 = .ok (.iload_n 3, 1) := by decide +kernel
theorem d_law_204 : decode code 204 = .ok (.iconst 4, 1) := by decide +kernel
theorem d_law_205 : decode code 205 = .ok (.iadd, 1) := by decide +kernel
theorem d_law_206 : decode code 206 = .ok (.iaload, 1) := by decide +kernel
theorem d_law_207 : decode code 207 = .ok (.ifCond .eq 7, 3) := by decide +kernel
theorem d_law_210 : decode code 210 = .ok (.iconst 1, 1) := by decide +kernel
theorem d_law_211 : decode code 211 = .ok (.goto 4, 3) := by decide +kernel
theorem d_law_214 : decode code 214 = .ok (.iconst 0, 1) := by decide +kernel
theorem d_law_215 : decode code 215 = .ok (.invokevirtual 23, 3) := by decide +kernel
theorem d_law_218 : decode code 218 = .ok (.aload_n 2, 1) := by decide +kernel
theorem d_law_219 : decode code 219 = .ok (.aload_n 0, 1) := by decide +kernel
theorem d_law_220 : decode code 220 = .ok (.iload_n 3, 1) := by decide +kernel
theorem d_law_221 : decode code 221 = .ok (.iconst 1, 1) := by decide +kernel
theorem d_law_222 : decode code 222 = .ok (.iadd, 1) := by decide +kernel
theorem d_law_223 : decode code 223 = .ok (.iaload, 1) := by decide +kernel
theorem d_law_224 : decode code 224 = .ok (.aload_n 0, 1) := by decide +kernel
theorem d_law_225 : decode code 225 = .ok (.iload_n 3, 1) := by decide +kernel
theorem d_law_226 : decode code 226 = .ok (.iconst 2, 1) := by decide +kernel
theorem d_law_227 : decode code 227 = .ok (.iadd, 1) := by decide +kernel
theorem d_law_228 : decode code 228 = .ok (.iaload, 1) := by decide +kernel
theorem d_law_229 : decode code 229 = .ok (.aload_n 0, 1) := by decide +kernel
theorem d_law_230 : decode code 230 = .ok (.iload_n 3, 1) := by decide +kernel
theorem d_law_231 : decode code 231 = .ok (.iconst 3, 1) := by decide +kernel
theorem d_law_232 : decode code 232 = .ok (.iadd, 1) := by decide +kernel
theorem d_law_233 : decode code 233 = .ok (.iaload, 1) := by decide +kernel
theorem d_law_234 : decode code 234 = .ok (.aload_n 0, 1) := by decide +kernel
theorem d_law_235 : decode code 235 = .ok (.iload_n 3, 1) := by decide +kernel
theorem d_law_236 : decode code 236 = .ok (.iconst 4, 1) := by decide +kernel
theorem d_law_237 : decode code 237 = .ok (.iadd, 1) := by decide +kernel
theorem d_law_238 : decode code 238 = .ok (.iaload, 1) := by decide +kernel
theorem d_law_239 : decode code 239 = .ok (.ifCond .eq 7, 3) := by decide +kernel
theorem d_law_242 : decode code 242 = .ok (.iconst 1, 1) := by decide +kernel
theorem d_law_243 : decode code 243 = .ok (.goto 4, 3) := by decide +kernel
theorem d_law_246 : decode code 246 = .ok (.iconst 0, 1) := by decide +kernel
theorem d_law_247 : decode code 247 = .ok (.invokevirtual 26, 3) := by decide +kernel
theorem d_law_250 : decode code 250 = .ok (.if_icmp .eq 268, 3) := by decide +kernel
theorem d_law_253 : decode code 253 = .ok (.iconst 0, 1) := by decide +kernel
theorem d_law_254 : decode code 254 = .ok (.ireturn, 1) := by decide +kernel
theorem d_law_255 : decode code 255 = .ok (.aload_n 1, 1) := by decide +kernel
theorem d_law_256 : decode code 256 = .ok (.aload_n 0, 1) := by decide +kernel
theorem d_law_257 : decode code 257 = .ok (.iload_n 3, 1) := by decide +kernel
theorem d_law_258 : decode code 258 = .ok (.iconst 1, 1) := by decide +kernel
theorem d_law_259 : decode code 259 = .ok (.iadd, 1) := by decide +kernel
theorem d_law_260 : decode code 260 = .ok (.iaload, 1) := by decide +kernel
theorem d_law_261 : decode code 261 = .ok (.aload_n 0, 1) := by decide +kernel
theorem d_law_262 : decode code 262 = .ok (.iload_n 3, 1) := by decide +kernel
theorem d_law_263 : decode code 263 = .ok (.iconst 2, 1) := by decide +kernel
theorem d_law_264 : decode code 264 = .ok (.iadd, 1) := by decide +kernel
theorem d_law_265 : decode code 265 = .ok (.iaload, 1) := by decide +kernel
theorem d_law_266 : decode code 266 = .ok (.invokevirtual 27, 3) := by decide +kernel
theorem d_law_269 : decode code 269 = .ok (.aload_n 2, 1) := by decide +kernel
theorem d_law_270 : decode code 270 = .ok (.aload_n 0, 1) := by decide +kernel
theorem d_law_271 : decode code 271 = .ok (.iload_n 3, 1) := by decide +kernel
theorem d_law_272 : decode code 272 = .ok (.iconst 1, 1) := by decide +kernel
theorem d_law_273 : decode code 273 = .ok (.iadd, 1) := by decide +kernel
theorem d_law_274 : decode code 274 = .ok (.iaload, 1) := by decide +kernel
theorem d_law_275 : decode code 275 = .ok (.aload_n 0, 1) := by decide +kernel
theorem d_law_276 : decode code 276 = .ok (.iload_n 3, 1) := by decide +kernel
theorem d_law_277 : decode code 277 = .ok (.iconst 2, 1) := by decide +kernel
theorem d_law_278 : decode code 278 = .ok (.iadd, 1) := by decide +kernel
theorem d_law_279 : decode code 279 = .ok (.iaload, 1) := by decide +kernel
theorem d_law_280 : decode code 280 = .ok (.invokevirtual 31, 3) := by decide +kernel
theorem d_law_283 : decode code 283 = .ok (.if_icmp .eq 235, 3) := by decide +kernel
theorem d_law_286 : decode code 286 = .ok (.iconst 0, 1) := by decide +kernel
theorem d_law_287 : decode code 287 = .ok (.ireturn, 1) := by decide +kernel
theorem d_law_288 : decode code 288 = .ok (.aload_n 1, 1) := by decide +kernel
theorem d_law_289 : decode code 289 = .ok (.aload_n 0, 1) := by decide +kernel
theorem d_law_290 : decode code 290 = .ok (.iload_n 3, 1) := by decide +kernel
theorem d_law_291 : decode code 291 = .ok (.iconst 1, 1) := by decide +kernel
theorem d_law_292 : decode code 292 = .ok (.iadd, 1) := by decide +kernel
theorem d_law_293 : decode code 293 = .ok (.iaload, 1) := by decide +kernel
theorem d_law_294 : decode code 294 = .ok (.aload_n 0, 1) := by decide +kernel
theorem d_law_295 : decode code 295 = .ok (.iload_n 3, 1) := by decide +kernel
theorem d_law_296 : decode code 296 = .ok (.iconst 2, 1) := by decide +kernel
theorem d_law_297 : decode code 297 = .ok (.iadd, 1) := by decide +kernel
theorem d_law_298 : decode code 298 = .ok (.iaload, 1) := by decide +kernel
theorem d_law_299 : decode code 299 = .ok (.invokevirtual 32, 3) := by decide +kernel
theorem d_law_302 : decode code 302 = .ok (.aload_n 2, 1) := by decide +kernel
theorem d_law_303 : decode code 303 = .ok (.aload_n 0, 1) := by decide +kernel
theorem d_law_304 : decode code 304 = .ok (.iload_n 3, 1) := by decide +kernel
theorem d_law_305 : decode code 305 = .ok (.iconst 1, 1) := by decide +kernel
theorem d_law_306 : decode code 306 = .ok (.iadd, 1) := by decide +kernel
theorem d_law_307 : decode code 307 = .ok (.iaload, 1) := by decide +kernel
theorem d_law_308 : decode code 308 = .ok (.aload_n 0, 1) := by decide +kernel
theorem d_law_309 : decode code 309 = .ok (.iload_n 3, 1) := by decide +kernel
theorem d_law_310 : decode code 310 = .ok (.iconst 2, 1) := by decide +kernel
theorem d_law_311 : decode code 311 = .ok (.iadd, 1) := by decide +kernel
theorem d_law_312 : decode code 312 = .ok (.iaload, 1) := by decide +kernel
theorem d_law_313 : decode code 313 = .ok (.invokevirtual 35, 3) := by decide +kernel
theorem d_law_316 : decode code 316 = .ok (.if_icmp .eq 202, 3) := by decide +kernel
theorem d_law_319 : decode code 319 = .ok (.iconst 0, 1) := by decide +kernel
theorem d_law_320 : decode code 320 = .ok (.ireturn, 1) := by decide +kernel
theorem d_law_321 : decode code 321 = .ok (.aload_n 1, 1) := by decide +kernel
theorem d_law_322 : decode code 322 = .ok (.aload_n 0, 1) := by decide +kernel
theorem d_law_323 : decode code 323 = .ok (.iload_n 3, 1) := by decide +kernel
theorem d_law_324 : decode code 324 = .ok (.iconst 1, 1) := by decide +kernel
theorem d_law_325 : decode code 325 = .ok (.iadd, 1) := by decide +kernel
theorem d_law_326 : decode code 326 = .ok (.iaload, 1) := by decide +kernel
theorem d_law_327 : decode code 327 = .ok (.invokevirtual 36, 3) := by decide +kernel
theorem d_law_330 : decode code 330 = .ok (.aload_n 2, 1) := by decide +kernel
theorem d_law_331 : decode code 331 = .ok (.aload_n 0, 1) := by decide +kernel
theorem d_law_332 : decode code 332 = .ok (.iload_n 3, 1) := by decide +kernel
theorem d_law_333 : decode code 333 = .ok (.iconst 1, 1) := by decide +kernel
theorem d_law_334 : decode code 334 = .ok (.iadd, 1) := by decide +kernel
theorem d_law_335 : decode code 335 = .ok (.iaload, 1) := by decide +kernel
theorem d_law_336 : decode code 336 = .ok (.invokevirtual 40, 3) := by decide +kernel
theorem d_law_339 : decode code 339 = .ok (.if_icmp .eq 179, 3) := by decide +kernel
theorem d_law_342 : decode code 342 = .ok (.iconst 0, 1) := by decide +kernel
theorem d_law_343 : decode code 343 = .ok (.ireturn, 1) := by decide +kernel
theorem d_law_344 : decode code 344 = .ok (.aload_n 1, 1) := by decide +kernel
theorem d_law_345 : decode code 345 = .ok (.invokevirtual 41, 3) := by decide +kernel
theorem d_law_348 : decode code 348 = .ok (.aload_n 2, 1) := by decide +kernel
theorem d_law_349 : decode code 349 = .ok (.invokevirtual 44, 3) := by decide +kernel
theorem d_law_352 : decode code 352 = .ok (.if_icmp .eq 166, 3) := by decide +kernel
theorem d_law_355 : decode code 355 = .ok (.iconst 0, 1) := by decide +kernel
theorem d_law_356 : decode code 356 = .ok (.ireturn, 1) := by decide +kernel
theorem d_law_357 : decode code 357 = .ok (.aload_n 1, 1) := by decide +kernel
theorem d_law_358 : decode code 358 = .ok (.aload_n 0, 1) := by decide +kernel
theorem d_law_359 : decode code 359 = .ok (.iload_n 3, 1) := by decide +kernel
theorem d_law_360 : decode code 360 = .ok (.iconst 1, 1) := by decide +kernel
theorem d_law_361 : decode code 361 = .ok (.iadd, 1) := by decide +kernel
theorem d_law_362 : decode code 362 = .ok (.iaload, 1) := by decide +kernel
theorem d_law_363 : decode code 363 = .ok (.aload_n 0, 1) := by decide +kernel
theorem d_law_364 : decode code 364 = .ok (.iload_n 3, 1) := by decide +kernel
theorem d_law_365 : decode code 365 = .ok (.iconst 2, 1) := by decide +kernel
theorem d_law_366 : decode code 366 = .ok (.iadd, 1) := by decide +kernel
theorem d_law_367 : decode code 367 = .ok (.iaload, 1) := by decide +kernel
theorem d_law_368 : decode code 368 = .ok (.invokevirtual 45, 3) := by decide +kernel
theorem d_law_371 : decode code 371 = .ok (.aload_n 2, 1) := by decide +kernel
theorem d_law_372 : decode code 372 = .ok (.aload_n 0, 1) := by decide +kernel
theorem d_law_373 : decode code 373 = .ok (.iload_n 3, 1) := by decide +kernel
theorem d_law_374 : decode code 374 = .ok (.iconst 1, 1) := by decide +kernel
theorem d_law_375 : decode code 375 = .ok (.iadd, 1) := by decide +kernel
theorem d_law_376 : decode code 376 = .ok (.iaload, 1) := by decide +kernel
theorem d_law_377 : decode code 377 = .ok (.aload_n 0, 1) := by decide +kernel
theorem d_law_378 : decode code 378 = .ok (.iload_n 3, 1) := by decide +kernel
theorem d_law_379 : decode code 379 = .ok (.iconst 2, 1) := by decide +kernel
theorem d_law_380 : decode code 380 = .ok (.iadd, 1) := by decide +kernel
theorem d_law_381 : decode code 381 = .ok (.iaload, 1) := by decide +kernel
theorem d_law_382 : decode code 382 = .ok (.invokevirtual 48, 3) := by decide +kernel
theorem d_law_385 : decode code 385 = .ok (.if_icmp .eq 133, 3) := by decide +kernel
theorem d_law_388 : decode code 388 = .ok (.iconst 0, 1) := by decide +kernel
theorem d_law_389 : decode code 389 = .ok (.ireturn, 1) := by decide +kernel
theorem d_law_390 : decode code 390 = .ok (.aload_n 1, 1) := by decide +kernel
theorem d_law_391 : decode code 391 = .ok (.aload_n 0, 1) := by decide +kernel
theorem d_law_392 : decode code 392 = .ok (.iload_n 3, 1) := by decide +kernel
theorem d_law_393 : decode code 393 = .ok (.iconst 1, 1) := by decide +kernel
theorem d_law_394 : decode code 394 = .ok (.iadd, 1) := by decide +kernel
theorem d_law_395 : decode code 395 = .ok (.iaload, 1) := by decide +kernel
theorem d_law_396 : decode code 396 = .ok (.invokevirtual 49, 3) := by decide +kernel
theorem d_law_399 : decode code 399 = .ok (.aload_n 2, 1) := by decide +kernel
theorem d_law_400 : decode code 400 = .ok (.aload_n 0, 1) := by decide +kernel
theorem d_law_401 : decode code 401 = .ok (.iload_n 3, 1) := by decide +kernel
theorem d_law_402 : decode code 402 = .ok (.iconst 1, 1) := by decide +kernel
theorem d_law_403 : decode code 403 = .ok (.iadd, 1) := by decide +kernel
theorem d_law_404 : decode code 404 = .ok (.iaload, 1) := by decide +kernel
theorem d_law_405 : decode code 405 = .ok (.invokevirtual 52, 3) := by decide +kernel
theorem d_law_408 : decode code 408 = .ok (.if_icmp .eq 110, 3) := by decide +kernel
theorem d_law_411 : decode code 411 = .ok (.iconst 0, 1) := by decide +kernel
theorem d_law_412 : decode code 412 = .ok (.ireturn, 1) := by decide +kernel
theorem d_law_413 : decode code 413 = .ok (.aload_n 1, 1) := by decide +kernel
theorem d_law_414 : decode code 414 = .ok (.aload_n 0, 1) := by decide +kernel
theorem d_law_415 : decode code 415 = .ok (.iload_n 3, 1) := by decide +kernel
theorem d_law_416 : decode code 416 = .ok (.iconst 1, 1) := by decide +kernel
theorem d_law_417 : decode code 417 = .ok (.iadd, 1) := by decide +kernel
theorem d_law_418 : decode code 418 = .ok (.iaload, 1) := by decide +kernel
theorem d_law_419 : decode code 419 = .ok (.invokevirtual 53, 3) := by decide +kernel
theorem d_law_422 : decode code 422 = .ok (.aload_n 2, 1) := by decide +kernel
theorem d_law_423 : decode code 423 = .ok (.aload_n 0, 1) := by decide +kernel
theorem d_law_424 : decode code 424 = .ok (.iload_n 3, 1) := by decide +kernel
theorem d_law_425 : decode code 425 = .ok (.iconst 1, 1) := by decide +kernel
theorem d_law_426 : decode code 426 = .ok (.iadd, 1) := by decide +kernel
theorem d_law_427 : decode code 427 = .ok (.iaload, 1) := by decide +kernel
theorem d_law_428 : decode code 428 = .ok (.invokevirtual 56, 3) := by decide +kernel
theorem d_law_431 : decode code 431 = .ok (.if_icmp .eq 87, 3) := by decide +kernel
theorem d_law_434 : decode code 434 = .ok (.iconst 0, 1) := by decide +kernel
theorem d_law_435 : decode code 435 = .ok (.ireturn, 1) := by decide +kernel
theorem d_law_436 : decode code 436 = .ok (.aload_n 1, 1) := by decide +kernel
theorem d_law_437 : decode code 437 = .ok (.aload_n 0, 1) := by decide +kernel
theorem d_law_438 : decode code 438 = .ok (.iload_n 3, 1) := by decide +kernel
theorem d_law_439 : decode code 439 = .ok (.iconst 1, 1) := by decide +kernel
theorem d_law_440 : decode code 440 = .ok (.iadd, 1) := by decide +kernel
theorem d_law_441 : decode code 441 = .ok (.iaload, 1) := by decide +kernel
theorem d_law_442 : decode code 442 = .ok (.invokevirtual 57, 3) := by decide +kernel
theorem d_law_445 : decode code 445 = .ok (.aload_n 2, 1) := by decide +kernel
theorem d_law_446 : decode code 446 = .ok (.aload_n 0, 1) := by decide +kernel
theorem d_law_447 : decode code 447 = .ok (.iload_n 3, 1) := by decide +kernel
theorem d_law_448 : decode code 448 = .ok (.iconst 1, 1) := by decide +kernel
theorem d_law_449 : decode code 449 = .ok (.iadd, 1) := by decide +kernel
theorem d_law_450 : decode code 450 = .ok (.iaload, 1) := by decide +kernel
theorem d_law_451 : decode code 451 = .ok (.invokevirtual 60, 3) := by decide +kernel
theorem d_law_454 : decode code 454 = .ok (.if_icmp .eq 64, 3) := by decide +kernel
theorem d_law_457 : decode code 457 = .ok (.iconst 0, 1) := by decide +kernel
theorem d_law_458 : decode code 458 = .ok (.ireturn, 1) := by decide +kernel
theorem d_law_459 : decode code 459 = .ok (.aload_n 1, 1) := by decide +kernel
theorem d_law_460 : decode code 460 = .ok (.aload_n 0, 1) := by decide +kernel
theorem d_law_461 : decode code 461 = .ok (.iload_n 3, 1) := by decide +kernel
theorem d_law_462 : decode code 462 = .ok (.iconst 1, 1) := by decide +kernel
theorem d_law_463 : decode code 463 = .ok (.iadd, 1) := by decide +kernel
theorem d_law_464 : decode code 464 = .ok (.iaload, 1) := by decide +kernel
theorem d_law_465 : decode code 465 = .ok (.aload_n 0, 1) := by decide +kernel
theorem d_law_466 : decode code 466 = .ok (.iload_n 3, 1) := by decide +kernel
theorem d_law_467 : decode code 467 = .ok (.iconst 2, 1) := by decide +kernel
theorem d_law_468 : decode code 468 = .ok (.iadd, 1) := by decide +kernel
theorem d_law_469 : decode code 469 = .ok (.iaload, 1) := by decide +kernel
theorem d_law_470 : decode code 470 = .ok (.invokevirtual 61, 3) := by decide +kernel
theorem d_law_473 : decode code 473 = .ok (.aload_n 2, 1) := by decide +kernel
theorem d_law_474 : decode code 474 = .ok (.aload_n 0, 1) := by decide +kernel
theorem d_law_475 : decode code 475 = .ok (.iload_n 3, 1) := by decide +kernel
theorem d_law_476 : decode code 476 = .ok (.iconst 1, 1) := by decide +kernel
theorem d_law_477 : decode code 477 = .ok (.iadd, 1) := by decide +kernel
theorem d_law_478 : decode code 478 = .ok (.iaload, 1) := by decide +kernel
theorem d_law_479 : decode code 479 = .ok (.aload_n 0, 1) := by decide +kernel
theorem d_law_480 : decode code 480 = .ok (.iload_n 3, 1) := by decide +kernel
theorem d_law_481 : decode code 481 = .ok (.iconst 2, 1) := by decide +kernel
theorem d_law_482 : decode code 482 = .ok (.iadd, 1) := by decide +kernel
theorem d_law_483 : decode code 483 = .ok (.iaload, 1) := by decide +kernel
theorem d_law_484 : decode code 484 = .ok (.invokevirtual 64, 3) := by decide +kernel
theorem d_law_487 : decode code 487 = .ok (.if_icmp .eq 31, 3) := by decide +kernel
theorem d_law_490 : decode code 490 = .ok (.iconst 0, 1) := by decide +kernel
theorem d_law_491 : decode code 491 = .ok (.ireturn, 1) := by decide +kernel
theorem d_law_492 : decode code 492 = .ok (.aload_n 1, 1) := by decide +kernel
theorem d_law_493 : decode code 493 = .ok (.invokevirtual 65, 3) := by decide +kernel
theorem d_law_496 : decode code 496 = .ok (.aload_n 2, 1) := by decide +kernel
theorem d_law_497 : decode code 497 = .ok (.invokevirtual 68, 3) := by decide +kernel
theorem d_law_500 : decode code 500 = .ok (.if_icmp .eq 18, 3) := by decide +kernel
theorem d_law_503 : decode code 503 = .ok (.iconst 0, 1) := by decide +kernel
theorem d_law_504 : decode code 504 = .ok (.ireturn, 1) := by decide +kernel
theorem d_law_505 : decode code 505 = .ok (.aload_n 1, 1) := by decide +kernel
theorem d_law_506 : decode code 506 = .ok (.invokevirtual 69, 3) := by decide +kernel
theorem d_law_509 : decode code 509 = .ok (.aload_n 2, 1) := by decide +kernel
theorem d_law_510 : decode code 510 = .ok (.invokevirtual 72, 3) := by decide +kernel
theorem d_law_513 : decode code 513 = .ok (.if_icmp .eq 5, 3) := by decide +kernel
theorem d_law_516 : decode code 516 = .ok (.iconst 0, 1) := by decide +kernel
theorem d_law_517 : decode code 517 = .ok (.ireturn, 1) := by decide +kernel
theorem d_law_518 : decode code 518 = .ok (.iinc 3 5, 3) := by decide +kernel
theorem d_law_521 : decode code 521 = .ok (.goto (-503), 3) := by decide +kernel
theorem d_law_524 : decode code 524 = .ok (.iconst 1, 1) := by decide +kernel
theorem d_law_525 : decode code 525 = .ok (.ireturn, 1) := by decide +kernel
end
section
-- the judgement over pure configurations: what the heap is, which locals are held, which values stand on the stack
abbrev mD : Type := MethodName × ByteArray × Nat × Option FieldType × Room
def wd (μ : mD) : List Cond := Cond.code μ.1 μ.2.1 μ.2.2.1 μ.2.2.2.1 :: gw
abbrev classes : List vw_C := [(R_X, F_X, 24), (R_G, F_G, 6), (R_M, F_M, 25)]
abbrev eE : Type := va_G × ClassId × ClassId × ClassId × ClassId
def eT (E : eE) : List (ClassId × FieldType) := [(E.2.1, .int), (E.2.2.1, .byte), (E.2.2.2.1, .boolean), (E.2.2.2.2, .object R_G)]
def nw : List Cond := [.fieldLinkNest "HyphenRows" 74 "HyphenRows$Language" "letters" "[B" "HyphenRows", .fieldLinkNest "HyphenRows" 77 "HyphenRows$Language" "capitals" "[Z" "HyphenRows", .fieldLinkNest "HyphenRows" 81 "HyphenRows$Language" "left" "I" "HyphenRows", .fieldLinkNest "HyphenRows" 84 "HyphenRows$Language" "right" "I" "HyphenRows", .fieldLinkNest "HyphenRows" 87 "HyphenRows$Language" "whole" "Z" "HyphenRows", .fieldLinkNest "HyphenRows" 97 "HyphenRows$Language" "root" "I" "HyphenRows", .methodLinkNest "HyphenRows" 66 y_G_init "HyphenRows"]
theorem nw_on : ∀ w ∈ nw, w.onTables = true := by decide +kernel
theorem nw_in : ∀ w ∈ nw, w ∈ lw_tbl := by decide +kernel
/-- what a state's tables say: classes, array classes, nest links -/
def eK (E : eE) (U : State) : Prop := va_K E.1 classes (eT E) U ∧ (∀ w ∈ nw, va_Nw w U) ∧ va_AO R_G U
theorem eK_warm {E : eE} {s U : State} (hW : s.WarmedH U.vm) (h : eK E s) : eK E U := by
  obtain ⟨h1, h2, h3⟩ := h
  refine ⟨va_K.moved hW.alike h1, fun w hw => ?_, va_AO.moved hW.alike h3⟩
  have hq := h2 w hw
  simp only [nw, List.mem_cons, List.not_mem_nil, or_false] at hw
  rcases hw with rfl | rfl | rfl | rfl | rfl | rfl | rfl
  · exact va_Nw.warmF hW hq
  · exact va_Nw.warmF hW hq
  · exact va_Nw.warmF hW hq
  · exact va_Nw.warmF hW hq
  · exact va_Nw.warmF hW hq
  · exact va_Nw.warmF hW hq
  · exact va_Nw.warmM hW hq
theorem eK_call {E : eE} {U : State} (g : JFrame) (mk : MethodId) (a : Array Value) (h : eK E U) : eK E (U.calling g mk a) :=
  ⟨va_K.moved (u := U) (U := U.calling g mk a) (Vm.Alike.refl U.vm) h.1, fun w hw => va_Nw.same (u := U) (U := U.calling g mk a) (nw_on w hw) rfl (h.2.1 w hw), va_AO.moved (u := U) (U := U.calling g mk a) (Vm.Alike.refl U.vm) h.2.2⟩
abbrev cZ : Type := Program × Launch × Env × Room × State × MethodId × Array Value × List Frame × Method × Code × (Nat → Prop) × Nat × Nat × Nat × (State → Prop)
def hs (ls : Array Slot) (nL : Nat) (L : List (Nat × Value)) : Prop := lv_has ls nL L ∧ ∀ q ∈ L, q.2.category = 1
def Wg (Z : cZ) (P : Heap → Prop) (pc : Nat) (L : List (Nat × Value)) (st : List Value) : Prop := match Z with
  | (p, l, e, R, s, m, args, below, meth, c, A, nL, cells, slots, Q) => ∀ (H : Heap) (locs : List Loc) (ls : Array Slot), P H → va_S A s.heap H locs → hs ls nL L → W p l e R s m args below meth c H locs cells slots Q (F0 m pc ls st)
/-- what holds throughout a method's body -/
def CG (Z : cZ) (E : eE) (μ : mD) (A : Nat → Prop) : Prop := match Z with
  | (p, _l, _e, R, s, m, args, _below, meth, c, A0, nL, cells, slots, _Q) => p.tables.exec = Jvm.exec ∧ c.code = μ.2.1 ∧ c.maxLocals = nL ∧ nL = μ.2.2.1 ∧ s.vm.findClass μ.1.cls = some m.cls ∧ (∀ w ∈ gw, w.before args s = true) ∧ eK E s ∧ R = μ.2.2.2.2 ∧ A0 = A ∧ meth.sig.returnType = μ.2.2.2.1 ∧ meth.locks = false ∧ cells ≤ R.cells ∧ slots ≤ R.slots
def lk : List (Nat × Value) → Nat → Option Value
  | [], _ => none
  | (j, v) :: t, i => bif Nat.beq j i then some v else lk t i
def rmL : List (Nat × Value) → Nat → List (Nat × Value)
  | [], _ => []
  | (j, v) :: t, i => bif Nat.beq j i then rmL t i else (j, v) :: rmL t i
def putL : List (Nat × Value) → Nat → Value → List (Nat × Value)
  | [], i, v => [(i, v)]
  | (j, w) :: t, i, v => bif Nat.beq j i then (i, v) :: rmL t i else (j, w) :: putL t i v
theorem lk_mem : ∀ {L : List (Nat × Value)} {i : Nat} {v : Value}, lk L i = some v → (i, v) ∈ L
  | [], i, v, h => by simp [lk] at h
  | (j, w) :: t, i, v, h => by
    by_cases hj : Nat.beq j i = true
    · have := Nat.eq_of_beq_eq_true hj
      subst this
      simp [lk] at h
      subst h
      exact List.mem_cons_self
    · have hj' : Nat.beq j i = false := (Bool.not_eq_true _).mp hj
      simp only [lk, hj', cond_false] at h
      exact List.mem_cons_of_mem _ (lk_mem h)
theorem rmL_mem : ∀ {L : List (Nat × Value)} {i : Nat} {q : Nat × Value}, q ∈ rmL L i → q ∈ L ∧ q.1 ≠ i
  | [], i, q, h => by simp [rmL] at h
  | (j, w) :: t, i, q, h => by
    by_cases hj : Nat.beq j i = true
    · simp only [rmL, hj, cond_true] at h
      obtain ⟨h1, h2⟩ := rmL_mem h
      exact ⟨List.mem_cons_of_mem _ h1, h2⟩
    · have hj' : Nat.beq j i = false := (Bool.not_eq_true _).mp hj
      simp only [rmL, hj', cond_false] at h
      rcases List.mem_cons.mp h with rfl | h
      · exact ⟨List.mem_cons_self, fun e => hj (by rw [← e]; exact Nat.beq_refl _)⟩
      · obtain ⟨h1, h2⟩ := rmL_mem h
        exact ⟨List.mem_cons_of_mem _ h1, h2⟩
theorem putL_mem : ∀ {L : List (Nat × Value)} {i : Nat} {v : Value} {q : Nat × Value}, q ∈ putL L i v → q = (i, v) ∨ (q ∈ L ∧ q.1 ≠ i)
  | [], i, v, q, h => by simp [putL] at h; exact Or.inl h
  | (j, w) :: t, i, v, q, h => by
    by_cases hj : Nat.beq j i = true
    · simp only [putL, hj, cond_true] at h
      rcases List.mem_cons.mp h with h | h
      · exact Or.inl h
      · obtain ⟨h1, h2⟩ := rmL_mem h
        exact Or.inr ⟨List.mem_cons_of_mem _ h1, h2⟩
    · have hj' : Nat.beq j i = false := (Bool.not_eq_true _).mp hj
      simp only [putL, hj', cond_false] at h
      rcases List.mem_cons.mp h with rfl | h
      · exact Or.inr ⟨List.mem_cons_self, fun e => hj (by rw [← e]; exact Nat.beq_refl _)⟩
      · rcases putL_mem h with h | ⟨h1, h2⟩
        · exact Or.inl h
        · exact Or.inr ⟨List.mem_cons_of_mem _ h1, h2⟩
theorem hs_store {ls : Array Slot} {nL : Nat} {L : List (Nat × Value)} {i : Nat} {v : Value} (h : lv_has ls nL ((i, v) :: L.filter (fun q => !(q.1 == i) && !(q.1 + 1 == i && q.2.category == 2)))) (hL : ∀ q ∈ L, q.2.category = 1) (hv : v.category = 1) : hs ls nL (putL L i v) := by
  refine ⟨⟨h.1, h.2.1, fun q hq => ?_⟩, fun q hq => ?_⟩
  · rcases putL_mem hq with rfl | ⟨h1, h2⟩
    · exact h.2.2 _ List.mem_cons_self
    · refine h.2.2 q (List.mem_cons_of_mem _ (List.mem_filter.mpr ⟨h1, ?_⟩))
      have h3 := hL q h1
      simp [h2, h3]
  · rcases putL_mem hq with rfl | ⟨h1, h2⟩
    · exact hv
    · exact hL q h1
theorem hs_get {ls : Array Slot} {nL : Nat} {L : List (Nat × Value)} {i : Nat} {v : Value} (h : hs ls nL L) (hl : lk L i = some v) : ls[i]? = some (.val v) := h.1.2.2 _ (lk_mem hl)
theorem vI {P : Heap → Prop} : ∀ H, P H → P H := fun _ h => h
section Rows
variable {Z : cZ} {E : eE} {μ : mD} {A : Nat → Prop} {P : Heap → Prop} {pc : Nat} {L : List (Nat × Value)} {st : List Value}
/-- fewer locals -/
theorem Wg.pick {L' : List (Nat × Value)} (ks : List Nat) (hl : lv_pick L ks = L') (k : Wg Z P pc L' st) : Wg Z P pc L st := by
  obtain ⟨p, l, e, R, s, m, args, below, meth, c, A0, nL, cells, slots, Q⟩ := Z
  intro H locs ls hP hS hl'
  refine k H locs ls hP hS ⟨lv_sub hl'.1 ks hl, fun q hq => ?_⟩
  rw [← hl] at hq
  obtain ⟨j, -, hj⟩ := List.mem_filterMap.mp hq
  exact hl'.2 q (List.mem_of_getElem? hj)
/-- a weaker picture -/
theorem Wg.mono {P' : Heap → Prop} (hP' : ∀ H, P H → P' H) (k : Wg Z P' pc L st) : Wg Z P pc L st := by
  obtain ⟨p, l, e, R, s, m, args, below, meth, c, A0, nL, cells, slots, Q⟩ := Z
  intro H locs ls hP hS hl
  exact k H locs ls (hP' H hP) hS hl
/-- the value on top gets a name -/
theorem r_top {x : Int32} (k : ∀ y : Int32, y = x → Wg Z P pc L (.int y :: st)) : Wg Z P pc L (.int x :: st) := k x rfl
/-- ... or another form -/
theorem r_tope {x : Int32} (y : Int32) (h : x = y) (k : Wg Z P pc L (.int y :: st)) : Wg Z P pc L (.int x :: st) := by rw [h]; exact k
theorem r_iconst {n : Int} {v : Int32} (C : CG Z E μ A) (hd : decode μ.2.1 pc = .ok (.iconst n, 1)) (hv : Int32.ofInt n = v) (k : Wg Z P (pc + 1) L (.int v :: st)) : Wg Z P pc L st := by
  obtain ⟨p, l, e, R, s, m, args, below, meth, c, A0, nL, cells, slots, Q⟩ := Z
  obtain ⟨hx, hb, hml, hnL, hown, hts, hK, hR, hA, hr, hlk, hc1, hc2⟩ := C
  intro H locs ls hP hS hl
  exact lv_iconst hx hb hd hv (k H locs ls hP hS hl)
theorem r_bipush {n : Int} {v : Int32} (C : CG Z E μ A) (hd : decode μ.2.1 pc = .ok (.bipush n, 2)) (hv : (Int8.ofInt n).toInt32 = v) (k : Wg Z P (pc + 2) L (.int v :: st)) : Wg Z P pc L st := by
  obtain ⟨p, l, e, R, s, m, args, below, meth, c, A0, nL, cells, slots, Q⟩ := Z
  obtain ⟨hx, hb, hml, hnL, hown, hts, hK, hR, hA, hr, hlk, hc1, hc2⟩ := C
  intro H locs ls hP hS hl
  exact lv_bipush hx hb hd hv (k H locs ls hP hS hl)
theorem r_sipush {n : Int} {v : Int32} (C : CG Z E μ A) (hd : decode μ.2.1 pc = .ok (.sipush n, 3)) (hv : (Int16.ofInt n).toInt32 = v) (k : Wg Z P (pc + 3) L (.int v :: st)) : Wg Z P pc L st := by
  obtain ⟨p, l, e, R, s, m, args, below, meth, c, A0, nL, cells, slots, Q⟩ := Z
  obtain ⟨hx, hb, hml, hnL, hown, hts, hK, hR, hA, hr, hlk, hc1, hc2⟩ := C
  intro H locs ls hP hS hl
  exact lv_sipush hx hb hd hv (k H locs ls hP hS hl)
theorem r_iload_n {i : Fin 4} {x : Int32} (C : CG Z E μ A) (hd : decode μ.2.1 pc = .ok (.iload_n i, 1)) (h : lk L (i : Nat) = some (.int x)) (k : Wg Z P (pc + 1) L (.int x :: st)) : Wg Z P pc L st := by
  obtain ⟨p, l, e, R, s, m, args, below, meth, c, A0, nL, cells, slots, Q⟩ := Z
  obtain ⟨hx, hb, hml, hnL, hown, hts, hK, hR, hA, hr, hlk, hc1, hc2⟩ := C
  intro H locs ls hP hS hl
  exact lv_iload_n hx hb hd rfl (hs_get hl h) (k H locs ls hP hS hl)
theorem r_iload {i : Nat} {x : Int32} (C : CG Z E μ A) (hd : decode μ.2.1 pc = .ok (.iload i, 2)) (h : lk L i = some (.int x)) (k : Wg Z P (pc + 2) L (.int x :: st)) : Wg Z P pc L st := by
  obtain ⟨p, l, e, R, s, m, args, below, meth, c, A0, nL, cells, slots, Q⟩ := Z
  obtain ⟨hx, hb, hml, hnL, hown, hts, hK, hR, hA, hr, hlk, hc1, hc2⟩ := C
  intro H locs ls hP hS hl
  exact lv_iload hx hb hd (hs_get hl h) (k H locs ls hP hS hl)
theorem r_aload_n {i : Fin 4} {x : Nat} (C : CG Z E μ A) (hd : decode μ.2.1 pc = .ok (.aload_n i, 1)) (h : lk L (i : Nat) = some (.ref x)) (k : Wg Z P (pc + 1) L (.ref x :: st)) : Wg Z P pc L st := by
  obtain ⟨p, l, e, R, s, m, args, below, meth, c, A0, nL, cells, slots, Q⟩ := Z
  obtain ⟨hx, hb, hml, hnL, hown, hts, hK, hR, hA, hr, hlk, hc1, hc2⟩ := C
  intro H locs ls hP hS hl
  exact lv_aload_n hx hb hd rfl (hs_get hl h) (k H locs ls hP hS hl)
theorem r_aload {i : Nat} {x : Nat} (C : CG Z E μ A) (hd : decode μ.2.1 pc = .ok (.aload i, 2)) (h : lk L i = some (.ref x)) (k : Wg Z P (pc + 2) L (.ref x :: st)) : Wg Z P pc L st := by
  obtain ⟨p, l, e, R, s, m, args, below, meth, c, A0, nL, cells, slots, Q⟩ := Z
  obtain ⟨hx, hb, hml, hnL, hown, hts, hK, hR, hA, hr, hlk, hc1, hc2⟩ := C
  intro H locs ls hP hS hl
  exact lv_aload hx hb hd (hs_get hl h) (k H locs ls hP hS hl)
theorem r_istore_n {i : Fin 4} {x : Int32} {L' : List (Nat × Value)} (C : CG Z E μ A) (hd : decode μ.2.1 pc = .ok (.istore_n i, 1)) (hi : (i : Nat) < μ.2.2.1) (hL : putL L (i : Nat) (.int x) = L') (k : Wg Z P (pc + 1) L' st) : Wg Z P pc L (.int x :: st) := by
  obtain ⟨p, l, e, R, s, m, args, below, meth, c, A0, nL, cells, slots, Q⟩ := Z
  obtain ⟨hx, hb, hml, hnL, hown, hts, hK, hR, hA, hr, hlk, hc1, hc2⟩ := C
  intro H locs ls hP hS hl
  subst hL
  exact lv_istore_n hx hb hd rfl hl.1 (by rw [hnL]; exact hi) rfl (fun ls' hl' => k H locs ls' hP hS (hs_store hl' hl.2 rfl))
theorem r_istore {i : Nat} {x : Int32} {L' : List (Nat × Value)} (C : CG Z E μ A) (hd : decode μ.2.1 pc = .ok (.istore i, 2)) (hi : i < μ.2.2.1) (hL : putL L i (.int x) = L') (k : Wg Z P (pc + 2) L' st) : Wg Z P pc L (.int x :: st) := by
  obtain ⟨p, l, e, R, s, m, args, below, meth, c, A0, nL, cells, slots, Q⟩ := Z
  obtain ⟨hx, hb, hml, hnL, hown, hts, hK, hR, hA, hr, hlk, hc1, hc2⟩ := C
  intro H locs ls hP hS hl
  subst hL
  exact lv_istore hx hb hd hl.1 (by rw [hnL]; exact hi) rfl (fun ls' hl' => k H locs ls' hP hS (hs_store hl' hl.2 rfl))
theorem r_astore_n {i : Fin 4} {x : Nat} {L' : List (Nat × Value)} (C : CG Z E μ A) (hd : decode μ.2.1 pc = .ok (.astore_n i, 1)) (hi : (i : Nat) < μ.2.2.1) (hL : putL L (i : Nat) (.ref x) = L') (k : Wg Z P (pc + 1) L' st) : Wg Z P pc L (.ref x :: st) := by
  obtain ⟨p, l, e, R, s, m, args, below, meth, c, A0, nL, cells, slots, Q⟩ := Z
  obtain ⟨hx, hb, hml, hnL, hown, hts, hK, hR, hA, hr, hlk, hc1, hc2⟩ := C
  intro H locs ls hP hS hl
  subst hL
  exact lv_astore_n hx hb hd rfl hl.1 (by rw [hnL]; exact hi) rfl (fun ls' hl' => k H locs ls' hP hS (hs_store hl' hl.2 rfl))
theorem r_astore {i : Nat} {x : Nat} {L' : List (Nat × Value)} (C : CG Z E μ A) (hd : decode μ.2.1 pc = .ok (.astore i, 2)) (hi : i < μ.2.2.1) (hL : putL L i (.ref x) = L') (k : Wg Z P (pc + 2) L' st) : Wg Z P pc L (.ref x :: st) := by
  obtain ⟨p, l, e, R, s, m, args, below, meth, c, A0, nL, cells, slots, Q⟩ := Z
  obtain ⟨hx, hb, hml, hnL, hown, hts, hK, hR, hA, hr, hlk, hc1, hc2⟩ := C
  intro H locs ls hP hS hl
  subst hL
  exact lv_astore hx hb hd hl.1 (by rw [hnL]; exact hi) rfl (fun ls' hl' => k H locs ls' hP hS (hs_store hl' hl.2 rfl))
theorem r_iinc {i : Nat} {n : Int} {x v : Int32} {L' : List (Nat × Value)} (C : CG Z E μ A) (hd : decode μ.2.1 pc = .ok (.iinc i n, 3)) (h : lk L i = some (.int x)) (hv : x + Int32.ofInt n = v) (hi : i < μ.2.2.1) (hL : putL L i (.int v) = L') (k : Wg Z P (pc + 3) L' st) : Wg Z P pc L st := by
  obtain ⟨p, l, e, R, s, m, args, below, meth, c, A0, nL, cells, slots, Q⟩ := Z
  obtain ⟨hx, hb, hml, hnL, hown, hts, hK, hR, hA, hr, hlk, hc1, hc2⟩ := C
  intro H locs ls hP hS hl
  subst hL
  obtain ⟨j, hj⟩ := List.getElem?_of_mem (lk_mem h)
  exact lv_iinc hx hb hd hl.1 hj hv (by rw [hnL]; exact hi) rfl (fun ls' hl' => k H locs ls' hP hS (hs_store hl' hl.2 rfl))
theorem r_iadd {x y : Int32} (C : CG Z E μ A) (hd : decode μ.2.1 pc = .ok (.iadd, 1)) (k : Wg Z P (pc + 1) L (.int (x + y) :: st)) : Wg Z P pc L (.int y :: .int x :: st) := by
  obtain ⟨p, l, e, R, s, m, args, below, meth, c, A0, nL, cells, slots, Q⟩ := Z
  obtain ⟨hx, hb, hml, hnL, hown, hts, hK, hR, hA, hr, hlk, hc1, hc2⟩ := C
  intro H locs ls hP hS hl
  exact lv_iadd hx hb hd (k H locs ls hP hS hl)
theorem r_isub {x y : Int32} (C : CG Z E μ A) (hd : decode μ.2.1 pc = .ok (.isub, 1)) (k : Wg Z P (pc + 1) L (.int (x - y) :: st)) : Wg Z P pc L (.int y :: .int x :: st) := by
  obtain ⟨p, l, e, R, s, m, args, below, meth, c, A0, nL, cells, slots, Q⟩ := Z
  obtain ⟨hx, hb, hml, hnL, hown, hts, hK, hR, hA, hr, hlk, hc1, hc2⟩ := C
  intro H locs ls hP hS hl
  exact lv_isub hx hb hd (k H locs ls hP hS hl)
theorem r_imul {x y : Int32} (C : CG Z E μ A) (hd : decode μ.2.1 pc = .ok (.imul, 1)) (k : Wg Z P (pc + 1) L (.int (x * y) :: st)) : Wg Z P pc L (.int y :: .int x :: st) := by
  obtain ⟨p, l, e, R, s, m, args, below, meth, c, A0, nL, cells, slots, Q⟩ := Z
  obtain ⟨hx, hb, hml, hnL, hown, hts, hK, hR, hA, hr, hlk, hc1, hc2⟩ := C
  intro H locs ls hP hS hl
  exact lv_imul hx hb hd (k H locs ls hP hS hl)
theorem r_iand {x y : Int32} (C : CG Z E μ A) (hd : decode μ.2.1 pc = .ok (.iand, 1)) (k : Wg Z P (pc + 1) L (.int (x &&& y) :: st)) : Wg Z P pc L (.int y :: .int x :: st) := by
  obtain ⟨p, l, e, R, s, m, args, below, meth, c, A0, nL, cells, slots, Q⟩ := Z
  obtain ⟨hx, hb, hml, hnL, hown, hts, hK, hR, hA, hr, hlk, hc1, hc2⟩ := C
  intro H locs ls hP hS hl
  exact lv_iand hx hb hd (k H locs ls hP hS hl)
theorem r_ishr {x y : Int32} (C : CG Z E μ A) (hd : decode μ.2.1 pc = .ok (.ishr, 1)) (k : Wg Z P (pc + 1) L (.int (x >>> (y &&& 31)) :: st)) : Wg Z P pc L (.int y :: .int x :: st) := by
  obtain ⟨p, l, e, R, s, m, args, below, meth, c, A0, nL, cells, slots, Q⟩ := Z
  obtain ⟨hx, hb, hml, hnL, hown, hts, hK, hR, hA, hr, hlk, hc1, hc2⟩ := C
  intro H locs ls hP hS hl
  exact lv_ishr hx hb hd (k H locs ls hP hS hl)
theorem r_irem {x y : Int32} (C : CG Z E μ A) (hd : decode μ.2.1 pc = .ok (.irem, 1)) (hy : ¬ y = 0) (k : Wg Z P (pc + 1) L (.int (x - x / y * y) :: st)) : Wg Z P pc L (.int y :: .int x :: st) := by
  obtain ⟨p, l, e, R, s, m, args, below, meth, c, A0, nL, cells, slots, Q⟩ := Z
  obtain ⟨hx, hb, hml, hnL, hown, hts, hK, hR, hA, hr, hlk, hc1, hc2⟩ := C
  intro H locs ls hP hS hl
  exact lv_irem hx hb hd hy (k H locs ls hP hS hl)
theorem r_i2b {x v : Int32} (C : CG Z E μ A) (hd : decode μ.2.1 pc = .ok (.i2b, 1)) (hv : x.toInt8.toInt32 = v) (k : Wg Z P (pc + 1) L (.int v :: st)) : Wg Z P pc L (.int x :: st) := by
  obtain ⟨p, l, e, R, s, m, args, below, meth, c, A0, nL, cells, slots, Q⟩ := Z
  obtain ⟨hx, hb, hml, hnL, hown, hts, hK, hR, hA, hr, hlk, hc1, hc2⟩ := C
  intro H locs ls hP hS hl
  exact lv_i2b hx hb hd hv (k H locs ls hP hS hl)
theorem r_dup {v : Value} (C : CG Z E μ A) (hd : decode μ.2.1 pc = .ok (.dup, 1)) (hv : v.category = 1) (k : Wg Z P (pc + 1) L (v :: v :: st)) : Wg Z P pc L (v :: st) := by
  obtain ⟨p, l, e, R, s, m, args, below, meth, c, A0, nL, cells, slots, Q⟩ := Z
  obtain ⟨hx, hb, hml, hnL, hown, hts, hK, hR, hA, hr, hlk, hc1, hc2⟩ := C
  intro H locs ls hP hS hl
  exact lv_dup hx hb hd hv (k H locs ls hP hS hl)
theorem r_goto {off : Int} {tgt : Nat} (C : CG Z E μ A) (hd : decode μ.2.1 pc = .ok (.goto off, 3)) (ht : (pc : Int) + off = (tgt : Int)) (k : Wg Z P tgt L st) : Wg Z P pc L st := by
  obtain ⟨p, l, e, R, s, m, args, below, meth, c, A0, nL, cells, slots, Q⟩ := Z
  obtain ⟨hx, hb, hml, hnL, hown, hts, hK, hR, hA, hr, hlk, hc1, hc2⟩ := C
  intro H locs ls hP hS hl
  exact lv_goto hx hb hd ht (k H locs ls hP hS hl)
theorem r_if_eq {x : Int32} {off : Int} {tgt : Nat} (C : CG Z E μ A) (hd : decode μ.2.1 pc = .ok (.ifCond .eq off, 3)) (ht : (pc : Int) + off = (tgt : Int)) (kt : x = 0 → Wg Z P tgt L st) (kf : ¬ x = 0 → Wg Z P (pc + 3) L st) : Wg Z P pc L (.int x :: st) := by
  obtain ⟨p, l, e, R, s, m, args, below, meth, c, A0, nL, cells, slots, Q⟩ := Z
  obtain ⟨hx, hb, hml, hnL, hown, hts, hK, hR, hA, hr, hlk, hc1, hc2⟩ := C
  intro H locs ls hP hS hl
  exact lv_if_eq hx hb hd ht (fun h => kt h H locs ls hP hS hl) (fun h => kf h H locs ls hP hS hl)
theorem r_if_ne {x : Int32} {off : Int} {tgt : Nat} (C : CG Z E μ A) (hd : decode μ.2.1 pc = .ok (.ifCond .ne off, 3)) (ht : (pc : Int) + off = (tgt : Int)) (kt : ¬ x = 0 → Wg Z P tgt L st) (kf : x = 0 → Wg Z P (pc + 3) L st) : Wg Z P pc L (.int x :: st) := by
  obtain ⟨p, l, e, R, s, m, args, below, meth, c, A0, nL, cells, slots, Q⟩ := Z
  obtain ⟨hx, hb, hml, hnL, hown, hts, hK, hR, hA, hr, hlk, hc1, hc2⟩ := C
  intro H locs ls hP hS hl
  exact lv_if_ne hx hb hd ht (fun h => kt h H locs ls hP hS hl) (fun h => kf h H locs ls hP hS hl)
theorem r_if_lt {x : Int32} {off : Int} {tgt : Nat} (C : CG Z E μ A) (hd : decode μ.2.1 pc = .ok (.ifCond .lt off, 3)) (ht : (pc : Int) + off = (tgt : Int)) (kt : x < 0 → Wg Z P tgt L st) (kf : ¬ x < 0 → Wg Z P (pc + 3) L st) : Wg Z P pc L (.int x :: st) := by
  obtain ⟨p, l, e, R, s, m, args, below, meth, c, A0, nL, cells, slots, Q⟩ := Z
  obtain ⟨hx, hb, hml, hnL, hown, hts, hK, hR, hA, hr, hlk, hc1, hc2⟩ := C
  intro H locs ls hP hS hl
  exact lv_if_lt hx hb hd ht (fun h => kt h H locs ls hP hS hl) (fun h => kf h H locs ls hP hS hl)
theorem r_if_ge {x : Int32} {off : Int} {tgt : Nat} (C : CG Z E μ A) (hd : decode μ.2.1 pc = .ok (.ifCond .ge off, 3)) (ht : (pc : Int) + off = (tgt : Int)) (kt : 0 ≤ x → Wg Z P tgt L st) (kf : ¬ 0 ≤ x → Wg Z P (pc + 3) L st) : Wg Z P pc L (.int x :: st) := by
  obtain ⟨p, l, e, R, s, m, args, below, meth, c, A0, nL, cells, slots, Q⟩ := Z
  obtain ⟨hx, hb, hml, hnL, hown, hts, hK, hR, hA, hr, hlk, hc1, hc2⟩ := C
  intro H locs ls hP hS hl
  exact lv_if_ge hx hb hd ht (fun h => kt h H locs ls hP hS hl) (fun h => kf h H locs ls hP hS hl)
theorem r_if_gt {x : Int32} {off : Int} {tgt : Nat} (C : CG Z E μ A) (hd : decode μ.2.1 pc = .ok (.ifCond .gt off, 3)) (ht : (pc : Int) + off = (tgt : Int)) (kt : 0 < x → Wg Z P tgt L st) (kf : ¬ 0 < x → Wg Z P (pc + 3) L st) : Wg Z P pc L (.int x :: st) := by
  obtain ⟨p, l, e, R, s, m, args, below, meth, c, A0, nL, cells, slots, Q⟩ := Z
  obtain ⟨hx, hb, hml, hnL, hown, hts, hK, hR, hA, hr, hlk, hc1, hc2⟩ := C
  intro H locs ls hP hS hl
  exact lv_if_gt hx hb hd ht (fun h => kt h H locs ls hP hS hl) (fun h => kf h H locs ls hP hS hl)
theorem r_if_le {x : Int32} {off : Int} {tgt : Nat} (C : CG Z E μ A) (hd : decode μ.2.1 pc = .ok (.ifCond .le off, 3)) (ht : (pc : Int) + off = (tgt : Int)) (kt : x ≤ 0 → Wg Z P tgt L st) (kf : ¬ x ≤ 0 → Wg Z P (pc + 3) L st) : Wg Z P pc L (.int x :: st) := by
  obtain ⟨p, l, e, R, s, m, args, below, meth, c, A0, nL, cells, slots, Q⟩ := Z
  obtain ⟨hx, hb, hml, hnL, hown, hts, hK, hR, hA, hr, hlk, hc1, hc2⟩ := C
  intro H locs ls hP hS hl
  exact lv_if_le hx hb hd ht (fun h => kt h H locs ls hP hS hl) (fun h => kf h H locs ls hP hS hl)
theorem r_icmp_eq {x y : Int32} {off : Int} {tgt : Nat} (C : CG Z E μ A) (hd : decode μ.2.1 pc = .ok (.if_icmp .eq off, 3)) (ht : (pc : Int) + off = (tgt : Int)) (kt : x = y → Wg Z P tgt L st) (kf : ¬ x = y → Wg Z P (pc + 3) L st) : Wg Z P pc L (.int y :: .int x :: st) := by
  obtain ⟨p, l, e, R, s, m, args, below, meth, c, A0, nL, cells, slots, Q⟩ := Z
  obtain ⟨hx, hb, hml, hnL, hown, hts, hK, hR, hA, hr, hlk, hc1, hc2⟩ := C
  intro H locs ls hP hS hl
  exact lv_icmp_eq hx hb hd ht (fun h => kt h H locs ls hP hS hl) (fun h => kf h H locs ls hP hS hl)
theorem r_icmp_ne {x y : Int32} {off : Int} {tgt : Nat} (C : CG Z E μ A) (hd : decode μ.2.1 pc = .ok (.if_icmp .ne off, 3)) (ht : (pc : Int) + off = (tgt : Int)) (kt : ¬ x = y → Wg Z P tgt L st) (kf : x = y → Wg Z P (pc + 3) L st) : Wg Z P pc L (.int y :: .int x :: st) := by
  obtain ⟨p, l, e, R, s, m, args, below, meth, c, A0, nL, cells, slots, Q⟩ := Z
  obtain ⟨hx, hb, hml, hnL, hown, hts, hK, hR, hA, hr, hlk, hc1, hc2⟩ := C
  intro H locs ls hP hS hl
  exact lv_icmp_ne hx hb hd ht (fun h => kt h H locs ls hP hS hl) (fun h => kf h H locs ls hP hS hl)
theorem r_icmp_lt {x y : Int32} {off : Int} {tgt : Nat} (C : CG Z E μ A) (hd : decode μ.2.1 pc = .ok (.if_icmp .lt off, 3)) (ht : (pc : Int) + off = (tgt : Int)) (kt : x < y → Wg Z P tgt L st) (kf : ¬ x < y → Wg Z P (pc + 3) L st) : Wg Z P pc L (.int y :: .int x :: st) := by
  obtain ⟨p, l, e, R, s, m, args, below, meth, c, A0, nL, cells, slots, Q⟩ := Z
  obtain ⟨hx, hb, hml, hnL, hown, hts, hK, hR, hA, hr, hlk, hc1, hc2⟩ := C
  intro H locs ls hP hS hl
  exact lv_icmp_lt hx hb hd ht (fun h => kt h H locs ls hP hS hl) (fun h => kf h H locs ls hP hS hl)
theorem r_icmp_ge {x y : Int32} {off : Int} {tgt : Nat} (C : CG Z E μ A) (hd : decode μ.2.1 pc = .ok (.if_icmp .ge off, 3)) (ht : (pc : Int) + off = (tgt : Int)) (kt : y ≤ x → Wg Z P tgt L st) (kf : ¬ y ≤ x → Wg Z P (pc + 3) L st) : Wg Z P pc L (.int y :: .int x :: st) := by
  obtain ⟨p, l, e, R, s, m, args, below, meth, c, A0, nL, cells, slots, Q⟩ := Z
  obtain ⟨hx, hb, hml, hnL, hown, hts, hK, hR, hA, hr, hlk, hc1, hc2⟩ := C
  intro H locs ls hP hS hl
  exact lv_icmp_ge hx hb hd ht (fun h => kt h H locs ls hP hS hl) (fun h => kf h H locs ls hP hS hl)
theorem r_icmp_gt {x y : Int32} {off : Int} {tgt : Nat} (C : CG Z E μ A) (hd : decode μ.2.1 pc = .ok (.if_icmp .gt off, 3)) (ht : (pc : Int) + off = (tgt : Int)) (kt : y < x → Wg Z P tgt L st) (kf : ¬ y < x → Wg Z P (pc + 3) L st) : Wg Z P pc L (.int y :: .int x :: st) := by
  obtain ⟨p, l, e, R, s, m, args, below, meth, c, A0, nL, cells, slots, Q⟩ := Z
  obtain ⟨hx, hb, hml, hnL, hown, hts, hK, hR, hA, hr, hlk, hc1, hc2⟩ := C
  intro H locs ls hP hS hl
  exact lv_icmp_gt hx hb hd ht (fun h => kt h H locs ls hP hS hl) (fun h => kf h H locs ls hP hS hl)
theorem r_icmp_le {x y : Int32} {off : Int} {tgt : Nat} (C : CG Z E μ A) (hd : decode μ.2.1 pc = .ok (.if_icmp .le off, 3)) (ht : (pc : Int) + off = (tgt : Int)) (kt : x ≤ y → Wg Z P tgt L st) (kf : ¬ x ≤ y → Wg Z P (pc + 3) L st) : Wg Z P pc L (.int y :: .int x :: st) := by
  obtain ⟨p, l, e, R, s, m, args, below, meth, c, A0, nL, cells, slots, Q⟩ := Z
  obtain ⟨hx, hb, hml, hnL, hown, hts, hK, hR, hA, hr, hlk, hc1, hc2⟩ := C
  intro H locs ls hP hS hl
  exact lv_icmp_le hx hb hd ht (fun h => kt h H locs ls hP hS hl) (fun h => kf h H locs ls hP hS hl)
end Rows
end
section
-- the pictures: X (HyphenRows with its languages) and M (HyphenRowsModel)
def setA {α : Type} (c : Nat → α) (j : Nat) (f : α) : Nat → α := fun a => if a = j then f else c a
theorem setA_s {α : Type} {c : Nat → α} {j : Nat} {f : α} : setA c j f j = f := by simp [setA]
theorem setA_n {α : Type} {c : Nat → α} {j a : Nat} {f : α} (h : a ≠ j) : setA c j f a = c a := by simp [setA, h]
theorem setA_setA {α : Type} {c : Nat → α} {j : Nat} {f f' : α} : setA (setA c j f) j f' = setA c j f' := by funext a; by_cases h : a = j <;> simp [setA, h]
theorem setA_self {α : Type} {c : Nat → α} {j : Nat} : setA c j (c j) = c := by funext a; by_cases h : a = j <;> simp [setA, h]
def gO (i : Nat) : Nat := 17 + 3 * i
def gL (i : Nat) : Nat := 18 + 3 * i
def gC (i : Nat) : Nat := 19 + 3 * i
def fsX (ad : Nat → Nat) (g : Nat → Int32) : List Value := [.ref (ad 16), .int (g 0), .ref (ad 1), .ref (ad 2), .ref (ad 3), .ref (ad 4), .int (g 1), .ref (ad 5), .int (g 2), .int (g 3), .ref (ad 6), .ref (ad 7), .int (g 4), .ref (ad 8), .int (g 5), .ref (ad 9), .ref (ad 10), .ref (ad 11), .ref (ad 12), .int (g 6), .ref (ad 13), .ref (ad 14), .ref (ad 15), .int (g 7)]
def fsG (ad : Nat → Nat) (lg : Nat → Nat → Int32) (i : Nat) : List Value := [.ref (ad (gL i)), .ref (ad (gC i)), .int (lg i 0), .int (lg i 1), .int (lg i 2), .int (lg i 3)]
def fsM (ad : Nat → Nat) (g : Nat → Int32) : List Value := [.int (g 0), .ref (ad 1), .ref (ad 2), .ref (ad 3), .ref (ad 4), .ref (ad 5), .int (g 1), .ref (ad 6), .ref (ad 7), .int (g 2), .int (g 3), .ref (ad 8), .ref (ad 9), .ref (ad 10), .ref (ad 11), .int (g 4), .ref (ad 12), .ref (ad 13), .ref (ad 14), .ref (ad 15), .int (g 5), .ref (ad 16), .ref (ad 17), .int (g 6), .ref (ad 18)]
def lnX (j : Nat) : Nat := match j with
  | 1 => 900
  | 2 => 900
  | 3 => 900
  | 4 => 900
  | 5 => 1950
  | 6 => 12
  | 7 => 12
  | 8 => 30
  | 9 => 40
  | 10 => 1200
  | 11 => 40
  | 12 => 40
  | 13 => 32
  | 14 => 33
  | 15 => 30
  | _ => 0
def lnM (j : Nat) : Nat := match j with
  | 1 => 1024
  | 2 => 1024
  | 3 => 4
  | 4 => 4
  | 5 => 4
  | 6 => 12
  | 7 => 13
  | 8 => 150
  | 9 => 150
  | 10 => 1800
  | 11 => 1950
  | 12 => 40
  | 13 => 40
  | 14 => 1200
  | 15 => 40
  | 16 => 30
  | 17 => 32
  | 18 => 32
  | _ => 0
def jI (j : Nat) : Bool := decide (1 ≤ j ∧ j ≤ 15 ∧ j ≠ 5 ∧ j ≠ 10)
def jB (j : Nat) : Bool := Nat.beq j 5 || Nat.beq j 10
def mI (j : Nat) : Bool := decide (1 ≤ j ∧ j ≤ 18 ∧ j ≠ 2 ∧ j ≠ 5)
def mB (j : Nat) : Bool := Nat.beq j 2 || Nat.beq j 5
def clX (E : eE) (j : Nat) : ClassId := if j = 5 ∨ j = 10 then E.2.2.1 else E.2.1
def clM (E : eE) (j : Nat) : ClassId := if j = 2 ∨ j = 5 then E.2.2.2.1 else E.2.1
theorem jI_of {j : Nat} (h : jI j = true) : 1 ≤ j ∧ j ≤ 15 ∧ j ≠ 5 ∧ j ≠ 10 := of_decide_eq_true h
theorem jB_of {j : Nat} (h : jB j = true) : j = 5 ∨ j = 10 := by simpa [jB] using h
theorem mI_of {j : Nat} (h : mI j = true) : 1 ≤ j ∧ j ≤ 18 ∧ j ≠ 2 ∧ j ≠ 5 := of_decide_eq_true h
theorem mB_of {j : Nat} (h : mB j = true) : j = 2 ∨ j = 5 := by simpa [mB] using h
theorem lnX_lt (j : Nat) : lnX j < 2 ^ 31 := by unfold lnX; split <;> decide
theorem lnM_lt (j : Nat) : lnM j < 2 ^ 31 := by unfold lnM; split <;> decide
def wl (N : Nat) (f : Nat → Nat × va_E) : va_W := (List.range N).map f
theorem wl_get {N : Nat} {f : Nat → Nat × va_E} {k : Nat} (h : k < N) : (wl N f)[k]? = some (f k) := by simp [wl, h]
theorem wl_len {N : Nat} {f : Nat → Nat × va_E} : (wl N f).length = N := by simp [wl]
theorem wl_set {N : Nat} {f : Nat → Nat × va_E} {k : Nat} {e : Nat × va_E} : (wl N f).set k e = wl N (fun j => if j = k then e else f j) := by
  apply List.ext_getElem?
  intro j
  by_cases hj : j < N
  · by_cases hk : j = k
    · subst hk
      rw [List.getElem?_set_self (by rw [wl_len]; exact hj), wl_get hj]
      simp
    · rw [List.getElem?_set_ne (Ne.symm hk), wl_get hj, wl_get hj]
      simp [hk]
  · rw [List.getElem?_eq_none (by rw [List.length_set, wl_len]; omega), List.getElem?_eq_none (by rw [wl_len]; omega)]
theorem wl_cg {N : Nat} {f f' : Nat → Nat × va_E} (h : ∀ j, j < N → f j = f' j) : wl N f = wl N f' := List.map_congr_left (fun j hj => h j (List.mem_range.mp hj))
/-- a cell of X's world -/
def eX (E : eE) (ad : Nat → Nat) (n : Nat) (g : Nat → Int32) (c lg : Nat → Nat → Int32) (lc : Nat → Nat → Nat → Int32) (j : Nat) : va_E :=
  if j = 0 then .inr (0, fsX ad g)
  else if j = 16 then .inl (E.2.2.2.2, 4, .inr (.inr (.inr (.inr (fun i => if i < n then some (ad (gO i)) else none)))))
  else if j < 16 then .inl (clX E j, lnX j, .inl (c j))
  else if (j - 17) % 3 = 0 then .inr (1, fsG ad lg ((j - 17) / 3))
  else if (j - 17) % 3 = 1 then .inl (E.2.2.1, 256, .inl (lc ((j - 17) / 3) 0))
  else .inl (E.2.2.2.1, 256, .inl (lc ((j - 17) / 3) 1))
def wX (E : eE) (ad : Nat → Nat) (n : Nat) (g : Nat → Int32) (c lg : Nat → Nat → Int32) (lc : Nat → Nat → Nat → Int32) : va_W := wl (17 + 3 * n) (fun j => (ad j, eX E ad n g c lg lc j))
def pX (E : eE) (A : Nat → Prop) (ad : Nat → Nat) (n : Nat) (g : Nat → Int32) (c lg : Nat → Nat → Int32) (lc : Nat → Nat → Nat → Int32) (H : Heap) : Prop := va_P E.1 classes (wX E ad n g c lg lc) H ∧ va_D A (wX E ad n g c lg lc)
def eM (E : eE) (ad : Nat → Nat) (g : Nat → Int32) (c : Nat → Nat → Int32) (j : Nat) : va_E := if j = 0 then .inr (2, fsM ad g) else .inl (clM E j, lnM j, .inl (c j))
def wM (E : eE) (ad : Nat → Nat) (g : Nat → Int32) (c : Nat → Nat → Int32) : va_W := wl 19 (fun j => (ad j, eM E ad g c j))
def pM (E : eE) (A : Nat → Prop) (ad : Nat → Nat) (g : Nat → Int32) (c : Nat → Nat → Int32) (H : Heap) : Prop := va_P E.1 classes (wM E ad g c) H ∧ va_D A (wM E ad g c)
section Cells
variable {E : eE} {A : Nat → Prop} {ad : Nat → Nat} {n : Nat} {g : Nat → Int32} {c lg : Nat → Nat → Int32} {lc : Nat → Nat → Nat → Int32}
theorem wX_0 : (wX E ad n g c lg lc)[0]? = some (ad 0, .inr (0, fsX ad g)) := by rw [wX, wl_get (by omega)]; simp [eX]
theorem wX_16 : (wX E ad n g c lg lc)[16]? = some (ad 16, .inl (E.2.2.2.2, 4, .inr (.inr (.inr (.inr (fun i => if i < n then some (ad (gO i)) else none)))))) := by rw [wX, wl_get (by omega)]; simp [eX]
theorem wX_a {j : Nat} (h : 1 ≤ j ∧ j ≤ 15) : (wX E ad n g c lg lc)[j]? = some (ad j, .inl (clX E j, lnX j, .inl (c j))) := by
  rw [wX, wl_get (by omega)]
  have h1 : j ≠ 0 := by omega
  have h2 : j ≠ 16 := by omega
  have h3 : j < 16 := by omega
  simp [eX, h1, h2, h3]
theorem eX_O {i : Nat} : eX E ad n g c lg lc (gO i) = .inr (1, fsG ad lg i) := by
  have h1 : ¬ 17 + 3 * i = 0 := by omega
  have h2 : ¬ 17 + 3 * i = 16 := by omega
  have h3 : ¬ 17 + 3 * i < 16 := by omega
  have h4 : (17 + 3 * i - 17) % 3 = 0 := by omega
  have h5 : (17 + 3 * i - 17) / 3 = i := by omega
  unfold eX gO
  rw [if_neg h1, if_neg h2, if_neg h3, if_pos h4, h5]
theorem eX_L {i : Nat} : eX E ad n g c lg lc (gL i) = .inl (E.2.2.1, 256, .inl (lc i 0)) := by
  have h1 : ¬ 18 + 3 * i = 0 := by omega
  have h2 : ¬ 18 + 3 * i = 16 := by omega
  have h3 : ¬ 18 + 3 * i < 16 := by omega
  have h4 : (18 + 3 * i - 17) % 3 = 1 := by omega
  have h4' : ¬ (18 + 3 * i - 17) % 3 = 0 := by omega
  have h5 : (18 + 3 * i - 17) / 3 = i := by omega
  unfold eX gL
  rw [if_neg h1, if_neg h2, if_neg h3, if_neg h4', if_pos h4, h5]
theorem eX_C {i : Nat} : eX E ad n g c lg lc (gC i) = .inl (E.2.2.2.1, 256, .inl (lc i 1)) := by
  have h1 : ¬ 19 + 3 * i = 0 := by omega
  have h2 : ¬ 19 + 3 * i = 16 := by omega
  have h3 : ¬ 19 + 3 * i < 16 := by omega
  have h4 : ¬ (19 + 3 * i - 17) % 3 = 1 := by omega
  have h4' : ¬ (19 + 3 * i - 17) % 3 = 0 := by omega
  have h5 : (19 + 3 * i - 17) / 3 = i := by omega
  unfold eX gC
  rw [if_neg h1, if_neg h2, if_neg h3, if_neg h4', if_neg h4, h5]
theorem wX_O {i : Nat} (h : i < n) : (wX E ad n g c lg lc)[gO i]? = some (ad (gO i), .inr (1, fsG ad lg i)) := by rw [wX, wl_get (by unfold gO; omega), eX_O]
theorem wX_L {i : Nat} (h : i < n) : (wX E ad n g c lg lc)[gL i]? = some (ad (gL i), .inl (E.2.2.1, 256, .inl (lc i 0))) := by rw [wX, wl_get (by unfold gL; omega), eX_L]
theorem wX_C {i : Nat} (h : i < n) : (wX E ad n g c lg lc)[gC i]? = some (ad (gC i), .inl (E.2.2.2.1, 256, .inl (lc i 1))) := by rw [wX, wl_get (by unfold gC; omega), eX_C]
theorem wX_s0 {g' : Nat → Int32} : (wX E ad n g c lg lc).set 0 (ad 0, .inr (0, fsX ad g')) = wX E ad n g' c lg lc := by
  rw [wX, wl_set, wX]
  refine wl_cg (fun j _ => ?_)
  by_cases h : j = 0 <;> simp [eX, h]
theorem wX_sa {j : Nat} {f : Nat → Int32} (h : 1 ≤ j ∧ j ≤ 15) : (wX E ad n g c lg lc).set j (ad j, .inl (clX E j, lnX j, .inl f)) = wX E ad n g (setA c j f) lg lc := by
  rw [wX, wl_set, wX]
  refine wl_cg (fun a _ => ?_)
  by_cases ha : a = j
  · subst ha
    have h1 : a ≠ 0 := by omega
    have h2 : a ≠ 16 := by omega
    have h3 : a < 16 := by omega
    simp [eX, h1, h2, h3, setA]
  · simp [eX, setA, ha]
theorem cls3 (a : Nat) (h : 17 ≤ a) : ∃ i, a = gO i ∨ a = gL i ∨ a = gC i := by
  refine ⟨(a - 17) / 3, ?_⟩
  unfold gO gL gC
  omega
theorem eX_low {a : Nat} (h : a < 17) {lg' : Nat → Nat → Int32} {lc' : Nat → Nat → Nat → Int32} : eX E ad n g c lg lc a = eX E ad n g c lg' lc' a := by
  unfold eX
  by_cases h0 : a = 0
  · rw [if_pos h0, if_pos h0]
  · rw [if_neg h0, if_neg h0]
    by_cases h1 : a = 16
    · rw [if_pos h1, if_pos h1]
    · rw [if_neg h1, if_neg h1, if_pos (by omega), if_pos (by omega)]
theorem wX_sO {i : Nat} {f : Nat → Int32} : (wX E ad n g c lg lc).set (gO i) (ad (gO i), .inr (1, fsG ad (setA lg i f) i)) = wX E ad n g c (setA lg i f) lc := by
  rw [wX, wl_set, wX]
  refine wl_cg (fun a _ => ?_)
  by_cases ha : a = gO i
  · subst ha; simp [eX_O]
  · rw [if_neg ha]
    congr 1
    by_cases hl : a < 17
    · exact eX_low hl
    · obtain ⟨k, rfl | rfl | rfl⟩ := cls3 a (by omega)
      · have hk : k ≠ i := fun e => ha (by rw [e])
        rw [eX_O, eX_O]; simp [fsG, setA, hk]
      · rw [eX_L, eX_L]
      · rw [eX_C, eX_C]
def setC (lc : Nat → Nat → Nat → Int32) (i j : Nat) (f : Nat → Int32) : Nat → Nat → Nat → Int32 := setA lc i (setA (lc i) j f)
theorem wX_sL {i : Nat} {f : Nat → Int32} : (wX E ad n g c lg lc).set (gL i) (ad (gL i), .inl (E.2.2.1, 256, .inl f)) = wX E ad n g c lg (setC lc i 0 f) := by
  rw [wX, wl_set, wX]
  refine wl_cg (fun a _ => ?_)
  by_cases ha : a = gL i
  · subst ha; simp [eX_L, setC, setA]
  · rw [if_neg ha]
    congr 1
    by_cases hl : a < 17
    · exact eX_low hl
    · obtain ⟨k, rfl | rfl | rfl⟩ := cls3 a (by omega)
      · rw [eX_O, eX_O]
      · have hk : k ≠ i := fun e => ha (by rw [e])
        rw [eX_L, eX_L]; simp [setC, setA, hk]
      · rw [eX_C, eX_C]; by_cases hk : k = i <;> simp [setC, setA, hk]
theorem wX_sC {i : Nat} {f : Nat → Int32} : (wX E ad n g c lg lc).set (gC i) (ad (gC i), .inl (E.2.2.2.1, 256, .inl f)) = wX E ad n g c lg (setC lc i 1 f) := by
  rw [wX, wl_set, wX]
  refine wl_cg (fun a _ => ?_)
  by_cases ha : a = gC i
  · subst ha; simp [eX_C, setC, setA]
  · rw [if_neg ha]
    congr 1
    by_cases hl : a < 17
    · exact eX_low hl
    · obtain ⟨k, rfl | rfl | rfl⟩ := cls3 a (by omega)
      · rw [eX_O, eX_O]
      · rw [eX_L, eX_L]; by_cases hk : k = i <;> simp [setC, setA, hk]
      · have hk : k ≠ i := fun e => ha (by rw [e])
        rw [eX_C, eX_C]; simp [setC, setA, hk]
theorem wM_0 : (wM E ad g c)[0]? = some (ad 0, .inr (2, fsM ad g)) := by rw [wM, wl_get (by omega)]; simp [eM]
theorem wM_a {j : Nat} (h : 1 ≤ j ∧ j ≤ 18) : (wM E ad g c)[j]? = some (ad j, .inl (clM E j, lnM j, .inl (c j))) := by
  rw [wM, wl_get (by omega)]
  have h1 : j ≠ 0 := by omega
  simp [eM, h1]
theorem wM_s0 {g' : Nat → Int32} : (wM E ad g c).set 0 (ad 0, .inr (2, fsM ad g')) = wM E ad g' c := by
  rw [wM, wl_set, wM]
  refine wl_cg (fun j _ => ?_)
  by_cases h : j = 0 <;> simp [eM, h]
theorem wM_sa {j : Nat} {f : Nat → Int32} (h : 1 ≤ j ∧ j ≤ 18) : (wM E ad g c).set j (ad j, .inl (clM E j, lnM j, .inl f)) = wM E ad g (setA c j f) := by
  rw [wM, wl_set, wM]
  refine wl_cg (fun a _ => ?_)
  by_cases ha : a = j
  · subst ha
    have h1 : a ≠ 0 := by omega
    simp [eM, h1, setA]
  · simp [eM, setA, ha]
theorem clX_I {j : Nat} (h : jI j = true) : clX E j = E.2.1 := by
  obtain ⟨-, -, h1, h2⟩ := jI_of h
  simp [clX, h1, h2]
theorem clX_B {j : Nat} (h : jB j = true) : clX E j = E.2.2.1 := by simp [clX, jB_of h]
theorem clM_I {j : Nat} (h : mI j = true) : clM E j = E.2.1 := by
  obtain ⟨-, -, h1, h2⟩ := mI_of h
  simp [clM, h1, h2]
theorem clM_B {j : Nat} (h : mB j = true) : clM E j = E.2.2.2.1 := by simp [clM, mB_of h]
end Cells
section WorldRows
variable {Z : cZ} {E : eE} {μ : mD} {A A' : Nat → Prop} {P : Heap → Prop} {pc : Nat} {L : List (Nat × Value)} {st : List Value} {ad : Nat → Nat} {n : Nat} {g : Nat → Int32} {c lg : Nat → Nat → Int32} {lc : Nat → Nat → Nat → Int32}
theorem rX_get {idx k : Nat} {v : Value} (C : CG Z E μ A) (hμ : μ.1.cls = R_X) (V : ∀ H, P H → pX E A' ad n g c lg lc H) (hk : k < 24) (hq : Cond.fieldLink R_X idx R_X (F_X k).2.1 (F_X k).2.2.1 ∈ gw) (hF : (F_X k).1 = R_X) (hv : (fsX ad g)[k]? = some v) (hd : decode μ.2.1 pc = .ok (.getfield idx, 3)) (kk : Wg Z P (pc + 3) L (v :: st)) : Wg Z P pc L (.ref (ad 0) :: st) := by
  obtain ⟨p, l, e, R, s, m, args, below, meth, cd, A0, nL, cells, slots, Q⟩ := Z
  obtain ⟨hx, hb, hml, hnL, hown, hts, hK, hR, hA, hr, hlk, hc1, hc2⟩ := C
  intro H locs ls hP hS hl
  rw [hμ] at hown
  exact va_get (D := E.1) (ci := 0) (v := v) (C := R_X) (T := F_X) (N := 24) hx hb hts i_X hown hK.1 (V H hP).1 0 wX_0 rfl k hk (hts _ hq) (fun _ h9 => by rw [hF] at h9; exact h9) hv hd (kk H locs ls hP hS hl)
theorem rX_put {idx k : Nat} {v : Int32} {g' : Nat → Int32} (C : CG Z E μ A) (hμ : μ.1.cls = R_X) (V : ∀ H, P H → pX E A ad n g c lg lc H) (hk : k < 24) (hq : Cond.fieldLink R_X idx R_X (F_X k).2.1 (F_X k).2.2.1 ∈ gw) (hF : (F_X k).1 = R_X) (hty : parseFieldDescriptor (F_X k).2.2.1 = some .int) (hfin : (F_X k).2.2.2 = false) (hg : (fsX ad g).set k (.int v) = fsX ad g') (hd : decode μ.2.1 pc = .ok (.putfield idx, 3)) (kk : Wg Z (pX E A ad n g' c lg lc) (pc + 3) L st) : Wg Z P pc L (.int v :: .ref (ad 0) :: st) := by
  obtain ⟨p, l, e, R, s, m, args, below, meth, cd, A0, nL, cells, slots, Q⟩ := Z
  obtain ⟨hx, hb, hml, hnL, hown, hts, hK, hR, hA, hr, hlk, hc1, hc2⟩ := C
  intro H locs ls hP hS hl
  rw [hμ] at hown
  subst hA
  refine va_put (D := E.1) (ci := 0) (v := .int v) (ty := .int) (C := R_X) (T := F_X) (N := 24) hx hb hts i_X t_X t_X_ok n_X hown hK.1 (V H hP).1 (V H hP).2 hS 0 wX_0 rfl k hk (hts _ hq) (fun _ h9 => by rw [hF] at h9; exact h9) hfin hty rfl rfl (by show k < 24; exact hk) hd (fun H1 locs1 hP1 hD1 hS1 => ?_)
  rw [hg, wX_s0] at hP1 hD1
  exact kk H1 locs1 ls ⟨hP1, hD1⟩ hS1 hl
theorem rM_get {idx k : Nat} {v : Value} (C : CG Z E μ A) (hμ : μ.1.cls = R_M) (V : ∀ H, P H → pM E A' ad g c H) (hk : k < 25) (hq : Cond.fieldLink R_M idx R_M (F_M k).2.1 (F_M k).2.2.1 ∈ gw) (hF : (F_M k).1 = R_M) (hv : (fsM ad g)[k]? = some v) (hd : decode μ.2.1 pc = .ok (.getfield idx, 3)) (kk : Wg Z P (pc + 3) L (v :: st)) : Wg Z P pc L (.ref (ad 0) :: st) := by
  obtain ⟨p, l, e, R, s, m, args, below, meth, cd, A0, nL, cells, slots, Q⟩ := Z
  obtain ⟨hx, hb, hml, hnL, hown, hts, hK, hR, hA, hr, hlk, hc1, hc2⟩ := C
  intro H locs ls hP hS hl
  rw [hμ] at hown
  exact va_get (D := E.1) (ci := 2) (v := v) (C := R_M) (T := F_M) (N := 25) hx hb hts i_M hown hK.1 (V H hP).1 0 wM_0 rfl k hk (hts _ hq) (fun _ h9 => by rw [hF] at h9; exact h9) hv hd (kk H locs ls hP hS hl)
theorem rM_put {idx k : Nat} {v : Int32} {g' : Nat → Int32} (C : CG Z E μ A) (hμ : μ.1.cls = R_M) (V : ∀ H, P H → pM E A ad g c H) (hk : k < 25) (hq : Cond.fieldLink R_M idx R_M (F_M k).2.1 (F_M k).2.2.1 ∈ gw) (hF : (F_M k).1 = R_M) (hty : parseFieldDescriptor (F_M k).2.2.1 = some .int) (hfin : (F_M k).2.2.2 = false) (hg : (fsM ad g).set k (.int v) = fsM ad g') (hd : decode μ.2.1 pc = .ok (.putfield idx, 3)) (kk : Wg Z (pM E A ad g' c) (pc + 3) L st) : Wg Z P pc L (.int v :: .ref (ad 0) :: st) := by
  obtain ⟨p, l, e, R, s, m, args, below, meth, cd, A0, nL, cells, slots, Q⟩ := Z
  obtain ⟨hx, hb, hml, hnL, hown, hts, hK, hR, hA, hr, hlk, hc1, hc2⟩ := C
  intro H locs ls hP hS hl
  rw [hμ] at hown
  subst hA
  refine va_put (D := E.1) (ci := 2) (v := .int v) (ty := .int) (C := R_M) (T := F_M) (N := 25) hx hb hts i_M t_M t_M_ok n_M hown hK.1 (V H hP).1 (V H hP).2 hS 0 wM_0 rfl k hk (hts _ hq) (fun _ h9 => by rw [hF] at h9; exact h9) hfin hty rfl rfl (by show k < 25; exact hk) hd (fun H1 locs1 hP1 hD1 hS1 => ?_)
  rw [hg, wM_s0] at hP1 hD1
  exact kk H1 locs1 ls ⟨hP1, hD1⟩ hS1 hl
theorem rX_iald {j k : Nat} {i v : Int32} (C : CG Z E μ A) (V : ∀ H, P H → pX E A' ad n g c lg lc H) (hj : jI j = true) (hi : i = nI k) (hk : k < lnX j) (hv : c j k = v) (hd : decode μ.2.1 pc = .ok (.iaload, 1)) (kk : Wg Z P (pc + 1) L (.int v :: st)) : Wg Z P pc L (.int i :: .ref (ad j) :: st) := by
  obtain ⟨p, l, e, R, s, m, args, below, meth, cd, A0, nL, cells, slots, Q⟩ := Z
  obtain ⟨hx, hb, hml, hnL, hown, hts, hK, hR, hA, hr, hlk, hc1, hc2⟩ := C
  intro H locs ls hP hS hl
  have hj1 := jI_of hj
  have hq := wX_a (E := E) (ad := ad) (n := n) (g := g) (c := c) (lg := lg) (lc := lc) (j := j) (by omega)
  rw [clX_I hj] at hq
  have hcl : (nI k).toNatClampNeg = k := nI_clamp (Nat.lt_trans hk (lnX_lt j))
  subst hi
  subst hv
  refine va_iald hx hb hK.1 (V H hP).1 j 0 hq rfl (vp_in_nI hk (lnX_lt j)) hd ?_
  rw [hcl]
  exact kk H locs ls hP hS hl
theorem rX_iast {j k : Nat} {i v : Int32} {c' : Nat → Nat → Int32} (C : CG Z E μ A) (V : ∀ H, P H → pX E A ad n g c lg lc H) (hj : jI j = true) (hi : i = nI k) (hk : k < lnX j) (hc : setA c j (upd (c j) k v) = c') (hd : decode μ.2.1 pc = .ok (.iastore, 1)) (kk : Wg Z (pX E A ad n g c' lg lc) (pc + 1) L st) : Wg Z P pc L (.int v :: .int i :: .ref (ad j) :: st) := by
  obtain ⟨p, l, e, R, s, m, args, below, meth, cd, A0, nL, cells, slots, Q⟩ := Z
  obtain ⟨hx, hb, hml, hnL, hown, hts, hK, hR, hA, hr, hlk, hc1, hc2⟩ := C
  intro H locs ls hP hS hl
  have hj1 := jI_of hj
  have hq := wX_a (E := E) (ad := ad) (n := n) (g := g) (c := c) (lg := lg) (lc := lc) (j := j) (by omega)
  have hcl : (nI k).toNatClampNeg = k := nI_clamp (Nat.lt_trans hk (lnX_lt j))
  subst hi
  subst hc
  subst hA
  refine va_iast hx hb hK.1 (V H hP).1 (V H hP).2 hS j 0 hq (by rw [clX_I hj]; rfl) (vp_in_nI hk (lnX_lt j)) hd (fun H1 locs1 hP1 hD1 hS1 => ?_)
  rw [hcl, wX_sa (by omega)] at hP1 hD1
  exact kk H1 locs1 ls ⟨hP1, hD1⟩ hS1 hl
theorem rX_bald {j k : Nat} {i v : Int32} (C : CG Z E μ A) (V : ∀ H, P H → pX E A' ad n g c lg lc H) (hj : jB j = true) (hi : i = nI k) (hk : k < lnX j) (hv : c j k = v) (hd : decode μ.2.1 pc = .ok (.baload, 1)) (kk : Wg Z P (pc + 1) L (.int v :: st)) : Wg Z P pc L (.int i :: .ref (ad j) :: st) := by
  obtain ⟨p, l, e, R, s, m, args, below, meth, cd, A0, nL, cells, slots, Q⟩ := Z
  obtain ⟨hx, hb, hml, hnL, hown, hts, hK, hR, hA, hr, hlk, hc1, hc2⟩ := C
  intro H locs ls hP hS hl
  have hj1 := jB_of hj
  have hq := wX_a (E := E) (ad := ad) (n := n) (g := g) (c := c) (lg := lg) (lc := lc) (j := j) (by omega)
  rw [clX_B hj] at hq
  have hcl : (nI k).toNatClampNeg = k := nI_clamp (Nat.lt_trans hk (lnX_lt j))
  subst hi
  subst hv
  refine va_bald hx hb hK.1 (V H hP).1 j 1 hq rfl (vp_in_nI hk (lnX_lt j)) hd ?_
  rw [hcl]
  exact kk H locs ls hP hS hl
theorem rX_bast {j k : Nat} {i v w : Int32} {c' : Nat → Nat → Int32} (C : CG Z E μ A) (V : ∀ H, P H → pX E A ad n g c lg lc H) (hj : jB j = true) (hi : i = nI k) (hk : k < lnX j) (hw : vp_nar .byte v = w) (hc : setA c j (upd (c j) k w) = c') (hd : decode μ.2.1 pc = .ok (.bastore, 1)) (kk : Wg Z (pX E A ad n g c' lg lc) (pc + 1) L st) : Wg Z P pc L (.int v :: .int i :: .ref (ad j) :: st) := by
  obtain ⟨p, l, e, R, s, m, args, below, meth, cd, A0, nL, cells, slots, Q⟩ := Z
  obtain ⟨hx, hb, hml, hnL, hown, hts, hK, hR, hA, hr, hlk, hc1, hc2⟩ := C
  intro H locs ls hP hS hl
  have hj1 := jB_of hj
  have hq := wX_a (E := E) (ad := ad) (n := n) (g := g) (c := c) (lg := lg) (lc := lc) (j := j) (by omega)
  have hcl : (nI k).toNatClampNeg = k := nI_clamp (Nat.lt_trans hk (lnX_lt j))
  subst hi
  subst hc
  subst hA
  refine va_bast hx hb hK.1 (V H hP).1 (V H hP).2 hS j 1 hq (by rw [clX_B hj]; rfl) (vp_in_nI hk (lnX_lt j)) hd (fun H1 locs1 hP1 hD1 hS1 => ?_)
  rw [hcl, hw, wX_sa (by omega)] at hP1 hD1
  exact kk H1 locs1 ls ⟨hP1, hD1⟩ hS1 hl
theorem rM_iald {j k : Nat} {i v : Int32} (C : CG Z E μ A) (V : ∀ H, P H → pM E A' ad g c H) (hj : mI j = true) (hi : i = nI k) (hk : k < lnM j) (hv : c j k = v) (hd : decode μ.2.1 pc = .ok (.iaload, 1)) (kk : Wg Z P (pc + 1) L (.int v :: st)) : Wg Z P pc L (.int i :: .ref (ad j) :: st) := by
  obtain ⟨p, l, e, R, s, m, args, below, meth, cd, A0, nL, cells, slots, Q⟩ := Z
  obtain ⟨hx, hb, hml, hnL, hown, hts, hK, hR, hA, hr, hlk, hc1, hc2⟩ := C
  intro H locs ls hP hS hl
  have hj1 := mI_of hj
  have hq := wM_a (E := E) (ad := ad) (g := g) (c := c) (j := j) (by omega)
  rw [clM_I hj] at hq
  have hcl : (nI k).toNatClampNeg = k := nI_clamp (Nat.lt_trans hk (lnM_lt j))
  subst hi
  subst hv
  refine va_iald hx hb hK.1 (V H hP).1 j 0 hq rfl (vp_in_nI hk (lnM_lt j)) hd ?_
  rw [hcl]
  exact kk H locs ls hP hS hl
theorem rM_iast {j k : Nat} {i v : Int32} {c' : Nat → Nat → Int32} (C : CG Z E μ A) (V : ∀ H, P H → pM E A ad g c H) (hj : mI j = true) (hi : i = nI k) (hk : k < lnM j) (hc : setA c j (upd (c j) k v) = c') (hd : decode μ.2.1 pc = .ok (.iastore, 1)) (kk : Wg Z (pM E A ad g c') (pc + 1) L st) : Wg Z P pc L (.int v :: .int i :: .ref (ad j) :: st) := by
  obtain ⟨p, l, e, R, s, m, args, below, meth, cd, A0, nL, cells, slots, Q⟩ := Z
  obtain ⟨hx, hb, hml, hnL, hown, hts, hK, hR, hA, hr, hlk, hc1, hc2⟩ := C
  intro H locs ls hP hS hl
  have hj1 := mI_of hj
  have hq := wM_a (E := E) (ad := ad) (g := g) (c := c) (j := j) (by omega)
  have hcl : (nI k).toNatClampNeg = k := nI_clamp (Nat.lt_trans hk (lnM_lt j))
  subst hi
  subst hc
  subst hA
  refine va_iast hx hb hK.1 (V H hP).1 (V H hP).2 hS j 0 hq (by rw [clM_I hj]; rfl) (vp_in_nI hk (lnM_lt j)) hd (fun H1 locs1 hP1 hD1 hS1 => ?_)
  rw [hcl, wM_sa (by omega)] at hP1 hD1
  exact kk H1 locs1 ls ⟨hP1, hD1⟩ hS1 hl
theorem rM_zald {j k : Nat} {i v : Int32} (C : CG Z E μ A) (V : ∀ H, P H → pM E A' ad g c H) (hj : mB j = true) (hi : i = nI k) (hk : k < lnM j) (hv : c j k = v) (hd : decode μ.2.1 pc = .ok (.baload, 1)) (kk : Wg Z P (pc + 1) L (.int v :: st)) : Wg Z P pc L (.int i :: .ref (ad j) :: st) := by
  obtain ⟨p, l, e, R, s, m, args, below, meth, cd, A0, nL, cells, slots, Q⟩ := Z
  obtain ⟨hx, hb, hml, hnL, hown, hts, hK, hR, hA, hr, hlk, hc1, hc2⟩ := C
  intro H locs ls hP hS hl
  have hj1 := mB_of hj
  have hq := wM_a (E := E) (ad := ad) (g := g) (c := c) (j := j) (by omega)
  rw [clM_B hj] at hq
  have hcl : (nI k).toNatClampNeg = k := nI_clamp (Nat.lt_trans hk (lnM_lt j))
  subst hi
  subst hv
  refine va_zald hx hb hK.1 (V H hP).1 j 2 hq rfl (vp_in_nI hk (lnM_lt j)) hd ?_
  rw [hcl]
  exact kk H locs ls hP hS hl
theorem rM_zast {j k : Nat} {i v w : Int32} {c' : Nat → Nat → Int32} (C : CG Z E μ A) (V : ∀ H, P H → pM E A ad g c H) (hj : mB j = true) (hi : i = nI k) (hk : k < lnM j) (hw : vp_nar .boolean v = w) (hc : setA c j (upd (c j) k w) = c') (hd : decode μ.2.1 pc = .ok (.bastore, 1)) (kk : Wg Z (pM E A ad g c') (pc + 1) L st) : Wg Z P pc L (.int v :: .int i :: .ref (ad j) :: st) := by
  obtain ⟨p, l, e, R, s, m, args, below, meth, cd, A0, nL, cells, slots, Q⟩ := Z
  obtain ⟨hx, hb, hml, hnL, hown, hts, hK, hR, hA, hr, hlk, hc1, hc2⟩ := C
  intro H locs ls hP hS hl
  have hj1 := mB_of hj
  have hq := wM_a (E := E) (ad := ad) (g := g) (c := c) (j := j) (by omega)
  have hcl : (nI k).toNatClampNeg = k := nI_clamp (Nat.lt_trans hk (lnM_lt j))
  subst hi
  subst hc
  subst hA
  refine va_zast hx hb hK.1 (V H hP).1 (V H hP).2 hS j 2 hq (by rw [clM_B hj]; rfl) (vp_in_nI hk (lnM_lt j)) hd (fun H1 locs1 hP1 hD1 hS1 => ?_)
  rw [hcl, hw, wM_sa (by omega)] at hP1 hD1
  exact kk H1 locs1 ls ⟨hP1, hD1⟩ hS1 hl
theorem rX_alen {j : Nat} {v : Int32} (C : CG Z E μ A) (V : ∀ H, P H → pX E A' ad n g c lg lc H) (hj : jI j = true) (hv : Int32.ofNat (lnX j) = v) (hd : decode μ.2.1 pc = .ok (.arraylength, 1)) (kk : Wg Z P (pc + 1) L (.int v :: st)) : Wg Z P pc L (.ref (ad j) :: st) := by
  obtain ⟨p, l, e, R, s, m, args, below, meth, cd, A0, nL, cells, slots, Q⟩ := Z
  obtain ⟨hx, hb, hml, hnL, hown, hts, hK, hR, hA, hr, hlk, hc1, hc2⟩ := C
  intro H locs ls hP hS hl
  have hj1 := jI_of hj
  have hq := wX_a (E := E) (ad := ad) (n := n) (g := g) (c := c) (lg := lg) (lc := lc) (j := j) (by omega)
  rw [clX_I hj] at hq
  exact va_alen (ty := .int) hx hb hK.1 (V H hP).1 j 0 hq rfl hv hd (kk H locs ls hP hS hl)
theorem rX_aald {k : Nat} {i : Int32} (C : CG Z E μ A) (V : ∀ H, P H → pX E A' ad n g c lg lc H) (hi : i = nI k) (hk : k < n) (hn : n ≤ 4) (hd : decode μ.2.1 pc = .ok (.aaload, 1)) (kk : Wg Z P (pc + 1) L (.ref (ad (gO k)) :: st)) : Wg Z P pc L (.int i :: .ref (ad 16) :: st) := by
  obtain ⟨p, l, e, R, s, m, args, below, meth, cd, A0, nL, cells, slots, Q⟩ := Z
  obtain ⟨hx, hb, hml, hnL, hown, hts, hK, hR, hA, hr, hlk, hc1, hc2⟩ := C
  intro H locs ls hP hS hl
  have hcl : (nI k).toNatClampNeg = k := nI_clamp (by omega)
  subst hi
  refine va_aldq (C := R_G) hx hb hK.1 (V H hP).1 16 3 wX_16 rfl (vp_in_nI (show k < 4 by omega) (by decide)) hd ?_
  rw [hcl, if_pos hk]
  exact kk H locs ls hP hS hl
theorem rG_get {idx k i : Nat} {v : Value} (C : CG Z E μ A) (hμ : μ.1.cls = R_X) (V : ∀ H, P H → pX E A' ad n g c lg lc H) (hi : i < n) (hk : k < 6) (hq : Cond.fieldLinkNest R_X idx R_G (F_G k).2.1 (F_G k).2.2.1 R_X ∈ nw) (hF : (F_G k).1 = R_G) (hv : (fsG ad lg i)[k]? = some v) (hd : decode μ.2.1 pc = .ok (.getfield idx, 3)) (kk : Wg Z P (pc + 3) L (v :: st)) : Wg Z P pc L (.ref (ad (gO i)) :: st) := by
  obtain ⟨p, l, e, R, s, m, args, below, meth, cd, A0, nL, cells, slots, Q⟩ := Z
  obtain ⟨hx, hb, hml, hnL, hown, hts, hK, hR, hA, hr, hlk, hc1, hc2⟩ := C
  intro H locs ls hP hS hl
  rw [hμ] at hown
  exact va_getN (D := E.1) (ci := 1) (v := v) (C := R_G) (T := F_G) (N := 6) hx hb hts i_G hown hK.1 (V H hP).1 (gO i) (wX_O hi) rfl k hk (va_Nw.use (nw_on _ hq) (hK.2.1 _ hq)) (fun _ h9 => by rw [hF] at h9; exact h9) hv hd (kk H locs ls hP hS hl)
theorem rG_put {idx k i : Nat} {ty : FieldType} {v : Int32} {f : Nat → Int32} (C : CG Z E μ A) (hμ : μ.1.cls = R_X) (V : ∀ H, P H → pX E A ad n g c lg lc H) (hi : i < n) (hk : k < 6) (hq : Cond.fieldLinkNest R_X idx R_G (F_G k).2.1 (F_G k).2.2.1 R_X ∈ nw) (hF : (F_G k).1 = R_G) (hty : parseFieldDescriptor (F_G k).2.2.1 = some ty) (hfin : (F_G k).2.2.2 = false) (hnar : narrow ty (.int v) = .int v) (hfit : fits ty (.int v) = true) (hg : (fsG ad lg i).set k (.int v) = fsG ad (setA lg i f) i) (hd : decode μ.2.1 pc = .ok (.putfield idx, 3)) (kk : Wg Z (pX E A ad n g c (setA lg i f) lc) (pc + 3) L st) : Wg Z P pc L (.int v :: .ref (ad (gO i)) :: st) := by
  obtain ⟨p, l, e, R, s, m, args, below, meth, cd, A0, nL, cells, slots, Q⟩ := Z
  obtain ⟨hx, hb, hml, hnL, hown, hts, hK, hR, hA, hr, hlk, hc1, hc2⟩ := C
  intro H locs ls hP hS hl
  rw [hμ] at hown
  subst hA
  refine va_putN (D := E.1) (ci := 1) (v := .int v) (ty := ty) (C := R_G) (T := F_G) (N := 6) hx hb hts i_G t_G t_G_ok n_G hown hK.1 (V H hP).1 (V H hP).2 hS (gO i) (wX_O hi) rfl k hk (va_Nw.use (nw_on _ hq) (hK.2.1 _ hq)) (fun _ h9 => by rw [hF] at h9; exact h9) hfin hty hnar hfit (by show k < 6; exact hk) hd (fun H1 locs1 hP1 hD1 hS1 => ?_)
  rw [hg, wX_sO] at hP1 hD1
  exact kk H1 locs1 ls ⟨hP1, hD1⟩ hS1 hl
theorem rG_bald {k i : Nat} {x v : Int32} (C : CG Z E μ A) (V : ∀ H, P H → pX E A' ad n g c lg lc H) (hi : i < n) (hx : x = nI k) (hk : k < 256) (hv : lc i 0 k = v) (hd : decode μ.2.1 pc = .ok (.baload, 1)) (kk : Wg Z P (pc + 1) L (.int v :: st)) : Wg Z P pc L (.int x :: .ref (ad (gL i)) :: st) := by
  obtain ⟨p, l, e, R, s, m, args, below, meth, cd, A0, nL, cells, slots, Q⟩ := Z
  obtain ⟨hxx, hb, hml, hnL, hown, hts, hK, hR, hA, hr, hlk, hc1, hc2⟩ := C
  intro H locs ls hP hS hl
  have hcl : (nI k).toNatClampNeg = k := nI_clamp (by omega)
  subst hx
  subst hv
  refine va_bald hxx hb hK.1 (V H hP).1 (gL i) 1 (wX_L hi) rfl (vp_in_nI hk (by decide)) hd ?_
  rw [hcl]
  exact kk H locs ls hP hS hl
theorem rG_bast {k i : Nat} {x v w : Int32} {lc' : Nat → Nat → Nat → Int32} (C : CG Z E μ A) (V : ∀ H, P H → pX E A ad n g c lg lc H) (hi : i < n) (hx : x = nI k) (hk : k < 256) (hw : vp_nar .byte v = w) (hc : setC lc i 0 (upd (lc i 0) k w) = lc') (hd : decode μ.2.1 pc = .ok (.bastore, 1)) (kk : Wg Z (pX E A ad n g c lg lc') (pc + 1) L st) : Wg Z P pc L (.int v :: .int x :: .ref (ad (gL i)) :: st) := by
  obtain ⟨p, l, e, R, s, m, args, below, meth, cd, A0, nL, cells, slots, Q⟩ := Z
  obtain ⟨hxx, hb, hml, hnL, hown, hts, hK, hR, hA, hr, hlk, hc1, hc2⟩ := C
  intro H locs ls hP hS hl
  have hcl : (nI k).toNatClampNeg = k := nI_clamp (by omega)
  subst hx
  subst hc
  subst hA
  refine va_bast hxx hb hK.1 (V H hP).1 (V H hP).2 hS (gL i) 1 (wX_L hi) rfl (vp_in_nI hk (by decide)) hd (fun H1 locs1 hP1 hD1 hS1 => ?_)
  rw [hcl, hw, wX_sL] at hP1 hD1
  exact kk H1 locs1 ls ⟨hP1, hD1⟩ hS1 hl
theorem rG_zald {k i : Nat} {x v : Int32} (C : CG Z E μ A) (V : ∀ H, P H → pX E A' ad n g c lg lc H) (hi : i < n) (hx : x = nI k) (hk : k < 256) (hv : lc i 1 k = v) (hd : decode μ.2.1 pc = .ok (.baload, 1)) (kk : Wg Z P (pc + 1) L (.int v :: st)) : Wg Z P pc L (.int x :: .ref (ad (gC i)) :: st) := by
  obtain ⟨p, l, e, R, s, m, args, below, meth, cd, A0, nL, cells, slots, Q⟩ := Z
  obtain ⟨hxx, hb, hml, hnL, hown, hts, hK, hR, hA, hr, hlk, hc1, hc2⟩ := C
  intro H locs ls hP hS hl
  have hcl : (nI k).toNatClampNeg = k := nI_clamp (by omega)
  subst hx
  subst hv
  refine va_zald hxx hb hK.1 (V H hP).1 (gC i) 2 (wX_C hi) rfl (vp_in_nI hk (by decide)) hd ?_
  rw [hcl]
  exact kk H locs ls hP hS hl
theorem rG_zast {k i : Nat} {x v w : Int32} {lc' : Nat → Nat → Nat → Int32} (C : CG Z E μ A) (V : ∀ H, P H → pX E A ad n g c lg lc H) (hi : i < n) (hx : x = nI k) (hk : k < 256) (hw : vp_nar .boolean v = w) (hc : setC lc i 1 (upd (lc i 1) k w) = lc') (hd : decode μ.2.1 pc = .ok (.bastore, 1)) (kk : Wg Z (pX E A ad n g c lg lc') (pc + 1) L st) : Wg Z P pc L (.int v :: .int x :: .ref (ad (gC i)) :: st) := by
  obtain ⟨p, l, e, R, s, m, args, below, meth, cd, A0, nL, cells, slots, Q⟩ := Z
  obtain ⟨hxx, hb, hml, hnL, hown, hts, hK, hR, hA, hr, hlk, hc1, hc2⟩ := C
  intro H locs ls hP hS hl
  have hcl : (nI k).toNatClampNeg = k := nI_clamp (by omega)
  subst hx
  subst hc
  subst hA
  refine va_zast hxx hb hK.1 (V H hP).1 (V H hP).2 hS (gC i) 2 (wX_C hi) rfl (vp_in_nI hk (by decide)) hd (fun H1 locs1 hP1 hD1 hS1 => ?_)
  rw [hcl, hw, wX_sC] at hP1 hD1
  exact kk H1 locs1 ls ⟨hP1, hD1⟩ hS1 hl
theorem rX_g11 (C : CG Z E μ A) (hμ : μ.1.cls = R_X) (V : ∀ H, P H → pX E A' ad n g c lg lc H) (hd : decode μ.2.1 pc = .ok (.getfield 11, 3)) (kk : Wg Z P (pc + 3) L (.ref (ad 16) :: st)) : Wg Z P pc L (.ref (ad 0) :: st) := rX_get (k := 0) C hμ V (by decide) q_15 rfl rfl hd kk
theorem rX_g62 (C : CG Z E μ A) (hμ : μ.1.cls = R_X) (V : ∀ H, P H → pX E A' ad n g c lg lc H) (hd : decode μ.2.1 pc = .ok (.getfield 62, 3)) (kk : Wg Z P (pc + 3) L (.int (g 0) :: st)) : Wg Z P pc L (.ref (ad 0) :: st) := rX_get (k := 1) C hμ V (by decide) q_16 rfl rfl hd kk
theorem rX_p62 {v : Int32} (C : CG Z E μ A) (hμ : μ.1.cls = R_X) (V : ∀ H, P H → pX E A ad n g c lg lc H) (hd : decode μ.2.1 pc = .ok (.putfield 62, 3)) (kk : Wg Z (pX E A ad n (upd g 0 v) c lg lc) (pc + 3) L st) : Wg Z P pc L (.int v :: .ref (ad 0) :: st) := rX_put (k := 1) C hμ V (by decide) q_16 rfl (by decide +kernel) rfl (by simp [fsX, upd]) hd kk
theorem rX_g15 (C : CG Z E μ A) (hμ : μ.1.cls = R_X) (V : ∀ H, P H → pX E A' ad n g c lg lc H) (hd : decode μ.2.1 pc = .ok (.getfield 15, 3)) (kk : Wg Z P (pc + 3) L (.ref (ad 1) :: st)) : Wg Z P pc L (.ref (ad 0) :: st) := rX_get (k := 2) C hμ V (by decide) q_17 rfl rfl hd kk
theorem rX_g19 (C : CG Z E μ A) (hμ : μ.1.cls = R_X) (V : ∀ H, P H → pX E A' ad n g c lg lc H) (hd : decode μ.2.1 pc = .ok (.getfield 19, 3)) (kk : Wg Z P (pc + 3) L (.ref (ad 2) :: st)) : Wg Z P pc L (.ref (ad 0) :: st) := rX_get (k := 3) C hμ V (by decide) q_18 rfl rfl hd kk
theorem rX_g22 (C : CG Z E μ A) (hμ : μ.1.cls = R_X) (V : ∀ H, P H → pX E A' ad n g c lg lc H) (hd : decode μ.2.1 pc = .ok (.getfield 22, 3)) (kk : Wg Z P (pc + 3) L (.ref (ad 3) :: st)) : Wg Z P pc L (.ref (ad 0) :: st) := rX_get (k := 4) C hμ V (by decide) q_19 rfl rfl hd kk
theorem rX_g25 (C : CG Z E μ A) (hμ : μ.1.cls = R_X) (V : ∀ H, P H → pX E A' ad n g c lg lc H) (hd : decode μ.2.1 pc = .ok (.getfield 25, 3)) (kk : Wg Z P (pc + 3) L (.ref (ad 4) :: st)) : Wg Z P pc L (.ref (ad 0) :: st) := rX_get (k := 5) C hμ V (by decide) q_20 rfl rfl hd kk
theorem rX_g107 (C : CG Z E μ A) (hμ : μ.1.cls = R_X) (V : ∀ H, P H → pX E A' ad n g c lg lc H) (hd : decode μ.2.1 pc = .ok (.getfield 107, 3)) (kk : Wg Z P (pc + 3) L (.int (g 1) :: st)) : Wg Z P pc L (.ref (ad 0) :: st) := rX_get (k := 6) C hμ V (by decide) q_21 rfl rfl hd kk
theorem rX_p107 {v : Int32} (C : CG Z E μ A) (hμ : μ.1.cls = R_X) (V : ∀ H, P H → pX E A ad n g c lg lc H) (hd : decode μ.2.1 pc = .ok (.putfield 107, 3)) (kk : Wg Z (pX E A ad n (upd g 1 v) c lg lc) (pc + 3) L st) : Wg Z P pc L (.int v :: .ref (ad 0) :: st) := rX_put (k := 6) C hμ V (by decide) q_21 rfl (by decide +kernel) rfl (by simp [fsX, upd]) hd kk
theorem rX_g28 (C : CG Z E μ A) (hμ : μ.1.cls = R_X) (V : ∀ H, P H → pX E A' ad n g c lg lc H) (hd : decode μ.2.1 pc = .ok (.getfield 28, 3)) (kk : Wg Z P (pc + 3) L (.ref (ad 5) :: st)) : Wg Z P pc L (.ref (ad 0) :: st) := rX_get (k := 7) C hμ V (by decide) q_22 rfl rfl hd kk
theorem rX_g122 (C : CG Z E μ A) (hμ : μ.1.cls = R_X) (V : ∀ H, P H → pX E A' ad n g c lg lc H) (hd : decode μ.2.1 pc = .ok (.getfield 122, 3)) (kk : Wg Z P (pc + 3) L (.int (g 2) :: st)) : Wg Z P pc L (.ref (ad 0) :: st) := rX_get (k := 8) C hμ V (by decide) q_23 rfl rfl hd kk
theorem rX_p122 {v : Int32} (C : CG Z E μ A) (hμ : μ.1.cls = R_X) (V : ∀ H, P H → pX E A ad n g c lg lc H) (hd : decode μ.2.1 pc = .ok (.putfield 122, 3)) (kk : Wg Z (pX E A ad n (upd g 2 v) c lg lc) (pc + 3) L st) : Wg Z P pc L (.int v :: .ref (ad 0) :: st) := rX_put (k := 8) C hμ V (by decide) q_23 rfl (by decide +kernel) rfl (by simp [fsX, upd]) hd kk
theorem rX_g125 (C : CG Z E μ A) (hμ : μ.1.cls = R_X) (V : ∀ H, P H → pX E A' ad n g c lg lc H) (hd : decode μ.2.1 pc = .ok (.getfield 125, 3)) (kk : Wg Z P (pc + 3) L (.int (g 3) :: st)) : Wg Z P pc L (.ref (ad 0) :: st) := rX_get (k := 9) C hμ V (by decide) q_24 rfl rfl hd kk
theorem rX_p125 {v : Int32} (C : CG Z E μ A) (hμ : μ.1.cls = R_X) (V : ∀ H, P H → pX E A ad n g c lg lc H) (hd : decode μ.2.1 pc = .ok (.putfield 125, 3)) (kk : Wg Z (pX E A ad n (upd g 3 v) c lg lc) (pc + 3) L st) : Wg Z P pc L (.int v :: .ref (ad 0) :: st) := rX_put (k := 9) C hμ V (by decide) q_24 rfl (by decide +kernel) rfl (by simp [fsX, upd]) hd kk
theorem rX_g32 (C : CG Z E μ A) (hμ : μ.1.cls = R_X) (V : ∀ H, P H → pX E A' ad n g c lg lc H) (hd : decode μ.2.1 pc = .ok (.getfield 32, 3)) (kk : Wg Z P (pc + 3) L (.ref (ad 6) :: st)) : Wg Z P pc L (.ref (ad 0) :: st) := rX_get (k := 10) C hμ V (by decide) q_25 rfl rfl hd kk
theorem rX_g35 (C : CG Z E μ A) (hμ : μ.1.cls = R_X) (V : ∀ H, P H → pX E A' ad n g c lg lc H) (hd : decode μ.2.1 pc = .ok (.getfield 35, 3)) (kk : Wg Z P (pc + 3) L (.ref (ad 7) :: st)) : Wg Z P pc L (.ref (ad 0) :: st) := rX_get (k := 11) C hμ V (by decide) q_26 rfl rfl hd kk
theorem rX_g94 (C : CG Z E μ A) (hμ : μ.1.cls = R_X) (V : ∀ H, P H → pX E A' ad n g c lg lc H) (hd : decode μ.2.1 pc = .ok (.getfield 94, 3)) (kk : Wg Z P (pc + 3) L (.int (g 4) :: st)) : Wg Z P pc L (.ref (ad 0) :: st) := rX_get (k := 12) C hμ V (by decide) q_27 rfl rfl hd kk
theorem rX_p94 {v : Int32} (C : CG Z E μ A) (hμ : μ.1.cls = R_X) (V : ∀ H, P H → pX E A ad n g c lg lc H) (hd : decode μ.2.1 pc = .ok (.putfield 94, 3)) (kk : Wg Z (pX E A ad n (upd g 4 v) c lg lc) (pc + 3) L st) : Wg Z P pc L (.int v :: .ref (ad 0) :: st) := rX_put (k := 12) C hμ V (by decide) q_27 rfl (by decide +kernel) rfl (by simp [fsX, upd]) hd kk
theorem rX_g38 (C : CG Z E μ A) (hμ : μ.1.cls = R_X) (V : ∀ H, P H → pX E A' ad n g c lg lc H) (hd : decode μ.2.1 pc = .ok (.getfield 38, 3)) (kk : Wg Z P (pc + 3) L (.ref (ad 8) :: st)) : Wg Z P pc L (.ref (ad 0) :: st) := rX_get (k := 13) C hμ V (by decide) q_28 rfl rfl hd kk
theorem rX_g131 (C : CG Z E μ A) (hμ : μ.1.cls = R_X) (V : ∀ H, P H → pX E A' ad n g c lg lc H) (hd : decode μ.2.1 pc = .ok (.getfield 131, 3)) (kk : Wg Z P (pc + 3) L (.int (g 5) :: st)) : Wg Z P pc L (.ref (ad 0) :: st) := rX_get (k := 14) C hμ V (by decide) q_29 rfl rfl hd kk
theorem rX_p131 {v : Int32} (C : CG Z E μ A) (hμ : μ.1.cls = R_X) (V : ∀ H, P H → pX E A ad n g c lg lc H) (hd : decode μ.2.1 pc = .ok (.putfield 131, 3)) (kk : Wg Z (pX E A ad n (upd g 5 v) c lg lc) (pc + 3) L st) : Wg Z P pc L (.int v :: .ref (ad 0) :: st) := rX_put (k := 14) C hμ V (by decide) q_29 rfl (by decide +kernel) rfl (by simp [fsX, upd]) hd kk
theorem rX_g41 (C : CG Z E μ A) (hμ : μ.1.cls = R_X) (V : ∀ H, P H → pX E A' ad n g c lg lc H) (hd : decode μ.2.1 pc = .ok (.getfield 41, 3)) (kk : Wg Z P (pc + 3) L (.ref (ad 9) :: st)) : Wg Z P pc L (.ref (ad 0) :: st) := rX_get (k := 15) C hμ V (by decide) q_30 rfl rfl hd kk
theorem rX_g44 (C : CG Z E μ A) (hμ : μ.1.cls = R_X) (V : ∀ H, P H → pX E A' ad n g c lg lc H) (hd : decode μ.2.1 pc = .ok (.getfield 44, 3)) (kk : Wg Z P (pc + 3) L (.ref (ad 10) :: st)) : Wg Z P pc L (.ref (ad 0) :: st) := rX_get (k := 16) C hμ V (by decide) q_31 rfl rfl hd kk
theorem rX_g47 (C : CG Z E μ A) (hμ : μ.1.cls = R_X) (V : ∀ H, P H → pX E A' ad n g c lg lc H) (hd : decode μ.2.1 pc = .ok (.getfield 47, 3)) (kk : Wg Z P (pc + 3) L (.ref (ad 11) :: st)) : Wg Z P pc L (.ref (ad 0) :: st) := rX_get (k := 17) C hμ V (by decide) q_32 rfl rfl hd kk
theorem rX_g50 (C : CG Z E μ A) (hμ : μ.1.cls = R_X) (V : ∀ H, P H → pX E A' ad n g c lg lc H) (hd : decode μ.2.1 pc = .ok (.getfield 50, 3)) (kk : Wg Z P (pc + 3) L (.ref (ad 12) :: st)) : Wg Z P pc L (.ref (ad 0) :: st) := rX_get (k := 18) C hμ V (by decide) q_33 rfl rfl hd kk
theorem rX_g134 (C : CG Z E μ A) (hμ : μ.1.cls = R_X) (V : ∀ H, P H → pX E A' ad n g c lg lc H) (hd : decode μ.2.1 pc = .ok (.getfield 134, 3)) (kk : Wg Z P (pc + 3) L (.int (g 6) :: st)) : Wg Z P pc L (.ref (ad 0) :: st) := rX_get (k := 19) C hμ V (by decide) q_34 rfl rfl hd kk
theorem rX_p134 {v : Int32} (C : CG Z E μ A) (hμ : μ.1.cls = R_X) (V : ∀ H, P H → pX E A ad n g c lg lc H) (hd : decode μ.2.1 pc = .ok (.putfield 134, 3)) (kk : Wg Z (pX E A ad n (upd g 6 v) c lg lc) (pc + 3) L st) : Wg Z P pc L (.int v :: .ref (ad 0) :: st) := rX_put (k := 19) C hμ V (by decide) q_34 rfl (by decide +kernel) rfl (by simp [fsX, upd]) hd kk
theorem rX_g53 (C : CG Z E μ A) (hμ : μ.1.cls = R_X) (V : ∀ H, P H → pX E A' ad n g c lg lc H) (hd : decode μ.2.1 pc = .ok (.getfield 53, 3)) (kk : Wg Z P (pc + 3) L (.ref (ad 13) :: st)) : Wg Z P pc L (.ref (ad 0) :: st) := rX_get (k := 20) C hμ V (by decide) q_35 rfl rfl hd kk
theorem rX_g56 (C : CG Z E μ A) (hμ : μ.1.cls = R_X) (V : ∀ H, P H → pX E A' ad n g c lg lc H) (hd : decode μ.2.1 pc = .ok (.getfield 56, 3)) (kk : Wg Z P (pc + 3) L (.ref (ad 14) :: st)) : Wg Z P pc L (.ref (ad 0) :: st) := rX_get (k := 21) C hμ V (by decide) q_36 rfl rfl hd kk
theorem rX_g59 (C : CG Z E μ A) (hμ : μ.1.cls = R_X) (V : ∀ H, P H → pX E A' ad n g c lg lc H) (hd : decode μ.2.1 pc = .ok (.getfield 59, 3)) (kk : Wg Z P (pc + 3) L (.ref (ad 15) :: st)) : Wg Z P pc L (.ref (ad 0) :: st) := rX_get (k := 22) C hμ V (by decide) q_37 rfl rfl hd kk
theorem rX_g159 (C : CG Z E μ A) (hμ : μ.1.cls = R_X) (V : ∀ H, P H → pX E A' ad n g c lg lc H) (hd : decode μ.2.1 pc = .ok (.getfield 159, 3)) (kk : Wg Z P (pc + 3) L (.int (g 7) :: st)) : Wg Z P pc L (.ref (ad 0) :: st) := rX_get (k := 23) C hμ V (by decide) q_38 rfl rfl hd kk
theorem rX_p159 {v : Int32} (C : CG Z E μ A) (hμ : μ.1.cls = R_X) (V : ∀ H, P H → pX E A ad n g c lg lc H) (hd : decode μ.2.1 pc = .ok (.putfield 159, 3)) (kk : Wg Z (pX E A ad n (upd g 7 v) c lg lc) (pc + 3) L st) : Wg Z P pc L (.int v :: .ref (ad 0) :: st) := rX_put (k := 23) C hμ V (by decide) q_38 rfl (by decide +kernel) rfl (by simp [fsX, upd]) hd kk
theorem rM_g65 (C : CG Z E μ A) (hμ : μ.1.cls = R_M) (V : ∀ H, P H → pM E A' ad g c H) (hd : decode μ.2.1 pc = .ok (.getfield 65, 3)) (kk : Wg Z P (pc + 3) L (.int (g 0) :: st)) : Wg Z P pc L (.ref (ad 0) :: st) := rM_get (k := 0) C hμ V (by decide) q_239 rfl rfl hd kk
theorem rM_p65 {v : Int32} (C : CG Z E μ A) (hμ : μ.1.cls = R_M) (V : ∀ H, P H → pM E A ad g c H) (hd : decode μ.2.1 pc = .ok (.putfield 65, 3)) (kk : Wg Z (pM E A ad (upd g 0 v) c) (pc + 3) L st) : Wg Z P pc L (.int v :: .ref (ad 0) :: st) := rM_put (k := 0) C hμ V (by decide) q_239 rfl (by decide +kernel) rfl (by simp [fsM, upd]) hd kk
theorem rM_g7 (C : CG Z E μ A) (hμ : μ.1.cls = R_M) (V : ∀ H, P H → pM E A' ad g c H) (hd : decode μ.2.1 pc = .ok (.getfield 7, 3)) (kk : Wg Z P (pc + 3) L (.ref (ad 1) :: st)) : Wg Z P pc L (.ref (ad 0) :: st) := rM_get (k := 1) C hμ V (by decide) q_240 rfl rfl hd kk
theorem rM_g13 (C : CG Z E μ A) (hμ : μ.1.cls = R_M) (V : ∀ H, P H → pM E A' ad g c H) (hd : decode μ.2.1 pc = .ok (.getfield 13, 3)) (kk : Wg Z P (pc + 3) L (.ref (ad 2) :: st)) : Wg Z P pc L (.ref (ad 0) :: st) := rM_get (k := 2) C hμ V (by decide) q_241 rfl rfl hd kk
theorem rM_g17 (C : CG Z E μ A) (hμ : μ.1.cls = R_M) (V : ∀ H, P H → pM E A' ad g c H) (hd : decode μ.2.1 pc = .ok (.getfield 17, 3)) (kk : Wg Z P (pc + 3) L (.ref (ad 3) :: st)) : Wg Z P pc L (.ref (ad 0) :: st) := rM_get (k := 3) C hμ V (by decide) q_242 rfl rfl hd kk
theorem rM_g20 (C : CG Z E μ A) (hμ : μ.1.cls = R_M) (V : ∀ H, P H → pM E A' ad g c H) (hd : decode μ.2.1 pc = .ok (.getfield 20, 3)) (kk : Wg Z P (pc + 3) L (.ref (ad 4) :: st)) : Wg Z P pc L (.ref (ad 0) :: st) := rM_get (k := 4) C hμ V (by decide) q_243 rfl rfl hd kk
theorem rM_g23 (C : CG Z E μ A) (hμ : μ.1.cls = R_M) (V : ∀ H, P H → pM E A' ad g c H) (hd : decode μ.2.1 pc = .ok (.getfield 23, 3)) (kk : Wg Z P (pc + 3) L (.ref (ad 5) :: st)) : Wg Z P pc L (.ref (ad 0) :: st) := rM_get (k := 5) C hμ V (by decide) q_244 rfl rfl hd kk
theorem rM_g77 (C : CG Z E μ A) (hμ : μ.1.cls = R_M) (V : ∀ H, P H → pM E A' ad g c H) (hd : decode μ.2.1 pc = .ok (.getfield 77, 3)) (kk : Wg Z P (pc + 3) L (.int (g 1) :: st)) : Wg Z P pc L (.ref (ad 0) :: st) := rM_get (k := 6) C hμ V (by decide) q_245 rfl rfl hd kk
theorem rM_p77 {v : Int32} (C : CG Z E μ A) (hμ : μ.1.cls = R_M) (V : ∀ H, P H → pM E A ad g c H) (hd : decode μ.2.1 pc = .ok (.putfield 77, 3)) (kk : Wg Z (pM E A ad (upd g 1 v) c) (pc + 3) L st) : Wg Z P pc L (.int v :: .ref (ad 0) :: st) := rM_put (k := 6) C hμ V (by decide) q_245 rfl (by decide +kernel) rfl (by simp [fsM, upd]) hd kk
theorem rM_g26 (C : CG Z E μ A) (hμ : μ.1.cls = R_M) (V : ∀ H, P H → pM E A' ad g c H) (hd : decode μ.2.1 pc = .ok (.getfield 26, 3)) (kk : Wg Z P (pc + 3) L (.ref (ad 6) :: st)) : Wg Z P pc L (.ref (ad 0) :: st) := rM_get (k := 7) C hμ V (by decide) q_246 rfl rfl hd kk
theorem rM_g29 (C : CG Z E μ A) (hμ : μ.1.cls = R_M) (V : ∀ H, P H → pM E A' ad g c H) (hd : decode μ.2.1 pc = .ok (.getfield 29, 3)) (kk : Wg Z P (pc + 3) L (.ref (ad 7) :: st)) : Wg Z P pc L (.ref (ad 0) :: st) := rM_get (k := 8) C hμ V (by decide) q_247 rfl rfl hd kk
theorem rM_g80 (C : CG Z E μ A) (hμ : μ.1.cls = R_M) (V : ∀ H, P H → pM E A' ad g c H) (hd : decode μ.2.1 pc = .ok (.getfield 80, 3)) (kk : Wg Z P (pc + 3) L (.int (g 2) :: st)) : Wg Z P pc L (.ref (ad 0) :: st) := rM_get (k := 9) C hμ V (by decide) q_248 rfl rfl hd kk
theorem rM_p80 {v : Int32} (C : CG Z E μ A) (hμ : μ.1.cls = R_M) (V : ∀ H, P H → pM E A ad g c H) (hd : decode μ.2.1 pc = .ok (.putfield 80, 3)) (kk : Wg Z (pM E A ad (upd g 2 v) c) (pc + 3) L st) : Wg Z P pc L (.int v :: .ref (ad 0) :: st) := rM_put (k := 9) C hμ V (by decide) q_248 rfl (by decide +kernel) rfl (by simp [fsM, upd]) hd kk
theorem rM_g91 (C : CG Z E μ A) (hμ : μ.1.cls = R_M) (V : ∀ H, P H → pM E A' ad g c H) (hd : decode μ.2.1 pc = .ok (.getfield 91, 3)) (kk : Wg Z P (pc + 3) L (.int (g 3) :: st)) : Wg Z P pc L (.ref (ad 0) :: st) := rM_get (k := 10) C hμ V (by decide) q_249 rfl rfl hd kk
theorem rM_p91 {v : Int32} (C : CG Z E μ A) (hμ : μ.1.cls = R_M) (V : ∀ H, P H → pM E A ad g c H) (hd : decode μ.2.1 pc = .ok (.putfield 91, 3)) (kk : Wg Z (pM E A ad (upd g 3 v) c) (pc + 3) L st) : Wg Z P pc L (.int v :: .ref (ad 0) :: st) := rM_put (k := 10) C hμ V (by decide) q_249 rfl (by decide +kernel) rfl (by simp [fsM, upd]) hd kk
theorem rM_g32 (C : CG Z E μ A) (hμ : μ.1.cls = R_M) (V : ∀ H, P H → pM E A' ad g c H) (hd : decode μ.2.1 pc = .ok (.getfield 32, 3)) (kk : Wg Z P (pc + 3) L (.ref (ad 8) :: st)) : Wg Z P pc L (.ref (ad 0) :: st) := rM_get (k := 11) C hμ V (by decide) q_250 rfl rfl hd kk
theorem rM_g35 (C : CG Z E μ A) (hμ : μ.1.cls = R_M) (V : ∀ H, P H → pM E A' ad g c H) (hd : decode μ.2.1 pc = .ok (.getfield 35, 3)) (kk : Wg Z P (pc + 3) L (.ref (ad 9) :: st)) : Wg Z P pc L (.ref (ad 0) :: st) := rM_get (k := 12) C hμ V (by decide) q_251 rfl rfl hd kk
theorem rM_g38 (C : CG Z E μ A) (hμ : μ.1.cls = R_M) (V : ∀ H, P H → pM E A' ad g c H) (hd : decode μ.2.1 pc = .ok (.getfield 38, 3)) (kk : Wg Z P (pc + 3) L (.ref (ad 10) :: st)) : Wg Z P pc L (.ref (ad 0) :: st) := rM_get (k := 13) C hμ V (by decide) q_252 rfl rfl hd kk
theorem rM_g41 (C : CG Z E μ A) (hμ : μ.1.cls = R_M) (V : ∀ H, P H → pM E A' ad g c H) (hd : decode μ.2.1 pc = .ok (.getfield 41, 3)) (kk : Wg Z P (pc + 3) L (.ref (ad 11) :: st)) : Wg Z P pc L (.ref (ad 0) :: st) := rM_get (k := 14) C hμ V (by decide) q_253 rfl rfl hd kk
theorem rM_g97 (C : CG Z E μ A) (hμ : μ.1.cls = R_M) (V : ∀ H, P H → pM E A' ad g c H) (hd : decode μ.2.1 pc = .ok (.getfield 97, 3)) (kk : Wg Z P (pc + 3) L (.int (g 4) :: st)) : Wg Z P pc L (.ref (ad 0) :: st) := rM_get (k := 15) C hμ V (by decide) q_254 rfl rfl hd kk
theorem rM_p97 {v : Int32} (C : CG Z E μ A) (hμ : μ.1.cls = R_M) (V : ∀ H, P H → pM E A ad g c H) (hd : decode μ.2.1 pc = .ok (.putfield 97, 3)) (kk : Wg Z (pM E A ad (upd g 4 v) c) (pc + 3) L st) : Wg Z P pc L (.int v :: .ref (ad 0) :: st) := rM_put (k := 15) C hμ V (by decide) q_254 rfl (by decide +kernel) rfl (by simp [fsM, upd]) hd kk
theorem rM_g44 (C : CG Z E μ A) (hμ : μ.1.cls = R_M) (V : ∀ H, P H → pM E A' ad g c H) (hd : decode μ.2.1 pc = .ok (.getfield 44, 3)) (kk : Wg Z P (pc + 3) L (.ref (ad 12) :: st)) : Wg Z P pc L (.ref (ad 0) :: st) := rM_get (k := 16) C hμ V (by decide) q_255 rfl rfl hd kk
theorem rM_g47 (C : CG Z E μ A) (hμ : μ.1.cls = R_M) (V : ∀ H, P H → pM E A' ad g c H) (hd : decode μ.2.1 pc = .ok (.getfield 47, 3)) (kk : Wg Z P (pc + 3) L (.ref (ad 13) :: st)) : Wg Z P pc L (.ref (ad 0) :: st) := rM_get (k := 17) C hμ V (by decide) q_256 rfl rfl hd kk
theorem rM_g50 (C : CG Z E μ A) (hμ : μ.1.cls = R_M) (V : ∀ H, P H → pM E A' ad g c H) (hd : decode μ.2.1 pc = .ok (.getfield 50, 3)) (kk : Wg Z P (pc + 3) L (.ref (ad 14) :: st)) : Wg Z P pc L (.ref (ad 0) :: st) := rM_get (k := 18) C hμ V (by decide) q_257 rfl rfl hd kk
theorem rM_g53 (C : CG Z E μ A) (hμ : μ.1.cls = R_M) (V : ∀ H, P H → pM E A' ad g c H) (hd : decode μ.2.1 pc = .ok (.getfield 53, 3)) (kk : Wg Z P (pc + 3) L (.ref (ad 15) :: st)) : Wg Z P pc L (.ref (ad 0) :: st) := rM_get (k := 19) C hμ V (by decide) q_258 rfl rfl hd kk
theorem rM_g94 (C : CG Z E μ A) (hμ : μ.1.cls = R_M) (V : ∀ H, P H → pM E A' ad g c H) (hd : decode μ.2.1 pc = .ok (.getfield 94, 3)) (kk : Wg Z P (pc + 3) L (.int (g 5) :: st)) : Wg Z P pc L (.ref (ad 0) :: st) := rM_get (k := 20) C hμ V (by decide) q_259 rfl rfl hd kk
theorem rM_p94 {v : Int32} (C : CG Z E μ A) (hμ : μ.1.cls = R_M) (V : ∀ H, P H → pM E A ad g c H) (hd : decode μ.2.1 pc = .ok (.putfield 94, 3)) (kk : Wg Z (pM E A ad (upd g 5 v) c) (pc + 3) L st) : Wg Z P pc L (.int v :: .ref (ad 0) :: st) := rM_put (k := 20) C hμ V (by decide) q_259 rfl (by decide +kernel) rfl (by simp [fsM, upd]) hd kk
theorem rM_g56 (C : CG Z E μ A) (hμ : μ.1.cls = R_M) (V : ∀ H, P H → pM E A' ad g c H) (hd : decode μ.2.1 pc = .ok (.getfield 56, 3)) (kk : Wg Z P (pc + 3) L (.ref (ad 16) :: st)) : Wg Z P pc L (.ref (ad 0) :: st) := rM_get (k := 21) C hμ V (by decide) q_260 rfl rfl hd kk
theorem rM_g59 (C : CG Z E μ A) (hμ : μ.1.cls = R_M) (V : ∀ H, P H → pM E A' ad g c H) (hd : decode μ.2.1 pc = .ok (.getfield 59, 3)) (kk : Wg Z P (pc + 3) L (.ref (ad 17) :: st)) : Wg Z P pc L (.ref (ad 0) :: st) := rM_get (k := 22) C hμ V (by decide) q_261 rfl rfl hd kk
theorem rM_g110 (C : CG Z E μ A) (hμ : μ.1.cls = R_M) (V : ∀ H, P H → pM E A' ad g c H) (hd : decode μ.2.1 pc = .ok (.getfield 110, 3)) (kk : Wg Z P (pc + 3) L (.int (g 6) :: st)) : Wg Z P pc L (.ref (ad 0) :: st) := rM_get (k := 23) C hμ V (by decide) q_262 rfl rfl hd kk
theorem rM_p110 {v : Int32} (C : CG Z E μ A) (hμ : μ.1.cls = R_M) (V : ∀ H, P H → pM E A ad g c H) (hd : decode μ.2.1 pc = .ok (.putfield 110, 3)) (kk : Wg Z (pM E A ad (upd g 6 v) c) (pc + 3) L st) : Wg Z P pc L (.int v :: .ref (ad 0) :: st) := rM_put (k := 23) C hμ V (by decide) q_262 rfl (by decide +kernel) rfl (by simp [fsM, upd]) hd kk
theorem rM_g62 (C : CG Z E μ A) (hμ : μ.1.cls = R_M) (V : ∀ H, P H → pM E A' ad g c H) (hd : decode μ.2.1 pc = .ok (.getfield 62, 3)) (kk : Wg Z P (pc + 3) L (.ref (ad 18) :: st)) : Wg Z P pc L (.ref (ad 0) :: st) := rM_get (k := 24) C hμ V (by decide) q_263 rfl rfl hd kk
theorem rG_g74 {i : Nat} (C : CG Z E μ A) (hμ : μ.1.cls = R_X) (V : ∀ H, P H → pX E A' ad n g c lg lc H) (hi : i < n) (hd : decode μ.2.1 pc = .ok (.getfield 74, 3)) (kk : Wg Z P (pc + 3) L (.ref (ad (gL i)) :: st)) : Wg Z P pc L (.ref (ad (gO i)) :: st) := rG_get (k := 0) C hμ V hi (by decide) (by decide +kernel) rfl rfl hd kk
theorem rG_g77 {i : Nat} (C : CG Z E μ A) (hμ : μ.1.cls = R_X) (V : ∀ H, P H → pX E A' ad n g c lg lc H) (hi : i < n) (hd : decode μ.2.1 pc = .ok (.getfield 77, 3)) (kk : Wg Z P (pc + 3) L (.ref (ad (gC i)) :: st)) : Wg Z P pc L (.ref (ad (gO i)) :: st) := rG_get (k := 1) C hμ V hi (by decide) (by decide +kernel) rfl rfl hd kk
theorem rG_g81 {i : Nat} (C : CG Z E μ A) (hμ : μ.1.cls = R_X) (V : ∀ H, P H → pX E A' ad n g c lg lc H) (hi : i < n) (hd : decode μ.2.1 pc = .ok (.getfield 81, 3)) (kk : Wg Z P (pc + 3) L (.int (lg i 0) :: st)) : Wg Z P pc L (.ref (ad (gO i)) :: st) := rG_get (k := 2) C hμ V hi (by decide) (by decide +kernel) rfl rfl hd kk
theorem rG_p81 {i : Nat} {v : Int32} (C : CG Z E μ A) (hμ : μ.1.cls = R_X) (V : ∀ H, P H → pX E A ad n g c lg lc H) (hi : i < n) (hd : decode μ.2.1 pc = .ok (.putfield 81, 3)) (kk : Wg Z (pX E A ad n g c (setA lg i (upd (lg i) 0 v)) lc) (pc + 3) L st) : Wg Z P pc L (.int v :: .ref (ad (gO i)) :: st) := rG_put (k := 2) (ty := .int) C hμ V hi (by decide) (by decide +kernel) rfl (by decide +kernel) rfl rfl rfl (by simp [fsG, setA, upd]) hd kk
theorem rG_g84 {i : Nat} (C : CG Z E μ A) (hμ : μ.1.cls = R_X) (V : ∀ H, P H → pX E A' ad n g c lg lc H) (hi : i < n) (hd : decode μ.2.1 pc = .ok (.getfield 84, 3)) (kk : Wg Z P (pc + 3) L (.int (lg i 1) :: st)) : Wg Z P pc L (.ref (ad (gO i)) :: st) := rG_get (k := 3) C hμ V hi (by decide) (by decide +kernel) rfl rfl hd kk
theorem rG_p84 {i : Nat} {v : Int32} (C : CG Z E μ A) (hμ : μ.1.cls = R_X) (V : ∀ H, P H → pX E A ad n g c lg lc H) (hi : i < n) (hd : decode μ.2.1 pc = .ok (.putfield 84, 3)) (kk : Wg Z (pX E A ad n g c (setA lg i (upd (lg i) 1 v)) lc) (pc + 3) L st) : Wg Z P pc L (.int v :: .ref (ad (gO i)) :: st) := rG_put (k := 3) (ty := .int) C hμ V hi (by decide) (by decide +kernel) rfl (by decide +kernel) rfl rfl rfl (by simp [fsG, setA, upd]) hd kk
theorem rG_g87 {i : Nat} (C : CG Z E μ A) (hμ : μ.1.cls = R_X) (V : ∀ H, P H → pX E A' ad n g c lg lc H) (hi : i < n) (hd : decode μ.2.1 pc = .ok (.getfield 87, 3)) (kk : Wg Z P (pc + 3) L (.int (lg i 2) :: st)) : Wg Z P pc L (.ref (ad (gO i)) :: st) := rG_get (k := 4) C hμ V hi (by decide) (by decide +kernel) rfl rfl hd kk
theorem rG_p87 {i : Nat} {v : Int32} (C : CG Z E μ A) (hμ : μ.1.cls = R_X) (V : ∀ H, P H → pX E A ad n g c lg lc H) (hi : i < n) (hv : v = 0 ∨ v = 1) (hd : decode μ.2.1 pc = .ok (.putfield 87, 3)) (kk : Wg Z (pX E A ad n g c (setA lg i (upd (lg i) 2 v)) lc) (pc + 3) L st) : Wg Z P pc L (.int v :: .ref (ad (gO i)) :: st) := rG_put (k := 4) (ty := .boolean) C hμ V hi (by decide) (by decide +kernel) rfl (by decide +kernel) rfl (by rcases hv with rfl | rfl <;> rfl) (by rcases hv with rfl | rfl <;> rfl) (by simp [fsG, setA, upd]) hd kk
theorem rG_g97 {i : Nat} (C : CG Z E μ A) (hμ : μ.1.cls = R_X) (V : ∀ H, P H → pX E A' ad n g c lg lc H) (hi : i < n) (hd : decode μ.2.1 pc = .ok (.getfield 97, 3)) (kk : Wg Z P (pc + 3) L (.int (lg i 3) :: st)) : Wg Z P pc L (.ref (ad (gO i)) :: st) := rG_get (k := 5) C hμ V hi (by decide) (by decide +kernel) rfl rfl hd kk
theorem rG_p97 {i : Nat} {v : Int32} (C : CG Z E μ A) (hμ : μ.1.cls = R_X) (V : ∀ H, P H → pX E A ad n g c lg lc H) (hi : i < n) (hd : decode μ.2.1 pc = .ok (.putfield 97, 3)) (kk : Wg Z (pX E A ad n g c (setA lg i (upd (lg i) 3 v)) lc) (pc + 3) L st) : Wg Z P pc L (.int v :: .ref (ad (gO i)) :: st) := rG_put (k := 5) (ty := .int) C hμ V hi (by decide) (by decide +kernel) rfl (by decide +kernel) rfl rfl rfl (by simp [fsG, setA, upd]) hd kk
theorem pX_recv {s : State} {H : Heap} (hp : pX E A' ad n g c lg lc H) (hK : eK E s) : ∃ cell : Cell, H[ad 0]? = some cell ∧ cell.vm.isStatics = false ∧ s.vm.findClass R_X = some cell.cls := va_recv hK.1 hp.1 (ci := 0) (q0 := 0) (q := (R_X, F_X, 24)) rfl wX_0
theorem pM_recv {s : State} {H : Heap} (hp : pM E A' ad g c H) (hK : eK E s) : ∃ cell : Cell, H[ad 0]? = some cell ∧ cell.vm.isStatics = false ∧ s.vm.findClass R_M = some cell.cls := va_recv hK.1 hp.1 (ci := 2) (q0 := 0) (q := (R_M, F_M, 25)) rfl wM_0
end WorldRows
end
section
-- methods with their rooms
abbrev mX_init : mD := (y_X_init, b_X_init, 1, none, { frames := 1, cells := 16, slots := 7023, locals := 20 })
abbrev mX_language : mD := (y_X_language, b_X_language, 1, (some .int), { frames := 2, cells := 3, slots := 518, locals := 40 })
abbrev mG_init : mD := (y_G_init, b_G_init, 1, none, { frames := 1, cells := 2, slots := 512, locals := 20 })
abbrev mX_code : mD := (y_X_code, b_X_code, 5, (some .int), { frames := 1, cells := 0, slots := 0, locals := 21 })
abbrev mX_isLanguage : mD := (y_X_isLanguage, b_X_isLanguage, 2, (some .boolean), { frames := 0, cells := 0, slots := 0, locals := 0 })
abbrev mX_isSign : mD := (y_X_isSign, b_X_isSign, 1, (some .boolean), { frames := 0, cells := 0, slots := 0, locals := 0 })
abbrev mX_ends : mD := (y_X_ends, b_X_ends, 5, (some .int), { frames := 1, cells := 0, slots := 0, locals := 21 })
abbrev mX_next : mD := (y_X_next, b_X_next, 3, (some .int), { frames := 1, cells := 0, slots := 0, locals := 20 })
abbrev mX_isDigit : mD := (y_X_isDigit, b_X_isDigit, 1, (some .boolean), { frames := 0, cells := 0, slots := 0, locals := 0 })
abbrev mX_pattern : mD := (y_X_pattern, b_X_pattern, 4, (some .int), { frames := 3, cells := 0, slots := 0, locals := 73 })
abbrev mX_isPattern : mD := (y_X_isPattern, b_X_isPattern, 4, (some .boolean), { frames := 0, cells := 0, slots := 0, locals := 0 })
abbrev mX_put : mD := (y_X_put, b_X_put, 6, (some .int), { frames := 2, cells := 0, slots := 0, locals := 48 })
abbrev mX_endOf : mD := (y_X_endOf, b_X_endOf, 4, (some .int), { frames := 1, cells := 0, slots := 0, locals := 24 })
abbrev mX_under : mD := (y_X_under, b_X_under, 5, (some .int), { frames := 0, cells := 0, slots := 0, locals := 0 })
abbrev mX_grow : mD := (y_X_grow, b_X_grow, 5, (some .int), { frames := 1, cells := 0, slots := 0, locals := 24 })
abbrev mX_made : mD := (y_X_made, b_X_made, 5, (some .int), { frames := 0, cells := 0, slots := 0, locals := 0 })
abbrev mX_sign : mD := (y_X_sign, b_X_sign, 2, (some .int), { frames := 1, cells := 0, slots := 0, locals := 20 })
abbrev mX_clear : mD := (y_X_clear, b_X_clear, 2, (some .int), { frames := 0, cells := 0, slots := 0, locals := 0 })
abbrev mX_exception : mD := (y_X_exception, b_X_exception, 5, (some .int), { frames := 2, cells := 0, slots := 0, locals := 46 })
abbrev mX_spell : mD := (y_X_spell, b_X_spell, 3, (some .boolean), { frames := 0, cells := 0, slots := 0, locals := 0 })
abbrev mX_find : mD := (y_X_find, b_X_find, 3, (some .int), { frames := 1, cells := 0, slots := 0, locals := 24 })
abbrev mX_isException : mD := (y_X_isException, b_X_isException, 5, (some .boolean), { frames := 0, cells := 0, slots := 0, locals := 0 })
abbrev mX_drop : mD := (y_X_drop, b_X_drop, 4, (some .int), { frames := 0, cells := 0, slots := 0, locals := 0 })
abbrev mX_run : mD := (y_X_run, b_X_run, 4, (some .int), { frames := 3, cells := 0, slots := 0, locals := 72 })
abbrev mX_weigh : mD := (y_X_weigh, b_X_weigh, 7, none, { frames := 2, cells := 0, slots := 0, locals := 46 })
abbrev mX_raise : mD := (y_X_raise, b_X_raise, 5, none, { frames := 1, cells := 0, slots := 0, locals := 21 })
abbrev mX_at : mD := (y_X_at, b_X_at, 2, (some .int), { frames := 0, cells := 0, slots := 0, locals := 0 })
abbrev mX_digit : mD := (y_X_digit, b_X_digit, 3, (some .int), { frames := 3, cells := 0, slots := 0, locals := 72 })
abbrev mX_patterns : mD := (y_X_patterns, b_X_patterns, 1, (some .int), { frames := 0, cells := 0, slots := 0, locals := 0 })
abbrev mX_exceptions : mD := (y_X_exceptions, b_X_exceptions, 1, (some .int), { frames := 0, cells := 0, slots := 0, locals := 0 })
abbrev mM_init : mD := (y_M_init, b_M_init, 1, none, { frames := 1, cells := 18, slots := 7549, locals := 20 })
abbrev mM_language : mD := (y_M_language, b_M_language, 1, (some .int), { frames := 0, cells := 0, slots := 0, locals := 0 })
abbrev mM_code : mD := (y_M_code, b_M_code, 5, (some .int), { frames := 1, cells := 0, slots := 0, locals := 22 })
abbrev mM_isLanguage : mD := (y_M_isLanguage, b_M_isLanguage, 2, (some .boolean), { frames := 0, cells := 0, slots := 0, locals := 0 })
abbrev mM_in : mD := (y_M_in, b_M_in, 3, (some .boolean), { frames := 0, cells := 0, slots := 0, locals := 0 })
abbrev mM_ends : mD := (y_M_ends, b_M_ends, 5, (some .int), { frames := 1, cells := 0, slots := 0, locals := 22 })
abbrev mM_next : mD := (y_M_next, b_M_next, 3, (some .int), { frames := 1, cells := 0, slots := 0, locals := 22 })
abbrev mM_pattern : mD := (y_M_pattern, b_M_pattern, 7, (some .int), { frames := 1, cells := 0, slots := 0, locals := 24 })
abbrev mM_isSame : mD := (y_M_isSame, b_M_isSame, 5, (some .boolean), { frames := 0, cells := 0, slots := 0, locals := 0 })
abbrev mM_isPattern : mD := (y_M_isPattern, b_M_isPattern, 4, (some .boolean), { frames := 0, cells := 0, slots := 0, locals := 0 })
abbrev mM_sign : mD := (y_M_sign, b_M_sign, 2, (some .int), { frames := 1, cells := 0, slots := 0, locals := 22 })
abbrev mM_clear : mD := (y_M_clear, b_M_clear, 2, (some .int), { frames := 0, cells := 0, slots := 0, locals := 0 })
abbrev mM_exception : mD := (y_M_exception, b_M_exception, 5, (some .int), { frames := 1, cells := 0, slots := 0, locals := 24 })
abbrev mM_spell : mD := (y_M_spell, b_M_spell, 4, (some .boolean), { frames := 0, cells := 0, slots := 0, locals := 0 })
abbrev mM_exceptionOf : mD := (y_M_exceptionOf, b_M_exceptionOf, 5, (some .int), { frames := 0, cells := 0, slots := 0, locals := 0 })
abbrev mM_drop : mD := (y_M_drop, b_M_drop, 4, (some .int), { frames := 0, cells := 0, slots := 0, locals := 0 })
abbrev mM_run : mD := (y_M_run, b_M_run, 7, (some .int), { frames := 2, cells := 0, slots := 0, locals := 50 })
abbrev mM_digitOf : mD := (y_M_digitOf, b_M_digitOf, 7, (some .int), { frames := 1, cells := 0, slots := 0, locals := 24 })
abbrev mM_stands : mD := (y_M_stands, b_M_stands, 5, (some .boolean), { frames := 0, cells := 0, slots := 0, locals := 0 })
abbrev mM_at : mD := (y_M_at, b_M_at, 2, (some .int), { frames := 0, cells := 0, slots := 0, locals := 0 })
abbrev mM_digit : mD := (y_M_digit, b_M_digit, 3, (some .int), { frames := 2, cells := 0, slots := 0, locals := 50 })
abbrev mM_patterns : mD := (y_M_patterns, b_M_patterns, 1, (some .int), { frames := 0, cells := 0, slots := 0, locals := 0 })
abbrev mM_exceptions : mD := (y_M_exceptions, b_M_exceptions, 1, (some .int), { frames := 0, cells := 0, slots := 0, locals := 0 })
/-- the answer is as said, the heap is as it was -/
def QcP (post : Int32 → Prop) : Array Value → State → Outcome → State → Prop := fun _ st oc t => ∃ r : Int32, oc = .returned (some (.int r)) ∧ post r ∧ t.heap = st.heap
/-- contracts: one that only reads; one that writes and answers an int; one that writes and answers nothing -/
def mR (l : Launch) (E : eE) (μ : mD) (As : List Value) (P0 : Heap → Prop) (post : Int32 → Prop) : Prop := Met l μ.1 (wd μ) μ.2.2.2.2 (va_Pc As (fun U => P0 U.heap ∧ eK E U)) (QcP post) 0 0 (fun _ => False)
def mW {S : Type} (l : Launch) (E : eE) (μ : mD) (A : Nat → Prop) (As : List Value) (P0 : Heap → Prop) (post : Int32 → S → Prop) (B : S → Heap → Prop) : Prop := Met l μ.1 (wd μ) μ.2.2.2.2 (va_Pc As (fun U => P0 U.heap ∧ eK E U)) (va_Qi post (fun u t => B u t.heap) A) 0 0 A
def mV {S : Type} (l : Launch) (E : eE) (μ : mD) (A : Nat → Prop) (As : List Value) (P0 : Heap → Prop) (post : S → Prop) (B : S → Heap → Prop) : Prop := Met l μ.1 (wd μ) μ.2.2.2.2 (va_Pc As (fun U => P0 U.heap ∧ eK E U)) (va_Qv post (fun u t => B u t.heap) A) 0 0 A
theorem good_wd {μ : mD} (hc : Cond.code μ.1 μ.2.1 μ.2.2.1 μ.2.2.2.1 ∈ gw) : GoodIn gw (wd μ) := by
  intro w hw
  rcases List.mem_cons.mp hw with rfl | h
  · exact ⟨hc, gw_good _ hc⟩
  · exact ⟨h, gw_good w h⟩
def okD (μ : mD) (n : Nat) : Prop := μ.1.cls ≠ "java/lang/invoke/MethodHandle" ∧ μ.1.cls ≠ "java/lang/invoke/VarHandle" ∧ (parseMethodDescriptor μ.1.desc).map (fun d => d.parameters.length) = some n
/-- what the tables say of a virtual call -/
def okV (own : String) (idx : Nat) (μ : mD) (n : Nat) : Prop := Cond.methodLink own idx μ.1 ∈ gw ∧ Cond.instanceMethod μ.1 ∈ gw ∧ Cond.selects μ.1.cls μ.1 μ.1 ∈ gw ∧ Cond.initialized μ.1.cls ∈ gw ∧ Cond.code μ.1 μ.2.1 μ.2.2.1 μ.2.2.2.1 ∈ gw ∧ okD μ n
def okS (own : String) (idx : Nat) (μ : mD) (n : Nat) : Prop := Cond.methodLink own idx μ.1 ∈ gw ∧ Cond.static μ.1 ∈ gw ∧ Cond.initialized own ∈ gw ∧ μ.1.cls = own ∧ Cond.code μ.1 μ.2.1 μ.2.2.1 μ.2.2.2.1 ∈ gw ∧ okD μ n
/-- the callee's room fits the caller's -/
def okR (μ μ' : mD) : Prop := μ'.2.2.2.2.frames + 1 ≤ μ.2.2.2.2.frames ∧ 8 + (μ'.2.2.1 + 11) + μ'.2.2.2.2.locals ≤ μ.2.2.2.2.locals
theorem okV_wsV {own : String} {idx n : Nat} {μ : mD} (h : okV own idx μ n) : GoodIn gw (wsV own idx μ.1.cls μ.1 (wd μ)) := by
  obtain ⟨h1, h2, h3, h4, h5, -⟩ := h
  intro w hw
  rcases List.mem_append.mp hw with hw | hw
  · simp only [List.mem_cons, List.not_mem_nil, or_false] at hw
    rcases hw with rfl | rfl | rfl | rfl
    · exact ⟨h1, gw_good _ h1⟩
    · exact ⟨h2, gw_good _ h2⟩
    · exact ⟨h3, gw_good _ h3⟩
    · exact ⟨h4, gw_good _ h4⟩
  · exact good_wd h5 w hw
theorem okS_wsS {own : String} {idx n : Nat} {μ : mD} (h : okS own idx μ n) : GoodIn gw (wsS own idx μ.1 (wd μ)) := by
  obtain ⟨h1, h2, h3, -, h5, -⟩ := h
  intro w hw
  rcases List.mem_append.mp hw with hw | hw
  · simp only [List.mem_cons, List.not_mem_nil, or_false] at hw
    rcases hw with rfl | rfl | rfl
    · exact ⟨h1, gw_good _ h1⟩
    · exact ⟨h2, gw_good _ h2⟩
    · exact ⟨h3, gw_good _ h3⟩
  · exact good_wd h5 w hw
section Calls
variable {Z : cZ} {E : eE} {μ μ' : mD} {A : Nat → Prop} {P P0 : Heap → Prop} {pc idx n a : Nat} {L : List (Nat × Value)} {st gst As : List Value}
theorem pre_blind {P0 : Heap → Prop} {As : List Value} : FrameBlind (va_Pc As (fun U => P0 U.heap ∧ eK E U)) := fun a U g mk q => ⟨q.1, q.2.1, eK_call g mk a q.2.2⟩
/-- a virtual call that only reads -/
theorem r_callR {post : Int32 → Prop} (C : CG Z E μ A) (hM : mR Z.2.1 E μ' (.ref a :: As) P0 post) (hok : okV μ.1.cls idx μ' n) (hrm : okR μ μ') (hz : μ'.2.2.2.2.cells = 0 ∧ μ'.2.2.2.2.slots = 0) (V : ∀ H, P H → P0 H) (hv : ∀ (s : State) (H : Heap), P0 H → eK E s → ∃ cell : Cell, H[a]? = some cell ∧ cell.vm.isStatics = false ∧ s.vm.findClass μ'.1.cls = some cell.cls) (hn : As.length = n) (hg : gst = As.reverse ++ .ref a :: st) (hst : (st.map fun v => v.category).sum ≤ 8) (hd : decode μ.2.1 pc = .ok (.invokevirtual idx, 3)) (kk : ∀ r : Int32, post r → Wg Z P (pc + 3) L (.int r :: st)) : Wg Z P pc L gst := by
  obtain ⟨p, l, e, R, s, m, args, below, meth, c, A0, nL, cells, slots, Q⟩ := Z
  obtain ⟨hx, hb, hml, hnL, hown, hts, hK, hR, hA, hr, hlk, hc1, hc2⟩ := C
  intro H locs ls hP hS hl
  subst hg
  subst hR
  have hcw : CallW μ.2.2.2.2 s args μ.1.cls μ'.1.cls idx μ'.1 μ'.2.1 μ'.2.2.1 μ'.2.2.2.1 (wd μ') μ'.2.2.2.2 0 0 n := cwV n hts (okV_wsV hok) rfl hz.1 hz.2 ⟨rfl, hok.2.2.2.2.2⟩ hrm
  have hrun := va_runV (H := H) (locs := locs) (cells := cells) (slots := slots) (e := e) (below := below) (meth := meth) (b := a) (As := As) (rest := st) (g := F0 m pc ls (As.reverse ++ .ref a :: st)) ⟨hx, hb, hml, hown, hts⟩ hM hcw ⟨pre_blind, hv s H (V H hP) hK, fun U hU hW => ⟨rfl, by rw [hU]; exact V H hP, eK_warm hW hK⟩⟩ rfl hn (by rw [← hl.1.1]) rfl (lv_room hst) hd ⟨hc1, hc2⟩
  intro T hT X
  obtain ⟨v, st₀, t, T', L', h0, X', hL, e1, e2, ⟨r, hv', hp, hh⟩, st'⟩ := hrun T hT X
  cases hv'
  obtain ⟨t2, a1, b1⟩ := kk r hp H locs ls hP hS hl T' (by rw [e1, hh, h0]) (Stand.forget X' (fun q h => (hL q h).elim))
  exact ⟨t2, st' t2 a1, b1⟩
/-- a static call that only computes -/
theorem r_callS {post : Int32 → Prop} (C : CG Z E μ A) (hM : mR Z.2.1 E μ' As (fun _ => True) post) (hok : okS μ.1.cls idx μ' n) (hrm : okR μ μ') (hz : μ'.2.2.2.2.cells = 0 ∧ μ'.2.2.2.2.slots = 0) (hn : As.length = n) (hg : gst = As.reverse ++ st) (hst : (st.map fun v => v.category).sum ≤ 8) (hd : decode μ.2.1 pc = .ok (.invokestatic idx, 3)) (kk : ∀ r : Int32, post r → Wg Z P (pc + 3) L (.int r :: st)) : Wg Z P pc L gst := by
  obtain ⟨p, l, e, R, s, m, args, below, meth, c, A0, nL, cells, slots, Q⟩ := Z
  obtain ⟨hx, hb, hml, hnL, hown, hts, hK, hR, hA, hr, hlk, hc1, hc2⟩ := C
  intro H locs ls hP hS hl
  subst hg
  subst hR
  have hcw := cwS (R := μ.2.2.2.2) (s := s) (args := args) (own := μ.1.cls) (index := idx) (y := μ'.1) (bytes := μ'.2.1) (maxL := μ'.2.2.1) (ret := μ'.2.2.2.1) (ws := wd μ') (rm := μ'.2.2.2.2) (mc := 0) (ms := 0) n hts (okS_wsS hok) rfl hz.1 hz.2 ⟨hok.2.2.2.1, hok.2.2.2.2.2⟩ hrm
  have hrun := va_runS (H := H) (locs := locs) (cells := cells) (slots := slots) (e := e) (below := below) (meth := meth) (As := As) (rest := st) (g := F0 m pc ls (As.reverse ++ st)) ⟨hx, hb, hml, hown, hts⟩ hM hcw ⟨pre_blind (P0 := fun _ => True), fun U hU hW => ⟨rfl, trivial, eK_warm hW hK⟩⟩ rfl hn (by rw [← hl.1.1]) rfl (lv_room hst) hd ⟨hc1, hc2⟩
  intro T hT X
  obtain ⟨v, st₀, t, T', L', h0, X', hL, e1, e2, ⟨r, hv', hp, hh⟩, st'⟩ := hrun T hT X
  cases hv'
  obtain ⟨t2, a1, b1⟩ := kk r hp H locs ls hP hS hl T' (by rw [e1, hh, h0]) (Stand.forget X' (fun q h => (hL q h).elim))
  exact ⟨t2, st' t2 a1, b1⟩
/-- a virtual call that writes within A -/
theorem r_callW {S : Type} {post : Int32 → S → Prop} {B : S → Heap → Prop} (C : CG Z E μ A) (hM : mW Z.2.1 E μ' A (.ref a :: As) P0 post B) (hok : okV μ.1.cls idx μ' n) (hrm : okR μ μ') (hz : μ'.2.2.2.2.cells = 0 ∧ μ'.2.2.2.2.slots = 0) (V : ∀ H, P H → P0 H) (hv : ∀ (s : State) (H : Heap), P0 H → eK E s → ∃ cell : Cell, H[a]? = some cell ∧ cell.vm.isStatics = false ∧ s.vm.findClass μ'.1.cls = some cell.cls) (hn : As.length = n) (hg : gst = As.reverse ++ .ref a :: st) (hst : (st.map fun v => v.category).sum ≤ 8) (hd : decode μ.2.1 pc = .ok (.invokevirtual idx, 3)) (kk : ∀ (r : Int32) (u : S), post r u → Wg Z (B u) (pc + 3) L (.int r :: st)) : Wg Z P pc L gst := by
  obtain ⟨p, l, e, R, s, m, args, below, meth, c, A0, nL, cells, slots, Q⟩ := Z
  obtain ⟨hx, hb, hml, hnL, hown, hts, hK, hR, hA, hr, hlk, hc1, hc2⟩ := C
  intro H locs ls hP hS hl
  subst hg
  subst hR
  subst hA
  have hcw : CallW μ.2.2.2.2 s args μ.1.cls μ'.1.cls idx μ'.1 μ'.2.1 μ'.2.2.1 μ'.2.2.2.1 (wd μ') μ'.2.2.2.2 0 0 n := cwV n hts (okV_wsV hok) rfl hz.1 hz.2 ⟨rfl, hok.2.2.2.2.2⟩ hrm
  exact va_calli (va_runV (b := a) (As := As) (rest := st) ⟨hx, hb, hml, hown, hts⟩ hM hcw ⟨pre_blind, hv s H (V H hP) hK, fun U hU hW => ⟨rfl, by rw [hU]; exact V H hP, eK_warm hW hK⟩⟩ rfl hn (by rw [← hl.1.1]) rfl (lv_room hst) hd ⟨hc1, hc2⟩) hS (fun q _ h => h) (fun q h => h) (fun r u t H1 locs1 ht hvm hw hB hz1 hk1 hS1 => kk r u hw H1 locs1 ls (by rw [← ht]; exact hB) hS1 hl)
/-- ... and answers nothing -/
theorem r_callV {S : Type} {post : S → Prop} {B : S → Heap → Prop} (C : CG Z E μ A) (hM : mV Z.2.1 E μ' A (.ref a :: As) P0 post B) (hok : okV μ.1.cls idx μ' n) (hrm : okR μ μ') (hz : μ'.2.2.2.2.cells = 0 ∧ μ'.2.2.2.2.slots = 0) (V : ∀ H, P H → P0 H) (hv : ∀ (s : State) (H : Heap), P0 H → eK E s → ∃ cell : Cell, H[a]? = some cell ∧ cell.vm.isStatics = false ∧ s.vm.findClass μ'.1.cls = some cell.cls) (hn : As.length = n) (hg : gst = As.reverse ++ .ref a :: st) (hst : (st.map fun v => v.category).sum ≤ 8) (hd : decode μ.2.1 pc = .ok (.invokevirtual idx, 3)) (kk : ∀ (u : S), post u → Wg Z (B u) (pc + 3) L st) : Wg Z P pc L gst := by
  obtain ⟨p, l, e, R, s, m, args, below, meth, c, A0, nL, cells, slots, Q⟩ := Z
  obtain ⟨hx, hb, hml, hnL, hown, hts, hK, hR, hA, hr, hlk, hc1, hc2⟩ := C
  intro H locs ls hP hS hl
  subst hg
  subst hR
  subst hA
  have hcw : CallW μ.2.2.2.2 s args μ.1.cls μ'.1.cls idx μ'.1 μ'.2.1 μ'.2.2.1 μ'.2.2.2.1 (wd μ') μ'.2.2.2.2 0 0 n := cwV n hts (okV_wsV hok) rfl hz.1 hz.2 ⟨rfl, hok.2.2.2.2.2⟩ hrm
  exact va_callv (va_runV (b := a) (As := As) (rest := st) ⟨hx, hb, hml, hown, hts⟩ hM hcw ⟨pre_blind, hv s H (V H hP) hK, fun U hU hW => ⟨rfl, by rw [hU]; exact V H hP, eK_warm hW hK⟩⟩ rfl hn (by rw [← hl.1.1]) rfl (lv_room hst) hd ⟨hc1, hc2⟩) hS (fun q _ h => h) (fun q h => h) (fun u t H1 locs1 ht hvm hw hB hz1 hk1 hS1 => kk u hw H1 locs1 ls (by rw [← ht]; exact hB) hS1 hl)
/-- Math.max -/
theorem r_max {x y : Int32} (C : CG Z E μ A) (hl1 : Cond.methodLink μ.1.cls idx Lib.Math.max.name ∈ gw) (hl2 : Cond.static Lib.Math.max.name ∈ gw) (hl3 : Cond.initialized "java/lang/Math" ∈ gw) (hl4 : Cond.code Lib.Math.max.name Lib.Math.max.code 2 (some .int) ∈ gw) (hf : 1 ≤ μ.2.2.2.2.frames) (hlo : (st.map fun v => v.category).sum + 13 ≤ μ.2.2.2.2.locals) (hd : decode μ.2.1 pc = .ok (.invokestatic idx, 3)) (kk : Wg Z P (pc + 3) L (.int (if x < y then y else x) :: st)) : Wg Z P pc L (.int y :: .int x :: st) := by
  obtain ⟨p, l, e, R, s, m, args, below, meth, c, A0, nL, cells, slots, Q⟩ := Z
  obtain ⟨hx, hb, hml, hnL, hown, hts, hK, hR, hA, hr, hlk, hc1, hc2⟩ := C
  intro H locs ls hP hS hl
  subst hR
  exact va_mmax hx hb (by rw [hml, hl.1.1]) hown (hts _ hl1) (hts _ hl2) (hts _ hl3) (hts _ hl4) hf hlo hc1 hc2 hd (kk H locs ls hP hS hl)
/-- a contract that only reads, out of its body: the picture, the answer's row -/
theorem metR {l : Launch} {post : Int32 → Prop} {ty : FieldType} (hy : plainName μ.1.cls = true) (hty : μ.2.2.2.1 = some ty) (hlen : (lg_sl As).length ≤ μ.2.2.1) (hcat : ∀ q ∈ lv_args 0 As, q.2.category = 1)
    (body : ∀ (Z : cZ) (P : Heap → Prop), Z.2.1 = l → CG Z E μ (fun _ => False) → (∀ H, P H → P0 H) → (∀ (pc : Nat) (L : List (Nat × Value)) (v : Int32), decode μ.2.1 pc = .ok (.ireturn, 1) → narrow ty (.int v) = .int v → post v → Wg Z P pc L [.int v]) → Wg Z P 0 (lv_args 0 As) []) : mR l E μ As P0 post := by
  refine Met.ofW (cc := μ.2.1) (maxL := μ.2.2.1) (ret := μ.2.2.2.1) hy rfl ?_
  intro p e s m args below meth c s₁ B hml hv
  obtain ⟨rfl, hP, hK⟩ := hv
  have hts : ∀ w ∈ gw, w.before As.toArray s = true := fun w hw => atoms_spec (ws := wd μ) B.pre w (List.mem_cons_of_mem _ hw)
  have hown : s.vm.findClass μ.1.cls = some m.cls := findClass_of_methodNamed B.named
  have hlk : meth.locks = false := B.notSynchronized
  have hl := lv_entry As (n := μ.2.2.1) hlen
  rw [lg_entry_eq]
  generalize (lg_sl As ++ List.replicate (μ.2.2.1 - (lg_sl As).length) Slot.unset).toArray = ls at hl ⊢
  refine body (p, l, e, μ.2.2.2.2, s, m, As.toArray, below, meth, c, (fun _ => False), μ.2.2.1, 0, 0, _) (fun H => H = s.heap) rfl ⟨B.exec, B.bytes, hml, rfl, hown, hts, hK, rfl, rfl, B.returns, hlk, Nat.zero_le _, Nat.zero_le _⟩ (fun H h => h ▸ hP) ?_ s.heap [] ls rfl va_S.rf ⟨hl, hcat⟩
  intro pc L v hd hn hp H locs ls' hH hS hl'
  exact W.zret (ty := ty) B.exec B.bytes (by rw [B.returns]; exact hty) hn (fun t ht hW => ⟨v, rfl, hp, ht.trans hH⟩) (fun q hq => hS.2.2 q hq) hd
theorem metW {l : Launch} {S : Type} {post : Int32 → S → Prop} {B : S → Heap → Prop} {ty : FieldType} (hy : plainName μ.1.cls = true) (hty : μ.2.2.2.1 = some ty) (hlen : (lg_sl As).length ≤ μ.2.2.1) (hcat : ∀ q ∈ lv_args 0 As, q.2.category = 1)
    (body : ∀ (Z : cZ), Z.2.1 = l → CG Z E μ A → (∀ (pc : Nat) (L : List (Nat × Value)) (P : Heap → Prop) (v : Int32) (u : S), decode μ.2.1 pc = .ok (.ireturn, 1) → narrow ty (.int v) = .int v → (∀ H, P H → B u H) → post v u → Wg Z P pc L [.int v]) → Wg Z P0 0 (lv_args 0 As) []) : mW l E μ A As P0 post B := by
  refine Met.ofW (cc := μ.2.1) (maxL := μ.2.2.1) (ret := μ.2.2.2.1) hy rfl ?_
  intro p e s m args below meth c s₁ B' hml hv
  obtain ⟨rfl, hP, hK⟩ := hv
  have hts : ∀ w ∈ gw, w.before As.toArray s = true := fun w hw => atoms_spec (ws := wd μ) B'.pre w (List.mem_cons_of_mem _ hw)
  have hown : s.vm.findClass μ.1.cls = some m.cls := findClass_of_methodNamed B'.named
  have hlk : meth.locks = false := B'.notSynchronized
  have hl := lv_entry As (n := μ.2.2.1) hlen
  rw [lg_entry_eq]
  generalize (lg_sl As ++ List.replicate (μ.2.2.1 - (lg_sl As).length) Slot.unset).toArray = ls at hl ⊢
  refine body (p, l, e, μ.2.2.2.2, s, m, As.toArray, below, meth, c, A, μ.2.2.1, 0, 0, _) rfl ⟨B'.exec, B'.bytes, hml, rfl, hown, hts, hK, rfl, rfl, B'.returns, hlk, Nat.zero_le _, Nat.zero_le _⟩ ?_ s.heap [] ls hP va_S.rf ⟨hl, hcat⟩
  intro pc L P v u hd hn hB hp H locs ls' hH hS hl'
  exact W.zret (ty := ty) B'.exec B'.bytes (by rw [B'.returns]; exact hty) hn (fun t ht hW => ⟨⟨v, u, rfl, hp, by show B u t.heap; rw [ht]; exact hB H hH⟩, hS.F ht⟩) (fun q hq => hS.2.2 q hq) hd
theorem metV {l : Launch} {S : Type} {post : S → Prop} {B : S → Heap → Prop} (hy : plainName μ.1.cls = true) (hty : μ.2.2.2.1 = none) (hlen : (lg_sl As).length ≤ μ.2.2.1) (hcat : ∀ q ∈ lv_args 0 As, q.2.category = 1)
    (body : ∀ (Z : cZ), Z.2.1 = l → CG Z E μ A → (∀ (pc : Nat) (L : List (Nat × Value)) (P : Heap → Prop) (u : S), decode μ.2.1 pc = .ok (.return_, 1) → (∀ H, P H → B u H) → post u → Wg Z P pc L []) → Wg Z P0 0 (lv_args 0 As) []) : mV l E μ A As P0 post B := by
  refine Met.ofW (cc := μ.2.1) (maxL := μ.2.2.1) (ret := μ.2.2.2.1) hy rfl ?_
  intro p e s m args below meth c s₁ B' hml hv
  obtain ⟨rfl, hP, hK⟩ := hv
  have hts : ∀ w ∈ gw, w.before As.toArray s = true := fun w hw => atoms_spec (ws := wd μ) B'.pre w (List.mem_cons_of_mem _ hw)
  have hown : s.vm.findClass μ.1.cls = some m.cls := findClass_of_methodNamed B'.named
  have hlk : meth.locks = false := B'.notSynchronized
  have hl := lv_entry As (n := μ.2.2.1) hlen
  rw [lg_entry_eq]
  generalize (lg_sl As ++ List.replicate (μ.2.2.1 - (lg_sl As).length) Slot.unset).toArray = ls at hl ⊢
  refine body (p, l, e, μ.2.2.2.2, s, m, As.toArray, below, meth, c, A, μ.2.2.1, 0, 0, _) rfl ⟨B'.exec, B'.bytes, hml, rfl, hown, hts, hK, rfl, rfl, B'.returns, hlk, Nat.zero_le _, Nat.zero_le _⟩ ?_ s.heap [] ls hP va_S.rf ⟨hl, hcat⟩
  intro pc L P u hd hB hp H locs ls' hH hS hl'
  exact W.vret B'.exec B'.bytes (by rw [B'.returns]; exact hty) (fun t ht hW => ⟨⟨u, rfl, hp, by show B u t.heap; rw [ht]; exact hB H hH⟩, hS.F ht⟩) (fun q hq => hS.2.2 q hq) hd
end Calls
-- what the tables say of each call
theorem cV_67_X : okV "HyphenRows" 67 mX_isLanguage 1 := ⟨q_128, q_130, qs_0, q_1, q_131, by decide +kernel, by decide +kernel, by decide +kernel⟩
theorem cS_71_X : okS "HyphenRows" 71 mX_isSign 1 := ⟨q_132, q_133, q_1, rfl, q_134, by decide +kernel, by decide +kernel, by decide +kernel⟩
theorem cS_91_X : okS "HyphenRows" 91 mX_isDigit 1 := ⟨q_143, q_144, q_1, rfl, q_145, by decide +kernel, by decide +kernel, by decide +kernel⟩
theorem cV_110_X : okV "HyphenRows" 110 mX_isPattern 0 := ⟨q_150, q_152, qs_1, q_1, q_153, by decide +kernel, by decide +kernel, by decide +kernel⟩
theorem cV_114_X : okV "HyphenRows" 114 mX_put 2 := ⟨q_154, q_156, qs_2, q_1, q_157, by decide +kernel, by decide +kernel, by decide +kernel⟩
theorem cV_118_X : okV "HyphenRows" 118 mX_endOf 1 := ⟨q_158, q_160, qs_3, q_1, q_161, by decide +kernel, by decide +kernel, by decide +kernel⟩
theorem cV_128_X : okV "HyphenRows" 128 mX_grow 1 := ⟨q_166, q_168, qs_5, q_1, q_169, by decide +kernel, by decide +kernel, by decide +kernel⟩
theorem cV_100_X : okV "HyphenRows" 100 mX_under 3 := ⟨q_162, q_164, qs_4, q_1, q_165, by decide +kernel, by decide +kernel, by decide +kernel⟩
theorem cV_104_X : okV "HyphenRows" 104 mX_made 3 := ⟨q_170, q_172, qs_6, q_1, q_173, by decide +kernel, by decide +kernel, by decide +kernel⟩
theorem cV_141_X : okV "HyphenRows" 141 mX_spell 1 := ⟨q_186, q_188, qs_7, q_1, q_189, by decide +kernel, by decide +kernel, by decide +kernel⟩
theorem cV_145_X : okV "HyphenRows" 145 mX_find 1 := ⟨q_190, q_192, qs_8, q_1, q_193, by decide +kernel, by decide +kernel, by decide +kernel⟩
theorem cV_137_X : okV "HyphenRows" 137 mX_isException 2 := ⟨q_194, q_196, qs_9, q_1, q_197, by decide +kernel, by decide +kernel, by decide +kernel⟩
theorem cV_162_X : okV "HyphenRows" 162 mX_weigh 1 := ⟨q_206, q_208, qs_10, q_1, q_209, by decide +kernel, by decide +kernel, by decide +kernel⟩
theorem cV_149_X : okV "HyphenRows" 149 mX_raise 3 := ⟨q_210, q_212, qs_11, q_1, q_213, by decide +kernel, by decide +kernel, by decide +kernel⟩
theorem cV_69_M : okV "HyphenRowsModel" 69 mM_isLanguage 1 := ⟨q_323, q_325, qs_12, q_2, q_326, by decide +kernel, by decide +kernel, by decide +kernel⟩
theorem cS_73_M : okS "HyphenRowsModel" 73 mM_in 3 := ⟨q_327, q_328, q_2, rfl, q_329, by decide +kernel, by decide +kernel, by decide +kernel⟩
theorem cV_83_M : okV "HyphenRowsModel" 83 mM_isSame 2 := ⟨q_342, q_344, qs_13, q_2, q_345, by decide +kernel, by decide +kernel, by decide +kernel⟩
theorem cV_87_M : okV "HyphenRowsModel" 87 mM_isPattern 0 := ⟨q_346, q_348, qs_14, q_2, q_349, by decide +kernel, by decide +kernel, by decide +kernel⟩
theorem cV_100_M : okV "HyphenRowsModel" 100 mM_spell 1 := ⟨q_362, q_364, qs_15, q_2, q_365, by decide +kernel, by decide +kernel, by decide +kernel⟩
theorem cV_103_M : okV "HyphenRowsModel" 103 mM_exceptionOf 1 := ⟨q_366, q_368, qs_16, q_2, q_369, by decide +kernel, by decide +kernel, by decide +kernel⟩
theorem cV_113_M : okV "HyphenRowsModel" 113 mM_digitOf 2 := ⟨q_378, q_380, qs_17, q_2, q_381, by decide +kernel, by decide +kernel, by decide +kernel⟩
theorem cV_107_M : okV "HyphenRowsModel" 107 mM_stands 2 := ⟨q_382, q_384, qs_18, q_2, q_385, by decide +kernel, by decide +kernel, by decide +kernel⟩
theorem cV_13_law : okV "HyphenRowsLaw" 13 mX_language 0 := ⟨q_90, q_91, q_92, q_1, q_93, by decide +kernel, by decide +kernel, by decide +kernel⟩
theorem cV_17_law : okV "HyphenRowsLaw" 17 mM_language 0 := ⟨q_315, q_316, q_317, q_2, q_318, by decide +kernel, by decide +kernel, by decide +kernel⟩
theorem cV_18_law : okV "HyphenRowsLaw" 18 mX_code 4 := ⟨q_124, q_125, q_126, q_1, q_127, by decide +kernel, by decide +kernel, by decide +kernel⟩
theorem cV_22_law : okV "HyphenRowsLaw" 22 mM_code 4 := ⟨q_319, q_320, q_321, q_2, q_322, by decide +kernel, by decide +kernel, by decide +kernel⟩
theorem cV_23_law : okV "HyphenRowsLaw" 23 mX_ends 4 := ⟨q_135, q_136, q_137, q_1, q_138, by decide +kernel, by decide +kernel, by decide +kernel⟩
theorem cV_26_law : okV "HyphenRowsLaw" 26 mM_ends 4 := ⟨q_330, q_331, q_332, q_2, q_333, by decide +kernel, by decide +kernel, by decide +kernel⟩
theorem cV_27_law : okV "HyphenRowsLaw" 27 mX_next 2 := ⟨q_139, q_140, q_141, q_1, q_142, by decide +kernel, by decide +kernel, by decide +kernel⟩
theorem cV_31_law : okV "HyphenRowsLaw" 31 mM_next 2 := ⟨q_334, q_335, q_336, q_2, q_337, by decide +kernel, by decide +kernel, by decide +kernel⟩
theorem cV_32_law : okV "HyphenRowsLaw" 32 mX_pattern 2 := ⟨q_146, q_147, q_148, q_1, q_149, by decide +kernel, by decide +kernel, by decide +kernel⟩
theorem cV_35_law : okV "HyphenRowsLaw" 35 mM_pattern 2 := ⟨q_338, q_339, q_340, q_2, q_341, by decide +kernel, by decide +kernel, by decide +kernel⟩
theorem cV_36_law : okV "HyphenRowsLaw" 36 mX_sign 1 := ⟨q_174, q_175, q_176, q_1, q_177, by decide +kernel, by decide +kernel, by decide +kernel⟩
theorem cV_40_law : okV "HyphenRowsLaw" 40 mM_sign 1 := ⟨q_350, q_351, q_352, q_2, q_353, by decide +kernel, by decide +kernel, by decide +kernel⟩
theorem cV_41_law : okV "HyphenRowsLaw" 41 mX_clear 0 := ⟨q_178, q_179, q_180, q_1, q_181, by decide +kernel, by decide +kernel, by decide +kernel⟩
theorem cV_44_law : okV "HyphenRowsLaw" 44 mM_clear 0 := ⟨q_354, q_355, q_356, q_2, q_357, by decide +kernel, by decide +kernel, by decide +kernel⟩
theorem cV_45_law : okV "HyphenRowsLaw" 45 mX_exception 2 := ⟨q_182, q_183, q_184, q_1, q_185, by decide +kernel, by decide +kernel, by decide +kernel⟩
theorem cV_48_law : okV "HyphenRowsLaw" 48 mM_exception 2 := ⟨q_358, q_359, q_360, q_2, q_361, by decide +kernel, by decide +kernel, by decide +kernel⟩
theorem cV_49_law : okV "HyphenRowsLaw" 49 mX_drop 1 := ⟨q_198, q_199, q_200, q_1, q_201, by decide +kernel, by decide +kernel, by decide +kernel⟩
theorem cV_52_law : okV "HyphenRowsLaw" 52 mM_drop 1 := ⟨q_370, q_371, q_372, q_2, q_373, by decide +kernel, by decide +kernel, by decide +kernel⟩
theorem cV_53_law : okV "HyphenRowsLaw" 53 mX_run 1 := ⟨q_202, q_203, q_204, q_1, q_205, by decide +kernel, by decide +kernel, by decide +kernel⟩
theorem cV_56_law : okV "HyphenRowsLaw" 56 mM_run 1 := ⟨q_374, q_375, q_376, q_2, q_377, by decide +kernel, by decide +kernel, by decide +kernel⟩
theorem cV_57_law : okV "HyphenRowsLaw" 57 mX_at 1 := ⟨q_217, q_218, q_219, q_1, q_220, by decide +kernel, by decide +kernel, by decide +kernel⟩
theorem cV_60_law : okV "HyphenRowsLaw" 60 mM_at 1 := ⟨q_386, q_387, q_388, q_2, q_389, by decide +kernel, by decide +kernel, by decide +kernel⟩
theorem cV_61_law : okV "HyphenRowsLaw" 61 mX_digit 2 := ⟨q_221, q_222, q_223, q_1, q_224, by decide +kernel, by decide +kernel, by decide +kernel⟩
theorem cV_64_law : okV "HyphenRowsLaw" 64 mM_digit 2 := ⟨q_390, q_391, q_392, q_2, q_393, by decide +kernel, by decide +kernel, by decide +kernel⟩
theorem cV_65_law : okV "HyphenRowsLaw" 65 mX_patterns 0 := ⟨q_225, q_226, q_227, q_1, q_228, by decide +kernel, by decide +kernel, by decide +kernel⟩
theorem cV_68_law : okV "HyphenRowsLaw" 68 mM_patterns 0 := ⟨q_394, q_395, q_396, q_2, q_397, by decide +kernel, by decide +kernel, by decide +kernel⟩
theorem cV_69_law : okV "HyphenRowsLaw" 69 mX_exceptions 0 := ⟨q_229, q_230, q_231, q_1, q_232, by decide +kernel, by decide +kernel, by decide +kernel⟩
theorem cV_72_law : okV "HyphenRowsLaw" 72 mM_exceptions 0 := ⟨q_398, q_399, q_400, q_2, q_401, by decide +kernel, by decide +kernel, by decide +kernel⟩
end
section
-- small methods of X and M that only read or compute
theorem nI_inc (k : Nat) : nI k + Int32.ofInt 1 = nI (k + 1) := nI_1 k
theorem lv_args_mem : ∀ {vs : List Value} {i : Nat} {q : Nat × Value}, q ∈ lv_args i vs → q.2 ∈ vs
  | [], i, q, h => by simp [lv_args] at h
  | v :: vs, i, q, h => by
    simp only [lv_args] at h
    rcases List.mem_cons.mp h with rfl | h
    · exact List.mem_cons_self
    · exact List.mem_cons_of_mem _ (lv_args_mem h)
theorem catOK {As : List Value} (h : (As.all fun v => v.category == 1) = true) : ∀ q ∈ lv_args 0 As, q.2.category = 1 := fun q hq => by
  have := List.all_eq_true.mp h q.2 (lv_args_mem hq)
  simpa using this
/-- a number below B -/
def isIn (B : Nat) (x : Int32) : Prop := ∃ a, a < B ∧ x = nI a
theorem isIn_iff {B : Nat} {x : Int32} (hB : B < 2 ^ 31) : isIn B x ↔ 0 ≤ x ∧ x < nI B := by
  constructor
  · rintro ⟨a, ha, rfl⟩
    exact ⟨nI_pos' (by omega), nI_lt ha hB⟩
  · rintro ⟨h1, h2⟩
    rcases pk_ix x hB with h | h | h
    · exact absurd h (Int32.not_lt.mpr h1)
    · exact absurd h2 (Int32.not_lt.mpr h)
    · exact h
/-- ... as the model asks it: from 0 to B -/
theorem isIn_le {B : Nat} {x : Int32} (hB : B + 1 < 2 ^ 31) : isIn (B + 1) x ↔ 0 ≤ x ∧ x ≤ nI B := by
  rw [isIn_iff hB]
  have e : nI (B + 1) = nI B + 1 := nI_succ B
  have h1 : (nI (B + 1)).toInt = ((B + 1 : Nat) : Int) := nI_toInt hB
  have h2 : (nI B).toInt = (B : Int) := nI_toInt (by omega)
  rw [Int32.lt_iff_toInt_lt, Int32.le_iff_toInt_le (x := x) (y := nI B), h1, h2]
  constructor
  · rintro ⟨a, b⟩; exact ⟨a, by omega⟩
  · rintro ⟨a, b⟩; exact ⟨a, by omega⟩
/-- yes or no -/
def yn (Q : Prop) (r : Int32) : Prop := (r = 1 ∧ Q) ∨ (r = 0 ∧ ¬ Q)
theorem yn_cg {Q Q' : Prop} (h : Q ↔ Q') {r : Int32} (hr : yn Q r) : yn Q' r := by
  rcases hr with ⟨a, b⟩ | ⟨a, b⟩
  · exact Or.inl ⟨a, h.mp b⟩
  · exact Or.inr ⟨a, fun q => b (h.mpr q)⟩
theorem yn_1 {Q : Prop} {r : Int32} (hr : yn Q r) (h : ¬ r = 0) : Q := by
  rcases hr with ⟨a, b⟩ | ⟨a, b⟩
  · exact b
  · exact absurd a h
theorem yn_0 {Q : Prop} {r : Int32} (hr : yn Q r) (h : r = 0) : ¬ Q := by
  rcases hr with ⟨a, b⟩ | ⟨a, b⟩
  · rw [h] at a; exact absurd a (by decide)
  · exact b
theorem mR_cg {l : Launch} {E : eE} {μ : mD} {As : List Value} {P0 : Heap → Prop} {post post' : Int32 → Prop} (h : mR l E μ As P0 post) (hp : ∀ r, post r → post' r) : mR l E μ As P0 post' := by
  have e : post' = fun r => post r ∨ post' r := by funext r; exact propext ⟨Or.inr, fun q => q.elim (hp r) id⟩
  intro p e1 ha hc hk s m args below hf h1 h2 h3
  obtain ⟨k, o, a1, a2, a3, ⟨r, b1, b2, b3⟩, b4⟩ := h p e1 ha hc hk s m args below hf h1 h2 h3
  exact ⟨k, o, a1, a2, a3, ⟨r, b1, hp r b2, b3⟩, b4⟩
section S8
variable {l : Launch} {E : eE} {A A' : Nat → Prop} {ad : Nat → Nat} {n : Nat} {g : Nat → Int32} {c lg : Nat → Nat → Int32} {lc : Nat → Nat → Nat → Int32}
set_option maxHeartbeats 4000000 in
theorem cX_isLanguage (x : Int32) (hg : g 0 = nI n) (hn : n ≤ 4) : mR l E mX_isLanguage [.ref (ad 0), .int x] (pX E A' ad n g c lg lc) (yn (isIn n x)) := by
  have hb : n < 2 ^ 31 := by omega
  refine metR (by decide) rfl (Nat.le_of_ble_eq_true rfl) (catOK rfl) (fun Z P hZ C V R => ?_)
  show Wg Z _ 0 [(0, _), (1, _)] []
  refine r_iload_n C d_X_isLanguage_0 rfl ?_
  refine r_if_lt (tgt := 16) C d_X_isLanguage_1 (by decide) (fun h1 => ?_) (fun h1 => ?_)
  · refine r_iconst (v := 0) C d_X_isLanguage_16 (by decide) ?_
    exact R _ _ _ d_X_isLanguage_17 rfl (Or.inr ⟨rfl, fun h => Int32.not_lt.mpr ((isIn_iff hb).mp h).1 h1⟩)
  · refine r_iload_n C d_X_isLanguage_4 rfl ?_
    refine r_aload_n C d_X_isLanguage_5 rfl ?_
    refine rX_g62 C rfl V d_X_isLanguage_6 ?_
    rw [hg]
    refine r_icmp_ge (tgt := 16) C d_X_isLanguage_9 (by decide) (fun h2 => ?_) (fun h2 => ?_)
    · refine r_iconst (v := 0) C d_X_isLanguage_16 (by decide) ?_
      exact R _ _ _ d_X_isLanguage_17 rfl (Or.inr ⟨rfl, fun h => Int32.not_lt.mpr h2 ((isIn_iff hb).mp h).2⟩)
    · refine r_iconst (v := 1) C d_X_isLanguage_12 (by decide) ?_
      refine r_goto (tgt := 17) C d_X_isLanguage_13 (by decide) ?_
      exact R _ _ _ d_X_isLanguage_17 rfl (Or.inl ⟨rfl, (isIn_iff hb).mpr ⟨Int32.not_lt.mp h1, Int32.not_le.mp h2⟩⟩)
set_option maxHeartbeats 4000000 in
theorem cM_isLanguage (x : Int32) (hg : g 0 = nI n) (hn : n ≤ 4) : mR l E mM_isLanguage [.ref (ad 0), .int x] (pM E A' ad g c) (yn (isIn n x)) := by
  have hb : n < 2 ^ 31 := by omega
  refine metR (by decide) rfl (Nat.le_of_ble_eq_true rfl) (catOK rfl) (fun Z P hZ C V R => ?_)
  show Wg Z _ 0 [(0, _), (1, _)] []
  refine r_iload_n C d_M_isLanguage_0 rfl ?_
  refine r_if_lt (tgt := 16) C d_M_isLanguage_1 (by decide) (fun h1 => ?_) (fun h1 => ?_)
  · refine r_iconst (v := 0) C d_M_isLanguage_16 (by decide) ?_
    exact R _ _ _ d_M_isLanguage_17 rfl (Or.inr ⟨rfl, fun h => Int32.not_lt.mpr ((isIn_iff hb).mp h).1 h1⟩)
  · refine r_iload_n C d_M_isLanguage_4 rfl ?_
    refine r_aload_n C d_M_isLanguage_5 rfl ?_
    refine rM_g65 C rfl V d_M_isLanguage_6 ?_
    rw [hg]
    refine r_icmp_ge (tgt := 16) C d_M_isLanguage_9 (by decide) (fun h2 => ?_) (fun h2 => ?_)
    · refine r_iconst (v := 0) C d_M_isLanguage_16 (by decide) ?_
      exact R _ _ _ d_M_isLanguage_17 rfl (Or.inr ⟨rfl, fun h => Int32.not_lt.mpr h2 ((isIn_iff hb).mp h).2⟩)
    · refine r_iconst (v := 1) C d_M_isLanguage_12 (by decide) ?_
      refine r_goto (tgt := 17) C d_M_isLanguage_13 (by decide) ?_
      exact R _ _ _ d_M_isLanguage_17 rfl (Or.inl ⟨rfl, (isIn_iff hb).mpr ⟨Int32.not_lt.mp h1, Int32.not_le.mp h2⟩⟩)
set_option maxHeartbeats 4000000 in
theorem cX_isSign (x : Int32) : mR l E mX_isSign [.int x] (fun _ => True) (yn (isIn 256 x)) := by
  have e : nI 256 = 256 := by decide
  refine metR (by decide) rfl (Nat.le_of_ble_eq_true rfl) (catOK rfl) (fun Z P hZ C V R => ?_)
  show Wg Z _ 0 [(0, _)] []
  refine r_iload_n C d_X_isSign_0 rfl ?_
  refine r_if_lt (tgt := 15) C d_X_isSign_1 (by decide) (fun h1 => ?_) (fun h1 => ?_)
  · refine r_iconst (v := 0) C d_X_isSign_15 (by decide) ?_
    exact R _ _ _ d_X_isSign_16 rfl (Or.inr ⟨rfl, fun h => Int32.not_lt.mpr ((isIn_iff (by decide)).mp h).1 h1⟩)
  · refine r_iload_n C d_X_isSign_4 rfl ?_
    refine r_sipush (v := 256) C d_X_isSign_5 (by decide) ?_
    refine r_icmp_ge (tgt := 15) C d_X_isSign_8 (by decide) (fun h2 => ?_) (fun h2 => ?_)
    · refine r_iconst (v := 0) C d_X_isSign_15 (by decide) ?_
      exact R _ _ _ d_X_isSign_16 rfl (Or.inr ⟨rfl, fun h => Int32.not_lt.mpr h2 (e ▸ ((isIn_iff (by decide)).mp h).2)⟩)
    · refine r_iconst (v := 1) C d_X_isSign_11 (by decide) ?_
      refine r_goto (tgt := 16) C d_X_isSign_12 (by decide) ?_
      exact R _ _ _ d_X_isSign_16 rfl (Or.inl ⟨rfl, (isIn_iff (by decide)).mpr ⟨Int32.not_lt.mp h1, e ▸ Int32.not_le.mp h2⟩⟩)
set_option maxHeartbeats 4000000 in
theorem cX_isDigit (x : Int32) : mR l E mX_isDigit [.int x] (fun _ => True) (yn (isIn 10 x)) := by
  have e : nI 10 = 10 := by decide
  refine metR (by decide) rfl (Nat.le_of_ble_eq_true rfl) (catOK rfl) (fun Z P hZ C V R => ?_)
  show Wg Z _ 0 [(0, _)] []
  refine r_iload_n C d_X_isDigit_0 rfl ?_
  refine r_if_lt (tgt := 14) C d_X_isDigit_1 (by decide) (fun h1 => ?_) (fun h1 => ?_)
  · refine r_iconst (v := 0) C d_X_isDigit_14 (by decide) ?_
    exact R _ _ _ d_X_isDigit_15 rfl (Or.inr ⟨rfl, fun h => Int32.not_lt.mpr ((isIn_iff (by decide)).mp h).1 h1⟩)
  · refine r_iload_n C d_X_isDigit_4 rfl ?_
    refine r_bipush (v := 10) C d_X_isDigit_5 (by decide) ?_
    refine r_icmp_ge (tgt := 14) C d_X_isDigit_7 (by decide) (fun h2 => ?_) (fun h2 => ?_)
    · refine r_iconst (v := 0) C d_X_isDigit_14 (by decide) ?_
      exact R _ _ _ d_X_isDigit_15 rfl (Or.inr ⟨rfl, fun h => Int32.not_lt.mpr h2 (e ▸ ((isIn_iff (by decide)).mp h).2)⟩)
    · refine r_iconst (v := 1) C d_X_isDigit_10 (by decide) ?_
      refine r_goto (tgt := 15) C d_X_isDigit_11 (by decide) ?_
      exact R _ _ _ d_X_isDigit_15 rfl (Or.inl ⟨rfl, (isIn_iff (by decide)).mpr ⟨Int32.not_lt.mp h1, e ▸ Int32.not_le.mp h2⟩⟩)
set_option maxHeartbeats 4000000 in
theorem cM_in0 (x lo hi : Int32) : mR l E mM_in [.int x, .int lo, .int hi] (fun _ => True) (yn (lo ≤ x ∧ x ≤ hi)) := by
  refine metR (by decide) rfl (Nat.le_of_ble_eq_true rfl) (catOK rfl) (fun Z P hZ C V R => ?_)
  show Wg Z _ 0 [(0, _), (1, _), (2, _)] []
  refine r_iload_n C d_M_in_0 rfl ?_
  refine r_iload_n C d_M_in_1 rfl ?_
  refine r_icmp_lt (tgt := 14) C d_M_in_2 (by decide) (fun h1 => ?_) (fun h1 => ?_)
  · refine r_iconst (v := 0) C d_M_in_14 (by decide) ?_
    exact R _ _ _ d_M_in_15 rfl (Or.inr ⟨rfl, fun h => Int32.not_lt.mpr h.1 h1⟩)
  · refine r_iload_n C d_M_in_5 rfl ?_
    refine r_iload_n C d_M_in_6 rfl ?_
    refine r_icmp_gt (tgt := 14) C d_M_in_7 (by decide) (fun h2 => ?_) (fun h2 => ?_)
    · refine r_iconst (v := 0) C d_M_in_14 (by decide) ?_
      exact R _ _ _ d_M_in_15 rfl (Or.inr ⟨rfl, fun h => Int32.not_lt.mpr h.2 h2⟩)
    · refine r_iconst (v := 1) C d_M_in_10 (by decide) ?_
      refine r_goto (tgt := 15) C d_M_in_11 (by decide) ?_
      exact R _ _ _ d_M_in_15 rfl (Or.inl ⟨rfl, Int32.not_lt.mp h1, Int32.not_lt.mp h2⟩)
/-- in(x, 0, B - 1) -/
theorem cM_in (x : Int32) (B : Nat) {y : Int32} (hy : y = nI B) (hB : B + 1 < 2 ^ 31) : mR l E mM_in [.int x, .int 0, .int y] (fun _ => True) (yn (isIn (B + 1) x)) :=
  mR_cg (cM_in0 x 0 y) (fun r hr => yn_cg (by rw [hy]; exact (isIn_le hB).symm) hr)
set_option maxHeartbeats 4000000 in
theorem cX_at (x : Int32) {fc : Nat} (hg : g 7 = nI fc) (hf : fc ≤ 30) : mR l E mX_at [.ref (ad 0), .int x] (pX E A' ad n g c lg lc) (fun r => (∃ k, k < fc ∧ x = nI k ∧ r = c 15 k) ∨ (¬ isIn fc x ∧ r = -1)) := by
  have hb : fc < 2 ^ 31 := by omega
  refine metR (by decide) rfl (Nat.le_of_ble_eq_true rfl) (catOK rfl) (fun Z P hZ C V R => ?_)
  show Wg Z _ 0 [(0, _), (1, _)] []
  refine r_iload_n C d_X_at_0 rfl ?_
  refine r_if_lt (tgt := 21) C d_X_at_1 (by decide) (fun h1 => ?_) (fun h1 => ?_)
  · refine r_iconst (v := -1) C d_X_at_21 (by decide) ?_
    exact R _ _ _ d_X_at_22 rfl (Or.inr ⟨fun h => Int32.not_lt.mpr ((isIn_iff hb).mp h).1 h1, rfl⟩)
  · refine r_iload_n C d_X_at_4 rfl ?_
    refine r_aload_n C d_X_at_5 rfl ?_
    refine rX_g159 C rfl V d_X_at_6 ?_
    rw [hg]
    refine r_icmp_ge (tgt := 21) C d_X_at_9 (by decide) (fun h2 => ?_) (fun h2 => ?_)
    · refine r_iconst (v := -1) C d_X_at_21 (by decide) ?_
      exact R _ _ _ d_X_at_22 rfl (Or.inr ⟨fun h => Int32.not_lt.mpr h2 ((isIn_iff hb).mp h).2, rfl⟩)
    · obtain ⟨k, hk, rfl⟩ := (isIn_iff hb).mpr ⟨Int32.not_lt.mp h1, Int32.not_le.mp h2⟩
      refine r_aload_n C d_X_at_12 rfl ?_
      refine rX_g59 C rfl V d_X_at_13 ?_
      refine r_iload_n C d_X_at_16 rfl ?_
      refine rX_iald C V rfl rfl (by show _ < 30; omega) rfl d_X_at_17 ?_
      refine r_goto (tgt := 22) C d_X_at_18 (by decide) ?_
      exact R _ _ _ d_X_at_22 rfl (Or.inl ⟨k, hk, rfl, rfl⟩)
set_option maxHeartbeats 4000000 in
theorem cM_at (x : Int32) {fc : Nat} (hg : g 6 = nI fc) (hf : fc ≤ 30) : mR l E mM_at [.ref (ad 0), .int x] (pM E A' ad g c) (fun r => (∃ k, k < fc ∧ x = nI k ∧ r = c 18 k) ∨ (¬ isIn fc x ∧ r = -1)) := by
  have hb : fc < 2 ^ 31 := by omega
  refine metR (by decide) rfl (Nat.le_of_ble_eq_true rfl) (catOK rfl) (fun Z P hZ C V R => ?_)
  show Wg Z _ 0 [(0, _), (1, _)] []
  refine r_iload_n C d_M_at_0 rfl ?_
  refine r_if_lt (tgt := 12) C d_M_at_1 (by decide) (fun h1 => ?_) (fun h1 => ?_)
  · refine r_iconst (v := -1) C d_M_at_12 (by decide) ?_
    refine r_goto (tgt := 22) C d_M_at_13 (by decide) ?_
    exact R _ _ _ d_M_at_22 rfl (Or.inr ⟨fun h => Int32.not_lt.mpr ((isIn_iff hb).mp h).1 h1, rfl⟩)
  · refine r_iload_n C d_M_at_4 rfl ?_
    refine r_aload_n C d_M_at_5 rfl ?_
    refine rM_g110 C rfl V d_M_at_6 ?_
    rw [hg]
    refine r_icmp_lt (tgt := 16) C d_M_at_9 (by decide) (fun h2 => ?_) (fun h2 => ?_)
    · obtain ⟨k, hk, rfl⟩ := (isIn_iff hb).mpr ⟨Int32.not_lt.mp h1, h2⟩
      refine r_aload_n C d_M_at_16 rfl ?_
      refine rM_g62 C rfl V d_M_at_17 ?_
      refine r_iload_n C d_M_at_20 rfl ?_
      refine rM_iald C V rfl rfl (by show _ < 32; omega) rfl d_M_at_21 ?_
      exact R _ _ _ d_M_at_22 rfl (Or.inl ⟨k, hk, rfl, rfl⟩)
    · refine r_iconst (v := -1) C d_M_at_12 (by decide) ?_
      refine r_goto (tgt := 22) C d_M_at_13 (by decide) ?_
      exact R _ _ _ d_M_at_22 rfl (Or.inr ⟨fun h => h2 ((isIn_iff hb).mp h).2, rfl⟩)
theorem cX_patterns : mR l E mX_patterns [.ref (ad 0)] (pX E A' ad n g c lg lc) (fun r => r = g 2) := by
  refine metR (by decide) rfl (Nat.le_of_ble_eq_true rfl) (catOK rfl) (fun Z P hZ C V R => ?_)
  show Wg Z _ 0 [(0, _)] []
  refine r_aload_n C d_X_patterns_0 rfl ?_
  refine rX_g122 C rfl V d_X_patterns_1 ?_
  exact R _ _ _ d_X_patterns_4 rfl rfl
theorem cX_exceptions : mR l E mX_exceptions [.ref (ad 0)] (pX E A' ad n g c lg lc) (fun r => r = g 6) := by
  refine metR (by decide) rfl (Nat.le_of_ble_eq_true rfl) (catOK rfl) (fun Z P hZ C V R => ?_)
  show Wg Z _ 0 [(0, _)] []
  refine r_aload_n C d_X_exceptions_0 rfl ?_
  refine rX_g134 C rfl V d_X_exceptions_1 ?_
  exact R _ _ _ d_X_exceptions_4 rfl rfl
theorem cM_patterns : mR l E mM_patterns [.ref (ad 0)] (pM E A' ad g c) (fun r => r = g 2) := by
  refine metR (by decide) rfl (Nat.le_of_ble_eq_true rfl) (catOK rfl) (fun Z P hZ C V R => ?_)
  show Wg Z _ 0 [(0, _)] []
  refine r_aload_n C d_M_patterns_0 rfl ?_
  refine rM_g80 C rfl V d_M_patterns_1 ?_
  exact R _ _ _ d_M_patterns_4 rfl rfl
theorem cM_exceptions : mR l E mM_exceptions [.ref (ad 0)] (pM E A' ad g c) (fun r => r = g 4) := by
  refine metR (by decide) rfl (Nat.le_of_ble_eq_true rfl) (catOK rfl) (fun Z P hZ C V R => ?_)
  show Wg Z _ 0 [(0, _)] []
  refine r_aload_n C d_M_exceptions_0 rfl ?_
  refine rM_g97 C rfl V d_M_exceptions_1 ?_
  exact R _ _ _ d_M_exceptions_4 rfl rfl
end S8
end
section
-- small methods of X and M that write
abbrev gcS : Type := (Nat → Int32) × (Nat → Nat → Int32)
theorem nar_B {a : Nat} (h : a < 128) : vp_nar .byte (nI a).toInt8.toInt32 = nI a := by
  have : ∀ a, a < 128 → vp_nar .byte (nI a).toInt8.toInt32 = nI a := by decide +kernel
  exact this a h
theorem i2b_B {a : Nat} (h : a < 128) : (nI a).toInt8.toInt32 = nI a := by
  have : ∀ a, a < 128 → (nI a).toInt8.toInt32 = nI a := by decide +kernel
  exact this a h
theorem nar_b {a : Nat} (h : a < 128) : vp_nar .byte (nI a) = nI a := by
  have : ∀ a, a < 128 → vp_nar .byte (nI a) = nI a := by decide +kernel
  exact this a h
theorem nar_Z {b : Int32} (h : b = 0 ∨ b = 1) : vp_nar .boolean b = b := by rcases h with rfl | rfl <;> decide
theorem nI_mul (a b : Nat) {x : Int32} (hx : x = nI a) {y : Int32} (hy : y = nI b) : x * y = nI (a * b) := by rw [hx, hy]; exact pk_mul a b
theorem nI_ad (a b : Nat) {x : Int32} (hx : x = nI a) {y : Int32} (hy : y = nI b) : x + y = nI (a + b) := by rw [hx, hy]; exact nI_add a b
section S9
variable {l : Launch} {E : eE} {A : Nat → Prop} {ad : Nat → Nat} {n : Nat} {g : Nat → Int32} {c lg : Nat → Nat → Int32} {lc : Nat → Nat → Nat → Int32}
set_option maxHeartbeats 4000000 in
theorem cX_clear : mW l E mX_clear A [.ref (ad 0)] (pX E A ad n g c lg lc) (fun r (u : Nat → Int32) => r = g 5 ∧ u = upd g 5 0) (fun u => pX E A ad n u c lg lc) := by
  refine metW (by decide) rfl (Nat.le_of_ble_eq_true rfl) (catOK rfl) (fun Z hZ C R => ?_)
  show Wg Z _ 0 [(0, _)] []
  refine r_aload_n C d_X_clear_0 rfl ?_
  refine rX_g131 C rfl vI d_X_clear_1 ?_
  refine r_istore_n (L' := [(0, _), (1, _)]) C d_X_clear_4 (by decide) rfl ?_
  refine r_aload_n C d_X_clear_5 rfl ?_
  refine r_iconst (v := 0) C d_X_clear_6 (by decide) ?_
  refine rX_p131 C rfl vI d_X_clear_7 ?_
  refine r_iload_n C d_X_clear_10 rfl ?_
  exact R _ _ _ _ _ d_X_clear_11 rfl vI ⟨rfl, rfl⟩
set_option maxHeartbeats 4000000 in
theorem cM_clear : mW l E mM_clear A [.ref (ad 0)] (pM E A ad g c) (fun r (u : Nat → Int32) => r = g 5 ∧ u = upd g 5 0) (fun u => pM E A ad u c) := by
  refine metW (by decide) rfl (Nat.le_of_ble_eq_true rfl) (catOK rfl) (fun Z hZ C R => ?_)
  show Wg Z _ 0 [(0, _)] []
  refine r_aload_n C d_M_clear_0 rfl ?_
  refine rM_g94 C rfl vI d_M_clear_1 ?_
  refine r_istore_n (L' := [(0, _), (1, _)]) C d_M_clear_4 (by decide) rfl ?_
  refine r_aload_n C d_M_clear_5 rfl ?_
  refine r_iconst (v := 0) C d_M_clear_6 (by decide) ?_
  refine rM_p94 C rfl vI d_M_clear_7 ?_
  refine r_iload_n C d_M_clear_10 rfl ?_
  exact R _ _ _ _ _ d_M_clear_11 rfl vI ⟨rfl, rfl⟩
/-- what 'sign' does: g's place of the length, c's place of the word -/
def sgP (a b : Nat) (g : Nat → Int32) (c : Nat → Nat → Int32) (ln : Nat) (x : Int32) (r : Int32) (u : gcS) : Prop :=
  (¬ isIn 256 x ∧ r = -1 ∧ u = (g, c)) ∨ (isIn 256 x ∧ ln = 30 ∧ r = -2 ∧ u = (g, c)) ∨ (isIn 256 x ∧ ln < 30 ∧ r = nI (ln + 1) ∧ u = (upd g a (nI (ln + 1)), setA c b (upd (c b) ln x)))
set_option maxHeartbeats 4000000 in
theorem cX_sign (x : Int32) {ln : Nat} (hg : g 5 = nI ln) (hl : ln ≤ 30) : mW l E mX_sign A [.ref (ad 0), .int x] (pX E A ad n g c lg lc) (sgP 5 8 g c ln x) (fun u => pX E A ad n u.1 u.2 lg lc) := by
  refine metW (by decide) rfl (Nat.le_of_ble_eq_true rfl) (catOK rfl) (fun Z hZ C R => ?_)
  show Wg Z _ 0 [(0, _), (1, _)] []
  refine r_iload_n C d_X_sign_0 rfl ?_
  refine r_callS C (cX_isSign x) cS_71_X ⟨by decide, by decide⟩ ⟨rfl, rfl⟩ rfl rfl (Nat.le_of_ble_eq_true rfl) d_X_sign_1 (fun r hr => ?_)
  refine r_if_ne (tgt := 9) C d_X_sign_4 (by decide) (fun h1 => ?_) (fun h1 => ?_)
  · have hs := yn_1 hr h1
    refine r_aload_n C d_X_sign_9 rfl ?_
    refine rX_g131 C rfl vI d_X_sign_10 ?_
    refine r_bipush (v := 30) C d_X_sign_13 (by decide) ?_
    rw [hg]
    refine r_icmp_ne (tgt := 21) C d_X_sign_15 (by decide) (fun h2 => ?_) (fun h2 => ?_)
    · have h3 : ln < 30 := by
        rcases Nat.lt_or_ge ln 30 with q | q
        · exact q
        · exact absurd (by rw [show ln = 30 by omega]; rfl) h2
      refine r_aload_n C d_X_sign_21 rfl ?_
      refine rX_g38 C rfl vI d_X_sign_22 ?_
      refine r_aload_n C d_X_sign_25 rfl ?_
      refine rX_g131 C rfl vI d_X_sign_26 ?_
      refine r_iload_n C d_X_sign_29 rfl ?_
      refine rX_iast C vI rfl hg (by show _ < 30; omega) rfl d_X_sign_30 ?_
      refine r_aload_n C d_X_sign_31 rfl ?_
      refine r_dup C d_X_sign_32 rfl ?_
      refine rX_g131 C rfl vI d_X_sign_33 ?_
      refine r_iconst (v := 1) C d_X_sign_36 (by decide) ?_
      refine r_iadd C d_X_sign_37 ?_
      refine r_tope (nI (ln + 1)) (by rw [hg]; exact nI_1 ln) ?_
      refine rX_p131 C rfl vI d_X_sign_38 ?_
      refine r_aload_n C d_X_sign_41 rfl ?_
      refine rX_g131 C rfl vI d_X_sign_42 ?_
      exact R _ _ _ _ _ d_X_sign_45 rfl vI (Or.inr (Or.inr ⟨hs, h3, rfl, rfl⟩))
    · refine r_bipush (v := -2) C d_X_sign_18 (by decide) ?_
      exact R _ _ _ _ _ d_X_sign_20 rfl vI (Or.inr (Or.inl ⟨hs, (nI_eq (by omega) (by omega)).mp (show nI ln = nI 30 from h2), rfl, rfl⟩))
  · refine r_iconst (v := -1) C d_X_sign_7 (by decide) ?_
    exact R _ _ _ _ _ d_X_sign_8 rfl vI (Or.inl ⟨yn_0 hr h1, rfl, rfl⟩)
set_option maxHeartbeats 4000000 in
theorem cM_sign (x : Int32) {ln : Nat} (hg : g 5 = nI ln) (hl : ln ≤ 30) : mW l E mM_sign A [.ref (ad 0), .int x] (pM E A ad g c) (sgP 5 16 g c ln x) (fun u => pM E A ad u.1 u.2) := by
  refine metW (by decide) rfl (Nat.le_of_ble_eq_true rfl) (catOK rfl) (fun Z hZ C R => ?_)
  show Wg Z _ 0 [(0, _), (1, _)] []
  refine r_iload_n C d_M_sign_0 rfl ?_
  refine r_iconst (v := 0) C d_M_sign_1 (by decide) ?_
  refine r_sipush (v := 255) C d_M_sign_2 (by decide) ?_
  refine r_callS C (cM_in x 255 rfl (by decide)) cS_73_M ⟨by decide, by decide⟩ ⟨rfl, rfl⟩ rfl rfl (Nat.le_of_ble_eq_true rfl) d_M_sign_5 (fun r hr => ?_)
  refine r_if_ne (tgt := 13) C d_M_sign_8 (by decide) (fun h1 => ?_) (fun h1 => ?_)
  · have hs := yn_1 hr h1
    refine r_aload_n C d_M_sign_13 rfl ?_
    refine rM_g94 C rfl vI d_M_sign_14 ?_
    refine r_bipush (v := 30) C d_M_sign_17 (by decide) ?_
    rw [hg]
    refine r_icmp_ne (tgt := 25) C d_M_sign_19 (by decide) (fun h2 => ?_) (fun h2 => ?_)
    · have h3 : ln < 30 := by
        rcases Nat.lt_or_ge ln 30 with q | q
        · exact q
        · exact absurd (by rw [show ln = 30 by omega]; rfl) h2
      refine r_aload_n C d_M_sign_25 rfl ?_
      refine rM_g56 C rfl vI d_M_sign_26 ?_
      refine r_aload_n C d_M_sign_29 rfl ?_
      refine rM_g94 C rfl vI d_M_sign_30 ?_
      refine r_iload_n C d_M_sign_33 rfl ?_
      refine rM_iast C vI rfl hg (by show _ < 30; omega) rfl d_M_sign_34 ?_
      refine r_aload_n C d_M_sign_35 rfl ?_
      refine r_dup C d_M_sign_36 rfl ?_
      refine rM_g94 C rfl vI d_M_sign_37 ?_
      refine r_iconst (v := 1) C d_M_sign_40 (by decide) ?_
      refine r_iadd C d_M_sign_41 ?_
      refine r_tope (nI (ln + 1)) (by rw [hg]; exact nI_1 ln) ?_
      refine rM_p94 C rfl vI d_M_sign_42 ?_
      refine r_aload_n C d_M_sign_45 rfl ?_
      refine rM_g94 C rfl vI d_M_sign_46 ?_
      exact R _ _ _ _ _ d_M_sign_49 rfl vI (Or.inr (Or.inr ⟨hs, h3, rfl, rfl⟩))
    · refine r_bipush (v := -2) C d_M_sign_22 (by decide) ?_
      exact R _ _ _ _ _ d_M_sign_24 rfl vI (Or.inr (Or.inl ⟨hs, (nI_eq (by omega) (by omega)).mp (show nI ln = nI 30 from h2), rfl, rfl⟩))
  · refine r_iconst (v := -1) C d_M_sign_11 (by decide) ?_
    exact R _ _ _ _ _ d_M_sign_12 rfl vI (Or.inl ⟨yn_0 hr h1, rfl, rfl⟩)
/-- what 'next' does: g's place of the length -/
def nxP (a : Nat) (g : Nat → Int32) (c : Nat → Nat → Int32) (rl : Nat) (x y : Int32) (r : Int32) (u : gcS) : Prop :=
  (¬ (isIn 31 x ∧ isIn 10 y) ∧ r = -1 ∧ u = (g, c)) ∨ ((isIn 31 x ∧ isIn 10 y) ∧ rl = 12 ∧ r = -2 ∧ u = (g, c)) ∨ ((isIn 31 x ∧ isIn 10 y) ∧ rl < 12 ∧ r = nI (rl + 1) ∧ u = (upd g a (nI (rl + 1)), setA (setA c 6 (upd (c 6) rl x)) 7 (upd (c 7) rl y)))
set_option maxHeartbeats 4000000 in
theorem cX_next (x y : Int32) {rl : Nat} (hg : g 4 = nI rl) (hl : rl ≤ 12) : mW l E mX_next A [.ref (ad 0), .int x, .int y] (pX E A ad n g c lg lc) (nxP 4 g c rl x y) (fun u => pX E A ad n u.1 u.2 lg lc) := by
  have e : nI 31 = 31 := by decide
  refine metW (by decide) rfl (Nat.le_of_ble_eq_true rfl) (catOK rfl) (fun Z hZ C R => ?_)
  show Wg Z _ 0 [(0, _), (1, _), (2, _)] []
  refine r_iload_n C d_X_next_0 rfl ?_
  refine r_if_lt (tgt := 17) C d_X_next_1 (by decide) (fun h1 => ?_) (fun h1 => ?_)
  · refine r_iconst (v := -1) C d_X_next_17 (by decide) ?_
    exact R _ _ _ _ _ d_X_next_18 rfl vI (Or.inl ⟨fun h => Int32.not_lt.mpr ((isIn_iff (by decide)).mp h.1).1 h1, rfl, rfl⟩)
  · refine r_iload_n C d_X_next_4 rfl ?_
    refine r_bipush (v := 31) C d_X_next_5 (by decide) ?_
    refine r_icmp_ge (tgt := 17) C d_X_next_7 (by decide) (fun h2 => ?_) (fun h2 => ?_)
    · refine r_iconst (v := -1) C d_X_next_17 (by decide) ?_
      exact R _ _ _ _ _ d_X_next_18 rfl vI (Or.inl ⟨fun h => Int32.not_lt.mpr h2 (e ▸ ((isIn_iff (by decide)).mp h.1).2), rfl, rfl⟩)
    · have hs : isIn 31 x := (isIn_iff (by decide)).mpr ⟨Int32.not_lt.mp h1, e ▸ Int32.not_le.mp h2⟩
      refine r_iload_n C d_X_next_10 rfl ?_
      refine r_callS C (cX_isDigit y) cS_91_X ⟨by decide, by decide⟩ ⟨rfl, rfl⟩ rfl rfl (Nat.le_of_ble_eq_true rfl) d_X_next_11 (fun r hr => ?_)
      refine r_if_ne (tgt := 19) C d_X_next_14 (by decide) (fun h3 => ?_) (fun h3 => ?_)
      · have ht := yn_1 hr h3
        refine r_aload_n C d_X_next_19 rfl ?_
        refine rX_g94 C rfl vI d_X_next_20 ?_
        refine r_bipush (v := 12) C d_X_next_23 (by decide) ?_
        rw [hg]
        refine r_icmp_ne (tgt := 31) C d_X_next_25 (by decide) (fun h4 => ?_) (fun h4 => ?_)
        · have h5 : rl < 12 := by
            rcases Nat.lt_or_ge rl 12 with q | q
            · exact q
            · exact absurd (by rw [show rl = 12 by omega]; rfl) h4
          refine r_aload_n C d_X_next_31 rfl ?_
          refine rX_g32 C rfl vI d_X_next_32 ?_
          refine r_aload_n C d_X_next_35 rfl ?_
          refine rX_g94 C rfl vI d_X_next_36 ?_
          refine r_iload_n C d_X_next_39 rfl ?_
          refine rX_iast C vI rfl hg (by show _ < 12; omega) rfl d_X_next_40 ?_
          refine r_aload_n C d_X_next_41 rfl ?_
          refine rX_g35 C rfl vI d_X_next_42 ?_
          refine r_aload_n C d_X_next_45 rfl ?_
          refine rX_g94 C rfl vI d_X_next_46 ?_
          refine r_iload_n C d_X_next_49 rfl ?_
          refine rX_iast C vI rfl hg (by show _ < 12; omega) rfl d_X_next_50 ?_
          refine r_aload_n C d_X_next_51 rfl ?_
          refine r_dup C d_X_next_52 rfl ?_
          refine rX_g94 C rfl vI d_X_next_53 ?_
          refine r_iconst (v := 1) C d_X_next_56 (by decide) ?_
          refine r_iadd C d_X_next_57 ?_
          refine r_tope (nI (rl + 1)) (by rw [hg]; exact nI_1 rl) ?_
          refine rX_p94 C rfl vI d_X_next_58 ?_
          refine r_aload_n C d_X_next_61 rfl ?_
          refine rX_g94 C rfl vI d_X_next_62 ?_
          exact R _ _ _ _ _ d_X_next_65 rfl vI (Or.inr (Or.inr ⟨⟨hs, ht⟩, h5, rfl, rfl⟩))
        · refine r_bipush (v := -2) C d_X_next_28 (by decide) ?_
          exact R _ _ _ _ _ d_X_next_30 rfl vI (Or.inr (Or.inl ⟨⟨hs, ht⟩, (nI_eq (by omega) (by omega)).mp (show nI rl = nI 12 from h4), rfl, rfl⟩))
      · refine r_iconst (v := -1) C d_X_next_17 (by decide) ?_
        exact R _ _ _ _ _ d_X_next_18 rfl vI (Or.inl ⟨fun h => yn_0 hr h3 h.2, rfl, rfl⟩)
set_option maxHeartbeats 4000000 in
theorem cM_next (x y : Int32) {rl : Nat} (hg : g 1 = nI rl) (hl : rl ≤ 12) : mW l E mM_next A [.ref (ad 0), .int x, .int y] (pM E A ad g c) (nxP 1 g c rl x y) (fun u => pM E A ad u.1 u.2) := by
  refine metW (by decide) rfl (Nat.le_of_ble_eq_true rfl) (catOK rfl) (fun Z hZ C R => ?_)
  show Wg Z _ 0 [(0, _), (1, _), (2, _)] []
  refine r_iload_n C d_M_next_0 rfl ?_
  refine r_iconst (v := 0) C d_M_next_1 (by decide) ?_
  refine r_bipush (v := 30) C d_M_next_2 (by decide) ?_
  refine r_callS C (cM_in x 30 rfl (by decide)) cS_73_M ⟨by decide, by decide⟩ ⟨rfl, rfl⟩ rfl rfl (Nat.le_of_ble_eq_true rfl) d_M_next_4 (fun r hr => ?_)
  refine r_if_eq (tgt := 20) C d_M_next_7 (by decide) (fun h1 => ?_) (fun h1 => ?_)
  · refine r_iconst (v := -1) C d_M_next_20 (by decide) ?_
    exact R _ _ _ _ _ d_M_next_21 rfl vI (Or.inl ⟨fun h => yn_0 hr h1 h.1, rfl, rfl⟩)
  · have hs := yn_1 hr h1
    refine r_iload_n C d_M_next_10 rfl ?_
    refine r_iconst (v := 0) C d_M_next_11 (by decide) ?_
    refine r_bipush (v := 9) C d_M_next_12 (by decide) ?_
    refine r_callS C (cM_in y 9 rfl (by decide)) cS_73_M ⟨by decide, by decide⟩ ⟨rfl, rfl⟩ rfl rfl (Nat.le_of_ble_eq_true rfl) d_M_next_14 (fun r2 hr2 => ?_)
    refine r_if_ne (tgt := 22) C d_M_next_17 (by decide) (fun h3 => ?_) (fun h3 => ?_)
    · have ht := yn_1 hr2 h3
      refine r_aload_n C d_M_next_22 rfl ?_
      refine rM_g77 C rfl vI d_M_next_23 ?_
      refine r_bipush (v := 12) C d_M_next_26 (by decide) ?_
      rw [hg]
      refine r_icmp_ne (tgt := 34) C d_M_next_28 (by decide) (fun h4 => ?_) (fun h4 => ?_)
      · have h5 : rl < 12 := by
          rcases Nat.lt_or_ge rl 12 with q | q
          · exact q
          · exact absurd (by rw [show rl = 12 by omega]; rfl) h4
        refine r_aload_n C d_M_next_34 rfl ?_
        refine rM_g26 C rfl vI d_M_next_35 ?_
        refine r_aload_n C d_M_next_38 rfl ?_
        refine rM_g77 C rfl vI d_M_next_39 ?_
        refine r_iload_n C d_M_next_42 rfl ?_
        refine rM_iast C vI rfl hg (by show _ < 12; omega) rfl d_M_next_43 ?_
        refine r_aload_n C d_M_next_44 rfl ?_
        refine rM_g29 C rfl vI d_M_next_45 ?_
        refine r_aload_n C d_M_next_48 rfl ?_
        refine rM_g77 C rfl vI d_M_next_49 ?_
        refine r_iload_n C d_M_next_52 rfl ?_
        refine rM_iast C vI rfl hg (by show _ < 13; omega) rfl d_M_next_53 ?_
        refine r_aload_n C d_M_next_54 rfl ?_
        refine r_dup C d_M_next_55 rfl ?_
        refine rM_g77 C rfl vI d_M_next_56 ?_
        refine r_iconst (v := 1) C d_M_next_59 (by decide) ?_
        refine r_iadd C d_M_next_60 ?_
        refine r_tope (nI (rl + 1)) (by rw [hg]; exact nI_1 rl) ?_
        refine rM_p77 C rfl vI d_M_next_61 ?_
        refine r_aload_n C d_M_next_64 rfl ?_
        refine rM_g77 C rfl vI d_M_next_65 ?_
        exact R _ _ _ _ _ d_M_next_68 rfl vI (Or.inr (Or.inr ⟨⟨hs, ht⟩, h5, rfl, rfl⟩))
      · refine r_bipush (v := -2) C d_M_next_31 (by decide) ?_
        exact R _ _ _ _ _ d_M_next_33 rfl vI (Or.inr (Or.inl ⟨⟨hs, ht⟩, (nI_eq (by omega) (by omega)).mp (show nI rl = nI 12 from h4), rfl, rfl⟩))
    · refine r_iconst (v := -1) C d_M_next_20 (by decide) ?_
      exact R _ _ _ _ _ d_M_next_21 rfl vI (Or.inl ⟨fun h => yn_0 hr2 h3 h.2, rfl, rfl⟩)
end S9
end
section
-- code, ends of X and M; language of M
def okC (n : Nat) (x y z : Int32) : Prop := isIn n x ∧ isIn 256 y ∧ isIn 31 z
def okN (n : Nat) (x y z : Int32) : Prop := isIn n x ∧ isIn 21 y ∧ isIn 21 z
section S10
variable {l : Launch} {E : eE} {A : Nat → Prop} {ad : Nat → Nat} {n : Nat} {g : Nat → Int32} {c lg : Nat → Nat → Int32} {lc : Nat → Nat → Nat → Int32}
def coX (n : Nat) (lc : Nat → Nat → Nat → Int32) (x y z b : Int32) (r : Int32) (u : Nat → Nat → Nat → Int32) : Prop :=
  (¬ okC n x y z ∧ r = -1 ∧ u = lc) ∨ (∃ i w, i < n ∧ w < 256 ∧ okC n x y z ∧ x = nI i ∧ y = nI w ∧ r = 1 ∧ (∀ j v, u j 0 v = if j = i ∧ v = w then z else lc j 0 v) ∧ (∀ j v, u j 1 v = if j = i ∧ v = w then b else lc j 1 v))
def coM (n : Nat) (c : Nat → Nat → Int32) (x y z b : Int32) (r : Int32) (u : Nat → Nat → Int32) : Prop :=
  (¬ okC n x y z ∧ r = -1 ∧ u = c) ∨ (∃ i w, i < n ∧ w < 256 ∧ okC n x y z ∧ x = nI i ∧ y = nI w ∧ r = 1 ∧ u = setA (setA c 1 (upd (c 1) (256 * i + w) z)) 2 (upd (c 2) (256 * i + w) b))
set_option maxHeartbeats 4000000 in
theorem cX_code (x y z b : Int32) (hg : g 0 = nI n) (hn : n ≤ 4) (hb : b = 0 ∨ b = 1) : mW l E mX_code A [.ref (ad 0), .int x, .int y, .int z, .int b] (pX E A ad n g c lg lc) (coX n lc x y z b) (fun u => pX E A ad n g c lg u) := by
  have e : nI 31 = 31 := by decide
  refine metW (by decide) rfl (Nat.le_of_ble_eq_true rfl) (catOK rfl) (fun Z hZ C R => ?_)
  show Wg Z _ 0 [(0, _), (1, _), (2, _), (3, _), (4, _)] []
  refine r_aload_n C d_X_code_0 rfl ?_
  refine r_iload_n C d_X_code_1 rfl ?_
  refine r_callR C (cX_isLanguage x hg hn) cV_67_X ⟨by decide, by decide⟩ ⟨rfl, rfl⟩ vI (fun s H => pX_recv) rfl rfl (Nat.le_of_ble_eq_true rfl) d_X_code_2 (fun r1 hr1 => ?_)
  refine r_if_eq (tgt := 25) C d_X_code_5 (by decide) (fun h1 => ?_) (fun h1 => ?_)
  · refine r_iconst (v := -1) C d_X_code_25 (by decide) ?_
    exact R _ _ _ _ _ d_X_code_26 rfl vI (Or.inl ⟨fun h => yn_0 hr1 h1 h.1, rfl, rfl⟩)
  · have q1 := yn_1 hr1 h1
    refine r_iload_n C d_X_code_8 rfl ?_
    refine r_callS C (cX_isSign y) cS_71_X ⟨by decide, by decide⟩ ⟨rfl, rfl⟩ rfl rfl (Nat.le_of_ble_eq_true rfl) d_X_code_9 (fun r2 hr2 => ?_)
    refine r_if_eq (tgt := 25) C d_X_code_12 (by decide) (fun h2 => ?_) (fun h2 => ?_)
    · refine r_iconst (v := -1) C d_X_code_25 (by decide) ?_
      exact R _ _ _ _ _ d_X_code_26 rfl vI (Or.inl ⟨fun h => yn_0 hr2 h2 h.2.1, rfl, rfl⟩)
    · have q2 := yn_1 hr2 h2
      refine r_iload_n C d_X_code_15 rfl ?_
      refine r_if_lt (tgt := 25) C d_X_code_16 (by decide) (fun h3 => ?_) (fun h3 => ?_)
      · refine r_iconst (v := -1) C d_X_code_25 (by decide) ?_
        exact R _ _ _ _ _ d_X_code_26 rfl vI (Or.inl ⟨fun h => Int32.not_lt.mpr ((isIn_iff (by decide)).mp h.2.2).1 h3, rfl, rfl⟩)
      · refine r_iload_n C d_X_code_19 rfl ?_
        refine r_bipush (v := 31) C d_X_code_20 (by decide) ?_
        refine r_icmp_lt (tgt := 27) C d_X_code_22 (by decide) (fun h4 => ?_) (fun h4 => ?_)
        · have q3 : isIn 31 z := (isIn_iff (by decide)).mpr ⟨Int32.not_lt.mp h3, e ▸ h4⟩
          have q := And.intro q1 (And.intro q2 q3)
          obtain ⟨i, hi, rfl⟩ := q1
          obtain ⟨w, hw, rfl⟩ := q2
          obtain ⟨a, ha, rfl⟩ := q3
          refine r_aload_n C d_X_code_27 rfl ?_
          refine rX_g11 C rfl vI d_X_code_28 ?_
          refine r_iload_n C d_X_code_31 rfl ?_
          refine rX_aald C vI rfl hi hn d_X_code_32 ?_
          refine rG_g74 C rfl vI hi d_X_code_33 ?_
          refine r_iload_n C d_X_code_36 rfl ?_
          refine r_iload_n C d_X_code_37 rfl ?_
          refine r_i2b C d_X_code_38 (i2b_B (by omega)) ?_
          refine rG_bast C vI hi rfl hw (nar_b (by omega)) rfl d_X_code_39 ?_
          refine r_aload_n C d_X_code_40 rfl ?_
          refine rX_g11 C rfl vI d_X_code_41 ?_
          refine r_iload_n C d_X_code_44 rfl ?_
          refine rX_aald C vI rfl hi hn d_X_code_45 ?_
          refine rG_g77 C rfl vI hi d_X_code_46 ?_
          refine r_iload_n C d_X_code_49 rfl ?_
          refine r_iload C d_X_code_50 rfl ?_
          refine rG_zast C vI hi rfl hw (nar_Z hb) rfl d_X_code_52 ?_
          refine r_iconst (v := 1) C d_X_code_53 (by decide) ?_
          refine R _ _ _ _ _ d_X_code_54 rfl vI (Or.inr ⟨i, w, hi, hw, q, rfl, rfl, rfl, fun j v => ?_, fun j v => ?_⟩)
          · by_cases hj : j = i <;> by_cases hv : v = w <;> simp [setC, setA, upd, hj, hv]
          · by_cases hj : j = i <;> by_cases hv : v = w <;> simp [setC, setA, upd, hj, hv]
        · refine r_iconst (v := -1) C d_X_code_25 (by decide) ?_
          exact R _ _ _ _ _ d_X_code_26 rfl vI (Or.inl ⟨fun h => h4 (e ▸ ((isIn_iff (by decide)).mp h.2.2).2), rfl, rfl⟩)
set_option maxHeartbeats 4000000 in
theorem cM_code (x y z b : Int32) (hg : g 0 = nI n) (hn : n ≤ 4) (hb : b = 0 ∨ b = 1) : mW l E mM_code A [.ref (ad 0), .int x, .int y, .int z, .int b] (pM E A ad g c) (coM n c x y z b) (fun u => pM E A ad g u) := by
  refine metW (by decide) rfl (Nat.le_of_ble_eq_true rfl) (catOK rfl) (fun Z hZ C R => ?_)
  show Wg Z _ 0 [(0, _), (1, _), (2, _), (3, _), (4, _)] []
  refine r_aload_n C d_M_code_0 rfl ?_
  refine r_iload_n C d_M_code_1 rfl ?_
  refine r_callR C (cM_isLanguage x hg hn) cV_69_M ⟨by decide, by decide⟩ ⟨rfl, rfl⟩ vI (fun s H => pM_recv) rfl rfl (Nat.le_of_ble_eq_true rfl) d_M_code_2 (fun r1 hr1 => ?_)
  refine r_if_eq (tgt := 29) C d_M_code_5 (by decide) (fun h1 => ?_) (fun h1 => ?_)
  · refine r_iconst (v := -1) C d_M_code_29 (by decide) ?_
    exact R _ _ _ _ _ d_M_code_30 rfl vI (Or.inl ⟨fun h => yn_0 hr1 h1 h.1, rfl, rfl⟩)
  · have q1 := yn_1 hr1 h1
    refine r_iload_n C d_M_code_8 rfl ?_
    refine r_iconst (v := 0) C d_M_code_9 (by decide) ?_
    refine r_sipush (v := 255) C d_M_code_10 (by decide) ?_
    refine r_callS C (cM_in y 255 rfl (by decide)) cS_73_M ⟨by decide, by decide⟩ ⟨rfl, rfl⟩ rfl rfl (Nat.le_of_ble_eq_true rfl) d_M_code_13 (fun r2 hr2 => ?_)
    refine r_if_eq (tgt := 29) C d_M_code_16 (by decide) (fun h2 => ?_) (fun h2 => ?_)
    · refine r_iconst (v := -1) C d_M_code_29 (by decide) ?_
      exact R _ _ _ _ _ d_M_code_30 rfl vI (Or.inl ⟨fun h => yn_0 hr2 h2 h.2.1, rfl, rfl⟩)
    · have q2 : isIn 256 y := yn_1 hr2 h2
      refine r_iload_n C d_M_code_19 rfl ?_
      refine r_iconst (v := 0) C d_M_code_20 (by decide) ?_
      refine r_bipush (v := 30) C d_M_code_21 (by decide) ?_
      refine r_callS C (cM_in z 30 rfl (by decide)) cS_73_M ⟨by decide, by decide⟩ ⟨rfl, rfl⟩ rfl rfl (Nat.le_of_ble_eq_true rfl) d_M_code_23 (fun r3 hr3 => ?_)
      refine r_if_ne (tgt := 31) C d_M_code_26 (by decide) (fun h3 => ?_) (fun h3 => ?_)
      · have q3 : isIn 31 z := yn_1 hr3 h3
        have q := And.intro q1 (And.intro q2 q3)
        obtain ⟨i, hi, rfl⟩ := q1
        obtain ⟨w, hw, rfl⟩ := q2
        refine r_aload_n C d_M_code_31 rfl ?_
        refine rM_g7 C rfl vI d_M_code_32 ?_
        refine r_sipush (v := 256) C d_M_code_35 (by decide) ?_
        refine r_iload_n C d_M_code_38 rfl ?_
        refine r_imul C d_M_code_39 ?_
        refine r_iload_n C d_M_code_40 rfl ?_
        refine r_iadd C d_M_code_41 ?_
        refine r_iload_n C d_M_code_42 rfl ?_
        refine rM_iast C vI rfl (nI_ad _ _ (nI_mul 256 _ rfl rfl) rfl) (by show _ < 1024; omega) rfl d_M_code_43 ?_
        refine r_aload_n C d_M_code_44 rfl ?_
        refine rM_g13 C rfl vI d_M_code_45 ?_
        refine r_sipush (v := 256) C d_M_code_48 (by decide) ?_
        refine r_iload_n C d_M_code_51 rfl ?_
        refine r_imul C d_M_code_52 ?_
        refine r_iload_n C d_M_code_53 rfl ?_
        refine r_iadd C d_M_code_54 ?_
        refine r_iload C d_M_code_55 rfl ?_
        refine rM_zast C vI rfl (nI_ad _ _ (nI_mul 256 _ rfl rfl) rfl) (by show _ < 1024; omega) (nar_Z hb) rfl d_M_code_57 ?_
        refine r_iconst (v := 1) C d_M_code_58 (by decide) ?_
        exact R _ _ _ _ _ d_M_code_59 rfl vI (Or.inr ⟨i, w, hi, hw, q, rfl, rfl, rfl, rfl⟩)
      · refine r_iconst (v := -1) C d_M_code_29 (by decide) ?_
        exact R _ _ _ _ _ d_M_code_30 rfl vI (Or.inl ⟨fun h => yn_0 hr3 h3 h.2.2, rfl, rfl⟩)
def enX (n : Nat) (lg : Nat → Nat → Int32) (x y z b : Int32) (r : Int32) (u : Nat → Nat → Int32) : Prop :=
  (¬ okN n x y z ∧ r = -1 ∧ u = lg) ∨ (∃ i, i < n ∧ okN n x y z ∧ x = nI i ∧ r = 1 ∧ (∀ j, j ≠ i → u j = lg j) ∧ u i 0 = y ∧ u i 1 = z ∧ u i 2 = b ∧ u i 3 = lg i 3)
def enM (n : Nat) (c : Nat → Nat → Int32) (x y z b : Int32) (r : Int32) (u : Nat → Nat → Int32) : Prop :=
  (¬ okN n x y z ∧ r = -1 ∧ u = c) ∨ (∃ i, i < n ∧ okN n x y z ∧ x = nI i ∧ r = 1 ∧ u = setA (setA (setA c 3 (upd (c 3) i y)) 4 (upd (c 4) i z)) 5 (upd (c 5) i b))
set_option maxHeartbeats 4000000 in
theorem cX_ends (x y z b : Int32) (hg : g 0 = nI n) (hn : n ≤ 4) (hb : b = 0 ∨ b = 1) : mW l E mX_ends A [.ref (ad 0), .int x, .int y, .int z, .int b] (pX E A ad n g c lg lc) (enX n lg x y z b) (fun u => pX E A ad n g c u lc) := by
  have e : nI 20 = 20 := by decide
  have hin : ∀ v : Int32, isIn 21 v ↔ 0 ≤ v ∧ v ≤ 20 := fun v => e ▸ isIn_le (B := 20) (by decide)
  refine metW (by decide) rfl (Nat.le_of_ble_eq_true rfl) (catOK rfl) (fun Z hZ C R => ?_)
  show Wg Z _ 0 [(0, _), (1, _), (2, _), (3, _), (4, _)] []
  refine r_aload_n C d_X_ends_0 rfl ?_
  refine r_iload_n C d_X_ends_1 rfl ?_
  refine r_callR C (cX_isLanguage x hg hn) cV_67_X ⟨by decide, by decide⟩ ⟨rfl, rfl⟩ vI (fun s H => pX_recv) rfl rfl (Nat.le_of_ble_eq_true rfl) d_X_ends_2 (fun r1 hr1 => ?_)
  refine r_if_eq (tgt := 28) C d_X_ends_5 (by decide) (fun h1 => ?_) (fun h1 => ?_)
  · refine r_iconst (v := -1) C d_X_ends_28 (by decide) ?_
    exact R _ _ _ _ _ d_X_ends_29 rfl vI (Or.inl ⟨fun h => yn_0 hr1 h1 h.1, rfl, rfl⟩)
  · have q1 := yn_1 hr1 h1
    refine r_iload_n C d_X_ends_8 rfl ?_
    refine r_if_lt (tgt := 28) C d_X_ends_9 (by decide) (fun h2 => ?_) (fun h2 => ?_)
    · refine r_iconst (v := -1) C d_X_ends_28 (by decide) ?_
      exact R _ _ _ _ _ d_X_ends_29 rfl vI (Or.inl ⟨fun h => Int32.not_lt.mpr ((hin y).mp h.2.1).1 h2, rfl, rfl⟩)
    · refine r_iload_n C d_X_ends_12 rfl ?_
      refine r_bipush (v := 20) C d_X_ends_13 (by decide) ?_
      refine r_icmp_gt (tgt := 28) C d_X_ends_15 (by decide) (fun h3 => ?_) (fun h3 => ?_)
      · refine r_iconst (v := -1) C d_X_ends_28 (by decide) ?_
        exact R _ _ _ _ _ d_X_ends_29 rfl vI (Or.inl ⟨fun h => Int32.not_lt.mpr ((hin y).mp h.2.1).2 h3, rfl, rfl⟩)
      · have q2 : isIn 21 y := (hin y).mpr ⟨Int32.not_lt.mp h2, Int32.not_lt.mp h3⟩
        refine r_iload_n C d_X_ends_18 rfl ?_
        refine r_if_lt (tgt := 28) C d_X_ends_19 (by decide) (fun h4 => ?_) (fun h4 => ?_)
        · refine r_iconst (v := -1) C d_X_ends_28 (by decide) ?_
          exact R _ _ _ _ _ d_X_ends_29 rfl vI (Or.inl ⟨fun h => Int32.not_lt.mpr ((hin z).mp h.2.2).1 h4, rfl, rfl⟩)
        · refine r_iload_n C d_X_ends_22 rfl ?_
          refine r_bipush (v := 20) C d_X_ends_23 (by decide) ?_
          refine r_icmp_le (tgt := 30) C d_X_ends_25 (by decide) (fun h5 => ?_) (fun h5 => ?_)
          · have q3 : isIn 21 z := (hin z).mpr ⟨Int32.not_lt.mp h4, h5⟩
            have q := And.intro q1 (And.intro q2 q3)
            obtain ⟨i, hi, rfl⟩ := q1
            refine r_aload_n C d_X_ends_30 rfl ?_
            refine rX_g11 C rfl vI d_X_ends_31 ?_
            refine r_iload_n C d_X_ends_34 rfl ?_
            refine rX_aald C vI rfl hi hn d_X_ends_35 ?_
            refine r_iload_n C d_X_ends_36 rfl ?_
            refine rG_p81 C rfl vI hi d_X_ends_37 ?_
            refine r_aload_n C d_X_ends_40 rfl ?_
            refine rX_g11 C rfl vI d_X_ends_41 ?_
            refine r_iload_n C d_X_ends_44 rfl ?_
            refine rX_aald C vI rfl hi hn d_X_ends_45 ?_
            refine r_iload_n C d_X_ends_46 rfl ?_
            refine rG_p84 C rfl vI hi d_X_ends_47 ?_
            refine r_aload_n C d_X_ends_50 rfl ?_
            refine rX_g11 C rfl vI d_X_ends_51 ?_
            refine r_iload_n C d_X_ends_54 rfl ?_
            refine rX_aald C vI rfl hi hn d_X_ends_55 ?_
            refine r_iload C d_X_ends_56 rfl ?_
            refine rG_p87 C rfl vI hi hb d_X_ends_58 ?_
            refine r_iconst (v := 1) C d_X_ends_61 (by decide) ?_
            refine R _ _ _ _ _ d_X_ends_62 rfl vI (Or.inr ⟨i, hi, q, rfl, rfl, fun j hj => ?_, ?_, ?_, ?_, ?_⟩)
            · funext k; simp [setA, hj]
            · simp [setA, upd]
            · simp [setA, upd]
            · simp [setA, upd]
            · simp [setA, upd]
          · refine r_iconst (v := -1) C d_X_ends_28 (by decide) ?_
            exact R _ _ _ _ _ d_X_ends_29 rfl vI (Or.inl ⟨fun h => h5 ((hin z).mp h.2.2).2, rfl, rfl⟩)
set_option maxHeartbeats 4000000 in
theorem cM_ends (x y z b : Int32) (hg : g 0 = nI n) (hn : n ≤ 4) (hb : b = 0 ∨ b = 1) : mW l E mM_ends A [.ref (ad 0), .int x, .int y, .int z, .int b] (pM E A ad g c) (enM n c x y z b) (fun u => pM E A ad g u) := by
  refine metW (by decide) rfl (Nat.le_of_ble_eq_true rfl) (catOK rfl) (fun Z hZ C R => ?_)
  show Wg Z _ 0 [(0, _), (1, _), (2, _), (3, _), (4, _)] []
  refine r_aload_n C d_M_ends_0 rfl ?_
  refine r_iload_n C d_M_ends_1 rfl ?_
  refine r_callR C (cM_isLanguage x hg hn) cV_69_M ⟨by decide, by decide⟩ ⟨rfl, rfl⟩ vI (fun s H => pM_recv) rfl rfl (Nat.le_of_ble_eq_true rfl) d_M_ends_2 (fun r1 hr1 => ?_)
  refine r_if_eq (tgt := 28) C d_M_ends_5 (by decide) (fun h1 => ?_) (fun h1 => ?_)
  · refine r_iconst (v := -1) C d_M_ends_28 (by decide) ?_
    exact R _ _ _ _ _ d_M_ends_29 rfl vI (Or.inl ⟨fun h => yn_0 hr1 h1 h.1, rfl, rfl⟩)
  · have q1 := yn_1 hr1 h1
    refine r_iload_n C d_M_ends_8 rfl ?_
    refine r_iconst (v := 0) C d_M_ends_9 (by decide) ?_
    refine r_bipush (v := 20) C d_M_ends_10 (by decide) ?_
    refine r_callS C (cM_in y 20 rfl (by decide)) cS_73_M ⟨by decide, by decide⟩ ⟨rfl, rfl⟩ rfl rfl (Nat.le_of_ble_eq_true rfl) d_M_ends_12 (fun r2 hr2 => ?_)
    refine r_if_eq (tgt := 28) C d_M_ends_15 (by decide) (fun h2 => ?_) (fun h2 => ?_)
    · refine r_iconst (v := -1) C d_M_ends_28 (by decide) ?_
      exact R _ _ _ _ _ d_M_ends_29 rfl vI (Or.inl ⟨fun h => yn_0 hr2 h2 h.2.1, rfl, rfl⟩)
    · have q2 : isIn 21 y := yn_1 hr2 h2
      refine r_iload_n C d_M_ends_18 rfl ?_
      refine r_iconst (v := 0) C d_M_ends_19 (by decide) ?_
      refine r_bipush (v := 20) C d_M_ends_20 (by decide) ?_
      refine r_callS C (cM_in z 20 rfl (by decide)) cS_73_M ⟨by decide, by decide⟩ ⟨rfl, rfl⟩ rfl rfl (Nat.le_of_ble_eq_true rfl) d_M_ends_22 (fun r3 hr3 => ?_)
      refine r_if_ne (tgt := 30) C d_M_ends_25 (by decide) (fun h3 => ?_) (fun h3 => ?_)
      · have q3 : isIn 21 z := yn_1 hr3 h3
        have q := And.intro q1 (And.intro q2 q3)
        obtain ⟨i, hi, rfl⟩ := q1
        refine r_aload_n C d_M_ends_30 rfl ?_
        refine rM_g17 C rfl vI d_M_ends_31 ?_
        refine r_iload_n C d_M_ends_34 rfl ?_
        refine r_iload_n C d_M_ends_35 rfl ?_
        refine rM_iast C vI rfl rfl (by show _ < 4; omega) rfl d_M_ends_36 ?_
        refine r_aload_n C d_M_ends_37 rfl ?_
        refine rM_g20 C rfl vI d_M_ends_38 ?_
        refine r_iload_n C d_M_ends_41 rfl ?_
        refine r_iload_n C d_M_ends_42 rfl ?_
        refine rM_iast C vI rfl rfl (by show _ < 4; omega) rfl d_M_ends_43 ?_
        refine r_aload_n C d_M_ends_44 rfl ?_
        refine rM_g23 C rfl vI d_M_ends_45 ?_
        refine r_iload_n C d_M_ends_48 rfl ?_
        refine r_iload C d_M_ends_49 rfl ?_
        refine rM_zast C vI rfl rfl (by show _ < 4; omega) (nar_Z hb) rfl d_M_ends_51 ?_
        refine r_iconst (v := 1) C d_M_ends_52 (by decide) ?_
        exact R _ _ _ _ _ d_M_ends_53 rfl vI (Or.inr ⟨i, hi, q, rfl, rfl, rfl⟩)
      · refine r_iconst (v := -1) C d_M_ends_28 (by decide) ?_
        exact R _ _ _ _ _ d_M_ends_29 rfl vI (Or.inl ⟨fun h => yn_0 hr3 h3 h.2.2, rfl, rfl⟩)
def laM (n : Nat) (g : Nat → Int32) (c : Nat → Nat → Int32) (r : Int32) (u : gcS) : Prop :=
  (n = 4 ∧ r = -2 ∧ u = (g, c)) ∨ (n < 4 ∧ r = nI n ∧ u = (upd g 0 (nI (n + 1)), setA (setA c 3 (upd (c 3) n 2)) 4 (upd (c 4) n 3)))
set_option maxHeartbeats 4000000 in
theorem cM_language (hg : g 0 = nI n) (hn : n ≤ 4) : mW l E mM_language A [.ref (ad 0)] (pM E A ad g c) (laM n g c) (fun u => pM E A ad u.1 u.2) := by
  refine metW (by decide) rfl (Nat.le_of_ble_eq_true rfl) (catOK rfl) (fun Z hZ C R => ?_)
  show Wg Z _ 0 [(0, _)] []
  refine r_aload_n C d_M_language_0 rfl ?_
  refine rM_g65 C rfl vI d_M_language_1 ?_
  refine r_iconst (v := 4) C d_M_language_4 (by decide) ?_
  rw [hg]
  refine r_icmp_ne (tgt := 11) C d_M_language_5 (by decide) (fun h1 => ?_) (fun h1 => ?_)
  · have h2 : n < 4 := by
      rcases Nat.lt_or_ge n 4 with q | q
      · exact q
      · exact absurd (by rw [show n = 4 by omega]; rfl) h1
    refine r_aload_n C d_M_language_11 rfl ?_
    refine rM_g17 C rfl vI d_M_language_12 ?_
    refine r_aload_n C d_M_language_15 rfl ?_
    refine rM_g65 C rfl vI d_M_language_16 ?_
    refine r_iconst (v := 2) C d_M_language_19 (by decide) ?_
    refine rM_iast C vI rfl hg (by show _ < 4; omega) rfl d_M_language_20 ?_
    refine r_aload_n C d_M_language_21 rfl ?_
    refine rM_g20 C rfl vI d_M_language_22 ?_
    refine r_aload_n C d_M_language_25 rfl ?_
    refine rM_g65 C rfl vI d_M_language_26 ?_
    refine r_iconst (v := 3) C d_M_language_29 (by decide) ?_
    refine rM_iast C vI rfl hg (by show _ < 4; omega) rfl d_M_language_30 ?_
    refine r_aload_n C d_M_language_31 rfl ?_
    refine r_dup C d_M_language_32 rfl ?_
    refine rM_g65 C rfl vI d_M_language_33 ?_
    refine r_iconst (v := 1) C d_M_language_36 (by decide) ?_
    refine r_iadd C d_M_language_37 ?_
    refine r_tope (nI (n + 1)) (by rw [hg]; exact nI_1 n) ?_
    refine rM_p65 C rfl vI d_M_language_38 ?_
    refine r_aload_n C d_M_language_41 rfl ?_
    refine rM_g65 C rfl vI d_M_language_42 ?_
    refine r_iconst (v := 1) C d_M_language_45 (by decide) ?_
    refine r_isub C d_M_language_46 ?_
    refine r_tope (nI n) (nI_pred n) ?_
    exact R _ _ _ _ _ d_M_language_47 rfl vI (Or.inr ⟨h2, rfl, rfl⟩)
  · refine r_bipush (v := -2) C d_M_language_8 (by decide) ?_
    exact R _ _ _ _ _ d_M_language_10 rfl vI (Or.inl ⟨(nI_eq (by omega) (by omega)).mp (show nI n = nI 4 from h1), rfl, rfl⟩)
end S10
end
section
-- isPattern of X and M
def isPat (w : Nat → Int32) (rl : Nat) : Prop := (∃ j, j < rl ∧ 0 < w j) ∧ ∀ j, j < rl → 0 < w j ∨ j = 0 ∨ j + 1 = rl
theorem yn_t {Q : Prop} (h : Q) : yn Q 1 := Or.inl ⟨rfl, h⟩
theorem yn_f {Q : Prop} (h : ¬ Q) : yn Q 0 := Or.inr ⟨rfl, h⟩
theorem ex_s {k : Nat} {p : Nat → Prop} : (∃ j, j < k + 1 ∧ p j) ↔ (∃ j, j < k ∧ p j) ∨ p k := by
  constructor
  · rintro ⟨j, h1, h2⟩
    by_cases hj : j = k
    · exact Or.inr (hj ▸ h2)
    · exact Or.inl ⟨j, by omega, h2⟩
  · rintro (⟨j, h1, h2⟩ | h)
    · exact ⟨j, by omega, h2⟩
    · exact ⟨k, by omega, h⟩
theorem al_s {k : Nat} {p : Nat → Prop} : (∀ j, j < k + 1 → p j) ↔ (∀ j, j < k → p j) ∧ p k := by
  constructor
  · intro h
    exact ⟨fun j hj => h j (by omega), h k (by omega)⟩
  · rintro ⟨h1, h2⟩ j hj
    by_cases e : j = k
    · exact e ▸ h2
    · exact h1 j (by omega)
theorem nI_lt_of {a b : Nat} (ha : a < 2 ^ 31) (h : ¬ nI b ≤ nI a) : a < b := by
  rcases Nat.lt_or_ge a b with q | q
  · exact q
  · exact absurd (nI_le q ha) h
section S11
variable {l : Launch} {E : eE} {A A' : Nat → Prop} {ad : Nat → Nat} {n : Nat} {g : Nat → Int32} {c lg : Nat → Nat → Int32} {lc : Nat → Nat → Nat → Int32}
set_option maxHeartbeats 4000000 in
theorem cX_isPattern {rl : Nat} (hg : g 4 = nI rl) (hl : rl ≤ 12) : mR l E mX_isPattern [.ref (ad 0)] (pX E A' ad n g c lg lc) (yn (isPat (c 6) rl)) := by
  refine metR (by decide) rfl (Nat.le_of_ble_eq_true rfl) (catOK rfl) (fun Z P hZ C V R => ?_)
  have loop : ∀ (m k : Nat) (s1 s2 : Int32), k ≤ rl → rl < k + m → yn (∃ j, j < k ∧ 0 < c 6 j) s1 → yn (∀ j, j < k → 0 < c 6 j ∨ j = 0 ∨ j + 1 = rl) s2 → Wg Z P 6 [(0, .ref (ad 0)), (1, .int s1), (2, .int s2), (3, .int (nI k))] [] := by
    intro m
    induction m with
    | zero => intro k s1 s2 h1 h2; omega
    | succ m ih =>
      intro k s1 s2 hk hm q1 q2
      refine r_iload_n C d_X_isPattern_6 rfl ?_
      refine r_aload_n C d_X_isPattern_7 rfl ?_
      refine rX_g94 C rfl V d_X_isPattern_8 ?_
      rw [hg]
      refine r_icmp_ge (tgt := 72) C d_X_isPattern_11 (by decide) (fun h1 => ?_) (fun h1 => ?_)
      · have hkr : k = rl := by
          rcases Nat.lt_or_ge k rl with q | q
          · exact absurd h1 (nI_ge q (by omega))
          · omega
        subst hkr
        refine r_iload_n C d_X_isPattern_72 rfl ?_
        refine r_if_eq (tgt := 84) C d_X_isPattern_73 (by decide) (fun h2 => ?_) (fun h2 => ?_)
        · refine r_iconst (v := 0) C d_X_isPattern_84 (by decide) ?_
          exact R _ _ _ d_X_isPattern_85 rfl (yn_f (fun h => yn_0 q1 h2 h.1))
        · refine r_iload_n C d_X_isPattern_76 rfl ?_
          refine r_if_eq (tgt := 84) C d_X_isPattern_77 (by decide) (fun h3 => ?_) (fun h3 => ?_)
          · refine r_iconst (v := 0) C d_X_isPattern_84 (by decide) ?_
            exact R _ _ _ d_X_isPattern_85 rfl (yn_f (fun h => yn_0 q2 h3 h.2))
          · refine r_iconst (v := 1) C d_X_isPattern_80 (by decide) ?_
            refine r_goto (tgt := 85) C d_X_isPattern_81 (by decide) ?_
            exact R _ _ _ d_X_isPattern_85 rfl (yn_t ⟨yn_1 q1 h2, yn_1 q2 h3⟩)
      · have hkr : k < rl := nI_lt_of (by omega) h1
        have J65 : ∀ s1' s2' : Int32, yn (∃ j, j < k + 1 ∧ 0 < c 6 j) s1' → yn (∀ j, j < k + 1 → 0 < c 6 j ∨ j = 0 ∨ j + 1 = rl) s2' → Wg Z P 65 [(0, .ref (ad 0)), (1, .int s1'), (2, .int s2), (3, .int (nI k))] [.int s2'] := by
          intro s1' s2' q1' q2'
          refine r_istore_n (L' := [(0, _), (1, _), (2, _), (3, _)]) C d_X_isPattern_65 (by decide) rfl ?_
          refine r_iinc (L' := [(0, _), (1, _), (2, _), (3, _)]) C d_X_isPattern_66 rfl (nI_inc _) (by decide) rfl ?_
          refine r_goto (tgt := 6) C d_X_isPattern_69 (by decide) ?_
          exact ih (k + 1) s1' s2' (by omega) (by omega) q1' q2'
        have J32 : ∀ s1' : Int32, yn (∃ j, j < k + 1 ∧ 0 < c 6 j) s1' → Wg Z P 32 [(0, .ref (ad 0)), (1, .int s1), (2, .int s2), (3, .int (nI k))] [.int s1'] := by
          intro s1' q1'
          refine r_istore_n (L' := [(0, _), (1, _), (2, _), (3, _)]) C d_X_isPattern_32 (by decide) rfl ?_
          refine r_iload_n C d_X_isPattern_33 rfl ?_
          refine r_if_eq (tgt := 64) C d_X_isPattern_34 (by decide) (fun h2 => ?_) (fun h2 => ?_)
          · refine r_iconst (v := 0) C d_X_isPattern_64 (by decide) ?_
            exact J65 s1' 0 q1' (yn_f (fun h => yn_0 q2 h2 (al_s.mp h).1))
          · have q3 := yn_1 q2 h2
            refine r_aload_n C d_X_isPattern_37 rfl ?_
            refine rX_g32 C rfl V d_X_isPattern_38 ?_
            refine r_iload_n C d_X_isPattern_41 rfl ?_
            refine rX_iald C V rfl rfl (by show _ < 12; omega) rfl d_X_isPattern_42 ?_
            refine r_if_gt (tgt := 60) C d_X_isPattern_43 (by decide) (fun h3 => ?_) (fun h3 => ?_)
            · refine r_iconst (v := 1) C d_X_isPattern_60 (by decide) ?_
              refine r_goto (tgt := 65) C d_X_isPattern_61 (by decide) ?_
              exact J65 s1' 1 q1' (yn_t (al_s.mpr ⟨q3, Or.inl h3⟩))
            · refine r_iload_n C d_X_isPattern_46 rfl ?_
              refine r_if_eq (tgt := 60) C d_X_isPattern_47 (by decide) (fun h4 => ?_) (fun h4 => ?_)
              · refine r_iconst (v := 1) C d_X_isPattern_60 (by decide) ?_
                refine r_goto (tgt := 65) C d_X_isPattern_61 (by decide) ?_
                have h0 : k = 0 := (nI_eq (by omega) (by omega)).mp (show nI k = nI 0 from h4)
                exact J65 s1' 1 q1' (yn_t (al_s.mpr ⟨q3, Or.inr (Or.inl h0)⟩))
              · refine r_iload_n C d_X_isPattern_50 rfl ?_
                refine r_aload_n C d_X_isPattern_51 rfl ?_
                refine rX_g94 C rfl V d_X_isPattern_52 ?_
                refine r_iconst (v := 1) C d_X_isPattern_55 (by decide) ?_
                refine r_isub C d_X_isPattern_56 ?_
                rw [hg]
                refine r_tope (nI (rl - 1)) (pk_sub (b := 1) (by omega)) ?_
                refine r_icmp_ne (tgt := 64) C d_X_isPattern_57 (by decide) (fun h5 => ?_) (fun h5 => ?_)
                · refine r_iconst (v := 0) C d_X_isPattern_64 (by decide) ?_
                  refine J65 s1' 0 q1' (yn_f (fun h => ?_))
                  rcases (al_s.mp h).2 with h6 | h6 | h6
                  · exact h3 h6
                  · exact h4 (by rw [h6]; rfl)
                  · exact h5 (by rw [← h6]; rfl)
                · refine r_iconst (v := 1) C d_X_isPattern_60 (by decide) ?_
                  refine r_goto (tgt := 65) C d_X_isPattern_61 (by decide) ?_
                  have h6 : k = rl - 1 := (nI_eq (by omega) (by omega)).mp h5
                  exact J65 s1' 1 q1' (yn_t (al_s.mpr ⟨q3, Or.inr (Or.inr (by omega))⟩))
        refine r_iload_n C d_X_isPattern_14 rfl ?_
        refine r_if_ne (tgt := 27) C d_X_isPattern_15 (by decide) (fun h2 => ?_) (fun h2 => ?_)
        · refine r_iconst (v := 1) C d_X_isPattern_27 (by decide) ?_
          refine r_goto (tgt := 32) C d_X_isPattern_28 (by decide) ?_
          exact J32 1 (yn_t (ex_s.mpr (Or.inl (yn_1 q1 h2))))
        · refine r_aload_n C d_X_isPattern_18 rfl ?_
          refine rX_g32 C rfl V d_X_isPattern_19 ?_
          refine r_iload_n C d_X_isPattern_22 rfl ?_
          refine rX_iald C V rfl rfl (by show _ < 12; omega) rfl d_X_isPattern_23 ?_
          refine r_if_le (tgt := 31) C d_X_isPattern_24 (by decide) (fun h3 => ?_) (fun h3 => ?_)
          · refine r_iconst (v := 0) C d_X_isPattern_31 (by decide) ?_
            refine J32 0 (yn_f (fun h => ?_))
            rcases ex_s.mp h with h4 | h4
            · exact yn_0 q1 h2 h4
            · exact Int32.not_lt.mpr h3 h4
          · refine r_iconst (v := 1) C d_X_isPattern_27 (by decide) ?_
            refine r_goto (tgt := 32) C d_X_isPattern_28 (by decide) ?_
            exact J32 1 (yn_t (ex_s.mpr (Or.inr (Int32.not_le.mp h3))))
  show Wg Z _ 0 [(0, _)] []
  refine r_iconst (v := 0) C d_X_isPattern_0 (by decide) ?_
  refine r_istore_n (L' := [(0, _), (1, _)]) C d_X_isPattern_1 (by decide) rfl ?_
  refine r_iconst (v := 1) C d_X_isPattern_2 (by decide) ?_
  refine r_istore_n (L' := [(0, _), (1, _), (2, _)]) C d_X_isPattern_3 (by decide) rfl ?_
  refine r_iconst (v := 0) C d_X_isPattern_4 (by decide) ?_
  refine r_istore_n (L' := [(0, _), (1, _), (2, _), (3, _)]) C d_X_isPattern_5 (by decide) rfl ?_
  exact loop (rl + 1) 0 0 1 (by omega) (by omega) (yn_f (by rintro ⟨j, h, -⟩; omega)) (yn_t (fun j h => by omega))
set_option maxHeartbeats 4000000 in
theorem cM_isPattern {rl : Nat} (hg : g 1 = nI rl) (hl : rl ≤ 12) (hr : ∀ j, j < rl → isIn 31 (c 6 j)) : mR l E mM_isPattern [.ref (ad 0)] (pM E A' ad g c) (yn (isPat (c 6) rl)) := by
  have hpos : ∀ j, j < rl → ¬ c 6 j = 0 → 0 < c 6 j := fun j hj h0 => by
    have h1 := ((isIn_iff (by decide)).mp (hr j hj)).1
    rw [Int32.lt_iff_toInt_lt]
    rw [Int32.le_iff_toInt_le] at h1
    have : (c 6 j).toInt ≠ (0 : Int32).toInt := fun e => h0 (Int32.toInt_inj.mp e)
    omega
  have hpat : isPat (c 6) rl ↔ (∃ j, j < rl ∧ 0 < c 6 j) ∧ ¬ ∃ j, j < rl ∧ (c 6 j = 0 ∧ 0 < j ∧ j + 1 < rl) := by
    constructor
    · rintro ⟨h1, h2⟩
      refine ⟨h1, ?_⟩
      rintro ⟨j, h3, h4, h5, h6⟩
      rcases h2 j h3 with h7 | h7 | h7
      · rw [h4] at h7; exact absurd h7 (by decide)
      · omega
      · omega
    · rintro ⟨h1, h2⟩
      refine ⟨h1, fun j hj => ?_⟩
      by_cases h0 : c 6 j = 0
      · by_cases h3 : 0 < j ∧ j + 1 < rl
        · exact absurd ⟨j, hj, h0, h3⟩ h2
        · exact Or.inr (by omega)
      · exact Or.inl (hpos j hj h0)
  refine metR (by decide) rfl (Nat.le_of_ble_eq_true rfl) (catOK rfl) (fun Z P hZ C V R => ?_)
  have loop : ∀ (m k : Nat) (s1 s2 : Int32), k ≤ rl → rl < k + m → yn (∃ j, j < k ∧ 0 < c 6 j) s1 → yn (∃ j, j < k ∧ (c 6 j = 0 ∧ 0 < j ∧ j + 1 < rl)) s2 → Wg Z P 6 [(0, .ref (ad 0)), (1, .int s1), (2, .int s2), (3, .int (nI k))] [] := by
    intro m
    induction m with
    | zero => intro k s1 s2 h1 h2; omega
    | succ m ih =>
      intro k s1 s2 hk hm q1 q2
      refine r_iload_n C d_M_isPattern_6 rfl ?_
      refine r_aload_n C d_M_isPattern_7 rfl ?_
      refine rM_g77 C rfl V d_M_isPattern_8 ?_
      rw [hg]
      refine r_icmp_ge (tgt := 72) C d_M_isPattern_11 (by decide) (fun h1 => ?_) (fun h1 => ?_)
      · have hkr : k = rl := by
          rcases Nat.lt_or_ge k rl with q | q
          · exact absurd h1 (nI_ge q (by omega))
          · omega
        subst hkr
        refine r_iload_n C d_M_isPattern_72 rfl ?_
        refine r_if_eq (tgt := 84) C d_M_isPattern_73 (by decide) (fun h2 => ?_) (fun h2 => ?_)
        · refine r_iconst (v := 0) C d_M_isPattern_84 (by decide) ?_
          exact R _ _ _ d_M_isPattern_85 rfl (yn_f (fun h => yn_0 q1 h2 h.1))
        · refine r_iload_n C d_M_isPattern_76 rfl ?_
          refine r_if_ne (tgt := 84) C d_M_isPattern_77 (by decide) (fun h3 => ?_) (fun h3 => ?_)
          · refine r_iconst (v := 0) C d_M_isPattern_84 (by decide) ?_
            exact R _ _ _ d_M_isPattern_85 rfl (yn_f (fun h => (hpat.mp h).2 (yn_1 q2 h3)))
          · refine r_iconst (v := 1) C d_M_isPattern_80 (by decide) ?_
            refine r_goto (tgt := 85) C d_M_isPattern_81 (by decide) ?_
            exact R _ _ _ d_M_isPattern_85 rfl (yn_t (hpat.mpr ⟨yn_1 q1 h2, yn_0 q2 h3⟩))
      · have hkr : k < rl := nI_lt_of (by omega) h1
        have J65 : ∀ s1' s2' : Int32, yn (∃ j, j < k + 1 ∧ 0 < c 6 j) s1' → yn (∃ j, j < k + 1 ∧ (c 6 j = 0 ∧ 0 < j ∧ j + 1 < rl)) s2' → Wg Z P 65 [(0, .ref (ad 0)), (1, .int s1'), (2, .int s2), (3, .int (nI k))] [.int s2'] := by
          intro s1' s2' q1' q2'
          refine r_istore_n (L' := [(0, _), (1, _), (2, _), (3, _)]) C d_M_isPattern_65 (by decide) rfl ?_
          refine r_iinc (L' := [(0, _), (1, _), (2, _), (3, _)]) C d_M_isPattern_66 rfl (nI_inc _) (by decide) rfl ?_
          refine r_goto (tgt := 6) C d_M_isPattern_69 (by decide) ?_
          exact ih (k + 1) s1' s2' (by omega) (by omega) q1' q2'
        have J32 : ∀ s1' : Int32, yn (∃ j, j < k + 1 ∧ 0 < c 6 j) s1' → Wg Z P 32 [(0, .ref (ad 0)), (1, .int s1), (2, .int s2), (3, .int (nI k))] [.int s1'] := by
          intro s1' q1'
          refine r_istore_n (L' := [(0, _), (1, _), (2, _), (3, _)]) C d_M_isPattern_32 (by decide) rfl ?_
          refine r_iload_n C d_M_isPattern_33 rfl ?_
          refine r_if_ne (tgt := 60) C d_M_isPattern_34 (by decide) (fun h2 => ?_) (fun h2 => ?_)
          · refine r_iconst (v := 1) C d_M_isPattern_60 (by decide) ?_
            refine r_goto (tgt := 65) C d_M_isPattern_61 (by decide) ?_
            exact J65 s1' 1 q1' (yn_t (ex_s.mpr (Or.inl (yn_1 q2 h2))))
          · have q3 := yn_0 q2 h2
            refine r_aload_n C d_M_isPattern_37 rfl ?_
            refine rM_g26 C rfl V d_M_isPattern_38 ?_
            refine r_iload_n C d_M_isPattern_41 rfl ?_
            refine rM_iald C V rfl rfl (by show _ < 12; omega) rfl d_M_isPattern_42 ?_
            refine r_if_ne (tgt := 64) C d_M_isPattern_43 (by decide) (fun h3 => ?_) (fun h3 => ?_)
            · refine r_iconst (v := 0) C d_M_isPattern_64 (by decide) ?_
              refine J65 s1' 0 q1' (yn_f (fun h => ?_))
              rcases ex_s.mp h with h4 | h4
              · exact q3 h4
              · exact h3 h4.1
            · refine r_iload_n C d_M_isPattern_46 rfl ?_
              refine r_if_le (tgt := 64) C d_M_isPattern_47 (by decide) (fun h4 => ?_) (fun h4 => ?_)
              · refine r_iconst (v := 0) C d_M_isPattern_64 (by decide) ?_
                refine J65 s1' 0 q1' (yn_f (fun h => ?_))
                rcases ex_s.mp h with h5 | h5
                · exact q3 h5
                · exact nI_nle h5.2.1 (by omega) h4
              · have h0 : 0 < k := by
                  rcases Nat.eq_zero_or_pos k with e | e
                  · subst e; exact absurd (by decide) h4
                  · exact e
                refine r_iload_n C d_M_isPattern_50 rfl ?_
                refine r_aload_n C d_M_isPattern_51 rfl ?_
                refine rM_g77 C rfl V d_M_isPattern_52 ?_
                refine r_iconst (v := 1) C d_M_isPattern_55 (by decide) ?_
                refine r_isub C d_M_isPattern_56 ?_
                rw [hg]
                refine r_tope (nI (rl - 1)) (pk_sub (b := 1) (by omega)) ?_
                refine r_icmp_ge (tgt := 64) C d_M_isPattern_57 (by decide) (fun h5 => ?_) (fun h5 => ?_)
                · refine r_iconst (v := 0) C d_M_isPattern_64 (by decide) ?_
                  refine J65 s1' 0 q1' (yn_f (fun h => ?_))
                  rcases ex_s.mp h with h6 | h6
                  · exact q3 h6
                  · have := (nI_leI (by omega) (by omega)).mp h5
                    omega
                · refine r_iconst (v := 1) C d_M_isPattern_60 (by decide) ?_
                  refine r_goto (tgt := 65) C d_M_isPattern_61 (by decide) ?_
                  have h6 : k < rl - 1 := nI_lt_of (by omega) h5
                  exact J65 s1' 1 q1' (yn_t (ex_s.mpr (Or.inr ⟨h3, h0, by omega⟩)))
        refine r_iload_n C d_M_isPattern_14 rfl ?_
        refine r_if_ne (tgt := 27) C d_M_isPattern_15 (by decide) (fun h2 => ?_) (fun h2 => ?_)
        · refine r_iconst (v := 1) C d_M_isPattern_27 (by decide) ?_
          refine r_goto (tgt := 32) C d_M_isPattern_28 (by decide) ?_
          exact J32 1 (yn_t (ex_s.mpr (Or.inl (yn_1 q1 h2))))
        · refine r_aload_n C d_M_isPattern_18 rfl ?_
          refine rM_g26 C rfl V d_M_isPattern_19 ?_
          refine r_iload_n C d_M_isPattern_22 rfl ?_
          refine rM_iald C V rfl rfl (by show _ < 12; omega) rfl d_M_isPattern_23 ?_
          refine r_if_le (tgt := 31) C d_M_isPattern_24 (by decide) (fun h3 => ?_) (fun h3 => ?_)
          · refine r_iconst (v := 0) C d_M_isPattern_31 (by decide) ?_
            refine J32 0 (yn_f (fun h => ?_))
            rcases ex_s.mp h with h4 | h4
            · exact yn_0 q1 h2 h4
            · exact Int32.not_lt.mpr h3 h4
          · refine r_iconst (v := 1) C d_M_isPattern_27 (by decide) ?_
            refine r_goto (tgt := 32) C d_M_isPattern_28 (by decide) ?_
            exact J32 1 (yn_t (ex_s.mpr (Or.inr (Int32.not_le.mp h3))))
  show Wg Z _ 0 [(0, _)] []
  refine r_iconst (v := 0) C d_M_isPattern_0 (by decide) ?_
  refine r_istore_n (L' := [(0, _), (1, _)]) C d_M_isPattern_1 (by decide) rfl ?_
  refine r_iconst (v := 0) C d_M_isPattern_2 (by decide) ?_
  refine r_istore_n (L' := [(0, _), (1, _), (2, _)]) C d_M_isPattern_3 (by decide) rfl ?_
  refine r_iconst (v := 0) C d_M_isPattern_4 (by decide) ?_
  refine r_istore_n (L' := [(0, _), (1, _), (2, _), (3, _)]) C d_M_isPattern_5 (by decide) rfl ?_
  exact loop (rl + 1) 0 0 0 (by omega) (by omega) (yn_f (by rintro ⟨j, h, -⟩; omega)) (yn_f (by rintro ⟨j, h, -⟩; omega))
end S11
end
section
-- spell of X and M
/-- the letter of the word's place k, by a language's letters -/
def spl (lt wv : Nat → Int32) (k : Nat) : Int32 := lt (wv k).toNatClampNeg
def spelled (lt wv : Nat → Int32) (ln : Nat) : Prop := ∀ k, k < ln → ¬ spl lt wv k = 0
/-- the letters with edges -/
def Edg (lt wv : Nat → Int32) (ln : Nat) (e : Nat → Int32) : Prop := e 0 = 0 ∧ e (ln + 1) = 0 ∧ ∀ k, k < ln → e (k + 1) = spl lt wv k
theorem spl_of {lt wv : Nat → Int32} {k w : Nat} (h : wv k = nI w) (hw : w < 256) : spl lt wv k = lt w := by unfold spl; rw [h, nI_clamp (by omega)]
section S12
variable {l : Launch} {E : eE} {A A' : Nat → Prop} {ad : Nat → Nat} {n : Nat} {g : Nat → Int32} {c lg : Nat → Nat → Int32} {lc : Nat → Nat → Nat → Int32}
set_option maxHeartbeats 4000000 in
theorem cX_spell {i ln : Nat} (hi : i < n) (hg : g 5 = nI ln) (hl : ln ≤ 30) (hw : ∀ k, k < ln → isIn 256 (c 8 k)) : mW l E mX_spell A [.ref (ad 0), .ref (ad (gO i))] (pX E A ad n g c lg lc) (fun r (e : Nat → Int32) => (r = 1 ∧ spelled (lc i 0) (c 8) ln ∧ Edg (lc i 0) (c 8) ln e) ∨ (r = 0 ∧ ¬ spelled (lc i 0) (c 8) ln)) (fun e => pX E A ad n g (setA c 13 e) lg lc) := by
  refine metW (by decide) rfl (Nat.le_of_ble_eq_true rfl) (catOK rfl) (fun Z hZ C R => ?_)
  have loop : ∀ (m k : Nat) (e : Nat → Int32), k ≤ ln → ln < k + m → e 0 = 0 → (∀ j, j < k → e (j + 1) = spl (lc i 0) (c 8) j ∧ ¬ spl (lc i 0) (c 8) j = 0) → Wg Z (pX E A ad n g (setA c 13 e) lg lc) 9 [(0, .ref (ad 0)), (1, .ref (ad (gO i))), (2, .int (nI k))] [] := by
    intro m
    induction m with
    | zero => intro k e h1 h2; omega
    | succ m ih =>
      intro k e hk hm h0 he
      refine r_iload_n C d_X_spell_9 rfl ?_
      refine r_aload_n C d_X_spell_10 rfl ?_
      refine rX_g131 C rfl vI d_X_spell_11 ?_
      rw [hg]
      refine r_icmp_ge (tgt := 55) C d_X_spell_14 (by decide) (fun h1 => ?_) (fun h1 => ?_)
      · have hkr : k = ln := by
          rcases Nat.lt_or_ge k ln with q | q
          · exact absurd h1 (nI_ge q (by omega))
          · omega
        subst hkr
        refine r_aload_n C d_X_spell_55 rfl ?_
        refine rX_g53 C rfl vI d_X_spell_56 ?_
        refine r_aload_n C d_X_spell_59 rfl ?_
        refine rX_g131 C rfl vI d_X_spell_60 ?_
        refine r_iconst (v := 1) C d_X_spell_63 (by decide) ?_
        refine r_iadd C d_X_spell_64 ?_
        refine r_iconst (v := 0) C d_X_spell_65 (by decide) ?_
        refine rX_iast C vI rfl (by rw [hg]; exact nI_1 k) (by show _ < 32; omega) (setA_setA (c := c) (f' := upd e (k + 1) 0)) d_X_spell_66 ?_
        refine r_iconst (v := 1) C d_X_spell_67 (by decide) ?_
        refine R _ _ _ _ _ d_X_spell_68 rfl vI (Or.inl ⟨rfl, fun j hj => (he j hj).2, ?_, ?_, fun j hj => ?_⟩)
        · simp [upd, h0]
        · simp [upd]
        · have : j + 1 ≠ k + 1 := by omega
          rw [pk_un this]; exact (he j hj).1
      · have hkr : k < ln := nI_lt_of (by omega) h1
        obtain ⟨w, hw1, hw2⟩ := hw k hkr
        have hs : spl (lc i 0) (c 8) k = lc i 0 w := spl_of hw2 hw1
        refine r_aload_n C d_X_spell_17 rfl ?_
        refine rX_g53 C rfl vI d_X_spell_18 ?_
        refine r_iload_n C d_X_spell_21 rfl ?_
        refine r_iconst (v := 1) C d_X_spell_22 (by decide) ?_
        refine r_iadd C d_X_spell_23 ?_
        refine r_aload_n C d_X_spell_24 rfl ?_
        refine rG_g74 C rfl vI hi d_X_spell_25 ?_
        refine r_aload_n C d_X_spell_28 rfl ?_
        refine rX_g38 C rfl vI d_X_spell_29 ?_
        refine r_iload_n C d_X_spell_32 rfl ?_
        refine rX_iald C vI rfl rfl (by show _ < 30; omega) rfl d_X_spell_33 ?_
        refine rG_bald C vI hi hw2 hw1 rfl d_X_spell_34 ?_
        refine rX_iast C vI rfl (nI_1 k) (by show _ < 32; omega) (setA_setA (c := c) (f' := upd e (k + 1) (lc i 0 w))) d_X_spell_35 ?_
        refine r_aload_n C d_X_spell_36 rfl ?_
        refine rX_g53 C rfl vI d_X_spell_37 ?_
        refine r_iload_n C d_X_spell_40 rfl ?_
        refine r_iconst (v := 1) C d_X_spell_41 (by decide) ?_
        refine r_iadd C d_X_spell_42 ?_
        refine rX_iald C vI rfl (nI_1 k) (by show _ < 32; omega) (show _ = lc i 0 w from by simp [setA, upd]) d_X_spell_43 ?_
        refine r_if_ne (tgt := 49) C d_X_spell_44 (by decide) (fun h2 => ?_) (fun h2 => ?_)
        · refine r_iinc (L' := [(0, _), (1, _), (2, _)]) C d_X_spell_49 rfl (nI_inc _) (by decide) rfl ?_
          refine r_goto (tgt := 9) C d_X_spell_52 (by decide) ?_
          refine ih (k + 1) _ (by omega) (by omega) (by simp [upd, h0]) (fun j hj => ?_)
          by_cases ej : j = k
          · subst ej
            rw [pk_us, hs]; exact ⟨rfl, h2⟩
          · have : j + 1 ≠ k + 1 := by omega
            rw [pk_un this]; exact he j (by omega)
        · refine r_iconst (v := 0) C d_X_spell_47 (by decide) ?_
          exact R _ _ _ _ _ d_X_spell_48 rfl vI (Or.inr ⟨rfl, fun h => h k hkr (hs.trans h2)⟩)
  show Wg Z _ 0 [(0, _), (1, _)] []
  refine r_aload_n C d_X_spell_0 rfl ?_
  refine rX_g53 C rfl vI d_X_spell_1 ?_
  refine r_iconst (v := 0) C d_X_spell_4 (by decide) ?_
  refine r_iconst (v := 0) C d_X_spell_5 (by decide) ?_
  refine rX_iast C vI rfl (show (0 : Int32) = nI 0 from rfl) (by show _ < 32; omega) rfl d_X_spell_6 ?_
  refine r_iconst (v := 0) C d_X_spell_7 (by decide) ?_
  refine r_istore_n (L' := [(0, _), (1, _), (2, _)]) C d_X_spell_8 (by decide) rfl ?_
  exact loop (ln + 1) 0 _ (by omega) (by omega) (by simp [upd]) (fun j hj => by omega)
set_option maxHeartbeats 4000000 in
theorem cM_spell {i ln : Nat} (hi : i < 4) (hg : g 5 = nI ln) (hl : ln ≤ 30) (hw : ∀ k, k < ln → isIn 256 (c 16 k)) (hp : ∀ w, w < 256 → isIn 31 (c 1 (256 * i + w))) : mW l E mM_spell A [.ref (ad 0), .int (nI i)] (pM E A ad g c) (fun r (e : Nat → Int32) => yn (spelled (fun w => c 1 (256 * i + w)) (c 16) ln) r ∧ Edg (fun w => c 1 (256 * i + w)) (c 16) ln e) (fun e => pM E A ad g (setA c 17 e)) := by
  refine metW (by decide) rfl (Nat.le_of_ble_eq_true rfl) (catOK rfl) (fun Z hZ C R => ?_)
  have loop : ∀ (m k : Nat) (e : Nat → Int32) (s : Int32), k ≤ ln → ln < k + m → e 0 = 0 → e (ln + 1) = 0 → (∀ j, j < k → e (j + 1) = spl (fun w => c 1 (256 * i + w)) (c 16) j) → yn (spelled (fun w => c 1 (256 * i + w)) (c 16) k) s → Wg Z (pM E A ad g (setA c 17 e)) 23 [(0, .ref (ad 0)), (1, .int (nI i)), (2, .int s), (3, .int (nI k))] [] := by
    intro m
    induction m with
    | zero => intro k e s h1 h2; omega
    | succ m ih =>
      intro k e s hk hm h0 h9 he hs
      refine r_iload_n C d_M_spell_23 rfl ?_
      refine r_aload_n C d_M_spell_24 rfl ?_
      refine rM_g94 C rfl vI d_M_spell_25 ?_
      rw [hg]
      refine r_icmp_ge (tgt := 83) C d_M_spell_28 (by decide) (fun h1 => ?_) (fun h1 => ?_)
      · have hkr : k = ln := by
          rcases Nat.lt_or_ge k ln with q | q
          · exact absurd h1 (nI_ge q (by omega))
          · omega
        subst hkr
        refine r_iload_n C d_M_spell_83 rfl ?_
        have hn : narrow .boolean (.int s) = .int s := by rcases hs with ⟨rfl, -⟩ | ⟨rfl, -⟩ <;> rfl
        exact R _ _ _ _ _ d_M_spell_84 hn vI ⟨hs, h0, h9, he⟩
      · have hkr : k < ln := nI_lt_of (by omega) h1
        obtain ⟨w, hw1, hw2⟩ := hw k hkr
        have hq : spl (fun w => c 1 (256 * i + w)) (c 16) k = c 1 (256 * i + w) := spl_of hw2 hw1
        have J76 : ∀ s' : Int32, yn (spelled (fun w => c 1 (256 * i + w)) (c 16) (k + 1)) s' → Wg Z (pM E A ad g (setA c 17 (upd e (k + 1) (c 1 (256 * i + w))))) 76 [(0, .ref (ad 0)), (1, .int (nI i)), (2, .int s), (3, .int (nI k))] [.int s'] := by
          intro s' hs'
          refine r_istore_n (L' := [(0, _), (1, _), (2, _), (3, _)]) C d_M_spell_76 (by decide) rfl ?_
          refine r_iinc (L' := [(0, _), (1, _), (2, _), (3, _)]) C d_M_spell_77 rfl (nI_inc _) (by decide) rfl ?_
          refine r_goto (tgt := 23) C d_M_spell_80 (by decide) ?_
          refine ih (k + 1) _ s' (by omega) (by omega) (by simp [upd, h0]) ?_ (fun j hj => ?_) hs'
          · have : ln + 1 ≠ k + 1 := by omega
            rw [pk_un this]; exact h9
          · by_cases ej : j = k
            · subst ej
              rw [pk_us, hq]
            · have : j + 1 ≠ k + 1 := by omega
              rw [pk_un this]; exact he j (by omega)
        refine r_aload_n C d_M_spell_31 rfl ?_
        refine rM_g59 C rfl vI d_M_spell_32 ?_
        refine r_iload_n C d_M_spell_35 rfl ?_
        refine r_iconst (v := 1) C d_M_spell_36 (by decide) ?_
        refine r_iadd C d_M_spell_37 ?_
        refine r_aload_n C d_M_spell_38 rfl ?_
        refine rM_g7 C rfl vI d_M_spell_39 ?_
        refine r_sipush (v := 256) C d_M_spell_42 (by decide) ?_
        refine r_iload_n C d_M_spell_45 rfl ?_
        refine r_imul C d_M_spell_46 ?_
        refine r_aload_n C d_M_spell_47 rfl ?_
        refine rM_g56 C rfl vI d_M_spell_48 ?_
        refine r_iload_n C d_M_spell_51 rfl ?_
        refine rM_iald C vI rfl rfl (by show _ < 30; omega) rfl d_M_spell_52 ?_
        refine r_iadd C d_M_spell_53 ?_
        refine rM_iald C vI rfl (nI_ad _ _ (nI_mul 256 _ rfl rfl) hw2) (by show _ < 1024; omega) rfl d_M_spell_54 ?_
        refine rM_iast C vI rfl (nI_1 k) (by show _ < 32; omega) (setA_setA (c := c) (f' := upd e (k + 1) (c 1 (256 * i + w)))) d_M_spell_55 ?_
        refine r_iload_n C d_M_spell_56 rfl ?_
        refine r_if_eq (tgt := 75) C d_M_spell_57 (by decide) (fun h2 => ?_) (fun h2 => ?_)
        · refine r_iconst (v := 0) C d_M_spell_75 (by decide) ?_
          exact J76 0 (yn_f (fun h => yn_0 hs h2 (fun j hj => h j (by omega))))
        · refine r_aload_n C d_M_spell_60 rfl ?_
          refine rM_g59 C rfl vI d_M_spell_61 ?_
          refine r_iload_n C d_M_spell_64 rfl ?_
          refine r_iconst (v := 1) C d_M_spell_65 (by decide) ?_
          refine r_iadd C d_M_spell_66 ?_
          refine rM_iald C vI rfl (nI_1 k) (by show _ < 32; omega) (show _ = c 1 (256 * i + w) from by simp [setA, upd]) d_M_spell_67 ?_
          refine r_if_le (tgt := 75) C d_M_spell_68 (by decide) (fun h3 => ?_) (fun h3 => ?_)
          · refine r_iconst (v := 0) C d_M_spell_75 (by decide) ?_
            refine J76 0 (yn_f (fun h => h k (by omega) (hq.trans ?_)))
            have h4 := ((isIn_iff (by decide)).mp (hp w hw1)).1
            exact Int32.le_antisymm h3 h4
          · refine r_iconst (v := 1) C d_M_spell_71 (by decide) ?_
            refine r_goto (tgt := 76) C d_M_spell_72 (by decide) ?_
            refine J76 1 (yn_t (fun j hj => ?_))
            by_cases ej : j = k
            · subst ej
              rw [hq]
              intro h4
              exact h3 (by rw [h4]; decide)
            · exact yn_1 hs h2 j (by omega)
  show Wg Z _ 0 [(0, _), (1, _)] []
  refine r_iconst (v := 1) C d_M_spell_0 (by decide) ?_
  refine r_istore_n (L' := [(0, _), (1, _), (2, _)]) C d_M_spell_1 (by decide) rfl ?_
  refine r_aload_n C d_M_spell_2 rfl ?_
  refine rM_g59 C rfl vI d_M_spell_3 ?_
  refine r_iconst (v := 0) C d_M_spell_6 (by decide) ?_
  refine r_iconst (v := 0) C d_M_spell_7 (by decide) ?_
  refine rM_iast C vI rfl (show (0 : Int32) = nI 0 from rfl) (by show _ < 32; omega) rfl d_M_spell_8 ?_
  refine r_aload_n C d_M_spell_9 rfl ?_
  refine rM_g59 C rfl vI d_M_spell_10 ?_
  refine r_aload_n C d_M_spell_13 rfl ?_
  refine rM_g94 C rfl vI d_M_spell_14 ?_
  refine r_iconst (v := 1) C d_M_spell_17 (by decide) ?_
  refine r_iadd C d_M_spell_18 ?_
  refine r_iconst (v := 0) C d_M_spell_19 (by decide) ?_
  refine rM_iast C vI rfl (by rw [hg]; exact nI_1 ln) (by show _ < 32; omega) (setA_setA (c := c) (f' := upd (upd (c 17) 0 0) (ln + 1) 0)) d_M_spell_20 ?_
  refine r_iconst (v := 0) C d_M_spell_21 (by decide) ?_
  refine r_istore_n (L' := [(0, _), (1, _), (2, _), (3, _)]) C d_M_spell_22 (by decide) rfl ?_
  refine loop (ln + 1) 0 _ 1 (by omega) (by omega) ?_ (by simp [upd]) (fun j hj => by omega) (yn_t (fun j hj => by omega))
  simp [upd]
end S12
end
section
-- isException, find of X; exceptionOf of M
/-- exception e is the word of these letters -/
def isEx (ow le sp : Nat → Int32) (ln : Nat) (ed : Nat → Int32) (x : Int32) (e : Nat) : Prop := ow e = x ∧ le e = nI ln ∧ ∀ k, k < ln → sp (30 * e + k) = ed (k + 1)
/-- the least of them, or their number -/
def fnd (p : Nat → Prop) (ne : Nat) (r : Int32) : Prop := ∃ f, f ≤ ne ∧ r = nI f ∧ (∀ j, j < f → ¬ p j) ∧ (f < ne → p f)
theorem yn_nar {Q : Prop} {s : Int32} (h : yn Q s) : narrow .boolean (.int s) = .int s := by rcases h with ⟨rfl, -⟩ | ⟨rfl, -⟩ <;> rfl
theorem nI_ge_eq {k n : Nat} (hn : n < 2 ^ 31) (hk : k ≤ n) (h : nI n ≤ nI k) : k = n := by
  rcases Nat.lt_or_ge k n with q | q
  · exact absurd h (nI_ge q hn)
  · omega
section S13
variable {l : Launch} {E : eE} {A A' : Nat → Prop} {ad : Nat → Nat} {n : Nat} {g : Nat → Int32} {c lg : Nat → Nat → Int32} {lc : Nat → Nat → Nat → Int32}
set_option maxHeartbeats 4000000 in
theorem cX_isException (x : Int32) {e ln : Nat} (he : e < 40) (hg : g 5 = nI ln) (hl : ln ≤ 30) : mR l E mX_isException [.ref (ad 0), .int (nI e), .int x] (pX E A' ad n g c lg lc) (yn (isEx (c 9) (c 11) (c 10) ln (c 13) x e)) := by
  refine metR (by decide) rfl (Nat.le_of_ble_eq_true rfl) (catOK rfl) (fun Z P hZ C V R => ?_)
  have loop : ∀ (m k : Nat) (s : Int32), k ≤ ln → ln < k + m → c 9 e = x → c 11 e = nI ln → yn (∀ j, j < k → c 10 (30 * e + j) = c 13 (j + 1)) s → Wg Z P 30 [(0, .ref (ad 0)), (1, .int (nI e)), (2, .int x), (3, .int s), (4, .int (nI k))] [] := by
    intro m
    induction m with
    | zero => intro k s h1 h2; omega
    | succ m ih =>
      intro k s hk hm q1 q2 q3
      refine r_iload C d_X_isException_30 rfl ?_
      refine r_aload_n C d_X_isException_32 rfl ?_
      refine rX_g131 C rfl V d_X_isException_33 ?_
      rw [hg]
      refine r_icmp_ge (tgt := 79) C d_X_isException_36 (by decide) (fun h1 => ?_) (fun h1 => ?_)
      · have hkr : k = ln := nI_ge_eq (by omega) hk h1
        subst hkr
        refine r_iload_n C d_X_isException_79 rfl ?_
        exact R _ _ _ d_X_isException_80 (yn_nar q3) (yn_cg ⟨fun h => ⟨q1, q2, h⟩, fun h => h.2.2⟩ q3)
      · have hkr : k < ln := nI_lt_of (by omega) h1
        have J72 : ∀ s' : Int32, yn (∀ j, j < k + 1 → c 10 (30 * e + j) = c 13 (j + 1)) s' → Wg Z P 72 [(0, .ref (ad 0)), (1, .int (nI e)), (2, .int x), (3, .int s), (4, .int (nI k))] [.int s'] := by
          intro s' q3'
          refine r_istore_n (L' := [(0, _), (1, _), (2, _), (3, _), (4, _)]) C d_X_isException_72 (by decide) rfl ?_
          refine r_iinc (L' := [(0, _), (1, _), (2, _), (3, _), (4, _)]) C d_X_isException_73 rfl (nI_inc _) (by decide) rfl ?_
          refine r_goto (tgt := 30) C d_X_isException_76 (by decide) ?_
          exact ih (k + 1) s' (by omega) (by omega) q1 q2 q3'
        refine r_iload_n C d_X_isException_39 rfl ?_
        refine r_if_eq (tgt := 71) C d_X_isException_40 (by decide) (fun h2 => ?_) (fun h2 => ?_)
        · refine r_iconst (v := 0) C d_X_isException_71 (by decide) ?_
          exact J72 0 (yn_f (fun h => yn_0 q3 h2 (al_s.mp h).1))
        · refine r_aload_n C d_X_isException_43 rfl ?_
          refine rX_g44 C rfl V d_X_isException_44 ?_
          refine r_bipush (v := 30) C d_X_isException_47 (by decide) ?_
          refine r_iload_n C d_X_isException_49 rfl ?_
          refine r_imul C d_X_isException_50 ?_
          refine r_iload C d_X_isException_51 rfl ?_
          refine r_iadd C d_X_isException_53 ?_
          refine rX_bald C V rfl (nI_ad _ _ (nI_mul 30 _ rfl rfl) rfl) (by show _ < 1200; omega) rfl d_X_isException_54 ?_
          refine r_aload_n C d_X_isException_55 rfl ?_
          refine rX_g53 C rfl V d_X_isException_56 ?_
          refine r_iload C d_X_isException_59 rfl ?_
          refine r_iconst (v := 1) C d_X_isException_61 (by decide) ?_
          refine r_iadd C d_X_isException_62 ?_
          refine rX_iald C V rfl (nI_1 k) (by show _ < 32; omega) rfl d_X_isException_63 ?_
          refine r_icmp_ne (tgt := 71) C d_X_isException_64 (by decide) (fun h3 => ?_) (fun h3 => ?_)
          · refine r_iconst (v := 0) C d_X_isException_71 (by decide) ?_
            exact J72 0 (yn_f (fun h => h3 (al_s.mp h).2))
          · refine r_iconst (v := 1) C d_X_isException_67 (by decide) ?_
            refine r_goto (tgt := 72) C d_X_isException_68 (by decide) ?_
            exact J72 1 (yn_t (al_s.mpr ⟨yn_1 q3 h2, h3⟩))
  show Wg Z _ 0 [(0, _), (1, _), (2, _)] []
  refine r_aload_n C d_X_isException_0 rfl ?_
  refine rX_g41 C rfl V d_X_isException_1 ?_
  refine r_iload_n C d_X_isException_4 rfl ?_
  refine rX_iald C V rfl rfl (by show _ < 40; omega) rfl d_X_isException_5 ?_
  refine r_iload_n C d_X_isException_6 rfl ?_
  refine r_icmp_ne (tgt := 23) C d_X_isException_7 (by decide) (fun h1 => ?_) (fun h1 => ?_)
  · refine r_iconst (v := 0) C d_X_isException_23 (by decide) ?_
    exact R _ _ _ d_X_isException_24 rfl (yn_f (fun h => h1 h.1))
  · refine r_aload_n C d_X_isException_10 rfl ?_
    refine rX_g47 C rfl V d_X_isException_11 ?_
    refine r_iload_n C d_X_isException_14 rfl ?_
    refine rX_iald C V rfl rfl (by show _ < 40; omega) rfl d_X_isException_15 ?_
    refine r_aload_n C d_X_isException_16 rfl ?_
    refine rX_g131 C rfl V d_X_isException_17 ?_
    rw [hg]
    refine r_icmp_eq (tgt := 25) C d_X_isException_20 (by decide) (fun h2 => ?_) (fun h2 => ?_)
    · refine r_iconst (v := 1) C d_X_isException_25 (by decide) ?_
      refine r_istore_n (L' := [(0, _), (1, _), (2, _), (3, _)]) C d_X_isException_26 (by decide) rfl ?_
      refine r_iconst (v := 0) C d_X_isException_27 (by decide) ?_
      refine r_istore (L' := [(0, _), (1, _), (2, _), (3, _), (4, _)]) C d_X_isException_28 (by decide) rfl ?_
      exact loop (ln + 1) 0 1 (by omega) (by omega) h1 h2 (yn_t (fun j hj => by omega))
    · refine r_iconst (v := 0) C d_X_isException_23 (by decide) ?_
      exact R _ _ _ d_X_isException_24 rfl (yn_f (fun h => h2 h.2.1))
set_option maxHeartbeats 4000000 in
theorem cX_find (x : Int32) {ln ne : Nat} (hg : g 5 = nI ln) (hl : ln ≤ 30) (hg6 : g 6 = nI ne) (hne : ne ≤ 40) : mR l E mX_find [.ref (ad 0), .int x] (pX E A' ad n g c lg lc) (fnd (isEx (c 9) (c 11) (c 10) ln (c 13) x) ne) := by
  refine metR (by decide) rfl (Nat.le_of_ble_eq_true rfl) (catOK rfl) (fun Z P hZ C V R => ?_)
  have loop : ∀ (m k : Nat), k ≤ ne → ne < k + m → (∀ j, j < k → ¬ isEx (c 9) (c 11) (c 10) ln (c 13) x j) → Wg Z P 2 [(0, .ref (ad 0)), (1, .int x), (2, .int (nI k))] [] := by
    intro m
    induction m with
    | zero => intro k h1 h2; omega
    | succ m ih =>
      intro k hk hm q1
      refine r_iload_n C d_X_find_2 rfl ?_
      refine r_aload_n C d_X_find_3 rfl ?_
      refine rX_g134 C rfl V d_X_find_4 ?_
      rw [hg6]
      refine r_icmp_ge (tgt := 25) C d_X_find_7 (by decide) (fun h1 => ?_) (fun h1 => ?_)
      · have hkr : k = ne := nI_ge_eq (by omega) hk h1
        subst hkr
        refine r_iload_n C d_X_find_25 rfl ?_
        exact R _ _ _ d_X_find_26 rfl ⟨k, Nat.le_refl k, rfl, q1, fun h => absurd h (Nat.lt_irrefl k)⟩
      · have hkr : k < ne := nI_lt_of (by omega) h1
        refine r_aload_n C d_X_find_10 rfl ?_
        refine r_iload_n C d_X_find_11 rfl ?_
        refine r_iload_n C d_X_find_12 rfl ?_
        refine r_callR C (cX_isException (e := k) x (by omega) hg hl) cV_137_X ⟨by decide, by decide⟩ ⟨rfl, rfl⟩ V (fun s H => pX_recv) rfl rfl (Nat.le_of_ble_eq_true rfl) d_X_find_13 (fun r hr => ?_)
        refine r_if_ne (tgt := 25) C d_X_find_16 (by decide) (fun h2 => ?_) (fun h2 => ?_)
        · refine r_iload_n C d_X_find_25 rfl ?_
          exact R _ _ _ d_X_find_26 rfl ⟨k, hk, rfl, q1, fun _ => yn_1 hr h2⟩
        · refine r_iinc (L' := [(0, _), (1, _), (2, _)]) C d_X_find_19 rfl (nI_inc _) (by decide) rfl ?_
          refine r_goto (tgt := 2) C d_X_find_22 (by decide) ?_
          refine ih (k + 1) (by omega) (by omega) (fun j hj => ?_)
          by_cases ej : j = k
          · subst ej; exact yn_0 hr h2
          · exact q1 j (by omega)
  show Wg Z _ 0 [(0, _), (1, _)] []
  refine r_iconst (v := 0) C d_X_find_0 (by decide) ?_
  refine r_istore_n (L' := [(0, _), (1, _), (2, _)]) C d_X_find_1 (by decide) rfl ?_
  exact loop (ne + 1) 0 (by omega) (by omega) (fun j hj => by omega)
set_option maxHeartbeats 4000000 in
theorem cM_exceptionOf (x : Int32) {ln ne : Nat} (hg : g 5 = nI ln) (hl : ln ≤ 30) (hg6 : g 4 = nI ne) (hne : ne ≤ 40) : mR l E mM_exceptionOf [.ref (ad 0), .int x] (pM E A' ad g c) (fnd (isEx (c 12) (c 13) (c 14) ln (c 17) x) ne) := by
  refine metR (by decide) rfl (Nat.le_of_ble_eq_true rfl) (catOK rfl) (fun Z P hZ C V R => ?_)
  have fin : ∀ a : Nat, a < ne → (∀ j, j < a → ¬ isEx (c 12) (c 13) (c 14) ln (c 17) x j) → isEx (c 12) (c 13) (c 14) ln (c 17) x a → Wg Z P 4 [(0, .ref (ad 0)), (1, .int x), (2, .int (nI a)), (3, .int 1)] [] := by
    intro a ha q1 q2
    refine r_iload_n C d_M_exceptionOf_4 rfl ?_
    refine r_aload_n C d_M_exceptionOf_5 rfl ?_
    refine rM_g97 C rfl V d_M_exceptionOf_6 ?_
    rw [hg6]
    refine r_icmp_ge (tgt := 112) C d_M_exceptionOf_9 (by decide) (fun h1 => ?_) (fun h1 => ?_)
    · exact absurd h1 (nI_ge ha (by omega))
    · refine r_iload_n C d_M_exceptionOf_12 rfl ?_
      refine r_if_ne (tgt := 112) C d_M_exceptionOf_13 (by decide) (fun h2 => ?_) (fun h2 => ?_)
      · refine r_iload_n C d_M_exceptionOf_112 rfl ?_
        exact R _ _ _ d_M_exceptionOf_113 rfl ⟨a, by omega, rfl, q1, fun _ => q2⟩
      · exact absurd h2 (by decide)
  have loop : ∀ (m a : Nat), a ≤ ne → ne < a + m → (∀ j, j < a → ¬ isEx (c 12) (c 13) (c 14) ln (c 17) x j) → Wg Z P 4 [(0, .ref (ad 0)), (1, .int x), (2, .int (nI a)), (3, .int 0)] [] := by
    intro m
    induction m with
    | zero => intro a h1 h2; omega
    | succ m ih =>
      intro a ha hm q1
      refine r_iload_n C d_M_exceptionOf_4 rfl ?_
      refine r_aload_n C d_M_exceptionOf_5 rfl ?_
      refine rM_g97 C rfl V d_M_exceptionOf_6 ?_
      rw [hg6]
      refine r_icmp_ge (tgt := 112) C d_M_exceptionOf_9 (by decide) (fun h1 => ?_) (fun h1 => ?_)
      · have hkr : a = ne := nI_ge_eq (by omega) ha h1
        subst hkr
        refine r_iload_n C d_M_exceptionOf_112 rfl ?_
        exact R _ _ _ d_M_exceptionOf_113 rfl ⟨a, Nat.le_refl a, rfl, q1, fun h => absurd h (Nat.lt_irrefl a)⟩
      · have hkr : a < ne := nI_lt_of (by omega) h1
        refine r_iload_n C d_M_exceptionOf_12 rfl ?_
        refine r_if_ne (tgt := 112) C d_M_exceptionOf_13 (by decide) (fun h2 => ?_) (fun h2 => ?_)
        · exact absurd rfl h2
        · have out : ∀ (k : Nat) (s : Int32), yn (isEx (c 12) (c 13) (c 14) ln (c 17) x a) s → Wg Z P 97 [(0, .ref (ad 0)), (1, .int x), (2, .int (nI a)), (3, .int s), (4, .int (nI k))] [] := by
            intro k s q
            refine r_iload_n C d_M_exceptionOf_97 rfl ?_
            refine r_iload_n C d_M_exceptionOf_98 rfl ?_
            refine r_if_eq (tgt := 106) C d_M_exceptionOf_99 (by decide) (fun h3 => ?_) (fun h3 => ?_)
            · refine r_iconst (v := 1) C d_M_exceptionOf_106 (by decide) ?_
              refine r_iadd C d_M_exceptionOf_107 ?_
              refine r_tope (nI (a + 1)) (nI_1 a) ?_
              refine r_istore_n (L' := [(0, _), (1, _), (2, _), (3, _), (4, _)]) C d_M_exceptionOf_108 (by decide) rfl ?_
              refine r_goto (tgt := 4) C d_M_exceptionOf_109 (by decide) ?_
              refine Wg.pick [0, 1, 2, 3] rfl ?_
              have hs : s = 0 := h3
              subst hs
              refine ih (a + 1) (by omega) (by omega) (fun j hj => ?_)
              by_cases ej : j = a
              · subst ej; exact yn_0 q h3
              · exact q1 j (by omega)
            · refine r_iconst (v := 0) C d_M_exceptionOf_102 (by decide) ?_
              refine r_goto (tgt := 107) C d_M_exceptionOf_103 (by decide) ?_
              refine r_iadd C d_M_exceptionOf_107 ?_
              refine r_tope (nI a) (Int32.add_zero _) ?_
              refine r_istore_n (L' := [(0, _), (1, _), (2, _), (3, _), (4, _)]) C d_M_exceptionOf_108 (by decide) rfl ?_
              refine r_goto (tgt := 4) C d_M_exceptionOf_109 (by decide) ?_
              refine Wg.pick [0, 1, 2, 3] rfl ?_
              have hs : s = 1 := by rcases q with ⟨q, -⟩ | ⟨q, -⟩; exact q; exact absurd q h3
              subst hs
              exact fin a hkr q1 (yn_1 q h3)
          have inner : ∀ (m k : Nat) (s : Int32), k ≤ ln → ln < k + m → yn (c 12 a = x ∧ c 13 a = nI ln ∧ ∀ j, j < k → c 14 (30 * a + j) = c 17 (j + 1)) s → Wg Z P 48 [(0, .ref (ad 0)), (1, .int x), (2, .int (nI a)), (3, .int s), (4, .int (nI k))] [] := by
            intro m'
            induction m' with
            | zero => intro k s h1 h2; omega
            | succ m' ih' =>
              intro k s hk hm' q
              refine r_iload C d_M_exceptionOf_48 rfl ?_
              refine r_aload_n C d_M_exceptionOf_50 rfl ?_
              refine rM_g94 C rfl V d_M_exceptionOf_51 ?_
              rw [hg]
              refine r_icmp_ge (tgt := 97) C d_M_exceptionOf_54 (by decide) (fun h3 => ?_) (fun h3 => ?_)
              · have hkr : k = ln := nI_ge_eq (by omega) hk h3
                subst hkr
                exact out k s q
              · have hkl : k < ln := nI_lt_of (by omega) h3
                refine r_iload_n C d_M_exceptionOf_57 rfl ?_
                refine r_if_eq (tgt := 97) C d_M_exceptionOf_58 (by decide) (fun h4 => ?_) (fun h4 => ?_)
                · refine out k s (Or.inr ⟨h4, fun h => yn_0 q h4 ⟨h.1, h.2.1, fun j hj => h.2.2 j (by omega)⟩⟩)
                · have q' := yn_1 q h4
                  have J90 : ∀ s' : Int32, yn (c 12 a = x ∧ c 13 a = nI ln ∧ ∀ j, j < k + 1 → c 14 (30 * a + j) = c 17 (j + 1)) s' → Wg Z P 90 [(0, .ref (ad 0)), (1, .int x), (2, .int (nI a)), (3, .int s), (4, .int (nI k))] [.int s'] := by
                    intro s' q3'
                    refine r_istore_n (L' := [(0, _), (1, _), (2, _), (3, _), (4, _)]) C d_M_exceptionOf_90 (by decide) rfl ?_
                    refine r_iinc (L' := [(0, _), (1, _), (2, _), (3, _), (4, _)]) C d_M_exceptionOf_91 rfl (nI_inc _) (by decide) rfl ?_
                    refine r_goto (tgt := 48) C d_M_exceptionOf_94 (by decide) ?_
                    exact ih' (k + 1) s' (by omega) (by omega) q3'
                  refine r_aload_n C d_M_exceptionOf_61 rfl ?_
                  refine rM_g50 C rfl V d_M_exceptionOf_62 ?_
                  refine r_bipush (v := 30) C d_M_exceptionOf_65 (by decide) ?_
                  refine r_iload_n C d_M_exceptionOf_67 rfl ?_
                  refine r_imul C d_M_exceptionOf_68 ?_
                  refine r_iload C d_M_exceptionOf_69 rfl ?_
                  refine r_iadd C d_M_exceptionOf_71 ?_
                  refine rM_iald C V rfl (nI_ad _ _ (nI_mul 30 _ rfl rfl) rfl) (by show _ < 1200; omega) rfl d_M_exceptionOf_72 ?_
                  refine r_aload_n C d_M_exceptionOf_73 rfl ?_
                  refine rM_g59 C rfl V d_M_exceptionOf_74 ?_
                  refine r_iload C d_M_exceptionOf_77 rfl ?_
                  refine r_iconst (v := 1) C d_M_exceptionOf_79 (by decide) ?_
                  refine r_iadd C d_M_exceptionOf_80 ?_
                  refine rM_iald C V rfl (nI_1 k) (by show _ < 32; omega) rfl d_M_exceptionOf_81 ?_
                  refine r_icmp_ne (tgt := 89) C d_M_exceptionOf_82 (by decide) (fun h5 => ?_) (fun h5 => ?_)
                  · refine r_iconst (v := 0) C d_M_exceptionOf_89 (by decide) ?_
                    exact J90 0 (yn_f (fun h => h5 (al_s.mp h.2.2).2))
                  · refine r_iconst (v := 1) C d_M_exceptionOf_85 (by decide) ?_
                    refine r_goto (tgt := 90) C d_M_exceptionOf_86 (by decide) ?_
                    exact J90 1 (yn_t ⟨q'.1, q'.2.1, al_s.mpr ⟨q'.2.2, h5⟩⟩)
          refine r_aload_n C d_M_exceptionOf_16 rfl ?_
          refine rM_g44 C rfl V d_M_exceptionOf_17 ?_
          refine r_iload_n C d_M_exceptionOf_20 rfl ?_
          refine rM_iald C V rfl rfl (by show _ < 40; omega) rfl d_M_exceptionOf_21 ?_
          refine r_iload_n C d_M_exceptionOf_22 rfl ?_
          refine r_icmp_ne (tgt := 43) C d_M_exceptionOf_23 (by decide) (fun h3 => ?_) (fun h3 => ?_)
          · refine r_iconst (v := 0) C d_M_exceptionOf_43 (by decide) ?_
            refine r_istore_n (L' := [(0, _), (1, _), (2, _), (3, _)]) C d_M_exceptionOf_44 (by decide) rfl ?_
            refine r_iconst (v := 0) C d_M_exceptionOf_45 (by decide) ?_
            refine r_istore (L' := [(0, _), (1, _), (2, _), (3, _), (4, _)]) C d_M_exceptionOf_46 (by decide) rfl ?_
            exact inner (ln + 1) 0 0 (by omega) (by omega) (yn_f (fun h => h3 h.1))
          · refine r_aload_n C d_M_exceptionOf_26 rfl ?_
            refine rM_g47 C rfl V d_M_exceptionOf_27 ?_
            refine r_iload_n C d_M_exceptionOf_30 rfl ?_
            refine rM_iald C V rfl rfl (by show _ < 40; omega) rfl d_M_exceptionOf_31 ?_
            refine r_aload_n C d_M_exceptionOf_32 rfl ?_
            refine rM_g94 C rfl V d_M_exceptionOf_33 ?_
            rw [hg]
            refine r_icmp_ne (tgt := 43) C d_M_exceptionOf_36 (by decide) (fun h4 => ?_) (fun h4 => ?_)
            · refine r_iconst (v := 0) C d_M_exceptionOf_43 (by decide) ?_
              refine r_istore_n (L' := [(0, _), (1, _), (2, _), (3, _)]) C d_M_exceptionOf_44 (by decide) rfl ?_
              refine r_iconst (v := 0) C d_M_exceptionOf_45 (by decide) ?_
              refine r_istore (L' := [(0, _), (1, _), (2, _), (3, _), (4, _)]) C d_M_exceptionOf_46 (by decide) rfl ?_
              exact inner (ln + 1) 0 0 (by omega) (by omega) (yn_f (fun h => h4 h.2.1))
            · refine r_iconst (v := 1) C d_M_exceptionOf_39 (by decide) ?_
              refine r_goto (tgt := 44) C d_M_exceptionOf_40 (by decide) ?_
              refine r_istore_n (L' := [(0, _), (1, _), (2, _), (3, _)]) C d_M_exceptionOf_44 (by decide) rfl ?_
              refine r_iconst (v := 0) C d_M_exceptionOf_45 (by decide) ?_
              refine r_istore (L' := [(0, _), (1, _), (2, _), (3, _), (4, _)]) C d_M_exceptionOf_46 (by decide) rfl ?_
              exact inner (ln + 1) 0 1 (by omega) (by omega) (yn_t ⟨h3, h4, fun j hj => by omega⟩)
  show Wg Z _ 0 [(0, _), (1, _)] []
  refine r_iconst (v := 0) C d_M_exceptionOf_0 (by decide) ?_
  refine r_istore_n (L' := [(0, _), (1, _), (2, _)]) C d_M_exceptionOf_1 (by decide) rfl ?_
  refine r_iconst (v := 0) C d_M_exceptionOf_2 (by decide) ?_
  refine r_istore_n (L' := [(0, _), (1, _), (2, _), (3, _)]) C d_M_exceptionOf_3 (by decide) rfl ?_
  exact loop (ne + 1) 0 (by omega) (by omega) (fun j hj => by omega)
end S13
end
section
-- exception and drop of X and M
def blit (d : Nat → Int32) (o k : Nat) (s : Nat → Int32) : Nat → Int32 := fun j => if o ≤ j ∧ j < o + k then s (j - o) else d j
theorem blit_0 {d s : Nat → Int32} {o : Nat} : blit d o 0 s = d := by funext j; simp [blit]; omega
theorem blit_s {d s : Nat → Int32} {o k : Nat} {v : Int32} (hv : v = s k) : upd (blit d o k s) (o + k) v = blit d o (k + 1) s := by
  funext j
  by_cases h : j = o + k
  · subst h
    simp [upd, blit, hv]
  · have : (o ≤ j ∧ j < o + (k + 1)) ↔ (o ≤ j ∧ j < o + k) := by omega
    simp [upd, blit, h, this]
theorem blit_cg {d s s' : Nat → Int32} {o k : Nat} (h : ∀ j, j < k → s j = s' j) : blit d o k s = blit d o k s' := by
  funext j
  by_cases hj : o ≤ j ∧ j < o + k
  · simp only [blit, hj, and_self, if_true]; exact h _ (by omega)
  · simp only [blit, hj, if_false]
theorem upd_self {f : Nat → Int32} {k : Nat} {v : Int32} (h : f k = v) : upd f k v = f := by
  funext j
  by_cases hj : j = k
  · subst hj; simp [upd, h]
  · simp [upd, hj]
/-- exception e is the word of letters s -/
def isXs (ow le sp : Nat → Int32) (ln : Nat) (s : Nat → Int32) (x : Int32) (e : Nat) : Prop := ow e = x ∧ le e = nI ln ∧ ∀ k, k < ln → sp (30 * e + k) = s k
theorem isXs_of {ow le sp ed s : Nat → Int32} {ln : Nat} {x : Int32} {e : Nat} (h : ∀ k, k < ln → ed (k + 1) = s k) : isEx ow le sp ln ed x e ↔ isXs ow le sp ln s x e := by
  constructor
  · rintro ⟨h1, h2, h3⟩; exact ⟨h1, h2, fun k hk => (h3 k hk).trans (h k hk)⟩
  · rintro ⟨h1, h2, h3⟩; exact ⟨h1, h2, fun k hk => (h3 k hk).trans (h k hk).symm⟩
abbrev exS : Type := Nat × (Nat → Int32) × (Nat → Int32) × (Nat → Int32) × (Nat → Int32)
/-- what 'exception' does to number, owners, lengths, letters, places -/
def exP (n ln : Nat) (x bits : Int32) (lt : Nat → Nat → Int32) (wv : Nat → Int32) (a : exS) (r : Int32) (b : exS) : Prop :=
  (¬ isIn n x ∧ r = -1 ∧ b = a) ∨ ∃ i, i < n ∧ x = nI i ∧ (((ln = 0 ∨ ¬ spelled (lt i) wv ln) ∧ r = -3 ∧ b = a) ∨
    (0 < ln ∧ spelled (lt i) wv ln ∧ ∃ f, f ≤ a.1 ∧ (∀ j, j < f → ¬ isXs a.2.1 a.2.2.1 a.2.2.2.1 ln (spl (lt i) wv) x j) ∧ (f < a.1 → isXs a.2.1 a.2.2.1 a.2.2.2.1 ln (spl (lt i) wv) x f) ∧
      ((f = 40 ∧ r = -2 ∧ b = a) ∨ (f < a.1 ∧ f < 40 ∧ r = nI f ∧ b = (a.1, a.2.1, a.2.2.1, a.2.2.2.1, upd a.2.2.2.2 f bits)) ∨
       (f = a.1 ∧ f < 40 ∧ r = nI f ∧ b = (f + 1, upd a.2.1 f x, upd a.2.2.1 f (nI ln), blit a.2.2.2.1 (30 * f) ln (spl (lt i) wv), upd a.2.2.2.2 f bits)))))
/-- the arrays with new owners, lengths, letters, places and scratch -/
def exC (i0 i1 i2 i3 i4 : Nat) (c : Nat → Nat → Int32) (e : Nat → Int32) (b : exS) : Nat → Nat → Int32 := setA (setA (setA (setA (setA c i0 e) i1 b.2.1) i2 b.2.2.1) i3 b.2.2.2.1) i4 b.2.2.2.2
theorem exC_4 {i0 i1 i2 i3 i4 : Nat} {c : Nat → Nat → Int32} {e pl : Nat → Int32} (h : i0 ≠ i1 ∧ i0 ≠ i2 ∧ i0 ≠ i3 ∧ i0 ≠ i4 ∧ i1 ≠ i2 ∧ i1 ≠ i3 ∧ i1 ≠ i4 ∧ i2 ≠ i3 ∧ i2 ≠ i4 ∧ i3 ≠ i4) {k : Nat} : setA (setA c i0 e) i4 pl = exC i0 i1 i2 i3 i4 c e (k, c i1, c i2, c i3, pl) := by
  obtain ⟨h1, h2, h3, h4, h5, h6, h7, h8, h9, h10⟩ := h
  funext a
  by_cases a4 : a = i4
  · simp [exC, setA, a4]
  · by_cases a3 : a = i3
    · subst a3; simp [exC, setA, a4, Ne.symm h3]
    · by_cases a2 : a = i2
      · subst a2; simp [exC, setA, a4, a3, Ne.symm h2]
      · by_cases a1 : a = i1
        · subst a1; simp [exC, setA, a4, a3, a2, Ne.symm h1]
        · simp [exC, setA, a4, a3, a2, a1]
theorem exC_0 {i0 i1 i2 i3 i4 : Nat} {c : Nat → Nat → Int32} {e : Nat → Int32} (h : i0 ≠ i1 ∧ i0 ≠ i2 ∧ i0 ≠ i3 ∧ i0 ≠ i4 ∧ i1 ≠ i2 ∧ i1 ≠ i3 ∧ i1 ≠ i4 ∧ i2 ≠ i3 ∧ i2 ≠ i4 ∧ i3 ≠ i4) {k : Nat} : setA c i0 e = exC i0 i1 i2 i3 i4 c e (k, c i1, c i2, c i3, c i4) := by
  rw [← exC_4 h]
  funext a
  by_cases a4 : a = i4
  · subst a4; simp [setA, Ne.symm h.2.2.2.1]
  · simp [setA, a4]
section S14
variable {l : Launch} {E : eE} {A A' : Nat → Prop} {ad : Nat → Nat} {n : Nat} {g : Nat → Int32} {c lg : Nat → Nat → Int32} {lc : Nat → Nat → Nat → Int32}
def xpX (n ln ne : Nat) (g : Nat → Int32) (c : Nat → Nat → Int32) (lc : Nat → Nat → Nat → Int32) (x bits : Int32) (r : Int32) (u : gcS) : Prop :=
  ∃ (e : Nat → Int32) (b : exS), exP n ln x bits (fun i => lc i 0) (c 8) (ne, c 9, c 11, c 10, c 12) r b ∧ u = (upd g 6 (nI b.1), exC 13 9 11 10 12 c e b)
def xpM (n ln ne : Nat) (g : Nat → Int32) (c : Nat → Nat → Int32) (x bits : Int32) (r : Int32) (u : gcS) : Prop :=
  ∃ (e : Nat → Int32) (b : exS), exP n ln x bits (fun i w => c 1 (256 * i + w)) (c 16) (ne, c 12, c 13, c 14, c 15) r b ∧ u = (upd g 4 (nI b.1), exC 17 12 13 14 15 c e b)
theorem neX : (13 : Nat) ≠ 9 ∧ (13 : Nat) ≠ 11 ∧ (13 : Nat) ≠ 10 ∧ (13 : Nat) ≠ 12 ∧ (9 : Nat) ≠ 11 ∧ (9 : Nat) ≠ 10 ∧ (9 : Nat) ≠ 12 ∧ (11 : Nat) ≠ 10 ∧ (11 : Nat) ≠ 12 ∧ (10 : Nat) ≠ 12 := by decide
theorem neM : (17 : Nat) ≠ 12 ∧ (17 : Nat) ≠ 13 ∧ (17 : Nat) ≠ 14 ∧ (17 : Nat) ≠ 15 ∧ (12 : Nat) ≠ 13 ∧ (12 : Nat) ≠ 14 ∧ (12 : Nat) ≠ 15 ∧ (13 : Nat) ≠ 14 ∧ (13 : Nat) ≠ 15 ∧ (14 : Nat) ≠ 15 := by decide
theorem spl_in {lt wv : Nat → Int32} {k : Nat} (hw : isIn 256 (wv k)) (hp : ∀ w, w < 256 → isIn 31 (lt w)) : isIn 31 (spl lt wv k) := by
  obtain ⟨w, h1, h2⟩ := hw
  rw [spl_of h2 h1]; exact hp w h1
set_option maxHeartbeats 4000000 in
theorem cX_exception (x bits : Int32) {ln ne : Nat} (hg0 : g 0 = nI n) (hn : n ≤ 4) (hg : g 5 = nI ln) (hl : ln ≤ 30) (hg6 : g 6 = nI ne) (hne : ne ≤ 40) (hw : ∀ k, k < ln → isIn 256 (c 8 k)) (hp : ∀ i, i < n → ∀ w, w < 256 → isIn 31 (lc i 0 w)) : mW l E mX_exception A [.ref (ad 0), .int x, .int bits] (pX E A ad n g c lg lc) (xpX n ln ne g c lc x bits) (fun u => pX E A ad n u.1 u.2 lg lc) := by
  refine metW (by decide) rfl (Nat.le_of_ble_eq_true rfl) (catOK rfl) (fun Z hZ C R => ?_)
  have hgs : upd g 6 (nI ne) = g := upd_self hg6
  show Wg Z _ 0 [(0, _), (1, _), (2, _)] []
  refine r_aload_n C d_X_exception_0 rfl ?_
  refine r_iload_n C d_X_exception_1 rfl ?_
  refine r_callR C (cX_isLanguage x hg0 hn) cV_67_X ⟨by decide, by decide⟩ ⟨rfl, rfl⟩ vI (fun s H => pX_recv) rfl rfl (Nat.le_of_ble_eq_true rfl) d_X_exception_2 (fun r1 hr1 => ?_)
  refine r_if_ne (tgt := 10) C d_X_exception_5 (by decide) (fun h1 => ?_) (fun h1 => ?_)
  · obtain ⟨i, hi, rfl⟩ := yn_1 hr1 h1
    refine r_aload_n C d_X_exception_10 rfl ?_
    refine rX_g131 C rfl vI d_X_exception_11 ?_
    rw [hg]
    refine r_if_eq (tgt := 30) C d_X_exception_14 (by decide) (fun h2 => ?_) (fun h2 => ?_)
    · have h3 : ln = 0 := (nI_eq (by omega) (by omega)).mp (show nI ln = nI 0 from h2)
      refine r_bipush (v := -3) C d_X_exception_30 (by decide) ?_
      refine R _ _ _ _ (g, c) d_X_exception_32 rfl vI ⟨c 13, (ne, c 9, c 11, c 10, c 12), Or.inr ⟨i, hi, rfl, Or.inl ⟨Or.inl h3, rfl, rfl⟩⟩, ?_⟩
      rw [hgs, ← exC_0 neX, setA_self]
    · have h3 : 0 < ln := by
        rcases Nat.eq_zero_or_pos ln with q | q
        · exact absurd (by rw [q]; rfl) h2
        · exact q
      refine r_aload_n C d_X_exception_17 rfl ?_
      refine r_aload_n C d_X_exception_18 rfl ?_
      refine rX_g11 C rfl vI d_X_exception_19 ?_
      refine r_iload_n C d_X_exception_22 rfl ?_
      refine rX_aald C vI rfl hi hn d_X_exception_23 ?_
      refine r_callW C (cX_spell hi hg hl hw) cV_141_X ⟨by decide, by decide⟩ ⟨rfl, rfl⟩ vI (fun s H => pX_recv) rfl rfl (Nat.le_of_ble_eq_true rfl) d_X_exception_24 (fun r2 e hs => ?_)
      refine r_if_ne (tgt := 33) C d_X_exception_27 (by decide) (fun h4 => ?_) (fun h4 => ?_)
      · rcases hs with ⟨-, hs, hed⟩ | ⟨q, -⟩
        rotate_left
        · exact absurd q h4
        have hse : ∀ k, k < ln → e (k + 1) = spl (lc i 0) (c 8) k := hed.2.2
        refine r_aload_n C d_X_exception_33 rfl ?_
        refine r_iload_n C d_X_exception_34 rfl ?_
        refine r_callR C (cX_find (nI i) hg hl hg6 hne) cV_145_X ⟨by decide, by decide⟩ ⟨rfl, rfl⟩ vI (fun s H => pX_recv) rfl rfl (Nat.le_of_ble_eq_true rfl) d_X_exception_35 (fun r3 hf => ?_)
        obtain ⟨f, hf1, rfl, hf2, hf3⟩ := hf
        have q2 : ∀ j, j < f → ¬ isXs (c 9) (c 11) (c 10) ln (spl (lc i 0) (c 8)) (nI i) j := fun j hj h => hf2 j hj ((isXs_of hse).mpr h)
        have q3 : f < ne → isXs (c 9) (c 11) (c 10) ln (spl (lc i 0) (c 8)) (nI i) f := fun h => (isXs_of hse).mp (hf3 h)
        refine r_istore_n (L' := [(0, _), (1, _), (2, _), (3, _)]) C d_X_exception_38 (by decide) rfl ?_
        refine r_iload_n C d_X_exception_39 rfl ?_
        refine r_bipush (v := 40) C d_X_exception_40 (by decide) ?_
        refine r_icmp_ne (tgt := 48) C d_X_exception_42 (by decide) (fun h5 => ?_) (fun h5 => ?_)
        · have h6 : f < 40 := by
            rcases Nat.lt_or_ge f 40 with q | q
            · exact q
            · exact absurd (by rw [show f = 40 by omega]; rfl) h5
          have J123 : ∀ (g1 : Nat → Int32) (c1 : Nat → Nat → Int32), xpX n ln ne g c lc (nI i) bits (nI f) (g1, setA c1 12 (upd (c1 12) f bits)) → Wg Z (pX E A ad n g1 c1 lg lc) 123 [(0, .ref (ad 0)), (1, .int (nI i)), (2, .int bits), (3, .int (nI f))] [] := by
            intro g1 c1 hx
            refine r_aload_n C d_X_exception_123 rfl ?_
            refine rX_g50 C rfl vI d_X_exception_124 ?_
            refine r_iload_n C d_X_exception_127 rfl ?_
            refine r_iload_n C d_X_exception_128 rfl ?_
            refine rX_iast C vI rfl rfl (by show _ < 40; omega) rfl d_X_exception_129 ?_
            refine r_iload_n C d_X_exception_130 rfl ?_
            exact R _ _ _ _ (g1, setA c1 12 (upd (c1 12) f bits)) d_X_exception_131 rfl vI hx
          refine r_iload_n C d_X_exception_48 rfl ?_
          refine r_aload_n C d_X_exception_49 rfl ?_
          refine rX_g134 C rfl vI d_X_exception_50 ?_
          rw [hg6]
          refine r_icmp_ne (tgt := 123) C d_X_exception_53 (by decide) (fun h7 => ?_) (fun h7 => ?_)
          · refine J123 _ _ ⟨e, (ne, c 9, c 11, c 10, upd (c 12) f bits), Or.inr ⟨i, hi, rfl, Or.inr ⟨h3, hs, f, hf1, q2, q3, Or.inr (Or.inl ⟨?_, h6, rfl, rfl⟩)⟩⟩, ?_⟩
            · rcases Nat.lt_or_ge f ne with q | q
              · exact q
              · exact absurd (by rw [show f = ne by omega]) h7
            · rw [hgs, ← exC_4 neX]; rfl
          · have h8 : f = ne := (nI_eq (by omega) (by omega)).mp h7
            subst h8
            refine r_aload_n C d_X_exception_56 rfl ?_
            refine r_dup C d_X_exception_57 rfl ?_
            refine rX_g134 C rfl vI d_X_exception_58 ?_
            refine r_iconst (v := 1) C d_X_exception_61 (by decide) ?_
            refine r_iadd C d_X_exception_62 ?_
            rw [hg6]
            refine r_tope (nI (f + 1)) (nI_1 f) ?_
            refine rX_p134 C rfl vI d_X_exception_63 ?_
            refine r_aload_n C d_X_exception_66 rfl ?_
            refine rX_g41 C rfl vI d_X_exception_67 ?_
            refine r_iload_n C d_X_exception_70 rfl ?_
            refine r_iload_n C d_X_exception_71 rfl ?_
            refine rX_iast C vI rfl rfl (by show _ < 40; omega) rfl d_X_exception_72 ?_
            refine r_aload_n C d_X_exception_73 rfl ?_
            refine rX_g47 C rfl vI d_X_exception_74 ?_
            refine r_iload_n C d_X_exception_77 rfl ?_
            refine r_aload_n C d_X_exception_78 rfl ?_
            refine rX_g131 C rfl vI d_X_exception_79 ?_
            refine rX_iast C vI rfl rfl (by show _ < 40; omega) rfl d_X_exception_82 ?_
            refine r_iconst (v := 0) C d_X_exception_83 (by decide) ?_
            refine r_istore (L' := [(0, _), (1, _), (2, _), (3, _), (4, _)]) C d_X_exception_84 (by decide) rfl ?_
            have loop : ∀ (m k : Nat), k ≤ ln → ln < k + m → Wg Z (pX E A ad n (upd g 6 (nI (f + 1))) (setA (setA (setA (setA c 13 e) 9 (upd (c 9) f (nI i))) 11 (upd (c 11) f (nI ln))) 10 (blit (c 10) (30 * f) k (spl (lc i 0) (c 8)))) lg lc) 86 [(0, .ref (ad 0)), (1, .int (nI i)), (2, .int bits), (3, .int (nI f)), (4, .int (nI k))] [] := by
              intro m
              induction m with
              | zero => intro k h1 h2; omega
              | succ m ih =>
                intro k hk hm
                refine r_iload C d_X_exception_86 rfl ?_
                refine r_aload_n C d_X_exception_88 rfl ?_
                refine rX_g131 C rfl vI d_X_exception_89 ?_
                refine r_tope (nI ln) hg ?_
                refine r_icmp_ge (tgt := 123) C d_X_exception_92 (by decide) (fun h9 => ?_) (fun h9 => ?_)
                · have hkr : k = ln := nI_ge_eq (by omega) hk h9
                  subst hkr
                  refine Wg.pick [0, 1, 2, 3] rfl ?_
                  exact J123 _ _ ⟨e, _, Or.inr ⟨i, hi, rfl, Or.inr ⟨h3, hs, f, hf1, q2, q3, Or.inr (Or.inr ⟨rfl, h6, rfl, rfl⟩)⟩⟩, rfl⟩
                · have hkr : k < ln := nI_lt_of (by omega) h9
                  obtain ⟨a, ha1, ha2⟩ := spl_in (lt := lc i 0) (wv := c 8) (hw k hkr) (hp i hi)
                  have he1 : e (k + 1) = nI a := (hse k hkr).trans ha2
                  refine r_aload_n C d_X_exception_95 rfl ?_
                  refine rX_g44 C rfl vI d_X_exception_96 ?_
                  refine r_bipush (v := 30) C d_X_exception_99 (by decide) ?_
                  refine r_iload_n C d_X_exception_101 rfl ?_
                  refine r_imul C d_X_exception_102 ?_
                  refine r_iload C d_X_exception_103 rfl ?_
                  refine r_iadd C d_X_exception_105 ?_
                  refine r_aload_n C d_X_exception_106 rfl ?_
                  refine rX_g53 C rfl vI d_X_exception_107 ?_
                  refine r_iload C d_X_exception_110 rfl ?_
                  refine r_iconst (v := 1) C d_X_exception_112 (by decide) ?_
                  refine r_iadd C d_X_exception_113 ?_
                  refine rX_iald C vI rfl (nI_1 k) (by show _ < 32; omega) he1 d_X_exception_114 ?_
                  refine r_i2b C d_X_exception_115 (i2b_B (by omega)) ?_
                  refine rX_bast C vI rfl (nI_ad _ _ (nI_mul 30 _ rfl rfl) rfl) (by show _ < 1200; omega) (nar_b (by omega)) ((setA_setA).trans (congrArg _ (blit_s ha2.symm))) d_X_exception_116 ?_
                  refine r_iinc (L' := [(0, _), (1, _), (2, _), (3, _), (4, _)]) C d_X_exception_117 rfl (nI_inc _) (by decide) rfl ?_
                  refine r_goto (tgt := 86) C d_X_exception_120 (by decide) ?_
                  exact ih (k + 1) (by omega) (by omega)
            have h10 := loop (ln + 1) 0 (by omega) (by omega)
            rw [blit_0, show setA (setA (setA (setA c 13 e) 9 (upd (c 9) f (nI i))) 11 (upd (c 11) f (nI ln))) 10 (c 10) = setA (setA (setA c 13 e) 9 (upd (c 9) f (nI i))) 11 (upd (c 11) f (nI ln)) from setA_self (c := setA (setA (setA c 13 e) 9 (upd (c 9) f (nI i))) 11 (upd (c 11) f (nI ln)))] at h10
            have e5 : upd g 6 (nI (f + 1)) 5 = nI ln := hg
            rw [e5]
            exact h10
        · have h6 : f = 40 := (nI_eq (by omega) (by omega)).mp (show nI f = nI 40 from h5)
          refine r_bipush (v := -2) C d_X_exception_45 (by decide) ?_
          refine R _ _ _ _ (g, setA c 13 e) d_X_exception_47 rfl vI ⟨e, (ne, c 9, c 11, c 10, c 12), Or.inr ⟨i, hi, rfl, Or.inr ⟨h3, hs, f, hf1, q2, q3, Or.inl ⟨h6, rfl, rfl⟩⟩⟩, ?_⟩
          rw [hgs, ← exC_0 neX]
      · rcases hs with ⟨q, -⟩ | ⟨-, hs⟩
        · rw [q] at h4; exact absurd h4 (by decide)
        refine r_bipush (v := -3) C d_X_exception_30 (by decide) ?_
        refine R _ _ _ _ (g, setA c 13 e) d_X_exception_32 rfl vI ⟨e, (ne, c 9, c 11, c 10, c 12), Or.inr ⟨i, hi, rfl, Or.inl ⟨Or.inr hs, rfl, rfl⟩⟩, ?_⟩
        rw [hgs, ← exC_0 neX]
  · refine r_iconst (v := -1) C d_X_exception_8 (by decide) ?_
    refine R _ _ _ _ (g, c) d_X_exception_9 rfl vI ⟨c 13, (ne, c 9, c 11, c 10, c 12), Or.inl ⟨yn_0 hr1 h1, rfl, rfl⟩, ?_⟩
    rw [hgs, ← exC_0 neX, setA_self]
set_option maxHeartbeats 4000000 in
theorem cM_exception (x bits : Int32) {ln ne : Nat} (hg0 : g 0 = nI n) (hn : n ≤ 4) (hg : g 5 = nI ln) (hl : ln ≤ 30) (hg6 : g 4 = nI ne) (hne : ne ≤ 40) (hw : ∀ k, k < ln → isIn 256 (c 16 k)) (hp : ∀ i, i < n → ∀ w, w < 256 → isIn 31 (c 1 (256 * i + w))) : mW l E mM_exception A [.ref (ad 0), .int x, .int bits] (pM E A ad g c) (xpM n ln ne g c x bits) (fun u => pM E A ad u.1 u.2) := by
  refine metW (by decide) rfl (Nat.le_of_ble_eq_true rfl) (catOK rfl) (fun Z hZ C R => ?_)
  have hgs : upd g 4 (nI ne) = g := upd_self hg6
  show Wg Z _ 0 [(0, _), (1, _), (2, _)] []
  refine r_aload_n C d_M_exception_0 rfl ?_
  refine r_iload_n C d_M_exception_1 rfl ?_
  refine r_callR C (cM_isLanguage x hg0 hn) cV_69_M ⟨by decide, by decide⟩ ⟨rfl, rfl⟩ vI (fun s H => pM_recv) rfl rfl (Nat.le_of_ble_eq_true rfl) d_M_exception_2 (fun r1 hr1 => ?_)
  refine r_if_ne (tgt := 10) C d_M_exception_5 (by decide) (fun h1 => ?_) (fun h1 => ?_)
  · obtain ⟨i, hi, rfl⟩ := yn_1 hr1 h1
    refine r_aload_n C d_M_exception_10 rfl ?_
    refine rM_g94 C rfl vI d_M_exception_11 ?_
    rw [hg]
    refine r_if_eq (tgt := 25) C d_M_exception_14 (by decide) (fun h2 => ?_) (fun h2 => ?_)
    · have h3 : ln = 0 := (nI_eq (by omega) (by omega)).mp (show nI ln = nI 0 from h2)
      refine r_bipush (v := -3) C d_M_exception_25 (by decide) ?_
      refine R _ _ _ _ (g, c) d_M_exception_27 rfl vI ⟨c 17, (ne, c 12, c 13, c 14, c 15), Or.inr ⟨i, hi, rfl, Or.inl ⟨Or.inl h3, rfl, rfl⟩⟩, ?_⟩
      rw [hgs, ← exC_0 neM, setA_self]
    · have h3 : 0 < ln := by
        rcases Nat.eq_zero_or_pos ln with q | q
        · exact absurd (by rw [q]; rfl) h2
        · exact q
      refine r_aload_n C d_M_exception_17 rfl ?_
      refine r_iload_n C d_M_exception_18 rfl ?_
      refine r_callW C (cM_spell (show i < 4 by omega) hg hl hw (hp i hi)) cV_100_M ⟨by decide, by decide⟩ ⟨rfl, rfl⟩ vI (fun s H => pM_recv) rfl rfl (Nat.le_of_ble_eq_true rfl) d_M_exception_19 (fun r2 e hs => ?_)
      obtain ⟨hs1, hed⟩ := hs
      refine r_if_ne (tgt := 28) C d_M_exception_22 (by decide) (fun h4 => ?_) (fun h4 => ?_)
      · have hs := yn_1 hs1 h4
        have hse : ∀ k, k < ln → e (k + 1) = spl (fun w => c 1 (256 * i + w)) (c 16) k := hed.2.2
        refine r_aload_n C d_M_exception_28 rfl ?_
        refine r_iload_n C d_M_exception_29 rfl ?_
        refine r_callR C (cM_exceptionOf (nI i) hg hl hg6 hne) cV_103_M ⟨by decide, by decide⟩ ⟨rfl, rfl⟩ vI (fun s H => pM_recv) rfl rfl (Nat.le_of_ble_eq_true rfl) d_M_exception_30 (fun r3 hf => ?_)
        obtain ⟨f, hf1, rfl, hf2, hf3⟩ := hf
        have q2 : ∀ j, j < f → ¬ isXs (c 12) (c 13) (c 14) ln (spl (fun w => c 1 (256 * i + w)) (c 16)) (nI i) j := fun j hj h => hf2 j hj ((isXs_of hse).mpr h)
        have q3 : f < ne → isXs (c 12) (c 13) (c 14) ln (spl (fun w => c 1 (256 * i + w)) (c 16)) (nI i) f := fun h => (isXs_of hse).mp (hf3 h)
        refine r_istore_n (L' := [(0, _), (1, _), (2, _), (3, _)]) C d_M_exception_33 (by decide) rfl ?_
        refine r_iload_n C d_M_exception_34 rfl ?_
        refine r_bipush (v := 40) C d_M_exception_35 (by decide) ?_
        refine r_icmp_ne (tgt := 43) C d_M_exception_37 (by decide) (fun h5 => ?_) (fun h5 => ?_)
        · have h6 : f < 40 := by
            rcases Nat.lt_or_ge f 40 with q | q
            · exact q
            · exact absurd (by rw [show f = 40 by omega]; rfl) h5
          have J123 : ∀ (g1 : Nat → Int32) (c1 : Nat → Nat → Int32), xpM n ln ne g c (nI i) bits (nI f) (g1, setA c1 15 (upd (c1 15) f bits)) → Wg Z (pM E A ad g1 c1) 117 [(0, .ref (ad 0)), (1, .int (nI i)), (2, .int bits), (3, .int (nI f))] [] := by
            intro g1 c1 hx
            refine r_aload_n C d_M_exception_117 rfl ?_
            refine rM_g53 C rfl vI d_M_exception_118 ?_
            refine r_iload_n C d_M_exception_121 rfl ?_
            refine r_iload_n C d_M_exception_122 rfl ?_
            refine rM_iast C vI rfl rfl (by show _ < 40; omega) rfl d_M_exception_123 ?_
            refine r_iload_n C d_M_exception_124 rfl ?_
            exact R _ _ _ _ (g1, setA c1 15 (upd (c1 15) f bits)) d_M_exception_125 rfl vI hx
          refine r_iload_n C d_M_exception_43 rfl ?_
          refine r_aload_n C d_M_exception_44 rfl ?_
          refine rM_g97 C rfl vI d_M_exception_45 ?_
          rw [hg6]
          refine r_icmp_ne (tgt := 117) C d_M_exception_48 (by decide) (fun h7 => ?_) (fun h7 => ?_)
          · refine J123 _ _ ⟨e, (ne, c 12, c 13, c 14, upd (c 15) f bits), Or.inr ⟨i, hi, rfl, Or.inr ⟨h3, hs, f, hf1, q2, q3, Or.inr (Or.inl ⟨?_, h6, rfl, rfl⟩)⟩⟩, ?_⟩
            · rcases Nat.lt_or_ge f ne with q | q
              · exact q
              · exact absurd (by rw [show f = ne by omega]) h7
            · rw [hgs, ← exC_4 neM]; rfl
          · have h8 : f = ne := (nI_eq (by omega) (by omega)).mp h7
            subst h8
            refine r_aload_n C d_M_exception_51 rfl ?_
            refine rM_g44 C rfl vI d_M_exception_52 ?_
            refine r_iload_n C d_M_exception_55 rfl ?_
            refine r_iload_n C d_M_exception_56 rfl ?_
            refine rM_iast C vI rfl rfl (by show _ < 40; omega) rfl d_M_exception_57 ?_
            refine r_aload_n C d_M_exception_58 rfl ?_
            refine rM_g47 C rfl vI d_M_exception_59 ?_
            refine r_iload_n C d_M_exception_62 rfl ?_
            refine r_aload_n C d_M_exception_63 rfl ?_
            refine rM_g94 C rfl vI d_M_exception_64 ?_
            refine rM_iast C vI rfl rfl (by show _ < 40; omega) rfl d_M_exception_67 ?_
            refine r_iconst (v := 0) C d_M_exception_68 (by decide) ?_
            refine r_istore (L' := [(0, _), (1, _), (2, _), (3, _), (4, _)]) C d_M_exception_69 (by decide) rfl ?_
            have loop : ∀ (m k : Nat), k ≤ ln → ln < k + m → Wg Z (pM E A ad g (setA (setA (setA (setA c 17 e) 12 (upd (c 12) f (nI i))) 13 (upd (c 13) f (nI ln))) 14 (blit (c 14) (30 * f) k (spl (fun w => c 1 (256 * i + w)) (c 16))))) 71 [(0, .ref (ad 0)), (1, .int (nI i)), (2, .int bits), (3, .int (nI f)), (4, .int (nI k))] [] := by
              intro m
              induction m with
              | zero => intro k h1 h2; omega
              | succ m ih =>
                intro k hk hm
                refine r_iload C d_M_exception_71 rfl ?_
                refine r_aload_n C d_M_exception_73 rfl ?_
                refine rM_g94 C rfl vI d_M_exception_74 ?_
                refine r_tope (nI ln) hg ?_
                refine r_icmp_ge (tgt := 107) C d_M_exception_77 (by decide) (fun h9 => ?_) (fun h9 => ?_)
                · have hkr : k = ln := nI_ge_eq (by omega) hk h9
                  subst hkr
                  refine r_aload_n C d_M_exception_107 rfl ?_
                  refine r_dup C d_M_exception_108 rfl ?_
                  refine rM_g97 C rfl vI d_M_exception_109 ?_
                  refine r_iconst (v := 1) C d_M_exception_112 (by decide) ?_
                  refine r_iadd C d_M_exception_113 ?_
                  rw [hg6]
                  refine r_tope (nI (f + 1)) (nI_1 f) ?_
                  refine rM_p97 C rfl vI d_M_exception_114 ?_
                  refine Wg.pick [0, 1, 2, 3] rfl ?_
                  exact J123 _ _ ⟨e, _, Or.inr ⟨i, hi, rfl, Or.inr ⟨h3, hs, f, hf1, q2, q3, Or.inr (Or.inr ⟨rfl, h6, rfl, rfl⟩)⟩⟩, rfl⟩
                · have hkr : k < ln := nI_lt_of (by omega) h9
                  refine r_aload_n C d_M_exception_80 rfl ?_
                  refine rM_g50 C rfl vI d_M_exception_81 ?_
                  refine r_bipush (v := 30) C d_M_exception_84 (by decide) ?_
                  refine r_iload_n C d_M_exception_86 rfl ?_
                  refine r_imul C d_M_exception_87 ?_
                  refine r_iload C d_M_exception_88 rfl ?_
                  refine r_iadd C d_M_exception_90 ?_
                  refine r_aload_n C d_M_exception_91 rfl ?_
                  refine rM_g59 C rfl vI d_M_exception_92 ?_
                  refine r_iload C d_M_exception_95 rfl ?_
                  refine r_iconst (v := 1) C d_M_exception_97 (by decide) ?_
                  refine r_iadd C d_M_exception_98 ?_
                  refine rM_iald C vI rfl (nI_1 k) (by show _ < 32; omega) (hse k hkr) d_M_exception_99 ?_
                  refine rM_iast C vI rfl (nI_ad _ _ (nI_mul 30 _ rfl rfl) rfl) (by show _ < 1200; omega) ((setA_setA).trans (congrArg _ (blit_s rfl))) d_M_exception_100 ?_
                  refine r_iinc (L' := [(0, _), (1, _), (2, _), (3, _), (4, _)]) C d_M_exception_101 rfl (nI_inc _) (by decide) rfl ?_
                  refine r_goto (tgt := 71) C d_M_exception_104 (by decide) ?_
                  exact ih (k + 1) (by omega) (by omega)
            have h10 := loop (ln + 1) 0 (by omega) (by omega)
            rw [blit_0, show setA (setA (setA (setA c 17 e) 12 (upd (c 12) f (nI i))) 13 (upd (c 13) f (nI ln))) 14 (c 14) = setA (setA (setA c 17 e) 12 (upd (c 12) f (nI i))) 13 (upd (c 13) f (nI ln)) from setA_self (c := setA (setA (setA c 17 e) 12 (upd (c 12) f (nI i))) 13 (upd (c 13) f (nI ln)))] at h10
            rw [hg]
            exact h10
        · have h6 : f = 40 := (nI_eq (by omega) (by omega)).mp (show nI f = nI 40 from h5)
          refine r_bipush (v := -2) C d_M_exception_40 (by decide) ?_
          refine R _ _ _ _ (g, setA c 17 e) d_M_exception_42 rfl vI ⟨e, (ne, c 12, c 13, c 14, c 15), Or.inr ⟨i, hi, rfl, Or.inr ⟨h3, hs, f, hf1, q2, q3, Or.inl ⟨h6, rfl, rfl⟩⟩⟩, ?_⟩
          rw [hgs, ← exC_0 neM]
      · refine r_bipush (v := -3) C d_M_exception_25 (by decide) ?_
        refine R _ _ _ _ (g, setA c 17 e) d_M_exception_27 rfl vI ⟨e, (ne, c 12, c 13, c 14, c 15), Or.inr ⟨i, hi, rfl, Or.inl ⟨Or.inr (yn_0 hs1 h4), rfl, rfl⟩⟩, ?_⟩
        rw [hgs, ← exC_0 neM]
  · refine r_iconst (v := -1) C d_M_exception_8 (by decide) ?_
    refine R _ _ _ _ (g, c) d_M_exception_9 rfl vI ⟨c 17, (ne, c 12, c 13, c 14, c 15), Or.inl ⟨yn_0 hr1 h1, rfl, rfl⟩, ?_⟩
    rw [hgs, ← exC_0 neM, setA_self]
end S14
end
section
-- drop of X and M
/-- what lies s places above, from lo until hi -/
def shk (s : Nat) (f : Nat → Int32) (lo hi : Nat) : Nat → Int32 := fun j => if lo ≤ j ∧ j < hi then f (j + s) else f j
theorem shk_0 {s : Nat} {f : Nat → Int32} {lo : Nat} : shk s f lo lo = f := by funext j; simp [shk]; omega
theorem shk_hi {s : Nat} {f : Nat → Int32} {lo hi j : Nat} (h : hi ≤ j) : shk s f lo hi j = f j := by
  have : ¬ (lo ≤ j ∧ j < hi) := by omega
  simp [shk, this]
theorem shk_s {s : Nat} {f : Nat → Int32} {lo t : Nat} (ht : lo ≤ t) : upd (shk s f lo t) t (f (t + s)) = shk s f lo (t + 1) := by
  funext j
  by_cases h : j = t
  · subst h
    simp [upd, shk, ht]
  · have : (lo ≤ j ∧ j < t + 1) ↔ (lo ≤ j ∧ j < t) := by omega
    simp [upd, shk, h, this]
def drC (i1 i2 i3 i4 : Nat) (c : Nat → Nat → Int32) (ow le pl sp : Nat → Int32) : Nat → Nat → Int32 := setA (setA (setA (setA c i1 ow) i2 le) i3 pl) i4 sp
theorem drC_1 {i1 i2 i3 i4 : Nat} {c : Nat → Nat → Int32} {ow le pl sp ow' f : Nat → Int32} (h : i1 ≠ i2 ∧ i1 ≠ i3 ∧ i1 ≠ i4) (hf : f = ow') : setA (drC i1 i2 i3 i4 c ow le pl sp) i1 f = drC i1 i2 i3 i4 c ow' le pl sp := by
  subst hf
  obtain ⟨h1, h2, h3⟩ := h
  funext a
  by_cases ha : a = i1
  · subst ha; simp [drC, setA, h1, h2, h3]
  · simp [drC, setA, ha]
theorem drC_2 {i1 i2 i3 i4 : Nat} {c : Nat → Nat → Int32} {ow le pl sp le' f : Nat → Int32} (h : i2 ≠ i3 ∧ i2 ≠ i4) (hf : f = le') : setA (drC i1 i2 i3 i4 c ow le pl sp) i2 f = drC i1 i2 i3 i4 c ow le' pl sp := by
  subst hf
  obtain ⟨h1, h2⟩ := h
  funext a
  by_cases ha : a = i2
  · subst ha; simp [drC, setA, h1, h2]
  · simp [drC, setA, ha]
theorem drC_3 {i1 i2 i3 i4 : Nat} {c : Nat → Nat → Int32} {ow le pl sp pl' f : Nat → Int32} (h : i3 ≠ i4) (hf : f = pl') : setA (drC i1 i2 i3 i4 c ow le pl sp) i3 f = drC i1 i2 i3 i4 c ow le pl' sp := by
  subst hf
  funext a
  by_cases ha : a = i3
  · subst ha; simp [drC, setA, h]
  · simp [drC, setA, ha]
theorem drC_4 {i1 i2 i3 i4 : Nat} {c : Nat → Nat → Int32} {ow le pl sp sp' f : Nat → Int32} (hf : f = sp') : setA (drC i1 i2 i3 i4 c ow le pl sp) i4 f = drC i1 i2 i3 i4 c ow le pl sp' := by
  subst hf
  funext a
  by_cases ha : a = i4
  · subst ha; simp [drC, setA]
  · simp [drC, setA, ha]
theorem drC_0 {i1 i2 i3 i4 : Nat} {c : Nat → Nat → Int32} : drC i1 i2 i3 i4 c (c i1) (c i2) (c i3) (c i4) = c := by
  funext a
  by_cases h4 : a = i4
  · simp [drC, setA, h4]
  · by_cases h3 : a = i3
    · subst h3; simp [drC, setA, h4]
    · by_cases h2 : a = i2
      · subst h2; simp [drC, setA, h4, h3]
      · by_cases h1 : a = i1
        · subst h1; simp [drC, setA, h4, h3, h2]
        · simp [drC, setA, h4, h3, h2, h1]
/-- what 'drop' does: the number's place ge, the arrays' places -/
def drP (ge i1 i2 i3 i4 ne : Nat) (g : Nat → Int32) (c : Nat → Nat → Int32) (x : Int32) (r : Int32) (u : gcS) : Prop :=
  (¬ isIn ne x ∧ r = -1 ∧ u = (g, c)) ∨ ∃ a, a < ne ∧ x = nI a ∧ r = 1 ∧ u = (upd g ge (nI (ne - 1)), drC i1 i2 i3 i4 c (shk 1 (c i1) a (ne - 1)) (shk 1 (c i2) a (ne - 1)) (shk 1 (c i3) a (ne - 1)) (shk 30 (c i4) (30 * a) (30 * (ne - 1))))
section S15
variable {l : Launch} {E : eE} {A A' : Nat → Prop} {ad : Nat → Nat} {n : Nat} {g : Nat → Int32} {c lg : Nat → Nat → Int32} {lc : Nat → Nat → Nat → Int32}
set_option maxHeartbeats 4000000 in
theorem cX_drop (x : Int32) {ne : Nat} (hg : g 6 = nI ne) (hne : ne ≤ 40) (hsp : ∀ j, j < 1200 → isIn 31 (c 10 j)) : mW l E mX_drop A [.ref (ad 0), .int x] (pX E A ad n g c lg lc) (drP 6 9 11 12 10 ne g c x) (fun u => pX E A ad n u.1 u.2 lg lc) := by
  have hb : ne < 2 ^ 31 := by omega
  refine metW (by decide) rfl (Nat.le_of_ble_eq_true rfl) (catOK rfl) (fun Z hZ C R => ?_)
  show Wg Z _ 0 [(0, _), (1, _)] []
  refine r_iload_n C d_X_drop_0 rfl ?_
  refine r_if_lt (tgt := 12) C d_X_drop_1 (by decide) (fun h1 => ?_) (fun h1 => ?_)
  · refine r_iconst (v := -1) C d_X_drop_12 (by decide) ?_
    exact R _ _ _ _ (g, c) d_X_drop_13 rfl vI (Or.inl ⟨fun h => Int32.not_lt.mpr ((isIn_iff hb).mp h).1 h1, rfl, rfl⟩)
  · refine r_iload_n C d_X_drop_4 rfl ?_
    refine r_aload_n C d_X_drop_5 rfl ?_
    refine rX_g134 C rfl vI d_X_drop_6 ?_
    rw [hg]
    refine r_icmp_lt (tgt := 14) C d_X_drop_9 (by decide) (fun h2 => ?_) (fun h2 => ?_)
    · obtain ⟨a, ha, rfl⟩ := (isIn_iff hb).mpr ⟨Int32.not_lt.mp h1, h2⟩
      refine r_aload_n C d_X_drop_14 rfl ?_
      refine r_dup C d_X_drop_15 rfl ?_
      refine rX_g134 C rfl vI d_X_drop_16 ?_
      refine r_iconst (v := 1) C d_X_drop_19 (by decide) ?_
      refine r_isub C d_X_drop_20 ?_
      rw [hg]
      refine r_tope (nI (ne - 1)) (pk_sub (b := 1) (by omega)) ?_
      refine rX_p134 C rfl vI d_X_drop_21 ?_
      refine r_iload_n C d_X_drop_24 rfl ?_
      refine r_istore_n (L' := [(0, _), (1, _), (2, _)]) C d_X_drop_25 (by decide) rfl ?_
      have loop : ∀ (m t : Nat), a ≤ t → t ≤ ne - 1 → ne - 1 < t + m → ∀ (L : List (Nat × Value)), lv_pick L [0, 1, 2] = [(0, .ref (ad 0)), (1, .int (nI a)), (2, .int (nI t))] → Wg Z (pX E A ad n (upd g 6 (nI (ne - 1))) (drC 9 11 12 10 c (shk 1 (c 9) a t) (shk 1 (c 11) a t) (shk 1 (c 12) a t) (shk 30 (c 10) (30 * a) (30 * t))) lg lc) 26 L [] := by
        intro m
        induction m with
        | zero => intro t h1 h2 h3; omega
        | succ m ih =>
          intro t ht1 ht2 hm L hL
          refine Wg.pick [0, 1, 2] hL ?_
          refine r_iload_n C d_X_drop_26 rfl ?_
          refine r_aload_n C d_X_drop_27 rfl ?_
          refine rX_g134 C rfl vI d_X_drop_28 ?_
          refine r_tope (nI (ne - 1)) rfl ?_
          refine r_icmp_ge (tgt := 120) C d_X_drop_31 (by decide) (fun h3 => ?_) (fun h3 => ?_)
          · have hkr : t = ne - 1 := nI_ge_eq (by omega) ht2 h3
            subst hkr
            refine r_iconst (v := 1) C d_X_drop_120 (by decide) ?_
            exact R _ _ _ _ _ d_X_drop_121 rfl vI (Or.inr ⟨a, ha, rfl, rfl, rfl⟩)
          · have hkr : t < ne - 1 := nI_lt_of (by omega) h3
            have inner : ∀ (m' k : Nat), k ≤ 30 → 30 < k + m' → Wg Z (pX E A ad n (upd g 6 (nI (ne - 1))) (drC 9 11 12 10 c (shk 1 (c 9) a (t + 1)) (shk 1 (c 11) a (t + 1)) (shk 1 (c 12) a (t + 1)) (shk 30 (c 10) (30 * a) (30 * t + k))) lg lc) 78 [(0, .ref (ad 0)), (1, .int (nI a)), (2, .int (nI t)), (3, .int (nI k))] [] := by
              intro m'
              induction m' with
              | zero => intro k h1 h2; omega
              | succ m' ih' =>
                intro k hk hm'
                refine r_iload_n C d_X_drop_78 rfl ?_
                refine r_bipush (v := 30) C d_X_drop_79 (by decide) ?_
                refine r_icmp_ge (tgt := 114) C d_X_drop_81 (by decide) (fun h4 => ?_) (fun h4 => ?_)
                · have hk30 : k = 30 := nI_ge_eq (by omega) hk (show nI 30 ≤ nI k from h4)
                  subst hk30
                  refine r_iinc (L' := [(0, _), (1, _), (2, _), (3, _)]) C d_X_drop_114 rfl (nI_inc _) (by decide) rfl ?_
                  refine r_goto (tgt := 26) C d_X_drop_117 (by decide) ?_
                  exact ih (t + 1) (by omega) (by omega) (by omega) _ rfl
                · have hk30 : k < 30 := nI_lt_of (by omega) (show ¬ nI 30 ≤ nI k from h4)
                  have hix : 30 * (t + 1) + k = 30 * t + k + 30 := by omega
                  have hv : shk 30 (c 10) (30 * a) (30 * t + k) (30 * (t + 1) + k) = c 10 (30 * t + k + 30) := by rw [shk_hi (by omega), hix]
                  obtain ⟨w, hw1, hw2⟩ := hsp (30 * t + k + 30) (by omega)
                  refine r_aload_n C d_X_drop_84 rfl ?_
                  refine rX_g44 C rfl vI d_X_drop_85 ?_
                  refine r_bipush (v := 30) C d_X_drop_88 (by decide) ?_
                  refine r_iload_n C d_X_drop_90 rfl ?_
                  refine r_imul C d_X_drop_91 ?_
                  refine r_iload_n C d_X_drop_92 rfl ?_
                  refine r_iadd C d_X_drop_93 ?_
                  refine r_aload_n C d_X_drop_94 rfl ?_
                  refine rX_g44 C rfl vI d_X_drop_95 ?_
                  refine r_bipush (v := 30) C d_X_drop_98 (by decide) ?_
                  refine r_iload_n C d_X_drop_100 rfl ?_
                  refine r_iconst (v := 1) C d_X_drop_101 (by decide) ?_
                  refine r_iadd C d_X_drop_102 ?_
                  refine r_imul C d_X_drop_103 ?_
                  refine r_iload_n C d_X_drop_104 rfl ?_
                  refine r_iadd C d_X_drop_105 ?_
                  refine rX_bald C vI rfl (nI_ad _ _ (nI_mul 30 _ rfl (nI_1 t)) rfl) (by show _ < 1200; omega) hv d_X_drop_106 ?_
                  refine rX_bast C vI rfl (nI_ad _ _ (nI_mul 30 _ rfl rfl) rfl) (by show _ < 1200; omega) (by rw [hw2]; exact nar_b (by omega)) (drC_4 (shk_s (by omega))) d_X_drop_107 ?_
                  refine r_iinc (L' := [(0, _), (1, _), (2, _), (3, _)]) C d_X_drop_108 rfl (nI_inc _) (by decide) rfl ?_
                  refine r_goto (tgt := 78) C d_X_drop_111 (by decide) ?_
                  exact ih' (k + 1) (by omega) (by omega)
            refine r_aload_n C d_X_drop_34 rfl ?_
            refine rX_g41 C rfl vI d_X_drop_35 ?_
            refine r_iload_n C d_X_drop_38 rfl ?_
            refine r_aload_n C d_X_drop_39 rfl ?_
            refine rX_g41 C rfl vI d_X_drop_40 ?_
            refine r_iload_n C d_X_drop_43 rfl ?_
            refine r_iconst (v := 1) C d_X_drop_44 (by decide) ?_
            refine r_iadd C d_X_drop_45 ?_
            refine rX_iald C vI rfl (nI_1 t) (by show _ < 40; omega) (show _ = c 9 (t + 1) from shk_hi (by omega)) d_X_drop_46 ?_
            refine rX_iast C vI rfl rfl (by show _ < 40; omega) (drC_1 (by decide) (shk_s ht1)) d_X_drop_47 ?_
            refine r_aload_n C d_X_drop_48 rfl ?_
            refine rX_g47 C rfl vI d_X_drop_49 ?_
            refine r_iload_n C d_X_drop_52 rfl ?_
            refine r_aload_n C d_X_drop_53 rfl ?_
            refine rX_g47 C rfl vI d_X_drop_54 ?_
            refine r_iload_n C d_X_drop_57 rfl ?_
            refine r_iconst (v := 1) C d_X_drop_58 (by decide) ?_
            refine r_iadd C d_X_drop_59 ?_
            refine rX_iald C vI rfl (nI_1 t) (by show _ < 40; omega) (show _ = c 11 (t + 1) from shk_hi (by omega)) d_X_drop_60 ?_
            refine rX_iast C vI rfl rfl (by show _ < 40; omega) (drC_2 (by decide) (shk_s ht1)) d_X_drop_61 ?_
            refine r_aload_n C d_X_drop_62 rfl ?_
            refine rX_g50 C rfl vI d_X_drop_63 ?_
            refine r_iload_n C d_X_drop_66 rfl ?_
            refine r_aload_n C d_X_drop_67 rfl ?_
            refine rX_g50 C rfl vI d_X_drop_68 ?_
            refine r_iload_n C d_X_drop_71 rfl ?_
            refine r_iconst (v := 1) C d_X_drop_72 (by decide) ?_
            refine r_iadd C d_X_drop_73 ?_
            refine rX_iald C vI rfl (nI_1 t) (by show _ < 40; omega) (show _ = c 12 (t + 1) from shk_hi (by omega)) d_X_drop_74 ?_
            refine rX_iast C vI rfl rfl (by show _ < 40; omega) (drC_3 (by decide) (shk_s ht1)) d_X_drop_75 ?_
            refine r_iconst (v := 0) C d_X_drop_76 (by decide) ?_
            refine r_istore_n (L' := [(0, _), (1, _), (2, _), (3, _)]) C d_X_drop_77 (by decide) rfl ?_
            exact inner 31 0 (by omega) (by omega)
      have h10 := loop ne a (Nat.le_refl a) (by omega) (by omega) _ (rfl : lv_pick [(0, .ref (ad 0)), (1, .int (nI a)), (2, .int (nI a))] [0, 1, 2] = _)
      rw [shk_0, shk_0, shk_0, shk_0, drC_0] at h10
      exact h10
    · refine r_iconst (v := -1) C d_X_drop_12 (by decide) ?_
      exact R _ _ _ _ (g, c) d_X_drop_13 rfl vI (Or.inl ⟨fun h => h2 ((isIn_iff hb).mp h).2, rfl, rfl⟩)
set_option maxHeartbeats 4000000 in
theorem cM_drop (x : Int32) {ne : Nat} (hg : g 4 = nI ne) (hne : ne ≤ 40) : mW l E mM_drop A [.ref (ad 0), .int x] (pM E A ad g c) (drP 4 12 13 15 14 ne g c x) (fun u => pM E A ad u.1 u.2) := by
  have hb : ne < 2 ^ 31 := by omega
  refine metW (by decide) rfl (Nat.le_of_ble_eq_true rfl) (catOK rfl) (fun Z hZ C R => ?_)
  show Wg Z _ 0 [(0, _), (1, _)] []
  refine r_iload_n C d_M_drop_0 rfl ?_
  refine r_if_lt (tgt := 12) C d_M_drop_1 (by decide) (fun h1 => ?_) (fun h1 => ?_)
  · refine r_iconst (v := -1) C d_M_drop_12 (by decide) ?_
    exact R _ _ _ _ (g, c) d_M_drop_13 rfl vI (Or.inl ⟨fun h => Int32.not_lt.mpr ((isIn_iff hb).mp h).1 h1, rfl, rfl⟩)
  · refine r_iload_n C d_M_drop_4 rfl ?_
    refine r_aload_n C d_M_drop_5 rfl ?_
    refine rM_g97 C rfl vI d_M_drop_6 ?_
    rw [hg]
    refine r_icmp_lt (tgt := 14) C d_M_drop_9 (by decide) (fun h2 => ?_) (fun h2 => ?_)
    · obtain ⟨a, ha, rfl⟩ := (isIn_iff hb).mpr ⟨Int32.not_lt.mp h1, h2⟩
      refine r_aload_n C d_M_drop_14 rfl ?_
      refine r_dup C d_M_drop_15 rfl ?_
      refine rM_g97 C rfl vI d_M_drop_16 ?_
      refine r_iconst (v := 1) C d_M_drop_19 (by decide) ?_
      refine r_isub C d_M_drop_20 ?_
      rw [hg]
      refine r_tope (nI (ne - 1)) (pk_sub (b := 1) (by omega)) ?_
      refine rM_p97 C rfl vI d_M_drop_21 ?_
      refine r_iload_n C d_M_drop_24 rfl ?_
      refine r_istore_n (L' := [(0, _), (1, _), (2, _)]) C d_M_drop_25 (by decide) rfl ?_
      have loop : ∀ (m t : Nat), a ≤ t → t ≤ ne - 1 → ne - 1 < t + m → ∀ (L : List (Nat × Value)), lv_pick L [0, 1, 2] = [(0, .ref (ad 0)), (1, .int (nI a)), (2, .int (nI t))] → Wg Z (pM E A ad (upd g 4 (nI (ne - 1))) (drC 12 13 15 14 c (shk 1 (c 12) a t) (shk 1 (c 13) a t) (shk 1 (c 15) a t) (shk 30 (c 14) (30 * a) (30 * t)))) 26 L [] := by
        intro m
        induction m with
        | zero => intro t h1 h2 h3; omega
        | succ m ih =>
          intro t ht1 ht2 hm L hL
          refine Wg.pick [0, 1, 2] hL ?_
          refine r_iload_n C d_M_drop_26 rfl ?_
          refine r_aload_n C d_M_drop_27 rfl ?_
          refine rM_g97 C rfl vI d_M_drop_28 ?_
          refine r_tope (nI (ne - 1)) rfl ?_
          refine r_icmp_ge (tgt := 121) C d_M_drop_31 (by decide) (fun h3 => ?_) (fun h3 => ?_)
          · have hkr : t = ne - 1 := nI_ge_eq (by omega) ht2 h3
            subst hkr
            refine r_iconst (v := 1) C d_M_drop_121 (by decide) ?_
            exact R _ _ _ _ _ d_M_drop_122 rfl vI (Or.inr ⟨a, ha, rfl, rfl, rfl⟩)
          · have hkr : t < ne - 1 := nI_lt_of (by omega) h3
            have inner : ∀ (m' k : Nat), k ≤ 30 → 30 < k + m' → Wg Z (pM E A ad (upd g 4 (nI (ne - 1))) (drC 12 13 15 14 c (shk 1 (c 12) a (t + 1)) (shk 1 (c 13) a (t + 1)) (shk 1 (c 15) a (t + 1)) (shk 30 (c 14) (30 * a) (30 * t + k)))) 78 [(0, .ref (ad 0)), (1, .int (nI a)), (2, .int (nI t)), (3, .int (nI k))] [] := by
              intro m'
              induction m' with
              | zero => intro k h1 h2; omega
              | succ m' ih' =>
                intro k hk hm'
                refine r_iload_n C d_M_drop_78 rfl ?_
                refine r_bipush (v := 30) C d_M_drop_79 (by decide) ?_
                refine r_icmp_ge (tgt := 115) C d_M_drop_81 (by decide) (fun h4 => ?_) (fun h4 => ?_)
                · have hk30 : k = 30 := nI_ge_eq (by omega) hk (show nI 30 ≤ nI k from h4)
                  subst hk30
                  refine r_iinc (L' := [(0, _), (1, _), (2, _), (3, _)]) C d_M_drop_115 rfl (nI_inc _) (by decide) rfl ?_
                  refine r_goto (tgt := 26) C d_M_drop_118 (by decide) ?_
                  exact ih (t + 1) (by omega) (by omega) (by omega) _ rfl
                · have hk30 : k < 30 := nI_lt_of (by omega) (show ¬ nI 30 ≤ nI k from h4)
                  have hix : 30 * (t + 1) + k = 30 * t + k + 30 := by omega
                  have hv : shk 30 (c 14) (30 * a) (30 * t + k) (30 * (t + 1) + k) = c 14 (30 * t + k + 30) := by rw [shk_hi (by omega), hix]
                  have hix2 : 30 * t + 30 + k = 30 * (t + 1) + k := by omega
                  refine r_aload_n C d_M_drop_84 rfl ?_
                  refine rM_g50 C rfl vI d_M_drop_85 ?_
                  refine r_bipush (v := 30) C d_M_drop_88 (by decide) ?_
                  refine r_iload_n C d_M_drop_90 rfl ?_
                  refine r_imul C d_M_drop_91 ?_
                  refine r_iload_n C d_M_drop_92 rfl ?_
                  refine r_iadd C d_M_drop_93 ?_
                  refine r_aload_n C d_M_drop_94 rfl ?_
                  refine rM_g50 C rfl vI d_M_drop_95 ?_
                  refine r_bipush (v := 30) C d_M_drop_98 (by decide) ?_
                  refine r_iload_n C d_M_drop_100 rfl ?_
                  refine r_imul C d_M_drop_101 ?_
                  refine r_bipush (v := 30) C d_M_drop_102 (by decide) ?_
                  refine r_iadd C d_M_drop_104 ?_
                  refine r_iload_n C d_M_drop_105 rfl ?_
                  refine r_iadd C d_M_drop_106 ?_
                  refine rM_iald C vI rfl ((nI_ad _ _ (nI_ad _ 30 (nI_mul 30 _ rfl rfl) rfl) rfl).trans (congrArg nI hix2)) (by show _ < 1200; omega) hv d_M_drop_107 ?_
                  refine rM_iast C vI rfl (nI_ad _ _ (nI_mul 30 _ rfl rfl) rfl) (by show _ < 1200; omega) (drC_4 (shk_s (by omega))) d_M_drop_108 ?_
                  refine r_iinc (L' := [(0, _), (1, _), (2, _), (3, _)]) C d_M_drop_109 rfl (nI_inc _) (by decide) rfl ?_
                  refine r_goto (tgt := 78) C d_M_drop_112 (by decide) ?_
                  exact ih' (k + 1) (by omega) (by omega)
            refine r_aload_n C d_M_drop_34 rfl ?_
            refine rM_g44 C rfl vI d_M_drop_35 ?_
            refine r_iload_n C d_M_drop_38 rfl ?_
            refine r_aload_n C d_M_drop_39 rfl ?_
            refine rM_g44 C rfl vI d_M_drop_40 ?_
            refine r_iload_n C d_M_drop_43 rfl ?_
            refine r_iconst (v := 1) C d_M_drop_44 (by decide) ?_
            refine r_iadd C d_M_drop_45 ?_
            refine rM_iald C vI rfl (nI_1 t) (by show _ < 40; omega) (show _ = c 12 (t + 1) from shk_hi (by omega)) d_M_drop_46 ?_
            refine rM_iast C vI rfl rfl (by show _ < 40; omega) (drC_1 (by decide) (shk_s ht1)) d_M_drop_47 ?_
            refine r_aload_n C d_M_drop_48 rfl ?_
            refine rM_g47 C rfl vI d_M_drop_49 ?_
            refine r_iload_n C d_M_drop_52 rfl ?_
            refine r_aload_n C d_M_drop_53 rfl ?_
            refine rM_g47 C rfl vI d_M_drop_54 ?_
            refine r_iload_n C d_M_drop_57 rfl ?_
            refine r_iconst (v := 1) C d_M_drop_58 (by decide) ?_
            refine r_iadd C d_M_drop_59 ?_
            refine rM_iald C vI rfl (nI_1 t) (by show _ < 40; omega) (show _ = c 13 (t + 1) from shk_hi (by omega)) d_M_drop_60 ?_
            refine rM_iast C vI rfl rfl (by show _ < 40; omega) (drC_2 (by decide) (shk_s ht1)) d_M_drop_61 ?_
            refine r_aload_n C d_M_drop_62 rfl ?_
            refine rM_g53 C rfl vI d_M_drop_63 ?_
            refine r_iload_n C d_M_drop_66 rfl ?_
            refine r_aload_n C d_M_drop_67 rfl ?_
            refine rM_g53 C rfl vI d_M_drop_68 ?_
            refine r_iload_n C d_M_drop_71 rfl ?_
            refine r_iconst (v := 1) C d_M_drop_72 (by decide) ?_
            refine r_iadd C d_M_drop_73 ?_
            refine rM_iald C vI rfl (nI_1 t) (by show _ < 40; omega) (show _ = c 15 (t + 1) from shk_hi (by omega)) d_M_drop_74 ?_
            refine rM_iast C vI rfl rfl (by show _ < 40; omega) (drC_3 (by decide) (shk_s ht1)) d_M_drop_75 ?_
            refine r_iconst (v := 0) C d_M_drop_76 (by decide) ?_
            refine r_istore_n (L' := [(0, _), (1, _), (2, _), (3, _)]) C d_M_drop_77 (by decide) rfl ?_
            exact inner 31 0 (by omega) (by omega)
      have h10 := loop ne a (Nat.le_refl a) (by omega) (by omega) _ (rfl : lv_pick [(0, .ref (ad 0)), (1, .int (nI a)), (2, .int (nI a))] [0, 1, 2] = _)
      rw [shk_0, shk_0, shk_0, shk_0, drC_0] at h10
      exact h10
    · refine r_iconst (v := -1) C d_M_drop_12 (by decide) ?_
      exact R _ _ _ _ (g, c) d_M_drop_13 rfl vI (Or.inl ⟨fun h => h2 ((isIn_iff hb).mp h).2, rfl, rfl⟩)
end S15
end
section
-- the tree of cells, purely: each cell has a parent; a chain runs through the children of one parent from the youngest to the oldest
/-- the youngest child of ν below b, or -1 -/
def nlast (pr : Nat → Nat) (v : Nat) : Nat → Int32
  | 0 => -1
  | b + 1 => if pr b = v then nI b else nlast pr v b
theorem nlast_cases (pr : Nat → Nat) (v : Nat) : ∀ b, (nlast pr v b = -1 ∧ ∀ q, q < b → pr q ≠ v) ∨ (∃ q, q < b ∧ nlast pr v b = nI q ∧ pr q = v ∧ ∀ k, q < k → k < b → pr k ≠ v)
  | 0 => Or.inl ⟨rfl, fun q h => by omega⟩
  | b + 1 => by
    by_cases h : pr b = v
    · exact Or.inr ⟨b, by omega, by simp [nlast, h], h, fun k h1 h2 => by omega⟩
    · have e : nlast pr v (b + 1) = nlast pr v b := by simp [nlast, h]
      rw [e]
      rcases nlast_cases pr v b with ⟨h1, h2⟩ | ⟨q, h1, h2, h3, h4⟩
      · refine Or.inl ⟨h1, fun q hq => ?_⟩
        by_cases eq : q = b
        · subst eq; exact h
        · exact h2 q (by omega)
      · refine Or.inr ⟨q, by omega, h2, h3, fun k k1 k2 => ?_⟩
        by_cases eq : k = b
        · subst eq; exact h
        · exact h4 k k1 (by omega)
theorem nlast_cg {pr pr' : Nat → Nat} {v : Nat} : ∀ b, (∀ q, q < b → pr q = pr' q) → nlast pr v b = nlast pr' v b
  | 0, _ => rfl
  | b + 1, h => by
    have e := nlast_cg (v := v) b (fun q hq => h q (by omega))
    simp only [nlast, h b (by omega), e]
theorem nlast_none {pr : Nat → Nat} {v : Nat} : ∀ b, (∀ q, q < b → pr q ≠ v) → nlast pr v b = -1
  | 0, _ => rfl
  | b + 1, h => by
    simp only [nlast, h b (by omega), if_false]
    exact nlast_none b (fun q hq => h q (by omega))
/-- the first child of a node: node i < 4 is the root of language i, node 4 + q is cell q -/
def hdT (rt be : Nat → Int32) (v : Nat) : Int32 := if v < 4 then rt v else be (v - 4)
def vld (n nc v : Nat) : Prop := v < n ∨ (4 ≤ v ∧ v < 4 + nc)
/-- the tree holds: roots rt, letters le, below be, beside bs; parents pr -/
def Tri (n nc : Nat) (rt le be bs : Nat → Int32) (pr : Nat → Nat) : Prop :=
  (∀ q, q < nc → vld n q (pr q)) ∧ (∀ v, vld n nc v → hdT rt be v = nlast pr v nc) ∧ (∀ q, q < nc → bs q = nlast pr (pr q) q) ∧ (∀ q k, q < nc → k < nc → pr q = pr k → le q = le k → q = k)
/-- node v is reached from language i by the letters w 0 .. w (k - 1) -/
def nAt (nc : Nat) (pr : Nat → Nat) (le : Nat → Int32) (i : Nat) (w : Nat → Int32) : Nat → Nat → Prop
  | 0, v => v = i
  | k + 1, v => ∃ q, q < nc ∧ v = 4 + q ∧ le q = w k ∧ nAt nc pr le i w k (pr q)
theorem nAt_det {nc : Nat} {pr : Nat → Nat} {le : Nat → Int32} {i : Nat} {w : Nat → Int32} (hu : ∀ q k, q < nc → k < nc → pr q = pr k → le q = le k → q = k) : ∀ (k v v' : Nat), nAt nc pr le i w k v → nAt nc pr le i w k v' → v = v'
  | 0, v, v', h, h' => by rw [show v = i from h, show v' = i from h']
  | k + 1, v, v', ⟨q, h1, h2, h3, h4⟩, ⟨q', h1', h2', h3', h4'⟩ => by
    have e := nAt_det hu k _ _ h4 h4'
    rw [h2, h2', hu q q' h1 h1' e (h3.trans h3'.symm)]
theorem nAt_pre {nc : Nat} {pr : Nat → Nat} {le : Nat → Int32} {i : Nat} {w : Nat → Int32} : ∀ (m k v : Nat), k ≤ m → nAt nc pr le i w m v → ∃ v', nAt nc pr le i w k v'
  | 0, k, v, hk, h => by
    have : k = 0 := by omega
    subst this; exact ⟨v, h⟩
  | m + 1, k, v, hk, h => by
    by_cases e : k = m + 1
    · subst e; exact ⟨v, h⟩
    · obtain ⟨q, -, -, -, h4⟩ := h
      exact nAt_pre m k _ (by omega) h4
theorem nAt_vld {n nc : Nat} {pr : Nat → Nat} {le : Nat → Int32} {i : Nat} {w : Nat → Int32} (hi : i < n) : ∀ (k v : Nat), nAt nc pr le i w k v → vld n nc v
  | 0, v, h => by rw [show v = i from h]; exact Or.inl hi
  | k + 1, v, ⟨q, h1, h2, _, _⟩ => by rw [h2]; exact Or.inr (by omega)
theorem nAt_cg {nc : Nat} {pr : Nat → Nat} {le : Nat → Int32} {i : Nat} {w w' : Nat → Int32} : ∀ (k v : Nat), (∀ j, j < k → w j = w' j) → nAt nc pr le i w k v → nAt nc pr le i w' k v
  | 0, v, _, h => h
  | k + 1, v, hw, ⟨q, h1, h2, h3, h4⟩ => ⟨q, h1, h2, h3.trans (hw k (by omega)), nAt_cg k _ (fun j hj => hw j (by omega)) h4⟩
/-- a node's way is its own -/
theorem nAt_inj {n nc : Nat} {pr : Nat → Nat} {le : Nat → Int32} {i i' : Nat} {w w' : Nat → Int32} (hn : n ≤ 4) (hi : i < n) (hi' : i' < n) : ∀ (k k' v : Nat), nAt nc pr le i w k v → nAt nc pr le i' w' k' v → i = i' ∧ k = k' ∧ ∀ j, j < k → w j = w' j
  | 0, 0, v, h, h' => ⟨by rw [← (show v = i from h)]; exact h', rfl, fun j hj => by omega⟩
  | 0, k' + 1, v, h, ⟨q, _, h2, _, _⟩ => by have : v = i := h; omega
  | k + 1, 0, v, ⟨q, _, h2, _, _⟩, h' => by have : v = i' := h'; omega
  | k + 1, k' + 1, v, ⟨q, h1, h2, h3, h4⟩, ⟨q', h1', h2', h3', h4'⟩ => by
    have e : q = q' := by omega
    subst e
    obtain ⟨r1, r2, r3⟩ := nAt_inj hn hi hi' k k' _ h4 h4'
    subst r2
    refine ⟨r1, rfl, fun j hj => ?_⟩
    by_cases ej : j = k
    · subst ej; rw [← h3, ← h3']
    · exact r3 j (by omega)
/-- more cells: what was reached is reached still -/
theorem nAt_ext {nc nc' : Nat} {pr pr' : Nat → Nat} {le le' : Nat → Int32} {i : Nat} {w : Nat → Int32} (hc : nc ≤ nc') (hx : ∀ q, q < nc → pr' q = pr q ∧ le' q = le q) : ∀ (k v : Nat), nAt nc pr le i w k v → nAt nc' pr' le' i w k v
  | 0, v, h => h
  | k + 1, v, ⟨q, h1, h2, h3, h4⟩ => ⟨q, by omega, h2, by rw [(hx q h1).2]; exact h3, by rw [(hx q h1).1]; exact nAt_ext hc hx k _ h4⟩
/-- ... and an old cell is reached only as it was -/
theorem nAt_back {n nc nc' : Nat} {pr pr' : Nat → Nat} {le le' : Nat → Int32} {i : Nat} {w : Nat → Int32} (hc : nc ≤ nc') (hx : ∀ q, q < nc → pr' q = pr q ∧ le' q = le q) (hp : ∀ q, q < nc → vld n q (pr q)) (hn : n ≤ 4) : ∀ (k v : Nat), v < 4 + nc → nAt nc' pr' le' i w k v → nAt nc pr le i w k v
  | 0, v, _, h => h
  | k + 1, v, hv, ⟨q, h1, h2, h3, h4⟩ => by
    have hq : q < nc := by omega
    refine ⟨q, hq, h2, by rw [← (hx q hq).2]; exact h3, ?_⟩
    rw [(hx q hq).1] at h4
    refine nAt_back hc hx hp hn k _ ?_ h4
    rcases hp q hq with h | h <;> omega
/-- a new cell under v: parents, letters .. with it -/
theorem Tri_add {n nc : Nat} {rt le be bs rt' le' be' bs' : Nat → Int32} {pr : Nat → Nat} {v : Nat} {a : Int32} (hn : n ≤ 4) (h : Tri n nc rt le be bs pr) (hv : vld n nc v) (hno : ∀ q, q < nc → ¬ (pr q = v ∧ le q = a))
    (hle : le' = upd le nc a) (hbs : bs' = upd bs nc (hdT rt be v)) (hh : ∀ u, u ≠ v → vld n nc u → hdT rt' be' u = hdT rt be u) (hhv : hdT rt' be' v = nI nc) (hhn : be' nc = -1) : Tri n (nc + 1) rt' le' be' bs' (fun j => if j = nc then v else pr j) := by
  obtain ⟨t1, t2, t3, t4⟩ := h
  have hpr : ∀ q, q < nc → (fun j => if j = nc then v else pr j) q = pr q := fun q hq => by
    have : q ≠ nc := by omega
    simp [this]
  have hvn : v ≠ 4 + nc := by rcases hv with h | h <;> omega
  refine ⟨fun q hq => ?_, fun u hu => ?_, fun q hq => ?_, fun q k hq hk e1 e2 => ?_⟩
  · by_cases e : q = nc
    · subst e; simp only [if_true]; exact hv
    · rw [hpr q (by omega)]
      exact t1 q (by omega)
  · show _ = if (if nc = nc then v else pr nc) = u then nI nc else nlast (fun j => if j = nc then v else pr j) u nc
    simp only [if_true]
    rw [nlast_cg (pr' := pr) nc hpr]
    by_cases e : v = u
    · subst e; simp only [if_true]; exact hhv
    · simp only [e, if_false]
      by_cases e2 : u = 4 + nc
      · subst e2
        rw [nlast_none nc (fun q hq => by rcases t1 q hq with h | h <;> omega)]
        have : ¬ 4 + nc < 4 := by omega
        simp only [hdT, this, if_false]
        rw [show 4 + nc - 4 = nc by omega]; exact hhn
      · have hu' : vld n nc u := by rcases hu with h | h; exact Or.inl h; exact Or.inr (by omega)
        rw [hh u (Ne.symm e) hu']
        exact t2 u hu'
  · by_cases e : q = nc
    · subst e
      simp only [if_true]
      rw [hbs, pk_us, nlast_cg (pr' := pr) q hpr]
      exact t2 v hv
    · rw [hpr q (by omega), hbs, pk_un e, nlast_cg (pr' := pr) q (fun j hj => hpr j (by omega))]
      exact t3 q (by omega)
  · by_cases eq : q = nc
    · by_cases ek : k = nc
      · rw [eq, ek]
      · subst eq
        rw [hle, pk_us, pk_un ek] at e2
        rw [hpr k (by omega)] at e1
        simp only [if_true] at e1
        exact absurd ⟨e1.symm, e2.symm⟩ (hno k (by omega))
    · by_cases ek : k = nc
      · subst ek
        rw [hle, pk_us, pk_un eq] at e2
        rw [hpr q (by omega)] at e1
        simp only [if_true] at e1
        exact absurd ⟨e1, e2⟩ (hno q (by omega))
      · rw [hle, pk_un eq, pk_un ek] at e2
        rw [hpr q (by omega), hpr k (by omega)] at e1
        exact t4 q k (by omega) (by omega) e1 e2
end
section
-- under, endOf of X
/-- a node as the code names it below its language: -1 for the root, else the cell -/
def cl_ (v : Nat) : Int32 := if v < 4 then -1 else nI (v - 4)
/-- the child of v with letter a -/
def chl (nc : Nat) (pr : Nat → Nat) (le : Nat → Int32) (v : Nat) (a : Int32) (r : Int32) : Prop := (∃ q, q < nc ∧ r = nI q ∧ pr q = v ∧ le q = a) ∨ (r = -1 ∧ ∀ q, q < nc → ¬ (pr q = v ∧ le q = a))
theorem m1_neg : ¬ (0 : Int32) ≤ -1 := by decide
theorem m1_lt : (-1 : Int32) < 0 := by decide
section S17
variable {l : Launch} {E : eE} {A A' : Nat → Prop} {ad : Nat → Nat} {n : Nat} {g : Nat → Int32} {c lg : Nat → Nat → Int32} {lc : Nat → Nat → Nat → Int32}
set_option maxHeartbeats 4000000 in
theorem cX_under {i nc : Nat} {pr : Nat → Nat} (v : Nat) (a : Int32) (hi : i < n) (hn : n ≤ 4) (hc : nc ≤ 900) (hT : Tri n nc (fun j => lg j 3) (c 1) (c 2) (c 3) pr) (hv : v = i ∨ (4 ≤ v ∧ v < 4 + nc)) : mR l E mX_under [.ref (ad 0), .ref (ad (gO i)), .int (cl_ v), .int a] (pX E A' ad n g c lg lc) (chl nc pr (c 1) v a) := by
  obtain ⟨t1, t2, t3, t4⟩ := hT
  refine metR (by decide) rfl (Nat.le_of_ble_eq_true rfl) (catOK rfl) (fun Z P hZ C V R => ?_)
  have loop : ∀ (m b : Nat), b < m → b ≤ nc → (∀ q, b ≤ q → q < nc → ¬ (pr q = v ∧ c 1 q = a)) → Wg Z P 19 [(0, .ref (ad 0)), (1, .ref (ad (gO i))), (2, .int (cl_ v)), (3, .int a), (4, .int (nlast pr v b))] [] := by
    intro m
    induction m with
    | zero => intro b h1; omega
    | succ m ih =>
      intro b hb hbc hno
      refine r_iload C d_X_under_19 rfl ?_
      rcases nlast_cases pr v b with ⟨e, hq⟩ | ⟨q, hq, e, hp, hg⟩
      · rw [e]
        refine r_if_lt (tgt := 47) C d_X_under_21 (by decide) (fun h1 => ?_) (fun h1 => ?_)
        · refine r_iload C d_X_under_47 rfl ?_
          refine R _ _ _ d_X_under_49 rfl (Or.inr ⟨rfl, fun q' hq' h => ?_⟩)
          rcases Nat.lt_or_ge q' b with h3 | h3
          · exact hq q' h3 h.1
          · exact hno q' h3 hq' h
        · exact absurd m1_lt h1
      · rw [e]
        refine r_if_lt (tgt := 47) C d_X_under_21 (by decide) (fun h1 => ?_) (fun h1 => ?_)
        · exact absurd h1 (nI_pos (by omega))
        · refine r_aload_n C d_X_under_24 rfl ?_
          refine rX_g15 C rfl V d_X_under_25 ?_
          refine r_iload C d_X_under_28 rfl ?_
          refine rX_iald C V rfl rfl (by show _ < 900; omega) rfl d_X_under_30 ?_
          refine r_iload_n C d_X_under_31 rfl ?_
          refine r_icmp_eq (tgt := 47) C d_X_under_32 (by decide) (fun h2 => ?_) (fun h2 => ?_)
          · refine r_iload C d_X_under_47 rfl ?_
            exact R _ _ _ d_X_under_49 rfl (Or.inl ⟨q, by omega, rfl, hp, h2⟩)
          · refine r_aload_n C d_X_under_35 rfl ?_
            refine rX_g22 C rfl V d_X_under_36 ?_
            refine r_iload C d_X_under_39 rfl ?_
            refine rX_iald C V rfl rfl (by show _ < 900; omega) ((t3 q (by omega)).trans (by rw [hp])) d_X_under_41 ?_
            refine r_istore (L' := [(0, _), (1, _), (2, _), (3, _), (4, _)]) C d_X_under_42 (by decide) rfl ?_
            refine r_goto (tgt := 19) C d_X_under_44 (by decide) ?_
            refine ih q (by omega) (by omega) (fun k h3 h4 h5 => ?_)
            rcases Nat.lt_or_ge k b with h6 | h6
            · by_cases ek : k = q
              · subst ek; exact h2 h5.2
              · exact hg k (by omega) h6 h5.1
            · exact hno k h6 h4 h5
  show Wg Z _ 0 [(0, _), (1, _), (2, _), (3, _)] []
  have J17 : Wg Z P 17 [(0, .ref (ad 0)), (1, .ref (ad (gO i))), (2, .int (cl_ v)), (3, .int a)] [.int (nlast pr v nc)] := by
    refine r_istore (L' := [(0, _), (1, _), (2, _), (3, _), (4, _)]) C d_X_under_17 (by decide) rfl ?_
    exact loop (nc + 1) nc (by omega) (Nat.le_refl nc) (fun q h1 h2 => by omega)
  refine r_iload_n C d_X_under_0 rfl ?_
  refine r_if_ge (tgt := 11) C d_X_under_1 (by decide) (fun h1 => ?_) (fun h1 => ?_)
  · rcases hv with rfl | hv
    · rw [show cl_ v = -1 from if_pos (by omega)] at h1
      exact absurd h1 m1_neg
    · have e1 : cl_ v = nI (v - 4) := if_neg (by omega)
      have h2 := t2 v (Or.inr hv)
      rw [hdT, if_neg (by omega)] at h2
      refine r_aload_n C d_X_under_11 rfl ?_
      refine rX_g19 C rfl V d_X_under_12 ?_
      refine r_iload_n C d_X_under_15 rfl ?_
      refine rX_iald C V rfl e1 (by show _ < 900; omega) h2 d_X_under_16 ?_
      exact J17
  · rcases hv with rfl | hv
    · have h2 := t2 v (Or.inl hi)
      rw [hdT, if_pos (by omega)] at h2
      refine r_aload_n C d_X_under_4 rfl ?_
      refine rG_g97 C rfl V hi d_X_under_5 ?_
      refine r_tope (nlast pr v nc) h2 ?_
      refine r_goto (tgt := 17) C d_X_under_8 (by decide) ?_
      exact J17
    · rw [show cl_ v = nI (v - 4) from if_neg (by omega)] at h1
      exact absurd (nI_pos' (by omega)) h1
set_option maxHeartbeats 4000000 in
theorem cX_endOf {i nc rl : Nat} {pr : Nat → Nat} (hi : i < n) (hn : n ≤ 4) (hc : nc ≤ 900) (hT : Tri n nc (fun j => lg j 3) (c 1) (c 2) (c 3) pr) (hg : g 4 = nI rl) (hl : rl ≤ 12) (h0 : 0 < rl) : mR l E mX_endOf [.ref (ad 0), .ref (ad (gO i))] (pX E A' ad n g c lg lc) (fun r => (∃ q, q < nc ∧ r = nI q ∧ nAt nc pr (c 1) i (c 6) rl (4 + q)) ∨ (r = -1 ∧ ∀ v, ¬ nAt nc pr (c 1) i (c 6) rl v)) := by
  have hT' := hT
  obtain ⟨t1, t2, t3, t4⟩ := hT
  refine metR (by decide) rfl (Nat.le_of_ble_eq_true rfl) (catOK rfl) (fun Z P hZ C V R => ?_)
  have loop : ∀ (m k v : Nat), k ≤ rl → rl < k + m → nAt nc pr (c 1) i (c 6) k v → Wg Z P 4 [(0, .ref (ad 0)), (1, .ref (ad (gO i))), (2, .int (cl_ v)), (3, .int (nI k))] [] := by
    intro m
    induction m with
    | zero => intro k v h1 h2; omega
    | succ m ih =>
      intro k v hk hm hA
      refine r_iload_n C d_X_endOf_4 rfl ?_
      refine r_aload_n C d_X_endOf_5 rfl ?_
      refine rX_g94 C rfl V d_X_endOf_6 ?_
      rw [hg]
      refine r_icmp_ge (tgt := 37) C d_X_endOf_9 (by decide) (fun h1 => ?_) (fun h1 => ?_)
      · have hkr : k = rl := nI_ge_eq (by omega) hk h1
        subst hkr
        refine r_iload_n C d_X_endOf_37 rfl ?_
        cases k with
        | zero => omega
        | succ k =>
          obtain ⟨q, q1, q2, q3, q4⟩ := hA
          have e : cl_ v = nI q := by rw [q2]; exact (if_neg (by omega)).trans (by rw [show 4 + q - 4 = q by omega])
          exact R _ _ _ d_X_endOf_38 rfl (Or.inl ⟨q, q1, e, q, q1, rfl, q3, q4⟩)
      · have hkr : k < rl := nI_lt_of (by omega) h1
        have hvv : v = i ∨ (4 ≤ v ∧ v < 4 + nc) := by
          cases k with
          | zero => exact Or.inl hA
          | succ k => obtain ⟨q, q1, q2, q3, q4⟩ := hA; exact Or.inr (by omega)
        refine r_aload_n C d_X_endOf_12 rfl ?_
        refine r_aload_n C d_X_endOf_13 rfl ?_
        refine r_iload_n C d_X_endOf_14 rfl ?_
        refine r_aload_n C d_X_endOf_15 rfl ?_
        refine rX_g32 C rfl V d_X_endOf_16 ?_
        refine r_iload_n C d_X_endOf_19 rfl ?_
        refine rX_iald C V rfl rfl (by show _ < 12; omega) rfl d_X_endOf_20 ?_
        refine r_callR C (cX_under v (c 6 k) hi hn hc hT' hvv) cV_100_X ⟨by decide, by decide⟩ ⟨rfl, rfl⟩ V (fun s H => pX_recv) rfl rfl (Nat.le_of_ble_eq_true rfl) d_X_endOf_21 (fun r hr => ?_)
        refine r_istore_n (L' := [(0, _), (1, _), (2, _), (3, _)]) C d_X_endOf_24 (by decide) rfl ?_
        refine r_iload_n C d_X_endOf_25 rfl ?_
        refine r_if_ge (tgt := 31) C d_X_endOf_26 (by decide) (fun h2 => ?_) (fun h2 => ?_)
        · rcases hr with ⟨q, q1, q2, q3, q4⟩ | ⟨q1, -⟩
          · refine r_iinc (L' := [(0, _), (1, _), (2, _), (3, _)]) C d_X_endOf_31 rfl (nI_inc _) (by decide) rfl ?_
            refine r_goto (tgt := 4) C d_X_endOf_34 (by decide) ?_
            have e : r = cl_ (4 + q) := by rw [q2]; exact ((if_neg (by omega)).trans (by rw [show 4 + q - 4 = q by omega])).symm
            rw [e]
            exact ih (k + 1) (4 + q) (by omega) (by omega) ⟨q, q1, rfl, q4, by rw [q3]; exact hA⟩
          · rw [q1] at h2; exact absurd h2 m1_neg
        · rcases hr with ⟨q, q1, q2, q3, q4⟩ | ⟨q1, q2⟩
          · rw [q2] at h2; exact absurd (nI_pos' (by omega)) h2
          · refine r_iconst (v := -1) C d_X_endOf_29 (by decide) ?_
            refine R _ _ _ d_X_endOf_30 rfl (Or.inr ⟨rfl, fun v' hv' => ?_⟩)
            obtain ⟨v2, q, q3, q4, q5, q6⟩ := nAt_pre rl (k + 1) v' (by omega) hv'
            exact q2 q q3 ⟨nAt_det t4 k _ _ q6 hA, q5⟩
  show Wg Z _ 0 [(0, _), (1, _)] []
  refine r_iconst (v := -1) C d_X_endOf_0 (by decide) ?_
  refine r_istore_n (L' := [(0, _), (1, _), (2, _)]) C d_X_endOf_1 (by decide) rfl ?_
  refine r_iconst (v := 0) C d_X_endOf_2 (by decide) ?_
  refine r_istore_n (L' := [(0, _), (1, _), (2, _), (3, _)]) C d_X_endOf_3 (by decide) rfl ?_
  have h1 := loop (rl + 1) 0 i (by omega) (by omega) rfl
  rw [show cl_ i = -1 from if_pos (by omega)] at h1
  exact h1
end S17
end
section
-- made, grow of X
def mdC (c : Nat → Nat → Int32) (le be bs po : Nat → Int32) : Nat → Nat → Int32 := setA (setA (setA (setA c 1 le) 2 be) 3 bs) 4 po
theorem c_ext4 {c1 c2 : Nat → Nat → Int32} (h1 : c1 1 = c2 1) (h2 : c1 2 = c2 2) (h3 : c1 3 = c2 3) (h4 : c1 4 = c2 4) (ho : ∀ a, a ≠ 1 → a ≠ 2 → a ≠ 3 → a ≠ 4 → c1 a = c2 a) : c1 = c2 := by
  funext a
  by_cases a1 : a = 1
  · rw [a1]; exact h1
  by_cases a2 : a = 2
  · rw [a2]; exact h2
  by_cases a3 : a = 3
  · rw [a3]; exact h3
  by_cases a4 : a = 4
  · rw [a4]; exact h4
  exact ho a a1 a2 a3 a4
theorem mdC_self {c : Nat → Nat → Int32} : mdC c (c 1) (c 2) (c 3) (c 4) = c := c_ext4 rfl rfl rfl rfl (fun a h1 h2 h3 h4 => by simp [mdC, setA, h1, h2, h3, h4])
theorem mdC_o {c : Nat → Nat → Int32} {le be bs po : Nat → Int32} {a : Nat} (h1 : a ≠ 1) (h2 : a ≠ 2) (h3 : a ≠ 3) (h4 : a ≠ 4) : mdC c le be bs po a = c a := by simp [mdC, setA, h1, h2, h3, h4]
theorem upd_upd {f : Nat → Int32} {k : Nat} {v w : Int32} : upd (upd f k v) k w = upd f k w := by
  funext j
  by_cases h : j = k <;> simp [upd, h]
abbrev trS : Type := (Nat → Int32) × (Nat → Int32) × (Nat → Int32) × (Nat → Int32) × (Nat → Nat → Int32)
/-- X with nc cells: letters, below, beside, patterns; languages -/
def tX (E : eE) (A : Nat → Prop) (ad : Nat → Nat) (n : Nat) (g : Nat → Int32) (c : Nat → Nat → Int32) (lc : Nat → Nat → Nat → Int32) (nc : Nat) (u : trS) : Heap → Prop := pX E A ad n (upd g 1 (nI nc)) (mdC c u.1 u.2.1 u.2.2.1 u.2.2.2.1) u.2.2.2.2 lc
theorem cl_q (q : Nat) : cl_ (4 + q) = nI q := (if_neg (by omega)).trans (by rw [show 4 + q - 4 = q by omega])
theorem cl_r {i : Nat} (h : i < 4) : cl_ i = -1 := if_pos h
section S18
variable {l : Launch} {E : eE} {A A' : Nat → Prop} {ad : Nat → Nat} {n : Nat} {g : Nat → Int32} {c lg : Nat → Nat → Int32} {lc : Nat → Nat → Nat → Int32}
set_option maxHeartbeats 4000000 in
theorem cX_made {i nc : Nat} {pr : Nat → Nat} {le be bs po : Nat → Int32} (v : Nat) (a : Int32) (hi : i < n) (hn : n ≤ 4) (hc : nc < 900) (hT : Tri n nc (fun j => lg j 3) le be bs pr) (hv : v = i ∨ (4 ≤ v ∧ v < 4 + nc)) (hno : ∀ q, q < nc → ¬ (pr q = v ∧ le q = a)) : mW l E mX_made A [.ref (ad 0), .ref (ad (gO i)), .int (cl_ v), .int a] (tX E A ad n g c lc nc (le, be, bs, po, lg)) (fun r (u : trS) => r = nI nc ∧ u.1 = upd le nc a ∧ u.2.2.2.1 = upd po nc (-1) ∧ (∀ j f, f ≠ 3 → u.2.2.2.2 j f = lg j f) ∧ Tri n (nc + 1) (fun j => u.2.2.2.2 j 3) u.1 u.2.1 u.2.2.1 (fun j => if j = nc then v else pr j)) (fun u => tX E A ad n g c lc (nc + 1) u) := by
  have hvv : vld n nc v := by
    rcases hv with rfl | h
    · exact Or.inl hi
    · exact Or.inr h
  refine metW (by decide) rfl (Nat.le_of_ble_eq_true rfl) (catOK rfl) (fun Z hZ C R => ?_)
  show Wg Z (pX E A ad n (upd g 1 (nI nc)) (mdC c le be bs po) lg lc) 0 [(0, _), (1, _), (2, _), (3, _)] []
  refine r_aload_n C d_X_made_0 rfl ?_
  refine rX_g107 C rfl vI d_X_made_1 ?_
  refine r_tope (nI nc) rfl ?_
  refine r_istore (L' := [(0, _), (1, _), (2, _), (3, _), (4, _)]) C d_X_made_4 (by decide) rfl ?_
  refine r_aload_n C d_X_made_6 rfl ?_
  refine r_dup C d_X_made_7 rfl ?_
  refine rX_g107 C rfl vI d_X_made_8 ?_
  refine r_iconst (v := 1) C d_X_made_11 (by decide) ?_
  refine r_iadd C d_X_made_12 ?_
  refine r_tope (nI (nc + 1)) (nI_1 nc) ?_
  refine rX_p107 C rfl vI d_X_made_13 ?_
  refine r_aload_n C d_X_made_16 rfl ?_
  refine rX_g15 C rfl vI d_X_made_17 ?_
  refine r_iload C d_X_made_20 rfl ?_
  refine r_iload_n C d_X_made_22 rfl ?_
  refine rX_iast C vI rfl rfl (by show _ < 900; omega) rfl d_X_made_23 ?_
  refine r_aload_n C d_X_made_24 rfl ?_
  refine rX_g19 C rfl vI d_X_made_25 ?_
  refine r_iload C d_X_made_28 rfl ?_
  refine r_iconst (v := -1) C d_X_made_30 (by decide) ?_
  refine rX_iast C vI rfl rfl (by show _ < 900; omega) rfl d_X_made_31 ?_
  refine r_aload_n C d_X_made_32 rfl ?_
  refine rX_g25 C rfl vI d_X_made_33 ?_
  refine r_iload C d_X_made_36 rfl ?_
  refine r_iconst (v := -1) C d_X_made_38 (by decide) ?_
  refine rX_iast C vI rfl rfl (by show _ < 900; omega) rfl d_X_made_39 ?_
  refine r_aload_n C d_X_made_40 rfl ?_
  refine rX_g22 C rfl vI d_X_made_41 ?_
  refine r_iload C d_X_made_44 rfl ?_
  have J63 : ∀ h : Int32, h = hdT (fun j => lg j 3) be v → Wg Z (pX E A ad n (upd (upd g 1 (nI nc)) 1 (nI (nc + 1))) (setA (setA (setA (mdC c le be bs po) 1 (upd le nc a)) 2 (upd be nc (-1))) 4 (upd po nc (-1))) lg lc) 63 [(0, .ref (ad 0)), (1, .ref (ad (gO i))), (2, .int (cl_ v)), (3, .int a), (4, .int (nI nc))] [.int h, .int (nI nc), .ref (ad 3)] := by
    intro h hh
    refine rX_iast C vI rfl rfl (by show _ < 900; omega) rfl d_X_made_63 ?_
    refine r_iload_n C d_X_made_64 rfl ?_
    refine r_if_ge (tgt := 77) C d_X_made_65 (by decide) (fun h1 => ?_) (fun h1 => ?_)
    · rcases hv with rfl | hv
      · rw [cl_r (by omega)] at h1; exact absurd h1 m1_neg
      · have e1 : cl_ v = nI (v - 4) := if_neg (by omega)
        refine r_aload_n C d_X_made_77 rfl ?_
        refine rX_g19 C rfl vI d_X_made_78 ?_
        refine r_iload_n C d_X_made_81 rfl ?_
        refine r_iload C d_X_made_82 rfl ?_
        refine rX_iast C vI rfl e1 (by show _ < 900; omega) rfl d_X_made_84 ?_
        refine r_iload C d_X_made_85 rfl ?_
        refine R _ _ _ _ (upd le nc a, upd (upd be nc (-1)) (v - 4) (nI nc), upd bs nc h, upd po nc (-1), lg) d_X_made_87 rfl ?_ ⟨rfl, rfl, rfl, fun _ _ _ => rfl, ?_⟩
        · intro H hH
          have e2 : mdC c (upd le nc a) (upd (upd be nc (-1)) (v - 4) (nI nc)) (upd bs nc h) (upd po nc (-1)) = setA (setA (setA (setA (setA (mdC c le be bs po) 1 (upd le nc a)) 2 (upd be nc (-1))) 4 (upd po nc (-1))) 3 (upd bs nc h)) 2 (upd (upd be nc (-1)) (v - 4) (nI nc)) := c_ext4 rfl rfl rfl rfl (fun a h1 h2 h3 h4 => by rw [mdC_o h1 h2 h3 h4, setA_n h2, setA_n h3, setA_n h4, setA_n h2, setA_n h1, mdC_o h1 h2 h3 h4])
          show pX E A ad n (upd g 1 (nI (nc + 1))) (mdC c (upd le nc a) (upd (upd be nc (-1)) (v - 4) (nI nc)) (upd bs nc h) (upd po nc (-1))) lg lc H
          rw [e2, ← upd_upd (f := g) (k := 1) (v := nI nc)]
          exact hH
        · show Tri n (nc + 1) (fun j => lg j 3) (upd le nc a) (upd (upd be nc (-1)) (v - 4) (nI nc)) (upd bs nc h) _
          refine Tri_add (a := a) hn hT hvv hno rfl (by rw [hh]) (fun u h2 h3 => ?_) ?_ ?_
          · unfold hdT
            by_cases hu : u < 4
            · rw [if_pos hu, if_pos hu]
            · have h5 : u - 4 ≠ v - 4 := by omega
              have h6 : u - 4 ≠ nc := by rcases h3 with h3 | h3 <;> omega
              rw [if_neg hu, if_neg hu, pk_un h5, pk_un h6]
          · unfold hdT
            rw [if_neg (by omega), pk_us]
          · have h5 : nc ≠ v - 4 := by omega
            rw [pk_un h5, pk_us]
    · rcases hv with rfl | hv
      · refine r_aload_n C d_X_made_68 rfl ?_
        refine r_iload C d_X_made_69 rfl ?_
        refine rG_p97 C rfl vI hi d_X_made_71 ?_
        refine r_goto (tgt := 85) C d_X_made_74 (by decide) ?_
        refine r_iload C d_X_made_85 rfl ?_
        refine R _ _ _ _ (upd le nc a, upd be nc (-1), upd bs nc h, upd po nc (-1), setA lg v (upd (lg v) 3 (nI nc))) d_X_made_87 rfl ?_ ⟨rfl, rfl, rfl, fun j f hf => ?_, ?_⟩
        · intro H hH
          have e2 : mdC c (upd le nc a) (upd be nc (-1)) (upd bs nc h) (upd po nc (-1)) = setA (setA (setA (setA (mdC c le be bs po) 1 (upd le nc a)) 2 (upd be nc (-1))) 4 (upd po nc (-1))) 3 (upd bs nc h) := c_ext4 rfl rfl rfl rfl (fun a h1 h2 h3 h4 => by rw [mdC_o h1 h2 h3 h4, setA_n h3, setA_n h4, setA_n h2, setA_n h1, mdC_o h1 h2 h3 h4])
          show pX E A ad n (upd g 1 (nI (nc + 1))) (mdC c (upd le nc a) (upd be nc (-1)) (upd bs nc h) (upd po nc (-1))) (setA lg v (upd (lg v) 3 (nI nc))) lc H
          rw [e2, ← upd_upd (f := g) (k := 1) (v := nI nc)]
          exact hH
        · show setA lg v (upd (lg v) 3 (nI nc)) j f = lg j f
          by_cases hj : j = v
          · subst hj; rw [setA_s, pk_un hf]
          · rw [setA_n hj]
        · show Tri n (nc + 1) (fun j => setA lg v (upd (lg v) 3 (nI nc)) j 3) (upd le nc a) (upd be nc (-1)) (upd bs nc h) _
          refine Tri_add (a := a) hn hT hvv hno rfl (by rw [hh]) (fun u h2 h3 => ?_) ?_ ?_
          · unfold hdT
            by_cases hu : u < 4
            · rw [if_pos hu, if_pos hu]; dsimp only; rw [setA_n h2]
            · have h6 : u - 4 ≠ nc := by rcases h3 with h3 | h3 <;> omega
              rw [if_neg hu, if_neg hu, pk_un h6]
          · unfold hdT
            rw [if_pos (by omega)]; dsimp only; rw [setA_s, pk_us]
          · exact pk_us
      · rw [show cl_ v = nI (v - 4) from if_neg (by omega)] at h1
        exact absurd (nI_pos' (by omega)) h1
  refine r_iload_n C d_X_made_46 rfl ?_
  refine r_if_ge (tgt := 57) C d_X_made_47 (by decide) (fun h1 => ?_) (fun h1 => ?_)
  · rcases hv with rfl | hv
    · rw [cl_r (by omega)] at h1; exact absurd h1 m1_neg
    · have e1 : cl_ v = nI (v - 4) := if_neg (by omega)
      have h5 : v - 4 ≠ nc := by omega
      refine r_aload_n C d_X_made_57 rfl ?_
      refine rX_g19 C rfl vI d_X_made_58 ?_
      refine r_iload_n C d_X_made_61 rfl ?_
      refine rX_iald C vI rfl e1 (by show _ < 900; omega) (show _ = be (v - 4) from pk_un h5) d_X_made_62 ?_
      exact J63 _ (by unfold hdT; rw [if_neg (by omega)])
  · rcases hv with rfl | hv
    · refine r_aload_n C d_X_made_50 rfl ?_
      refine rG_g97 C rfl vI hi d_X_made_51 ?_
      refine r_goto (tgt := 63) C d_X_made_54 (by decide) ?_
      exact J63 _ (by unfold hdT; rw [if_pos (by omega)])
    · rw [show cl_ v = nI (v - 4) from if_neg (by omega)] at h1
      exact absurd (nI_pos' (by omega)) h1
/-- the tree has grown: old cells as they were, new ones without a pattern -/
def Ext (nc : Nat) (pr : Nat → Nat) (le po : Nat → Int32) (nc' : Nat) (pr' : Nat → Nat) (le' po' : Nat → Int32) : Prop := nc ≤ nc' ∧ (∀ q, q < nc → pr' q = pr q ∧ le' q = le q ∧ po' q = po q) ∧ ∀ q, nc ≤ q → q < nc' → po' q = -1
set_option maxHeartbeats 4000000 in
theorem cX_grow {i nc rl : Nat} {pr : Nat → Nat} {le be bs po : Nat → Int32} (hi : i < n) (hn : n ≤ 4) (hc : nc + rl ≤ 900) (hT : Tri n nc (fun j => lg j 3) le be bs pr) (hg : g 4 = nI rl) (hl : rl ≤ 12) (h0 : 0 < rl) : mW l E mX_grow A [.ref (ad 0), .ref (ad (gO i))] (tX E A ad n g c lc nc (le, be, bs, po, lg)) (fun r (u : Nat × (Nat → Nat) × trS) => ∃ q, r = nI q ∧ q < u.1 ∧ u.1 ≤ nc + rl ∧ Tri n u.1 (fun j => u.2.2.2.2.2.2 j 3) u.2.2.1 u.2.2.2.1 u.2.2.2.2.1 u.2.1 ∧ Ext nc pr le po u.1 u.2.1 u.2.2.1 u.2.2.2.2.2.1 ∧ (∀ j f, f ≠ 3 → u.2.2.2.2.2.2 j f = lg j f) ∧ nAt u.1 u.2.1 u.2.2.1 i (c 6) rl (4 + q)) (fun u => tX E A ad n g c lc u.1 u.2.2) := by
  refine metW (by decide) rfl (Nat.le_of_ble_eq_true rfl) (catOK rfl) (fun Z hZ C R => ?_)
  have loop : ∀ (m k v nc' : Nat) (pr' : Nat → Nat) (le' be' bs' po' : Nat → Int32) (lg' : Nat → Nat → Int32), k ≤ rl → rl < k + m → nc' ≤ nc + k → Tri n nc' (fun j => lg' j 3) le' be' bs' pr' → Ext nc pr le po nc' pr' le' po' → (∀ j f, f ≠ 3 → lg' j f = lg j f) → nAt nc' pr' le' i (c 6) k v → ∀ (L : List (Nat × Value)), lv_pick L [0, 1, 2, 3] = [(0, .ref (ad 0)), (1, .ref (ad (gO i))), (2, .int (cl_ v)), (3, .int (nI k))] → Wg Z (tX E A ad n g c lc nc' (le', be', bs', po', lg')) 4 L [] := by
    intro m
    induction m with
    | zero => intro k v nc' pr' le' be' bs' po' lg' h1 h2; omega
    | succ m ih =>
      intro k v nc' pr' le' be' bs' po' lg' hk hm hnc hT' hE hlg hA L hL
      refine Wg.pick [0, 1, 2, 3] hL ?_
      show Wg Z (pX E A ad n (upd g 1 (nI nc')) (mdC c le' be' bs' po') lg' lc) 4 _ []
      refine r_iload_n C d_X_grow_4 rfl ?_
      refine r_aload_n C d_X_grow_5 rfl ?_
      refine rX_g94 C rfl vI d_X_grow_6 ?_
      refine r_tope (nI rl) hg ?_
      refine r_icmp_ge (tgt := 55) C d_X_grow_9 (by decide) (fun h1 => ?_) (fun h1 => ?_)
      · have hkr : k = rl := nI_ge_eq (by omega) hk h1
        subst hkr
        refine r_iload_n C d_X_grow_55 rfl ?_
        cases k with
        | zero => omega
        | succ k =>
          obtain ⟨q, q1, q2, q3, q4⟩ := hA
          subst q2
          rw [cl_q]
          exact R _ _ _ _ (nc', pr', le', be', bs', po', lg') d_X_grow_56 rfl vI ⟨q, rfl, q1, hnc, hT', hE, hlg, q, q1, rfl, q3, q4⟩
      · have hkr : k < rl := nI_lt_of (by omega) h1
        have hvv : v = i ∨ (4 ≤ v ∧ v < 4 + nc') := by
          cases k with
          | zero => exact Or.inl hA
          | succ k => obtain ⟨q, q1, q2, q3, q4⟩ := hA; exact Or.inr (by omega)
        refine r_aload_n C d_X_grow_12 rfl ?_
        refine r_aload_n C d_X_grow_13 rfl ?_
        refine r_iload_n C d_X_grow_14 rfl ?_
        refine r_aload_n C d_X_grow_15 rfl ?_
        refine rX_g32 C rfl vI d_X_grow_16 ?_
        refine r_iload_n C d_X_grow_19 rfl ?_
        refine rX_iald C vI rfl rfl (by show _ < 12; omega) rfl d_X_grow_20 ?_
        refine r_callR C (cX_under (c := mdC c le' be' bs' po') v (c 6 k) hi hn (show nc' ≤ 900 by omega) hT' hvv) cV_100_X ⟨by decide, by decide⟩ ⟨rfl, rfl⟩ vI (fun s H => pX_recv) rfl rfl (Nat.le_of_ble_eq_true rfl) d_X_grow_21 (fun r hr => ?_)
        refine r_istore (L' := [(0, _), (1, _), (2, _), (3, _), (4, _)]) C d_X_grow_24 (by decide) rfl ?_
        refine r_iload C d_X_grow_26 rfl ?_
        refine r_if_lt (tgt := 36) C d_X_grow_28 (by decide) (fun h2 => ?_) (fun h2 => ?_)
        · rcases hr with ⟨q, q1, q2, q3, q4⟩ | ⟨q1, q2⟩
          · rw [q2] at h2; exact absurd h2 (nI_pos (by omega))
          · refine r_aload_n C d_X_grow_36 rfl ?_
            refine r_aload_n C d_X_grow_37 rfl ?_
            refine r_iload_n C d_X_grow_38 rfl ?_
            refine r_aload_n C d_X_grow_39 rfl ?_
            refine rX_g32 C rfl vI d_X_grow_40 ?_
            refine r_iload_n C d_X_grow_43 rfl ?_
            refine rX_iald C vI rfl rfl (by show _ < 12; omega) rfl d_X_grow_44 ?_
            refine r_callW C (cX_made (g := g) (c := c) (po := po') v (c 6 k) hi hn (show nc' < 900 by omega) hT' hvv q2) cV_104_X ⟨by decide, by decide⟩ ⟨rfl, rfl⟩ vI (fun s H => pX_recv) rfl rfl (Nat.le_of_ble_eq_true rfl) d_X_grow_45 (fun r2 u hu => ?_)
            obtain ⟨e1, e2, e3, e4, e5⟩ := hu
            obtain ⟨le2, be2, bs2, po2, lg2⟩ := u
            dsimp only at e2 e3 e4 e5
            have hx : ∀ q, q < nc' → (fun j => if j = nc' then v else pr' j) q = pr' q ∧ le2 q = le' q ∧ po2 q = po' q := fun q hq => by
              have : q ≠ nc' := by omega
              refine ⟨by simp [this], by rw [e2, pk_un this], by rw [e3, pk_un this]⟩
            show Wg Z (tX E A ad n g c lc (nc' + 1) (le2, be2, bs2, po2, lg2)) _ _ _
            refine r_istore_n (L' := [(0, _), (1, _), (2, _), (3, _), (4, _)]) C d_X_grow_48 (by decide) rfl ?_
            refine r_iinc (L' := [(0, _), (1, _), (2, _), (3, _), (4, _)]) C d_X_grow_49 rfl (nI_inc _) (by decide) rfl ?_
            refine r_goto (tgt := 4) C d_X_grow_52 (by decide) ?_
            rw [e1, show nI nc' = cl_ (4 + nc') from (cl_q nc').symm]
            refine ih (k + 1) (4 + nc') (nc' + 1) _ le2 be2 bs2 po2 lg2 (by omega) (by omega) (by omega) e5 ⟨by have := hE.1; omega, fun q hq => ?_, fun q h3 h4 => ?_⟩ (fun j f hf => (e4 j f hf).trans (hlg j f hf)) ⟨nc', by omega, rfl, by rw [e2, pk_us], ?_⟩ _ rfl
            · obtain ⟨x1, x2, x3⟩ := hx q (by have := hE.1; omega)
              obtain ⟨y1, y2, y3⟩ := hE.2.1 q hq
              exact ⟨x1.trans y1, x2.trans y2, x3.trans y3⟩
            · by_cases e : q = nc'
              · rw [e, e3, pk_us]
              · rw [(hx q (by omega)).2.2]; exact hE.2.2 q h3 (by omega)
            · simp only [if_true]
              exact nAt_ext (by omega) (fun q hq => ⟨(hx q hq).1, (hx q hq).2.1⟩) k v hA
        · rcases hr with ⟨q, q1, q2, q3, q4⟩ | ⟨q1, -⟩
          · refine r_iload C d_X_grow_31 rfl ?_
            refine r_goto (tgt := 48) C d_X_grow_33 (by decide) ?_
            refine r_istore_n (L' := [(0, _), (1, _), (2, _), (3, _), (4, _)]) C d_X_grow_48 (by decide) rfl ?_
            refine r_iinc (L' := [(0, _), (1, _), (2, _), (3, _), (4, _)]) C d_X_grow_49 rfl (nI_inc _) (by decide) rfl ?_
            refine r_goto (tgt := 4) C d_X_grow_52 (by decide) ?_
            rw [q2, show nI q = cl_ (4 + q) from (cl_q q).symm]
            exact ih (k + 1) (4 + q) nc' pr' le' be' bs' po' lg' (by omega) (by omega) (by omega) hT' hE hlg ⟨q, q1, rfl, q4, by rw [q3]; exact hA⟩ _ rfl
          · rw [q1] at h2; exact absurd m1_lt h2
  show Wg Z _ 0 [(0, _), (1, _)] []
  refine r_iconst (v := -1) C d_X_grow_0 (by decide) ?_
  refine r_istore_n (L' := [(0, _), (1, _), (2, _)]) C d_X_grow_1 (by decide) rfl ?_
  refine r_iconst (v := 0) C d_X_grow_2 (by decide) ?_
  refine r_istore_n (L' := [(0, _), (1, _), (2, _), (3, _)]) C d_X_grow_3 (by decide) rfl ?_
  have h1 := loop (rl + 1) 0 i nc pr le be bs po lg (by omega) (by omega) (by omega) hT ⟨Nat.le_refl nc, fun q hq => ⟨rfl, rfl, rfl⟩, fun q h1 h2 => by omega⟩ (fun _ _ _ => rfl) rfl [(0, .ref (ad 0)), (1, .ref (ad (gO i))), (2, .int (cl_ i)), (3, .int (nI 0))] rfl
  rw [cl_r (by omega)] at h1
  exact h1
end S18
end
section
-- put, pattern of X
abbrev gclS : Type := gcS × (Nat → Nat → Int32)
/-- the digits with those of pattern p -/
def dgs (dg : Nat → Int32) (p rl : Nat) (bf : Nat → Int32) (y : Int32) : Nat → Int32 := blit dg (13 * p) (rl + 1) (upd bf rl y)
/-- what 'put' does -/
def puP (n nc np us rl i : Nat) (pr : Nat → Nat) (g : Nat → Int32) (c lg : Nat → Nat → Int32) (y : Int32) (r : Int32) (u : gclS) : Prop :=
  (∃ q p, q < nc ∧ p < np ∧ nAt nc pr (c 1) i (c 6) rl (4 + q) ∧ c 4 q = nI p ∧ r = nI p ∧ u = ((g, setA c 5 (dgs (c 5) p rl (c 7) y)), lg)) ∨
  ((∀ q, q < nc → nAt nc pr (c 1) i (c 6) rl (4 + q) → c 4 q = -1) ∧ (((np = 150 ∨ 900 < us + rl) ∧ r = -2 ∧ u = ((g, c), lg)) ∨
    (np < 150 ∧ us + rl ≤ 900 ∧ r = nI np ∧ ∃ (nc' : Nat) (pr' : Nat → Nat) (le be bs po : Nat → Int32) (lg' : Nat → Nat → Int32) (q : Nat), nc' ≤ nc + rl ∧ Tri n nc' (fun j => lg' j 3) le be bs pr' ∧ Ext nc pr (c 1) (c 4) nc' pr' le po ∧ q < nc' ∧ nAt nc' pr' le i (c 6) rl (4 + q) ∧ (∀ j f, f ≠ 3 → lg' j f = lg j f) ∧ u = ((upd (upd (upd g 1 (nI nc')) 2 (nI (np + 1))) 3 (nI (us + rl)), setA (mdC c le be bs (upd po q (nI np))) 5 (dgs (c 5) np rl (c 7) y)), lg'))))
section S19
variable {l : Launch} {E : eE} {A A' : Nat → Prop} {ad : Nat → Nat} {n : Nat} {g : Nat → Int32} {c lg : Nat → Nat → Int32} {lc : Nat → Nat → Nat → Int32}
set_option maxHeartbeats 4000000 in
theorem cX_put {i nc np us rl : Nat} {pr : Nat → Nat} (y : Int32) (hi : i < n) (hn : n ≤ 4) (hg1 : g 1 = nI nc) (hg2 : g 2 = nI np) (hg3 : g 3 = nI us) (hg4 : g 4 = nI rl) (hcu : nc ≤ us) (hus : us ≤ 900) (hnp : np ≤ 150) (hl : rl ≤ 12) (h0 : 0 < rl) (hT : Tri n nc (fun j => lg j 3) (c 1) (c 2) (c 3) pr) (hpo : ∀ q, q < nc → c 4 q = -1 ∨ ∃ p, p < np ∧ c 4 q = nI p) (hbf : ∀ k, k < rl → isIn 10 (c 7 k)) (hy : isIn 10 y) : mW l E mX_put A [.ref (ad 0), .ref (ad (gO i)), .int y] (pX E A ad n g c lg lc) (puP n nc np us rl i pr g c lg y) (fun u => pX E A ad n u.1.1 u.1.2 u.2 lc) := by
  refine metW (by decide) rfl (Nat.le_of_ble_eq_true rfl) (catOK rfl) (fun Z hZ C R => ?_)
  have J98 : ∀ (g1 : Nat → Int32) (c1 lg1 : Nat → Nat → Int32) (p : Nat) (z : Int32), p < 150 → g1 4 = nI rl → c1 7 = c 7 → puP n nc np us rl i pr g c lg y (nI p) ((g1, setA c1 5 (dgs (c1 5) p rl (c 7) y)), lg1) → Wg Z (pX E A ad n g1 c1 lg1 lc) 98 [(0, .ref (ad 0)), (1, .ref (ad (gO i))), (2, .int y), (3, .int z), (4, .int (nI p))] [] := by
    intro g1 c1 lg1 p z hp e4 e7 hpost
    have loop : ∀ (m k : Nat), k ≤ rl → rl < k + m → Wg Z (pX E A ad n g1 (setA c1 5 (blit (c1 5) (13 * p) k (upd (c 7) rl y))) lg1 lc) 101 [(0, .ref (ad 0)), (1, .ref (ad (gO i))), (2, .int y), (3, .int z), (4, .int (nI p)), (5, .int (nI k))] [] := by
      intro m
      induction m with
      | zero => intro k h1 h2; omega
      | succ m ih =>
        intro k hk hm
        refine r_iload C d_X_put_101 rfl ?_
        refine r_aload_n C d_X_put_103 rfl ?_
        refine rX_g94 C rfl vI d_X_put_104 ?_
        refine r_tope (nI rl) e4 ?_
        refine r_icmp_ge (tgt := 137) C d_X_put_107 (by decide) (fun h1 => ?_) (fun h1 => ?_)
        · have hkr : k = rl := nI_ge_eq (by omega) hk h1
          subst hkr
          obtain ⟨w, hw1, rfl⟩ := hy
          refine r_aload_n C d_X_put_137 rfl ?_
          refine rX_g28 C rfl vI d_X_put_138 ?_
          refine r_bipush (v := 13) C d_X_put_141 (by decide) ?_
          refine r_iload C d_X_put_143 rfl ?_
          refine r_imul C d_X_put_145 ?_
          refine r_aload_n C d_X_put_146 rfl ?_
          refine rX_g94 C rfl vI d_X_put_147 ?_
          refine r_iadd C d_X_put_150 ?_
          refine r_iload_n C d_X_put_151 rfl ?_
          refine r_i2b C d_X_put_152 (i2b_B (by omega)) ?_
          refine rX_bast C vI rfl (nI_ad _ _ (nI_mul 13 _ rfl rfl) e4) (by show _ < 1950; omega) (nar_b (by omega)) ((setA_setA).trans (congrArg _ (blit_s pk_us.symm))) d_X_put_153 ?_
          refine r_iload C d_X_put_154 rfl ?_
          exact R _ _ _ _ _ d_X_put_156 rfl vI hpost
        · have hkr : k < rl := nI_lt_of (by omega) h1
          obtain ⟨w, hw1, hw2⟩ := hbf k hkr
          have hw3 : c1 7 k = nI w := by rw [e7]; exact hw2
          have hw4 : nI w = upd (c 7) rl y k := by rw [pk_un (by omega), hw2]
          refine r_aload_n C d_X_put_110 rfl ?_
          refine rX_g28 C rfl vI d_X_put_111 ?_
          refine r_bipush (v := 13) C d_X_put_114 (by decide) ?_
          refine r_iload C d_X_put_116 rfl ?_
          refine r_imul C d_X_put_118 ?_
          refine r_iload C d_X_put_119 rfl ?_
          refine r_iadd C d_X_put_121 ?_
          refine r_aload_n C d_X_put_122 rfl ?_
          refine rX_g35 C rfl vI d_X_put_123 ?_
          refine r_iload C d_X_put_126 rfl ?_
          refine rX_iald C vI rfl rfl (by show _ < 12; omega) hw3 d_X_put_128 ?_
          refine r_i2b C d_X_put_129 (i2b_B (by omega)) ?_
          refine rX_bast C vI rfl (nI_ad _ _ (nI_mul 13 _ rfl rfl) rfl) (by show _ < 1950; omega) (nar_b (by omega)) ((setA_setA).trans (congrArg _ (blit_s hw4))) d_X_put_130 ?_
          refine r_iinc (L' := [(0, _), (1, _), (2, _), (3, _), (4, _), (5, _)]) C d_X_put_131 rfl (nI_inc _) (by decide) rfl ?_
          refine r_goto (tgt := 101) C d_X_put_134 (by decide) ?_
          exact ih (k + 1) (by omega) (by omega)
    refine r_iconst (v := 0) C d_X_put_98 (by decide) ?_
    refine r_istore (L' := [(0, _), (1, _), (2, _), (3, _), (4, _), (5, _)]) C d_X_put_99 (by decide) rfl ?_
    have h10 := loop (rl + 1) 0 (by omega) (by omega)
    rw [blit_0, setA_self] at h10
    exact h10
  have hgs : upd g 1 (nI nc) = g := upd_self hg1
  show Wg Z _ 0 [(0, _), (1, _), (2, _)] []
  refine r_aload_n C d_X_put_0 rfl ?_
  refine r_aload_n C d_X_put_1 rfl ?_
  refine r_callR C (cX_endOf hi hn (show nc ≤ 900 by omega) hT hg4 hl h0) cV_118_X ⟨by decide, by decide⟩ ⟨rfl, rfl⟩ vI (fun s H => pX_recv) rfl rfl (Nat.le_of_ble_eq_true rfl) d_X_put_2 (fun r hr => ?_)
  refine r_istore_n (L' := [(0, _), (1, _), (2, _), (3, _)]) C d_X_put_5 (by decide) rfl ?_
  refine r_iload_n C d_X_put_6 rfl ?_
  have B : (∀ q, q < nc → nAt nc pr (c 1) i (c 6) rl (4 + q) → c 4 q = -1) → Wg Z (pX E A ad n g c lg lc) 27 [(0, .ref (ad 0)), (1, .ref (ad (gO i))), (2, .int y), (3, .int r), (4, .int (-1))] [] := by
    intro hno
    have full : np = 150 ∨ 900 < us + rl → Wg Z (pX E A ad n g c lg lc) 52 [(0, .ref (ad 0)), (1, .ref (ad (gO i))), (2, .int y), (3, .int r), (4, .int (-1))] [] := by
      intro hf
      refine r_bipush (v := -2) C d_X_put_52 (by decide) ?_
      exact R _ _ _ _ ((g, c), lg) d_X_put_54 rfl vI (Or.inr ⟨hno, Or.inl ⟨hf, rfl, rfl⟩⟩)
    refine r_aload_n C d_X_put_27 rfl ?_
    refine rX_g122 C rfl vI d_X_put_28 ?_
    refine r_sipush (v := 150) C d_X_put_31 (by decide) ?_
    rw [hg2]
    refine r_icmp_eq (tgt := 52) C d_X_put_34 (by decide) (fun h1 => ?_) (fun h1 => ?_)
    · exact full (Or.inl ((nI_eq (by omega) (by omega)).mp (show nI np = nI 150 from h1)))
    · have hnp2 : np < 150 := by
        rcases Nat.lt_or_ge np 150 with q | q
        · exact q
        · exact absurd (by rw [show np = 150 by omega]; rfl) h1
      refine r_aload_n C d_X_put_37 rfl ?_
      refine rX_g125 C rfl vI d_X_put_38 ?_
      refine r_aload_n C d_X_put_41 rfl ?_
      refine rX_g94 C rfl vI d_X_put_42 ?_
      refine r_iadd C d_X_put_45 ?_
      refine r_tope (nI (us + rl)) (nI_ad _ _ hg3 hg4) ?_
      refine r_sipush (v := 900) C d_X_put_46 (by decide) ?_
      refine r_icmp_le (tgt := 55) C d_X_put_49 (by decide) (fun h2 => ?_) (fun h2 => ?_)
      · have hur : us + rl ≤ 900 := (nI_leI (by omega) (by omega)).mp (show nI (us + rl) ≤ nI 900 from h2)
        refine r_aload_n C d_X_put_55 rfl ?_
        refine r_aload_n C d_X_put_56 rfl ?_
        refine r_callW C (cX_grow hi hn (show nc + rl ≤ 900 by omega) hT hg4 hl h0) cV_128_X ⟨by decide, by decide⟩ ⟨rfl, rfl⟩ (fun H h => show tX E A ad n g c lc nc (c 1, c 2, c 3, c 4, lg) H from by unfold tX; dsimp only; rw [hgs, mdC_self]; exact h) (fun s H => pX_recv) rfl rfl (Nat.le_of_ble_eq_true rfl) d_X_put_57 (fun r2 u hu => ?_)
        obtain ⟨nc', pr', le, be, bs, po, lg'⟩ := u
        obtain ⟨q, e1, q1, q2, q3, q4, q5, q6⟩ := hu
        dsimp only at q1 q2 q3 q4 q5 q6
        show Wg Z (pX E A ad n (upd g 1 (nI nc')) (mdC c le be bs po) lg' lc) _ _ _
        rw [e1]
        refine r_istore_n (L' := [(0, _), (1, _), (2, _), (3, _), (4, _)]) C d_X_put_60 (by decide) rfl ?_
        refine r_aload_n C d_X_put_61 rfl ?_
        refine rX_g122 C rfl vI d_X_put_62 ?_
        refine r_tope (nI np) hg2 ?_
        refine r_istore (L' := [(0, _), (1, _), (2, _), (3, _), (4, _)]) C d_X_put_65 (by decide) rfl ?_
        refine r_aload_n C d_X_put_67 rfl ?_
        refine rX_g25 C rfl vI d_X_put_68 ?_
        refine r_iload_n C d_X_put_71 rfl ?_
        refine r_iload C d_X_put_72 rfl ?_
        refine rX_iast C vI rfl rfl (by show _ < 900; omega) (show _ = mdC c le be bs (upd po q (nI np)) from c_ext4 rfl rfl rfl rfl (fun a h1 h2 h3 h4 => by rw [setA_n h4, mdC_o h1 h2 h3 h4, mdC_o h1 h2 h3 h4])) d_X_put_74 ?_
        refine r_aload_n C d_X_put_75 rfl ?_
        refine r_dup C d_X_put_76 rfl ?_
        refine rX_g122 C rfl vI d_X_put_77 ?_
        refine r_iconst (v := 1) C d_X_put_80 (by decide) ?_
        refine r_iadd C d_X_put_81 ?_
        refine r_tope (nI (np + 1)) (nI_ad _ 1 hg2 rfl) ?_
        refine rX_p122 C rfl vI d_X_put_82 ?_
        refine r_aload_n C d_X_put_85 rfl ?_
        refine r_dup C d_X_put_86 rfl ?_
        refine rX_g125 C rfl vI d_X_put_87 ?_
        refine r_aload_n C d_X_put_90 rfl ?_
        refine rX_g94 C rfl vI d_X_put_91 ?_
        refine r_iadd C d_X_put_94 ?_
        refine r_tope (nI (us + rl)) (nI_ad _ _ hg3 hg4) ?_
        refine rX_p125 C rfl vI d_X_put_95 ?_
        exact J98 _ _ _ np _ hnp2 hg4 rfl (Or.inr ⟨hno, Or.inr ⟨hnp2, hur, rfl, nc', pr', le, be, bs, po, lg', q, q2, q3, q4, q1, q6, q5, rfl⟩⟩)
      · refine full (Or.inr ?_)
        rcases Nat.lt_or_ge 900 (us + rl) with q | q
        · exact q
        · exact absurd (show nI (us + rl) ≤ nI 900 from nI_le q (by omega)) h2
  refine r_if_ge (tgt := 14) C d_X_put_7 (by decide) (fun h1 => ?_) (fun h1 => ?_)
  · rcases hr with ⟨q, q1, q2, q3⟩ | ⟨q1, -⟩
    · refine r_aload_n C d_X_put_14 rfl ?_
      refine rX_g25 C rfl vI d_X_put_15 ?_
      refine r_iload_n C d_X_put_18 rfl ?_
      refine rX_iald C vI rfl q2 (by show _ < 900; omega) rfl d_X_put_19 ?_
      refine r_istore (L' := [(0, _), (1, _), (2, _), (3, _), (4, _)]) C d_X_put_20 (by decide) rfl ?_
      refine r_iload C d_X_put_22 rfl ?_
      rcases hpo q q1 with e | ⟨p, hp1, hp2⟩
      · rw [e]
        refine r_if_ge (tgt := 98) C d_X_put_24 (by decide) (fun h2 => ?_) (fun h2 => ?_)
        · exact absurd h2 m1_neg
        · refine B (fun q' hq' hA => ?_)
          have : 4 + q' = 4 + q := nAt_det hT.2.2.2 rl _ _ hA q3
          rw [show q' = q by omega]; exact e
      · rw [hp2]
        refine r_if_ge (tgt := 98) C d_X_put_24 (by decide) (fun h2 => ?_) (fun h2 => ?_)
        · exact J98 _ _ _ p _ (by omega) hg4 rfl (Or.inl ⟨q, p, q1, hp1, q3, hp2, rfl, rfl⟩)
        · exact absurd (nI_pos' (by omega)) h2
    · rw [q1] at h1; exact absurd h1 m1_neg
  · rcases hr with ⟨q, q1, q2, q3⟩ | ⟨q1, q2⟩
    · rw [q2] at h1; exact absurd (nI_pos' (by omega)) h1
    · refine r_iconst (v := -1) C d_X_put_10 (by decide) ?_
      refine r_goto (tgt := 20) C d_X_put_11 (by decide) ?_
      refine r_istore (L' := [(0, _), (1, _), (2, _), (3, _), (4, _)]) C d_X_put_20 (by decide) rfl ?_
      refine r_iload C d_X_put_22 rfl ?_
      refine r_if_ge (tgt := 98) C d_X_put_24 (by decide) (fun h2 => ?_) (fun h2 => ?_)
      · exact absurd h2 m1_neg
      · exact B (fun q hq hA => absurd hA (q2 _))
/-- what 'pattern' does -/
def paX (n nc np us rl : Nat) (pr : Nat → Nat) (g : Nat → Int32) (c lg : Nat → Nat → Int32) (x y : Int32) (r : Int32) (u : gclS) : Prop :=
  (¬ (isIn n x ∧ isIn 10 y) ∧ r = -1 ∧ u = ((g, c), lg)) ∨ ∃ i, i < n ∧ x = nI i ∧ isIn 10 y ∧ ((¬ isPat (c 6) rl ∧ r = -3 ∧ u = ((upd g 4 0, c), lg)) ∨ (isPat (c 6) rl ∧ ∃ u1, puP n nc np us rl i pr g c lg y r u1 ∧ u = ((upd u1.1.1 4 0, u1.1.2), u1.2)))
set_option maxHeartbeats 4000000 in
theorem cX_pattern {nc np us rl : Nat} {pr : Nat → Nat} (x y : Int32) (hg0 : g 0 = nI n) (hn : n ≤ 4) (hg1 : g 1 = nI nc) (hg2 : g 2 = nI np) (hg3 : g 3 = nI us) (hg4 : g 4 = nI rl) (hcu : nc ≤ us) (hus : us ≤ 900) (hnp : np ≤ 150) (hl : rl ≤ 12) (hT : Tri n nc (fun j => lg j 3) (c 1) (c 2) (c 3) pr) (hpo : ∀ q, q < nc → c 4 q = -1 ∨ ∃ p, p < np ∧ c 4 q = nI p) (hbf : ∀ k, k < rl → isIn 10 (c 7 k)) : mW l E mX_pattern A [.ref (ad 0), .int x, .int y] (pX E A ad n g c lg lc) (paX n nc np us rl pr g c lg x y) (fun u => pX E A ad n u.1.1 u.1.2 u.2 lc) := by
  refine metW (by decide) rfl (Nat.le_of_ble_eq_true rfl) (catOK rfl) (fun Z hZ C R => ?_)
  show Wg Z _ 0 [(0, _), (1, _), (2, _)] []
  refine r_aload_n C d_X_pattern_0 rfl ?_
  refine r_iload_n C d_X_pattern_1 rfl ?_
  refine r_callR C (cX_isLanguage x hg0 hn) cV_67_X ⟨by decide, by decide⟩ ⟨rfl, rfl⟩ vI (fun s H => pX_recv) rfl rfl (Nat.le_of_ble_eq_true rfl) d_X_pattern_2 (fun r1 hr1 => ?_)
  refine r_if_eq (tgt := 15) C d_X_pattern_5 (by decide) (fun h1 => ?_) (fun h1 => ?_)
  · refine r_iconst (v := -1) C d_X_pattern_15 (by decide) ?_
    exact R _ _ _ _ _ d_X_pattern_16 rfl vI (Or.inl ⟨fun h => yn_0 hr1 h1 h.1, rfl, rfl⟩)
  · refine r_iload_n C d_X_pattern_8 rfl ?_
    refine r_callS C (cX_isDigit y) cS_91_X ⟨by decide, by decide⟩ ⟨rfl, rfl⟩ rfl rfl (Nat.le_of_ble_eq_true rfl) d_X_pattern_9 (fun r2 hr2 => ?_)
    refine r_if_ne (tgt := 17) C d_X_pattern_12 (by decide) (fun h2 => ?_) (fun h2 => ?_)
    · have hy := yn_1 hr2 h2
      obtain ⟨i, hi, rfl⟩ := yn_1 hr1 h1
      refine r_aload_n C d_X_pattern_17 rfl ?_
      refine r_callR C (cX_isPattern hg4 hl) cV_110_X ⟨by decide, by decide⟩ ⟨rfl, rfl⟩ vI (fun s H => pX_recv) rfl rfl (Nat.le_of_ble_eq_true rfl) d_X_pattern_18 (fun r3 hr3 => ?_)
      refine r_if_eq (tgt := 38) C d_X_pattern_21 (by decide) (fun h3 => ?_) (fun h3 => ?_)
      · refine r_bipush (v := -3) C d_X_pattern_38 (by decide) ?_
        refine r_istore_n (L' := [(0, _), (1, _), (2, _), (3, _)]) C d_X_pattern_40 (by decide) rfl ?_
        refine r_aload_n C d_X_pattern_41 rfl ?_
        refine r_iconst (v := 0) C d_X_pattern_42 (by decide) ?_
        refine rX_p94 C rfl vI d_X_pattern_43 ?_
        refine r_iload_n C d_X_pattern_46 rfl ?_
        exact R _ _ _ _ _ d_X_pattern_47 rfl vI (Or.inr ⟨i, hi, rfl, hy, Or.inl ⟨yn_0 hr3 h3, rfl, rfl⟩⟩)
      · have hpat := yn_1 hr3 h3
        have h0 : 0 < rl := by obtain ⟨⟨j, hj, -⟩, -⟩ := hpat; omega
        refine r_aload_n C d_X_pattern_24 rfl ?_
        refine r_aload_n C d_X_pattern_25 rfl ?_
        refine rX_g11 C rfl vI d_X_pattern_26 ?_
        refine r_iload_n C d_X_pattern_29 rfl ?_
        refine rX_aald C vI rfl hi hn d_X_pattern_30 ?_
        refine r_iload_n C d_X_pattern_31 rfl ?_
        refine r_callW C (cX_put y hi hn hg1 hg2 hg3 hg4 hcu hus hnp hl h0 hT hpo hbf hy) cV_114_X ⟨by decide, by decide⟩ ⟨rfl, rfl⟩ vI (fun s H => pX_recv) rfl rfl (Nat.le_of_ble_eq_true rfl) d_X_pattern_32 (fun r u hu => ?_)
        refine r_goto (tgt := 40) C d_X_pattern_35 (by decide) ?_
        refine r_istore_n (L' := [(0, _), (1, _), (2, _), (3, _)]) C d_X_pattern_40 (by decide) rfl ?_
        refine r_aload_n C d_X_pattern_41 rfl ?_
        refine r_iconst (v := 0) C d_X_pattern_42 (by decide) ?_
        refine rX_p94 C rfl vI d_X_pattern_43 ?_
        refine r_iload_n C d_X_pattern_46 rfl ?_
        exact R _ _ _ _ ((upd u.1.1 4 0, u.1.2), u.2) d_X_pattern_47 rfl vI (Or.inr ⟨i, hi, rfl, hy, Or.inr ⟨hpat, u, hu, rfl⟩⟩)
    · refine r_iconst (v := -1) C d_X_pattern_15 (by decide) ?_
      exact R _ _ _ _ _ d_X_pattern_16 rfl vI (Or.inl ⟨fun h => yn_0 hr2 h2 h.2, rfl, rfl⟩)
end S19
end
section
-- raise, weigh of X
theorem q_max1 : Cond.methodLink "HyphenRows" 153 Lib.Math.max.name ∈ gw := q_214
theorem q_max2 : Cond.static Lib.Math.max.name ∈ gw := q_215
theorem q_max4 : Cond.code Lib.Math.max.name Lib.Math.max.code 2 (some .int) ∈ gw := q_216
def mx (x y : Int32) : Int32 := if x < y then y else x
/-- v is the greatest of S, or 0 -/
def Best (S : Int32 → Prop) (v : Int32) : Prop := (v = 0 ∨ S v) ∧ (∀ w, S w → w ≤ v) ∧ 0 ≤ v
theorem Best_uq {S : Int32 → Prop} {v v' : Int32} (h : Best S v) (h' : Best S v') : v = v' := by
  have : ∀ {a b : Int32}, Best S a → Best S b → a ≤ b := by
    intro a b ha hb
    rcases ha.1 with e | e
    · rw [e]; exact hb.2.2
    · exact hb.2.1 a e
  exact Int32.le_antisymm (this h h') (this h' h)
theorem Best_cg {S S' : Int32 → Prop} {v : Int32} (hS : ∀ w, S w ↔ S' w) (h : Best S v) : Best S' v := by
  refine ⟨?_, fun w hw => h.2.1 w ((hS w).mpr hw), h.2.2⟩
  rcases h.1 with e | e
  · exact Or.inl e
  · exact Or.inr ((hS v).mp e)
theorem Best_add {S : Int32 → Prop} {v d : Int32} (h : Best S v) (hd : 0 ≤ d) : Best (fun w => S w ∨ w = d) (mx v d) := by
  unfold mx
  by_cases hv : v < d
  · rw [if_pos hv]
    refine ⟨Or.inr (Or.inr rfl), fun w hw => ?_, hd⟩
    rcases hw with hw | rfl
    · exact Int32.le_trans (h.2.1 w hw) (Int32.le_of_lt hv)
    · exact Int32.le_refl _
  · rw [if_neg hv]
    refine ⟨?_, fun w hw => ?_, h.2.2⟩
    · rcases h.1 with e | e
      · exact Or.inl e
      · exact Or.inr (Or.inl e)
    · rcases hw with hw | rfl
      · exact h.2.1 w hw
      · exact Int32.not_lt.mp hv
theorem isIn_0 {B : Nat} {x : Int32} (hB : B < 2 ^ 31) (h : isIn B x) : 0 ≤ x := ((isIn_iff hB).mp h).1
/-- pattern p's digits raised into bt from f on, m places -/
def rsd (bt dg : Nat → Int32) (p f m : Nat) : Nat → Int32 := fun j => if f ≤ j ∧ j < f + m then mx (bt j) (dg (13 * p + (j - f))) else bt j
theorem rsd_0 {bt dg : Nat → Int32} {p f : Nat} : rsd bt dg p f 0 = bt := by funext j; simp [rsd]; omega
theorem rsd_s {bt dg : Nat → Int32} {p f k : Nat} : upd (rsd bt dg p f k) (f + k) (mx (bt (f + k)) (dg (13 * p + k))) = rsd bt dg p f (k + 1) := by
  funext j
  by_cases h : j = f + k
  · subst h
    simp [upd, rsd]
  · have : (f ≤ j ∧ j < f + (k + 1)) ↔ (f ≤ j ∧ j < f + k) := by omega
    simp [upd, rsd, h, this]
/-- pattern p stands in the edged word from f, m letters long -/
def occ (nc np ln : Nat) (pr : Nat → Nat) (le po ed : Nat → Int32) (i f m p : Nat) : Prop := 1 ≤ m ∧ f + m ≤ ln + 2 ∧ p < np ∧ ∃ q, q < nc ∧ nAt nc pr le i (fun k => ed (f + k)) m (4 + q) ∧ po q = nI p
def SXd (nc np ln : Nat) (pr : Nat → Nat) (le po ed dg : Nat → Int32) (i : Nat) (D : Nat → Nat → Prop) (j : Nat) (w : Int32) : Prop := ∃ f m p, D f m ∧ occ nc np ln pr le po ed i f m p ∧ f ≤ j ∧ j ≤ f + m ∧ w = dg (13 * p + (j - f))
/-- the value between two letters: by an exception, or the greatest digit -/
def dgV (ne : Nat) (isx : Nat → Prop) (pl : Nat → Int32) (S : Nat → Int32 → Prop) (k : Nat) (v : Int32) : Prop :=
  (∃ f, f < ne ∧ isx f ∧ (∀ j, j < f → ¬ isx j) ∧ v = (pl f >>> (nI k &&& 31)) &&& 1) ∨ ((∀ j, j < ne → ¬ isx j) ∧ Best (S (k + 1)) v)
section S20
variable {l : Launch} {E : eE} {A A' : Nat → Prop} {ad : Nat → Nat} {n : Nat} {g : Nat → Int32} {c lg : Nat → Nat → Int32} {lc : Nat → Nat → Nat → Int32}
set_option maxHeartbeats 4000000 in
theorem cX_raise {p f m : Nat} (hp : p < 150) (hm : m ≤ 12) (hf : f + m ≤ 32) : mV l E mX_raise A [.ref (ad 0), .int (nI p), .int (nI f), .int (nI m)] (pX E A ad n g c lg lc) (fun u : Nat → Int32 => u = rsd (c 14) (c 5) p f (m + 1)) (fun u => pX E A ad n g (setA c 14 u) lg lc) := by
  refine metV (by decide) rfl (Nat.le_of_ble_eq_true rfl) (catOK rfl) (fun Z hZ C R => ?_)
  have loop : ∀ (t k : Nat), k ≤ m + 1 → m + 1 < k + t → Wg Z (pX E A ad n g (setA c 14 (rsd (c 14) (c 5) p f k)) lg lc) 3 [(0, .ref (ad 0)), (1, .int (nI p)), (2, .int (nI f)), (3, .int (nI m)), (4, .int (nI k))] [] := by
    intro t
    induction t with
    | zero => intro k h1 h2; omega
    | succ t ih =>
      intro k hk ht
      refine r_iload C d_X_raise_3 rfl ?_
      refine r_iload_n C d_X_raise_5 rfl ?_
      refine r_icmp_gt (tgt := 48) C d_X_raise_6 (by decide) (fun h1 => ?_) (fun h1 => ?_)
      · have hkm : m < k := (nI_ltI (by omega) (by omega)).mp h1
        have : k = m + 1 := by omega
        subst this
        exact R _ _ _ _ d_X_raise_48 vI rfl
      · have hkm : k ≤ m := by
          rcases Nat.lt_or_ge m k with q | q
          · exact absurd (nI_lt q (by omega)) h1
          · exact q
        have hv : rsd (c 14) (c 5) p f k (f + k) = c 14 (f + k) := by
          have : ¬ (f ≤ f + k ∧ f + k < f + k) := by omega
          simp only [rsd, this, if_false]
        refine r_aload_n C d_X_raise_9 rfl ?_
        refine rX_g56 C rfl vI d_X_raise_10 ?_
        refine r_iload_n C d_X_raise_13 rfl ?_
        refine r_iload C d_X_raise_14 rfl ?_
        refine r_iadd C d_X_raise_16 ?_
        refine r_aload_n C d_X_raise_17 rfl ?_
        refine rX_g56 C rfl vI d_X_raise_18 ?_
        refine r_iload_n C d_X_raise_21 rfl ?_
        refine r_iload C d_X_raise_22 rfl ?_
        refine r_iadd C d_X_raise_24 ?_
        refine rX_iald C vI rfl (nI_ad _ _ rfl rfl) (by show _ < 33; omega) hv d_X_raise_25 ?_
        refine r_aload_n C d_X_raise_26 rfl ?_
        refine rX_g28 C rfl vI d_X_raise_27 ?_
        refine r_bipush (v := 13) C d_X_raise_30 (by decide) ?_
        refine r_iload_n C d_X_raise_32 rfl ?_
        refine r_imul C d_X_raise_33 ?_
        refine r_iload C d_X_raise_34 rfl ?_
        refine r_iadd C d_X_raise_36 ?_
        refine rX_bald C vI rfl (nI_ad _ _ (nI_mul 13 _ rfl rfl) rfl) (by show _ < 1950; omega) rfl d_X_raise_37 ?_
        refine r_max C q_max1 q_max2 q_4 q_max4 (by decide) (Nat.le_of_ble_eq_true rfl) d_X_raise_38 ?_
        refine rX_iast C vI rfl (nI_ad _ _ rfl rfl) (by show _ < 33; omega) ((setA_setA).trans (congrArg _ rsd_s)) d_X_raise_41 ?_
        refine r_iinc (L' := [(0, _), (1, _), (2, _), (3, _), (4, _)]) C d_X_raise_42 rfl (nI_inc _) (by decide) rfl ?_
        refine r_goto (tgt := 3) C d_X_raise_45 (by decide) ?_
        exact ih (k + 1) (by omega) (by omega)
  show Wg Z _ 0 [(0, _), (1, _), (2, _), (3, _)] []
  refine r_iconst (v := 0) C d_X_raise_0 (by decide) ?_
  refine r_istore (L' := [(0, _), (1, _), (2, _), (3, _), (4, _)]) C d_X_raise_1 (by decide) rfl ?_
  have h10 := loop (m + 2) 0 (by omega) (by omega)
  rw [rsd_0, setA_self] at h10
  exact h10
set_option maxHeartbeats 4000000 in
theorem cX_weigh {i nc np ln ne : Nat} {pr : Nat → Nat} (hi : i < n) (hn : n ≤ 4) (hg5 : g 5 = nI ln) (hl : ln ≤ 30) (hg6 : g 6 = nI ne) (hne : ne ≤ 40) (hc : nc ≤ 900) (hnp : np ≤ 150) (hT : Tri n nc (fun j => lg j 3) (c 1) (c 2) (c 3) pr) (hpo : ∀ q, q < nc → c 4 q = -1 ∨ ∃ p, p < np ∧ c 4 q = nI p) (hdep : ∀ q w m, q < nc → ¬ c 4 q = -1 → nAt nc pr (c 1) i w m (4 + q) → m ≤ 12) (hdg : ∀ j, j < 1950 → isIn 10 (c 5 j)) : mV l E mX_weigh A [.ref (ad 0), .int (nI i)] (pX E A ad n g c lg lc) (fun u : Nat → Int32 => ∀ k, k ≤ ln → dgV ne (isEx (c 9) (c 11) (c 10) ln (c 13) (nI i)) (c 12) (SXd nc np ln pr (c 1) (c 4) (c 13) (c 5) i (fun _ _ => True)) k (u (k + 1))) (fun u => pX E A ad n g (setA c 14 u) lg lc) := by
  refine metV (by decide) rfl (Nat.le_of_ble_eq_true rfl) (catOK rfl) (fun Z hZ C R => ?_)
  have zer : ∀ (t k : Nat) (b : Nat → Int32), k ≤ 33 → 33 < k + t → (∀ j, j < k → b j = 0) → (∀ b' : Nat → Int32, (∀ j, j < 33 → b' j = 0) → Wg Z (pX E A ad n g (setA c 14 b') lg lc) 31 [(0, .ref (ad 0)), (1, .int (nI i)), (2, .ref (ad (gO i))), (3, .int (nI 33))] []) → Wg Z (pX E A ad n g (setA c 14 b) lg lc) 9 [(0, .ref (ad 0)), (1, .int (nI i)), (2, .ref (ad (gO i))), (3, .int (nI k))] [] := by
    intro t
    induction t with
    | zero => intro k b h1 h2; omega
    | succ t ih =>
      intro k b hk ht hb kk
      refine r_iload_n C d_X_weigh_9 rfl ?_
      refine r_aload_n C d_X_weigh_10 rfl ?_
      refine rX_g56 C rfl vI d_X_weigh_11 ?_
      refine rX_alen (v := 33) C vI rfl (by decide) d_X_weigh_14 ?_
      refine r_icmp_ge (tgt := 31) C d_X_weigh_15 (by decide) (fun h1 => ?_) (fun h1 => ?_)
      · have : k = 33 := nI_ge_eq (by omega) hk (show nI 33 ≤ nI k from h1)
        subst this
        exact kk b hb
      · have hk2 : k < 33 := nI_lt_of (by omega) (show ¬ nI 33 ≤ nI k from h1)
        refine r_aload_n C d_X_weigh_18 rfl ?_
        refine rX_g56 C rfl vI d_X_weigh_19 ?_
        refine r_iload_n C d_X_weigh_22 rfl ?_
        refine r_iconst (v := 0) C d_X_weigh_23 (by decide) ?_
        refine rX_iast C vI rfl rfl (by show _ < 33; omega) setA_setA d_X_weigh_24 ?_
        refine r_iinc (L' := [(0, _), (1, _), (2, _), (3, _)]) C d_X_weigh_25 rfl (nI_inc _) (by decide) rfl ?_
        refine r_goto (tgt := 9) C d_X_weigh_28 (by decide) ?_
        refine ih (k + 1) _ (by omega) (by omega) (fun j hj => ?_) kk
        by_cases e : j = k
        · subst e; exact pk_us
        · rw [pk_un e]; exact hb j (by omega)
  show Wg Z _ 0 [(0, _), (1, _)] []
  refine r_aload_n C d_X_weigh_0 rfl ?_
  refine rX_g11 C rfl vI d_X_weigh_1 ?_
  refine r_iload_n C d_X_weigh_4 rfl ?_
  refine rX_aald C vI rfl hi hn d_X_weigh_5 ?_
  refine r_astore_n (L' := [(0, _), (1, _), (2, _)]) C d_X_weigh_6 (by decide) rfl ?_
  refine r_iconst (v := 0) C d_X_weigh_7 (by decide) ?_
  refine r_istore_n (L' := [(0, _), (1, _), (2, _), (3, _)]) C d_X_weigh_8 (by decide) rfl ?_
  have h10 := zer 34 0 (c 14) (by omega) (by omega) (fun j hj => by omega)
  rw [setA_self] at h10
  refine h10 (fun b hb => ?_)
  refine r_aload_n C d_X_weigh_31 rfl ?_
  refine r_iload_n C d_X_weigh_32 rfl ?_
  refine r_callR C (cX_find (nI i) hg5 hl hg6 hne) cV_145_X ⟨by decide, by decide⟩ ⟨rfl, rfl⟩ vI (fun s H => pX_recv) rfl rfl (Nat.le_of_ble_eq_true rfl) d_X_weigh_33 (fun r hr => ?_)
  obtain ⟨f, hf1, rfl, hf2, hf3⟩ := hr
  refine r_istore_n (L' := [(0, _), (1, _), (2, _), (3, _)]) C d_X_weigh_36 (by decide) rfl ?_
  refine r_iload_n C d_X_weigh_37 rfl ?_
  refine r_aload_n C d_X_weigh_38 rfl ?_
  refine rX_g134 C rfl vI d_X_weigh_39 ?_
  rw [hg6]
  refine r_icmp_ge (tgt := 84) C d_X_weigh_42 (by decide) (fun h1 => ?_) (fun h1 => ?_)
  · have hfe : f = ne := nI_ge_eq (by omega) hf1 h1
    subst hfe
    have hno : ∀ j, j < f → ¬ isEx (c 9) (c 11) (c 10) ln (c 13) (nI i) j := hf2
    clear h1 hf1 hf2 hf3
    have outer : ∀ (t a : Nat) (b : Nat → Int32), a ≤ ln + 2 → ln + 2 < a + t → (∀ j, j < 33 → Best (SXd nc np ln pr (c 1) (c 4) (c 13) (c 5) i (fun f' _ => f' < a) j) (b j)) → ∀ (L : List (Nat × Value)), lv_pick L [0, 1, 2, 3, 4] = [(0, .ref (ad 0)), (1, .int (nI i)), (2, .ref (ad (gO i))), (3, .int (nI f)), (4, .int (nI a))] → Wg Z (pX E A ad n g (setA c 14 b) lg lc) 87 L [] := by
      intro t
      induction t with
      | zero => intro a b h1 h2; omega
      | succ t ih =>
        intro a b ha ht hb L hL
        refine Wg.pick [0, 1, 2, 3, 4] hL ?_
        refine r_iload C d_X_weigh_87 rfl ?_
        refine r_aload_n C d_X_weigh_89 rfl ?_
        refine rX_g131 C rfl vI d_X_weigh_90 ?_
        refine r_iconst (v := 2) C d_X_weigh_93 (by decide) ?_
        refine r_iadd C d_X_weigh_94 ?_
        refine r_tope (nI (ln + 2)) (nI_ad _ 2 hg5 rfl) ?_
        refine r_icmp_ge (tgt := 182) C d_X_weigh_95 (by decide) (fun h2 => ?_) (fun h2 => ?_)
        · have hae : a = ln + 2 := nI_ge_eq (by omega) ha h2
          refine R _ _ _ b d_X_weigh_182 vI (fun k hk => Or.inr ⟨hno, Best_cg (fun w => ?_) (hb (k + 1) (by omega))⟩)
          constructor
          · rintro ⟨f', m, p, -, h4⟩; exact ⟨f', m, p, trivial, h4⟩
          · rintro ⟨f', m, p, -, h4⟩
            have := h4.1.1; have := h4.1.2.1
            exact ⟨f', m, p, by omega, h4⟩
        · have hae : a < ln + 2 := nI_lt_of (by omega) h2
          have done_ : ∀ (b' : Nat → Int32) (m0 : Nat) (v z : Int32), (∀ m' q, m0 < m' → a + m' ≤ ln + 2 → q < nc → ¬ nAt nc pr (c 1) i (fun k => c 13 (a + k)) m' (4 + q)) → (∀ j, j < 33 → Best (SXd nc np ln pr (c 1) (c 4) (c 13) (c 5) i (fun f' m' => f' < a ∨ (f' = a ∧ m' ≤ m0)) j) (b' j)) → Wg Z (pX E A ad n g (setA c 14 b') lg lc) 176 [(0, .ref (ad 0)), (1, .int (nI i)), (2, .ref (ad (gO i))), (3, .int (nI f)), (4, .int (nI a)), (5, .int v), (6, .int z)] [] := by
            intro b' m0 v z hnone hb'
            refine r_iinc (L' := [(0, _), (1, _), (2, _), (3, _), (4, _), (5, _), (6, _)]) C d_X_weigh_176 rfl (nI_inc _) (by decide) rfl ?_
            refine r_goto (tgt := 87) C d_X_weigh_179 (by decide) ?_
            refine ih (a + 1) b' (by omega) (by omega) (fun j hj => Best_cg (fun w => ?_) (hb' j hj)) _ rfl
            constructor
            · rintro ⟨f', m, p, h3, h4⟩; exact ⟨f', m, p, by omega, h4⟩
            · rintro ⟨f', m, p, h3, h4⟩
              refine ⟨f', m, p, ?_, h4⟩
              by_cases ef : f' = a
              · subst ef
                refine Or.inr ⟨rfl, ?_⟩
                rcases Nat.lt_or_ge m0 m with h5 | h5
                · obtain ⟨-, h6, -, q, h7, h8, -⟩ := h4.1
                  exact absurd h8 (hnone m q h5 h6 h7)
                · exact h5
              · exact Or.inl (by omega)
          have inner : ∀ (t' m0 v : Nat) (b' : Nat → Int32), a + m0 ≤ ln + 2 → ln + 2 < a + m0 + t' → nAt nc pr (c 1) i (fun k => c 13 (a + k)) m0 v → (∀ j, j < 33 → Best (SXd nc np ln pr (c 1) (c 4) (c 13) (c 5) i (fun f' m' => f' < a ∨ (f' = a ∧ m' ≤ m0)) j) (b' j)) → Wg Z (pX E A ad n g (setA c 14 b') lg lc) 105 [(0, .ref (ad 0)), (1, .int (nI i)), (2, .ref (ad (gO i))), (3, .int (nI f)), (4, .int (nI a)), (5, .int (cl_ v)), (6, .int (nI (a + m0)))] [] := by
            intro t'
            induction t' with
            | zero => intro m0 v b' h1 h2; omega
            | succ t' ih' =>
              intro m0 v b' hm0 ht' hA hb'
              refine r_iload C d_X_weigh_105 rfl ?_
              refine r_aload_n C d_X_weigh_107 rfl ?_
              refine rX_g131 C rfl vI d_X_weigh_108 ?_
              refine r_iconst (v := 2) C d_X_weigh_111 (by decide) ?_
              refine r_iadd C d_X_weigh_112 ?_
              refine r_tope (nI (ln + 2)) (nI_ad _ 2 hg5 rfl) ?_
              refine r_icmp_ge (tgt := 176) C d_X_weigh_113 (by decide) (fun h3 => ?_) (fun h3 => ?_)
              · have : a + m0 = ln + 2 := nI_ge_eq (by omega) hm0 h3
                exact done_ b' m0 _ _ (fun m' q h4 h5 => by omega) hb'
              · have hlt : a + m0 < ln + 2 := nI_lt_of (by omega) h3
                have hvv : v = i ∨ (4 ≤ v ∧ v < 4 + nc) := by
                  cases m0 with
                  | zero => exact Or.inl hA
                  | succ k => obtain ⟨q, q1, q2, q3, q4⟩ := hA; exact Or.inr (by omega)
                refine r_aload_n C d_X_weigh_116 rfl ?_
                refine r_aload_n C d_X_weigh_117 rfl ?_
                refine r_iload C d_X_weigh_118 rfl ?_
                refine r_aload_n C d_X_weigh_120 rfl ?_
                refine rX_g53 C rfl vI d_X_weigh_121 ?_
                refine r_iload C d_X_weigh_124 rfl ?_
                refine rX_iald C vI rfl rfl (by show _ < 32; omega) rfl d_X_weigh_126 ?_
                refine r_callR C (cX_under (c := setA c 14 b') v (c 13 (a + m0)) hi hn hc hT hvv) cV_100_X ⟨by decide, by decide⟩ ⟨rfl, rfl⟩ vI (fun s H => pX_recv) rfl rfl (Nat.le_of_ble_eq_true rfl) d_X_weigh_127 (fun r hr => ?_)
                refine r_istore (L' := [(0, _), (1, _), (2, _), (3, _), (4, _), (5, _), (6, _)]) C d_X_weigh_130 (by decide) rfl ?_
                refine r_iload C d_X_weigh_132 rfl ?_
                refine r_if_ge (tgt := 140) C d_X_weigh_134 (by decide) (fun h4 => ?_) (fun h4 => ?_)
                · rcases hr with ⟨q, q1, q2, q3, q4⟩ | ⟨q1, -⟩
                  · subst q2
                    have hA' : nAt nc pr (c 1) i (fun k => c 13 (a + k)) (m0 + 1) (4 + q) := ⟨q, q1, rfl, q4, by rw [q3]; exact hA⟩
                    have J170 : ∀ b2 : Nat → Int32, (∀ j, j < 33 → Best (SXd nc np ln pr (c 1) (c 4) (c 13) (c 5) i (fun f' m' => f' < a ∨ (f' = a ∧ m' ≤ m0 + 1)) j) (b2 j)) → Wg Z (pX E A ad n g (setA c 14 b2) lg lc) 170 [(0, .ref (ad 0)), (1, .int (nI i)), (2, .ref (ad (gO i))), (3, .int (nI f)), (4, .int (nI a)), (5, .int (nI q)), (6, .int (nI (a + m0)))] [] := by
                      intro b2 hb2
                      refine r_iinc (L' := [(0, _), (1, _), (2, _), (3, _), (4, _), (5, _), (6, _)]) C d_X_weigh_170 rfl (nI_inc _) (by decide) rfl ?_
                      refine r_goto (tgt := 105) C d_X_weigh_173 (by decide) ?_
                      rw [← cl_q q]
                      exact ih' (m0 + 1) (4 + q) b2 (by omega) (by omega) hA' hb2
                    rcases hpo q q1 with e | ⟨p, hp1, hp2⟩
                    · refine r_aload_n C d_X_weigh_140 rfl ?_
                      refine rX_g25 C rfl vI d_X_weigh_141 ?_
                      refine r_iload C d_X_weigh_144 rfl ?_
                      refine rX_iald C vI rfl rfl (by show _ < 900; omega) e d_X_weigh_146 ?_
                      refine r_if_lt (tgt := 170) C d_X_weigh_147 (by decide) (fun h5 => ?_) (fun h5 => ?_)
                      · refine J170 b' (fun j hj => Best_cg (fun w => ?_) (hb' j hj))
                        constructor
                        · rintro ⟨f', m, p, h6, h7⟩; exact ⟨f', m, p, by omega, h7⟩
                        · rintro ⟨f', m, p, h6, h7⟩
                          refine ⟨f', m, p, ?_, h7⟩
                          rcases h6 with h6 | ⟨rfl, h6⟩
                          · exact Or.inl h6
                          · refine Or.inr ⟨rfl, ?_⟩
                            rcases Nat.lt_or_ge m0 m with h8 | h8
                            · have : m = m0 + 1 := by omega
                              subst this
                              obtain ⟨-, -, hpn, q', h9, h10, h11⟩ := h7.1
                              have e2 := nAt_det hT.2.2.2 _ _ _ h10 hA'
                              rw [show q' = q by omega, e] at h11
                              exact absurd (by rw [h11]; exact nI_pos' (by omega)) m1_neg
                            · exact h8
                      · exact absurd m1_lt h5
                    · have hd12 : m0 + 1 ≤ 12 := hdep q _ _ q1 (fun h => by rw [hp2] at h; exact m1_neg (by rw [← h]; exact nI_pos' (by omega))) hA'
                      have hix : a + m0 + 1 - a = m0 + 1 := by omega
                      refine r_aload_n C d_X_weigh_140 rfl ?_
                      refine rX_g25 C rfl vI d_X_weigh_141 ?_
                      refine r_iload C d_X_weigh_144 rfl ?_
                      refine rX_iald C vI rfl rfl (by show _ < 900; omega) hp2 d_X_weigh_146 ?_
                      refine r_if_lt (tgt := 170) C d_X_weigh_147 (by decide) (fun h5 => ?_) (fun h5 => ?_)
                      · exact absurd h5 (nI_pos (by omega))
                      · refine r_aload_n C d_X_weigh_150 rfl ?_
                        refine r_aload_n C d_X_weigh_151 rfl ?_
                        refine rX_g25 C rfl vI d_X_weigh_152 ?_
                        refine r_iload C d_X_weigh_155 rfl ?_
                        refine rX_iald C vI rfl rfl (by show _ < 900; omega) hp2 d_X_weigh_157 ?_
                        refine r_iload C d_X_weigh_158 rfl ?_
                        refine r_iload C d_X_weigh_160 rfl ?_
                        refine r_iconst (v := 1) C d_X_weigh_162 (by decide) ?_
                        refine r_iadd C d_X_weigh_163 ?_
                        refine r_iload C d_X_weigh_164 rfl ?_
                        refine r_isub C d_X_weigh_166 ?_
                        rw [nI_1, pk_sub (show a ≤ a + m0 + 1 by omega), hix]
                        refine r_callV C (cX_raise (show p < 150 by omega) hd12 (show a + (m0 + 1) ≤ 32 by omega)) cV_149_X ⟨by decide, by decide⟩ ⟨rfl, rfl⟩ vI (fun s H => pX_recv) rfl rfl (Nat.le_of_ble_eq_true rfl) d_X_weigh_167 (fun u hu => ?_)
                        subst hu
                        show Wg Z (pX E A ad n g (setA (setA c 14 b') 14 (rsd b' (c 5) p a (m0 + 2))) lg lc) _ _ _
                        rw [setA_setA]
                        refine J170 _ (fun j hj => ?_)
                        unfold rsd
                        by_cases hj2 : a ≤ j ∧ j < a + (m0 + 2)
                        · rw [if_pos hj2]
                          refine Best_cg (fun w => ?_) (Best_add (hb' j hj) (isIn_0 (by decide) (hdg (13 * p + (j - a)) (by omega))))
                          constructor
                          · rintro (⟨f', m, p', h6, h7⟩ | rfl)
                            · exact ⟨f', m, p', by omega, h7⟩
                            · exact ⟨a, m0 + 1, p, Or.inr ⟨rfl, by omega⟩, ⟨by omega, by omega, hp1, q, q1, hA', hp2⟩, hj2.1, by omega, rfl⟩
                          · rintro ⟨f', m, p', h6, h7⟩
                            rcases Nat.lt_or_ge f' a with h8 | h8
                            · exact Or.inl ⟨f', m, p', Or.inl h8, h7⟩
                            · have ef : f' = a := by omega
                              subst ef
                              rcases Nat.lt_or_ge m0 m with h9 | h9
                              · have : m = m0 + 1 := by omega
                                subst this
                                obtain ⟨⟨-, -, k1, q', k2, k3, k4⟩, -, -, k5⟩ := h7
                                have e2 := nAt_det hT.2.2.2 _ _ _ k3 hA'
                                rw [show q' = q by omega, hp2] at k4
                                have e3 : p = p' := (nI_eq (by omega) (by omega)).mp k4
                                subst e3
                                exact Or.inr k5
                              · exact Or.inl ⟨f', m, p', Or.inr ⟨rfl, h9⟩, h7⟩
                        · rw [if_neg hj2]
                          refine Best_cg (fun w => ?_) (hb' j hj)
                          constructor
                          · rintro ⟨f', m, p', h6, h7⟩; exact ⟨f', m, p', by omega, h7⟩
                          · rintro ⟨f', m, p', h6, h7⟩
                            refine ⟨f', m, p', ?_, h7⟩
                            have h8 := h7.2.1; have h9 := h7.2.2.1
                            omega
                  · rw [q1] at h4; exact absurd h4 m1_neg
                · rcases hr with ⟨q, q1, q2, q3, q4⟩ | ⟨q1, q2⟩
                  · rw [q2] at h4; exact absurd (nI_pos' (by omega)) h4
                  · refine r_goto (tgt := 176) C d_X_weigh_137 (by decide) ?_
                    refine done_ b' m0 _ _ (fun m' q h5 h6 h7 h8 => ?_) hb'
                    obtain ⟨v2, q', k3, k4, k5, k6⟩ := nAt_pre m' (m0 + 1) _ (by omega) h8
                    exact q2 q' k3 ⟨nAt_det hT.2.2.2 m0 _ _ k6 hA, k5⟩
          refine r_iconst (v := -1) C d_X_weigh_98 (by decide) ?_
          refine r_istore (L' := [(0, _), (1, _), (2, _), (3, _), (4, _), (5, _)]) C d_X_weigh_99 (by decide) rfl ?_
          refine r_iload C d_X_weigh_101 rfl ?_
          refine r_istore (L' := [(0, _), (1, _), (2, _), (3, _), (4, _), (5, _), (6, _)]) C d_X_weigh_103 (by decide) rfl ?_
          have h11 := inner (ln + 3) 0 i b (by omega) (by omega) rfl (fun j hj => Best_cg (fun w => ?_) (hb j hj))
          rotate_left
          · constructor
            · rintro ⟨f', m, p, h6, h7⟩; exact ⟨f', m, p, Or.inl h6, h7⟩
            · rintro ⟨f', m, p, h6, h7⟩
              have := h7.1.1
              exact ⟨f', m, p, by omega, h7⟩
          rw [cl_r (by omega)] at h11
          exact h11
    refine r_iconst (v := 0) C d_X_weigh_84 (by decide) ?_
    refine r_istore (L' := [(0, _), (1, _), (2, _), (3, _), (4, _)]) C d_X_weigh_85 (by decide) rfl ?_
    refine outer (ln + 3) 0 b (by omega) (by omega) (fun j hj => ?_) _ rfl
    rw [hb j hj]
    refine ⟨Or.inl rfl, fun w hw => ?_, Int32.le_refl _⟩
    obtain ⟨f', m, p, h6, -⟩ := hw
    omega
  · have hfe : f < ne := nI_lt_of (by omega) h1
    have hx := hf3 hfe
    have exl : ∀ (t k : Nat) (b' : Nat → Int32), k ≤ ln + 1 → ln + 1 < k + t → (∀ j, j < k → b' (j + 1) = (c 12 f >>> (nI j &&& 31)) &&& 1) → Wg Z (pX E A ad n g (setA c 14 b') lg lc) 48 [(0, .ref (ad 0)), (1, .int (nI i)), (2, .ref (ad (gO i))), (3, .int (nI f)), (4, .int (nI k))] [] := by
      intro t
      induction t with
      | zero => intro k b' h1 h2; omega
      | succ t ih =>
        intro k b' hk ht hb'
        refine r_iload C d_X_weigh_48 rfl ?_
        refine r_aload_n C d_X_weigh_50 rfl ?_
        refine rX_g131 C rfl vI d_X_weigh_51 ?_
        rw [hg5]
        refine r_icmp_gt (tgt := 83) C d_X_weigh_54 (by decide) (fun h2 => ?_) (fun h2 => ?_)
        · have hkl : ln < k := (nI_ltI (by omega) (by omega)).mp h2
          refine R _ _ _ b' d_X_weigh_83 vI (fun j hj => Or.inl ⟨f, hfe, hx, hf2, hb' j (by omega)⟩)
        · have hkl : k ≤ ln := by
            rcases Nat.lt_or_ge ln k with q | q
            · exact absurd (nI_lt q (by omega)) h2
            · exact q
          refine r_aload_n C d_X_weigh_57 rfl ?_
          refine rX_g56 C rfl vI d_X_weigh_58 ?_
          refine r_iload C d_X_weigh_61 rfl ?_
          refine r_iconst (v := 1) C d_X_weigh_63 (by decide) ?_
          refine r_iadd C d_X_weigh_64 ?_
          refine r_aload_n C d_X_weigh_65 rfl ?_
          refine rX_g50 C rfl vI d_X_weigh_66 ?_
          refine r_iload_n C d_X_weigh_69 rfl ?_
          refine rX_iald C vI rfl rfl (by show _ < 40; omega) rfl d_X_weigh_70 ?_
          refine r_iload C d_X_weigh_71 rfl ?_
          refine r_ishr C d_X_weigh_73 ?_
          refine r_iconst (v := 1) C d_X_weigh_74 (by decide) ?_
          refine r_iand C d_X_weigh_75 ?_
          refine rX_iast C vI rfl (nI_1 k) (by show _ < 33; omega) setA_setA d_X_weigh_76 ?_
          refine r_iinc (L' := [(0, _), (1, _), (2, _), (3, _), (4, _)]) C d_X_weigh_77 rfl (nI_inc _) (by decide) rfl ?_
          refine r_goto (tgt := 48) C d_X_weigh_80 (by decide) ?_
          refine ih (k + 1) _ (by omega) (by omega) (fun j hj => ?_)
          by_cases e : j = k
          · subst e; rw [pk_us]; rfl
          · have : j + 1 ≠ k + 1 := by omega
            rw [pk_un this]; exact hb' j (by omega)
    refine r_iconst (v := 0) C d_X_weigh_45 (by decide) ?_
    refine r_istore (L' := [(0, _), (1, _), (2, _), (3, _), (4, _)]) C d_X_weigh_46 (by decide) rfl ?_
    exact exl (ln + 2) 0 b (by omega) (by omega) (fun j hj => by omega)
end S20
end
section
-- run, digit of X
/-- the places found, t steps from lo on -/
def rnF (od : Nat → Bool) (lo : Nat) : Nat → Nat × (Nat → Int32) → Nat × (Nat → Int32)
  | 0, s => s
  | t + 1, s => if od (lo + t) = true then ((rnF od lo t s).1 + 1, upd (rnF od lo t s).2 (rnF od lo t s).1 (nI (lo + t))) else rnF od lo t s
theorem rnF_le {od : Nat → Bool} {lo : Nat} {s : Nat × (Nat → Int32)} : ∀ t, (rnF od lo t s).1 ≤ s.1 + t
  | 0 => Nat.le_refl _
  | t + 1 => by
    have := rnF_le (od := od) (lo := lo) (s := s) t
    by_cases h : od (lo + t) = true
    · simp only [rnF, h, if_true]; omega
    · simp only [rnF, h]; exact Nat.le_trans this (by omega)
theorem rnF_cg {od od' : Nat → Bool} {lo : Nat} {s : Nat × (Nat → Int32)} : ∀ t, (∀ j, j < t → od (lo + j) = od' (lo + j)) → rnF od lo t s = rnF od' lo t s
  | 0, _ => rfl
  | t + 1, h => by
    have e := rnF_cg (s := s) t (fun j hj => h j (by omega))
    simp only [rnF, e, h t (by omega)]
theorem mx1 {a : Nat} (h : a ≤ 20) : (if nI a < 1 then (1 : Int32) else nI a) = nI (max a 1) := by
  have : ∀ a, a < 21 → (if nI a < 1 then (1 : Int32) else nI a) = nI (max a 1) := by decide +kernel
  exact this a (by omega)
theorem sub_lt {a b k : Nat} (ha : a < 2 ^ 30) (hb : b < 2 ^ 30) (hk : k < 2 ^ 30) : nI a - nI b < nI k ↔ a < k + b := by
  rw [Int32.lt_iff_toInt_lt, pk_sub_toInt ha hb, nI_toInt (by omega)]
  omega
def odd_ (v : Int32) : Bool := decide (¬ v &&& 1 = 0)
/-- what 'run' finds -/
def rnP (ln a b : Nat) (stop : Prop) (V : Nat → Int32 → Prop) (f0 : Nat → Int32) (fc : Nat) (fd : Nat → Int32) : Prop :=
  (stop ∧ fc = 0 ∧ fd = f0) ∨ (¬ stop ∧ ∃ vf : Nat → Int32, (∀ k, max a 1 ≤ k → k < max a 1 + (ln + 1 - (max a 1 + max b 1)) → V k (vf k)) ∧ (fc, fd) = rnF (fun k => odd_ (vf k)) (max a 1) (ln + 1 - (max a 1 + max b 1)) (0, f0))
def stpX (ln i : Nat) (wv : Nat → Int32) (lg : Nat → Nat → Int32) (lc : Nat → Nat → Nat → Int32) : Prop := ln = 0 ∨ ¬ spelled (lc i 0) wv ln ∨ (¬ lg i 2 = 0 ∧ ¬ lc i 1 (wv 0).toNatClampNeg = 0)
/-- the value at k by X's arrays, with the edged word e -/
def vaX (nc np ln ne i : Nat) (pr : Nat → Nat) (c : Nat → Nat → Int32) (e : Nat → Int32) : Nat → Int32 → Prop := dgV ne (isEx (c 9) (c 11) (c 10) ln e (nI i)) (c 12) (SXd nc np ln pr (c 1) (c 4) e (c 5) i (fun _ _ => True))
def ruX (n nc np ln ne : Nat) (pr : Nat → Nat) (g : Nat → Int32) (c lg : Nat → Nat → Int32) (lc : Nat → Nat → Nat → Int32) (x : Int32) (r : Int32) (u : gcS) : Prop :=
  (¬ isIn n x ∧ r = -1 ∧ u = (g, c)) ∨ ∃ (i a b fc : Nat) (e bt fd : Nat → Int32), i < n ∧ x = nI i ∧ lg i 0 = nI a ∧ a ≤ 20 ∧ lg i 1 = nI b ∧ b ≤ 20 ∧ r = nI fc ∧ fc ≤ 30 ∧ (¬ stpX ln i (c 8) lg lc → Edg (lc i 0) (c 8) ln e) ∧ rnP ln a b (stpX ln i (c 8) lg lc) (vaX nc np ln ne i pr c e) (c 15) fc fd ∧ u = (upd g 7 (nI fc), setA (setA (setA c 13 e) 14 bt) 15 fd)
def diX (n nc np ln ne : Nat) (pr : Nat → Nat) (g : Nat → Int32) (c : Nat → Nat → Int32) (lc : Nat → Nat → Nat → Int32) (x y : Int32) (r : Int32) (u : gcS) : Prop :=
  (¬ (isIn n x ∧ isIn (ln + 1) y) ∧ r = -1 ∧ u = (g, c)) ∨ ∃ (i k : Nat) (e bt : Nat → Int32), i < n ∧ k ≤ ln ∧ x = nI i ∧ y = nI k ∧ u = (g, setA (setA c 13 e) 14 bt) ∧ ((¬ spelled (lc i 0) (c 8) ln ∧ r = 0) ∨ (spelled (lc i 0) (c 8) ln ∧ Edg (lc i 0) (c 8) ln e ∧ vaX nc np ln ne i pr c e k r))
section S21
variable {l : Launch} {E : eE} {A A' : Nat → Prop} {ad : Nat → Nat} {n : Nat} {g : Nat → Int32} {c lg : Nat → Nat → Int32} {lc : Nat → Nat → Nat → Int32}
set_option maxHeartbeats 4000000 in
theorem cX_run {nc np ln ne : Nat} {pr : Nat → Nat} (x : Int32) (hg0 : g 0 = nI n) (hn : n ≤ 4) (hg5 : g 5 = nI ln) (hl : ln ≤ 30) (hg6 : g 6 = nI ne) (hne : ne ≤ 40) (hc : nc ≤ 900) (hnp : np ≤ 150) (hT : Tri n nc (fun j => lg j 3) (c 1) (c 2) (c 3) pr) (hpo : ∀ q, q < nc → c 4 q = -1 ∨ ∃ p, p < np ∧ c 4 q = nI p) (hdep : ∀ i q w m, i < n → q < nc → ¬ c 4 q = -1 → nAt nc pr (c 1) i w m (4 + q) → m ≤ 12) (hdg : ∀ j, j < 1950 → isIn 10 (c 5 j)) (hw : ∀ k, k < ln → isIn 256 (c 8 k)) (hlr : ∀ i, i < n → isIn 21 (lg i 0) ∧ isIn 21 (lg i 1)) : mW l E mX_run A [.ref (ad 0), .int x] (pX E A ad n g c lg lc) (ruX n nc np ln ne pr g c lg lc x) (fun u => pX E A ad n u.1 u.2 lg lc) := by
  refine metW (by decide) rfl (Nat.le_of_ble_eq_true rfl) (catOK rfl) (fun Z hZ C R => ?_)
  show Wg Z _ 0 [(0, _), (1, _)] []
  refine r_aload_n C d_X_run_0 rfl ?_
  refine r_iload_n C d_X_run_1 rfl ?_
  refine r_callR C (cX_isLanguage x hg0 hn) cV_67_X ⟨by decide, by decide⟩ ⟨rfl, rfl⟩ vI (fun s H => pX_recv) rfl rfl (Nat.le_of_ble_eq_true rfl) d_X_run_2 (fun r1 hr1 => ?_)
  refine r_if_ne (tgt := 10) C d_X_run_5 (by decide) (fun h1 => ?_) (fun h1 => ?_)
  · obtain ⟨i, hi, rfl⟩ := yn_1 hr1 h1
    obtain ⟨⟨a, ha, ea⟩, ⟨b, hb, eb⟩⟩ := hlr i hi
    have stop : ∀ (e : Nat → Int32), stpX ln i (c 8) lg lc → Wg Z (pX E A ad n (upd g 7 0) (setA c 13 e) lg lc) 58 [(0, .ref (ad 0)), (1, .int (nI i)), (2, .ref (ad (gO i)))] [] := by
      intro e hs
      refine r_iconst (v := 0) C d_X_run_58 (by decide) ?_
      refine R _ _ _ _ (upd g 7 0, setA c 13 e) d_X_run_59 rfl vI (Or.inr ⟨i, a, b, 0, e, c 14, c 15, hi, rfl, ea, by omega, eb, by omega, rfl, by omega, fun h => absurd hs h, Or.inl ⟨hs, rfl, rfl⟩, ?_⟩)
      rw [show setA (setA c 13 e) 14 (c 14) = setA c 13 e from setA_self (c := setA c 13 e), show setA (setA c 13 e) 15 (c 15) = setA c 13 e from setA_self (c := setA c 13 e)]
      rfl
    refine r_aload_n C d_X_run_10 rfl ?_
    refine rX_g11 C rfl vI d_X_run_11 ?_
    refine r_iload_n C d_X_run_14 rfl ?_
    refine rX_aald C vI rfl hi hn d_X_run_15 ?_
    refine r_astore_n (L' := [(0, _), (1, _), (2, _)]) C d_X_run_16 (by decide) rfl ?_
    refine r_aload_n C d_X_run_17 rfl ?_
    refine r_iconst (v := 0) C d_X_run_18 (by decide) ?_
    refine rX_p159 C rfl vI d_X_run_19 ?_
    refine r_aload_n C d_X_run_22 rfl ?_
    refine rX_g131 C rfl vI d_X_run_23 ?_
    refine r_tope (nI ln) hg5 ?_
    refine r_if_eq (tgt := 58) C d_X_run_26 (by decide) (fun h2 => ?_) (fun h2 => ?_)
    · have h3 : ln = 0 := (nI_eq (by omega) (by omega)).mp (show nI ln = nI 0 from h2)
      have h4 := stop (c 13) (Or.inl h3)
      rw [setA_self] at h4
      exact h4
    · have h3 : 0 < ln := by
        rcases Nat.eq_zero_or_pos ln with q | q
        · exact absurd (by rw [q]; rfl) h2
        · exact q
      refine r_aload_n C d_X_run_29 rfl ?_
      refine r_aload_n C d_X_run_30 rfl ?_
      refine r_callW C (cX_spell (g := upd g 7 0) hi hg5 hl hw) cV_141_X ⟨by decide, by decide⟩ ⟨rfl, rfl⟩ vI (fun s H => pX_recv) rfl rfl (Nat.le_of_ble_eq_true rfl) d_X_run_31 (fun r2 e hs => ?_)
      refine r_if_eq (tgt := 58) C d_X_run_34 (by decide) (fun h4 => ?_) (fun h4 => ?_)
      · rcases hs with ⟨q, -⟩ | ⟨-, hs⟩
        · rw [q] at h4; exact absurd h4 (by decide)
        · exact stop e (Or.inr (Or.inl hs))
      · rcases hs with ⟨-, hsp, hed⟩ | ⟨q, -⟩
        rotate_left
        · exact absurd q h4
        obtain ⟨w, hw1, hw2⟩ := hw 0 h3
        have hcap : (c 8 0).toNatClampNeg = w := by rw [hw2]; exact nI_clamp (by omega)
        have go : ¬ stpX ln i (c 8) lg lc → Wg Z (pX E A ad n (upd g 7 0) (setA c 13 e) lg lc) 60 [(0, .ref (ad 0)), (1, .int (nI i)), (2, .ref (ad (gO i)))] [] := by
          intro hns
          refine r_aload_n C d_X_run_60 rfl ?_
          refine r_iload_n C d_X_run_61 rfl ?_
          refine r_callV C (cX_weigh (g := upd g 7 0) (c := setA c 13 e) hi hn hg5 hl hg6 hne hc hnp hT hpo (fun q w m => hdep i q w m hi) hdg) cV_162_X ⟨by decide, by decide⟩ ⟨rfl, rfl⟩ vI (fun s H => pX_recv) rfl rfl (Nat.le_of_ble_eq_true rfl) d_X_run_62 (fun bt hbt => ?_)
          refine r_aload_n C d_X_run_65 rfl ?_
          refine rG_g81 C rfl vI hi d_X_run_66 ?_
          refine r_iconst (v := 1) C d_X_run_69 (by decide) ?_
          refine r_max C q_max1 q_max2 q_4 q_max4 (by decide) (Nat.le_of_ble_eq_true rfl) d_X_run_70 ?_
          refine r_tope (nI (max a 1)) (by rw [ea]; exact mx1 (by omega)) ?_
          refine r_istore_n (L' := [(0, _), (1, _), (2, _), (3, _)]) C d_X_run_73 (by decide) rfl ?_
          have hvf : ∀ k, max a 1 ≤ k → k < max a 1 + (ln + 1 - (max a 1 + max b 1)) → vaX nc np ln ne i pr c e k (bt (k + 1)) := fun k _ hk => hbt k (by omega)
          have loop : ∀ (m t : Nat), t ≤ ln + 1 - (max a 1 + max b 1) → ln + 1 - (max a 1 + max b 1) < t + m → Wg Z (pX E A ad n (upd g 7 (nI (rnF (fun k => odd_ (bt (k + 1))) (max a 1) t (0, c 15)).1)) (setA (setA (setA c 13 e) 14 bt) 15 (rnF (fun k => odd_ (bt (k + 1))) (max a 1) t (0, c 15)).2) lg lc) 74 [(0, .ref (ad 0)), (1, .int (nI i)), (2, .ref (ad (gO i))), (3, .int (nI (max a 1 + t)))] [] := by
            intro m
            induction m with
            | zero => intro t h1 h2; omega
            | succ m ih =>
              intro t ht hm
              have hfc := rnF_le (od := fun k => odd_ (bt (k + 1))) (lo := max a 1) (s := (0, c 15)) t
              simp only [Nat.zero_add] at hfc
              refine r_iload_n C d_X_run_74 rfl ?_
              refine r_aload_n C d_X_run_75 rfl ?_
              refine rX_g131 C rfl vI d_X_run_76 ?_
              refine r_aload_n C d_X_run_79 rfl ?_
              refine rG_g84 C rfl vI hi d_X_run_80 ?_
              refine r_iconst (v := 1) C d_X_run_83 (by decide) ?_
              refine r_max C q_max1 q_max2 q_4 q_max4 (by decide) (Nat.le_of_ble_eq_true rfl) d_X_run_84 ?_
              refine r_tope (nI (max b 1)) (by rw [eb]; exact mx1 (by omega)) ?_
              refine r_isub C d_X_run_87 ?_
              refine r_tope (nI ln - nI (max b 1)) (congrArg (fun z => z - nI (max b 1)) hg5) ?_
              refine r_icmp_gt (tgt := 133) C d_X_run_88 (by decide) (fun h5 => ?_) (fun h5 => ?_)
              · have h6 := (sub_lt (by omega) (by omega) (by omega)).mp h5
                have : t = ln + 1 - (max a 1 + max b 1) := by omega
                subst this
                refine r_aload_n C d_X_run_133 rfl ?_
                refine rX_g159 C rfl vI d_X_run_134 ?_
                refine R _ _ _ _ _ d_X_run_137 rfl vI (Or.inr ⟨i, a, b, _, e, bt, _, hi, rfl, ea, by omega, eb, by omega, rfl, by omega, fun _ => hed, Or.inr ⟨hns, fun k => bt (k + 1), hvf, rfl⟩, rfl⟩)
              · have h6 : max a 1 + t + max b 1 ≤ ln := by
                  rcases Nat.lt_or_ge ln (max a 1 + t + max b 1) with q | q
                  · exact absurd ((sub_lt (by omega) (by omega) (by omega)).mpr q) h5
                  · exact q
                have J127 : Wg Z (pX E A ad n (upd g 7 (nI (rnF (fun k => odd_ (bt (k + 1))) (max a 1) (t + 1) (0, c 15)).1)) (setA (setA (setA c 13 e) 14 bt) 15 (rnF (fun k => odd_ (bt (k + 1))) (max a 1) (t + 1) (0, c 15)).2) lg lc) 127 [(0, .ref (ad 0)), (1, .int (nI i)), (2, .ref (ad (gO i))), (3, .int (nI (max a 1 + t)))] [] := by
                  refine r_iinc (L' := [(0, _), (1, _), (2, _), (3, _)]) C d_X_run_127 rfl (nI_inc _) (by decide) rfl ?_
                  refine r_goto (tgt := 74) C d_X_run_130 (by decide) ?_
                  exact ih (t + 1) (by omega) (by omega)
                refine r_aload_n C d_X_run_91 rfl ?_
                refine rX_g56 C rfl vI d_X_run_92 ?_
                refine r_iload_n C d_X_run_95 rfl ?_
                refine r_iconst (v := 1) C d_X_run_96 (by decide) ?_
                refine r_iadd C d_X_run_97 ?_
                refine rX_iald C vI rfl (nI_1 _) (by show _ < 33; omega) rfl d_X_run_98 ?_
                refine r_iconst (v := 1) C d_X_run_99 (by decide) ?_
                refine r_iand C d_X_run_100 ?_
                refine r_if_ne (tgt := 107) C d_X_run_101 (by decide) (fun h7 => ?_) (fun h7 => ?_)
                · have ho : odd_ (bt (max a 1 + t + 1)) = true := decide_eq_true h7
                  simp only [rnF, ho, if_true] at J127
                  refine r_aload_n C d_X_run_107 rfl ?_
                  refine rX_g59 C rfl vI d_X_run_108 ?_
                  refine r_aload_n C d_X_run_111 rfl ?_
                  refine rX_g159 C rfl vI d_X_run_112 ?_
                  refine r_iload_n C d_X_run_115 rfl ?_
                  refine rX_iast C vI rfl rfl (by show _ < 30; omega) setA_setA d_X_run_116 ?_
                  refine r_aload_n C d_X_run_117 rfl ?_
                  refine r_dup C d_X_run_118 rfl ?_
                  refine rX_g159 C rfl vI d_X_run_119 ?_
                  refine r_iconst (v := 1) C d_X_run_122 (by decide) ?_
                  refine r_iadd C d_X_run_123 ?_
                  refine r_tope _ (nI_1 _) ?_
                  refine rX_p159 C rfl vI d_X_run_124 ?_
                  rw [upd_upd]
                  exact J127
                · have ho : ¬ odd_ (bt (max a 1 + t + 1)) = true := by
                    unfold odd_
                    rw [decide_eq_true_iff]
                    exact fun h => h h7
                  simp only [rnF, ho, if_false] at J127
                  refine r_goto (tgt := 127) C d_X_run_104 (by decide) ?_
                  exact J127
          have h11 := loop (ln + 2) 0 (by omega) (by omega)
          rw [show setA (setA (setA c 13 e) 14 bt) 15 (rnF (fun k => odd_ (bt (k + 1))) (max a 1) 0 (0, c 15)).2 = setA (setA c 13 e) 14 bt from setA_self (c := setA (setA c 13 e) 14 bt)] at h11
          exact h11
        refine r_aload_n C d_X_run_37 rfl ?_
        refine rG_g87 C rfl vI hi d_X_run_38 ?_
        refine r_if_eq (tgt := 60) C d_X_run_41 (by decide) (fun h5 => ?_) (fun h5 => ?_)
        · refine go ?_
          rintro (h | h | h)
          · omega
          · exact h hsp
          · exact h.1 h5
        · refine r_aload_n C d_X_run_44 rfl ?_
          refine rG_g77 C rfl vI hi d_X_run_45 ?_
          refine r_aload_n C d_X_run_48 rfl ?_
          refine rX_g38 C rfl vI d_X_run_49 ?_
          refine r_iconst (v := 0) C d_X_run_52 (by decide) ?_
          refine rX_iald C vI rfl (show (0 : Int32) = nI 0 from rfl) (by show _ < 30; omega) rfl d_X_run_53 ?_
          refine rG_zald C vI hi hw2 hw1 rfl d_X_run_54 ?_
          refine r_if_eq (tgt := 60) C d_X_run_55 (by decide) (fun h6 => ?_) (fun h6 => ?_)
          · refine go ?_
            rintro (h | h | h)
            · omega
            · exact h hsp
            · rw [hcap] at h; exact h.2 h6
          · refine stop e (Or.inr (Or.inr ⟨h5, ?_⟩))
            rw [hcap]; exact h6
  · refine r_iconst (v := -1) C d_X_run_8 (by decide) ?_
    exact R _ _ _ _ _ d_X_run_9 rfl vI (Or.inl ⟨yn_0 hr1 h1, rfl, rfl⟩)
set_option maxHeartbeats 4000000 in
theorem cX_digit {nc np ln ne : Nat} {pr : Nat → Nat} (x y : Int32) (hg0 : g 0 = nI n) (hn : n ≤ 4) (hg5 : g 5 = nI ln) (hl : ln ≤ 30) (hg6 : g 6 = nI ne) (hne : ne ≤ 40) (hc : nc ≤ 900) (hnp : np ≤ 150) (hT : Tri n nc (fun j => lg j 3) (c 1) (c 2) (c 3) pr) (hpo : ∀ q, q < nc → c 4 q = -1 ∨ ∃ p, p < np ∧ c 4 q = nI p) (hdep : ∀ i q w m, i < n → q < nc → ¬ c 4 q = -1 → nAt nc pr (c 1) i w m (4 + q) → m ≤ 12) (hdg : ∀ j, j < 1950 → isIn 10 (c 5 j)) (hw : ∀ k, k < ln → isIn 256 (c 8 k)) : mW l E mX_digit A [.ref (ad 0), .int x, .int y] (pX E A ad n g c lg lc) (diX n nc np ln ne pr g c lc x y) (fun u => pX E A ad n u.1 u.2 lg lc) := by
  refine metW (by decide) rfl (Nat.le_of_ble_eq_true rfl) (catOK rfl) (fun Z hZ C R => ?_)
  show Wg Z _ 0 [(0, _), (1, _), (2, _)] []
  refine r_aload_n C d_X_digit_0 rfl ?_
  refine r_iload_n C d_X_digit_1 rfl ?_
  refine r_callR C (cX_isLanguage x hg0 hn) cV_67_X ⟨by decide, by decide⟩ ⟨rfl, rfl⟩ vI (fun s H => pX_recv) rfl rfl (Nat.le_of_ble_eq_true rfl) d_X_digit_2 (fun r1 hr1 => ?_)
  refine r_if_eq (tgt := 20) C d_X_digit_5 (by decide) (fun h1 => ?_) (fun h1 => ?_)
  · refine r_iconst (v := -1) C d_X_digit_20 (by decide) ?_
    exact R _ _ _ _ _ d_X_digit_21 rfl vI (Or.inl ⟨fun h => yn_0 hr1 h1 h.1, rfl, rfl⟩)
  · refine r_iload_n C d_X_digit_8 rfl ?_
    refine r_if_lt (tgt := 20) C d_X_digit_9 (by decide) (fun h2 => ?_) (fun h2 => ?_)
    · refine r_iconst (v := -1) C d_X_digit_20 (by decide) ?_
      exact R _ _ _ _ _ d_X_digit_21 rfl vI (Or.inl ⟨fun h => Int32.not_lt.mpr ((isIn_le (by omega)).mp h.2).1 h2, rfl, rfl⟩)
    · refine r_iload_n C d_X_digit_12 rfl ?_
      refine r_aload_n C d_X_digit_13 rfl ?_
      refine rX_g131 C rfl vI d_X_digit_14 ?_
      rw [hg5]
      refine r_icmp_le (tgt := 22) C d_X_digit_17 (by decide) (fun h3 => ?_) (fun h3 => ?_)
      · obtain ⟨i, hi, rfl⟩ := yn_1 hr1 h1
        obtain ⟨k, hk, rfl⟩ := (isIn_le (B := ln) (by omega)).mpr ⟨Int32.not_lt.mp h2, h3⟩
        refine r_aload_n C d_X_digit_22 rfl ?_
        refine r_aload_n C d_X_digit_23 rfl ?_
        refine rX_g11 C rfl vI d_X_digit_24 ?_
        refine r_iload_n C d_X_digit_27 rfl ?_
        refine rX_aald C vI rfl hi hn d_X_digit_28 ?_
        refine r_callW C (cX_spell hi hg5 hl hw) cV_141_X ⟨by decide, by decide⟩ ⟨rfl, rfl⟩ vI (fun s H => pX_recv) rfl rfl (Nat.le_of_ble_eq_true rfl) d_X_digit_29 (fun r2 e hs => ?_)
        refine r_if_ne (tgt := 37) C d_X_digit_32 (by decide) (fun h4 => ?_) (fun h4 => ?_)
        · rcases hs with ⟨-, hsp, hed⟩ | ⟨q, -⟩
          rotate_left
          · exact absurd q h4
          refine r_aload_n C d_X_digit_37 rfl ?_
          refine r_iload_n C d_X_digit_38 rfl ?_
          refine r_callV C (cX_weigh (c := setA c 13 e) hi hn hg5 hl hg6 hne hc hnp hT hpo (fun q w m => hdep i q w m hi) hdg) cV_162_X ⟨by decide, by decide⟩ ⟨rfl, rfl⟩ vI (fun s H => pX_recv) rfl rfl (Nat.le_of_ble_eq_true rfl) d_X_digit_39 (fun bt hbt => ?_)
          refine r_aload_n C d_X_digit_42 rfl ?_
          refine rX_g56 C rfl vI d_X_digit_43 ?_
          refine r_iload_n C d_X_digit_46 rfl ?_
          refine r_iconst (v := 1) C d_X_digit_47 (by decide) ?_
          refine r_iadd C d_X_digit_48 ?_
          refine rX_iald C vI rfl (nI_1 k) (by show _ < 33; omega) rfl d_X_digit_49 ?_
          exact R _ _ _ _ _ d_X_digit_50 rfl vI (Or.inr ⟨i, k, e, bt, hi, by omega, rfl, rfl, rfl, Or.inr ⟨hsp, hed, hbt k (by omega)⟩⟩)
        · rcases hs with ⟨q, -⟩ | ⟨-, hs⟩
          · rw [q] at h4; exact absurd h4 (by decide)
          refine r_iconst (v := 0) C d_X_digit_35 (by decide) ?_
          refine R _ _ _ _ (g, setA c 13 e) d_X_digit_36 rfl vI (Or.inr ⟨i, k, e, c 14, hi, by omega, rfl, rfl, ?_, Or.inl ⟨hs, rfl⟩⟩)
          rw [show setA (setA c 13 e) 14 (c 14) = setA c 13 e from setA_self (c := setA c 13 e)]
      · refine r_iconst (v := -1) C d_X_digit_20 (by decide) ?_
        exact R _ _ _ _ _ d_X_digit_21 rfl vI (Or.inl ⟨fun h => h3 ((isIn_le (by omega)).mp h.2).2, rfl, rfl⟩)
end S21
end
section
-- isSame, pattern of M
def isSm (ow sz rw row : Nat → Int32) (rl : Nat) (x : Int32) (p : Nat) : Prop := ow p = x ∧ sz p = nI rl ∧ ∀ k, k < rl → rw (12 * p + k) = row k
/-- what 'pattern' does -/
def paM (n np us rl : Nat) (g : Nat → Int32) (c : Nat → Nat → Int32) (x y : Int32) (r : Int32) (u : gcS) : Prop :=
  (¬ (isIn n x ∧ isIn 10 y) ∧ r = -1 ∧ u = (g, c)) ∨ ∃ i, i < n ∧ x = nI i ∧ isIn 10 y ∧
    ((¬ isPat (c 6) rl ∧ r = -3 ∧ u = (upd g 1 0, setA c 7 (upd (c 7) rl y))) ∨
     (isPat (c 6) rl ∧ ∃ f, f ≤ np ∧ (∀ j, j < f → ¬ isSm (c 8) (c 9) (c 10) (c 6) rl x j) ∧ (f < np → isSm (c 8) (c 9) (c 10) (c 6) rl x f) ∧
       ((f < np ∧ r = nI f ∧ u = (upd g 1 0, setA (setA c 7 (upd (c 7) rl y)) 11 (dgs (c 11) f rl (c 7) y))) ∨
        (f = np ∧ (np = 150 ∨ 900 < us + rl) ∧ r = -2 ∧ u = (upd g 1 0, setA c 7 (upd (c 7) rl y))) ∨
        (f = np ∧ np < 150 ∧ us + rl ≤ 900 ∧ r = nI np ∧ u = (upd (upd (upd g 1 0) 3 (nI (us + rl))) 2 (nI (np + 1)), setA (setA (setA (setA (setA c 7 (upd (c 7) rl y)) 8 (upd (c 8) np x)) 9 (upd (c 9) np (nI rl))) 10 (blit (c 10) (12 * np) rl (c 6))) 11 (dgs (c 11) np rl (c 7) y))))))
section S22
variable {l : Launch} {E : eE} {A A' : Nat → Prop} {ad : Nat → Nat} {n : Nat} {g : Nat → Int32} {c : Nat → Nat → Int32}
set_option maxHeartbeats 4000000 in
theorem cM_isSame (x : Int32) {p rl : Nat} (hp : p < 150) (hg : g 1 = nI rl) (hl : rl ≤ 12) : mR l E mM_isSame [.ref (ad 0), .int (nI p), .int x] (pM E A' ad g c) (yn (isSm (c 8) (c 9) (c 10) (c 6) rl x p)) := by
  refine metR (by decide) rfl (Nat.le_of_ble_eq_true rfl) (catOK rfl) (fun Z P hZ C V R => ?_)
  have loop : ∀ (m k : Nat) (s : Int32), k ≤ rl → rl < k + m → yn (c 8 p = x ∧ c 9 p = nI rl ∧ ∀ j, j < k → c 10 (12 * p + j) = c 6 j) s → Wg Z P 32 [(0, .ref (ad 0)), (1, .int (nI p)), (2, .int x), (3, .int s), (4, .int (nI k))] [] := by
    intro m
    induction m with
    | zero => intro k s h1 h2; omega
    | succ m ih =>
      intro k s hk hm q
      refine r_iload C d_M_isSame_32 rfl ?_
      refine r_aload_n C d_M_isSame_34 rfl ?_
      refine rM_g77 C rfl V d_M_isSame_35 ?_
      rw [hg]
      refine r_icmp_ge (tgt := 79) C d_M_isSame_38 (by decide) (fun h1 => ?_) (fun h1 => ?_)
      · have hkr : k = rl := nI_ge_eq (by omega) hk h1
        subst hkr
        refine r_iload_n C d_M_isSame_79 rfl ?_
        exact R _ _ _ d_M_isSame_80 (yn_nar q) q
      · have hkr : k < rl := nI_lt_of (by omega) h1
        refine r_iload_n C d_M_isSame_41 rfl ?_
        refine r_if_eq (tgt := 79) C d_M_isSame_42 (by decide) (fun h2 => ?_) (fun h2 => ?_)
        · refine r_iload_n C d_M_isSame_79 rfl ?_
          exact R _ _ _ d_M_isSame_80 (yn_nar q) (Or.inr ⟨h2, fun h => yn_0 q h2 ⟨h.1, h.2.1, fun j hj => h.2.2 j (by omega)⟩⟩)
        · have q' := yn_1 q h2
          have J72 : ∀ s' : Int32, yn (c 8 p = x ∧ c 9 p = nI rl ∧ ∀ j, j < k + 1 → c 10 (12 * p + j) = c 6 j) s' → Wg Z P 72 [(0, .ref (ad 0)), (1, .int (nI p)), (2, .int x), (3, .int s), (4, .int (nI k))] [.int s'] := by
            intro s' q3'
            refine r_istore_n (L' := [(0, _), (1, _), (2, _), (3, _), (4, _)]) C d_M_isSame_72 (by decide) rfl ?_
            refine r_iinc (L' := [(0, _), (1, _), (2, _), (3, _), (4, _)]) C d_M_isSame_73 rfl (nI_inc _) (by decide) rfl ?_
            refine r_goto (tgt := 32) C d_M_isSame_76 (by decide) ?_
            exact ih (k + 1) s' (by omega) (by omega) q3'
          refine r_aload_n C d_M_isSame_45 rfl ?_
          refine rM_g38 C rfl V d_M_isSame_46 ?_
          refine r_bipush (v := 12) C d_M_isSame_49 (by decide) ?_
          refine r_iload_n C d_M_isSame_51 rfl ?_
          refine r_imul C d_M_isSame_52 ?_
          refine r_iload C d_M_isSame_53 rfl ?_
          refine r_iadd C d_M_isSame_55 ?_
          refine rM_iald C V rfl (nI_ad _ _ (nI_mul 12 _ rfl rfl) rfl) (by show _ < 1800; omega) rfl d_M_isSame_56 ?_
          refine r_aload_n C d_M_isSame_57 rfl ?_
          refine rM_g26 C rfl V d_M_isSame_58 ?_
          refine r_iload C d_M_isSame_61 rfl ?_
          refine rM_iald C V rfl rfl (by show _ < 12; omega) rfl d_M_isSame_63 ?_
          refine r_icmp_ne (tgt := 71) C d_M_isSame_64 (by decide) (fun h3 => ?_) (fun h3 => ?_)
          · refine r_iconst (v := 0) C d_M_isSame_71 (by decide) ?_
            exact J72 0 (yn_f (fun h => h3 (al_s.mp h.2.2).2))
          · refine r_iconst (v := 1) C d_M_isSame_67 (by decide) ?_
            refine r_goto (tgt := 72) C d_M_isSame_68 (by decide) ?_
            exact J72 1 (yn_t ⟨q'.1, q'.2.1, al_s.mpr ⟨q'.2.2, h3⟩⟩)
  show Wg Z _ 0 [(0, _), (1, _), (2, _)] []
  refine r_aload_n C d_M_isSame_0 rfl ?_
  refine rM_g32 C rfl V d_M_isSame_1 ?_
  refine r_iload_n C d_M_isSame_4 rfl ?_
  refine rM_iald C V rfl rfl (by show _ < 150; omega) rfl d_M_isSame_5 ?_
  refine r_iload_n C d_M_isSame_6 rfl ?_
  refine r_icmp_ne (tgt := 27) C d_M_isSame_7 (by decide) (fun h1 => ?_) (fun h1 => ?_)
  · refine r_iconst (v := 0) C d_M_isSame_27 (by decide) ?_
    refine r_istore_n (L' := [(0, _), (1, _), (2, _), (3, _)]) C d_M_isSame_28 (by decide) rfl ?_
    refine r_iconst (v := 0) C d_M_isSame_29 (by decide) ?_
    refine r_istore (L' := [(0, _), (1, _), (2, _), (3, _), (4, _)]) C d_M_isSame_30 (by decide) rfl ?_
    exact loop (rl + 1) 0 0 (by omega) (by omega) (yn_f (fun h => h1 h.1))
  · refine r_aload_n C d_M_isSame_10 rfl ?_
    refine rM_g35 C rfl V d_M_isSame_11 ?_
    refine r_iload_n C d_M_isSame_14 rfl ?_
    refine rM_iald C V rfl rfl (by show _ < 150; omega) rfl d_M_isSame_15 ?_
    refine r_aload_n C d_M_isSame_16 rfl ?_
    refine rM_g77 C rfl V d_M_isSame_17 ?_
    rw [hg]
    refine r_icmp_ne (tgt := 27) C d_M_isSame_20 (by decide) (fun h2 => ?_) (fun h2 => ?_)
    · refine r_iconst (v := 0) C d_M_isSame_27 (by decide) ?_
      refine r_istore_n (L' := [(0, _), (1, _), (2, _), (3, _)]) C d_M_isSame_28 (by decide) rfl ?_
      refine r_iconst (v := 0) C d_M_isSame_29 (by decide) ?_
      refine r_istore (L' := [(0, _), (1, _), (2, _), (3, _), (4, _)]) C d_M_isSame_30 (by decide) rfl ?_
      exact loop (rl + 1) 0 0 (by omega) (by omega) (yn_f (fun h => h2 h.2.1))
    · refine r_iconst (v := 1) C d_M_isSame_23 (by decide) ?_
      refine r_goto (tgt := 28) C d_M_isSame_24 (by decide) ?_
      refine r_istore_n (L' := [(0, _), (1, _), (2, _), (3, _)]) C d_M_isSame_28 (by decide) rfl ?_
      refine r_iconst (v := 0) C d_M_isSame_29 (by decide) ?_
      refine r_istore (L' := [(0, _), (1, _), (2, _), (3, _), (4, _)]) C d_M_isSame_30 (by decide) rfl ?_
      exact loop (rl + 1) 0 1 (by omega) (by omega) (yn_t ⟨h1, h2, fun j hj => by omega⟩)
set_option maxHeartbeats 4000000 in
theorem cM_pattern {np us rl : Nat} (x y : Int32) (hg0 : g 0 = nI n) (hn : n ≤ 4) (hg1 : g 1 = nI rl) (hl : rl ≤ 12) (hg2 : g 2 = nI np) (hnp : np ≤ 150) (hg3 : g 3 = nI us) (hus : us ≤ 900) (hr : ∀ j, j < rl → isIn 31 (c 6 j)) : mW l E mM_pattern A [.ref (ad 0), .int x, .int y] (pM E A ad g c) (paM n np us rl g c x y) (fun u => pM E A ad u.1 u.2) := by
  refine metW (by decide) rfl (Nat.le_of_ble_eq_true rfl) (catOK rfl) (fun Z hZ C R => ?_)
  show Wg Z _ 0 [(0, _), (1, _), (2, _)] []
  refine r_aload_n C d_M_pattern_0 rfl ?_
  refine r_iload_n C d_M_pattern_1 rfl ?_
  refine r_callR C (cM_isLanguage x hg0 hn) cV_69_M ⟨by decide, by decide⟩ ⟨rfl, rfl⟩ vI (fun s H => pM_recv) rfl rfl (Nat.le_of_ble_eq_true rfl) d_M_pattern_2 (fun r1 hr1 => ?_)
  refine r_if_eq (tgt := 18) C d_M_pattern_5 (by decide) (fun h1 => ?_) (fun h1 => ?_)
  · refine r_iconst (v := -1) C d_M_pattern_18 (by decide) ?_
    exact R _ _ _ _ _ d_M_pattern_19 rfl vI (Or.inl ⟨fun h => yn_0 hr1 h1 h.1, rfl, rfl⟩)
  · refine r_iload_n C d_M_pattern_8 rfl ?_
    refine r_iconst (v := 0) C d_M_pattern_9 (by decide) ?_
    refine r_bipush (v := 9) C d_M_pattern_10 (by decide) ?_
    refine r_callS C (cM_in y 9 rfl (by decide)) cS_73_M ⟨by decide, by decide⟩ ⟨rfl, rfl⟩ rfl rfl (Nat.le_of_ble_eq_true rfl) d_M_pattern_12 (fun r2 hr2 => ?_)
    refine r_if_ne (tgt := 20) C d_M_pattern_15 (by decide) (fun h2 => ?_) (fun h2 => ?_)
    rotate_left
    · refine r_iconst (v := -1) C d_M_pattern_18 (by decide) ?_
      exact R _ _ _ _ _ d_M_pattern_19 rfl vI (Or.inl ⟨fun h => yn_0 hr2 h2 h.2, rfl, rfl⟩)
    have hy : isIn 10 y := yn_1 hr2 h2
    obtain ⟨i, hi, rfl⟩ := yn_1 hr1 h1
    have J185 : ∀ (g1 : Nat → Int32) (c1 : Nat → Nat → Int32) (f : Nat) (L : List (Nat × Value)), f < 150 → c1 7 = upd (c 7) rl y → paM n np us rl g c (nI i) y (nI f) (g1, setA c1 11 (dgs (c1 11) f rl (c 7) y)) → lv_pick L [0, 3, 4] = [(0, .ref (ad 0)), (3, .int (nI f)), (4, .int (nI rl))] → Wg Z (pM E A ad g1 c1) 185 L [] := by
      intro g1 c1 f L hf e7 hpost hL
      refine Wg.pick [0, 3, 4] hL ?_
      have loop : ∀ (m k : Nat), k ≤ rl + 1 → rl + 1 < k + m → Wg Z (pM E A ad g1 (setA c1 11 (blit (c1 11) (13 * f) k (upd (c 7) rl y)))) 188 [(0, .ref (ad 0)), (3, .int (nI f)), (4, .int (nI rl)), (6, .int (nI k))] [] := by
        intro m
        induction m with
        | zero => intro k h1 h2; omega
        | succ m ih =>
          intro k hk hm
          refine r_iload C d_M_pattern_188 rfl ?_
          refine r_iload C d_M_pattern_190 rfl ?_
          refine r_icmp_gt (tgt := 220) C d_M_pattern_192 (by decide) (fun h3 => ?_) (fun h3 => ?_)
          · have hkr : rl < k := (nI_ltI (by omega) (by omega)).mp h3
            have : k = rl + 1 := by omega
            subst this
            refine r_iload_n C d_M_pattern_220 rfl ?_
            exact R _ _ _ _ _ d_M_pattern_221 rfl vI hpost
          · have hkr : k ≤ rl := by
              rcases Nat.lt_or_ge rl k with q | q
              · exact absurd (nI_lt q (by omega)) h3
              · exact q
            have hw3 : c1 7 k = upd (c 7) rl y k := by rw [e7]
            refine r_aload_n C d_M_pattern_195 rfl ?_
            refine rM_g41 C rfl vI d_M_pattern_196 ?_
            refine r_bipush (v := 13) C d_M_pattern_199 (by decide) ?_
            refine r_iload_n C d_M_pattern_201 rfl ?_
            refine r_imul C d_M_pattern_202 ?_
            refine r_iload C d_M_pattern_203 rfl ?_
            refine r_iadd C d_M_pattern_205 ?_
            refine r_aload_n C d_M_pattern_206 rfl ?_
            refine rM_g29 C rfl vI d_M_pattern_207 ?_
            refine r_iload C d_M_pattern_210 rfl ?_
            refine rM_iald C vI rfl rfl (by show _ < 13; omega) hw3 d_M_pattern_212 ?_
            refine rM_iast C vI rfl (nI_ad _ _ (nI_mul 13 _ rfl rfl) rfl) (by show _ < 1950; omega) ((setA_setA).trans (congrArg _ (blit_s rfl))) d_M_pattern_213 ?_
            refine r_iinc (L' := [(0, _), (3, _), (4, _), (6, _)]) C d_M_pattern_214 rfl (nI_inc _) (by decide) rfl ?_
            refine r_goto (tgt := 188) C d_M_pattern_217 (by decide) ?_
            exact ih (k + 1) (by omega) (by omega)
      refine r_iconst (v := 0) C d_M_pattern_185 (by decide) ?_
      refine r_istore (L' := [(0, _), (3, _), (4, _), (6, _)]) C d_M_pattern_186 (by decide) rfl ?_
      have h10 := loop (rl + 2) 0 (by omega) (by omega)
      rw [blit_0, setA_self] at h10
      exact h10
    have J55 : ∀ f, f ≤ np → (∀ j, j < f → ¬ isSm (c 8) (c 9) (c 10) (c 6) rl (nI i) j) → (f < np → isSm (c 8) (c 9) (c 10) (c 6) rl (nI i) f) → Wg Z (pM E A ad g (setA c 7 (upd (c 7) rl y))) 55 [(0, .ref (ad 0)), (1, .int (nI i)), (2, .int y), (3, .int (nI f))] [] := by
      intro f hf1 hf2 hf3
      refine r_aload_n C d_M_pattern_55 rfl ?_
      refine rM_g77 C rfl vI d_M_pattern_56 ?_
      refine r_tope (nI rl) hg1 ?_
      refine r_istore (L' := [(0, _), (1, _), (2, _), (3, _), (4, _)]) C d_M_pattern_59 (by decide) rfl ?_
      refine r_aload_n C d_M_pattern_61 rfl ?_
      refine r_callR C (cM_isPattern (c := setA c 7 (upd (c 7) rl y)) hg1 hl hr) cV_87_M ⟨by decide, by decide⟩ ⟨rfl, rfl⟩ vI (fun s H => pM_recv) rfl rfl (Nat.le_of_ble_eq_true rfl) d_M_pattern_62 (fun r3 hr3 => ?_)
      refine r_istore (L' := [(0, _), (1, _), (2, _), (3, _), (4, _), (5, _)]) C d_M_pattern_65 (by decide) rfl ?_
      refine r_aload_n C d_M_pattern_67 rfl ?_
      refine r_iconst (v := 0) C d_M_pattern_68 (by decide) ?_
      refine rM_p77 C rfl vI d_M_pattern_69 ?_
      refine r_iload C d_M_pattern_72 rfl ?_
      refine r_if_ne (tgt := 80) C d_M_pattern_74 (by decide) (fun h3 => ?_) (fun h3 => ?_)
      · have hpat : isPat (c 6) rl := yn_1 hr3 h3
        have full : f = np → (np = 150 ∨ 900 < us + rl) → Wg Z (pM E A ad (upd g 1 0) (setA c 7 (upd (c 7) rl y))) 111 [(0, .ref (ad 0)), (1, .int (nI i)), (2, .int y), (3, .int (nI f)), (4, .int (nI rl)), (5, .int r3)] [] := by
          intro e1 e2
          refine r_bipush (v := -2) C d_M_pattern_111 (by decide) ?_
          exact R _ _ _ _ _ d_M_pattern_113 rfl vI (Or.inr ⟨i, hi, rfl, hy, Or.inr ⟨hpat, f, hf1, hf2, hf3, Or.inr (Or.inl ⟨e1, e2, rfl, rfl⟩)⟩⟩)
        refine r_iload_n C d_M_pattern_80 rfl ?_
        refine r_aload_n C d_M_pattern_81 rfl ?_
        refine rM_g80 C rfl vI d_M_pattern_82 ?_
        refine r_tope (nI np) hg2 ?_
        refine r_icmp_ne (tgt := 185) C d_M_pattern_85 (by decide) (fun h4 => ?_) (fun h4 => ?_)
        · have hlt : f < np := by
            rcases Nat.lt_or_ge f np with q | q
            · exact q
            · exact absurd (by rw [show f = np by omega]) h4
          exact J185 _ _ f _ (by omega) rfl (Or.inr ⟨i, hi, rfl, hy, Or.inr ⟨hpat, f, hf1, hf2, hf3, Or.inl ⟨hlt, rfl, rfl⟩⟩⟩) rfl
        · have hfe : f = np := (nI_eq (by omega) (by omega)).mp h4
          refine r_aload_n C d_M_pattern_88 rfl ?_
          refine rM_g80 C rfl vI d_M_pattern_89 ?_
          refine r_sipush (v := 150) C d_M_pattern_92 (by decide) ?_
          refine Wg.mono vI ?_
          refine r_icmp_eq (tgt := 111) C d_M_pattern_95 (by decide) (fun h5 => ?_) (fun h5 => ?_)
          · exact full hfe (Or.inl ((nI_eq (by omega) (by omega)).mp (show nI np = nI 150 from hg2.symm.trans h5)))
          · have hnp2 : np < 150 := by
              rcases Nat.lt_or_ge np 150 with q | q
              · exact q
              · exact absurd (show g 2 = 150 from hg2.trans (by rw [show np = 150 by omega]; rfl)) h5
            refine r_aload_n C d_M_pattern_98 rfl ?_
            refine rM_g91 C rfl vI d_M_pattern_99 ?_
            refine r_iload C d_M_pattern_102 rfl ?_
            refine r_iadd C d_M_pattern_104 ?_
            refine r_tope (nI (us + rl)) (nI_ad _ _ hg3 rfl) ?_
            refine r_sipush (v := 900) C d_M_pattern_105 (by decide) ?_
            refine r_icmp_le (tgt := 114) C d_M_pattern_108 (by decide) (fun h6 => ?_) (fun h6 => ?_)
            · have hur : us + rl ≤ 900 := (nI_leI (by omega) (by omega)).mp (show nI (us + rl) ≤ nI 900 from h6)
              subst hfe
              refine r_aload_n C d_M_pattern_114 rfl ?_
              refine rM_g32 C rfl vI d_M_pattern_115 ?_
              refine r_iload_n C d_M_pattern_118 rfl ?_
              refine r_iload_n C d_M_pattern_119 rfl ?_
              refine rM_iast C vI rfl rfl (by show _ < 150; omega) rfl d_M_pattern_120 ?_
              refine r_aload_n C d_M_pattern_121 rfl ?_
              refine rM_g35 C rfl vI d_M_pattern_122 ?_
              refine r_iload_n C d_M_pattern_125 rfl ?_
              refine r_iload C d_M_pattern_126 rfl ?_
              refine rM_iast C vI rfl rfl (by show _ < 150; omega) rfl d_M_pattern_128 ?_
              refine r_iconst (v := 0) C d_M_pattern_129 (by decide) ?_
              refine r_istore (L' := [(0, _), (1, _), (2, _), (3, _), (4, _), (5, _), (6, _)]) C d_M_pattern_130 (by decide) rfl ?_
              have loop : ∀ (m k : Nat), k ≤ rl → rl < k + m → Wg Z (pM E A ad (upd g 1 0) (setA (setA (setA (setA c 7 (upd (c 7) rl y)) 8 (upd (c 8) f (nI i))) 9 (upd (c 9) f (nI rl))) 10 (blit (c 10) (12 * f) k (c 6)))) 132 [(0, .ref (ad 0)), (1, .int (nI i)), (2, .int y), (3, .int (nI f)), (4, .int (nI rl)), (5, .int r3), (6, .int (nI k))] [] := by
                intro m
                induction m with
                | zero => intro k h1 h2; omega
                | succ m ih =>
                  intro k hk hm
                  refine r_iload C d_M_pattern_132 rfl ?_
                  refine r_iload C d_M_pattern_134 rfl ?_
                  refine r_icmp_ge (tgt := 164) C d_M_pattern_136 (by decide) (fun h7 => ?_) (fun h7 => ?_)
                  · have hkr : k = rl := nI_ge_eq (by omega) hk h7
                    subst hkr
                    refine r_aload_n C d_M_pattern_164 rfl ?_
                    refine r_dup C d_M_pattern_165 rfl ?_
                    refine rM_g91 C rfl vI d_M_pattern_166 ?_
                    refine r_iload C d_M_pattern_169 rfl ?_
                    refine r_iadd C d_M_pattern_171 ?_
                    refine r_tope (nI (us + k)) (nI_ad _ _ hg3 rfl) ?_
                    refine rM_p91 C rfl vI d_M_pattern_172 ?_
                    refine r_aload_n C d_M_pattern_175 rfl ?_
                    refine r_dup C d_M_pattern_176 rfl ?_
                    refine rM_g80 C rfl vI d_M_pattern_177 ?_
                    refine r_iconst (v := 1) C d_M_pattern_180 (by decide) ?_
                    refine r_iadd C d_M_pattern_181 ?_
                    refine r_tope (nI (f + 1)) (nI_ad _ 1 hg2 rfl) ?_
                    refine rM_p80 C rfl vI d_M_pattern_182 ?_
                    exact J185 _ _ f _ hnp2 rfl (Or.inr ⟨i, hi, rfl, hy, Or.inr ⟨hpat, f, hf1, hf2, hf3, Or.inr (Or.inr ⟨rfl, hnp2, hur, rfl, rfl⟩)⟩⟩) rfl
                  · have hkr : k < rl := nI_lt_of (by omega) h7
                    refine r_aload_n C d_M_pattern_139 rfl ?_
                    refine rM_g38 C rfl vI d_M_pattern_140 ?_
                    refine r_bipush (v := 12) C d_M_pattern_143 (by decide) ?_
                    refine r_iload_n C d_M_pattern_145 rfl ?_
                    refine r_imul C d_M_pattern_146 ?_
                    refine r_iload C d_M_pattern_147 rfl ?_
                    refine r_iadd C d_M_pattern_149 ?_
                    refine r_aload_n C d_M_pattern_150 rfl ?_
                    refine rM_g26 C rfl vI d_M_pattern_151 ?_
                    refine r_iload C d_M_pattern_154 rfl ?_
                    refine rM_iald C vI rfl rfl (by show _ < 12; omega) rfl d_M_pattern_156 ?_
                    refine rM_iast C vI rfl (nI_ad _ _ (nI_mul 12 _ rfl rfl) rfl) (by show _ < 1800; omega) ((setA_setA).trans (congrArg _ (blit_s rfl))) d_M_pattern_157 ?_
                    refine r_iinc (L' := [(0, _), (1, _), (2, _), (3, _), (4, _), (5, _), (6, _)]) C d_M_pattern_158 rfl (nI_inc _) (by decide) rfl ?_
                    refine r_goto (tgt := 132) C d_M_pattern_161 (by decide) ?_
                    exact ih (k + 1) (by omega) (by omega)
              have h10 := loop (rl + 1) 0 (by omega) (by omega)
              rw [blit_0, show setA (setA (setA (setA c 7 (upd (c 7) rl y)) 8 (upd (c 8) f (nI i))) 9 (upd (c 9) f (nI rl))) 10 (c 10) = setA (setA (setA c 7 (upd (c 7) rl y)) 8 (upd (c 8) f (nI i))) 9 (upd (c 9) f (nI rl)) from setA_self (c := setA (setA (setA c 7 (upd (c 7) rl y)) 8 (upd (c 8) f (nI i))) 9 (upd (c 9) f (nI rl)))] at h10
              exact h10
            · refine full hfe (Or.inr ?_)
              rcases Nat.lt_or_ge 900 (us + rl) with q | q
              · exact q
              · exact absurd (show nI (us + rl) ≤ nI 900 from nI_le q (by omega)) h6
      · refine r_bipush (v := -3) C d_M_pattern_77 (by decide) ?_
        exact R _ _ _ _ _ d_M_pattern_79 rfl vI (Or.inr ⟨i, hi, rfl, hy, Or.inl ⟨yn_0 hr3 h3, rfl, rfl⟩⟩)
    have loop : ∀ (m f : Nat), f ≤ np → np < f + m → (∀ j, j < f → ¬ isSm (c 8) (c 9) (c 10) (c 6) rl (nI i) j) → Wg Z (pM E A ad g (setA c 7 (upd (c 7) rl y))) 32 [(0, .ref (ad 0)), (1, .int (nI i)), (2, .int y), (3, .int (nI f))] [] := by
      intro m
      induction m with
      | zero => intro f h1 h2; omega
      | succ m ih =>
        intro f hf hm q1
        refine r_iload_n C d_M_pattern_32 rfl ?_
        refine r_aload_n C d_M_pattern_33 rfl ?_
        refine rM_g80 C rfl vI d_M_pattern_34 ?_
        rw [hg2]
        refine r_icmp_ge (tgt := 55) C d_M_pattern_37 (by decide) (fun h3 => ?_) (fun h3 => ?_)
        · have hfe : f = np := nI_ge_eq (by omega) hf h3
          exact J55 f hf q1 (fun h => by omega)
        · have hlt : f < np := nI_lt_of (by omega) h3
          refine r_aload_n C d_M_pattern_40 rfl ?_
          refine r_iload_n C d_M_pattern_41 rfl ?_
          refine r_iload_n C d_M_pattern_42 rfl ?_
          refine r_callR C (cM_isSame (c := setA c 7 (upd (c 7) rl y)) (nI i) (show f < 150 by omega) hg1 hl) cV_83_M ⟨by decide, by decide⟩ ⟨rfl, rfl⟩ vI (fun s H => pM_recv) rfl rfl (Nat.le_of_ble_eq_true rfl) d_M_pattern_43 (fun r3 hr3 => ?_)
          refine r_if_ne (tgt := 55) C d_M_pattern_46 (by decide) (fun h4 => ?_) (fun h4 => ?_)
          · exact J55 f hf q1 (fun _ => yn_1 hr3 h4)
          · refine r_iinc (L' := [(0, _), (1, _), (2, _), (3, _)]) C d_M_pattern_49 rfl (nI_inc _) (by decide) rfl ?_
            refine r_goto (tgt := 32) C d_M_pattern_52 (by decide) ?_
            refine ih (f + 1) (by omega) (by omega) (fun j hj => ?_)
            by_cases ej : j = f
            · subst ej; exact yn_0 hr3 h4
            · exact q1 j (by omega)
    refine r_aload_n C d_M_pattern_20 rfl ?_
    refine rM_g29 C rfl vI d_M_pattern_21 ?_
    refine r_aload_n C d_M_pattern_24 rfl ?_
    refine rM_g77 C rfl vI d_M_pattern_25 ?_
    refine r_iload_n C d_M_pattern_28 rfl ?_
    refine rM_iast C vI rfl hg1 (by show _ < 13; omega) rfl d_M_pattern_29 ?_
    refine r_iconst (v := 0) C d_M_pattern_30 (by decide) ?_
    refine r_istore_n (L' := [(0, _), (1, _), (2, _), (3, _)]) C d_M_pattern_31 (by decide) rfl ?_
    exact loop (np + 1) 0 (by omega) (by omega) (fun j hj => by omega)
end S22
end
section
-- stands, digitOf, run, digit of M
/-- pattern p stands in the edged word from f on -/
def stM (ln : Nat) (sz rw ed : Nat → Int32) (p f : Nat) : Prop := ∃ s, sz p = nI s ∧ s ≤ 12 ∧ f + s ≤ ln + 2 ∧ ∀ t, t < s → rw (12 * p + t) = ed (f + t)
/-- a digit of pattern p of language i that falls before letter j -/
def SMp (ln i : Nat) (ow sz rw ed dg : Nat → Int32) (J : Nat → Prop) (p j : Nat) (w : Int32) : Prop := ∃ f jj s, J jj ∧ ow p = nI i ∧ sz p = nI s ∧ s ≤ 12 ∧ jj ≤ s ∧ f + jj = j ∧ stM ln sz rw ed p f ∧ w = dg (13 * p + jj)
def SMd (np ln i : Nat) (ow sz rw ed dg : Nat → Int32) (j : Nat) (w : Int32) : Prop := ∃ p, p < np ∧ SMp ln i ow sz rw ed dg (fun _ => True) p j w
theorem Best_up {S : Int32 → Prop} {v d : Int32} (h : Best S v) (hd : v < d) : Best (fun w => S w ∨ w = d) d := by
  have := Best_add h (Int32.le_trans h.2.2 (Int32.le_of_lt hd))
  unfold mx at this
  rw [if_pos hd] at this
  exact this
theorem Best_le {S S' : Int32 → Prop} {v d : Int32} (h : Best S v) (hd : d ≤ v) (h1 : ∀ w, S w → S' w) (h2 : ∀ w, S' w → S w ∨ w = d) : Best S' v := by
  refine ⟨?_, fun w hw => ?_, h.2.2⟩
  · rcases h.1 with e | e
    · exact Or.inl e
    · exact Or.inr (h1 v e)
  · rcases h2 w hw with e | e
    · exact h.2.1 w e
    · rw [e]; exact hd
def vaM (np ln ne i : Nat) (c : Nat → Nat → Int32) (e : Nat → Int32) : Nat → Int32 → Prop := dgV ne (isEx (c 12) (c 13) (c 14) ln e (nI i)) (c 15) (SMd np ln i (c 8) (c 9) (c 10) e (c 11))
def stpM (ln i : Nat) (c : Nat → Nat → Int32) : Prop := ln = 0 ∨ ¬ spelled (fun w => c 1 (256 * i + w)) (c 16) ln ∨ (¬ c 5 i = 0 ∧ ¬ c 2 (256 * i + (c 16 0).toNatClampNeg) = 0)
def ruM (n np ln ne : Nat) (g : Nat → Int32) (c : Nat → Nat → Int32) (x : Int32) (r : Int32) (u : gcS) : Prop :=
  (¬ isIn n x ∧ r = -1 ∧ u = (g, c)) ∨ ∃ (i a b fc : Nat) (e fd : Nat → Int32), i < n ∧ x = nI i ∧ c 3 i = nI a ∧ a ≤ 20 ∧ c 4 i = nI b ∧ b ≤ 20 ∧ r = nI fc ∧ fc ≤ 30 ∧ Edg (fun w => c 1 (256 * i + w)) (c 16) ln e ∧ rnP ln a b (stpM ln i c) (vaM np ln ne i c e) (c 18) fc fd ∧ u = (upd g 6 (nI fc), setA (setA c 17 e) 18 fd)
def diM (n np ln ne : Nat) (g : Nat → Int32) (c : Nat → Nat → Int32) (x y : Int32) (r : Int32) (u : gcS) : Prop :=
  (¬ (isIn n x ∧ isIn (ln + 1) y) ∧ r = -1 ∧ u = (g, c)) ∨ ∃ (i k : Nat) (e : Nat → Int32), i < n ∧ k ≤ ln ∧ x = nI i ∧ y = nI k ∧ u = (g, setA c 17 e) ∧ Edg (fun w => c 1 (256 * i + w)) (c 16) ln e ∧ ((¬ spelled (fun w => c 1 (256 * i + w)) (c 16) ln ∧ r = 0) ∨ (spelled (fun w => c 1 (256 * i + w)) (c 16) ln ∧ vaM np ln ne i c e k r))
/-- an odd one as the model asks it -/
theorem odd_rem {v : Int32} (h : isIn 10 v) : (v - v / 2 * 2 = 1) ↔ odd_ v = true := by
  obtain ⟨a, ha, rfl⟩ := h
  have : ∀ a, a < 10 → ((nI a - nI a / 2 * 2 = 1) ↔ odd_ (nI a) = true) := by decide +kernel
  exact this a ha
theorem dgV_in {ne : Nat} {isx : Nat → Prop} {pl : Nat → Int32} {S : Nat → Int32 → Prop} {k : Nat} {v : Int32} (hS : ∀ w, S (k + 1) w → isIn 10 w) (h : dgV ne isx pl S k v) : isIn 10 v := by
  rcases h with ⟨f, -, -, -, rfl⟩ | ⟨-, hb⟩
  · obtain ⟨j, h1, h2⟩ := pk_andE (pl f >>> (nI k &&& 31)) (m := 1) 1 (by decide)
    exact ⟨j, by omega, h2⟩
  · rcases hb.1 with e | e
    · exact ⟨0, by omega, e⟩
    · exact hS v e
section S23
variable {l : Launch} {E : eE} {A A' : Nat → Prop} {ad : Nat → Nat} {n : Nat} {g : Nat → Int32} {c : Nat → Nat → Int32}
set_option maxHeartbeats 4000000 in
theorem cM_stands {p s ln : Nat} (x : Int32) (hp : p < 150) (hs : c 9 p = nI s) (hs2 : s ≤ 12) (hg : g 5 = nI ln) (hl : ln ≤ 30) (hx : x < 0 ∨ ∃ f, f ≤ 31 ∧ x = nI f) : mR l E mM_stands [.ref (ad 0), .int (nI p), .int x] (pM E A' ad g c) (yn (∃ f, x = nI f ∧ f ≤ 31 ∧ stM ln (c 9) (c 10) (c 17) p f)) := by
  refine metR (by decide) rfl (Nat.le_of_ble_eq_true rfl) (catOK rfl) (fun Z P hZ C V R => ?_)
  have uq : ∀ s', c 9 p = nI s' → s' ≤ 12 → s' = s := fun s' h1 h2 => (nI_eq (by omega) (by omega)).mp (h1.symm.trans hs)
  have out0 : ∀ (k : Nat), (¬ ∃ f, x = nI f ∧ f ≤ 31 ∧ stM ln (c 9) (c 10) (c 17) p f) → Wg Z P 30 [(0, .ref (ad 0)), (1, .int (nI p)), (2, .int x), (3, .int 0), (4, .int (nI k))] [] := by
    intro k hno
    refine r_iload C d_M_stands_30 rfl ?_
    refine r_aload_n C d_M_stands_32 rfl ?_
    refine rM_g35 C rfl V d_M_stands_33 ?_
    refine r_iload_n C d_M_stands_36 rfl ?_
    refine rM_iald C V rfl rfl (by show _ < 150; omega) rfl d_M_stands_37 ?_
    refine r_icmp_ge (tgt := 81) C d_M_stands_38 (by decide) (fun h1 => ?_) (fun h1 => ?_)
    · refine r_iload_n C d_M_stands_81 rfl ?_
      exact R _ _ _ d_M_stands_82 rfl (yn_f hno)
    · refine r_iload_n C d_M_stands_41 rfl ?_
      refine r_if_eq (tgt := 81) C d_M_stands_42 (by decide) (fun h2 => ?_) (fun h2 => ?_)
      · refine r_iload_n C d_M_stands_81 rfl ?_
        exact R _ _ _ d_M_stands_82 rfl (yn_f hno)
      · exact absurd rfl h2
  have loop : ∀ (f m k : Nat), x = nI f → f ≤ 31 → f + s ≤ ln + 2 → k ≤ s → s < k + m → (∀ t, t < k → c 10 (12 * p + t) = c 17 (f + t)) → Wg Z P 30 [(0, .ref (ad 0)), (1, .int (nI p)), (2, .int x), (3, .int 1), (4, .int (nI k))] [] := by
    intro f m
    induction m with
    | zero => intro k h1 h2 h3 h4 h5; omega
    | succ m ih =>
      intro k hxf hf hfs hk hm q
      refine r_iload C d_M_stands_30 rfl ?_
      refine r_aload_n C d_M_stands_32 rfl ?_
      refine rM_g35 C rfl V d_M_stands_33 ?_
      refine r_iload_n C d_M_stands_36 rfl ?_
      refine rM_iald C V rfl rfl (by show _ < 150; omega) hs d_M_stands_37 ?_
      refine r_icmp_ge (tgt := 81) C d_M_stands_38 (by decide) (fun h1 => ?_) (fun h1 => ?_)
      · have hkr : k = s := nI_ge_eq (by omega) hk h1
        refine r_iload_n C d_M_stands_81 rfl ?_
        exact R _ _ _ d_M_stands_82 rfl (yn_t ⟨f, hxf, hf, s, hs, hs2, hfs, fun t ht => q t (by omega)⟩)
      · have hkr : k < s := nI_lt_of (by omega) h1
        refine r_iload_n C d_M_stands_41 rfl ?_
        refine r_if_eq (tgt := 81) C d_M_stands_42 (by decide) (fun h2 => ?_) (fun h2 => ?_)
        · exact absurd h2 (by decide)
        · refine r_aload_n C d_M_stands_45 rfl ?_
          refine rM_g38 C rfl V d_M_stands_46 ?_
          refine r_bipush (v := 12) C d_M_stands_49 (by decide) ?_
          refine r_iload_n C d_M_stands_51 rfl ?_
          refine r_imul C d_M_stands_52 ?_
          refine r_iload C d_M_stands_53 rfl ?_
          refine r_iadd C d_M_stands_55 ?_
          refine rM_iald C V rfl (nI_ad _ _ (nI_mul 12 _ rfl rfl) rfl) (by show _ < 1800; omega) rfl d_M_stands_56 ?_
          refine r_aload_n C d_M_stands_57 rfl ?_
          refine rM_g59 C rfl V d_M_stands_58 ?_
          refine r_iload_n C d_M_stands_61 rfl ?_
          refine r_iload C d_M_stands_62 rfl ?_
          refine r_iadd C d_M_stands_64 ?_
          refine rM_iald C V rfl (nI_ad f _ hxf rfl) (by show _ < 32; omega) rfl d_M_stands_65 ?_
          refine r_icmp_ne (tgt := 73) C d_M_stands_66 (by decide) (fun h3 => ?_) (fun h3 => ?_)
          · refine r_iconst (v := 0) C d_M_stands_73 (by decide) ?_
            refine r_istore_n (L' := [(0, _), (1, _), (2, _), (3, _), (4, _)]) C d_M_stands_74 (by decide) rfl ?_
            refine r_iinc (L' := [(0, _), (1, _), (2, _), (3, _), (4, _)]) C d_M_stands_75 rfl (nI_inc _) (by decide) rfl ?_
            refine r_goto (tgt := 30) C d_M_stands_78 (by decide) ?_
            refine out0 (k + 1) ?_
            rintro ⟨f', e1, e2, s', e3, e4, e5, e6⟩
            have ef : f' = f := (nI_eq (by omega) (by omega)).mp (e1.symm.trans hxf)
            subst ef
            have es := uq s' e3 e4
            exact h3 (e6 k (by omega))
          · refine r_iconst (v := 1) C d_M_stands_69 (by decide) ?_
            refine r_goto (tgt := 74) C d_M_stands_70 (by decide) ?_
            refine r_istore_n (L' := [(0, _), (1, _), (2, _), (3, _), (4, _)]) C d_M_stands_74 (by decide) rfl ?_
            refine r_iinc (L' := [(0, _), (1, _), (2, _), (3, _), (4, _)]) C d_M_stands_75 rfl (nI_inc _) (by decide) rfl ?_
            refine r_goto (tgt := 30) C d_M_stands_78 (by decide) ?_
            refine ih (k + 1) hxf hf hfs (by omega) (by omega) (fun t ht => ?_)
            by_cases et : t = k
            · subst et; exact h3
            · exact q t (by omega)
  show Wg Z _ 0 [(0, _), (1, _), (2, _)] []
  refine r_iload_n C d_M_stands_0 rfl ?_
  refine r_if_lt (tgt := 25) C d_M_stands_1 (by decide) (fun h1 => ?_) (fun h1 => ?_)
  · refine r_iconst (v := 0) C d_M_stands_25 (by decide) ?_
    refine r_istore_n (L' := [(0, _), (1, _), (2, _), (3, _)]) C d_M_stands_26 (by decide) rfl ?_
    refine r_iconst (v := 0) C d_M_stands_27 (by decide) ?_
    refine r_istore (L' := [(0, _), (1, _), (2, _), (3, _), (4, _)]) C d_M_stands_28 (by decide) rfl ?_
    refine out0 0 ?_
    rintro ⟨f, e1, e2, -⟩
    rw [e1] at h1; exact nI_pos (by omega) h1
  · rcases hx with hx | ⟨f, hf, hxf⟩
    · exact absurd hx h1
    refine r_iload_n C d_M_stands_4 rfl ?_
    refine r_aload_n C d_M_stands_5 rfl ?_
    refine rM_g35 C rfl V d_M_stands_6 ?_
    refine r_iload_n C d_M_stands_9 rfl ?_
    refine rM_iald C V rfl rfl (by show _ < 150; omega) hs d_M_stands_10 ?_
    refine r_iadd C d_M_stands_11 ?_
    refine r_tope (nI (f + s)) (nI_ad _ _ hxf rfl) ?_
    refine r_aload_n C d_M_stands_12 rfl ?_
    refine rM_g94 C rfl V d_M_stands_13 ?_
    refine r_iconst (v := 2) C d_M_stands_16 (by decide) ?_
    refine r_iadd C d_M_stands_17 ?_
    refine r_tope (nI (ln + 2)) (nI_ad _ 2 hg rfl) ?_
    refine r_icmp_gt (tgt := 25) C d_M_stands_18 (by decide) (fun h2 => ?_) (fun h2 => ?_)
    · refine r_iconst (v := 0) C d_M_stands_25 (by decide) ?_
      refine r_istore_n (L' := [(0, _), (1, _), (2, _), (3, _)]) C d_M_stands_26 (by decide) rfl ?_
      refine r_iconst (v := 0) C d_M_stands_27 (by decide) ?_
      refine r_istore (L' := [(0, _), (1, _), (2, _), (3, _), (4, _)]) C d_M_stands_28 (by decide) rfl ?_
      refine out0 0 ?_
      rintro ⟨f', e1, e2, s', e3, e4, e5, e6⟩
      have ef : f' = f := (nI_eq (by omega) (by omega)).mp (e1.symm.trans hxf)
      have es := uq s' e3 e4
      have := (nI_ltI (by omega) (by omega)).mp h2
      omega
    · refine r_iconst (v := 1) C d_M_stands_21 (by decide) ?_
      refine r_goto (tgt := 26) C d_M_stands_22 (by decide) ?_
      refine r_istore_n (L' := [(0, _), (1, _), (2, _), (3, _)]) C d_M_stands_26 (by decide) rfl ?_
      refine r_iconst (v := 0) C d_M_stands_27 (by decide) ?_
      refine r_istore (L' := [(0, _), (1, _), (2, _), (3, _), (4, _)]) C d_M_stands_28 (by decide) rfl ?_
      refine loop f (s + 1) 0 hxf hf ?_ (by omega) (by omega) (fun t ht => by omega)
      rcases Nat.lt_or_ge (ln + 2) (f + s) with q | q
      · exact absurd (nI_lt q (by omega)) h2
      · exact q
set_option maxHeartbeats 4000000 in
theorem cM_digitOf {i k np ln ne : Nat} (hk : k ≤ 30) (hg5 : g 5 = nI ln) (hl : ln ≤ 30) (hg4 : g 4 = nI ne) (hne : ne ≤ 40) (hg2 : g 2 = nI np) (hnp : np ≤ 150) (hsz : ∀ p, p < np → ∃ s, s ≤ 12 ∧ c 9 p = nI s) : mR l E mM_digitOf [.ref (ad 0), .int (nI i), .int (nI k)] (pM E A' ad g c) (vaM np ln ne i c (c 17) k) := by
  refine metR (by decide) rfl (Nat.le_of_ble_eq_true rfl) (catOK rfl) (fun Z P hZ C V R => ?_)
  show Wg Z _ 0 [(0, _), (1, _), (2, _)] []
  refine r_aload_n C d_M_digitOf_0 rfl ?_
  refine r_iload_n C d_M_digitOf_1 rfl ?_
  refine r_callR C (cM_exceptionOf (nI i) hg5 hl hg4 hne) cV_103_M ⟨by decide, by decide⟩ ⟨rfl, rfl⟩ V (fun s H => pM_recv) rfl rfl (Nat.le_of_ble_eq_true rfl) d_M_digitOf_2 (fun r hr => ?_)
  obtain ⟨f, hf1, rfl, hf2, hf3⟩ := hr
  refine r_istore_n (L' := [(0, _), (1, _), (2, _), (3, _)]) C d_M_digitOf_5 (by decide) rfl ?_
  refine r_iload_n C d_M_digitOf_6 rfl ?_
  refine r_aload_n C d_M_digitOf_7 rfl ?_
  refine rM_g97 C rfl V d_M_digitOf_8 ?_
  rw [hg4]
  refine r_icmp_ge (tgt := 25) C d_M_digitOf_11 (by decide) (fun h1 => ?_) (fun h1 => ?_)
  · have hfe : f = ne := nI_ge_eq (by omega) hf1 h1
    subst hfe
    have outer : ∀ (t p : Nat) (v : Int32), p ≤ np → np < p + t → Best (fun w => ∃ p', p' < p ∧ SMp ln i (c 8) (c 9) (c 10) (c 17) (c 11) (fun _ => True) p' (k + 1) w) v → ∀ (L : List (Nat × Value)), lv_pick L [0, 1, 2, 3, 4, 5] = [(0, .ref (ad 0)), (1, .int (nI i)), (2, .int (nI k)), (3, .int (nI f)), (4, .int v), (5, .int (nI p))] → Wg Z P 31 L [] := by
      intro t
      induction t with
      | zero => intro p v h1 h2; omega
      | succ t ih =>
        intro p v hp ht hb L hL
        refine Wg.pick [0, 1, 2, 3, 4, 5] hL ?_
        refine r_iload C d_M_digitOf_31 rfl ?_
        refine r_aload_n C d_M_digitOf_33 rfl ?_
        refine rM_g80 C rfl V d_M_digitOf_34 ?_
        rw [hg2]
        refine r_icmp_ge (tgt := 126) C d_M_digitOf_37 (by decide) (fun h2 => ?_) (fun h2 => ?_)
        · have hpe : p = np := nI_ge_eq (by omega) hp h2
          subst hpe
          refine r_iload C d_M_digitOf_126 rfl ?_
          exact R _ _ _ d_M_digitOf_128 rfl (Or.inr ⟨hf2, hb⟩)
        · have hpl : p < np := nI_lt_of (by omega) h2
          obtain ⟨s, hs1, hs2⟩ := hsz p hpl
          have uq : ∀ s', c 9 p = nI s' → s' ≤ 12 → s' = s := fun s' h1 h2 => (nI_eq (by omega) (by omega)).mp (h1.symm.trans hs2)
          have nxt : ∀ (jj : Nat) (v' : Int32), Best (fun w => ∃ p', p' < p + 1 ∧ SMp ln i (c 8) (c 9) (c 10) (c 17) (c 11) (fun _ => True) p' (k + 1) w) v' → Wg Z P 120 [(0, .ref (ad 0)), (1, .int (nI i)), (2, .int (nI k)), (3, .int (nI f)), (4, .int v'), (5, .int (nI p)), (6, .int (nI jj))] [] := by
            intro jj v' hb'
            refine r_iinc (L' := [(0, _), (1, _), (2, _), (3, _), (4, _), (5, _), (6, _)]) C d_M_digitOf_120 rfl (nI_inc _) (by decide) rfl ?_
            refine r_goto (tgt := 31) C d_M_digitOf_123 (by decide) ?_
            exact ih (p + 1) v' (by omega) (by omega) hb' _ rfl
          have inner : ∀ (t' jj : Nat) (v' : Int32), jj ≤ s + 1 → s + 1 < jj + t' → Best (fun w => (∃ p', p' < p ∧ SMp ln i (c 8) (c 9) (c 10) (c 17) (c 11) (fun _ => True) p' (k + 1) w) ∨ SMp ln i (c 8) (c 9) (c 10) (c 17) (c 11) (fun z => z < jj) p (k + 1) w) v' → Wg Z P 43 [(0, .ref (ad 0)), (1, .int (nI i)), (2, .int (nI k)), (3, .int (nI f)), (4, .int v'), (5, .int (nI p)), (6, .int (nI jj))] [] := by
            intro t'
            induction t' with
            | zero => intro jj v' h1 h2; omega
            | succ t' ih' =>
              intro jj v' hj ht' hb'
              refine r_iload C d_M_digitOf_43 rfl ?_
              refine r_aload_n C d_M_digitOf_45 rfl ?_
              refine rM_g35 C rfl V d_M_digitOf_46 ?_
              refine r_iload C d_M_digitOf_49 rfl ?_
              refine rM_iald C V rfl rfl (by show _ < 150; omega) hs2 d_M_digitOf_51 ?_
              refine r_icmp_gt (tgt := 120) C d_M_digitOf_52 (by decide) (fun h3 => ?_) (fun h3 => ?_)
              · have hjs : s < jj := (nI_ltI (by omega) (by omega)).mp h3
                refine nxt jj v' (Best_cg (fun w => ?_) hb')
                constructor
                · rintro (⟨p', h4, h5⟩ | ⟨f', j', s', h4, h5⟩)
                  · exact ⟨p', by omega, h5⟩
                  · exact ⟨p, by omega, f', j', s', trivial, h5⟩
                · rintro ⟨p', h4, f', j', s', -, h5⟩
                  by_cases e : p' = p
                  · subst e
                    have es := uq s' h5.2.1 h5.2.2.1
                    have := h5.2.2.2.1
                    exact Or.inr ⟨f', j', s', by omega, h5⟩
                  · exact Or.inl ⟨p', by omega, f', j', s', trivial, h5⟩
              · have hjs : jj ≤ s := by
                  rcases Nat.lt_or_ge s jj with q | q
                  · exact absurd (nI_lt q (by omega)) h3
                  · exact q
                refine r_aload_n C d_M_digitOf_55 rfl ?_
                refine rM_g32 C rfl V d_M_digitOf_56 ?_
                refine r_iload C d_M_digitOf_59 rfl ?_
                refine rM_iald C V rfl rfl (by show _ < 150; omega) rfl d_M_digitOf_61 ?_
                refine r_iload_n C d_M_digitOf_62 rfl ?_
                refine r_icmp_ne (tgt := 120) C d_M_digitOf_63 (by decide) (fun h4 => ?_) (fun h4 => ?_)
                · refine nxt jj v' (Best_cg (fun w => ?_) hb')
                  constructor
                  · rintro (⟨p', h4, h5⟩ | ⟨f', j', s', h4, h5⟩)
                    · exact ⟨p', by omega, h5⟩
                    · exact ⟨p, by omega, f', j', s', trivial, h5⟩
                  · rintro ⟨p', h4', f', j', s', -, h5⟩
                    by_cases e : p' = p
                    · subst e
                      exact absurd h5.1 h4
                    · exact Or.inl ⟨p', by omega, f', j', s', trivial, h5⟩
                · have J114 : ∀ v2 : Int32, Best (fun w => (∃ p', p' < p ∧ SMp ln i (c 8) (c 9) (c 10) (c 17) (c 11) (fun _ => True) p' (k + 1) w) ∨ SMp ln i (c 8) (c 9) (c 10) (c 17) (c 11) (fun z => z < jj + 1) p (k + 1) w) v2 → Wg Z P 114 [(0, .ref (ad 0)), (1, .int (nI i)), (2, .int (nI k)), (3, .int (nI f)), (4, .int v2), (5, .int (nI p)), (6, .int (nI jj))] [] := by
                    intro v2 hb2
                    refine r_iinc (L' := [(0, _), (1, _), (2, _), (3, _), (4, _), (5, _), (6, _)]) C d_M_digitOf_114 rfl (nI_inc _) (by decide) rfl ?_
                    refine r_goto (tgt := 43) C d_M_digitOf_117 (by decide) ?_
                    exact ih' (jj + 1) v2 (by omega) (by omega) hb2
                  have up : ∀ w, ((∃ p', p' < p ∧ SMp ln i (c 8) (c 9) (c 10) (c 17) (c 11) (fun _ => True) p' (k + 1) w) ∨ SMp ln i (c 8) (c 9) (c 10) (c 17) (c 11) (fun z => z < jj) p (k + 1) w) → ((∃ p', p' < p ∧ SMp ln i (c 8) (c 9) (c 10) (c 17) (c 11) (fun _ => True) p' (k + 1) w) ∨ SMp ln i (c 8) (c 9) (c 10) (c 17) (c 11) (fun z => z < jj + 1) p (k + 1) w) := by
                    rintro w (h | ⟨f', j', s', h5, h6⟩)
                    · exact Or.inl h
                    · exact Or.inr ⟨f', j', s', by omega, h6⟩
                  have dn : ∀ w, ((∃ p', p' < p ∧ SMp ln i (c 8) (c 9) (c 10) (c 17) (c 11) (fun _ => True) p' (k + 1) w) ∨ SMp ln i (c 8) (c 9) (c 10) (c 17) (c 11) (fun z => z < jj + 1) p (k + 1) w) → ((∃ p', p' < p ∧ SMp ln i (c 8) (c 9) (c 10) (c 17) (c 11) (fun _ => True) p' (k + 1) w) ∨ SMp ln i (c 8) (c 9) (c 10) (c 17) (c 11) (fun z => z < jj) p (k + 1) w) ∨ (w = c 11 (13 * p + jj) ∧ ∃ f', f' + jj = k + 1 ∧ stM ln (c 9) (c 10) (c 17) p f') := by
                    rintro w (h | ⟨f', j', s', h5, h6⟩)
                    · exact Or.inl (Or.inl h)
                    · by_cases e : j' = jj
                      · subst e
                        exact Or.inr ⟨h6.2.2.2.2.2.2, f', h6.2.2.2.2.1, h6.2.2.2.2.2.1⟩
                      · exact Or.inl (Or.inr ⟨f', j', s', by omega, h6⟩)
                  refine r_aload_n C d_M_digitOf_66 rfl ?_
                  refine rM_g41 C rfl V d_M_digitOf_67 ?_
                  refine r_bipush (v := 13) C d_M_digitOf_70 (by decide) ?_
                  refine r_iload C d_M_digitOf_72 rfl ?_
                  refine r_imul C d_M_digitOf_74 ?_
                  refine r_iload C d_M_digitOf_75 rfl ?_
                  refine r_iadd C d_M_digitOf_77 ?_
                  refine rM_iald C V rfl (nI_ad _ _ (nI_mul 13 _ rfl rfl) rfl) (by show _ < 1950; omega) rfl d_M_digitOf_78 ?_
                  refine r_iload C d_M_digitOf_79 rfl ?_
                  refine r_icmp_le (tgt := 114) C d_M_digitOf_81 (by decide) (fun h5 => ?_) (fun h5 => ?_)
                  · exact J114 v' (Best_le hb' h5 up (fun w hw => (dn w hw).imp id (fun h => h.1)))
                  · have hgt : v' < c 11 (13 * p + jj) := Int32.not_le.mp h5
                    refine r_aload_n C d_M_digitOf_84 rfl ?_
                    refine r_iload C d_M_digitOf_85 rfl ?_
                    refine r_iload_n C d_M_digitOf_87 rfl ?_
                    refine r_iconst (v := 1) C d_M_digitOf_88 (by decide) ?_
                    refine r_iadd C d_M_digitOf_89 ?_
                    refine r_iload C d_M_digitOf_90 rfl ?_
                    refine r_isub C d_M_digitOf_92 ?_
                    refine r_callR C (cM_stands (s := s) (nI k + 1 - nI jj) (show p < 150 by omega) hs2 hs1 hg5 hl (by rcases Nat.lt_or_ge (k + 1) jj with q | q; exact Or.inl (by rw [nI_1]; exact pk_sneg (by omega) q); exact Or.inr ⟨k + 1 - jj, by omega, by rw [nI_1]; exact pk_sub q⟩)) cV_107_M ⟨by decide, by decide⟩ ⟨rfl, rfl⟩ V (fun s H => pM_recv) rfl rfl (Nat.le_of_ble_eq_true rfl) d_M_digitOf_93 (fun r2 hr2 => ?_)
                    have hst : (∃ f', nI k + 1 - nI jj = nI f' ∧ f' ≤ 31 ∧ stM ln (c 9) (c 10) (c 17) p f') ↔ (∃ f', f' + jj = k + 1 ∧ stM ln (c 9) (c 10) (c 17) p f') := by
                      constructor
                      · rintro ⟨f', e1, e2, e3⟩
                        rcases Nat.lt_or_ge (k + 1) jj with q | q
                        · rw [nI_1] at e1
                          exact absurd (by rw [← e1]; exact pk_sneg (by omega) q) (nI_pos (n := f') (by omega))
                        · rw [nI_1, pk_sub q] at e1
                          have := (nI_eq (by omega) (by omega)).mp e1
                          exact ⟨f', by omega, e3⟩
                      · rintro ⟨f', e1, e3⟩
                        refine ⟨f', ?_, by omega, e3⟩
                        rw [nI_1, pk_sub (by omega), show k + 1 - jj = f' by omega]
                    refine r_if_eq (tgt := 114) C d_M_digitOf_96 (by decide) (fun h6 => ?_) (fun h6 => ?_)
                    · have hno := fun h => yn_0 hr2 h6 (hst.mpr h)
                      refine J114 v' (Best_cg (fun w => ⟨up w, fun hw => ?_⟩) hb')
                      rcases dn w hw with h7 | h7
                      · exact h7
                      · exact absurd h7.2 hno
                    · obtain ⟨f', e1, e2⟩ := hst.mp (yn_1 hr2 h6)
                      refine r_aload_n C d_M_digitOf_99 rfl ?_
                      refine rM_g41 C rfl V d_M_digitOf_100 ?_
                      refine r_bipush (v := 13) C d_M_digitOf_103 (by decide) ?_
                      refine r_iload C d_M_digitOf_105 rfl ?_
                      refine r_imul C d_M_digitOf_107 ?_
                      refine r_iload C d_M_digitOf_108 rfl ?_
                      refine r_iadd C d_M_digitOf_110 ?_
                      refine rM_iald C V rfl (nI_ad _ _ (nI_mul 13 _ rfl rfl) rfl) (by show _ < 1950; omega) rfl d_M_digitOf_111 ?_
                      refine r_istore (L' := [(0, _), (1, _), (2, _), (3, _), (4, _), (5, _), (6, _)]) C d_M_digitOf_112 (by decide) rfl ?_
                      refine J114 _ (Best_cg (fun w => ⟨?_, fun hw => ?_⟩) (Best_up hb' hgt))
                      · rintro (h7 | rfl)
                        · exact up w h7
                        · exact Or.inr ⟨f', jj, s, by omega, h4, hs2, hs1, hjs, e1, e2, rfl⟩
                      · rcases dn w hw with h7 | h7
                        · exact Or.inl h7
                        · exact Or.inr h7.1
          refine r_iconst (v := 0) C d_M_digitOf_40 (by decide) ?_
          refine r_istore (L' := [(0, _), (1, _), (2, _), (3, _), (4, _), (5, _), (6, _)]) C d_M_digitOf_41 (by decide) rfl ?_
          refine inner (s + 2) 0 v (by omega) (by omega) (Best_cg (fun w => ?_) hb)
          constructor
          · exact Or.inl
          · rintro (h | ⟨f', j', s', h5, h6⟩)
            · exact h
            · omega
    refine r_iconst (v := 0) C d_M_digitOf_25 (by decide) ?_
    refine r_istore (L' := [(0, _), (1, _), (2, _), (3, _), (4, _)]) C d_M_digitOf_26 (by decide) rfl ?_
    refine r_iconst (v := 0) C d_M_digitOf_28 (by decide) ?_
    refine r_istore (L' := [(0, _), (1, _), (2, _), (3, _), (4, _), (5, _)]) C d_M_digitOf_29 (by decide) rfl ?_
    refine outer (np + 1) 0 0 (by omega) (by omega) ⟨Or.inl rfl, fun w hw => ?_, Int32.le_refl _⟩ _ rfl
    obtain ⟨p', h2, -⟩ := hw
    omega
  · have hfe : f < ne := nI_lt_of (by omega) h1
    refine r_aload_n C d_M_digitOf_14 rfl ?_
    refine rM_g53 C rfl V d_M_digitOf_15 ?_
    refine r_iload_n C d_M_digitOf_18 rfl ?_
    refine rM_iald C V rfl rfl (by show _ < 40; omega) rfl d_M_digitOf_19 ?_
    refine r_iload_n C d_M_digitOf_20 rfl ?_
    refine r_ishr C d_M_digitOf_21 ?_
    refine r_iconst (v := 1) C d_M_digitOf_22 (by decide) ?_
    refine r_iand C d_M_digitOf_23 ?_
    exact R _ _ _ d_M_digitOf_24 rfl (Or.inl ⟨f, hfe, hf3 hfe, hf2, rfl⟩)
end S23
end
section
-- run, digit of M
section S24
variable {l : Launch} {E : eE} {A A' : Nat → Prop} {ad : Nat → Nat} {n : Nat} {g : Nat → Int32} {c : Nat → Nat → Int32}
theorem vaM_in {np ln ne i : Nat} {c : Nat → Nat → Int32} {e : Nat → Int32} {k : Nat} {v : Int32} (hnp : np ≤ 150) (hdg : ∀ j, j < 1950 → isIn 10 (c 11 j)) (h : vaM np ln ne i c e k v) : isIn 10 v := by
  refine dgV_in (fun w hw => ?_) h
  obtain ⟨p, h1, f, jj, s, -, -, -, h2, h3, -, -, rfl⟩ := hw
  exact hdg _ (by omega)
set_option maxHeartbeats 4000000 in
theorem cM_run {np ln ne : Nat} (x : Int32) (hg0 : g 0 = nI n) (hn : n ≤ 4) (hg5 : g 5 = nI ln) (hl : ln ≤ 30) (hg4 : g 4 = nI ne) (hne : ne ≤ 40) (hg2 : g 2 = nI np) (hnp : np ≤ 150) (hsz : ∀ p, p < np → ∃ s, s ≤ 12 ∧ c 9 p = nI s) (hdg : ∀ j, j < 1950 → isIn 10 (c 11 j)) (hw : ∀ k, k < ln → isIn 256 (c 16 k)) (hp : ∀ i, i < n → ∀ w, w < 256 → isIn 31 (c 1 (256 * i + w))) (hlr : ∀ i, i < n → isIn 21 (c 3 i) ∧ isIn 21 (c 4 i)) : mW l E mM_run A [.ref (ad 0), .int x] (pM E A ad g c) (ruM n np ln ne g c x) (fun u => pM E A ad u.1 u.2) := by
  refine metW (by decide) rfl (Nat.le_of_ble_eq_true rfl) (catOK rfl) (fun Z hZ C R => ?_)
  show Wg Z _ 0 [(0, _), (1, _)] []
  refine r_aload_n C d_M_run_0 rfl ?_
  refine r_iload_n C d_M_run_1 rfl ?_
  refine r_callR C (cM_isLanguage x hg0 hn) cV_69_M ⟨by decide, by decide⟩ ⟨rfl, rfl⟩ vI (fun s H => pM_recv) rfl rfl (Nat.le_of_ble_eq_true rfl) d_M_run_2 (fun r1 hr1 => ?_)
  refine r_if_ne (tgt := 10) C d_M_run_5 (by decide) (fun h1 => ?_) (fun h1 => ?_)
  rotate_left
  · refine r_iconst (v := -1) C d_M_run_8 (by decide) ?_
    exact R _ _ _ _ _ d_M_run_9 rfl vI (Or.inl ⟨yn_0 hr1 h1, rfl, rfl⟩)
  obtain ⟨i, hi, rfl⟩ := yn_1 hr1 h1
  obtain ⟨⟨a, ha, ea⟩, ⟨b, hb, eb⟩⟩ := hlr i hi
  refine r_aload_n C d_M_run_10 rfl ?_
  refine r_iconst (v := 0) C d_M_run_11 (by decide) ?_
  refine rM_p110 C rfl vI d_M_run_12 ?_
  refine r_aload_n C d_M_run_15 rfl ?_
  refine r_iload_n C d_M_run_16 rfl ?_
  refine r_callW C (cM_spell (g := upd g 6 0) (show i < 4 by omega) hg5 hl hw (hp i hi)) cV_100_M ⟨by decide, by decide⟩ ⟨rfl, rfl⟩ vI (fun s H => pM_recv) rfl rfl (Nat.le_of_ble_eq_true rfl) d_M_run_17 (fun s2 e hs => ?_)
  obtain ⟨hs2, hed⟩ := hs
  have J62 : ∀ s3 : Int32, yn (0 < ln ∧ ¬ c 5 i = 0 ∧ ¬ c 2 (256 * i + (c 16 0).toNatClampNeg) = 0) s3 → Wg Z (pM E A ad (upd g 6 0) (setA c 17 e)) 62 [(0, .ref (ad 0)), (1, .int (nI i)), (2, .int s2)] [.int s3] := by
    intro s3 hs3
    have ret : ∀ (fc : Nat) (fd : Nat → Int32) (k : Int32), fc ≤ 30 → rnP ln a b (stpM ln i c) (vaM np ln ne i c e) (c 18) fc fd → Wg Z (pM E A ad (upd g 6 (nI fc)) (setA (setA c 17 e) 18 fd)) 171 [(0, .ref (ad 0)), (1, .int (nI i)), (2, .int s2), (3, .int s3), (4, .int (nI (max a 1))), (5, .int (nI ln - nI (max b 1))), (6, .int k)] [] := by
      intro fc fd k hfc hrn
      refine r_aload_n C d_M_run_171 rfl ?_
      refine rM_g110 C rfl vI d_M_run_172 ?_
      exact R _ _ _ _ _ d_M_run_175 rfl vI (Or.inr ⟨i, a, b, fc, e, fd, hi, rfl, ea, by omega, eb, by omega, rfl, hfc, hed, hrn, rfl⟩)
    have loop : ∀ (m t : Nat) (vf : Nat → Int32), ¬ stpM ln i c → t ≤ ln + 1 - (max a 1 + max b 1) → ln + 1 - (max a 1 + max b 1) < t + m → (∀ k, max a 1 ≤ k → k < max a 1 + t → vaM np ln ne i c e k (vf k)) → Wg Z (pM E A ad (upd g 6 (nI (rnF (fun k => odd_ (vf k)) (max a 1) t (0, c 18)).1)) (setA (setA c 17 e) 18 (rnF (fun k => odd_ (vf k)) (max a 1) t (0, c 18)).2)) 116 [(0, .ref (ad 0)), (1, .int (nI i)), (2, .int s2), (3, .int s3), (4, .int (nI (max a 1))), (5, .int (nI ln - nI (max b 1))), (6, .int (nI (max a 1 + t)))] [] := by
      intro m
      induction m with
      | zero => intro t vf h0 h1 h2; omega
      | succ m ih =>
        intro t vf hns ht hm hvf
        have hfc := rnF_le (od := fun k => odd_ (vf k)) (lo := max a 1) (s := (0, c 18)) t
        simp only [Nat.zero_add] at hfc
        refine r_iload C d_M_run_116 rfl ?_
        refine r_iload C d_M_run_118 rfl ?_
        refine r_icmp_gt (tgt := 171) C d_M_run_120 (by decide) (fun h5 => ?_) (fun h5 => ?_)
        · have h6 := (sub_lt (by omega) (by omega) (by omega)).mp h5
          have : t = ln + 1 - (max a 1 + max b 1) := by omega
          subst this
          exact ret _ _ _ (by omega) (Or.inr ⟨hns, vf, hvf, rfl⟩)
        · have h6 : max a 1 + t + max b 1 ≤ ln := by
            rcases Nat.lt_or_ge ln (max a 1 + t + max b 1) with q | q
            · exact absurd ((sub_lt (by omega) (by omega) (by omega)).mpr q) h5
            · exact q
          refine r_iload_n C d_M_run_123 rfl ?_
          refine r_if_eq (tgt := 171) C d_M_run_124 (by decide) (fun h7 => ?_) (fun h7 => ?_)
          · exact absurd (Or.inr (Or.inl (yn_0 hs2 h7))) hns
          · refine r_iload_n C d_M_run_127 rfl ?_
            refine r_if_ne (tgt := 171) C d_M_run_128 (by decide) (fun h8 => ?_) (fun h8 => ?_)
            · exact absurd (Or.inr (Or.inr (yn_1 hs3 h8).2)) hns
            · refine r_aload_n C d_M_run_131 rfl ?_
              refine r_iload_n C d_M_run_132 rfl ?_
              refine r_iload C d_M_run_133 rfl ?_
              refine r_callR C (cM_digitOf (i := i) (k := max a 1 + t) (g := upd g 6 (nI (rnF (fun k => odd_ (vf k)) (max a 1) t (0, c 18)).1)) (c := setA (setA c 17 e) 18 (rnF (fun k => odd_ (vf k)) (max a 1) t (0, c 18)).2) (show max a 1 + t ≤ 30 by omega) hg5 hl hg4 hne hg2 hnp hsz) cV_113_M ⟨by decide, by decide⟩ ⟨rfl, rfl⟩ vI (fun s H => pM_recv) rfl rfl (Nat.le_of_ble_eq_true rfl) d_M_run_135 (fun v hv => ?_)
              have hv2 : vaM np ln ne i c e (max a 1 + t) v := hv
              have hin := vaM_in hnp hdg hv2
              have ecg : rnF (fun k => odd_ (setA vf (max a 1 + t) v k)) (max a 1) t (0, c 18) = rnF (fun k => odd_ (vf k)) (max a 1) t (0, c 18) := rnF_cg t (fun j hj => by
                have : max a 1 + j ≠ max a 1 + t := by omega
                simp only [setA_n this])
              have hvf2 : ∀ k, max a 1 ≤ k → k < max a 1 + (t + 1) → vaM np ln ne i c e k (setA vf (max a 1 + t) v k) := by
                intro k h9 h10
                by_cases ek : k = max a 1 + t
                · subst ek; rw [setA_s]; exact hv2
                · rw [setA_n ek]; exact hvf k h9 (by omega)
              have J165 : Wg Z (pM E A ad (upd g 6 (nI (rnF (fun k => odd_ (setA vf (max a 1 + t) v k)) (max a 1) (t + 1) (0, c 18)).1)) (setA (setA c 17 e) 18 (rnF (fun k => odd_ (setA vf (max a 1 + t) v k)) (max a 1) (t + 1) (0, c 18)).2)) 165 [(0, .ref (ad 0)), (1, .int (nI i)), (2, .int s2), (3, .int s3), (4, .int (nI (max a 1))), (5, .int (nI ln - nI (max b 1))), (6, .int (nI (max a 1 + t)))] [] := by
                refine r_iinc (L' := [(0, _), (1, _), (2, _), (3, _), (4, _), (5, _), (6, _)]) C d_M_run_165 rfl (nI_inc _) (by decide) rfl ?_
                refine r_goto (tgt := 116) C d_M_run_168 (by decide) ?_
                exact ih (t + 1) _ hns (by omega) (by omega) hvf2
              refine r_iconst (v := 2) C d_M_run_138 (by decide) ?_
              refine r_irem C d_M_run_139 (by decide) ?_
              refine r_iconst (v := 1) C d_M_run_140 (by decide) ?_
              refine r_icmp_ne (tgt := 165) C d_M_run_141 (by decide) (fun h9 => ?_) (fun h9 => ?_)
              · have ho : ¬ odd_ v = true := fun h => h9 ((odd_rem hin).mpr h)
                simp only [rnF, setA_s, ho, ecg] at J165
                exact J165
              · have ho : odd_ v = true := (odd_rem hin).mp h9
                simp only [rnF, setA_s, ho, ecg, if_true] at J165
                refine r_aload_n C d_M_run_144 rfl ?_
                refine rM_g62 C rfl vI d_M_run_145 ?_
                refine r_aload_n C d_M_run_148 rfl ?_
                refine rM_g110 C rfl vI d_M_run_149 ?_
                refine r_iload C d_M_run_152 rfl ?_
                refine rM_iast C vI rfl rfl (by show _ < 32; omega) setA_setA d_M_run_154 ?_
                refine r_aload_n C d_M_run_155 rfl ?_
                refine r_dup C d_M_run_156 rfl ?_
                refine rM_g110 C rfl vI d_M_run_157 ?_
                refine r_iconst (v := 1) C d_M_run_160 (by decide) ?_
                refine r_iadd C d_M_run_161 ?_
                refine r_tope _ (nI_1 _) ?_
                refine rM_p110 C rfl vI d_M_run_162 ?_
                rw [upd_upd]
                exact J165
    have J109 : Wg Z (pM E A ad (upd g 6 0) (setA c 17 e)) 109 [(0, .ref (ad 0)), (1, .int (nI i)), (2, .int s2), (3, .int s3), (4, .int (nI (max a 1)))] [.int (nI (max b 1)), .int (nI ln)] := by
      refine r_isub C d_M_run_109 ?_
      refine r_istore (L' := [(0, _), (1, _), (2, _), (3, _), (4, _), (5, _)]) C d_M_run_110 (by decide) rfl ?_
      refine r_iload C d_M_run_112 rfl ?_
      refine r_istore (L' := [(0, _), (1, _), (2, _), (3, _), (4, _), (5, _), (6, _)]) C d_M_run_114 (by decide) rfl ?_
      by_cases hst : stpM ln i c
      · have h0 := ret 0 (c 18) (nI (max a 1)) (by omega) (Or.inl ⟨hst, rfl, rfl⟩)
        rw [show setA (setA c 17 e) 18 (c 18) = setA c 17 e from setA_self (c := setA c 17 e)] at h0
        refine r_iload C d_M_run_116 rfl ?_
        refine r_iload C d_M_run_118 rfl ?_
        refine r_icmp_gt (tgt := 171) C d_M_run_120 (by decide) (fun h5 => ?_) (fun h5 => ?_)
        · exact h0
        · refine r_iload_n C d_M_run_123 rfl ?_
          refine r_if_eq (tgt := 171) C d_M_run_124 (by decide) (fun h7 => ?_) (fun h7 => ?_)
          · exact h0
          · refine r_iload_n C d_M_run_127 rfl ?_
            refine r_if_ne (tgt := 171) C d_M_run_128 (by decide) (fun h8 => ?_) (fun h8 => ?_)
            · exact h0
            · exfalso
              rcases hst with h | h | h
              · exact h5 ((sub_lt (by omega) (by omega) (by omega)).mpr (by omega))
              · exact h (yn_1 hs2 h7)
              · refine yn_0 hs3 h8 ⟨?_, h⟩
                rcases Nat.eq_zero_or_pos ln with q | q
                · exact absurd ((sub_lt (by omega) (by omega) (by omega)).mpr (by omega)) h5
                · exact q
      · have h11 := loop (ln + 2) 0 (fun _ => 0) hst (by omega) (by omega) (fun k h1 h2 => by omega)
        rw [show setA (setA c 17 e) 18 (rnF (fun k => odd_ ((fun _ => (0 : Int32)) k)) (max a 1) 0 (0, c 18)).2 = setA c 17 e from setA_self (c := setA c 17 e)] at h11
        exact h11
    have J83 : Wg Z (pM E A ad (upd g 6 0) (setA c 17 e)) 83 [(0, .ref (ad 0)), (1, .int (nI i)), (2, .int s2), (3, .int s3)] [.int (nI (max a 1))] := by
      refine r_istore (L' := [(0, _), (1, _), (2, _), (3, _), (4, _)]) C d_M_run_83 (by decide) rfl ?_
      refine r_aload_n C d_M_run_85 rfl ?_
      refine rM_g94 C rfl vI d_M_run_86 ?_
      refine r_tope (nI ln) hg5 ?_
      refine r_aload_n C d_M_run_89 rfl ?_
      refine rM_g20 C rfl vI d_M_run_90 ?_
      refine r_iload_n C d_M_run_93 rfl ?_
      refine rM_iald C vI rfl rfl (by show _ < 4; omega) eb d_M_run_94 ?_
      refine r_iconst (v := 1) C d_M_run_95 (by decide) ?_
      refine r_icmp_ge (tgt := 103) C d_M_run_96 (by decide) (fun h5 => ?_) (fun h5 => ?_)
      · refine r_aload_n C d_M_run_103 rfl ?_
        refine rM_g20 C rfl vI d_M_run_104 ?_
        refine r_iload_n C d_M_run_107 rfl ?_
        refine rM_iald C vI rfl rfl (by show _ < 4; omega) eb d_M_run_108 ?_
        rw [show nI b = nI (max b 1) from by have := (nI_leI (a := 1) (by omega) (by omega)).mp (show nI 1 ≤ nI b from h5); rw [Nat.max_eq_left this]]
        exact J109
      · refine r_iconst (v := 1) C d_M_run_99 (by decide) ?_
        refine r_goto (tgt := 109) C d_M_run_100 (by decide) ?_
        have : b < 1 := nI_lt_of (by omega) (show ¬ nI 1 ≤ nI b from h5)
        rw [show (1 : Int32) = nI (max b 1) from by rw [Nat.max_eq_right (by omega)]; rfl]
        exact J109
    refine r_istore_n (L' := [(0, _), (1, _), (2, _), (3, _)]) C d_M_run_62 (by decide) rfl ?_
    refine r_aload_n C d_M_run_63 rfl ?_
    refine rM_g17 C rfl vI d_M_run_64 ?_
    refine r_iload_n C d_M_run_67 rfl ?_
    refine rM_iald C vI rfl rfl (by show _ < 4; omega) ea d_M_run_68 ?_
    refine r_iconst (v := 1) C d_M_run_69 (by decide) ?_
    refine r_icmp_ge (tgt := 77) C d_M_run_70 (by decide) (fun h5 => ?_) (fun h5 => ?_)
    · refine r_aload_n C d_M_run_77 rfl ?_
      refine rM_g17 C rfl vI d_M_run_78 ?_
      refine r_iload_n C d_M_run_81 rfl ?_
      refine rM_iald C vI rfl rfl (by show _ < 4; omega) ea d_M_run_82 ?_
      rw [show nI a = nI (max a 1) from by have := (nI_leI (a := 1) (by omega) (by omega)).mp (show nI 1 ≤ nI a from h5); rw [Nat.max_eq_left this]]
      exact J83
    · refine r_iconst (v := 1) C d_M_run_73 (by decide) ?_
      refine r_goto (tgt := 83) C d_M_run_74 (by decide) ?_
      have : a < 1 := nI_lt_of (by omega) (show ¬ nI 1 ≤ nI a from h5)
      rw [show (1 : Int32) = nI (max a 1) from by rw [Nat.max_eq_right (by omega)]; rfl]
      exact J83
  refine r_istore_n (L' := [(0, _), (1, _), (2, _)]) C d_M_run_20 (by decide) rfl ?_
  refine r_aload_n C d_M_run_21 rfl ?_
  refine rM_g94 C rfl vI d_M_run_22 ?_
  refine r_tope (nI ln) hg5 ?_
  refine r_if_le (tgt := 61) C d_M_run_25 (by decide) (fun h2 => ?_) (fun h2 => ?_)
  · refine r_iconst (v := 0) C d_M_run_61 (by decide) ?_
    refine J62 0 (yn_f (fun h => nI_nle h.1 (by omega) h2))
  · have h3 : 0 < ln := by
      rcases Nat.eq_zero_or_pos ln with q | q
      · subst q; exact absurd (by decide) h2
      · exact q
    obtain ⟨w, hw1, hw2⟩ := hw 0 h3
    have hcap : (c 16 0).toNatClampNeg = w := by rw [hw2]; exact nI_clamp (by omega)
    refine r_aload_n C d_M_run_28 rfl ?_
    refine rM_g23 C rfl vI d_M_run_29 ?_
    refine r_iload_n C d_M_run_32 rfl ?_
    refine rM_zald C vI rfl rfl (by show _ < 4; omega) rfl d_M_run_33 ?_
    refine r_if_eq (tgt := 61) C d_M_run_34 (by decide) (fun h4 => ?_) (fun h4 => ?_)
    · refine r_iconst (v := 0) C d_M_run_61 (by decide) ?_
      exact J62 0 (yn_f (fun h => h.2.1 h4))
    · refine r_aload_n C d_M_run_37 rfl ?_
      refine rM_g13 C rfl vI d_M_run_38 ?_
      refine r_sipush (v := 256) C d_M_run_41 (by decide) ?_
      refine r_iload_n C d_M_run_44 rfl ?_
      refine r_imul C d_M_run_45 ?_
      refine r_aload_n C d_M_run_46 rfl ?_
      refine rM_g56 C rfl vI d_M_run_47 ?_
      refine r_iconst (v := 0) C d_M_run_50 (by decide) ?_
      refine rM_iald C vI rfl (show (0 : Int32) = nI 0 from rfl) (by show _ < 30; omega) rfl d_M_run_51 ?_
      refine r_iadd C d_M_run_52 ?_
      refine rM_zald C vI rfl (nI_ad _ _ (nI_mul 256 _ rfl rfl) hw2) (by show _ < 1024; omega) rfl d_M_run_53 ?_
      refine r_if_eq (tgt := 61) C d_M_run_54 (by decide) (fun h5 => ?_) (fun h5 => ?_)
      · refine r_iconst (v := 0) C d_M_run_61 (by decide) ?_
        refine J62 0 (yn_f (fun h => h.2.2 ?_))
        rw [hcap]; exact h5
      · refine r_iconst (v := 1) C d_M_run_57 (by decide) ?_
        refine r_goto (tgt := 62) C d_M_run_58 (by decide) ?_
        refine J62 1 (yn_t ⟨h3, h4, ?_⟩)
        rw [hcap]; exact h5
set_option maxHeartbeats 4000000 in
theorem cM_digit {np ln ne : Nat} (x y : Int32) (hg0 : g 0 = nI n) (hn : n ≤ 4) (hg5 : g 5 = nI ln) (hl : ln ≤ 30) (hg4 : g 4 = nI ne) (hne : ne ≤ 40) (hg2 : g 2 = nI np) (hnp : np ≤ 150) (hsz : ∀ p, p < np → ∃ s, s ≤ 12 ∧ c 9 p = nI s) (hw : ∀ k, k < ln → isIn 256 (c 16 k)) (hp : ∀ i, i < n → ∀ w, w < 256 → isIn 31 (c 1 (256 * i + w))) : mW l E mM_digit A [.ref (ad 0), .int x, .int y] (pM E A ad g c) (diM n np ln ne g c x y) (fun u => pM E A ad u.1 u.2) := by
  refine metW (by decide) rfl (Nat.le_of_ble_eq_true rfl) (catOK rfl) (fun Z hZ C R => ?_)
  show Wg Z _ 0 [(0, _), (1, _), (2, _)] []
  refine r_aload_n C d_M_digit_0 rfl ?_
  refine r_iload_n C d_M_digit_1 rfl ?_
  refine r_callR C (cM_isLanguage x hg0 hn) cV_69_M ⟨by decide, by decide⟩ ⟨rfl, rfl⟩ vI (fun s H => pM_recv) rfl rfl (Nat.le_of_ble_eq_true rfl) d_M_digit_2 (fun r1 hr1 => ?_)
  refine r_if_eq (tgt := 20) C d_M_digit_5 (by decide) (fun h1 => ?_) (fun h1 => ?_)
  · refine r_iconst (v := -1) C d_M_digit_20 (by decide) ?_
    exact R _ _ _ _ _ d_M_digit_21 rfl vI (Or.inl ⟨fun h => yn_0 hr1 h1 h.1, rfl, rfl⟩)
  · refine r_iload_n C d_M_digit_8 rfl ?_
    refine r_if_lt (tgt := 20) C d_M_digit_9 (by decide) (fun h2 => ?_) (fun h2 => ?_)
    · refine r_iconst (v := -1) C d_M_digit_20 (by decide) ?_
      exact R _ _ _ _ _ d_M_digit_21 rfl vI (Or.inl ⟨fun h => Int32.not_lt.mpr ((isIn_le (by omega)).mp h.2).1 h2, rfl, rfl⟩)
    · refine r_iload_n C d_M_digit_12 rfl ?_
      refine r_aload_n C d_M_digit_13 rfl ?_
      refine rM_g94 C rfl vI d_M_digit_14 ?_
      rw [hg5]
      refine r_icmp_le (tgt := 22) C d_M_digit_17 (by decide) (fun h3 => ?_) (fun h3 => ?_)
      · obtain ⟨i, hi, rfl⟩ := yn_1 hr1 h1
        obtain ⟨k, hk, rfl⟩ := (isIn_le (B := ln) (by omega)).mpr ⟨Int32.not_lt.mp h2, h3⟩
        refine r_aload_n C d_M_digit_22 rfl ?_
        refine r_iload_n C d_M_digit_23 rfl ?_
        refine r_callW C (cM_spell (show i < 4 by omega) hg5 hl hw (hp i hi)) cV_100_M ⟨by decide, by decide⟩ ⟨rfl, rfl⟩ vI (fun s H => pM_recv) rfl rfl (Nat.le_of_ble_eq_true rfl) d_M_digit_24 (fun s2 e hs => ?_)
        obtain ⟨hs2, hed⟩ := hs
        refine r_if_eq (tgt := 39) C d_M_digit_27 (by decide) (fun h4 => ?_) (fun h4 => ?_)
        · refine r_iconst (v := 0) C d_M_digit_39 (by decide) ?_
          exact R _ _ _ _ (g, setA c 17 e) d_M_digit_40 rfl vI (Or.inr ⟨i, k, e, hi, by omega, rfl, rfl, rfl, hed, Or.inl ⟨yn_0 hs2 h4, rfl⟩⟩)
        · refine r_aload_n C d_M_digit_30 rfl ?_
          refine r_iload_n C d_M_digit_31 rfl ?_
          refine r_iload_n C d_M_digit_32 rfl ?_
          refine r_callR C (cM_digitOf (i := i) (k := k) (c := setA c 17 e) (show k ≤ 30 by omega) hg5 hl hg4 hne hg2 hnp hsz) cV_113_M ⟨by decide, by decide⟩ ⟨rfl, rfl⟩ vI (fun s H => pM_recv) rfl rfl (Nat.le_of_ble_eq_true rfl) d_M_digit_33 (fun v hv => ?_)
          refine r_goto (tgt := 40) C d_M_digit_36 (by decide) ?_
          exact R _ _ _ _ (g, setA c 17 e) d_M_digit_40 rfl vI (Or.inr ⟨i, k, e, hi, by omega, rfl, rfl, rfl, hed, Or.inr ⟨yn_1 hs2 h4, hv⟩⟩)
      · refine r_iconst (v := -1) C d_M_digit_20 (by decide) ?_
        exact R _ _ _ _ _ d_M_digit_21 rfl vI (Or.inl ⟨fun h => h3 ((isIn_le (by omega)).mp h.2).2, rfl, rfl⟩)
end S24
end
section
-- allocation rows; constructors
def zs (Z : cZ) (k n : Nat) : cZ := match Z with
  | (p, l, e, R, s, m, args, below, meth, c, A, nL, _, _, Q) => (p, l, e, R, s, m, args, below, meth, c, A, nL, k, n, Q)
/-- all that is new may be written; the method's name -/
def zN (Z : cZ) (A : Nat → Prop) (nm : String) : Prop := match Z with
  | (_, _, _, _, s, _, _, _, meth, _, _, _, _, _, _) => (∀ q, s.heap.size ≤ q → A q) ∧ meth.name = nm
def pW (E : eE) (A : Nat → Prop) (ws : va_W) (H : Heap) : Prop := va_P E.1 classes ws H ∧ va_D A ws
theorem zs_C {Z : cZ} {E : eE} {μ : mD} {A : Nat → Prop} {k n k' n' : Nat} (C : CG (zs Z k n) E μ A) (hk : k' ≤ μ.2.2.2.2.cells) (hn : n' ≤ μ.2.2.2.2.slots) : CG (zs Z k' n') E μ A := by
  obtain ⟨p, l, e, R, s, m, args, below, meth, c, A0, nL, cells, slots, Q⟩ := Z
  obtain ⟨hx, hb, hml, hnL, hown, hts, hK, hR, hA, hr, hlk, hc1, hc2⟩ := C
  exact ⟨hx, hb, hml, hnL, hown, hts, hK, hR, hA, hr, hlk, by rw [hR]; exact hk, by rw [hR]; exact hn⟩
/-- an array class that the tables name is the one that E has -/
theorem eK_cls {E : eE} {s : State} {t0 : Nat} {cA c' : ClassId} {ty : FieldType} {tys : List (ClassId × FieldType)} (hK : eK E s) (ht : (eT E)[t0]? = some (cA, ty)) (hK' : va_K E.1 classes (eT E ++ [(c', ty)]) s) : c' = cA := by
  have h1 := (hK.1.2 t0 _ ht).2
  have h2 : va_RA s c' ty := (hK'.2 4 (c', ty) rfl).2
  cases ty with
  | object C =>
    obtain ⟨_, _, -, -, -, h3⟩ := h1
    obtain ⟨_, _, -, -, -, h4⟩ := h2
    exact Option.some.inj (h4.symm.trans h3)
  | _ => exact Option.some.inj ((show s.vm.findClass _ = some c' from h2).symm.trans h1)
section Mk
variable {Z : cZ} {E : eE} {μ : mD} {A : Nat → Prop} {P : Heap → Prop} {pc k n : Nat} {L : List (Nat × Value)} {st : List Value} {ws : va_W} {nm : String}
theorem r_newa {N t0 : Nat} {x : Int32} {cA : ClassId} {atype : ArrayType} {ty : FieldType} {a0 : vp_A} (C : CG (zs Z k n) E μ A) (hN : zN Z A nm) (harr : Cond.arrayClass ty ∈ gw) (hty : newarray.typeOf atype = ty) (ht0 : (eT E)[t0]? = some (cA, ty)) (ha : ∀ cA : ClassId, vp_cell cA a0 = arrV cA N (fun _ => defaultValue ty)) (hx0 : ¬ x < 0) (hxN : x.toNatClampNeg = N) (hby : N * componentBytes ty ≤ 536870912) (hk : k + 1 ≤ μ.2.2.2.2.cells) (hn : n + N ≤ μ.2.2.2.2.slots) (hd : decode μ.2.1 pc = .ok (.newarray atype, 2)) (kk : ∀ q, Wg (zs Z (k + 1) (n + N)) (pW E A (ws ++ [(q, .inl (cA, a0))])) (pc + 2) L (.ref q :: st)) : Wg (zs Z k n) (pW E A ws) pc L (.int x :: st) := by
  obtain ⟨p, l, e, R, s, m, args, below, meth, c, A0, nL, cells, slots, Q⟩ := Z
  obtain ⟨hx, hb, hml, hnL, hown, hts, hK, hR, hA, hr, hlk, hc1, hc2⟩ := C
  intro H locs ls hP hS hl
  subst hA
  subst hR
  refine va_newa hx hb (by rw [hty]; exact hts _ harr) hty hK.1 hP.1 hP.2 hS hN.1 ha hx0 hxN hby hk hn hd (fun q c' H1 hK1 hP1 hD1 hS1 => ?_)
  have e1 : c' = cA := eK_cls (tys := []) hK ht0 hK1
  subst e1
  exact kk q H1 locs ls ⟨hP1, hD1⟩ hS1 hl
theorem r_newq {N idx : Nat} {x : Int32} (C : CG (zs Z k n) E μ A) (hN : zN Z A nm) (hcl : Cond.classLink μ.1.cls idx R_G ∈ gw) (hx0 : ¬ x < 0) (hxN : x.toNatClampNeg = N) (hby : N * 4 ≤ 536870912) (hk : k + 1 ≤ μ.2.2.2.2.cells) (hn : n + N ≤ μ.2.2.2.2.slots) (hd : decode μ.2.1 pc = .ok (.anewarray idx, 3)) (kk : ∀ q, Wg (zs Z (k + 1) (n + N)) (pW E A (ws ++ [(q, .inl (E.2.2.2.2, N, .inr (.inr (.inr (.inr (fun _ => none))))))])) (pc + 3) L (.ref q :: st)) : Wg (zs Z k n) (pW E A ws) pc L (.int x :: st) := by
  obtain ⟨p, l, e, R, s, m, args, below, meth, c, A0, nL, cells, slots, Q⟩ := Z
  obtain ⟨hx, hb, hml, hnL, hown, hts, hK, hR, hA, hr, hlk, hc1, hc2⟩ := C
  intro H locs ls hP hS hl
  subst hA
  subst hR
  refine va_newq hx hb hown (hts _ hcl) hK.2.2 hK.1 hP.1 hP.2 hS hN.1 hx0 hxN hby hk hn hd (fun q c' H1 hK1 hP1 hD1 hS1 => ?_)
  have e1 : c' = E.2.2.2.2 := eK_cls (tys := []) (t0 := 3) hK rfl hK1
  subst e1
  exact kk q H1 locs ls ⟨hP1, hD1⟩ hS1 hl
theorem r_objInit {idx a : Nat} (C : CG Z E μ A) (h1 : Cond.methodLink μ.1.cls idx Lib.objectInit ∈ gw) (h2 : Cond.instanceMethod Lib.objectInit ∈ gw) (h3 : Cond.code Lib.objectInit ⟨#[0xb1]⟩ 1 none ∈ gw) (hf : 1 ≤ μ.2.2.2.2.frames) (hlo : (st.map fun v => v.category).sum + 12 ≤ μ.2.2.2.2.locals) (hd : decode μ.2.1 pc = .ok (.invokespecial idx, 3)) (kk : Wg Z P (pc + 3) L st) : Wg Z P pc L (.ref a :: st) := by
  obtain ⟨p, l, e, R, s, m, args, below, meth, c, A0, nL, cells, slots, Q⟩ := Z
  obtain ⟨hx, hb, hml, hnL, hown, hts, hK, hR, hA, hr, hlk, hc1, hc2⟩ := C
  intro H locs ls hP hS hl
  subst hR
  refine W.objInit hx hb hown (hts _ h1) (hts _ h2) (hts _ h3) rfl (by rw [hml]; exact hl.1.1) rfl hd hf (by show 2 * 0 + _ + 12 ≤ _; omega) ?_
  exact kk H locs ls hP hS hl
theorem r_putF {idx q0 ci k0 a N : Nat} {cn : String} {T : u_T} {ty0 : Nat → FieldType} {fs : List Value} {v : Value} {ws' : va_W} {ty : FieldType} (C : CG (zs Z k n) E μ A) (hN : zN Z A "<init>") (hμ : μ.1.cls = cn) (hcl : classes[ci]? = some (cn, T, N)) (hin : ∀ w ∈ u_ws cn T N, w ∈ gw) (htok : ∀ k, k < N → parseFieldDescriptor (T k).2.2.1 = some (ty0 k)) (hnok : ∀ a, a < N → ∀ b, b < N → a ≠ b → (T a).2.1 ≠ (T b).2.1) (he : ws[q0]? = some (a, .inr (ci, fs))) (hk0 : k0 < N) (hq : Cond.fieldLink cn idx cn (T k0).2.1 (T k0).2.2.1 ∈ gw) (hF : (T k0).1 = cn) (hfin : (T k0).2.2.2 = true) (hty : parseFieldDescriptor (T k0).2.2.1 = some ty) (hnar : narrow ty v = v) (hfit : fits ty v = true) (hlen : k0 < fs.length) (hw : ws.set q0 (a, .inr (ci, fs.set k0 v)) = ws') (hd : decode μ.2.1 pc = .ok (.putfield idx, 3)) (kk : Wg (zs Z k n) (pW E A ws') (pc + 3) L st) : Wg (zs Z k n) (pW E A ws) pc L (v :: .ref a :: st) := by
  obtain ⟨p, l, e, R, s, m, args, below, meth, c, A0, nL, cells, slots, Q⟩ := Z
  obtain ⟨hx, hb, hml, hnL, hown, hts, hK, hR, hA, hr, hlk, hc1, hc2⟩ := C
  intro H locs ls hP hS hl
  subst hA
  subst hw
  rw [hμ] at hown
  exact va_putF (D := E.1) (ty := ty) hx hb hts hin ty0 htok hnok hown hK.1 hP.1 hP.2 hS q0 he hcl k0 hk0 (hts _ hq) (fun _ h9 => by rw [hF] at h9; exact h9) hfin hN.2 hF hty hnar hfit hlen hd (fun H1 locs1 hP1 hD1 hS1 => kk H1 locs1 ls ⟨hP1, hD1⟩ hS1 hl)
theorem r_putO {idx q0 ci k0 a N : Nat} {cn : String} {T : u_T} {ty0 : Nat → FieldType} {fs : List Value} {v : Value} {ws' : va_W} {ty : FieldType} (C : CG (zs Z k n) E μ A) (hμ : μ.1.cls = cn) (hcl : classes[ci]? = some (cn, T, N)) (hin : ∀ w ∈ u_ws cn T N, w ∈ gw) (htok : ∀ k, k < N → parseFieldDescriptor (T k).2.2.1 = some (ty0 k)) (hnok : ∀ a, a < N → ∀ b, b < N → a ≠ b → (T a).2.1 ≠ (T b).2.1) (he : ws[q0]? = some (a, .inr (ci, fs))) (hk0 : k0 < N) (hq : Cond.fieldLink cn idx cn (T k0).2.1 (T k0).2.2.1 ∈ gw) (hF : (T k0).1 = cn) (hfin : (T k0).2.2.2 = false) (hty : parseFieldDescriptor (T k0).2.2.1 = some ty) (hnar : narrow ty v = v) (hfit : fits ty v = true) (hlen : k0 < fs.length) (hw : ws.set q0 (a, .inr (ci, fs.set k0 v)) = ws') (hd : decode μ.2.1 pc = .ok (.putfield idx, 3)) (kk : Wg (zs Z k n) (pW E A ws') (pc + 3) L st) : Wg (zs Z k n) (pW E A ws) pc L (v :: .ref a :: st) := by
  obtain ⟨p, l, e, R, s, m, args, below, meth, c, A0, nL, cells, slots, Q⟩ := Z
  obtain ⟨hx, hb, hml, hnL, hown, hts, hK, hR, hA, hr, hlk, hc1, hc2⟩ := C
  intro H locs ls hP hS hl
  subst hA
  subst hw
  rw [hμ] at hown
  exact va_put (D := E.1) (ty := ty) hx hb hts hin ty0 htok hnok hown hK.1 hP.1 hP.2 hS q0 he hcl k0 hk0 (hts _ hq) (fun _ h9 => by rw [hF] at h9; exact h9) hfin hty hnar hfit hlen hd (fun H1 locs1 hP1 hD1 hS1 => kk H1 locs1 ls ⟨hP1, hD1⟩ hS1 hl)
end Mk
/-- a contract that makes cells and answers nothing: all that is new may be written -/
def mN {S : Type} (l : Launch) (E : eE) (μ : mD) (A : Nat → Prop) (As : List Value) (P0 : Heap → Prop) (post : S → Prop) (B : S → Heap → Prop) : Prop := Met l μ.1 (wd μ) μ.2.2.2.2 (va_Pc As (fun U => (P0 U.heap ∧ ∀ q, U.heap.size ≤ q → A q) ∧ eK E U)) (va_Qv post (fun u t => B u t.heap) A) μ.2.2.2.2.cells μ.2.2.2.2.slots A
theorem metN {l : Launch} {E : eE} {μ : mD} {A : Nat → Prop} {As : List Value} {P0 : Heap → Prop} {S : Type} {post : S → Prop} {B : S → Heap → Prop} (hy : plainName μ.1.cls = true) (hty : μ.2.2.2.1 = none) (hlen : (lg_sl As).length ≤ μ.2.2.1) (hcat : ∀ q ∈ lv_args 0 As, q.2.category = 1)
    (body : ∀ (Z : cZ), CG (zs Z 0 0) E μ A → zN Z A μ.1.name → (∀ (k n pc : Nat) (L : List (Nat × Value)) (P : Heap → Prop) (u : S), k ≤ μ.2.2.2.2.cells → n ≤ μ.2.2.2.2.slots → decode μ.2.1 pc = .ok (.return_, 1) → (∀ H, P H → B u H) → post u → Wg (zs Z k n) P pc L []) → Wg (zs Z 0 0) P0 0 (lv_args 0 As) []) : mN l E μ A As P0 post B := by
  refine Met.ofW (cc := μ.2.1) (maxL := μ.2.2.1) (ret := μ.2.2.2.1) hy rfl ?_
  intro p e s m args below meth c s₁ B' hml hv
  obtain ⟨rfl, ⟨hP, hN⟩, hK⟩ := hv
  have hts : ∀ w ∈ gw, w.before As.toArray s = true := fun w hw => atoms_spec (ws := wd μ) B'.pre w (List.mem_cons_of_mem _ hw)
  have hown : s.vm.findClass μ.1.cls = some m.cls := findClass_of_methodNamed B'.named
  have hlk : meth.locks = false := B'.notSynchronized
  have hnm : meth.name = μ.1.name := (name_of_methodNamed B'.named B'.method).1
  have hl := lv_entry As (n := μ.2.2.1) hlen
  rw [lg_entry_eq]
  generalize (lg_sl As ++ List.replicate (μ.2.2.1 - (lg_sl As).length) Slot.unset).toArray = ls at hl ⊢
  refine body (p, l, e, μ.2.2.2.2, s, m, As.toArray, below, meth, c, A, μ.2.2.1, 0, 0, _) ⟨B'.exec, B'.bytes, hml, rfl, hown, hts, hK, rfl, rfl, B'.returns, hlk, Nat.zero_le _, Nat.zero_le _⟩ ⟨hN, hnm⟩ ?_ s.heap [] ls hP va_S.rf ⟨hl, hcat⟩
  intro k n pc L P u hk hn hd hB hp H locs ls' hH hS hl'
  refine W.widen (k := μ.2.2.2.2.cells) (n := μ.2.2.2.2.slots) hk hn ?_
  exact W.vret B'.exec B'.bytes (by rw [B'.returns]; exact hty) (fun t ht hW => ⟨⟨u, rfl, hp, by show B u t.heap; rw [ht]; exact hB H hH⟩, hS.F ht⟩) (fun q hq => hS.2.2 q hq) hd
section Ctors
variable {l : Launch} {E : eE} {A : Nat → Prop}
/-- the cells of a new language -/
def nwG (E : eE) (h0 q1 q2 : Nat) : va_W := [(h0, .inr (1, [.ref q1, .ref q2, .int 2, .int 3, .int 0, .int (-1)])), (q1, .inl (E.2.2.1, 256, .inl (fun _ => 0))), (q2, .inl (E.2.2.2.1, 256, .inl (fun _ => 0)))]
set_option maxHeartbeats 4000000 in
theorem cG_init (h0 : Nat) : mN l E mG_init A [.ref h0] (pW E A [(h0, .inr (1, [.null, .null, .int 0, .int 0, .int 0, .int 0]))]) (fun _ : Nat × Nat => True) (fun u => pW E A (nwG E h0 u.1 u.2)) := by
  refine metN (by decide) rfl (Nat.le_of_ble_eq_true rfl) (catOK rfl) (fun Z C hN R => ?_)
  show Wg (zs Z 0 0) _ 0 [(0, _)] []
  refine r_aload_n C d_G_init_0 rfl ?_
  refine r_objInit C q_98 q_11 q_12 (by decide) (Nat.le_of_ble_eq_true rfl) d_G_init_1 ?_
  refine r_aload_n C d_G_init_4 rfl ?_
  refine r_sipush (v := 256) C d_G_init_5 (by decide) ?_
  refine r_newa (N := 256) (t0 := 1) (cA := E.2.2.1) (ty := .byte) (a0 := (256, .inl (fun _ => 0))) C hN q_89 rfl rfl (fun _ => rfl) (by decide) (by decide) (by decide) (Nat.le_of_ble_eq_true rfl) (Nat.le_of_ble_eq_true rfl) d_G_init_8 (fun q1 => ?_)
  have C := zs_C (k' := 1) (n' := 256) C (Nat.le_of_ble_eq_true rfl) (Nat.le_of_ble_eq_true rfl)
  refine r_putF (ci := 1) (k0 := 0) (q0 := 0) (ty := (.array .byte)) (ty0 := t_G) (ws' := [(h0, .inr (1, [.ref q1, .null, .int 0, .int 0, .int 0, .int 0])), (q1, .inl (E.2.2.1, 256, .inl (fun _ => 0)))]) C hN rfl rfl i_G t_G_ok n_G rfl (by decide) q_99 rfl rfl (by decide +kernel) rfl rfl (Nat.le_of_ble_eq_true rfl) rfl d_G_init_10 ?_
  refine r_aload_n C d_G_init_13 rfl ?_
  refine r_sipush (v := 256) C d_G_init_14 (by decide) ?_
  refine r_newa (N := 256) (t0 := 2) (cA := E.2.2.2.1) (ty := .boolean) (a0 := (256, .inl (fun _ => 0))) C hN q_123 rfl rfl (fun _ => rfl) (by decide) (by decide) (by decide) (Nat.le_of_ble_eq_true rfl) (Nat.le_of_ble_eq_true rfl) d_G_init_17 (fun q2 => ?_)
  have C := zs_C (k' := 2) (n' := 512) C (Nat.le_of_ble_eq_true rfl) (Nat.le_of_ble_eq_true rfl)
  refine r_putF (ci := 1) (k0 := 1) (q0 := 0) (ty := (.array .boolean)) (ty0 := t_G) (ws' := [(h0, .inr (1, [.ref q1, .ref q2, .int 0, .int 0, .int 0, .int 0])), (q1, .inl (E.2.2.1, 256, .inl (fun _ => 0))), (q2, .inl (E.2.2.2.1, 256, .inl (fun _ => 0)))]) C hN rfl rfl i_G t_G_ok n_G rfl (by decide) q_101 rfl rfl (by decide +kernel) rfl rfl (Nat.le_of_ble_eq_true rfl) rfl d_G_init_19 ?_
  refine r_aload_n C d_G_init_22 rfl ?_
  refine r_iconst (v := 2) C d_G_init_23 (by decide) ?_
  refine r_putO (ci := 1) (k0 := 2) (q0 := 0) (ty := .int) (ty0 := t_G) (ws' := [(h0, .inr (1, [.ref q1, .ref q2, .int 2, .int 0, .int 0, .int 0])), (q1, .inl (E.2.2.1, 256, .inl (fun _ => 0))), (q2, .inl (E.2.2.2.1, 256, .inl (fun _ => 0)))]) C rfl rfl i_G t_G_ok n_G rfl (by decide) q_103 rfl rfl (by decide +kernel) rfl rfl (Nat.le_of_ble_eq_true rfl) rfl d_G_init_24 ?_
  refine r_aload_n C d_G_init_27 rfl ?_
  refine r_iconst (v := 3) C d_G_init_28 (by decide) ?_
  refine r_putO (ci := 1) (k0 := 3) (q0 := 0) (ty := .int) (ty0 := t_G) (ws' := [(h0, .inr (1, [.ref q1, .ref q2, .int 2, .int 3, .int 0, .int 0])), (q1, .inl (E.2.2.1, 256, .inl (fun _ => 0))), (q2, .inl (E.2.2.2.1, 256, .inl (fun _ => 0)))]) C rfl rfl i_G t_G_ok n_G rfl (by decide) q_105 rfl rfl (by decide +kernel) rfl rfl (Nat.le_of_ble_eq_true rfl) rfl d_G_init_29 ?_
  refine r_aload_n C d_G_init_32 rfl ?_
  refine r_iconst (v := -1) C d_G_init_33 (by decide) ?_
  refine r_putO (ci := 1) (k0 := 5) (q0 := 0) (ty := .int) (ty0 := t_G) (ws' := [(h0, .inr (1, [.ref q1, .ref q2, .int 2, .int 3, .int 0, .int (-1)])), (q1, .inl (E.2.2.1, 256, .inl (fun _ => 0))), (q2, .inl (E.2.2.2.1, 256, .inl (fun _ => 0)))]) C rfl rfl i_G t_G_ok n_G rfl (by decide) q_108 rfl rfl (by decide +kernel) rfl rfl (Nat.le_of_ble_eq_true rfl) rfl d_G_init_34 ?_
  exact R _ _ _ _ _ (q1, q2) (Nat.le_of_ble_eq_true rfl) (Nat.le_of_ble_eq_true rfl) d_G_init_37 vI trivial
set_option maxHeartbeats 4000000 in
set_option maxRecDepth 100000 in
theorem wX_new (h0 q1 q2 q3 q4 q5 q6 q7 q8 q9 q10 q11 q12 q13 q14 q15 q16 : Nat) : [0, 2, 3, 4, 5, 6, 7, 8, 9, 10, 11, 12, 13, 14, 15, 16, 1].map (fun i => ([(h0, .inr (0, [.ref q1, .int 0, .ref q2, .ref q3, .ref q4, .ref q5, .int 0, .ref q6, .int 0, .int 0, .ref q7, .ref q8, .int 0, .ref q9, .int 0, .ref q10, .ref q11, .ref q12, .ref q13, .int 0, .ref q14, .ref q15, .ref q16, .int 0])), (q1, .inl (E.2.2.2.2, 4, .inr (.inr (.inr (.inr (fun _ => none)))))), (q2, .inl (E.2.1, 900, .inl (fun _ => 0))), (q3, .inl (E.2.1, 900, .inl (fun _ => 0))), (q4, .inl (E.2.1, 900, .inl (fun _ => 0))), (q5, .inl (E.2.1, 900, .inl (fun _ => 0))), (q6, .inl (E.2.2.1, 1950, .inl (fun _ => 0))), (q7, .inl (E.2.1, 12, .inl (fun _ => 0))), (q8, .inl (E.2.1, 12, .inl (fun _ => 0))), (q9, .inl (E.2.1, 30, .inl (fun _ => 0))), (q10, .inl (E.2.1, 40, .inl (fun _ => 0))), (q11, .inl (E.2.2.1, 1200, .inl (fun _ => 0))), (q12, .inl (E.2.1, 40, .inl (fun _ => 0))), (q13, .inl (E.2.1, 40, .inl (fun _ => 0))), (q14, .inl (E.2.1, 32, .inl (fun _ => 0))), (q15, .inl (E.2.1, 33, .inl (fun _ => 0))), (q16, .inl (E.2.1, 30, .inl (fun _ => 0)))] : va_W)[i]?) = (wX E (fun j => [h0, q2, q3, q4, q5, q6, q7, q8, q9, q10, q11, q12, q13, q14, q15, q16, q1].getD j 0) 0 (fun _ => 0) (fun _ _ => 0) (fun _ _ => 0) (fun _ _ _ => 0)).map some := rfl
set_option maxHeartbeats 4000000 in
set_option maxRecDepth 100000 in
theorem cX_init (h0 : Nat) : mN l E mX_init A [.ref h0] (pW E A [(h0, .inr (0, [.null, .int 0, .null, .null, .null, .null, .int 0, .null, .int 0, .int 0, .null, .null, .int 0, .null, .int 0, .null, .null, .null, .null, .int 0, .null, .null, .null, .int 0]))]) (fun ad : Nat → Nat => ad 0 = h0) (fun ad => pX E A ad 0 (fun _ => 0) (fun _ _ => 0) (fun _ _ => 0) (fun _ _ _ => 0)) := by
  refine metN (by decide) rfl (Nat.le_of_ble_eq_true rfl) (catOK rfl) (fun Z C hN R => ?_)
  show Wg (zs Z 0 0) _ 0 [(0, _)] []
  refine r_aload_n C d_X_init_0 rfl ?_
  refine r_objInit C q_10 q_11 q_12 (by decide) (Nat.le_of_ble_eq_true rfl) d_X_init_1 ?_
  refine r_aload_n C d_X_init_4 rfl ?_
  refine r_iconst (v := 4) C d_X_init_5 (by decide) ?_
  refine r_newq (N := 4) C hN q_13 (by decide) (by decide) (by decide) (Nat.le_of_ble_eq_true rfl) (Nat.le_of_ble_eq_true rfl) d_X_init_6 (fun q1 => ?_)
  have C := zs_C (k' := 1) (n' := 4) C (Nat.le_of_ble_eq_true rfl) (Nat.le_of_ble_eq_true rfl)
  refine r_putF (ci := 0) (k0 := 0) (q0 := 0) (ty := (.array (.object "HyphenRows$Language"))) (ty0 := t_X) (ws' := [(h0, .inr (0, [.ref q1, .int 0, .null, .null, .null, .null, .int 0, .null, .int 0, .int 0, .null, .null, .int 0, .null, .int 0, .null, .null, .null, .null, .int 0, .null, .null, .null, .int 0])), (q1, .inl (E.2.2.2.2, 4, .inr (.inr (.inr (.inr (fun _ => none))))))]) C hN rfl rfl i_X t_X_ok n_X rfl (by decide) q_15 rfl rfl (by decide +kernel) rfl rfl (Nat.le_of_ble_eq_true rfl) rfl d_X_init_9 ?_
  refine r_aload_n C d_X_init_12 rfl ?_
  refine r_sipush (v := 900) C d_X_init_13 (by decide) ?_
  refine r_newa (N := 900) (t0 := 0) (cA := E.2.1) (ty := .int) (a0 := (900, .inl (fun _ => 0))) C hN q_88 rfl rfl (fun _ => rfl) (by decide) (by decide) (by decide) (Nat.le_of_ble_eq_true rfl) (Nat.le_of_ble_eq_true rfl) d_X_init_16 (fun q2 => ?_)
  have C := zs_C (k' := 2) (n' := 904) C (Nat.le_of_ble_eq_true rfl) (Nat.le_of_ble_eq_true rfl)
  refine r_putF (ci := 0) (k0 := 2) (q0 := 0) (ty := (.array .int)) (ty0 := t_X) (ws' := [(h0, .inr (0, [.ref q1, .int 0, .ref q2, .null, .null, .null, .int 0, .null, .int 0, .int 0, .null, .null, .int 0, .null, .int 0, .null, .null, .null, .null, .int 0, .null, .null, .null, .int 0])), (q1, .inl (E.2.2.2.2, 4, .inr (.inr (.inr (.inr (fun _ => none)))))), (q2, .inl (E.2.1, 900, .inl (fun _ => 0)))]) C hN rfl rfl i_X t_X_ok n_X rfl (by decide) q_17 rfl rfl (by decide +kernel) rfl rfl (Nat.le_of_ble_eq_true rfl) rfl d_X_init_18 ?_
  refine r_aload_n C d_X_init_21 rfl ?_
  refine r_sipush (v := 900) C d_X_init_22 (by decide) ?_
  refine r_newa (N := 900) (t0 := 0) (cA := E.2.1) (ty := .int) (a0 := (900, .inl (fun _ => 0))) C hN q_88 rfl rfl (fun _ => rfl) (by decide) (by decide) (by decide) (Nat.le_of_ble_eq_true rfl) (Nat.le_of_ble_eq_true rfl) d_X_init_25 (fun q3 => ?_)
  have C := zs_C (k' := 3) (n' := 1804) C (Nat.le_of_ble_eq_true rfl) (Nat.le_of_ble_eq_true rfl)
  refine r_putF (ci := 0) (k0 := 3) (q0 := 0) (ty := (.array .int)) (ty0 := t_X) (ws' := [(h0, .inr (0, [.ref q1, .int 0, .ref q2, .ref q3, .null, .null, .int 0, .null, .int 0, .int 0, .null, .null, .int 0, .null, .int 0, .null, .null, .null, .null, .int 0, .null, .null, .null, .int 0])), (q1, .inl (E.2.2.2.2, 4, .inr (.inr (.inr (.inr (fun _ => none)))))), (q2, .inl (E.2.1, 900, .inl (fun _ => 0))), (q3, .inl (E.2.1, 900, .inl (fun _ => 0)))]) C hN rfl rfl i_X t_X_ok n_X rfl (by decide) q_18 rfl rfl (by decide +kernel) rfl rfl (Nat.le_of_ble_eq_true rfl) rfl d_X_init_27 ?_
  refine r_aload_n C d_X_init_30 rfl ?_
  refine r_sipush (v := 900) C d_X_init_31 (by decide) ?_
  refine r_newa (N := 900) (t0 := 0) (cA := E.2.1) (ty := .int) (a0 := (900, .inl (fun _ => 0))) C hN q_88 rfl rfl (fun _ => rfl) (by decide) (by decide) (by decide) (Nat.le_of_ble_eq_true rfl) (Nat.le_of_ble_eq_true rfl) d_X_init_34 (fun q4 => ?_)
  have C := zs_C (k' := 4) (n' := 2704) C (Nat.le_of_ble_eq_true rfl) (Nat.le_of_ble_eq_true rfl)
  refine r_putF (ci := 0) (k0 := 4) (q0 := 0) (ty := (.array .int)) (ty0 := t_X) (ws' := [(h0, .inr (0, [.ref q1, .int 0, .ref q2, .ref q3, .ref q4, .null, .int 0, .null, .int 0, .int 0, .null, .null, .int 0, .null, .int 0, .null, .null, .null, .null, .int 0, .null, .null, .null, .int 0])), (q1, .inl (E.2.2.2.2, 4, .inr (.inr (.inr (.inr (fun _ => none)))))), (q2, .inl (E.2.1, 900, .inl (fun _ => 0))), (q3, .inl (E.2.1, 900, .inl (fun _ => 0))), (q4, .inl (E.2.1, 900, .inl (fun _ => 0)))]) C hN rfl rfl i_X t_X_ok n_X rfl (by decide) q_19 rfl rfl (by decide +kernel) rfl rfl (Nat.le_of_ble_eq_true rfl) rfl d_X_init_36 ?_
  refine r_aload_n C d_X_init_39 rfl ?_
  refine r_sipush (v := 900) C d_X_init_40 (by decide) ?_
  refine r_newa (N := 900) (t0 := 0) (cA := E.2.1) (ty := .int) (a0 := (900, .inl (fun _ => 0))) C hN q_88 rfl rfl (fun _ => rfl) (by decide) (by decide) (by decide) (Nat.le_of_ble_eq_true rfl) (Nat.le_of_ble_eq_true rfl) d_X_init_43 (fun q5 => ?_)
  have C := zs_C (k' := 5) (n' := 3604) C (Nat.le_of_ble_eq_true rfl) (Nat.le_of_ble_eq_true rfl)
  refine r_putF (ci := 0) (k0 := 5) (q0 := 0) (ty := (.array .int)) (ty0 := t_X) (ws' := [(h0, .inr (0, [.ref q1, .int 0, .ref q2, .ref q3, .ref q4, .ref q5, .int 0, .null, .int 0, .int 0, .null, .null, .int 0, .null, .int 0, .null, .null, .null, .null, .int 0, .null, .null, .null, .int 0])), (q1, .inl (E.2.2.2.2, 4, .inr (.inr (.inr (.inr (fun _ => none)))))), (q2, .inl (E.2.1, 900, .inl (fun _ => 0))), (q3, .inl (E.2.1, 900, .inl (fun _ => 0))), (q4, .inl (E.2.1, 900, .inl (fun _ => 0))), (q5, .inl (E.2.1, 900, .inl (fun _ => 0)))]) C hN rfl rfl i_X t_X_ok n_X rfl (by decide) q_20 rfl rfl (by decide +kernel) rfl rfl (Nat.le_of_ble_eq_true rfl) rfl d_X_init_45 ?_
  refine r_aload_n C d_X_init_48 rfl ?_
  refine r_sipush (v := 1950) C d_X_init_49 (by decide) ?_
  refine r_newa (N := 1950) (t0 := 1) (cA := E.2.2.1) (ty := .byte) (a0 := (1950, .inl (fun _ => 0))) C hN q_89 rfl rfl (fun _ => rfl) (by decide) (by decide) (by decide) (Nat.le_of_ble_eq_true rfl) (Nat.le_of_ble_eq_true rfl) d_X_init_52 (fun q6 => ?_)
  have C := zs_C (k' := 6) (n' := 5554) C (Nat.le_of_ble_eq_true rfl) (Nat.le_of_ble_eq_true rfl)
  refine r_putF (ci := 0) (k0 := 7) (q0 := 0) (ty := (.array .byte)) (ty0 := t_X) (ws' := [(h0, .inr (0, [.ref q1, .int 0, .ref q2, .ref q3, .ref q4, .ref q5, .int 0, .ref q6, .int 0, .int 0, .null, .null, .int 0, .null, .int 0, .null, .null, .null, .null, .int 0, .null, .null, .null, .int 0])), (q1, .inl (E.2.2.2.2, 4, .inr (.inr (.inr (.inr (fun _ => none)))))), (q2, .inl (E.2.1, 900, .inl (fun _ => 0))), (q3, .inl (E.2.1, 900, .inl (fun _ => 0))), (q4, .inl (E.2.1, 900, .inl (fun _ => 0))), (q5, .inl (E.2.1, 900, .inl (fun _ => 0))), (q6, .inl (E.2.2.1, 1950, .inl (fun _ => 0)))]) C hN rfl rfl i_X t_X_ok n_X rfl (by decide) q_22 rfl rfl (by decide +kernel) rfl rfl (Nat.le_of_ble_eq_true rfl) rfl d_X_init_54 ?_
  refine r_aload_n C d_X_init_57 rfl ?_
  refine r_bipush (v := 12) C d_X_init_58 (by decide) ?_
  refine r_newa (N := 12) (t0 := 0) (cA := E.2.1) (ty := .int) (a0 := (12, .inl (fun _ => 0))) C hN q_88 rfl rfl (fun _ => rfl) (by decide) (by decide) (by decide) (Nat.le_of_ble_eq_true rfl) (Nat.le_of_ble_eq_true rfl) d_X_init_60 (fun q7 => ?_)
  have C := zs_C (k' := 7) (n' := 5566) C (Nat.le_of_ble_eq_true rfl) (Nat.le_of_ble_eq_true rfl)
  refine r_putF (ci := 0) (k0 := 10) (q0 := 0) (ty := (.array .int)) (ty0 := t_X) (ws' := [(h0, .inr (0, [.ref q1, .int 0, .ref q2, .ref q3, .ref q4, .ref q5, .int 0, .ref q6, .int 0, .int 0, .ref q7, .null, .int 0, .null, .int 0, .null, .null, .null, .null, .int 0, .null, .null, .null, .int 0])), (q1, .inl (E.2.2.2.2, 4, .inr (.inr (.inr (.inr (fun _ => none)))))), (q2, .inl (E.2.1, 900, .inl (fun _ => 0))), (q3, .inl (E.2.1, 900, .inl (fun _ => 0))), (q4, .inl (E.2.1, 900, .inl (fun _ => 0))), (q5, .inl (E.2.1, 900, .inl (fun _ => 0))), (q6, .inl (E.2.2.1, 1950, .inl (fun _ => 0))), (q7, .inl (E.2.1, 12, .inl (fun _ => 0)))]) C hN rfl rfl i_X t_X_ok n_X rfl (by decide) q_25 rfl rfl (by decide +kernel) rfl rfl (Nat.le_of_ble_eq_true rfl) rfl d_X_init_62 ?_
  refine r_aload_n C d_X_init_65 rfl ?_
  refine r_bipush (v := 12) C d_X_init_66 (by decide) ?_
  refine r_newa (N := 12) (t0 := 0) (cA := E.2.1) (ty := .int) (a0 := (12, .inl (fun _ => 0))) C hN q_88 rfl rfl (fun _ => rfl) (by decide) (by decide) (by decide) (Nat.le_of_ble_eq_true rfl) (Nat.le_of_ble_eq_true rfl) d_X_init_68 (fun q8 => ?_)
  have C := zs_C (k' := 8) (n' := 5578) C (Nat.le_of_ble_eq_true rfl) (Nat.le_of_ble_eq_true rfl)
  refine r_putF (ci := 0) (k0 := 11) (q0 := 0) (ty := (.array .int)) (ty0 := t_X) (ws' := [(h0, .inr (0, [.ref q1, .int 0, .ref q2, .ref q3, .ref q4, .ref q5, .int 0, .ref q6, .int 0, .int 0, .ref q7, .ref q8, .int 0, .null, .int 0, .null, .null, .null, .null, .int 0, .null, .null, .null, .int 0])), (q1, .inl (E.2.2.2.2, 4, .inr (.inr (.inr (.inr (fun _ => none)))))), (q2, .inl (E.2.1, 900, .inl (fun _ => 0))), (q3, .inl (E.2.1, 900, .inl (fun _ => 0))), (q4, .inl (E.2.1, 900, .inl (fun _ => 0))), (q5, .inl (E.2.1, 900, .inl (fun _ => 0))), (q6, .inl (E.2.2.1, 1950, .inl (fun _ => 0))), (q7, .inl (E.2.1, 12, .inl (fun _ => 0))), (q8, .inl (E.2.1, 12, .inl (fun _ => 0)))]) C hN rfl rfl i_X t_X_ok n_X rfl (by decide) q_26 rfl rfl (by decide +kernel) rfl rfl (Nat.le_of_ble_eq_true rfl) rfl d_X_init_70 ?_
  refine r_aload_n C d_X_init_73 rfl ?_
  refine r_bipush (v := 30) C d_X_init_74 (by decide) ?_
  refine r_newa (N := 30) (t0 := 0) (cA := E.2.1) (ty := .int) (a0 := (30, .inl (fun _ => 0))) C hN q_88 rfl rfl (fun _ => rfl) (by decide) (by decide) (by decide) (Nat.le_of_ble_eq_true rfl) (Nat.le_of_ble_eq_true rfl) d_X_init_76 (fun q9 => ?_)
  have C := zs_C (k' := 9) (n' := 5608) C (Nat.le_of_ble_eq_true rfl) (Nat.le_of_ble_eq_true rfl)
  refine r_putF (ci := 0) (k0 := 13) (q0 := 0) (ty := (.array .int)) (ty0 := t_X) (ws' := [(h0, .inr (0, [.ref q1, .int 0, .ref q2, .ref q3, .ref q4, .ref q5, .int 0, .ref q6, .int 0, .int 0, .ref q7, .ref q8, .int 0, .ref q9, .int 0, .null, .null, .null, .null, .int 0, .null, .null, .null, .int 0])), (q1, .inl (E.2.2.2.2, 4, .inr (.inr (.inr (.inr (fun _ => none)))))), (q2, .inl (E.2.1, 900, .inl (fun _ => 0))), (q3, .inl (E.2.1, 900, .inl (fun _ => 0))), (q4, .inl (E.2.1, 900, .inl (fun _ => 0))), (q5, .inl (E.2.1, 900, .inl (fun _ => 0))), (q6, .inl (E.2.2.1, 1950, .inl (fun _ => 0))), (q7, .inl (E.2.1, 12, .inl (fun _ => 0))), (q8, .inl (E.2.1, 12, .inl (fun _ => 0))), (q9, .inl (E.2.1, 30, .inl (fun _ => 0)))]) C hN rfl rfl i_X t_X_ok n_X rfl (by decide) q_28 rfl rfl (by decide +kernel) rfl rfl (Nat.le_of_ble_eq_true rfl) rfl d_X_init_78 ?_
  refine r_aload_n C d_X_init_81 rfl ?_
  refine r_bipush (v := 40) C d_X_init_82 (by decide) ?_
  refine r_newa (N := 40) (t0 := 0) (cA := E.2.1) (ty := .int) (a0 := (40, .inl (fun _ => 0))) C hN q_88 rfl rfl (fun _ => rfl) (by decide) (by decide) (by decide) (Nat.le_of_ble_eq_true rfl) (Nat.le_of_ble_eq_true rfl) d_X_init_84 (fun q10 => ?_)
  have C := zs_C (k' := 10) (n' := 5648) C (Nat.le_of_ble_eq_true rfl) (Nat.le_of_ble_eq_true rfl)
  refine r_putF (ci := 0) (k0 := 15) (q0 := 0) (ty := (.array .int)) (ty0 := t_X) (ws' := [(h0, .inr (0, [.ref q1, .int 0, .ref q2, .ref q3, .ref q4, .ref q5, .int 0, .ref q6, .int 0, .int 0, .ref q7, .ref q8, .int 0, .ref q9, .int 0, .ref q10, .null, .null, .null, .int 0, .null, .null, .null, .int 0])), (q1, .inl (E.2.2.2.2, 4, .inr (.inr (.inr (.inr (fun _ => none)))))), (q2, .inl (E.2.1, 900, .inl (fun _ => 0))), (q3, .inl (E.2.1, 900, .inl (fun _ => 0))), (q4, .inl (E.2.1, 900, .inl (fun _ => 0))), (q5, .inl (E.2.1, 900, .inl (fun _ => 0))), (q6, .inl (E.2.2.1, 1950, .inl (fun _ => 0))), (q7, .inl (E.2.1, 12, .inl (fun _ => 0))), (q8, .inl (E.2.1, 12, .inl (fun _ => 0))), (q9, .inl (E.2.1, 30, .inl (fun _ => 0))), (q10, .inl (E.2.1, 40, .inl (fun _ => 0)))]) C hN rfl rfl i_X t_X_ok n_X rfl (by decide) q_30 rfl rfl (by decide +kernel) rfl rfl (Nat.le_of_ble_eq_true rfl) rfl d_X_init_86 ?_
  refine r_aload_n C d_X_init_89 rfl ?_
  refine r_sipush (v := 1200) C d_X_init_90 (by decide) ?_
  refine r_newa (N := 1200) (t0 := 1) (cA := E.2.2.1) (ty := .byte) (a0 := (1200, .inl (fun _ => 0))) C hN q_89 rfl rfl (fun _ => rfl) (by decide) (by decide) (by decide) (Nat.le_of_ble_eq_true rfl) (Nat.le_of_ble_eq_true rfl) d_X_init_93 (fun q11 => ?_)
  have C := zs_C (k' := 11) (n' := 6848) C (Nat.le_of_ble_eq_true rfl) (Nat.le_of_ble_eq_true rfl)
  refine r_putF (ci := 0) (k0 := 16) (q0 := 0) (ty := (.array .byte)) (ty0 := t_X) (ws' := [(h0, .inr (0, [.ref q1, .int 0, .ref q2, .ref q3, .ref q4, .ref q5, .int 0, .ref q6, .int 0, .int 0, .ref q7, .ref q8, .int 0, .ref q9, .int 0, .ref q10, .ref q11, .null, .null, .int 0, .null, .null, .null, .int 0])), (q1, .inl (E.2.2.2.2, 4, .inr (.inr (.inr (.inr (fun _ => none)))))), (q2, .inl (E.2.1, 900, .inl (fun _ => 0))), (q3, .inl (E.2.1, 900, .inl (fun _ => 0))), (q4, .inl (E.2.1, 900, .inl (fun _ => 0))), (q5, .inl (E.2.1, 900, .inl (fun _ => 0))), (q6, .inl (E.2.2.1, 1950, .inl (fun _ => 0))), (q7, .inl (E.2.1, 12, .inl (fun _ => 0))), (q8, .inl (E.2.1, 12, .inl (fun _ => 0))), (q9, .inl (E.2.1, 30, .inl (fun _ => 0))), (q10, .inl (E.2.1, 40, .inl (fun _ => 0))), (q11, .inl (E.2.2.1, 1200, .inl (fun _ => 0)))]) C hN rfl rfl i_X t_X_ok n_X rfl (by decide) q_31 rfl rfl (by decide +kernel) rfl rfl (Nat.le_of_ble_eq_true rfl) rfl d_X_init_95 ?_
  refine r_aload_n C d_X_init_98 rfl ?_
  refine r_bipush (v := 40) C d_X_init_99 (by decide) ?_
  refine r_newa (N := 40) (t0 := 0) (cA := E.2.1) (ty := .int) (a0 := (40, .inl (fun _ => 0))) C hN q_88 rfl rfl (fun _ => rfl) (by decide) (by decide) (by decide) (Nat.le_of_ble_eq_true rfl) (Nat.le_of_ble_eq_true rfl) d_X_init_101 (fun q12 => ?_)
  have C := zs_C (k' := 12) (n' := 6888) C (Nat.le_of_ble_eq_true rfl) (Nat.le_of_ble_eq_true rfl)
  refine r_putF (ci := 0) (k0 := 17) (q0 := 0) (ty := (.array .int)) (ty0 := t_X) (ws' := [(h0, .inr (0, [.ref q1, .int 0, .ref q2, .ref q3, .ref q4, .ref q5, .int 0, .ref q6, .int 0, .int 0, .ref q7, .ref q8, .int 0, .ref q9, .int 0, .ref q10, .ref q11, .ref q12, .null, .int 0, .null, .null, .null, .int 0])), (q1, .inl (E.2.2.2.2, 4, .inr (.inr (.inr (.inr (fun _ => none)))))), (q2, .inl (E.2.1, 900, .inl (fun _ => 0))), (q3, .inl (E.2.1, 900, .inl (fun _ => 0))), (q4, .inl (E.2.1, 900, .inl (fun _ => 0))), (q5, .inl (E.2.1, 900, .inl (fun _ => 0))), (q6, .inl (E.2.2.1, 1950, .inl (fun _ => 0))), (q7, .inl (E.2.1, 12, .inl (fun _ => 0))), (q8, .inl (E.2.1, 12, .inl (fun _ => 0))), (q9, .inl (E.2.1, 30, .inl (fun _ => 0))), (q10, .inl (E.2.1, 40, .inl (fun _ => 0))), (q11, .inl (E.2.2.1, 1200, .inl (fun _ => 0))), (q12, .inl (E.2.1, 40, .inl (fun _ => 0)))]) C hN rfl rfl i_X t_X_ok n_X rfl (by decide) q_32 rfl rfl (by decide +kernel) rfl rfl (Nat.le_of_ble_eq_true rfl) rfl d_X_init_103 ?_
  refine r_aload_n C d_X_init_106 rfl ?_
  refine r_bipush (v := 40) C d_X_init_107 (by decide) ?_
  refine r_newa (N := 40) (t0 := 0) (cA := E.2.1) (ty := .int) (a0 := (40, .inl (fun _ => 0))) C hN q_88 rfl rfl (fun _ => rfl) (by decide) (by decide) (by decide) (Nat.le_of_ble_eq_true rfl) (Nat.le_of_ble_eq_true rfl) d_X_init_109 (fun q13 => ?_)
  have C := zs_C (k' := 13) (n' := 6928) C (Nat.le_of_ble_eq_true rfl) (Nat.le_of_ble_eq_true rfl)
  refine r_putF (ci := 0) (k0 := 18) (q0 := 0) (ty := (.array .int)) (ty0 := t_X) (ws' := [(h0, .inr (0, [.ref q1, .int 0, .ref q2, .ref q3, .ref q4, .ref q5, .int 0, .ref q6, .int 0, .int 0, .ref q7, .ref q8, .int 0, .ref q9, .int 0, .ref q10, .ref q11, .ref q12, .ref q13, .int 0, .null, .null, .null, .int 0])), (q1, .inl (E.2.2.2.2, 4, .inr (.inr (.inr (.inr (fun _ => none)))))), (q2, .inl (E.2.1, 900, .inl (fun _ => 0))), (q3, .inl (E.2.1, 900, .inl (fun _ => 0))), (q4, .inl (E.2.1, 900, .inl (fun _ => 0))), (q5, .inl (E.2.1, 900, .inl (fun _ => 0))), (q6, .inl (E.2.2.1, 1950, .inl (fun _ => 0))), (q7, .inl (E.2.1, 12, .inl (fun _ => 0))), (q8, .inl (E.2.1, 12, .inl (fun _ => 0))), (q9, .inl (E.2.1, 30, .inl (fun _ => 0))), (q10, .inl (E.2.1, 40, .inl (fun _ => 0))), (q11, .inl (E.2.2.1, 1200, .inl (fun _ => 0))), (q12, .inl (E.2.1, 40, .inl (fun _ => 0))), (q13, .inl (E.2.1, 40, .inl (fun _ => 0)))]) C hN rfl rfl i_X t_X_ok n_X rfl (by decide) q_33 rfl rfl (by decide +kernel) rfl rfl (Nat.le_of_ble_eq_true rfl) rfl d_X_init_111 ?_
  refine r_aload_n C d_X_init_114 rfl ?_
  refine r_bipush (v := 32) C d_X_init_115 (by decide) ?_
  refine r_newa (N := 32) (t0 := 0) (cA := E.2.1) (ty := .int) (a0 := (32, .inl (fun _ => 0))) C hN q_88 rfl rfl (fun _ => rfl) (by decide) (by decide) (by decide) (Nat.le_of_ble_eq_true rfl) (Nat.le_of_ble_eq_true rfl) d_X_init_117 (fun q14 => ?_)
  have C := zs_C (k' := 14) (n' := 6960) C (Nat.le_of_ble_eq_true rfl) (Nat.le_of_ble_eq_true rfl)
  refine r_putF (ci := 0) (k0 := 20) (q0 := 0) (ty := (.array .int)) (ty0 := t_X) (ws' := [(h0, .inr (0, [.ref q1, .int 0, .ref q2, .ref q3, .ref q4, .ref q5, .int 0, .ref q6, .int 0, .int 0, .ref q7, .ref q8, .int 0, .ref q9, .int 0, .ref q10, .ref q11, .ref q12, .ref q13, .int 0, .ref q14, .null, .null, .int 0])), (q1, .inl (E.2.2.2.2, 4, .inr (.inr (.inr (.inr (fun _ => none)))))), (q2, .inl (E.2.1, 900, .inl (fun _ => 0))), (q3, .inl (E.2.1, 900, .inl (fun _ => 0))), (q4, .inl (E.2.1, 900, .inl (fun _ => 0))), (q5, .inl (E.2.1, 900, .inl (fun _ => 0))), (q6, .inl (E.2.2.1, 1950, .inl (fun _ => 0))), (q7, .inl (E.2.1, 12, .inl (fun _ => 0))), (q8, .inl (E.2.1, 12, .inl (fun _ => 0))), (q9, .inl (E.2.1, 30, .inl (fun _ => 0))), (q10, .inl (E.2.1, 40, .inl (fun _ => 0))), (q11, .inl (E.2.2.1, 1200, .inl (fun _ => 0))), (q12, .inl (E.2.1, 40, .inl (fun _ => 0))), (q13, .inl (E.2.1, 40, .inl (fun _ => 0))), (q14, .inl (E.2.1, 32, .inl (fun _ => 0)))]) C hN rfl rfl i_X t_X_ok n_X rfl (by decide) q_35 rfl rfl (by decide +kernel) rfl rfl (Nat.le_of_ble_eq_true rfl) rfl d_X_init_119 ?_
  refine r_aload_n C d_X_init_122 rfl ?_
  refine r_bipush (v := 33) C d_X_init_123 (by decide) ?_
  refine r_newa (N := 33) (t0 := 0) (cA := E.2.1) (ty := .int) (a0 := (33, .inl (fun _ => 0))) C hN q_88 rfl rfl (fun _ => rfl) (by decide) (by decide) (by decide) (Nat.le_of_ble_eq_true rfl) (Nat.le_of_ble_eq_true rfl) d_X_init_125 (fun q15 => ?_)
  have C := zs_C (k' := 15) (n' := 6993) C (Nat.le_of_ble_eq_true rfl) (Nat.le_of_ble_eq_true rfl)
  refine r_putF (ci := 0) (k0 := 21) (q0 := 0) (ty := (.array .int)) (ty0 := t_X) (ws' := [(h0, .inr (0, [.ref q1, .int 0, .ref q2, .ref q3, .ref q4, .ref q5, .int 0, .ref q6, .int 0, .int 0, .ref q7, .ref q8, .int 0, .ref q9, .int 0, .ref q10, .ref q11, .ref q12, .ref q13, .int 0, .ref q14, .ref q15, .null, .int 0])), (q1, .inl (E.2.2.2.2, 4, .inr (.inr (.inr (.inr (fun _ => none)))))), (q2, .inl (E.2.1, 900, .inl (fun _ => 0))), (q3, .inl (E.2.1, 900, .inl (fun _ => 0))), (q4, .inl (E.2.1, 900, .inl (fun _ => 0))), (q5, .inl (E.2.1, 900, .inl (fun _ => 0))), (q6, .inl (E.2.2.1, 1950, .inl (fun _ => 0))), (q7, .inl (E.2.1, 12, .inl (fun _ => 0))), (q8, .inl (E.2.1, 12, .inl (fun _ => 0))), (q9, .inl (E.2.1, 30, .inl (fun _ => 0))), (q10, .inl (E.2.1, 40, .inl (fun _ => 0))), (q11, .inl (E.2.2.1, 1200, .inl (fun _ => 0))), (q12, .inl (E.2.1, 40, .inl (fun _ => 0))), (q13, .inl (E.2.1, 40, .inl (fun _ => 0))), (q14, .inl (E.2.1, 32, .inl (fun _ => 0))), (q15, .inl (E.2.1, 33, .inl (fun _ => 0)))]) C hN rfl rfl i_X t_X_ok n_X rfl (by decide) q_36 rfl rfl (by decide +kernel) rfl rfl (Nat.le_of_ble_eq_true rfl) rfl d_X_init_127 ?_
  refine r_aload_n C d_X_init_130 rfl ?_
  refine r_bipush (v := 30) C d_X_init_131 (by decide) ?_
  refine r_newa (N := 30) (t0 := 0) (cA := E.2.1) (ty := .int) (a0 := (30, .inl (fun _ => 0))) C hN q_88 rfl rfl (fun _ => rfl) (by decide) (by decide) (by decide) (Nat.le_of_ble_eq_true rfl) (Nat.le_of_ble_eq_true rfl) d_X_init_133 (fun q16 => ?_)
  have C := zs_C (k' := 16) (n' := 7023) C (Nat.le_of_ble_eq_true rfl) (Nat.le_of_ble_eq_true rfl)
  refine r_putF (ci := 0) (k0 := 22) (q0 := 0) (ty := (.array .int)) (ty0 := t_X) (ws' := [(h0, .inr (0, [.ref q1, .int 0, .ref q2, .ref q3, .ref q4, .ref q5, .int 0, .ref q6, .int 0, .int 0, .ref q7, .ref q8, .int 0, .ref q9, .int 0, .ref q10, .ref q11, .ref q12, .ref q13, .int 0, .ref q14, .ref q15, .ref q16, .int 0])), (q1, .inl (E.2.2.2.2, 4, .inr (.inr (.inr (.inr (fun _ => none)))))), (q2, .inl (E.2.1, 900, .inl (fun _ => 0))), (q3, .inl (E.2.1, 900, .inl (fun _ => 0))), (q4, .inl (E.2.1, 900, .inl (fun _ => 0))), (q5, .inl (E.2.1, 900, .inl (fun _ => 0))), (q6, .inl (E.2.2.1, 1950, .inl (fun _ => 0))), (q7, .inl (E.2.1, 12, .inl (fun _ => 0))), (q8, .inl (E.2.1, 12, .inl (fun _ => 0))), (q9, .inl (E.2.1, 30, .inl (fun _ => 0))), (q10, .inl (E.2.1, 40, .inl (fun _ => 0))), (q11, .inl (E.2.2.1, 1200, .inl (fun _ => 0))), (q12, .inl (E.2.1, 40, .inl (fun _ => 0))), (q13, .inl (E.2.1, 40, .inl (fun _ => 0))), (q14, .inl (E.2.1, 32, .inl (fun _ => 0))), (q15, .inl (E.2.1, 33, .inl (fun _ => 0))), (q16, .inl (E.2.1, 30, .inl (fun _ => 0)))]) C hN rfl rfl i_X t_X_ok n_X rfl (by decide) q_37 rfl rfl (by decide +kernel) rfl rfl (Nat.le_of_ble_eq_true rfl) rfl d_X_init_135 ?_
  refine R _ _ _ _ _ (fun j => [h0, q2, q3, q4, q5, q6, q7, q8, q9, q10, q11, q12, q13, q14, q15, q16, q1].getD j 0) (Nat.le_of_ble_eq_true rfl) (Nat.le_of_ble_eq_true rfl) d_X_init_138 (fun H hH => ?_) rfl
  refine ⟨fun k q hk => ?_, hH.2.sub [0, 2, 3, 4, 5, 6, 7, 8, 9, 10, 11, 12, 13, 14, 15, 16, 1] (by decide) (wX_new h0 q1 q2 q3 q4 q5 q6 q7 q8 q9 q10 q11 q12 q13 q14 q15 q16)⟩
  have h1 : ([0, 2, 3, 4, 5, 6, 7, 8, 9, 10, 11, 12, 13, 14, 15, 16, 1].map (fun i => ([(h0, .inr (0, [.ref q1, .int 0, .ref q2, .ref q3, .ref q4, .ref q5, .int 0, .ref q6, .int 0, .int 0, .ref q7, .ref q8, .int 0, .ref q9, .int 0, .ref q10, .ref q11, .ref q12, .ref q13, .int 0, .ref q14, .ref q15, .ref q16, .int 0])), (q1, .inl (E.2.2.2.2, 4, .inr (.inr (.inr (.inr (fun _ => none)))))), (q2, .inl (E.2.1, 900, .inl (fun _ => 0))), (q3, .inl (E.2.1, 900, .inl (fun _ => 0))), (q4, .inl (E.2.1, 900, .inl (fun _ => 0))), (q5, .inl (E.2.1, 900, .inl (fun _ => 0))), (q6, .inl (E.2.2.1, 1950, .inl (fun _ => 0))), (q7, .inl (E.2.1, 12, .inl (fun _ => 0))), (q8, .inl (E.2.1, 12, .inl (fun _ => 0))), (q9, .inl (E.2.1, 30, .inl (fun _ => 0))), (q10, .inl (E.2.1, 40, .inl (fun _ => 0))), (q11, .inl (E.2.2.1, 1200, .inl (fun _ => 0))), (q12, .inl (E.2.1, 40, .inl (fun _ => 0))), (q13, .inl (E.2.1, 40, .inl (fun _ => 0))), (q14, .inl (E.2.1, 32, .inl (fun _ => 0))), (q15, .inl (E.2.1, 33, .inl (fun _ => 0))), (q16, .inl (E.2.1, 30, .inl (fun _ => 0)))] : va_W)[i]?))[k]? = some (some q) := by rw [wX_new h0 q1 q2 q3 q4 q5 q6 q7 q8 q9 q10 q11 q12 q13 q14 q15 q16, List.getElem?_map, hk]; rfl
  rw [List.getElem?_map] at h1
  cases hi : ([0, 2, 3, 4, 5, 6, 7, 8, 9, 10, 11, 12, 13, 14, 15, 16, 1] : List Nat)[k]? with
  | none => rw [hi] at h1; cases h1
  | some i => rw [hi] at h1; exact hH.1 i q (Option.some.inj h1)
set_option maxHeartbeats 4000000 in
set_option maxRecDepth 100000 in
theorem wM_new (h0 q1 q2 q3 q4 q5 q6 q7 q8 q9 q10 q11 q12 q13 q14 q15 q16 q17 q18 : Nat) : [0, 1, 2, 3, 4, 5, 6, 7, 8, 9, 10, 11, 12, 13, 14, 15, 16, 17, 18].map (fun i => ([(h0, .inr (2, [.int 0, .ref q1, .ref q2, .ref q3, .ref q4, .ref q5, .int 0, .ref q6, .ref q7, .int 0, .int 0, .ref q8, .ref q9, .ref q10, .ref q11, .int 0, .ref q12, .ref q13, .ref q14, .ref q15, .int 0, .ref q16, .ref q17, .int 0, .ref q18])), (q1, .inl (E.2.1, 1024, .inl (fun _ => 0))), (q2, .inl (E.2.2.2.1, 1024, .inl (fun _ => 0))), (q3, .inl (E.2.1, 4, .inl (fun _ => 0))), (q4, .inl (E.2.1, 4, .inl (fun _ => 0))), (q5, .inl (E.2.2.2.1, 4, .inl (fun _ => 0))), (q6, .inl (E.2.1, 12, .inl (fun _ => 0))), (q7, .inl (E.2.1, 13, .inl (fun _ => 0))), (q8, .inl (E.2.1, 150, .inl (fun _ => 0))), (q9, .inl (E.2.1, 150, .inl (fun _ => 0))), (q10, .inl (E.2.1, 1800, .inl (fun _ => 0))), (q11, .inl (E.2.1, 1950, .inl (fun _ => 0))), (q12, .inl (E.2.1, 40, .inl (fun _ => 0))), (q13, .inl (E.2.1, 40, .inl (fun _ => 0))), (q14, .inl (E.2.1, 1200, .inl (fun _ => 0))), (q15, .inl (E.2.1, 40, .inl (fun _ => 0))), (q16, .inl (E.2.1, 30, .inl (fun _ => 0))), (q17, .inl (E.2.1, 32, .inl (fun _ => 0))), (q18, .inl (E.2.1, 32, .inl (fun _ => 0)))] : va_W)[i]?) = (wM E (fun j => [h0, q1, q2, q3, q4, q5, q6, q7, q8, q9, q10, q11, q12, q13, q14, q15, q16, q17, q18].getD j 0) (fun _ => 0) (fun _ _ => 0)).map some := rfl
set_option maxHeartbeats 4000000 in
set_option maxRecDepth 100000 in
theorem cM_init (h0 : Nat) : mN l E mM_init A [.ref h0] (pW E A [(h0, .inr (2, [.int 0, .null, .null, .null, .null, .null, .int 0, .null, .null, .int 0, .int 0, .null, .null, .null, .null, .int 0, .null, .null, .null, .null, .int 0, .null, .null, .int 0, .null]))]) (fun ad : Nat → Nat => ad 0 = h0) (fun ad => pM E A ad (fun _ => 0) (fun _ _ => 0)) := by
  refine metN (by decide) rfl (Nat.le_of_ble_eq_true rfl) (catOK rfl) (fun Z C hN R => ?_)
  show Wg (zs Z 0 0) _ 0 [(0, _)] []
  refine r_aload_n C d_M_init_0 rfl ?_
  refine r_objInit C q_238 q_11 q_12 (by decide) (Nat.le_of_ble_eq_true rfl) d_M_init_1 ?_
  refine r_aload_n C d_M_init_4 rfl ?_
  refine r_sipush (v := 1024) C d_M_init_5 (by decide) ?_
  refine r_newa (N := 1024) (t0 := 0) (cA := E.2.1) (ty := .int) (a0 := (1024, .inl (fun _ => 0))) C hN q_88 rfl rfl (fun _ => rfl) (by decide) (by decide) (by decide) (Nat.le_of_ble_eq_true rfl) (Nat.le_of_ble_eq_true rfl) d_M_init_8 (fun q1 => ?_)
  have C := zs_C (k' := 1) (n' := 1024) C (Nat.le_of_ble_eq_true rfl) (Nat.le_of_ble_eq_true rfl)
  refine r_putF (ci := 2) (k0 := 1) (q0 := 0) (ty := (.array .int)) (ty0 := t_M) (ws' := [(h0, .inr (2, [.int 0, .ref q1, .null, .null, .null, .null, .int 0, .null, .null, .int 0, .int 0, .null, .null, .null, .null, .int 0, .null, .null, .null, .null, .int 0, .null, .null, .int 0, .null])), (q1, .inl (E.2.1, 1024, .inl (fun _ => 0)))]) C hN rfl rfl i_M t_M_ok n_M rfl (by decide) q_240 rfl rfl (by decide +kernel) rfl rfl (Nat.le_of_ble_eq_true rfl) rfl d_M_init_10 ?_
  refine r_aload_n C d_M_init_13 rfl ?_
  refine r_sipush (v := 1024) C d_M_init_14 (by decide) ?_
  refine r_newa (N := 1024) (t0 := 2) (cA := E.2.2.2.1) (ty := .boolean) (a0 := (1024, .inl (fun _ => 0))) C hN q_123 rfl rfl (fun _ => rfl) (by decide) (by decide) (by decide) (Nat.le_of_ble_eq_true rfl) (Nat.le_of_ble_eq_true rfl) d_M_init_17 (fun q2 => ?_)
  have C := zs_C (k' := 2) (n' := 2048) C (Nat.le_of_ble_eq_true rfl) (Nat.le_of_ble_eq_true rfl)
  refine r_putF (ci := 2) (k0 := 2) (q0 := 0) (ty := (.array .boolean)) (ty0 := t_M) (ws' := [(h0, .inr (2, [.int 0, .ref q1, .ref q2, .null, .null, .null, .int 0, .null, .null, .int 0, .int 0, .null, .null, .null, .null, .int 0, .null, .null, .null, .null, .int 0, .null, .null, .int 0, .null])), (q1, .inl (E.2.1, 1024, .inl (fun _ => 0))), (q2, .inl (E.2.2.2.1, 1024, .inl (fun _ => 0)))]) C hN rfl rfl i_M t_M_ok n_M rfl (by decide) q_241 rfl rfl (by decide +kernel) rfl rfl (Nat.le_of_ble_eq_true rfl) rfl d_M_init_19 ?_
  refine r_aload_n C d_M_init_22 rfl ?_
  refine r_iconst (v := 4) C d_M_init_23 (by decide) ?_
  refine r_newa (N := 4) (t0 := 0) (cA := E.2.1) (ty := .int) (a0 := (4, .inl (fun _ => 0))) C hN q_88 rfl rfl (fun _ => rfl) (by decide) (by decide) (by decide) (Nat.le_of_ble_eq_true rfl) (Nat.le_of_ble_eq_true rfl) d_M_init_24 (fun q3 => ?_)
  have C := zs_C (k' := 3) (n' := 2052) C (Nat.le_of_ble_eq_true rfl) (Nat.le_of_ble_eq_true rfl)
  refine r_putF (ci := 2) (k0 := 3) (q0 := 0) (ty := (.array .int)) (ty0 := t_M) (ws' := [(h0, .inr (2, [.int 0, .ref q1, .ref q2, .ref q3, .null, .null, .int 0, .null, .null, .int 0, .int 0, .null, .null, .null, .null, .int 0, .null, .null, .null, .null, .int 0, .null, .null, .int 0, .null])), (q1, .inl (E.2.1, 1024, .inl (fun _ => 0))), (q2, .inl (E.2.2.2.1, 1024, .inl (fun _ => 0))), (q3, .inl (E.2.1, 4, .inl (fun _ => 0)))]) C hN rfl rfl i_M t_M_ok n_M rfl (by decide) q_242 rfl rfl (by decide +kernel) rfl rfl (Nat.le_of_ble_eq_true rfl) rfl d_M_init_26 ?_
  refine r_aload_n C d_M_init_29 rfl ?_
  refine r_iconst (v := 4) C d_M_init_30 (by decide) ?_
  refine r_newa (N := 4) (t0 := 0) (cA := E.2.1) (ty := .int) (a0 := (4, .inl (fun _ => 0))) C hN q_88 rfl rfl (fun _ => rfl) (by decide) (by decide) (by decide) (Nat.le_of_ble_eq_true rfl) (Nat.le_of_ble_eq_true rfl) d_M_init_31 (fun q4 => ?_)
  have C := zs_C (k' := 4) (n' := 2056) C (Nat.le_of_ble_eq_true rfl) (Nat.le_of_ble_eq_true rfl)
  refine r_putF (ci := 2) (k0 := 4) (q0 := 0) (ty := (.array .int)) (ty0 := t_M) (ws' := [(h0, .inr (2, [.int 0, .ref q1, .ref q2, .ref q3, .ref q4, .null, .int 0, .null, .null, .int 0, .int 0, .null, .null, .null, .null, .int 0, .null, .null, .null, .null, .int 0, .null, .null, .int 0, .null])), (q1, .inl (E.2.1, 1024, .inl (fun _ => 0))), (q2, .inl (E.2.2.2.1, 1024, .inl (fun _ => 0))), (q3, .inl (E.2.1, 4, .inl (fun _ => 0))), (q4, .inl (E.2.1, 4, .inl (fun _ => 0)))]) C hN rfl rfl i_M t_M_ok n_M rfl (by decide) q_243 rfl rfl (by decide +kernel) rfl rfl (Nat.le_of_ble_eq_true rfl) rfl d_M_init_33 ?_
  refine r_aload_n C d_M_init_36 rfl ?_
  refine r_iconst (v := 4) C d_M_init_37 (by decide) ?_
  refine r_newa (N := 4) (t0 := 2) (cA := E.2.2.2.1) (ty := .boolean) (a0 := (4, .inl (fun _ => 0))) C hN q_123 rfl rfl (fun _ => rfl) (by decide) (by decide) (by decide) (Nat.le_of_ble_eq_true rfl) (Nat.le_of_ble_eq_true rfl) d_M_init_38 (fun q5 => ?_)
  have C := zs_C (k' := 5) (n' := 2060) C (Nat.le_of_ble_eq_true rfl) (Nat.le_of_ble_eq_true rfl)
  refine r_putF (ci := 2) (k0 := 5) (q0 := 0) (ty := (.array .boolean)) (ty0 := t_M) (ws' := [(h0, .inr (2, [.int 0, .ref q1, .ref q2, .ref q3, .ref q4, .ref q5, .int 0, .null, .null, .int 0, .int 0, .null, .null, .null, .null, .int 0, .null, .null, .null, .null, .int 0, .null, .null, .int 0, .null])), (q1, .inl (E.2.1, 1024, .inl (fun _ => 0))), (q2, .inl (E.2.2.2.1, 1024, .inl (fun _ => 0))), (q3, .inl (E.2.1, 4, .inl (fun _ => 0))), (q4, .inl (E.2.1, 4, .inl (fun _ => 0))), (q5, .inl (E.2.2.2.1, 4, .inl (fun _ => 0)))]) C hN rfl rfl i_M t_M_ok n_M rfl (by decide) q_244 rfl rfl (by decide +kernel) rfl rfl (Nat.le_of_ble_eq_true rfl) rfl d_M_init_40 ?_
  refine r_aload_n C d_M_init_43 rfl ?_
  refine r_bipush (v := 12) C d_M_init_44 (by decide) ?_
  refine r_newa (N := 12) (t0 := 0) (cA := E.2.1) (ty := .int) (a0 := (12, .inl (fun _ => 0))) C hN q_88 rfl rfl (fun _ => rfl) (by decide) (by decide) (by decide) (Nat.le_of_ble_eq_true rfl) (Nat.le_of_ble_eq_true rfl) d_M_init_46 (fun q6 => ?_)
  have C := zs_C (k' := 6) (n' := 2072) C (Nat.le_of_ble_eq_true rfl) (Nat.le_of_ble_eq_true rfl)
  refine r_putF (ci := 2) (k0 := 7) (q0 := 0) (ty := (.array .int)) (ty0 := t_M) (ws' := [(h0, .inr (2, [.int 0, .ref q1, .ref q2, .ref q3, .ref q4, .ref q5, .int 0, .ref q6, .null, .int 0, .int 0, .null, .null, .null, .null, .int 0, .null, .null, .null, .null, .int 0, .null, .null, .int 0, .null])), (q1, .inl (E.2.1, 1024, .inl (fun _ => 0))), (q2, .inl (E.2.2.2.1, 1024, .inl (fun _ => 0))), (q3, .inl (E.2.1, 4, .inl (fun _ => 0))), (q4, .inl (E.2.1, 4, .inl (fun _ => 0))), (q5, .inl (E.2.2.2.1, 4, .inl (fun _ => 0))), (q6, .inl (E.2.1, 12, .inl (fun _ => 0)))]) C hN rfl rfl i_M t_M_ok n_M rfl (by decide) q_246 rfl rfl (by decide +kernel) rfl rfl (Nat.le_of_ble_eq_true rfl) rfl d_M_init_48 ?_
  refine r_aload_n C d_M_init_51 rfl ?_
  refine r_bipush (v := 13) C d_M_init_52 (by decide) ?_
  refine r_newa (N := 13) (t0 := 0) (cA := E.2.1) (ty := .int) (a0 := (13, .inl (fun _ => 0))) C hN q_88 rfl rfl (fun _ => rfl) (by decide) (by decide) (by decide) (Nat.le_of_ble_eq_true rfl) (Nat.le_of_ble_eq_true rfl) d_M_init_54 (fun q7 => ?_)
  have C := zs_C (k' := 7) (n' := 2085) C (Nat.le_of_ble_eq_true rfl) (Nat.le_of_ble_eq_true rfl)
  refine r_putF (ci := 2) (k0 := 8) (q0 := 0) (ty := (.array .int)) (ty0 := t_M) (ws' := [(h0, .inr (2, [.int 0, .ref q1, .ref q2, .ref q3, .ref q4, .ref q5, .int 0, .ref q6, .ref q7, .int 0, .int 0, .null, .null, .null, .null, .int 0, .null, .null, .null, .null, .int 0, .null, .null, .int 0, .null])), (q1, .inl (E.2.1, 1024, .inl (fun _ => 0))), (q2, .inl (E.2.2.2.1, 1024, .inl (fun _ => 0))), (q3, .inl (E.2.1, 4, .inl (fun _ => 0))), (q4, .inl (E.2.1, 4, .inl (fun _ => 0))), (q5, .inl (E.2.2.2.1, 4, .inl (fun _ => 0))), (q6, .inl (E.2.1, 12, .inl (fun _ => 0))), (q7, .inl (E.2.1, 13, .inl (fun _ => 0)))]) C hN rfl rfl i_M t_M_ok n_M rfl (by decide) q_247 rfl rfl (by decide +kernel) rfl rfl (Nat.le_of_ble_eq_true rfl) rfl d_M_init_56 ?_
  refine r_aload_n C d_M_init_59 rfl ?_
  refine r_sipush (v := 150) C d_M_init_60 (by decide) ?_
  refine r_newa (N := 150) (t0 := 0) (cA := E.2.1) (ty := .int) (a0 := (150, .inl (fun _ => 0))) C hN q_88 rfl rfl (fun _ => rfl) (by decide) (by decide) (by decide) (Nat.le_of_ble_eq_true rfl) (Nat.le_of_ble_eq_true rfl) d_M_init_63 (fun q8 => ?_)
  have C := zs_C (k' := 8) (n' := 2235) C (Nat.le_of_ble_eq_true rfl) (Nat.le_of_ble_eq_true rfl)
  refine r_putF (ci := 2) (k0 := 11) (q0 := 0) (ty := (.array .int)) (ty0 := t_M) (ws' := [(h0, .inr (2, [.int 0, .ref q1, .ref q2, .ref q3, .ref q4, .ref q5, .int 0, .ref q6, .ref q7, .int 0, .int 0, .ref q8, .null, .null, .null, .int 0, .null, .null, .null, .null, .int 0, .null, .null, .int 0, .null])), (q1, .inl (E.2.1, 1024, .inl (fun _ => 0))), (q2, .inl (E.2.2.2.1, 1024, .inl (fun _ => 0))), (q3, .inl (E.2.1, 4, .inl (fun _ => 0))), (q4, .inl (E.2.1, 4, .inl (fun _ => 0))), (q5, .inl (E.2.2.2.1, 4, .inl (fun _ => 0))), (q6, .inl (E.2.1, 12, .inl (fun _ => 0))), (q7, .inl (E.2.1, 13, .inl (fun _ => 0))), (q8, .inl (E.2.1, 150, .inl (fun _ => 0)))]) C hN rfl rfl i_M t_M_ok n_M rfl (by decide) q_250 rfl rfl (by decide +kernel) rfl rfl (Nat.le_of_ble_eq_true rfl) rfl d_M_init_65 ?_
  refine r_aload_n C d_M_init_68 rfl ?_
  refine r_sipush (v := 150) C d_M_init_69 (by decide) ?_
  refine r_newa (N := 150) (t0 := 0) (cA := E.2.1) (ty := .int) (a0 := (150, .inl (fun _ => 0))) C hN q_88 rfl rfl (fun _ => rfl) (by decide) (by decide) (by decide) (Nat.le_of_ble_eq_true rfl) (Nat.le_of_ble_eq_true rfl) d_M_init_72 (fun q9 => ?_)
  have C := zs_C (k' := 9) (n' := 2385) C (Nat.le_of_ble_eq_true rfl) (Nat.le_of_ble_eq_true rfl)
  refine r_putF (ci := 2) (k0 := 12) (q0 := 0) (ty := (.array .int)) (ty0 := t_M) (ws' := [(h0, .inr (2, [.int 0, .ref q1, .ref q2, .ref q3, .ref q4, .ref q5, .int 0, .ref q6, .ref q7, .int 0, .int 0, .ref q8, .ref q9, .null, .null, .int 0, .null, .null, .null, .null, .int 0, .null, .null, .int 0, .null])), (q1, .inl (E.2.1, 1024, .inl (fun _ => 0))), (q2, .inl (E.2.2.2.1, 1024, .inl (fun _ => 0))), (q3, .inl (E.2.1, 4, .inl (fun _ => 0))), (q4, .inl (E.2.1, 4, .inl (fun _ => 0))), (q5, .inl (E.2.2.2.1, 4, .inl (fun _ => 0))), (q6, .inl (E.2.1, 12, .inl (fun _ => 0))), (q7, .inl (E.2.1, 13, .inl (fun _ => 0))), (q8, .inl (E.2.1, 150, .inl (fun _ => 0))), (q9, .inl (E.2.1, 150, .inl (fun _ => 0)))]) C hN rfl rfl i_M t_M_ok n_M rfl (by decide) q_251 rfl rfl (by decide +kernel) rfl rfl (Nat.le_of_ble_eq_true rfl) rfl d_M_init_74 ?_
  refine r_aload_n C d_M_init_77 rfl ?_
  refine r_sipush (v := 1800) C d_M_init_78 (by decide) ?_
  refine r_newa (N := 1800) (t0 := 0) (cA := E.2.1) (ty := .int) (a0 := (1800, .inl (fun _ => 0))) C hN q_88 rfl rfl (fun _ => rfl) (by decide) (by decide) (by decide) (Nat.le_of_ble_eq_true rfl) (Nat.le_of_ble_eq_true rfl) d_M_init_81 (fun q10 => ?_)
  have C := zs_C (k' := 10) (n' := 4185) C (Nat.le_of_ble_eq_true rfl) (Nat.le_of_ble_eq_true rfl)
  refine r_putF (ci := 2) (k0 := 13) (q0 := 0) (ty := (.array .int)) (ty0 := t_M) (ws' := [(h0, .inr (2, [.int 0, .ref q1, .ref q2, .ref q3, .ref q4, .ref q5, .int 0, .ref q6, .ref q7, .int 0, .int 0, .ref q8, .ref q9, .ref q10, .null, .int 0, .null, .null, .null, .null, .int 0, .null, .null, .int 0, .null])), (q1, .inl (E.2.1, 1024, .inl (fun _ => 0))), (q2, .inl (E.2.2.2.1, 1024, .inl (fun _ => 0))), (q3, .inl (E.2.1, 4, .inl (fun _ => 0))), (q4, .inl (E.2.1, 4, .inl (fun _ => 0))), (q5, .inl (E.2.2.2.1, 4, .inl (fun _ => 0))), (q6, .inl (E.2.1, 12, .inl (fun _ => 0))), (q7, .inl (E.2.1, 13, .inl (fun _ => 0))), (q8, .inl (E.2.1, 150, .inl (fun _ => 0))), (q9, .inl (E.2.1, 150, .inl (fun _ => 0))), (q10, .inl (E.2.1, 1800, .inl (fun _ => 0)))]) C hN rfl rfl i_M t_M_ok n_M rfl (by decide) q_252 rfl rfl (by decide +kernel) rfl rfl (Nat.le_of_ble_eq_true rfl) rfl d_M_init_83 ?_
  refine r_aload_n C d_M_init_86 rfl ?_
  refine r_sipush (v := 1950) C d_M_init_87 (by decide) ?_
  refine r_newa (N := 1950) (t0 := 0) (cA := E.2.1) (ty := .int) (a0 := (1950, .inl (fun _ => 0))) C hN q_88 rfl rfl (fun _ => rfl) (by decide) (by decide) (by decide) (Nat.le_of_ble_eq_true rfl) (Nat.le_of_ble_eq_true rfl) d_M_init_90 (fun q11 => ?_)
  have C := zs_C (k' := 11) (n' := 6135) C (Nat.le_of_ble_eq_true rfl) (Nat.le_of_ble_eq_true rfl)
  refine r_putF (ci := 2) (k0 := 14) (q0 := 0) (ty := (.array .int)) (ty0 := t_M) (ws' := [(h0, .inr (2, [.int 0, .ref q1, .ref q2, .ref q3, .ref q4, .ref q5, .int 0, .ref q6, .ref q7, .int 0, .int 0, .ref q8, .ref q9, .ref q10, .ref q11, .int 0, .null, .null, .null, .null, .int 0, .null, .null, .int 0, .null])), (q1, .inl (E.2.1, 1024, .inl (fun _ => 0))), (q2, .inl (E.2.2.2.1, 1024, .inl (fun _ => 0))), (q3, .inl (E.2.1, 4, .inl (fun _ => 0))), (q4, .inl (E.2.1, 4, .inl (fun _ => 0))), (q5, .inl (E.2.2.2.1, 4, .inl (fun _ => 0))), (q6, .inl (E.2.1, 12, .inl (fun _ => 0))), (q7, .inl (E.2.1, 13, .inl (fun _ => 0))), (q8, .inl (E.2.1, 150, .inl (fun _ => 0))), (q9, .inl (E.2.1, 150, .inl (fun _ => 0))), (q10, .inl (E.2.1, 1800, .inl (fun _ => 0))), (q11, .inl (E.2.1, 1950, .inl (fun _ => 0)))]) C hN rfl rfl i_M t_M_ok n_M rfl (by decide) q_253 rfl rfl (by decide +kernel) rfl rfl (Nat.le_of_ble_eq_true rfl) rfl d_M_init_92 ?_
  refine r_aload_n C d_M_init_95 rfl ?_
  refine r_bipush (v := 40) C d_M_init_96 (by decide) ?_
  refine r_newa (N := 40) (t0 := 0) (cA := E.2.1) (ty := .int) (a0 := (40, .inl (fun _ => 0))) C hN q_88 rfl rfl (fun _ => rfl) (by decide) (by decide) (by decide) (Nat.le_of_ble_eq_true rfl) (Nat.le_of_ble_eq_true rfl) d_M_init_98 (fun q12 => ?_)
  have C := zs_C (k' := 12) (n' := 6175) C (Nat.le_of_ble_eq_true rfl) (Nat.le_of_ble_eq_true rfl)
  refine r_putF (ci := 2) (k0 := 16) (q0 := 0) (ty := (.array .int)) (ty0 := t_M) (ws' := [(h0, .inr (2, [.int 0, .ref q1, .ref q2, .ref q3, .ref q4, .ref q5, .int 0, .ref q6, .ref q7, .int 0, .int 0, .ref q8, .ref q9, .ref q10, .ref q11, .int 0, .ref q12, .null, .null, .null, .int 0, .null, .null, .int 0, .null])), (q1, .inl (E.2.1, 1024, .inl (fun _ => 0))), (q2, .inl (E.2.2.2.1, 1024, .inl (fun _ => 0))), (q3, .inl (E.2.1, 4, .inl (fun _ => 0))), (q4, .inl (E.2.1, 4, .inl (fun _ => 0))), (q5, .inl (E.2.2.2.1, 4, .inl (fun _ => 0))), (q6, .inl (E.2.1, 12, .inl (fun _ => 0))), (q7, .inl (E.2.1, 13, .inl (fun _ => 0))), (q8, .inl (E.2.1, 150, .inl (fun _ => 0))), (q9, .inl (E.2.1, 150, .inl (fun _ => 0))), (q10, .inl (E.2.1, 1800, .inl (fun _ => 0))), (q11, .inl (E.2.1, 1950, .inl (fun _ => 0))), (q12, .inl (E.2.1, 40, .inl (fun _ => 0)))]) C hN rfl rfl i_M t_M_ok n_M rfl (by decide) q_255 rfl rfl (by decide +kernel) rfl rfl (Nat.le_of_ble_eq_true rfl) rfl d_M_init_100 ?_
  refine r_aload_n C d_M_init_103 rfl ?_
  refine r_bipush (v := 40) C d_M_init_104 (by decide) ?_
  refine r_newa (N := 40) (t0 := 0) (cA := E.2.1) (ty := .int) (a0 := (40, .inl (fun _ => 0))) C hN q_88 rfl rfl (fun _ => rfl) (by decide) (by decide) (by decide) (Nat.le_of_ble_eq_true rfl) (Nat.le_of_ble_eq_true rfl) d_M_init_106 (fun q13 => ?_)
  have C := zs_C (k' := 13) (n' := 6215) C (Nat.le_of_ble_eq_true rfl) (Nat.le_of_ble_eq_true rfl)
  refine r_putF (ci := 2) (k0 := 17) (q0 := 0) (ty := (.array .int)) (ty0 := t_M) (ws' := [(h0, .inr (2, [.int 0, .ref q1, .ref q2, .ref q3, .ref q4, .ref q5, .int 0, .ref q6, .ref q7, .int 0, .int 0, .ref q8, .ref q9, .ref q10, .ref q11, .int 0, .ref q12, .ref q13, .null, .null, .int 0, .null, .null, .int 0, .null])), (q1, .inl (E.2.1, 1024, .inl (fun _ => 0))), (q2, .inl (E.2.2.2.1, 1024, .inl (fun _ => 0))), (q3, .inl (E.2.1, 4, .inl (fun _ => 0))), (q4, .inl (E.2.1, 4, .inl (fun _ => 0))), (q5, .inl (E.2.2.2.1, 4, .inl (fun _ => 0))), (q6, .inl (E.2.1, 12, .inl (fun _ => 0))), (q7, .inl (E.2.1, 13, .inl (fun _ => 0))), (q8, .inl (E.2.1, 150, .inl (fun _ => 0))), (q9, .inl (E.2.1, 150, .inl (fun _ => 0))), (q10, .inl (E.2.1, 1800, .inl (fun _ => 0))), (q11, .inl (E.2.1, 1950, .inl (fun _ => 0))), (q12, .inl (E.2.1, 40, .inl (fun _ => 0))), (q13, .inl (E.2.1, 40, .inl (fun _ => 0)))]) C hN rfl rfl i_M t_M_ok n_M rfl (by decide) q_256 rfl rfl (by decide +kernel) rfl rfl (Nat.le_of_ble_eq_true rfl) rfl d_M_init_108 ?_
  refine r_aload_n C d_M_init_111 rfl ?_
  refine r_sipush (v := 1200) C d_M_init_112 (by decide) ?_
  refine r_newa (N := 1200) (t0 := 0) (cA := E.2.1) (ty := .int) (a0 := (1200, .inl (fun _ => 0))) C hN q_88 rfl rfl (fun _ => rfl) (by decide) (by decide) (by decide) (Nat.le_of_ble_eq_true rfl) (Nat.le_of_ble_eq_true rfl) d_M_init_115 (fun q14 => ?_)
  have C := zs_C (k' := 14) (n' := 7415) C (Nat.le_of_ble_eq_true rfl) (Nat.le_of_ble_eq_true rfl)
  refine r_putF (ci := 2) (k0 := 18) (q0 := 0) (ty := (.array .int)) (ty0 := t_M) (ws' := [(h0, .inr (2, [.int 0, .ref q1, .ref q2, .ref q3, .ref q4, .ref q5, .int 0, .ref q6, .ref q7, .int 0, .int 0, .ref q8, .ref q9, .ref q10, .ref q11, .int 0, .ref q12, .ref q13, .ref q14, .null, .int 0, .null, .null, .int 0, .null])), (q1, .inl (E.2.1, 1024, .inl (fun _ => 0))), (q2, .inl (E.2.2.2.1, 1024, .inl (fun _ => 0))), (q3, .inl (E.2.1, 4, .inl (fun _ => 0))), (q4, .inl (E.2.1, 4, .inl (fun _ => 0))), (q5, .inl (E.2.2.2.1, 4, .inl (fun _ => 0))), (q6, .inl (E.2.1, 12, .inl (fun _ => 0))), (q7, .inl (E.2.1, 13, .inl (fun _ => 0))), (q8, .inl (E.2.1, 150, .inl (fun _ => 0))), (q9, .inl (E.2.1, 150, .inl (fun _ => 0))), (q10, .inl (E.2.1, 1800, .inl (fun _ => 0))), (q11, .inl (E.2.1, 1950, .inl (fun _ => 0))), (q12, .inl (E.2.1, 40, .inl (fun _ => 0))), (q13, .inl (E.2.1, 40, .inl (fun _ => 0))), (q14, .inl (E.2.1, 1200, .inl (fun _ => 0)))]) C hN rfl rfl i_M t_M_ok n_M rfl (by decide) q_257 rfl rfl (by decide +kernel) rfl rfl (Nat.le_of_ble_eq_true rfl) rfl d_M_init_117 ?_
  refine r_aload_n C d_M_init_120 rfl ?_
  refine r_bipush (v := 40) C d_M_init_121 (by decide) ?_
  refine r_newa (N := 40) (t0 := 0) (cA := E.2.1) (ty := .int) (a0 := (40, .inl (fun _ => 0))) C hN q_88 rfl rfl (fun _ => rfl) (by decide) (by decide) (by decide) (Nat.le_of_ble_eq_true rfl) (Nat.le_of_ble_eq_true rfl) d_M_init_123 (fun q15 => ?_)
  have C := zs_C (k' := 15) (n' := 7455) C (Nat.le_of_ble_eq_true rfl) (Nat.le_of_ble_eq_true rfl)
  refine r_putF (ci := 2) (k0 := 19) (q0 := 0) (ty := (.array .int)) (ty0 := t_M) (ws' := [(h0, .inr (2, [.int 0, .ref q1, .ref q2, .ref q3, .ref q4, .ref q5, .int 0, .ref q6, .ref q7, .int 0, .int 0, .ref q8, .ref q9, .ref q10, .ref q11, .int 0, .ref q12, .ref q13, .ref q14, .ref q15, .int 0, .null, .null, .int 0, .null])), (q1, .inl (E.2.1, 1024, .inl (fun _ => 0))), (q2, .inl (E.2.2.2.1, 1024, .inl (fun _ => 0))), (q3, .inl (E.2.1, 4, .inl (fun _ => 0))), (q4, .inl (E.2.1, 4, .inl (fun _ => 0))), (q5, .inl (E.2.2.2.1, 4, .inl (fun _ => 0))), (q6, .inl (E.2.1, 12, .inl (fun _ => 0))), (q7, .inl (E.2.1, 13, .inl (fun _ => 0))), (q8, .inl (E.2.1, 150, .inl (fun _ => 0))), (q9, .inl (E.2.1, 150, .inl (fun _ => 0))), (q10, .inl (E.2.1, 1800, .inl (fun _ => 0))), (q11, .inl (E.2.1, 1950, .inl (fun _ => 0))), (q12, .inl (E.2.1, 40, .inl (fun _ => 0))), (q13, .inl (E.2.1, 40, .inl (fun _ => 0))), (q14, .inl (E.2.1, 1200, .inl (fun _ => 0))), (q15, .inl (E.2.1, 40, .inl (fun _ => 0)))]) C hN rfl rfl i_M t_M_ok n_M rfl (by decide) q_258 rfl rfl (by decide +kernel) rfl rfl (Nat.le_of_ble_eq_true rfl) rfl d_M_init_125 ?_
  refine r_aload_n C d_M_init_128 rfl ?_
  refine r_bipush (v := 30) C d_M_init_129 (by decide) ?_
  refine r_newa (N := 30) (t0 := 0) (cA := E.2.1) (ty := .int) (a0 := (30, .inl (fun _ => 0))) C hN q_88 rfl rfl (fun _ => rfl) (by decide) (by decide) (by decide) (Nat.le_of_ble_eq_true rfl) (Nat.le_of_ble_eq_true rfl) d_M_init_131 (fun q16 => ?_)
  have C := zs_C (k' := 16) (n' := 7485) C (Nat.le_of_ble_eq_true rfl) (Nat.le_of_ble_eq_true rfl)
  refine r_putF (ci := 2) (k0 := 21) (q0 := 0) (ty := (.array .int)) (ty0 := t_M) (ws' := [(h0, .inr (2, [.int 0, .ref q1, .ref q2, .ref q3, .ref q4, .ref q5, .int 0, .ref q6, .ref q7, .int 0, .int 0, .ref q8, .ref q9, .ref q10, .ref q11, .int 0, .ref q12, .ref q13, .ref q14, .ref q15, .int 0, .ref q16, .null, .int 0, .null])), (q1, .inl (E.2.1, 1024, .inl (fun _ => 0))), (q2, .inl (E.2.2.2.1, 1024, .inl (fun _ => 0))), (q3, .inl (E.2.1, 4, .inl (fun _ => 0))), (q4, .inl (E.2.1, 4, .inl (fun _ => 0))), (q5, .inl (E.2.2.2.1, 4, .inl (fun _ => 0))), (q6, .inl (E.2.1, 12, .inl (fun _ => 0))), (q7, .inl (E.2.1, 13, .inl (fun _ => 0))), (q8, .inl (E.2.1, 150, .inl (fun _ => 0))), (q9, .inl (E.2.1, 150, .inl (fun _ => 0))), (q10, .inl (E.2.1, 1800, .inl (fun _ => 0))), (q11, .inl (E.2.1, 1950, .inl (fun _ => 0))), (q12, .inl (E.2.1, 40, .inl (fun _ => 0))), (q13, .inl (E.2.1, 40, .inl (fun _ => 0))), (q14, .inl (E.2.1, 1200, .inl (fun _ => 0))), (q15, .inl (E.2.1, 40, .inl (fun _ => 0))), (q16, .inl (E.2.1, 30, .inl (fun _ => 0)))]) C hN rfl rfl i_M t_M_ok n_M rfl (by decide) q_260 rfl rfl (by decide +kernel) rfl rfl (Nat.le_of_ble_eq_true rfl) rfl d_M_init_133 ?_
  refine r_aload_n C d_M_init_136 rfl ?_
  refine r_bipush (v := 32) C d_M_init_137 (by decide) ?_
  refine r_newa (N := 32) (t0 := 0) (cA := E.2.1) (ty := .int) (a0 := (32, .inl (fun _ => 0))) C hN q_88 rfl rfl (fun _ => rfl) (by decide) (by decide) (by decide) (Nat.le_of_ble_eq_true rfl) (Nat.le_of_ble_eq_true rfl) d_M_init_139 (fun q17 => ?_)
  have C := zs_C (k' := 17) (n' := 7517) C (Nat.le_of_ble_eq_true rfl) (Nat.le_of_ble_eq_true rfl)
  refine r_putF (ci := 2) (k0 := 22) (q0 := 0) (ty := (.array .int)) (ty0 := t_M) (ws' := [(h0, .inr (2, [.int 0, .ref q1, .ref q2, .ref q3, .ref q4, .ref q5, .int 0, .ref q6, .ref q7, .int 0, .int 0, .ref q8, .ref q9, .ref q10, .ref q11, .int 0, .ref q12, .ref q13, .ref q14, .ref q15, .int 0, .ref q16, .ref q17, .int 0, .null])), (q1, .inl (E.2.1, 1024, .inl (fun _ => 0))), (q2, .inl (E.2.2.2.1, 1024, .inl (fun _ => 0))), (q3, .inl (E.2.1, 4, .inl (fun _ => 0))), (q4, .inl (E.2.1, 4, .inl (fun _ => 0))), (q5, .inl (E.2.2.2.1, 4, .inl (fun _ => 0))), (q6, .inl (E.2.1, 12, .inl (fun _ => 0))), (q7, .inl (E.2.1, 13, .inl (fun _ => 0))), (q8, .inl (E.2.1, 150, .inl (fun _ => 0))), (q9, .inl (E.2.1, 150, .inl (fun _ => 0))), (q10, .inl (E.2.1, 1800, .inl (fun _ => 0))), (q11, .inl (E.2.1, 1950, .inl (fun _ => 0))), (q12, .inl (E.2.1, 40, .inl (fun _ => 0))), (q13, .inl (E.2.1, 40, .inl (fun _ => 0))), (q14, .inl (E.2.1, 1200, .inl (fun _ => 0))), (q15, .inl (E.2.1, 40, .inl (fun _ => 0))), (q16, .inl (E.2.1, 30, .inl (fun _ => 0))), (q17, .inl (E.2.1, 32, .inl (fun _ => 0)))]) C hN rfl rfl i_M t_M_ok n_M rfl (by decide) q_261 rfl rfl (by decide +kernel) rfl rfl (Nat.le_of_ble_eq_true rfl) rfl d_M_init_141 ?_
  refine r_aload_n C d_M_init_144 rfl ?_
  refine r_bipush (v := 32) C d_M_init_145 (by decide) ?_
  refine r_newa (N := 32) (t0 := 0) (cA := E.2.1) (ty := .int) (a0 := (32, .inl (fun _ => 0))) C hN q_88 rfl rfl (fun _ => rfl) (by decide) (by decide) (by decide) (Nat.le_of_ble_eq_true rfl) (Nat.le_of_ble_eq_true rfl) d_M_init_147 (fun q18 => ?_)
  have C := zs_C (k' := 18) (n' := 7549) C (Nat.le_of_ble_eq_true rfl) (Nat.le_of_ble_eq_true rfl)
  refine r_putF (ci := 2) (k0 := 24) (q0 := 0) (ty := (.array .int)) (ty0 := t_M) (ws' := [(h0, .inr (2, [.int 0, .ref q1, .ref q2, .ref q3, .ref q4, .ref q5, .int 0, .ref q6, .ref q7, .int 0, .int 0, .ref q8, .ref q9, .ref q10, .ref q11, .int 0, .ref q12, .ref q13, .ref q14, .ref q15, .int 0, .ref q16, .ref q17, .int 0, .ref q18])), (q1, .inl (E.2.1, 1024, .inl (fun _ => 0))), (q2, .inl (E.2.2.2.1, 1024, .inl (fun _ => 0))), (q3, .inl (E.2.1, 4, .inl (fun _ => 0))), (q4, .inl (E.2.1, 4, .inl (fun _ => 0))), (q5, .inl (E.2.2.2.1, 4, .inl (fun _ => 0))), (q6, .inl (E.2.1, 12, .inl (fun _ => 0))), (q7, .inl (E.2.1, 13, .inl (fun _ => 0))), (q8, .inl (E.2.1, 150, .inl (fun _ => 0))), (q9, .inl (E.2.1, 150, .inl (fun _ => 0))), (q10, .inl (E.2.1, 1800, .inl (fun _ => 0))), (q11, .inl (E.2.1, 1950, .inl (fun _ => 0))), (q12, .inl (E.2.1, 40, .inl (fun _ => 0))), (q13, .inl (E.2.1, 40, .inl (fun _ => 0))), (q14, .inl (E.2.1, 1200, .inl (fun _ => 0))), (q15, .inl (E.2.1, 40, .inl (fun _ => 0))), (q16, .inl (E.2.1, 30, .inl (fun _ => 0))), (q17, .inl (E.2.1, 32, .inl (fun _ => 0))), (q18, .inl (E.2.1, 32, .inl (fun _ => 0)))]) C hN rfl rfl i_M t_M_ok n_M rfl (by decide) q_263 rfl rfl (by decide +kernel) rfl rfl (Nat.le_of_ble_eq_true rfl) rfl d_M_init_149 ?_
  refine R _ _ _ _ _ (fun j => [h0, q1, q2, q3, q4, q5, q6, q7, q8, q9, q10, q11, q12, q13, q14, q15, q16, q17, q18].getD j 0) (Nat.le_of_ble_eq_true rfl) (Nat.le_of_ble_eq_true rfl) d_M_init_152 (fun H hH => ?_) rfl
  refine ⟨fun k q hk => ?_, hH.2.sub [0, 1, 2, 3, 4, 5, 6, 7, 8, 9, 10, 11, 12, 13, 14, 15, 16, 17, 18] (by decide) (wM_new h0 q1 q2 q3 q4 q5 q6 q7 q8 q9 q10 q11 q12 q13 q14 q15 q16 q17 q18)⟩
  have h1 : ([0, 1, 2, 3, 4, 5, 6, 7, 8, 9, 10, 11, 12, 13, 14, 15, 16, 17, 18].map (fun i => ([(h0, .inr (2, [.int 0, .ref q1, .ref q2, .ref q3, .ref q4, .ref q5, .int 0, .ref q6, .ref q7, .int 0, .int 0, .ref q8, .ref q9, .ref q10, .ref q11, .int 0, .ref q12, .ref q13, .ref q14, .ref q15, .int 0, .ref q16, .ref q17, .int 0, .ref q18])), (q1, .inl (E.2.1, 1024, .inl (fun _ => 0))), (q2, .inl (E.2.2.2.1, 1024, .inl (fun _ => 0))), (q3, .inl (E.2.1, 4, .inl (fun _ => 0))), (q4, .inl (E.2.1, 4, .inl (fun _ => 0))), (q5, .inl (E.2.2.2.1, 4, .inl (fun _ => 0))), (q6, .inl (E.2.1, 12, .inl (fun _ => 0))), (q7, .inl (E.2.1, 13, .inl (fun _ => 0))), (q8, .inl (E.2.1, 150, .inl (fun _ => 0))), (q9, .inl (E.2.1, 150, .inl (fun _ => 0))), (q10, .inl (E.2.1, 1800, .inl (fun _ => 0))), (q11, .inl (E.2.1, 1950, .inl (fun _ => 0))), (q12, .inl (E.2.1, 40, .inl (fun _ => 0))), (q13, .inl (E.2.1, 40, .inl (fun _ => 0))), (q14, .inl (E.2.1, 1200, .inl (fun _ => 0))), (q15, .inl (E.2.1, 40, .inl (fun _ => 0))), (q16, .inl (E.2.1, 30, .inl (fun _ => 0))), (q17, .inl (E.2.1, 32, .inl (fun _ => 0))), (q18, .inl (E.2.1, 32, .inl (fun _ => 0)))] : va_W)[i]?))[k]? = some (some q) := by rw [wM_new h0 q1 q2 q3 q4 q5 q6 q7 q8 q9 q10 q11 q12 q13 q14 q15 q16 q17 q18, List.getElem?_map, hk]; rfl
  rw [List.getElem?_map] at h1
  cases hi : ([0, 1, 2, 3, 4, 5, 6, 7, 8, 9, 10, 11, 12, 13, 14, 15, 16, 17, 18] : List Nat)[k]? with
  | none => rw [hi] at h1; cases h1
  | some i => rw [hi] at h1; exact hH.1 i q (Option.some.inj h1)
end Ctors
end
section
-- language of X: a new Language
def mL {S : Type} (l : Launch) (E : eE) (μ : mD) (A : Nat → Prop) (As : List Value) (P0 : Heap → Prop) (post : Int32 → S → Prop) (B : S → Heap → Prop) : Prop := Met l μ.1 (wd μ) μ.2.2.2.2 (va_Pc As (fun U => (P0 U.heap ∧ ∀ q, U.heap.size ≤ q → A q) ∧ eK E U)) (va_Qi post (fun u t => B u t.heap) A) μ.2.2.2.2.cells μ.2.2.2.2.slots A
theorem metL {l : Launch} {E : eE} {μ : mD} {A : Nat → Prop} {As : List Value} {P0 : Heap → Prop} {S : Type} {post : Int32 → S → Prop} {B : S → Heap → Prop} {ty : FieldType} (hy : plainName μ.1.cls = true) (hty : μ.2.2.2.1 = some ty) (hlen : (lg_sl As).length ≤ μ.2.2.1) (hcat : ∀ q ∈ lv_args 0 As, q.2.category = 1)
    (body : ∀ (Z : cZ), Z.2.1 = l → CG (zs Z 0 0) E μ A → zN Z A μ.1.name → (∀ (k n pc : Nat) (L : List (Nat × Value)) (P : Heap → Prop) (v : Int32) (u : S), k ≤ μ.2.2.2.2.cells → n ≤ μ.2.2.2.2.slots → decode μ.2.1 pc = .ok (.ireturn, 1) → narrow ty (.int v) = .int v → (∀ H, P H → B u H) → post v u → Wg (zs Z k n) P pc L [.int v]) → Wg (zs Z 0 0) P0 0 (lv_args 0 As) []) : mL l E μ A As P0 post B := by
  refine Met.ofW (cc := μ.2.1) (maxL := μ.2.2.1) (ret := μ.2.2.2.1) hy rfl ?_
  intro p e s m args below meth c s₁ B' hml hv
  obtain ⟨rfl, ⟨hP, hN⟩, hK⟩ := hv
  have hts : ∀ w ∈ gw, w.before As.toArray s = true := fun w hw => atoms_spec (ws := wd μ) B'.pre w (List.mem_cons_of_mem _ hw)
  have hown : s.vm.findClass μ.1.cls = some m.cls := findClass_of_methodNamed B'.named
  have hlk : meth.locks = false := B'.notSynchronized
  have hnm : meth.name = μ.1.name := (name_of_methodNamed B'.named B'.method).1
  have hl := lv_entry As (n := μ.2.2.1) hlen
  rw [lg_entry_eq]
  generalize (lg_sl As ++ List.replicate (μ.2.2.1 - (lg_sl As).length) Slot.unset).toArray = ls at hl ⊢
  refine body (p, l, e, μ.2.2.2.2, s, m, As.toArray, below, meth, c, A, μ.2.2.1, 0, 0, _) rfl ⟨B'.exec, B'.bytes, hml, rfl, hown, hts, hK, rfl, rfl, B'.returns, hlk, Nat.zero_le _, Nat.zero_le _⟩ ⟨hN, hnm⟩ ?_ s.heap [] ls hP va_S.rf ⟨hl, hcat⟩
  intro k n pc L P v u hk hn hd hna hB hp H locs ls' hH hS hl'
  refine W.widen (k := μ.2.2.2.2.cells) (n := μ.2.2.2.2.slots) hk hn ?_
  exact W.zret (ty := ty) B'.exec B'.bytes (by rw [B'.returns]; exact hty) hna (fun t ht hW => ⟨⟨v, u, rfl, hp, by show B u t.heap; rw [ht]; exact hB H hH⟩, hS.F ht⟩) (fun q hq => hS.2.2 q hq) hd
/-- the addresses with those of a new language -/
def adG (ad : Nat → Nat) (n q q1 q2 : Nat) : Nat → Nat := fun j => if j < 17 + 3 * n then ad j else [q, q1, q2].getD (j - (17 + 3 * n)) 0
theorem adG_lo {ad : Nat → Nat} {n q q1 q2 j : Nat} (h : j < 17 + 3 * n) : adG ad n q q1 q2 j = ad j := if_pos h
def lgN : Nat → Int32 := fun k => if k = 0 then 2 else if k = 1 then 3 else if k = 2 then 0 else -1
section S26
variable {l : Launch} {E : eE} {A : Nat → Prop} {ad : Nat → Nat} {n : Nat} {g : Nat → Int32} {c lg : Nat → Nat → Int32} {lc : Nat → Nat → Nat → Int32}
theorem fsX_ad {q q1 q2 : Nat} : fsX (adG ad n q q1 q2) g = fsX ad g := by
  have h : ∀ j, j < 17 → adG ad n q q1 q2 j = ad j := fun j hj => adG_lo (by omega)
  simp only [fsX, h 1 (by omega), h 2 (by omega), h 3 (by omega), h 4 (by omega), h 5 (by omega), h 6 (by omega), h 7 (by omega), h 8 (by omega), h 9 (by omega), h 10 (by omega), h 11 (by omega), h 12 (by omega), h 13 (by omega), h 14 (by omega), h 15 (by omega), h 16 (by omega)]
theorem eX_old {q q1 q2 j : Nat} (hj : j < 17 + 3 * n) (h16 : j ≠ 16) : eX E (adG ad n q q1 q2) (n + 1) g c (setA lg n lgN) (setA lc n (fun _ _ => 0)) j = eX E ad n g c lg lc j := by
  by_cases hl : j < 17
  · unfold eX
    by_cases h0 : j = 0
    · rw [if_pos h0, if_pos h0, fsX_ad]
    · rw [if_neg h0, if_neg h0, if_neg h16, if_neg h16, if_pos (by omega), if_pos (by omega)]
  · obtain ⟨i, rfl | rfl | rfl⟩ := cls3 j (by omega)
    · have hi : i < n := by unfold gO at hj; omega
      have hne : i ≠ n := by omega
      rw [eX_O, eX_O]
      simp only [fsG, setA_n hne, adG_lo (show gL i < 17 + 3 * n by unfold gL; omega), adG_lo (show gC i < 17 + 3 * n by unfold gC; omega)]
    · have hi : i < n := by unfold gL at hj; omega
      have hne : i ≠ n := by omega
      rw [eX_L, eX_L, setA_n hne]
    · have hi : i < n := by unfold gC at hj; omega
      have hne : i ≠ n := by omega
      rw [eX_C, eX_C, setA_n hne]
theorem wX_len : (wX E ad n g c lg lc).length = 17 + 3 * n := wl_len
theorem wX_grow {q q1 q2 : Nat} : (wX E ad n g c lg lc ++ nwG E q q1 q2).set 16 (ad 16, .inl (E.2.2.2.2, 4, .inr (.inr (.inr (.inr (va_up (fun i => if i < n then some (ad (gO i)) else none) n (some q))))))) = wX E (adG ad n q q1 q2) (n + 1) g c (setA lg n lgN) (setA lc n (fun _ _ => 0)) := by
  apply List.ext_getElem?
  intro j
  have hlen : (wX E ad n g c lg lc ++ nwG E q q1 q2).length = 17 + 3 * n + 3 := by rw [List.length_append, wX_len]; rfl
  have hO : gO n = 17 + 3 * n := rfl
  by_cases h16 : j = 16
  · subst h16
    rw [List.getElem?_set_self (by rw [hlen]; omega), wX_16, adG_lo (by omega)]
    refine congrArg (fun f => some (ad 16, (.inl (E.2.2.2.2, 4, .inr (.inr (.inr (.inr f)))) : va_E))) ?_
    funext i
    by_cases hi : i = n
    · subst hi
      have : adG ad i q q1 q2 (gO i) = q := by
        unfold adG
        rw [if_neg (by rw [hO]; omega), hO, Nat.sub_self]; rfl
      simp [va_up, this]
    · by_cases hl : i < n
      · have h1 : i < n + 1 := by omega
        rw [va_up_ne _ _ hi]
        simp only [hl, h1, if_true, adG_lo (show gO i < 17 + 3 * n by unfold gO; omega)]
      · have h1 : ¬ i < n + 1 := by omega
        rw [va_up_ne _ _ hi]
        simp only [hl, h1, if_false]
  · rw [List.getElem?_set_ne (Ne.symm h16)]
    by_cases hl : j < 17 + 3 * n
    · rw [List.getElem?_append_left (by rw [wX_len]; exact hl)]
      unfold wX
      rw [wl_get hl, wl_get (by omega)]
      rw [eX_old hl h16, adG_lo hl]
    · rw [List.getElem?_append_right (by rw [wX_len]; omega), wX_len]
      by_cases h3 : j < 17 + 3 * n + 3
      · have had : adG ad n q q1 q2 j = [q, q1, q2].getD (j - (17 + 3 * n)) 0 := if_neg hl
        unfold wX
        rw [wl_get (by omega)]
        have hc : j = gO n ∨ j = gL n ∨ j = gC n := by unfold gO gL gC; omega
        have aL : adG ad n q q1 q2 (gL n) = q1 := by unfold adG gL; rw [if_neg (by omega), show 18 + 3 * n - (17 + 3 * n) = 1 by omega]; rfl
        have aC : adG ad n q q1 q2 (gC n) = q2 := by unfold adG gC; rw [if_neg (by omega), show 19 + 3 * n - (17 + 3 * n) = 2 by omega]; rfl
        have aO : adG ad n q q1 q2 (gO n) = q := by unfold adG gO; rw [if_neg (by omega), show 17 + 3 * n - (17 + 3 * n) = 0 by omega]; rfl
        rcases hc with rfl | rfl | rfl
        · rw [eX_O, aO, show gO n - (17 + 3 * n) = 0 by unfold gO; omega]
          simp [nwG, fsG, setA_s, aL, aC, lgN]
        · rw [eX_L, aL, show gL n - (17 + 3 * n) = 1 by unfold gL; omega]
          simp [nwG, setA_s]
        · rw [eX_C, aC, show gC n - (17 + 3 * n) = 2 by unfold gC; omega]
          simp [nwG, setA_s]
      · rw [List.getElem?_eq_none (by show 3 ≤ _; omega), List.getElem?_eq_none (by rw [wX_len]; omega)]
variable {Z : cZ} {μ : mD} {pc k m0 : Nat} {L : List (Nat × Value)} {st : List Value} {ws : va_W} {nm : String}
theorem r_newG {idx : Nat} (C : CG (zs Z k m0) E μ A) (hN : zN Z A nm) (hcl : Cond.classLink μ.1.cls idx R_G ∈ gw) (hk : k + 1 ≤ μ.2.2.2.2.cells) (hn : m0 + 6 ≤ μ.2.2.2.2.slots) (hd : decode μ.2.1 pc = .ok (.new idx, 3)) (kk : ∀ q, Wg (zs Z (k + 1) (m0 + 6)) (pW E A (ws ++ [(q, .inr (1, [.null, .null, .int 0, .int 0, .int 0, .int 0]))])) (pc + 3) L (.ref q :: st)) : Wg (zs Z k m0) (pW E A ws) pc L st := by
  obtain ⟨p, l, e, R, s, m, args, below, meth, cd, A0, nL, cells, slots, Q⟩ := Z
  obtain ⟨hx, hb, hml, hnL, hown, hts, hK, hR, hA, hr, hlk, hc1, hc2⟩ := C
  intro H locs ls hP hS hl
  subst hA
  subst hR
  exact va_new (ci := 1) (fs := [.null, .null, .int 0, .int 0, .int 0, .int 0]) (C := R_G) (T := F_G) (N := 6) hx hb hts i_G t_G t_G_ok hown (hts _ hcl) (hts _ q_94) (hts _ q_3) hK.1 hP.1 hP.2 hS hN.1 rfl (fun j hj => by rcases (show j = 0 ∨ j = 1 ∨ j = 2 ∨ j = 3 ∨ j = 4 ∨ j = 5 by omega) with rfl | rfl | rfl | rfl | rfl | rfl <;> rfl) hk hn hd (fun q H1 hP1 hD1 hS1 => kk q H1 locs ls ⟨hP1, hD1⟩ hS1 hl)
set_option maxHeartbeats 4000000 in
theorem r_callG {q : Nat} (C : CG (zs Z k m0) E mX_language A) (hN : zN Z A nm) (hk : k + 2 ≤ 3) (hn : m0 + 512 ≤ 518) (hst : (st.map fun v => v.category).sum ≤ 8) (hd : decode b_X_language pc = .ok (.invokespecial 66, 3)) (kk : ∀ q1 q2, Wg (zs Z (k + 2) (m0 + 512)) (pW E A (ws ++ nwG E q q1 q2)) (pc + 3) L st) : Wg (zs Z k m0) (pW E A (ws ++ [(q, .inr (1, [.null, .null, .int 0, .int 0, .int 0, .int 0]))])) pc L (.ref q :: st) := by
  obtain ⟨p, l, e, R, s, m, args, below, meth, cd, A0, nL, cells, slots, Q⟩ := Z
  obtain ⟨hx, hb, hml, hnL, hown, hts, hK, hR, hA, hr, hlk, hc1, hc2⟩ := C
  intro H locs ls hP hS hl
  subst hA
  subst hR
  have hlast : (ws ++ [(q, .inr (1, [.null, .null, .int 0, .int 0, .int 0, .int 0]))] : va_W)[ws.length]? = some (q, .inr (1, [.null, .null, .int 0, .int 0, .int 0, .int 0])) := by simp
  have hleft : ∀ (j : Nat) (x : Nat × va_E), ws[j]? = some x → (ws ++ [(q, .inr (1, [.null, .null, .int 0, .int 0, .int 0, .int 0]))] : va_W)[j]? = some x := fun j x hj => by
    rw [List.getElem?_append_left (List.getElem?_eq_some_iff.mp hj).1]; exact hj
  have hPc : va_P E.1 classes [(q, .inr (1, [.null, .null, .int 0, .int 0, .int 0, .int 0]))] H := fun j x hj => by
    cases j with
    | zero => cases hj; exact hP.1 _ _ hlast
    | succ j => simp at hj
  have hDc : va_D (fun x => x = q ∨ H.size ≤ x) [(q, .inr (1, [.null, .null, .int 0, .int 0, .int 0, .int 0]))] := by
    refine ⟨fun i j x y hi hj _ => ?_, fun j x hj => ?_⟩
    · have h1 := (List.getElem?_eq_some_iff.mp hi).1
      have h2 := (List.getElem?_eq_some_iff.mp hj).1
      simp at h1 h2
      omega
    · cases j with
      | zero => cases hj; exact Or.inl rfl
      | succ j => simp at hj
  have hAA : ∀ x, (x = q ∨ H.size ≤ x) → A0 x := by
    rintro x (rfl | h)
    · exact hP.2.2 _ _ hlast
    · exact hN.1 x (Nat.le_trans hS.1 h)
  have hcode : Cond.code y_G_init b_G_init 1 none ∈ gw := q_97
  refine va_callv (A1 := fun x => x = q ∨ H.size ≤ x) (va_runIN (As := []) (rest := st) (b := q) ⟨hx, hb, hml, hown, hts⟩ (cG_init (l := l) (E := E) (A := fun x => x = q ∨ H.size ≤ x) q) ⟨va_cnB (own := "HyphenRows") (host := "HyphenRows") (index := 66) (bytes := b_G_init) (maxL := 1) (ret := none) 0 hts (good_wd (μ := mG_init) hcode) rfl rfl rfl (hK.2.1 _ (by decide +kernel)) (hts _ q_3) (by decide +kernel) ⟨Nat.le_of_ble_eq_true rfl, Nat.le_of_ble_eq_true rfl⟩, rfl, hts _ q_96⟩ ⟨pre_blind (P0 := fun H' => pW E (fun x => x = q ∨ H.size ≤ x) [(q, .inr (1, [.null, .null, .int 0, .int 0, .int 0, .int 0]))] H' ∧ ∀ x, H'.size ≤ x → x = q ∨ H.size ≤ x), fun U hU hW => ⟨rfl, ⟨by rw [hU]; exact ⟨hPc, hDc⟩, by rw [hU]; exact fun x hx => Or.inr hx⟩, eK_warm hW hK⟩⟩ rfl rfl (by rw [← hl.1.1]) rfl (lv_room hst) hd ⟨hk, hn⟩) hS (fun x _ h => hAA x h) hAA (fun u t H1 locs1 ht hvm hw hB hz1 hk1 hS1 => ?_)
  have hB2 : pW E (fun x => x = q ∨ H.size ≤ x) (nwG E q u.1 u.2) H1 := by rw [← ht]; exact hB
  have hap : ∀ (j : Nat) (x : Nat × va_E), ws[j]? = some x → x.1 < H.size ∧ ¬ (x.1 = q ∨ H.size ≤ x.1) := by
    intro j x hj
    have h1 := (hP.1 j x (hleft j x hj)).lt
    refine ⟨h1, ?_⟩
    rintro (h2 | h2)
    · have h3 := hP.2.1 j ws.length x (q, _) (hleft j x hj) hlast h2
      have h4 := (List.getElem?_eq_some_iff.mp hj).1
      omega
    · omega
  refine kk u.1 u.2 H1 locs1 ls ⟨va_P.app (fun j x hj => (hP.1 j x (hleft j x hj)).kept (hk1 x.1 (hap j x hj).1 (hap j x hj).2)) hB2.1, va_D.app ⟨fun i j x y hi hj hxy => hP.2.1 i j x y (hleft i x hi) (hleft j y hj) hxy, fun j x hj => hP.2.2 j x (hleft j x hj)⟩ (hB2.2.weaken (fun j x _ h => hAA x.1 h)) (fun i j x y hi hj hxy => (hap i x hi).2 (by rw [hxy]; exact hB2.2.2 j y hj))⟩ hS1 hl
theorem r_aast {q1 q2 q i : Nat} {x : Int32} (C : CG Z E μ A) (hx0 : x = nI i) (hi : i < 4) (hd : decode μ.2.1 pc = .ok (.aastore, 1)) (kk : Wg Z (pW E A ((wX E ad n g c lg lc ++ nwG E q q1 q2).set 16 (ad 16, .inl (E.2.2.2.2, 4, .inr (.inr (.inr (.inr (va_up (fun i => if i < n then some (ad (gO i)) else none) i (some q))))))))) (pc + 1) L st) : Wg Z (pW E A (wX E ad n g c lg lc ++ nwG E q q1 q2)) pc L (.ref q :: .int x :: .ref (ad 16) :: st) := by
  obtain ⟨p, l, e, R, s, m, args, below, meth, cd, A0, nL, cells, slots, Q⟩ := Z
  obtain ⟨hx, hb, hml, hnL, hown, hts, hK, hR, hA, hr, hlk, hc1, hc2⟩ := C
  intro H locs ls hP hS hl
  subst hA
  subst hx0
  have hcl : (nI i).toNatClampNeg = i := nI_clamp (by omega)
  have h16 : (wX E ad n g c lg lc ++ nwG E q q1 q2)[16]? = some (ad 16, .inl (E.2.2.2.2, 4, .inr (.inr (.inr (.inr (fun i => if i < n then some (ad (gO i)) else none)))))) := by
    rw [List.getElem?_append_left (by rw [wX_len]; omega)]; exact wX_16
  have hq : (wX E ad n g c lg lc ++ nwG E q q1 q2)[17 + 3 * n]? = some (q, .inr (1, [.ref q1, .ref q2, .int 2, .int 3, .int 0, .int (-1)])) := by
    rw [List.getElem?_append_right (by rw [wX_len]; omega), wX_len, Nat.sub_self]; rfl
  refine va_astq (r := (R_G, F_G, 6)) hx hb hK.1 hP.1 hP.2 hS 16 3 (17 + 3 * n) 1 h16 rfl hq rfl (vp_in_nI hi (by decide)) hd (fun H1 locs1 hP1 hD1 hS1 => ?_)
  rw [hcl] at hP1 hD1
  exact kk H1 locs1 ls ⟨hP1, hD1⟩ hS1 hl
end S26
abbrev laS : Type := (Nat → Nat) × Nat × (Nat → Int32) × (Nat → Nat → Int32) × (Nat → Nat → Nat → Int32)
def laX (n : Nat) (ad : Nat → Nat) (g : Nat → Int32) (lg : Nat → Nat → Int32) (lc : Nat → Nat → Nat → Int32) (r : Int32) (u : laS) : Prop :=
  (n = 4 ∧ r = -2 ∧ u = (ad, n, g, lg, lc)) ∨ (n < 4 ∧ r = nI n ∧ u.1 0 = ad 0 ∧ u.2 = (n + 1, upd g 0 (nI (n + 1)), setA lg n lgN, setA lc n (fun _ _ => 0)))
section S26b
variable {l : Launch} {E : eE} {A : Nat → Prop} {ad : Nat → Nat} {n : Nat} {g : Nat → Int32} {c lg : Nat → Nat → Int32} {lc : Nat → Nat → Nat → Int32}
set_option maxHeartbeats 4000000 in
theorem cX_language (hg : g 0 = nI n) (hn : n ≤ 4) : mL l E mX_language A [.ref (ad 0)] (pX E A ad n g c lg lc) (laX n ad g lg lc) (fun u => pX E A u.1 u.2.1 u.2.2.1 c u.2.2.2.1 u.2.2.2.2) := by
  refine metL (by decide) rfl (Nat.le_of_ble_eq_true rfl) (catOK rfl) (fun Z hZ C hN R => ?_)
  show Wg (zs Z 0 0) _ 0 [(0, _)] []
  refine r_aload_n C d_X_language_0 rfl ?_
  refine rX_g62 C rfl vI d_X_language_1 ?_
  refine r_iconst (v := 4) C d_X_language_4 (by decide) ?_
  rw [hg]
  refine r_icmp_ne (tgt := 11) C d_X_language_5 (by decide) (fun h1 => ?_) (fun h1 => ?_)
  · have h2 : n < 4 := by
      rcases Nat.lt_or_ge n 4 with q | q
      · exact q
      · exact absurd (by rw [show n = 4 by omega]; rfl) h1
    refine r_aload_n C d_X_language_11 rfl ?_
    refine rX_g11 C rfl vI d_X_language_12 ?_
    refine r_aload_n C d_X_language_15 rfl ?_
    refine rX_g62 C rfl vI d_X_language_16 ?_
    rw [hg]
    refine Wg.mono (P' := pW E A (wX E ad n g c lg lc)) (fun H h => h) ?_
    refine r_newG C hN q_13 (Nat.le_of_ble_eq_true rfl) (Nat.le_of_ble_eq_true rfl) d_X_language_19 (fun q => ?_)
    have C := zs_C (k' := 1) (n' := 6) C (Nat.le_of_ble_eq_true rfl) (Nat.le_of_ble_eq_true rfl)
    refine r_dup C d_X_language_22 rfl ?_
    refine r_callG C hN (Nat.le_of_ble_eq_true rfl) (Nat.le_of_ble_eq_true rfl) (Nat.le_of_ble_eq_true rfl) d_X_language_23 (fun q1 q2 => ?_)
    have C := zs_C (k' := 3) (n' := 518) C (Nat.le_of_ble_eq_true rfl) (Nat.le_of_ble_eq_true rfl)
    refine r_aast C rfl h2 d_X_language_26 ?_
    rw [wX_grow]
    refine Wg.mono (P' := pX E A (adG ad n q q1 q2) (n + 1) g c (setA lg n lgN) (setA lc n (fun _ _ => 0))) (fun H h => h) ?_
    have e0 : ad 0 = adG ad n q q1 q2 0 := (adG_lo (by omega)).symm
    rw [e0]
    refine r_aload_n C d_X_language_27 rfl ?_
    refine r_dup C d_X_language_28 rfl ?_
    refine rX_g62 C rfl vI d_X_language_29 ?_
    refine r_iconst (v := 1) C d_X_language_32 (by decide) ?_
    refine r_iadd C d_X_language_33 ?_
    rw [hg]
    refine r_tope (nI (n + 1)) (nI_1 n) ?_
    refine rX_p62 C rfl vI d_X_language_34 ?_
    refine r_aload_n C d_X_language_37 rfl ?_
    refine rX_g62 C rfl vI d_X_language_38 ?_
    refine r_iconst (v := 1) C d_X_language_41 (by decide) ?_
    refine r_isub C d_X_language_42 ?_
    refine r_tope (nI n) (nI_pred n) ?_
    exact R _ _ _ _ _ _ (adG ad n q q1 q2, n + 1, upd g 0 (nI (n + 1)), setA lg n lgN, setA lc n (fun _ _ => 0)) (Nat.le_of_ble_eq_true rfl) (Nat.le_of_ble_eq_true rfl) d_X_language_43 rfl vI (Or.inr ⟨h2, rfl, e0.symm, rfl⟩)
  · refine r_bipush (v := -2) C d_X_language_8 (by decide) ?_
    exact R _ _ _ _ _ _ (ad, n, g, lg, lc) (Nat.le_of_ble_eq_true rfl) (Nat.le_of_ble_eq_true rfl) d_X_language_10 rfl vI (Or.inl ⟨(nI_eq (by omega) (by omega)).mp (show nI n = nI 4 from h1), rfl, rfl⟩)
end S26b
end
section
-- how X's state and M's state belong together
def r1 (n : Nat) (g0 : Int32) (lg : Nat → Nat → Int32) (lc : Nat → Nat → Nat → Int32) (m0 : Int32) (m1 m2 m3 m4 m5 : Nat → Int32) : Prop :=
  n ≤ 4 ∧ g0 = nI n ∧ m0 = nI n ∧ (∀ i, i < n → ∀ w, w < 256 → lc i 0 w = m1 (256 * i + w) ∧ isIn 31 (lc i 0 w) ∧ lc i 1 w = m2 (256 * i + w)) ∧
  (∀ i, i < n → lg i 0 = m3 i ∧ isIn 21 (lg i 0) ∧ lg i 1 = m4 i ∧ isIn 21 (lg i 1) ∧ lg i 2 = m5 i) ∧
  (∀ i, n ≤ i → i < 4 → m5 i = 0 ∧ ∀ w, w < 256 → m1 (256 * i + w) = 0 ∧ m2 (256 * i + w) = 0)
def r2 (rl : Nat) (g4 : Int32) (c6 c7 : Nat → Int32) (h1 : Int32) (m6 m7 : Nat → Int32) : Prop := rl ≤ 12 ∧ g4 = nI rl ∧ h1 = nI rl ∧ c6 = m6 ∧ ∀ k, k < rl → isIn 31 (c6 k) ∧ c7 k = m7 k ∧ isIn 10 (c7 k)
def r3 (ln : Nat) (g5 : Int32) (c8 : Nat → Int32) (h5 : Int32) (m16 : Nat → Int32) : Prop := ln ≤ 30 ∧ g5 = nI ln ∧ h5 = nI ln ∧ c8 = m16 ∧ ∀ k, k < ln → isIn 256 (c8 k)
def r4 (ne : Nat) (g6 : Int32) (c9 c11 c10 c12 : Nat → Int32) (h4 : Int32) (m12 m13 m14 m15 : Nat → Int32) : Prop := ne ≤ 40 ∧ g6 = nI ne ∧ h4 = nI ne ∧ c9 = m12 ∧ c11 = m13 ∧ c10 = m14 ∧ c12 = m15 ∧ ∀ j, j < 1200 → isIn 31 (c10 j)
def r5 (fc : Nat) (g7 : Int32) (c15 : Nat → Int32) (h6 : Int32) (m18 : Nat → Int32) : Prop := fc ≤ 30 ∧ g7 = nI fc ∧ h6 = nI fc ∧ c15 = m18
def r6 (n np us nc : Nat) (pr : Nat → Nat) (g1 g2 g3 : Int32) (rt c1 c2 c3 c4 c5 : Nat → Int32) (h2 h3 : Int32) (m8 m9 m10 m11 : Nat → Int32) : Prop :=
  (g1 = nI nc ∧ g2 = nI np ∧ g3 = nI us ∧ h2 = nI np ∧ h3 = nI us ∧ nc ≤ us ∧ us ≤ 900 ∧ np ≤ 150) ∧ (c5 = m11 ∧ ∀ j, j < 1950 → isIn 10 (c5 j)) ∧ Tri n nc rt c1 c2 c3 pr ∧
  (∀ q, q < nc → c4 q = -1 ∨ ∃ p, p < np ∧ c4 q = nI p) ∧
  (∀ p, p < np → ∃ i s q, i < n ∧ 1 ≤ s ∧ s ≤ 12 ∧ m8 p = nI i ∧ m9 p = nI s ∧ q < nc ∧ c4 q = nI p ∧ nAt nc pr c1 i (fun k => m10 (12 * p + k)) s (4 + q)) ∧
  (∀ q k, q < nc → k < nc → c4 q = c4 k → ¬ c4 q = -1 → q = k)
def RRx (n rl ln ne fc np us nc : Nat) (pr : Nat → Nat) (g : Nat → Int32) (c lg : Nat → Nat → Int32) (lc : Nat → Nat → Nat → Int32) (gm : Nat → Int32) (cm : Nat → Nat → Int32) : Prop :=
  r1 n (g 0) lg lc (gm 0) (cm 1) (cm 2) (cm 3) (cm 4) (cm 5) ∧ r2 rl (g 4) (c 6) (c 7) (gm 1) (cm 6) (cm 7) ∧ r3 ln (g 5) (c 8) (gm 5) (cm 16) ∧ r4 ne (g 6) (c 9) (c 11) (c 10) (c 12) (gm 4) (cm 12) (cm 13) (cm 14) (cm 15) ∧ r5 fc (g 7) (c 15) (gm 6) (cm 18) ∧ r6 n np us nc pr (g 1) (g 2) (g 3) (fun j => lg j 3) (c 1) (c 2) (c 3) (c 4) (c 5) (gm 2) (gm 3) (cm 8) (cm 9) (cm 10) (cm 11)
def RR (n : Nat) (g : Nat → Int32) (c lg : Nat → Nat → Int32) (lc : Nat → Nat → Nat → Int32) (gm : Nat → Int32) (cm : Nat → Nat → Int32) : Prop := ∃ (rl ln ne fc np us nc : Nat) (pr : Nat → Nat), RRx n rl ln ne fc np us nc pr g c lg lc gm cm
theorem isIn_z {B : Nat} (h : 0 < B) : isIn B 0 := ⟨0, h, rfl⟩
theorem nI_m1 {a : Nat} (h : a < 2 ^ 31) : ¬ nI a = -1 := fun e => m1_neg (by rw [← e]; exact nI_pos' h)
section S27
variable {n rl ln ne fc np us nc : Nat} {pr : Nat → Nat} {g : Nat → Int32} {c lg : Nat → Nat → Int32} {lc : Nat → Nat → Nat → Int32} {gm : Nat → Int32} {cm : Nat → Nat → Int32}
theorem st_clear (H : RRx n rl ln ne fc np us nc pr g c lg lc gm cm) : g 5 = gm 5 ∧ RR n (upd g 5 0) c lg lc (upd gm 5 0) cm := by
  obtain ⟨h1, h2, h3, h4, h5, h6⟩ := H
  refine ⟨h3.2.1.trans h3.2.2.1.symm, rl, 0, ne, fc, np, us, nc, pr, h1, h2, ⟨by omega, rfl, rfl, h3.2.2.2.1, fun k hk => by omega⟩, h4, h5, h6⟩
theorem st_sign {x r r' : Int32} {u u' : gcS} (H : RRx n rl ln ne fc np us nc pr g c lg lc gm cm) (hx : sgP 5 8 g c ln x r u) (hm : sgP 5 16 gm cm ln x r' u') : r = r' ∧ RR n u.1 u.2 lg lc u'.1 u'.2 := by
  have H0 := H
  obtain ⟨h1, h2, h3, h4, h5, h6⟩ := H
  rcases hx with ⟨a1, rfl, rfl⟩ | ⟨a1, a2, rfl, rfl⟩ | ⟨a1, a2, rfl, rfl⟩ <;> rcases hm with ⟨b1, rfl, rfl⟩ | ⟨b1, b2, rfl, rfl⟩ | ⟨b1, b2, rfl, rfl⟩
  · exact ⟨rfl, _, _, _, _, _, _, _, _, H0⟩
  · exact absurd b1 a1
  · exact absurd b1 a1
  · exact absurd a1 b1
  · exact ⟨rfl, _, _, _, _, _, _, _, _, H0⟩
  · omega
  · exact absurd a1 b1
  · omega
  · refine ⟨rfl, rl, ln + 1, ne, fc, np, us, nc, pr, h1, h2, ⟨by omega, rfl, rfl, ?_, fun k hk => ?_⟩, h4, h5, h6⟩
    · show upd (c 8) ln x = upd (cm 16) ln x
      rw [h3.2.2.2.1]
    · show isIn 256 (upd (c 8) ln x k)
      by_cases e : k = ln
      · subst e; rw [pk_us]; exact a1
      · rw [pk_un e]; exact h3.2.2.2.2 k (by omega)
theorem st_next {x y r r' : Int32} {u u' : gcS} (H : RRx n rl ln ne fc np us nc pr g c lg lc gm cm) (hx : nxP 4 g c rl x y r u) (hm : nxP 1 gm cm rl x y r' u') : r = r' ∧ RR n u.1 u.2 lg lc u'.1 u'.2 := by
  have H0 := H
  obtain ⟨h1, h2, h3, h4, h5, h6⟩ := H
  rcases hx with ⟨a1, rfl, rfl⟩ | ⟨a1, a2, rfl, rfl⟩ | ⟨a1, a2, rfl, rfl⟩ <;> rcases hm with ⟨b1, rfl, rfl⟩ | ⟨b1, b2, rfl, rfl⟩ | ⟨b1, b2, rfl, rfl⟩
  · exact ⟨rfl, _, _, _, _, _, _, _, _, H0⟩
  · exact absurd b1 a1
  · exact absurd b1 a1
  · exact absurd a1 b1
  · exact ⟨rfl, _, _, _, _, _, _, _, _, H0⟩
  · omega
  · exact absurd a1 b1
  · omega
  · refine ⟨rfl, rl + 1, ln, ne, fc, np, us, nc, pr, h1, ⟨by omega, rfl, rfl, ?_, fun k hk => ?_⟩, h3, h4, h5, h6⟩
    · show upd (c 6) rl x = upd (cm 6) rl x
      rw [h2.2.2.2.1]
    · show isIn 31 (upd (c 6) rl x k) ∧ upd (c 7) rl y k = upd (cm 7) rl y k ∧ isIn 10 (upd (c 7) rl y k)
      by_cases e : k = rl
      · subst e; rw [pk_us, pk_us, pk_us]; exact ⟨a1.1, rfl, a1.2⟩
      · rw [pk_un e, pk_un e, pk_un e]; exact h2.2.2.2.2 k (by omega)
theorem st_code {x y z b r r' : Int32} {u : Nat → Nat → Nat → Int32} {u' : Nat → Nat → Int32} (H : RRx n rl ln ne fc np us nc pr g c lg lc gm cm) (hx : coX n lc x y z b r u) (hm : coM n cm x y z b r' u') : r = r' ∧ RR n g c lg u gm u' := by
  have H0 := H
  obtain ⟨h1, h2, h3, h4, h5, h6⟩ := H
  rcases hx with ⟨a1, rfl, rfl⟩ | ⟨i, w, a1, a2, a3, a4, a5, rfl, a6, a7⟩ <;> rcases hm with ⟨b1, rfl, rfl⟩ | ⟨i', w', b1, b2, b3, b4, b5, rfl, rfl⟩
  · exact ⟨rfl, _, _, _, _, _, _, _, _, H0⟩
  · exact absurd b3 a1
  · exact absurd a3 b1
  · obtain ⟨k1, k2, k3, k4, k5, k6⟩ := h1
    have ei : i' = i := (nI_eq (by omega) (by omega)).mp (b4.symm.trans a4)
    have ew : w' = w := (nI_eq (by omega) (by omega)).mp (b5.symm.trans a5)
    subst ei
    subst ew
    refine ⟨rfl, rl, ln, ne, fc, np, us, nc, pr, ⟨k1, k2, k3, fun j hj v hv => ?_, k5, fun j hj1 hj2 => ?_⟩, h2, h3, h4, h5, h6⟩
    · show u j 0 v = upd (cm 1) (256 * i' + w') z (256 * j + v) ∧ isIn 31 (u j 0 v) ∧ u j 1 v = upd (cm 2) (256 * i' + w') b (256 * j + v)
      rw [a6, a7]
      by_cases e : j = i' ∧ v = w'
      · obtain ⟨rfl, rfl⟩ := e
        rw [pk_us, pk_us, if_pos ⟨rfl, rfl⟩, if_pos ⟨rfl, rfl⟩]
        exact ⟨rfl, a3.2.2, rfl⟩
      · have e2 : 256 * j + v ≠ 256 * i' + w' := by omega
        rw [pk_un e2, pk_un e2]
        simp only [e, if_false]
        exact k4 j hj v hv
    · show cm 5 j = 0 ∧ ∀ w, w < 256 → upd (cm 1) (256 * i' + w') z (256 * j + w) = 0 ∧ upd (cm 2) (256 * i' + w') b (256 * j + w) = 0
      refine ⟨(k6 j hj1 hj2).1, fun v hv => ?_⟩
      have e2 : 256 * j + v ≠ 256 * i' + w' := by omega
      rw [pk_un e2, pk_un e2]
      exact (k6 j hj1 hj2).2 v hv
theorem st_ends {x y z b r r' : Int32} {u : Nat → Nat → Int32} {u' : Nat → Nat → Int32} (H : RRx n rl ln ne fc np us nc pr g c lg lc gm cm) (hx : enX n lg x y z b r u) (hm : enM n cm x y z b r' u') : r = r' ∧ RR n g c u lc gm u' := by
  have H0 := H
  obtain ⟨h1, h2, h3, h4, h5, h6⟩ := H
  rcases hx with ⟨a1, rfl, rfl⟩ | ⟨i, a1, a3, a4, rfl, a5, a6, a7, a8, a9⟩ <;> rcases hm with ⟨b1, rfl, rfl⟩ | ⟨i', b1, b3, b4, rfl, rfl⟩
  · exact ⟨rfl, _, _, _, _, _, _, _, _, H0⟩
  · exact absurd b3 a1
  · exact absurd a3 b1
  · obtain ⟨k1, k2, k3, k4, k5, k6⟩ := h1
    have ei : i' = i := (nI_eq (by omega) (by omega)).mp (b4.symm.trans a4)
    subst ei
    have ert : (fun j => u j 3) = (fun j => lg j 3) := by
      funext j
      by_cases e : j = i'
      · subst e; exact a9
      · show u j 3 = lg j 3
        rw [a5 j e]
    refine ⟨rfl, rl, ln, ne, fc, np, us, nc, pr, ⟨k1, k2, k3, k4, fun j hj => ?_, fun j hj1 hj2 => ?_⟩, h2, h3, h4, h5, by rw [ert]; exact h6⟩
    · show u j 0 = upd (cm 3) i' y j ∧ isIn 21 (u j 0) ∧ u j 1 = upd (cm 4) i' z j ∧ isIn 21 (u j 1) ∧ u j 2 = upd (cm 5) i' b j
      by_cases e : j = i'
      · subst e
        rw [pk_us, pk_us, pk_us, a6, a7, a8]
        exact ⟨rfl, a3.2.1, rfl, a3.2.2, rfl⟩
      · rw [pk_un e, pk_un e, pk_un e, a5 j e]
        exact k5 j hj
    · show upd (cm 5) i' b j = 0 ∧ _
      have e : j ≠ i' := by omega
      rw [pk_un e]
      exact k6 j hj1 hj2
theorem st_lang {ad : Nat → Nat} {r r' : Int32} {u : laS} {u' : gcS} (H : RRx n rl ln ne fc np us nc pr g c lg lc gm cm) (hx : laX n ad g lg lc r u) (hm : laM n gm cm r' u') : r = r' ∧ RR u.2.1 u.2.2.1 c u.2.2.2.1 u.2.2.2.2 u'.1 u'.2 := by
  have H0 := H
  obtain ⟨h1, h2, h3, h4, h5, h6⟩ := H
  rcases hx with ⟨a1, rfl, rfl⟩ | ⟨a1, rfl, a2, a3⟩ <;> rcases hm with ⟨b1, rfl, rfl⟩ | ⟨b1, rfl, rfl⟩
  · exact ⟨rfl, _, _, _, _, _, _, _, _, H0⟩
  · omega
  · omega
  · obtain ⟨k1, k2, k3, k4, k5, k6⟩ := h1
    rw [a3]
    refine ⟨rfl, rl, ln, ne, fc, np, us, nc, pr, ⟨by show n + 1 ≤ 4; omega, rfl, rfl, fun j hj v hv => ?_, fun j hj => ?_, fun j hj1 hj2 => ?_⟩, h2, h3, h4, h5, ?_⟩
    · show setA lc n (fun _ _ => 0) j 0 v = cm 1 (256 * j + v) ∧ isIn 31 (setA lc n (fun _ _ => 0) j 0 v) ∧ setA lc n (fun _ _ => 0) j 1 v = cm 2 (256 * j + v)
      by_cases e : j = n
      · subst e
        rw [setA_s, ((k6 j (by omega) (by omega)).2 v hv).1, ((k6 j (by omega) (by omega)).2 v hv).2]
        exact ⟨rfl, isIn_z (by decide), rfl⟩
      · rw [setA_n e]
        have hj2 : j < n + 1 := hj
        exact k4 j (by omega) v hv
    · show setA lg n lgN j 0 = upd (cm 3) n 2 j ∧ isIn 21 (setA lg n lgN j 0) ∧ setA lg n lgN j 1 = upd (cm 4) n 3 j ∧ isIn 21 (setA lg n lgN j 1) ∧ setA lg n lgN j 2 = cm 5 j
      by_cases e : j = n
      · subst e
        rw [setA_s, pk_us, pk_us, (k6 j (by omega) (by omega)).1]
        exact ⟨rfl, ⟨2, by decide, rfl⟩, rfl, ⟨3, by decide, rfl⟩, rfl⟩
      · rw [setA_n e, pk_un e, pk_un e]
        have hj2 : j < n + 1 := hj
        exact k5 j (by omega)
    · have hj3 : n + 1 ≤ j := hj1
      exact k6 j (by omega) hj2
    · obtain ⟨p1, p2, p3, p4, p5, p6⟩ := h6
      refine ⟨p1, p2, ?_, p4, fun p hp => ?_, p6⟩
      · obtain ⟨t1, t2, t3, t4⟩ := p3
        have up : ∀ {a b : Nat}, vld n a b → vld (n + 1) a b := fun h => by
          rcases h with h | h
          · exact Or.inl (by omega)
          · exact Or.inr h
        refine ⟨fun q hq => up (t1 q hq), fun v hv => ?_, t3, t4⟩
        by_cases e : v = n
        · subst e
          have : hdT (fun j => setA lg v lgN j 3) (c 2) v = -1 := by
            unfold hdT
            rw [if_pos (by omega)]
            show setA lg v lgN v 3 = -1
            rw [setA_s]; rfl
          rw [this, nlast_none nc (fun q hq => by rcases t1 q hq with h | h <;> omega)]
        · have : hdT (fun j => setA lg n lgN j 3) (c 2) v = hdT (fun j => lg j 3) (c 2) v := by
            unfold hdT
            by_cases h4 : v < 4
            · rw [if_pos h4, if_pos h4]
              show setA lg n lgN v 3 = lg v 3
              rw [setA_n e]
            · rw [if_neg h4, if_neg h4]
          rw [this]
          refine t2 v ?_
          rcases hv with h | h
          · have h7 : v < n + 1 := h
            exact Or.inl (by omega)
          · exact Or.inr h
      · obtain ⟨i, s, q, e1, e2⟩ := p5 p hp
        exact ⟨i, s, q, Nat.lt_succ_of_lt e1, e2⟩
theorem st_drop {x r r' : Int32} {u u' : gcS} (H : RRx n rl ln ne fc np us nc pr g c lg lc gm cm) (hx : drP 6 9 11 12 10 ne g c x r u) (hm : drP 4 12 13 15 14 ne gm cm x r' u') : r = r' ∧ RR n u.1 u.2 lg lc u'.1 u'.2 := by
  have H0 := H
  obtain ⟨h1, h2, h3, h4, h5, h6⟩ := H
  rcases hx with ⟨a1, rfl, rfl⟩ | ⟨a, a1, a2, rfl, rfl⟩ <;> rcases hm with ⟨b1, rfl, rfl⟩ | ⟨b, b1, b2, rfl, rfl⟩
  · exact ⟨rfl, _, _, _, _, _, _, _, _, H0⟩
  · exact absurd ⟨b, b1, b2⟩ a1
  · exact absurd ⟨a, a1, a2⟩ b1
  · obtain ⟨k1, k2, k3, k4, k5, k6, k7, k8⟩ := h4
    have e : b = a := (nI_eq (by omega) (by omega)).mp (b2.symm.trans a2)
    subst e
    refine ⟨rfl, rl, ln, ne - 1, fc, np, us, nc, pr, h1, h2, h3, ⟨by omega, rfl, rfl, ?_, ?_, ?_, ?_, fun j hj => ?_⟩, h5, h6⟩
    · show shk 1 (c 9) b (ne - 1) = shk 1 (cm 12) b (ne - 1)
      rw [k4]
    · show shk 1 (c 11) b (ne - 1) = shk 1 (cm 13) b (ne - 1)
      rw [k5]
    · show shk 30 (c 10) (30 * b) (30 * (ne - 1)) = shk 30 (cm 14) (30 * b) (30 * (ne - 1))
      rw [k6]
    · show shk 1 (c 12) b (ne - 1) = shk 1 (cm 15) b (ne - 1)
      rw [k7]
    · show isIn 31 (shk 30 (c 10) (30 * b) (30 * (ne - 1)) j)
      unfold shk
      by_cases hj2 : 30 * b ≤ j ∧ j < 30 * (ne - 1)
      · rw [if_pos hj2]; exact k8 _ (by omega)
      · rw [if_neg hj2]; exact k8 _ hj
theorem st_at {x r r' : Int32} (H : RRx n rl ln ne fc np us nc pr g c lg lc gm cm) (hx : (∃ k, k < fc ∧ x = nI k ∧ r = c 15 k) ∨ (¬ isIn fc x ∧ r = -1)) (hm : (∃ k, k < fc ∧ x = nI k ∧ r' = cm 18 k) ∨ (¬ isIn fc x ∧ r' = -1)) : r = r' := by
  obtain ⟨h1, h2, h3, h4, ⟨k1, k2, k3, k4⟩, h6⟩ := H
  rcases hx with ⟨k, a1, a2, a3⟩ | ⟨a1, a2⟩ <;> rcases hm with ⟨k', b1, b2, b3⟩ | ⟨b1, b2⟩
  · have e : k' = k := (nI_eq (by omega) (by omega)).mp (b2.symm.trans a2)
    rw [a3, b3, e, k4]
  · exact absurd ⟨k, a1, a2⟩ b1
  · exact absurd ⟨k', b1, b2⟩ a1
  · rw [a2, b2]
/-- the word's letters are the same on both sides -/
theorem spl_eq (H : RRx n rl ln ne fc np us nc pr g c lg lc gm cm) {i k : Nat} (hi : i < n) (hk : k < ln) : spl (lc i 0) (c 8) k = spl (fun w => cm 1 (256 * i + w)) (cm 16) k := by
  obtain ⟨h1, h2, h3, h4, h5, h6⟩ := H
  obtain ⟨w, hw1, hw2⟩ := h3.2.2.2.2 k hk
  rw [spl_of hw2 hw1, ← h3.2.2.2.1, spl_of hw2 hw1]
  exact (h1.2.2.2.1 i hi w hw1).1
theorem spelled_eq (H : RRx n rl ln ne fc np us nc pr g c lg lc gm cm) {i : Nat} (hi : i < n) : spelled (lc i 0) (c 8) ln ↔ spelled (fun w => cm 1 (256 * i + w)) (cm 16) ln := by
  constructor
  · intro h k hk; rw [← spl_eq H hi hk]; exact h k hk
  · intro h k hk; rw [spl_eq H hi hk]; exact h k hk
theorem isXs_cg {ow le sp s s' : Nat → Int32} {ln : Nat} {x : Int32} {e : Nat} (h : ∀ k, k < ln → s k = s' k) : isXs ow le sp ln s x e ↔ isXs ow le sp ln s' x e := by
  constructor
  · rintro ⟨h1, h2, h3⟩; exact ⟨h1, h2, fun k hk => (h3 k hk).trans (h k hk)⟩
  · rintro ⟨h1, h2, h3⟩; exact ⟨h1, h2, fun k hk => (h3 k hk).trans (h k hk).symm⟩
/-- the first one is one alone -/
theorem first_uq {p p' : Nat → Prop} {ne f f' : Nat} (hp : ∀ j, p j ↔ p' j) (h1 : f ≤ ne) (h2 : ∀ j, j < f → ¬ p j) (h3 : f < ne → p f) (h1' : f' ≤ ne) (h2' : ∀ j, j < f' → ¬ p' j) (h3' : f' < ne → p' f') : f = f' := by
  rcases Nat.lt_trichotomy f f' with h | h | h
  · exact absurd ((hp f).mp (h3 (by omega))) (h2' f h)
  · exact h
  · exact absurd ((hp f').mpr (h3' (by omega))) (h2 f' h)
theorem st_exc {x bits r r' : Int32} {u u' : gcS} (H : RRx n rl ln ne fc np us nc pr g c lg lc gm cm) (hx : xpX n ln ne g c lc x bits r u) (hm : xpM n ln ne gm cm x bits r' u') : r = r' ∧ RR n u.1 u.2 lg lc u'.1 u'.2 := by
  have H0 := H
  obtain ⟨h1, h2, h3, h4, h5, h6⟩ := H
  obtain ⟨k1, k2, k3, k4, k5, k6, k7, k8⟩ := h4
  obtain ⟨e, b, hx, rfl⟩ := hx
  obtain ⟨e', b', hm, rfl⟩ := hm
  rw [← k4, ← k5, ← k6, ← k7] at hm
  have fin : r = r' → b = b' → b.1 ≤ 40 → (∀ j, j < 1200 → isIn 31 (b.2.2.2.1 j)) → r = r' ∧ RR n (upd g 6 (nI b.1), exC 13 9 11 10 12 c e b).1 (upd g 6 (nI b.1), exC 13 9 11 10 12 c e b).2 lg lc (upd gm 4 (nI b'.1), exC 17 12 13 14 15 cm e' b').1 (upd gm 4 (nI b'.1), exC 17 12 13 14 15 cm e' b').2 := by
    intro e1 e2 e3 e4
    subst e2
    exact ⟨e1, rl, ln, b.1, fc, np, us, nc, pr, h1, h2, h3, ⟨e3, rfl, rfl, rfl, rfl, rfl, rfl, e4⟩, h5, h6⟩
  rcases hx with ⟨a1, a2, a3⟩ | ⟨i, a1, a2, a3⟩ <;> rcases hm with ⟨b1, b2, b3⟩ | ⟨i', b1, b2, b3⟩
  · exact fin (a2.trans b2.symm) (a3.trans b3.symm) (by rw [a3]; exact k1) (by rw [a3]; exact k8)
  · exact absurd ⟨i', b1, b2⟩ a1
  · exact absurd ⟨i, a1, a2⟩ b1
  · have ei : i' = i := (nI_eq (by have := h1.1; omega) (by have := h1.1; omega)).mp (b2.symm.trans a2)
    subst ei
    have hsp := spelled_eq H0 a1
    have hse : ∀ k, k < ln → spl (lc i' 0) (c 8) k = spl (fun w => cm 1 (256 * i' + w)) (cm 16) k := fun k hk => spl_eq H0 a1 hk
    rcases a3 with ⟨a3, a4, a5⟩ | ⟨a3, a4, f, a5, a6, a7, a8⟩ <;> rcases b3 with ⟨b3, b4, b5⟩ | ⟨b3, b4, f', b5, b6, b7, b8⟩
    · exact fin (a4.trans b4.symm) (a5.trans b5.symm) (by rw [a5]; exact k1) (by rw [a5]; exact k8)
    · rcases a3 with h | h
      · omega
      · exact absurd (hsp.mpr b4) h
    · rcases b3 with h | h
      · omega
      · exact absurd (hsp.mp a4) h
    · have ef : f = f' := first_uq (fun j => isXs_cg hse) a5 a6 a7 b5 b6 b7
      subst ef
      have a5' : f ≤ ne := a5
      rcases a8 with ⟨c1, c2, c3⟩ | ⟨c1, c0, c2, c3⟩ | ⟨c1, c0, c2, c3⟩ <;> rcases b8 with ⟨d1, d2, d3⟩ | ⟨d1, d0, d2, d3⟩ | ⟨d1, d0, d2, d3⟩
      · exact fin (c2.trans d2.symm) (c3.trans d3.symm) (by rw [c3]; exact k1) (by rw [c3]; exact k8)
      · omega
      · omega
      · omega
      · exact fin (c2.trans d2.symm) (c3.trans d3.symm) (by rw [c3]; exact k1) (by rw [c3]; exact k8)
      · dsimp only at c1 d1; omega
      · omega
      · dsimp only at c1 d1; omega
      · refine fin (c2.trans d2.symm) (c3.trans (d3.trans ?_).symm) (by rw [c3]; exact c0) ?_
        · rw [blit_cg hse]
        · rw [c3]
          intro j hj
          show isIn 31 (blit (c 10) (30 * f) ln (spl (lc i' 0) (c 8)) j)
          unfold blit
          by_cases hj2 : 30 * f ≤ j ∧ j < 30 * f + ln
          · rw [if_pos hj2]
            exact spl_in (h3.2.2.2.2 _ (by omega)) (fun w hw => (h1.2.2.2.1 i' a1 w hw).2.1)
          · rw [if_neg hj2]; exact k8 j hj
end S27
end
section
-- pattern, run, digit: both sides step together
section S28
variable {n rl ln ne fc np us nc : Nat} {pr : Nat → Nat} {g : Nat → Int32} {c lg : Nat → Nat → Int32} {lc : Nat → Nat → Nat → Int32} {gm : Nat → Int32} {cm : Nat → Nat → Int32}
/-- the row is pattern p on M's side as it is on X's -/
theorem same_iff (H : RRx n rl ln ne fc np us nc pr g c lg lc gm cm) {i p : Nat} (hi : i < n) (hp : p < np) : isSm (cm 8) (cm 9) (cm 10) (cm 6) rl (nI i) p ↔ ∃ q, q < nc ∧ nAt nc pr (c 1) i (c 6) rl (4 + q) ∧ c 4 q = nI p := by
  obtain ⟨h1, h2, h3, h4, h5, h6⟩ := H
  obtain ⟨p1, p2, p3, p4, p5, p6⟩ := h6
  obtain ⟨i', s, q, e1, e2, e3, e4, e5, e6, e7, e8⟩ := p5 p hp
  have hn := h1.1
  have hrl := h2.1
  constructor
  · rintro ⟨a1, a2, a3⟩
    have ei : i' = i := (nI_eq (by omega) (by omega)).mp (e4.symm.trans a1)
    have es : s = rl := (nI_eq (by omega) (by omega)).mp (e5.symm.trans a2)
    subst ei
    subst es
    exact ⟨q, e6, nAt_cg s _ (fun j hj => (a3 j hj).trans (by rw [← h2.2.2.2.1])) e8, e7⟩
  · rintro ⟨q', a1, a2, a3⟩
    have eq : q' = q := p6 q' q a1 e6 (a3.trans e7.symm) (by rw [a3]; exact nI_m1 (by omega))
    subst eq
    obtain ⟨c1, c2, c3⟩ := nAt_inj hn hi e1 rl s (4 + q') a2 e8
    subst c1
    subst c2
    exact ⟨e4, e5, fun k hk => by rw [← c3 k hk, h2.2.2.2.1]⟩
theorem dgs_eq (H : RRx n rl ln ne fc np us nc pr g c lg lc gm cm) {p : Nat} {y : Int32} : dgs (c 5) p rl (c 7) y = dgs (cm 11) p rl (cm 7) y := by
  obtain ⟨h1, h2, h3, h4, h5, h6⟩ := H
  unfold dgs
  rw [h6.2.1.1]
  refine blit_cg (fun j hj => ?_)
  by_cases e : j = rl
  · subst e; rw [pk_us, pk_us]
  · rw [pk_un e, pk_un e]; exact (h2.2.2.2.2 j (by omega)).2.1
theorem dgs_in (H : RRx n rl ln ne fc np us nc pr g c lg lc gm cm) {p : Nat} {y : Int32} (hy : isIn 10 y) : ∀ j, j < 1950 → isIn 10 (dgs (c 5) p rl (c 7) y j) := by
  obtain ⟨h1, h2, h3, h4, h5, h6⟩ := H
  intro j hj
  unfold dgs blit
  by_cases hj2 : 13 * p ≤ j ∧ j < 13 * p + (rl + 1)
  · rw [if_pos hj2]
    by_cases e : j - 13 * p = rl
    · rw [e, pk_us]; exact hy
    · rw [pk_un e]; exact (h2.2.2.2.2 _ (by omega)).2.2
  · rw [if_neg hj2]; exact h6.2.1.2 j hj
theorem st_pat {x y r r' : Int32} {u : gclS} {u' : gcS} (H : RRx n rl ln ne fc np us nc pr g c lg lc gm cm) (hx : paX n nc np us rl pr g c lg x y r u) (hm : paM n np us rl gm cm x y r' u') : r = r' ∧ RR n u.1.1 u.1.2 u.2 lc u'.1 u'.2 := by
  have H0 := H
  obtain ⟨h1, h2, h3, h4, h5, h6⟩ := H
  have hn := h1.1
  have z2 : ∀ (f7 : Nat → Int32), r2 0 0 (c 6) (c 7) 0 (cm 6) f7 := fun f7 => ⟨by omega, rfl, rfl, h2.2.2.2.1, fun k hk => by omega⟩
  have hp : isPat (c 6) rl ↔ isPat (cm 6) rl := by rw [h2.2.2.2.1]
  rcases hx with ⟨a1, rfl, rfl⟩ | ⟨i, a1, a2, a3, a4⟩ <;> rcases hm with ⟨b1, rfl, rfl⟩ | ⟨i', b1, b2, b3, b4⟩
  · exact ⟨rfl, _, _, _, _, _, _, _, _, H0⟩
  · exact absurd ⟨⟨i', b1, b2⟩, b3⟩ a1
  · exact absurd ⟨⟨i, a1, a2⟩, a3⟩ b1
  · have ei : i' = i := (nI_eq (by omega) (by omega)).mp (b2.symm.trans a2)
    subst ei
    subst a2
    rcases a4 with ⟨a4, rfl, rfl⟩ | ⟨a4, u1, a5, rfl⟩ <;> rcases b4 with ⟨b4, rfl, rfl⟩ | ⟨b4, f, b5, b6, b7, b8⟩
    · exact ⟨rfl, 0, ln, ne, fc, np, us, nc, pr, h1, z2 _, h3, h4, h5, h6⟩
    · exact absurd (hp.mpr b4) a4
    · exact absurd (hp.mp a4) b4
    · have h60 := h6
      obtain ⟨p1, p2, p3, p4, p5, p6⟩ := h6
      rcases a5 with ⟨q, p, c1, c2, c3, c4, rfl, rfl⟩ | ⟨c1, c2⟩
      · have hsm := (same_iff H0 a1 c2).mpr ⟨q, c1, c3, c4⟩
        have hfn : f < np := by
          rcases Nat.lt_or_ge f np with h | h
          · exact h
          · exact absurd hsm (b6 p (by omega))
        obtain ⟨q', d1, d2, d3⟩ := (same_iff H0 a1 hfn).mp (b7 hfn)
        have eq := nAt_det p3.2.2.2 _ _ _ d2 c3
        have eq2 : q' = q := by omega
        subst eq2
        have ep : p = f := (nI_eq (by have := p1.2.2.2.2.2.2.2; omega) (by have := p1.2.2.2.2.2.2.2; omega)).mp (c4.symm.trans d3)
        subst ep
        rcases b8 with ⟨d4, rfl, rfl⟩ | ⟨d4, -⟩ | ⟨d4, -⟩
        · refine ⟨rfl, 0, ln, ne, fc, np, us, nc, pr, h1, z2 _, h3, h4, h5, ⟨p1, ⟨?_, dgs_in H0 a3⟩, p3, p4, p5, p6⟩⟩
          exact dgs_eq H0
        · omega
        · omega
      · have hno : ∀ j, j < np → ¬ isSm (cm 8) (cm 9) (cm 10) (cm 6) rl (nI i') j := by
          intro j hj h
          obtain ⟨q, d1, d2, d3⟩ := (same_iff H0 a1 hj).mp h
          rw [c1 q d1 d2] at d3
          exact nI_m1 (by have := p1.2.2.2.2.2.2.2; omega) d3.symm
        have hfn : f = np := by
          rcases Nat.lt_or_ge f np with h | h
          · exact absurd (b7 h) (hno f h)
          · omega
        rcases c2 with ⟨c2, rfl, rfl⟩ | ⟨c2, c3, rfl, nc', pr', le, be, bs, po, lg', q, e1, e2, e3, e4, e5, e6, rfl⟩ <;> rcases b8 with ⟨d4, -⟩ | ⟨d4, d5, rfl, rfl⟩ | ⟨d4, d5, d6, rfl, rfl⟩
        · omega
        · exact ⟨rfl, 0, ln, ne, fc, np, us, nc, pr, h1, z2 _, h3, h4, h5, h60⟩
        · omega
        · omega
        · omega
        · obtain ⟨x1, x2, x3⟩ := e3
          have hrl := h2.1
          have hex : ∀ q', q' < nc → pr' q' = pr q' ∧ le q' = c 1 q' := fun q' hq' => ⟨(x2 q' hq').1, (x2 q' hq').2.1⟩
          have hnew : q < nc → c 4 q = -1 := fun hq => c1 q hq (nAt_back x1 hex p3.1 hn rl (4 + q) (by omega) e5)
          have hpo : ∀ q', q' < nc' → po q' = -1 ∨ ∃ p, p < np ∧ po q' = nI p ∧ q' < nc ∧ c 4 q' = nI p := by
            intro q' hq'
            rcases Nat.lt_or_ge q' nc with h | h
            · rw [(x2 q' h).2.2]
              rcases p4 q' h with e | ⟨p, hp1, hp2⟩
              · exact Or.inl e
              · exact Or.inr ⟨p, hp1, hp2, h, hp2⟩
            · exact Or.inl (x3 q' h hq')
          have hpoq : po q = -1 := by
            rcases Nat.lt_or_ge q nc with h | h
            · rw [(x2 q h).2.2]; exact hnew h
            · exact x3 q h e4
          refine ⟨rfl, 0, ln, ne, fc, np + 1, us + rl, nc', pr', ?_, z2 _, h3, h4, h5, ⟨⟨rfl, rfl, rfl, rfl, rfl, ?_, c3, ?_⟩, ⟨?_, dgs_in H0 a3⟩, e2, fun q' hq' => ?_, fun p hp' => ?_, fun q' k' hq' hk' ee hne => ?_⟩⟩
          · obtain ⟨k1, k2, k3, k4, k5, k6⟩ := h1
            refine ⟨k1, k2, k3, k4, fun j hj => ?_, k6⟩
            show lg' j 0 = cm 3 j ∧ isIn 21 (lg' j 0) ∧ lg' j 1 = cm 4 j ∧ isIn 21 (lg' j 1) ∧ lg' j 2 = cm 5 j
            rw [e6 j 0 (by decide), e6 j 1 (by decide), e6 j 2 (by decide)]
            exact k5 j hj
          · have := p1.2.2.2.2.2.1; omega
          · omega
          · exact dgs_eq H0
          · show upd po q (nI np) q' = -1 ∨ ∃ p, p < np + 1 ∧ upd po q (nI np) q' = nI p
            by_cases e : q' = q
            · subst e; rw [pk_us]; exact Or.inr ⟨np, by omega, rfl⟩
            · rw [pk_un e]
              rcases hpo q' hq' with h | ⟨p, h7, h8, -⟩
              · exact Or.inl h
              · exact Or.inr ⟨p, by omega, h8⟩
          · show ∃ i s q_1, i < n ∧ 1 ≤ s ∧ s ≤ 12 ∧ upd (cm 8) np (nI i') p = nI i ∧ upd (cm 9) np (nI rl) p = nI s ∧ q_1 < nc' ∧ upd po q (nI np) q_1 = nI p ∧ nAt nc' pr' le i (fun k => blit (cm 10) (12 * np) rl (cm 6) (12 * p + k)) s (4 + q_1)
            by_cases e : p = np
            · subst e
              have h0 : 0 < rl := by obtain ⟨⟨j, hj, -⟩, -⟩ := a4; omega
              refine ⟨i', rl, q, a1, h0, hrl, pk_us, pk_us, e4, pk_us, nAt_cg rl _ (fun j hj => ?_) e5⟩
              show c 6 j = blit (cm 10) (12 * p) rl (cm 6) (12 * p + j)
              unfold blit
              rw [if_pos (by omega), show 12 * p + j - 12 * p = j by omega, h2.2.2.2.1]
            · obtain ⟨i, s, q1, f1, f2, f3, f4, f5, f6, f7, f8⟩ := p5 p (by omega)
              have hq1 : q1 ≠ q := by
                intro e7
                subst e7
                have := hnew f6
                rw [f7] at this
                exact nI_m1 (by have := p1.2.2.2.2.2.2.2; omega) this
              refine ⟨i, s, q1, f1, f2, f3, by rw [pk_un e]; exact f4, by rw [pk_un e]; exact f5, by omega, by rw [pk_un hq1, (x2 q1 f6).2.2]; exact f7, nAt_cg s _ (fun j hj => ?_) (nAt_ext x1 hex s _ f8)⟩
              show cm 10 (12 * p + j) = blit (cm 10) (12 * np) rl (cm 6) (12 * p + j)
              unfold blit
              rw [if_neg (by omega)]
          · have ee2 : upd po q (nI np) q' = upd po q (nI np) k' := ee
            have hne2 : ¬ upd po q (nI np) q' = -1 := hne
            clear ee hne
            by_cases e : q' = q
            · by_cases e7 : k' = q
              · rw [e, e7]
              · exfalso
                subst e
                rw [pk_us, pk_un e7] at ee2
                rcases hpo k' hk' with h | ⟨p, h7, h8, -⟩
                · rw [h] at ee2; exact nI_m1 (by omega) ee2
                · rw [h8] at ee2
                  have := (nI_eq (by omega) (by omega)).mp ee2
                  omega
            · rw [pk_un e] at ee2 hne2
              by_cases e7 : k' = q
              · exfalso
                subst e7
                rw [pk_us] at ee2
                rcases hpo q' hq' with h | ⟨p, h7, h8, -⟩
                · exact hne2 h
                · rw [h8] at ee2
                  have := (nI_eq (by omega) (by omega)).mp ee2
                  omega
              · rw [pk_un e7] at ee2
                rcases hpo q' hq' with h | ⟨p, h7, h8, h9, h10⟩
                · exact absurd h hne2
                · rcases hpo k' hk' with h | ⟨p', k7, k8, k9, k10⟩
                  · rw [ee2] at hne2; exact absurd h hne2
                  · refine p6 q' k' h9 k9 ?_ ?_
                    · rw [h10, k10, ← h8, ← k8]; exact ee2
                    · rw [h10]; exact nI_m1 (by omega)
/-- a cell with a pattern is at most twelve deep -/
theorem dep12 (H : RRx n rl ln ne fc np us nc pr g c lg lc gm cm) : ∀ i q w m, i < n → q < nc → ¬ c 4 q = -1 → nAt nc pr (c 1) i w m (4 + q) → m ≤ 12 := by
  obtain ⟨h1, h2, h3, h4, h5, ⟨p1, p2, p3, p4, p5, p6⟩⟩ := H
  intro i q w m hi hq hne hA
  rcases p4 q hq with e | ⟨p, hp1, hp2⟩
  · exact absurd e hne
  · obtain ⟨i', s, q', e1, e2, e3, e4, e5, e6, e7, e8⟩ := p5 p hp1
    have eq : q = q' := p6 q q' hq e6 (hp2.trans e7.symm) hne
    subst eq
    obtain ⟨c1, c2, c3⟩ := nAt_inj h1.1 hi e1 m s (4 + q) hA e8
    omega
theorem sz12 (H : RRx n rl ln ne fc np us nc pr g c lg lc gm cm) : ∀ p, p < np → ∃ s, s ≤ 12 ∧ cm 9 p = nI s := by
  obtain ⟨h1, h2, h3, h4, h5, ⟨p1, p2, p3, p4, p5, p6⟩⟩ := H
  intro p hp
  obtain ⟨i', s, q', e1, e2, e3, e4, e5, e6, e7, e8⟩ := p5 p hp
  exact ⟨s, e3, e5⟩
theorem Edg_eq (H : RRx n rl ln ne fc np us nc pr g c lg lc gm cm) {i : Nat} {e e' : Nat → Int32} (hi : i < n) (he : Edg (lc i 0) (c 8) ln e) (he' : Edg (fun w => cm 1 (256 * i + w)) (cm 16) ln e') : ∀ j, j ≤ ln + 1 → e j = e' j := by
  intro j hj
  by_cases h0 : j = 0
  · subst h0; rw [he.1, he'.1]
  · by_cases hl : j = ln + 1
    · subst hl; rw [he.2.1, he'.2.1]
    · obtain ⟨k, rfl⟩ : ∃ k, j = k + 1 := ⟨j - 1, by omega⟩
      rw [he.2.2 k (by omega), he'.2.2 k (by omega), spl_eq H hi (by omega)]
/-- the digits that fall before a letter are the same on both sides -/
theorem S_iff (H : RRx n rl ln ne fc np us nc pr g c lg lc gm cm) {i : Nat} {e e' : Nat → Int32} (hi : i < n) (hee : ∀ j, j ≤ ln + 1 → e j = e' j) (j : Nat) (w : Int32) : SXd nc np ln pr (c 1) (c 4) e (c 5) i (fun _ _ => True) j w ↔ SMd np ln i (cm 8) (cm 9) (cm 10) e' (cm 11) j w := by
  obtain ⟨h1, h2, h3, h4, h5, ⟨p1, p2, p3, p4, p5, p6⟩⟩ := H
  have hn := h1.1
  constructor
  · rintro ⟨f, m, p, -, ⟨a1, a2, a3, q, a4, a5, a6⟩, a7, a8, a9⟩
    obtain ⟨i', s, q', e1, e2, e3, e4, e5, e6, e7, e8⟩ := p5 p a3
    have eq : q = q' := p6 q q' a4 e6 (a6.trans e7.symm) (by rw [a6]; exact nI_m1 (by have := p1.2.2.2.2.2.2.2; omega))
    subst eq
    obtain ⟨c1, c2, c3⟩ := nAt_inj hn hi e1 m s (4 + q) a5 e8
    subst c1
    subst c2
    refine ⟨p, a3, f, j - f, m, trivial, e4, e5, e3, by omega, by omega, ⟨m, e5, e3, a2, fun t ht => ?_⟩, by rw [a9, p2.1]⟩
    rw [← c3 t ht, hee (f + t) (by omega)]
  · rintro ⟨p, a3, f, jj, s, -, a4, a5, a6, a7, a8, ⟨s', a9, a10, a11, a12⟩, a13⟩
    have es : s' = s := (nI_eq (by omega) (by omega)).mp (a9.symm.trans a5)
    subst es
    obtain ⟨i', s, q, e1, e2, e3, e4, e5, e6, e7, e8⟩ := p5 p a3
    have ei : i' = i := (nI_eq (by omega) (by omega)).mp (e4.symm.trans a4)
    have es : s = s' := (nI_eq (by omega) (by omega)).mp (e5.symm.trans a9)
    subst ei
    subst es
    refine ⟨f, s, p, trivial, ⟨e2, a11, a3, q, e6, nAt_cg s _ (fun t ht => ?_) e8, e7⟩, by omega, by omega, by rw [a13, p2.1, show j - f = jj by omega]⟩
    rw [hee (f + t) (by omega)]; exact a12 t ht
/-- the value between two letters is the same on both sides -/
theorem va_eq (H : RRx n rl ln ne fc np us nc pr g c lg lc gm cm) {i k : Nat} {e e' : Nat → Int32} {v v' : Int32} (hi : i < n) (hee : ∀ j, j ≤ ln + 1 → e j = e' j) (hx : vaX nc np ln ne i pr c e k v) (hm : vaM np ln ne i cm e' k v') : v = v' := by
  have H0 := H
  obtain ⟨h1, h2, h3, ⟨k1, k2, k3, k4, k5, k6, k7, k8⟩, h5, h6⟩ := H
  have hix : ∀ f, isEx (c 9) (c 11) (c 10) ln e (nI i) f ↔ isEx (cm 12) (cm 13) (cm 14) ln e' (nI i) f := by
    intro f
    rw [← k4, ← k5, ← k6]
    constructor
    · rintro ⟨a1, a2, a3⟩; exact ⟨a1, a2, fun t ht => (a3 t ht).trans (hee _ (by omega))⟩
    · rintro ⟨a1, a2, a3⟩; exact ⟨a1, a2, fun t ht => (a3 t ht).trans (hee _ (by omega)).symm⟩
  rcases hx with ⟨f, a1, a2, a3, a4⟩ | ⟨a1, a2⟩ <;> rcases hm with ⟨f', b1, b2, b3, b4⟩ | ⟨b1, b2⟩
  · have ef : f = f' := first_uq hix (Nat.le_of_lt a1) a3 (fun _ => a2) (Nat.le_of_lt b1) b3 (fun _ => b2)
    subst ef
    rw [a4, b4, k7]
  · exact absurd ((hix f).mp a2) (b1 f a1)
  · exact absurd ((hix f').mpr b2) (a1 f' b1)
  · exact Best_uq a2 (Best_cg (fun w => (S_iff H0 hi hee (k + 1) w).symm) b2)
theorem st_digit {x y r r' : Int32} {u u' : gcS} (H : RRx n rl ln ne fc np us nc pr g c lg lc gm cm) (hx : diX n nc np ln ne pr g c lc x y r u) (hm : diM n np ln ne gm cm x y r' u') : r = r' ∧ RR n u.1 u.2 lg lc u'.1 u'.2 := by
  have H0 := H
  obtain ⟨h1, h2, h3, h4, h5, h6⟩ := H
  have hn := h1.1
  have hln := h3.1
  rcases hx with ⟨a1, rfl, rfl⟩ | ⟨i, k, e, bt, a1, a2, a3, a4, rfl, a5⟩ <;> rcases hm with ⟨b1, rfl, rfl⟩ | ⟨i', k', e', b1, b2, b3, b4, rfl, b6, b5⟩
  · exact ⟨rfl, _, _, _, _, _, _, _, _, H0⟩
  · exact absurd ⟨⟨i', b1, b3⟩, ⟨k', by omega, b4⟩⟩ a1
  · exact absurd ⟨⟨i, a1, a3⟩, ⟨k, by omega, a4⟩⟩ b1
  · have ei : i' = i := (nI_eq (by omega) (by omega)).mp (b3.symm.trans a3)
    have ek : k' = k := (nI_eq (by omega) (by omega)).mp (b4.symm.trans a4)
    subst ei
    subst ek
    refine ⟨?_, rl, ln, ne, fc, np, us, nc, pr, h1, h2, h3, h4, h5, h6⟩
    have hsp := spelled_eq H0 a1
    rcases a5 with ⟨a5, a6⟩ | ⟨a5, a6, a7⟩ <;> rcases b5 with ⟨b5, b7⟩ | ⟨b5, b7⟩
    · rw [a6, b7]
    · exact absurd (hsp.mpr b5) a5
    · exact absurd (hsp.mp a5) b5
    · exact va_eq H0 a1 (Edg_eq H0 a1 a6 b6) a7 b7
theorem st_run {x r r' : Int32} {u u' : gcS} (H : RRx n rl ln ne fc np us nc pr g c lg lc gm cm) (hx : ruX n nc np ln ne pr g c lg lc x r u) (hm : ruM n np ln ne gm cm x r' u') : r = r' ∧ RR n u.1 u.2 lg lc u'.1 u'.2 := by
  have H0 := H
  obtain ⟨h1, h2, h3, h4, h5, h6⟩ := H
  have hn := h1.1
  have hln := h3.1
  rcases hx with ⟨a1, rfl, rfl⟩ | ⟨i, a, b, f, e, bt, fd, a1, a2, a3, a4, a5, a6, rfl, a8, a9, a10, rfl⟩ <;> rcases hm with ⟨b1, rfl, rfl⟩ | ⟨i', a', b', f', e', fd', b1, b2, b3, b4, b5, b6, rfl, b8, b9, b10, rfl⟩
  · exact ⟨rfl, _, _, _, _, _, _, _, _, H0⟩
  · exact absurd ⟨i', b1, b2⟩ a1
  · exact absurd ⟨i, a1, a2⟩ b1
  · have ei : i' = i := (nI_eq (by omega) (by omega)).mp (b2.symm.trans a2)
    subst ei
    obtain ⟨k1, k2, k3, k4, k5, k6⟩ := h1
    obtain ⟨l1, l2, l3, l4, l5⟩ := k5 i' a1
    have ea : a' = a := (nI_eq (by omega) (by omega)).mp (b3.symm.trans (l1.symm.trans a3))
    have eb : b' = b := (nI_eq (by omega) (by omega)).mp (b5.symm.trans (l3.symm.trans a5))
    subst ea
    subst eb
    have hsp := spelled_eq H0 a1
    have hst : stpX ln i' (c 8) lg lc ↔ stpM ln i' cm := by
      unfold stpX stpM
      rcases Nat.eq_zero_or_pos ln with h0 | h0
      · exact ⟨fun _ => Or.inl h0, fun _ => Or.inl h0⟩
      · obtain ⟨w, hw1, hw2⟩ := h3.2.2.2.2 0 h0
        have hcap : (c 8 0).toNatClampNeg = w := by rw [hw2]; exact nI_clamp (by omega)
        rw [← h3.2.2.2.1, hcap, l5, (k4 i' a1 w hw1).2.2, hsp, ← h3.2.2.2.1]
    have fin : f = f' → fd = fd' → nI f = nI f' ∧ RR n (upd g 7 (nI f), setA (setA (setA c 13 e) 14 bt) 15 fd).1 (upd g 7 (nI f), setA (setA (setA c 13 e) 14 bt) 15 fd).2 lg lc (upd gm 6 (nI f'), setA (setA cm 17 e') 18 fd').1 (upd gm 6 (nI f'), setA (setA cm 17 e') 18 fd').2 := by
      intro e1 e2
      subst e1
      subst e2
      exact ⟨rfl, rl, ln, ne, f, np, us, nc, pr, ⟨k1, k2, k3, k4, k5, k6⟩, h2, h3, h4, ⟨a8, rfl, rfl, rfl⟩, h6⟩
    rcases a10 with ⟨c1, c2, c3⟩ | ⟨c1, vf, c2, c3⟩ <;> rcases b10 with ⟨d1, d2, d3⟩ | ⟨d1, vf', d2, d3⟩
    · exact fin (c2.trans d2.symm) (c3.trans (h5.2.2.2.trans d3.symm))
    · exact absurd (hst.mp c1) d1
    · exact absurd (hst.mpr d1) c1
    · have hee := Edg_eq H0 a1 (a9 c1) b9
      have hcg : rnF (fun k => odd_ (vf k)) (max a' 1) (ln + 1 - (max a' 1 + max b' 1)) (0, c 15) = rnF (fun k => odd_ (vf' k)) (max a' 1) (ln + 1 - (max a' 1 + max b' 1)) (0, cm 18) := by
        rw [h5.2.2.2]
        refine rnF_cg _ (fun j hj => ?_)
        rw [va_eq H0 a1 hee (c2 _ (by omega) (by omega)) (d2 _ (by omega) (by omega))]
      have hq := c3.trans (hcg.trans d3.symm)
      exact fin (congrArg Prod.fst hq) (congrArg Prod.snd hq)
end S28
end
section
-- rows of the law: both worlds side by side
abbrev mLaw : mD := (x, code, 4, ret, room_1)
/-- the script -/
def zX (Z : cZ) (b L : Nat) (xs : Nat → Int32) : Prop := match Z with
  | (_, _, _, _, s, _, _, _, _, _, A, _, _, _, _) => va_X b L xs s s.heap ∧ b < s.heap.size ∧ ¬ A b
theorem zX_s {Z : cZ} {b L k n : Nat} {xs : Nat → Int32} (h : zX Z b L xs) : zX (zs Z k n) b L xs := by
  obtain ⟨p, l, e, R, s, m, args, below, meth, cd, A0, nL, cells, slots, Q⟩ := Z
  exact h
/-- M's cells; X's part of what is new -/
def isM (adM : Nat → Nat) (q : Nat) : Prop := ∃ j, j < 19 ∧ q = adM j
def AX (sz : Nat) (adM : Nat → Nat) (q : Nat) : Prop := sz ≤ q ∧ ¬ isM adM q
def pL (E : eE) (sz : Nat) (adM ad : Nat → Nat) (n : Nat) (g : Nat → Int32) (c lg : Nat → Nat → Int32) (lc : Nat → Nat → Nat → Int32) (gm : Nat → Int32) (cm : Nat → Nat → Int32) (H : Heap) : Prop := pX E (AX sz adM) ad n g c lg lc H ∧ pM E (isM adM) adM gm cm H
section LawRows
variable {Z : cZ} {E : eE} {μ μ' : mD} {A A1 : Nat → Prop} {P P0 : Heap → Prop} {pc idx nn a : Nat} {L : List (Nat × Value)} {st gst As : List Value} {adM ad : Nat → Nat} {n sz k m0 : Nat} {g : Nat → Int32} {c lg : Nat → Nat → Int32} {lc : Nat → Nat → Nat → Int32} {gm : Nat → Int32} {cm : Nat → Nat → Int32} {nm : String} {ws : va_W}
theorem Wg.pure {F : Prop} (h : ∀ H, P H → F) (kk : F → Wg Z P pc L st) : Wg Z P pc L st := by
  obtain ⟨p, l, e, R, s, m, args, below, meth, cd, A0, nL, cells, slots, Q⟩ := Z
  intro H locs ls hP hS hl
  exact kk (h H hP) H locs ls hP hS hl
theorem r_sld {b Ln j : Nat} {xs : Nat → Int32} {i : Int32} (C : CG Z E μ A) (hX : zX Z b Ln xs) (hi : i = nI j) (hj : j < Ln) (hLn : Ln < 2 ^ 31) (hd : decode μ.2.1 pc = .ok (.iaload, 1)) (kk : Wg Z P (pc + 1) L (.int (xs j) :: st)) : Wg Z P pc L (.int i :: .ref b :: st) := by
  obtain ⟨p, l, e, R, s, m, args, below, meth, cd, A0, nL, cells, slots, Q⟩ := Z
  obtain ⟨hx, hb, hml, hnL, hown, hts, hK, hR, hA, hr, hlk, hc1, hc2⟩ := C
  intro H locs ls hP hS hl
  have hcl : (nI j).toNatClampNeg = j := nI_clamp (by omega)
  subst hi
  refine va_sld hx hb hX.1 hX.2.1 hX.2.2 hS (vp_in_nI hj hLn) hd ?_
  rw [hcl]
  exact kk H locs ls hP hS hl
theorem r_slen {b Ln : Nat} {xs : Nat → Int32} (C : CG Z E μ A) (hX : zX Z b Ln xs) (hd : decode μ.2.1 pc = .ok (.arraylength, 1)) (kk : Wg Z P (pc + 1) L (.int (nI Ln) :: st)) : Wg Z P pc L (.ref b :: st) := by
  obtain ⟨p, l, e, R, s, m, args, below, meth, cd, A0, nL, cells, slots, Q⟩ := Z
  obtain ⟨hx, hb, hml, hnL, hown, hts, hK, hR, hA, hr, hlk, hc1, hc2⟩ := C
  intro H locs ls hP hS hl
  exact va_slen hx hb hX.1 hX.2.1 hX.2.2 hS hd (kk H locs ls hP hS hl)
theorem r_tabIn {dflt lo hi off : Int} {offs : Array Int} {len tgt : Nat} {y : Int32} (C : CG Z E μ A) (hd : decode μ.2.1 pc = .ok (.tableswitch dflt lo hi offs, len)) (h1 : ¬ y.toInt < lo) (h2 : ¬ hi < y.toInt) (ho : offs[(y.toInt - lo).toNat]? = some off) (ht : (pc : Int) + off = (tgt : Int)) (kk : Wg Z P tgt L st) : Wg Z P pc L (.int y :: st) := by
  obtain ⟨p, l, e, R, s, m, args, below, meth, cd, A0, nL, cells, slots, Q⟩ := Z
  obtain ⟨hx, hb, hml, hnL, hown, hts, hK, hR, hA, hr, hlk, hc1, hc2⟩ := C
  intro H locs ls hP hS hl
  exact lv_tableIn hx hb hd h1 h2 ho ht (kk H locs ls hP hS hl)
theorem r_tabOut {dflt lo hi : Int} {offs : Array Int} {len tgt : Nat} {y : Int32} (C : CG Z E μ A) (hd : decode μ.2.1 pc = .ok (.tableswitch dflt lo hi offs, len)) (h : y.toInt < lo ∨ hi < y.toInt) (ht : (pc : Int) + dflt = (tgt : Int)) (kk : Wg Z P tgt L st) : Wg Z P pc L (.int y :: st) := by
  obtain ⟨p, l, e, R, s, m, args, below, meth, cd, A0, nL, cells, slots, Q⟩ := Z
  obtain ⟨hx, hb, hml, hnL, hown, hts, hK, hR, hA, hr, hlk, hc1, hc2⟩ := C
  intro H locs ls hP hS hl
  exact lv_tableOut hx hb hd h ht (kk H locs ls hP hS hl)
/-- a call into one world; the other is kept -/
theorem r_lawW {S : Type} {post : Int32 → S → Prop} {B : S → Heap → Prop} {K : Heap → Prop} (C : CG Z E μ A) (hM : mW Z.2.1 E μ' A1 (.ref a :: As) P0 post B) (hok : okV μ.1.cls idx μ' nn) (hrm : okR μ μ') (hz : μ'.2.2.2.2.cells = 0 ∧ μ'.2.2.2.2.slots = 0) (V : ∀ H, P H → P0 H) (hv : ∀ (s : State) (H : Heap), P0 H → eK E s → ∃ cell : Cell, H[a]? = some cell ∧ cell.vm.isStatics = false ∧ s.vm.findClass μ'.1.cls = some cell.cls) (hA1 : ∀ q, A1 q → A q) (hK1 : ∀ (H H1 : Heap), P H → (∀ q, q < H.size → ¬ A1 q → H1[q]? = H[q]?) → K H1) (hn : As.length = nn) (hg : gst = As.reverse ++ .ref a :: st) (hst : (st.map fun v => v.category).sum ≤ 8) (hd : decode μ.2.1 pc = .ok (.invokevirtual idx, 3)) (kk : ∀ (r : Int32) (u : S), post r u → Wg Z (fun H => B u H ∧ K H) (pc + 3) L (.int r :: st)) : Wg Z P pc L gst := by
  obtain ⟨p, l, e, R, s, m, args, below, meth, cd, A0, nL, cells, slots, Q⟩ := Z
  obtain ⟨hx, hb, hml, hnL, hown, hts, hK, hR, hA, hr, hlk, hc1, hc2⟩ := C
  intro H locs ls hP hS hl
  subst hg
  subst hR
  subst hA
  have hcw : CallW μ.2.2.2.2 s args μ.1.cls μ'.1.cls idx μ'.1 μ'.2.1 μ'.2.2.1 μ'.2.2.2.1 (wd μ') μ'.2.2.2.2 0 0 nn := cwV nn hts (okV_wsV hok) rfl hz.1 hz.2 ⟨rfl, hok.2.2.2.2.2⟩ hrm
  exact va_calli (va_runV (b := a) (As := As) (rest := st) ⟨hx, hb, hml, hown, hts⟩ hM hcw ⟨pre_blind, hv s H (V H hP) hK, fun U hU hW => ⟨rfl, by rw [hU]; exact V H hP, eK_warm hW hK⟩⟩ rfl hn (by rw [← hl.1.1]) rfl (lv_room hst) hd ⟨hc1, hc2⟩) hS (fun q _ h => hA1 q h) (fun q h => hA1 q h) (fun r u t H1 locs1 ht hvm hw hB hz1 hk1 hS1 => kk r u hw H1 locs1 ls ⟨by rw [← ht]; exact hB, hK1 H H1 hP hk1⟩ hS1 hl)
/-- ... that makes cells -/
theorem r_lawL {S : Type} {post : Int32 → S → Prop} {B : S → Heap → Prop} {K : Heap → Prop} (C : CG (zs Z k m0) E μ A) (hM : mL Z.2.1 E μ' A1 (.ref a :: As) P0 post B) (hok : okV μ.1.cls idx μ' nn) (hrm : okR μ μ') (V : ∀ H, P H → P0 H) (hN : ∀ (s : State) (H : Heap), zN Z A nm → P H → ∀ q, H.size ≤ q → (∀ q, H.size ≤ q → A q) → A1 q) (hZN : zN Z A nm) (hv : ∀ (s : State) (H : Heap), P0 H → eK E s → ∃ cell : Cell, H[a]? = some cell ∧ cell.vm.isStatics = false ∧ s.vm.findClass μ'.1.cls = some cell.cls) (hA1 : ∀ q, A1 q → A q) (hK1 : ∀ (H H1 : Heap), P H → (∀ q, q < H.size → ¬ A1 q → H1[q]? = H[q]?) → K H1) (hn : As.length = nn) (hg : gst = As.reverse ++ .ref a :: st) (hst : (st.map fun v => v.category).sum ≤ 8) (hk : k + μ'.2.2.2.2.cells ≤ μ.2.2.2.2.cells) (hm0 : m0 + μ'.2.2.2.2.slots ≤ μ.2.2.2.2.slots) (hd : decode μ.2.1 pc = .ok (.invokevirtual idx, 3)) (kk : ∀ (r : Int32) (u : S), post r u → Wg (zs Z (k + μ'.2.2.2.2.cells) (m0 + μ'.2.2.2.2.slots)) (fun H => B u H ∧ K H) (pc + 3) L (.int r :: st)) : Wg (zs Z k m0) P pc L gst := by
  obtain ⟨p, l, e, R, s, m, args, below, meth, cd, A0, nL, cells, slots, Q⟩ := Z
  obtain ⟨hx, hb, hml, hnL, hown, hts, hK, hR, hA, hr, hlk, hc1, hc2⟩ := C
  intro H locs ls hP hS hl
  subst hg
  subst hR
  subst hA
  have hcw : CallW μ.2.2.2.2 s args μ.1.cls μ'.1.cls idx μ'.1 μ'.2.1 μ'.2.2.1 μ'.2.2.2.1 (wd μ') μ'.2.2.2.2 μ'.2.2.2.2.cells μ'.2.2.2.2.slots nn := cwV nn hts (okV_wsV hok) rfl rfl rfl ⟨rfl, hok.2.2.2.2.2⟩ hrm
  have hnew : ∀ q, H.size ≤ q → A1 q := fun q hq => hN s H hZN hP q hq (fun q hq => hZN.1 q (Nat.le_trans hS.1 hq))
  exact va_calli (va_runV (b := a) (As := As) (rest := st) ⟨hx, hb, hml, hown, hts⟩ hM hcw ⟨pre_blind (P0 := fun H' => P0 H' ∧ ∀ q, H'.size ≤ q → A1 q), hv s H (V H hP) hK, fun U hU hW => ⟨rfl, ⟨by rw [hU]; exact V H hP, by rw [hU]; exact hnew⟩, eK_warm hW hK⟩⟩ rfl hn (by rw [← hl.1.1]) rfl (lv_room hst) hd ⟨hk, hm0⟩) hS (fun q _ h => hA1 q h) (fun q h => hA1 q h) (fun r u t H1 locs1 ht hvm hw hB hz1 hk1 hS1 => kk r u hw H1 locs1 ls ⟨by rw [← ht]; exact hB, hK1 H H1 hP hk1⟩ hS1 hl)
theorem pM_keep {Hp H1 : Heap} (hp : pM E (isM adM) adM gm cm Hp) (hk : ∀ q, q < Hp.size → ¬ AX sz adM q → H1[q]? = Hp[q]?) : pM E (isM adM) adM gm cm H1 := by
  refine ⟨fun j x hj => (hp.1 j x hj).kept (hk x.1 (hp.1 j x hj).lt (fun h => h.2 (hp.2.2 j x hj))), hp.2⟩
theorem pX_keep {Hp H1 : Heap} (hp : pX E (AX sz adM) ad n g c lg lc Hp) (hk : ∀ q, q < Hp.size → ¬ isM adM q → H1[q]? = Hp[q]?) : pX E (AX sz adM) ad n g c lg lc H1 := by
  refine ⟨fun j x hj => (hp.1 j x hj).kept (hk x.1 (hp.1 j x hj).lt (hp.2.2 j x hj).2), hp.2⟩
theorem isM_lt {Hp : Heap} (hp : pM E (isM adM) adM gm cm Hp) {q : Nat} (hq : isM adM q) : q < Hp.size := by
  obtain ⟨j, hj, rfl⟩ := hq
  exact (hp.1 j _ (wl_get hj)).lt
/-- a new object behind a world -/
theorem r_newO {idx ci N : Nat} {cn : String} {T : u_T} {ty0 : Nat → FieldType} {fs : List Value} (C : CG (zs Z k m0) E μ A) (hN : zN Z A nm) (hcl0 : classes[ci]? = some (cn, T, N)) (hin : ∀ w ∈ u_ws cn T N, w ∈ gw) (htok : ∀ k, k < N → parseFieldDescriptor (T k).2.2.1 = some (ty0 k)) (hcl : Cond.classLink R_law idx cn ∈ gw) (hμ : μ.1.cls = R_law) (hins : Cond.instantiable cn N ∈ gw) (hini : Cond.initialized cn ∈ gw) (hfs : ∀ j, j < N → defaultValue (ty0 j) = vp_V fs j) (hk : k + 1 ≤ μ.2.2.2.2.cells) (hn : m0 + N ≤ μ.2.2.2.2.slots) (hd : decode μ.2.1 pc = .ok (.new idx, 3)) (kk : ∀ q, Wg (zs Z (k + 1) (m0 + N)) (pW E A (ws ++ [(q, .inr (ci, fs))])) (pc + 3) L (.ref q :: st)) : Wg (zs Z k m0) (pW E A ws) pc L st := by
  obtain ⟨p, l, e, R, s, m, args, below, meth, cd, A0, nL, cells, slots, Q⟩ := Z
  obtain ⟨hx, hb, hml, hnL, hown, hts, hK, hR, hA, hr, hlk, hc1, hc2⟩ := C
  intro H locs ls hP hS hl
  subst hA
  subst hR
  rw [hμ] at hown
  exact va_new hx hb hts hin ty0 htok hown (hts _ hcl) (hts _ hins) (hts _ hini) hK.1 hP.1 hP.2 hS hN.1 hcl0 hfs hk hn hd (fun q H1 hP1 hD1 hS1 => kk q H1 locs ls ⟨hP1, hD1⟩ hS1 hl)
set_option maxHeartbeats 4000000 in
/-- its constructor -/
theorem r_ctor {q ci : Nat} {fs : List Value} {S : Type} {post : S → Prop} {B : (Nat → Prop) → S → Heap → Prop} (C : CG (zs Z k m0) E μ A) (hN : zN Z A nm) (hM : ∀ A' : Nat → Prop, mN Z.2.1 E μ' A' [.ref q] (pW E A' [(q, .inr (ci, fs))]) post (B A')) (hret : μ'.2.2.2.1 = none) (hl1 : Cond.methodLink μ.1.cls idx μ'.1 ∈ gw) (hl2 : Cond.instanceMethod μ'.1 ∈ gw) (hl3 : Cond.initialized μ'.1.cls ∈ gw) (hl4 : Cond.code μ'.1 μ'.2.1 μ'.2.2.1 none ∈ gw) (hnm : μ'.1.name = "<init>") (hokD : okD μ' 0) (hrm : okR μ μ') (hk : k + μ'.2.2.2.2.cells ≤ μ.2.2.2.2.cells) (hn : m0 + μ'.2.2.2.2.slots ≤ μ.2.2.2.2.slots) (hst : (st.map fun v => v.category).sum ≤ 8) (hd : decode μ.2.1 pc = .ok (.invokespecial idx, 3)) (kk : ∀ (hz : Nat) (u : S), post u → (∀ (j : Nat) (x : Nat × va_E), ws[j]? = some x → x.1 < hz ∧ x.1 ≠ q) → (∀ x, (x = q ∨ hz ≤ x) → A x) → Wg (zs Z (k + μ'.2.2.2.2.cells) (m0 + μ'.2.2.2.2.slots)) (fun H => pW E A ws H ∧ B (fun x => x = q ∨ hz ≤ x) u H) (pc + 3) L st) : Wg (zs Z k m0) (pW E A (ws ++ [(q, .inr (ci, fs))])) pc L (.ref q :: st) := by
  obtain ⟨p, l, e, R, s, m, args, below, meth, cd, A0, nL, cells, slots, Q⟩ := Z
  obtain ⟨hx, hb, hml, hnL, hown, hts, hK, hR, hA, hr, hlk, hc1, hc2⟩ := C
  intro H locs ls hP hS hl
  subst hA
  subst hR
  have hlast : (ws ++ [(q, .inr (ci, fs))] : va_W)[ws.length]? = some (q, .inr (ci, fs)) := by simp
  have hleft : ∀ (j : Nat) (x : Nat × va_E), ws[j]? = some x → (ws ++ [(q, .inr (ci, fs))] : va_W)[j]? = some x := fun j x hj => by
    rw [List.getElem?_append_left (List.getElem?_eq_some_iff.mp hj).1]; exact hj
  have hPc : va_P E.1 classes [(q, .inr (ci, fs))] H := fun j x hj => by
    cases j with
    | zero => cases hj; exact hP.1 _ _ hlast
    | succ j => simp at hj
  have hDc : va_D (fun x => x = q ∨ H.size ≤ x) [(q, .inr (ci, fs))] := by
    refine ⟨fun i j x y hi hj _ => ?_, fun j x hj => ?_⟩
    · have h1 := (List.getElem?_eq_some_iff.mp hi).1
      have h2 := (List.getElem?_eq_some_iff.mp hj).1
      simp at h1 h2
      omega
    · cases j with
      | zero => cases hj; exact Or.inl rfl
      | succ j => simp at hj
  have hAA : ∀ x, (x = q ∨ H.size ≤ x) → A0 x := by
    rintro x (rfl | h)
    · exact hP.2.2 _ _ hlast
    · exact hN.1 x (Nat.le_trans hS.1 h)
  have hap : ∀ (j : Nat) (x : Nat × va_E), ws[j]? = some x → x.1 < H.size ∧ x.1 ≠ q := by
    intro j x hj
    refine ⟨(hP.1 j x (hleft j x hj)).lt, fun h2 => ?_⟩
    have h3 := hP.2.1 j ws.length x (q, _) (hleft j x hj) hlast h2
    have h4 := (List.getElem?_eq_some_iff.mp hj).1
    omega
  have hwd : wd μ' = Cond.code μ'.1 μ'.2.1 μ'.2.2.1 none :: gw := by unfold wd; rw [hret]
  refine va_callv (A1 := fun x => x = q ∨ H.size ≤ x) (va_runI (As := []) (rest := st) (b := q) ⟨hx, hb, hml, hown, hts⟩ (hM (fun x => x = q ∨ H.size ≤ x)) (cwI 0 hts (good_wd (μ := μ') (by rw [hret]; exact hl4)) hwd rfl rfl (hts _ hl3) (hts _ hl1) (hts _ hl2) hnm hokD hrm) ⟨pre_blind (P0 := fun H' => pW E (fun x => x = q ∨ H.size ≤ x) [(q, .inr (ci, fs))] H' ∧ ∀ x, H'.size ≤ x → x = q ∨ H.size ≤ x), fun U hU hW => ⟨rfl, ⟨by rw [hU]; exact ⟨hPc, hDc⟩, by rw [hU]; exact fun x hx => Or.inr hx⟩, eK_warm hW hK⟩⟩ rfl rfl (by rw [← hl.1.1]) rfl (lv_room hst) hd ⟨hk, hn⟩) hS (fun x _ h => hAA x h) hAA (fun u t H1 locs1 ht hvm hw hB hz1 hk1 hS1 => ?_)
  refine kk H.size u hw hap hAA H1 locs1 ls ⟨⟨fun j x hj => (hP.1 j x (hleft j x hj)).kept (hk1 x.1 (hap j x hj).1 ?_), ⟨fun i j x y hi hj hxy => hP.2.1 i j x y (hleft i x hi) (hleft j y hj) hxy, fun j x hj => hP.2.2 j x (hleft j x hj)⟩⟩, by rw [← ht]; exact hB⟩ hS1 hl
  rintro (h | h)
  · exact (hap j x hj).2 h
  · have := (hap j x hj).1
    omega
end LawRows
end
section
-- the cases of the law
set_option maxHeartbeats 4000000 in
theorem law_next {Z : cZ} {E : eE} {b Ln i sz k m0 : Nat} {xs : Nat → Int32} {adM ad : Nat → Nat} {n : Nat} {g : Nat → Int32} {c lg : Nat → Nat → Int32} {lc : Nat → Nat → Nat → Int32} {gm : Nat → Int32} {cm : Nat → Nat → Int32} (C : CG (zs Z k m0) E mLaw (fun q => sz ≤ q)) (hXs : zX (zs Z k m0) b Ln xs) (hL : Ln ≤ 2560) (hi5 : i + 5 ≤ Ln) (hMA : ∀ q, isM adM q → sz ≤ q) (hRR : RR n g c lg lc gm cm) (nxt : ∀ (k' m1 : Nat) (ad' : Nat → Nat) (n' : Nat) (g' : Nat → Int32) (c' lg' : Nat → Nat → Int32) (lc' : Nat → Nat → Nat → Int32) (gm' : Nat → Int32) (cm' : Nat → Nat → Int32), k' ≤ k + 3 → m1 ≤ m0 + 518 → ad' 0 = ad 0 → RR n' g' c' lg' lc' gm' cm' → Wg (zs Z k' m1) (pL E sz adM ad' n' g' c' lg' lc' gm' cm') 518 [(0, .ref b), (1, .ref (ad 0)), (2, .ref (adM 0)), (3, .int (nI i))] []) : Wg (zs Z k m0) (pL E sz adM ad n g c lg lc gm cm) 255 [(0, .ref b), (1, .ref (ad 0)), (2, .ref (adM 0)), (3, .int (nI i))] [] := by
  obtain ⟨rl, ln, ne, fc, np, us, nc, pr, H⟩ := hRR
  have H' := H
  obtain ⟨h1, h2, h3, h4, h5, h6⟩ := H'
  refine r_aload_n C d_law_255 rfl ?_
  refine r_aload_n C d_law_256 rfl ?_
  refine r_iload_n C d_law_257 rfl ?_
  refine r_iconst (v := 1) C d_law_258 (by decide) ?_
  refine r_iadd C d_law_259 ?_
  refine r_sld C hXs (nI_ad i 1 rfl rfl) (by omega) (by omega) d_law_260 ?_
  refine r_aload_n C d_law_261 rfl ?_
  refine r_iload_n C d_law_262 rfl ?_
  refine r_iconst (v := 2) C d_law_263 (by decide) ?_
  refine r_iadd C d_law_264 ?_
  refine r_sld C hXs (nI_ad i 2 rfl rfl) (by omega) (by omega) d_law_265 ?_
  refine r_lawW (K := pM E (isM adM) adM gm cm) C (cX_next (A := AX sz adM) (xs (i + 1)) (xs (i + 2)) h2.2.1 h2.1) cV_27_law ⟨by decide, by decide⟩ ⟨rfl, rfl⟩ (fun H h => h.1) (fun s H => pX_recv) (fun q h => h.1) (fun Hp H1 hp hk => pM_keep hp.2 hk) rfl rfl (Nat.le_of_ble_eq_true rfl) d_law_266 (fun r u hu => ?_)
  refine r_aload_n C d_law_269 rfl ?_
  refine r_aload_n C d_law_270 rfl ?_
  refine r_iload_n C d_law_271 rfl ?_
  refine r_iconst (v := 1) C d_law_272 (by decide) ?_
  refine r_iadd C d_law_273 ?_
  refine r_sld C hXs (nI_ad i 1 rfl rfl) (by omega) (by omega) d_law_274 ?_
  refine r_aload_n C d_law_275 rfl ?_
  refine r_iload_n C d_law_276 rfl ?_
  refine r_iconst (v := 2) C d_law_277 (by decide) ?_
  refine r_iadd C d_law_278 ?_
  refine r_sld C hXs (nI_ad i 2 rfl rfl) (by omega) (by omega) d_law_279 ?_
  refine r_lawW (K := pX E (AX sz adM) ad n u.1 u.2 lg lc) C (cM_next (A := isM adM) (xs (i + 1)) (xs (i + 2)) h2.2.2.1 h2.1) cV_31_law ⟨by decide, by decide⟩ ⟨rfl, rfl⟩ (fun H h => h.2) (fun s H => pM_recv) (fun q h => hMA q h) (fun Hp H1 hp hk => pX_keep hp.1 hk) rfl rfl (Nat.le_of_ble_eq_true rfl) d_law_280 (fun r' u' hu' => ?_)
  obtain ⟨e1, hR'⟩ := st_next H hu hu'
  refine r_icmp_eq (tgt := 518) C d_law_283 (by decide) (fun hc => ?_) (fun hc => ?_)
  · exact Wg.mono (fun H h => ⟨h.2, h.1⟩) (nxt k m0 ad n u.1 u.2 lg lc u'.1 u'.2 (by omega) (by omega) rfl hR')
  · exact absurd e1 hc
set_option maxHeartbeats 4000000 in
theorem law_pattern {Z : cZ} {E : eE} {b Ln i sz k m0 : Nat} {xs : Nat → Int32} {adM ad : Nat → Nat} {n : Nat} {g : Nat → Int32} {c lg : Nat → Nat → Int32} {lc : Nat → Nat → Nat → Int32} {gm : Nat → Int32} {cm : Nat → Nat → Int32} (C : CG (zs Z k m0) E mLaw (fun q => sz ≤ q)) (hXs : zX (zs Z k m0) b Ln xs) (hL : Ln ≤ 2560) (hi5 : i + 5 ≤ Ln) (hMA : ∀ q, isM adM q → sz ≤ q) (hRR : RR n g c lg lc gm cm) (nxt : ∀ (k' m1 : Nat) (ad' : Nat → Nat) (n' : Nat) (g' : Nat → Int32) (c' lg' : Nat → Nat → Int32) (lc' : Nat → Nat → Nat → Int32) (gm' : Nat → Int32) (cm' : Nat → Nat → Int32), k' ≤ k + 3 → m1 ≤ m0 + 518 → ad' 0 = ad 0 → RR n' g' c' lg' lc' gm' cm' → Wg (zs Z k' m1) (pL E sz adM ad' n' g' c' lg' lc' gm' cm') 518 [(0, .ref b), (1, .ref (ad 0)), (2, .ref (adM 0)), (3, .int (nI i))] []) : Wg (zs Z k m0) (pL E sz adM ad n g c lg lc gm cm) 288 [(0, .ref b), (1, .ref (ad 0)), (2, .ref (adM 0)), (3, .int (nI i))] [] := by
  obtain ⟨rl, ln, ne, fc, np, us, nc, pr, H⟩ := hRR
  have H' := H
  obtain ⟨h1, h2, h3, h4, h5, h6⟩ := H'
  refine r_aload_n C d_law_288 rfl ?_
  refine r_aload_n C d_law_289 rfl ?_
  refine r_iload_n C d_law_290 rfl ?_
  refine r_iconst (v := 1) C d_law_291 (by decide) ?_
  refine r_iadd C d_law_292 ?_
  refine r_sld C hXs (nI_ad i 1 rfl rfl) (by omega) (by omega) d_law_293 ?_
  refine r_aload_n C d_law_294 rfl ?_
  refine r_iload_n C d_law_295 rfl ?_
  refine r_iconst (v := 2) C d_law_296 (by decide) ?_
  refine r_iadd C d_law_297 ?_
  refine r_sld C hXs (nI_ad i 2 rfl rfl) (by omega) (by omega) d_law_298 ?_
  refine r_lawW (K := pM E (isM adM) adM gm cm) C (cX_pattern (A := AX sz adM) (pr := pr) (xs (i + 1)) (xs (i + 2)) h1.2.1 h1.1 h6.1.1 h6.1.2.1 h6.1.2.2.1 h2.2.1 h6.1.2.2.2.2.2.1 h6.1.2.2.2.2.2.2.1 h6.1.2.2.2.2.2.2.2 h2.1 h6.2.2.1 h6.2.2.2.1 (fun k hk => (h2.2.2.2.2 k hk).2.2)) cV_32_law ⟨by decide, by decide⟩ ⟨rfl, rfl⟩ (fun H h => h.1) (fun s H => pX_recv) (fun q h => h.1) (fun Hp H1 hp hk => pM_keep hp.2 hk) rfl rfl (Nat.le_of_ble_eq_true rfl) d_law_299 (fun r u hu => ?_)
  refine r_aload_n C d_law_302 rfl ?_
  refine r_aload_n C d_law_303 rfl ?_
  refine r_iload_n C d_law_304 rfl ?_
  refine r_iconst (v := 1) C d_law_305 (by decide) ?_
  refine r_iadd C d_law_306 ?_
  refine r_sld C hXs (nI_ad i 1 rfl rfl) (by omega) (by omega) d_law_307 ?_
  refine r_aload_n C d_law_308 rfl ?_
  refine r_iload_n C d_law_309 rfl ?_
  refine r_iconst (v := 2) C d_law_310 (by decide) ?_
  refine r_iadd C d_law_311 ?_
  refine r_sld C hXs (nI_ad i 2 rfl rfl) (by omega) (by omega) d_law_312 ?_
  refine r_lawW (K := pX E (AX sz adM) ad n u.1.1 u.1.2 u.2 lc) C (cM_pattern (A := isM adM) (xs (i + 1)) (xs (i + 2)) h1.2.2.1 h1.1 h2.2.2.1 h2.1 h6.1.2.2.2.1 h6.1.2.2.2.2.2.2.2 h6.1.2.2.2.2.1 h6.1.2.2.2.2.2.2.1 (fun j hj => by rw [← h2.2.2.2.1]; exact (h2.2.2.2.2 j hj).1)) cV_35_law ⟨by decide, by decide⟩ ⟨rfl, rfl⟩ (fun H h => h.2) (fun s H => pM_recv) (fun q h => hMA q h) (fun Hp H1 hp hk => pX_keep hp.1 hk) rfl rfl (Nat.le_of_ble_eq_true rfl) d_law_313 (fun r' u' hu' => ?_)
  obtain ⟨e1, hR'⟩ := st_pat H hu hu'
  refine r_icmp_eq (tgt := 518) C d_law_316 (by decide) (fun hc => ?_) (fun hc => ?_)
  · exact Wg.mono (fun H h => ⟨h.2, h.1⟩) (nxt k m0 ad n u.1.1 u.1.2 u.2 lc u'.1 u'.2 (by omega) (by omega) rfl hR')
  · exact absurd e1 hc
set_option maxHeartbeats 4000000 in
theorem law_sign {Z : cZ} {E : eE} {b Ln i sz k m0 : Nat} {xs : Nat → Int32} {adM ad : Nat → Nat} {n : Nat} {g : Nat → Int32} {c lg : Nat → Nat → Int32} {lc : Nat → Nat → Nat → Int32} {gm : Nat → Int32} {cm : Nat → Nat → Int32} (C : CG (zs Z k m0) E mLaw (fun q => sz ≤ q)) (hXs : zX (zs Z k m0) b Ln xs) (hL : Ln ≤ 2560) (hi5 : i + 5 ≤ Ln) (hMA : ∀ q, isM adM q → sz ≤ q) (hRR : RR n g c lg lc gm cm) (nxt : ∀ (k' m1 : Nat) (ad' : Nat → Nat) (n' : Nat) (g' : Nat → Int32) (c' lg' : Nat → Nat → Int32) (lc' : Nat → Nat → Nat → Int32) (gm' : Nat → Int32) (cm' : Nat → Nat → Int32), k' ≤ k + 3 → m1 ≤ m0 + 518 → ad' 0 = ad 0 → RR n' g' c' lg' lc' gm' cm' → Wg (zs Z k' m1) (pL E sz adM ad' n' g' c' lg' lc' gm' cm') 518 [(0, .ref b), (1, .ref (ad 0)), (2, .ref (adM 0)), (3, .int (nI i))] []) : Wg (zs Z k m0) (pL E sz adM ad n g c lg lc gm cm) 321 [(0, .ref b), (1, .ref (ad 0)), (2, .ref (adM 0)), (3, .int (nI i))] [] := by
  obtain ⟨rl, ln, ne, fc, np, us, nc, pr, H⟩ := hRR
  have H' := H
  obtain ⟨h1, h2, h3, h4, h5, h6⟩ := H'
  refine r_aload_n C d_law_321 rfl ?_
  refine r_aload_n C d_law_322 rfl ?_
  refine r_iload_n C d_law_323 rfl ?_
  refine r_iconst (v := 1) C d_law_324 (by decide) ?_
  refine r_iadd C d_law_325 ?_
  refine r_sld C hXs (nI_ad i 1 rfl rfl) (by omega) (by omega) d_law_326 ?_
  refine r_lawW (K := pM E (isM adM) adM gm cm) C (cX_sign (A := AX sz adM) (xs (i + 1)) h3.2.1 h3.1) cV_36_law ⟨by decide, by decide⟩ ⟨rfl, rfl⟩ (fun H h => h.1) (fun s H => pX_recv) (fun q h => h.1) (fun Hp H1 hp hk => pM_keep hp.2 hk) rfl rfl (Nat.le_of_ble_eq_true rfl) d_law_327 (fun r u hu => ?_)
  refine r_aload_n C d_law_330 rfl ?_
  refine r_aload_n C d_law_331 rfl ?_
  refine r_iload_n C d_law_332 rfl ?_
  refine r_iconst (v := 1) C d_law_333 (by decide) ?_
  refine r_iadd C d_law_334 ?_
  refine r_sld C hXs (nI_ad i 1 rfl rfl) (by omega) (by omega) d_law_335 ?_
  refine r_lawW (K := pX E (AX sz adM) ad n u.1 u.2 lg lc) C (cM_sign (A := isM adM) (xs (i + 1)) h3.2.2.1 h3.1) cV_40_law ⟨by decide, by decide⟩ ⟨rfl, rfl⟩ (fun H h => h.2) (fun s H => pM_recv) (fun q h => hMA q h) (fun Hp H1 hp hk => pX_keep hp.1 hk) rfl rfl (Nat.le_of_ble_eq_true rfl) d_law_336 (fun r' u' hu' => ?_)
  obtain ⟨e1, hR'⟩ := st_sign H hu hu'
  refine r_icmp_eq (tgt := 518) C d_law_339 (by decide) (fun hc => ?_) (fun hc => ?_)
  · exact Wg.mono (fun H h => ⟨h.2, h.1⟩) (nxt k m0 ad n u.1 u.2 lg lc u'.1 u'.2 (by omega) (by omega) rfl hR')
  · exact absurd e1 hc
set_option maxHeartbeats 4000000 in
theorem law_exception {Z : cZ} {E : eE} {b Ln i sz k m0 : Nat} {xs : Nat → Int32} {adM ad : Nat → Nat} {n : Nat} {g : Nat → Int32} {c lg : Nat → Nat → Int32} {lc : Nat → Nat → Nat → Int32} {gm : Nat → Int32} {cm : Nat → Nat → Int32} (C : CG (zs Z k m0) E mLaw (fun q => sz ≤ q)) (hXs : zX (zs Z k m0) b Ln xs) (hL : Ln ≤ 2560) (hi5 : i + 5 ≤ Ln) (hMA : ∀ q, isM adM q → sz ≤ q) (hRR : RR n g c lg lc gm cm) (nxt : ∀ (k' m1 : Nat) (ad' : Nat → Nat) (n' : Nat) (g' : Nat → Int32) (c' lg' : Nat → Nat → Int32) (lc' : Nat → Nat → Nat → Int32) (gm' : Nat → Int32) (cm' : Nat → Nat → Int32), k' ≤ k + 3 → m1 ≤ m0 + 518 → ad' 0 = ad 0 → RR n' g' c' lg' lc' gm' cm' → Wg (zs Z k' m1) (pL E sz adM ad' n' g' c' lg' lc' gm' cm') 518 [(0, .ref b), (1, .ref (ad 0)), (2, .ref (adM 0)), (3, .int (nI i))] []) : Wg (zs Z k m0) (pL E sz adM ad n g c lg lc gm cm) 357 [(0, .ref b), (1, .ref (ad 0)), (2, .ref (adM 0)), (3, .int (nI i))] [] := by
  obtain ⟨rl, ln, ne, fc, np, us, nc, pr, H⟩ := hRR
  have H' := H
  obtain ⟨h1, h2, h3, h4, h5, h6⟩ := H'
  refine r_aload_n C d_law_357 rfl ?_
  refine r_aload_n C d_law_358 rfl ?_
  refine r_iload_n C d_law_359 rfl ?_
  refine r_iconst (v := 1) C d_law_360 (by decide) ?_
  refine r_iadd C d_law_361 ?_
  refine r_sld C hXs (nI_ad i 1 rfl rfl) (by omega) (by omega) d_law_362 ?_
  refine r_aload_n C d_law_363 rfl ?_
  refine r_iload_n C d_law_364 rfl ?_
  refine r_iconst (v := 2) C d_law_365 (by decide) ?_
  refine r_iadd C d_law_366 ?_
  refine r_sld C hXs (nI_ad i 2 rfl rfl) (by omega) (by omega) d_law_367 ?_
  refine r_lawW (K := pM E (isM adM) adM gm cm) C (cX_exception (A := AX sz adM) (xs (i + 1)) (xs (i + 2)) h1.2.1 h1.1 h3.2.1 h3.1 h4.2.1 h4.1 h3.2.2.2.2 (fun i hi w hw => (h1.2.2.2.1 i hi w hw).2.1)) cV_45_law ⟨by decide, by decide⟩ ⟨rfl, rfl⟩ (fun H h => h.1) (fun s H => pX_recv) (fun q h => h.1) (fun Hp H1 hp hk => pM_keep hp.2 hk) rfl rfl (Nat.le_of_ble_eq_true rfl) d_law_368 (fun r u hu => ?_)
  refine r_aload_n C d_law_371 rfl ?_
  refine r_aload_n C d_law_372 rfl ?_
  refine r_iload_n C d_law_373 rfl ?_
  refine r_iconst (v := 1) C d_law_374 (by decide) ?_
  refine r_iadd C d_law_375 ?_
  refine r_sld C hXs (nI_ad i 1 rfl rfl) (by omega) (by omega) d_law_376 ?_
  refine r_aload_n C d_law_377 rfl ?_
  refine r_iload_n C d_law_378 rfl ?_
  refine r_iconst (v := 2) C d_law_379 (by decide) ?_
  refine r_iadd C d_law_380 ?_
  refine r_sld C hXs (nI_ad i 2 rfl rfl) (by omega) (by omega) d_law_381 ?_
  refine r_lawW (K := pX E (AX sz adM) ad n u.1 u.2 lg lc) C (cM_exception (A := isM adM) (xs (i + 1)) (xs (i + 2)) h1.2.2.1 h1.1 h3.2.2.1 h3.1 h4.2.2.1 h4.1 (fun k hk => by rw [← h3.2.2.2.1]; exact h3.2.2.2.2 k hk) (fun i hi w hw => by rw [← (h1.2.2.2.1 i hi w hw).1]; exact (h1.2.2.2.1 i hi w hw).2.1)) cV_48_law ⟨by decide, by decide⟩ ⟨rfl, rfl⟩ (fun H h => h.2) (fun s H => pM_recv) (fun q h => hMA q h) (fun Hp H1 hp hk => pX_keep hp.1 hk) rfl rfl (Nat.le_of_ble_eq_true rfl) d_law_382 (fun r' u' hu' => ?_)
  obtain ⟨e1, hR'⟩ := st_exc H hu hu'
  refine r_icmp_eq (tgt := 518) C d_law_385 (by decide) (fun hc => ?_) (fun hc => ?_)
  · exact Wg.mono (fun H h => ⟨h.2, h.1⟩) (nxt k m0 ad n u.1 u.2 lg lc u'.1 u'.2 (by omega) (by omega) rfl hR')
  · exact absurd e1 hc
set_option maxHeartbeats 4000000 in
theorem law_drop {Z : cZ} {E : eE} {b Ln i sz k m0 : Nat} {xs : Nat → Int32} {adM ad : Nat → Nat} {n : Nat} {g : Nat → Int32} {c lg : Nat → Nat → Int32} {lc : Nat → Nat → Nat → Int32} {gm : Nat → Int32} {cm : Nat → Nat → Int32} (C : CG (zs Z k m0) E mLaw (fun q => sz ≤ q)) (hXs : zX (zs Z k m0) b Ln xs) (hL : Ln ≤ 2560) (hi5 : i + 5 ≤ Ln) (hMA : ∀ q, isM adM q → sz ≤ q) (hRR : RR n g c lg lc gm cm) (nxt : ∀ (k' m1 : Nat) (ad' : Nat → Nat) (n' : Nat) (g' : Nat → Int32) (c' lg' : Nat → Nat → Int32) (lc' : Nat → Nat → Nat → Int32) (gm' : Nat → Int32) (cm' : Nat → Nat → Int32), k' ≤ k + 3 → m1 ≤ m0 + 518 → ad' 0 = ad 0 → RR n' g' c' lg' lc' gm' cm' → Wg (zs Z k' m1) (pL E sz adM ad' n' g' c' lg' lc' gm' cm') 518 [(0, .ref b), (1, .ref (ad 0)), (2, .ref (adM 0)), (3, .int (nI i))] []) : Wg (zs Z k m0) (pL E sz adM ad n g c lg lc gm cm) 390 [(0, .ref b), (1, .ref (ad 0)), (2, .ref (adM 0)), (3, .int (nI i))] [] := by
  obtain ⟨rl, ln, ne, fc, np, us, nc, pr, H⟩ := hRR
  have H' := H
  obtain ⟨h1, h2, h3, h4, h5, h6⟩ := H'
  refine r_aload_n C d_law_390 rfl ?_
  refine r_aload_n C d_law_391 rfl ?_
  refine r_iload_n C d_law_392 rfl ?_
  refine r_iconst (v := 1) C d_law_393 (by decide) ?_
  refine r_iadd C d_law_394 ?_
  refine r_sld C hXs (nI_ad i 1 rfl rfl) (by omega) (by omega) d_law_395 ?_
  refine r_lawW (K := pM E (isM adM) adM gm cm) C (cX_drop (A := AX sz adM) (xs (i + 1)) h4.2.1 h4.1 h4.2.2.2.2.2.2.2) cV_49_law ⟨by decide, by decide⟩ ⟨rfl, rfl⟩ (fun H h => h.1) (fun s H => pX_recv) (fun q h => h.1) (fun Hp H1 hp hk => pM_keep hp.2 hk) rfl rfl (Nat.le_of_ble_eq_true rfl) d_law_396 (fun r u hu => ?_)
  refine r_aload_n C d_law_399 rfl ?_
  refine r_aload_n C d_law_400 rfl ?_
  refine r_iload_n C d_law_401 rfl ?_
  refine r_iconst (v := 1) C d_law_402 (by decide) ?_
  refine r_iadd C d_law_403 ?_
  refine r_sld C hXs (nI_ad i 1 rfl rfl) (by omega) (by omega) d_law_404 ?_
  refine r_lawW (K := pX E (AX sz adM) ad n u.1 u.2 lg lc) C (cM_drop (A := isM adM) (xs (i + 1)) h4.2.2.1 h4.1) cV_52_law ⟨by decide, by decide⟩ ⟨rfl, rfl⟩ (fun H h => h.2) (fun s H => pM_recv) (fun q h => hMA q h) (fun Hp H1 hp hk => pX_keep hp.1 hk) rfl rfl (Nat.le_of_ble_eq_true rfl) d_law_405 (fun r' u' hu' => ?_)
  obtain ⟨e1, hR'⟩ := st_drop H hu hu'
  refine r_icmp_eq (tgt := 518) C d_law_408 (by decide) (fun hc => ?_) (fun hc => ?_)
  · exact Wg.mono (fun H h => ⟨h.2, h.1⟩) (nxt k m0 ad n u.1 u.2 lg lc u'.1 u'.2 (by omega) (by omega) rfl hR')
  · exact absurd e1 hc
set_option maxHeartbeats 4000000 in
theorem law_run {Z : cZ} {E : eE} {b Ln i sz k m0 : Nat} {xs : Nat → Int32} {adM ad : Nat → Nat} {n : Nat} {g : Nat → Int32} {c lg : Nat → Nat → Int32} {lc : Nat → Nat → Nat → Int32} {gm : Nat → Int32} {cm : Nat → Nat → Int32} (C : CG (zs Z k m0) E mLaw (fun q => sz ≤ q)) (hXs : zX (zs Z k m0) b Ln xs) (hL : Ln ≤ 2560) (hi5 : i + 5 ≤ Ln) (hMA : ∀ q, isM adM q → sz ≤ q) (hRR : RR n g c lg lc gm cm) (nxt : ∀ (k' m1 : Nat) (ad' : Nat → Nat) (n' : Nat) (g' : Nat → Int32) (c' lg' : Nat → Nat → Int32) (lc' : Nat → Nat → Nat → Int32) (gm' : Nat → Int32) (cm' : Nat → Nat → Int32), k' ≤ k + 3 → m1 ≤ m0 + 518 → ad' 0 = ad 0 → RR n' g' c' lg' lc' gm' cm' → Wg (zs Z k' m1) (pL E sz adM ad' n' g' c' lg' lc' gm' cm') 518 [(0, .ref b), (1, .ref (ad 0)), (2, .ref (adM 0)), (3, .int (nI i))] []) : Wg (zs Z k m0) (pL E sz adM ad n g c lg lc gm cm) 413 [(0, .ref b), (1, .ref (ad 0)), (2, .ref (adM 0)), (3, .int (nI i))] [] := by
  obtain ⟨rl, ln, ne, fc, np, us, nc, pr, H⟩ := hRR
  have H' := H
  obtain ⟨h1, h2, h3, h4, h5, h6⟩ := H'
  refine r_aload_n C d_law_413 rfl ?_
  refine r_aload_n C d_law_414 rfl ?_
  refine r_iload_n C d_law_415 rfl ?_
  refine r_iconst (v := 1) C d_law_416 (by decide) ?_
  refine r_iadd C d_law_417 ?_
  refine r_sld C hXs (nI_ad i 1 rfl rfl) (by omega) (by omega) d_law_418 ?_
  refine r_lawW (K := pM E (isM adM) adM gm cm) C (cX_run (A := AX sz adM) (pr := pr) (xs (i + 1)) h1.2.1 h1.1 h3.2.1 h3.1 h4.2.1 h4.1 (Nat.le_trans h6.1.2.2.2.2.2.1 h6.1.2.2.2.2.2.2.1) h6.1.2.2.2.2.2.2.2 h6.2.2.1 h6.2.2.2.1 (dep12 H) h6.2.1.2 h3.2.2.2.2 (fun i hi => ⟨(h1.2.2.2.2.1 i hi).2.1, (h1.2.2.2.2.1 i hi).2.2.2.1⟩)) cV_53_law ⟨by decide, by decide⟩ ⟨rfl, rfl⟩ (fun H h => h.1) (fun s H => pX_recv) (fun q h => h.1) (fun Hp H1 hp hk => pM_keep hp.2 hk) rfl rfl (Nat.le_of_ble_eq_true rfl) d_law_419 (fun r u hu => ?_)
  refine r_aload_n C d_law_422 rfl ?_
  refine r_aload_n C d_law_423 rfl ?_
  refine r_iload_n C d_law_424 rfl ?_
  refine r_iconst (v := 1) C d_law_425 (by decide) ?_
  refine r_iadd C d_law_426 ?_
  refine r_sld C hXs (nI_ad i 1 rfl rfl) (by omega) (by omega) d_law_427 ?_
  refine r_lawW (K := pX E (AX sz adM) ad n u.1 u.2 lg lc) C (cM_run (A := isM adM) (xs (i + 1)) h1.2.2.1 h1.1 h3.2.2.1 h3.1 h4.2.2.1 h4.1 h6.1.2.2.2.1 h6.1.2.2.2.2.2.2.2 (sz12 H) (fun j hj => by rw [← h6.2.1.1]; exact h6.2.1.2 j hj) (fun k hk => by rw [← h3.2.2.2.1]; exact h3.2.2.2.2 k hk) (fun i hi w hw => by rw [← (h1.2.2.2.1 i hi w hw).1]; exact (h1.2.2.2.1 i hi w hw).2.1) (fun i hi => by rw [← (h1.2.2.2.2.1 i hi).1, ← (h1.2.2.2.2.1 i hi).2.2.1]; exact ⟨(h1.2.2.2.2.1 i hi).2.1, (h1.2.2.2.2.1 i hi).2.2.2.1⟩)) cV_56_law ⟨by decide, by decide⟩ ⟨rfl, rfl⟩ (fun H h => h.2) (fun s H => pM_recv) (fun q h => hMA q h) (fun Hp H1 hp hk => pX_keep hp.1 hk) rfl rfl (Nat.le_of_ble_eq_true rfl) d_law_428 (fun r' u' hu' => ?_)
  obtain ⟨e1, hR'⟩ := st_run H hu hu'
  refine r_icmp_eq (tgt := 518) C d_law_431 (by decide) (fun hc => ?_) (fun hc => ?_)
  · exact Wg.mono (fun H h => ⟨h.2, h.1⟩) (nxt k m0 ad n u.1 u.2 lg lc u'.1 u'.2 (by omega) (by omega) rfl hR')
  · exact absurd e1 hc
set_option maxHeartbeats 4000000 in
theorem law_digit {Z : cZ} {E : eE} {b Ln i sz k m0 : Nat} {xs : Nat → Int32} {adM ad : Nat → Nat} {n : Nat} {g : Nat → Int32} {c lg : Nat → Nat → Int32} {lc : Nat → Nat → Nat → Int32} {gm : Nat → Int32} {cm : Nat → Nat → Int32} (C : CG (zs Z k m0) E mLaw (fun q => sz ≤ q)) (hXs : zX (zs Z k m0) b Ln xs) (hL : Ln ≤ 2560) (hi5 : i + 5 ≤ Ln) (hMA : ∀ q, isM adM q → sz ≤ q) (hRR : RR n g c lg lc gm cm) (nxt : ∀ (k' m1 : Nat) (ad' : Nat → Nat) (n' : Nat) (g' : Nat → Int32) (c' lg' : Nat → Nat → Int32) (lc' : Nat → Nat → Nat → Int32) (gm' : Nat → Int32) (cm' : Nat → Nat → Int32), k' ≤ k + 3 → m1 ≤ m0 + 518 → ad' 0 = ad 0 → RR n' g' c' lg' lc' gm' cm' → Wg (zs Z k' m1) (pL E sz adM ad' n' g' c' lg' lc' gm' cm') 518 [(0, .ref b), (1, .ref (ad 0)), (2, .ref (adM 0)), (3, .int (nI i))] []) : Wg (zs Z k m0) (pL E sz adM ad n g c lg lc gm cm) 459 [(0, .ref b), (1, .ref (ad 0)), (2, .ref (adM 0)), (3, .int (nI i))] [] := by
  obtain ⟨rl, ln, ne, fc, np, us, nc, pr, H⟩ := hRR
  have H' := H
  obtain ⟨h1, h2, h3, h4, h5, h6⟩ := H'
  refine r_aload_n C d_law_459 rfl ?_
  refine r_aload_n C d_law_460 rfl ?_
  refine r_iload_n C d_law_461 rfl ?_
  refine r_iconst (v := 1) C d_law_462 (by decide) ?_
  refine r_iadd C d_law_463 ?_
  refine r_sld C hXs (nI_ad i 1 rfl rfl) (by omega) (by omega) d_law_464 ?_
  refine r_aload_n C d_law_465 rfl ?_
  refine r_iload_n C d_law_466 rfl ?_
  refine r_iconst (v := 2) C d_law_467 (by decide) ?_
  refine r_iadd C d_law_468 ?_
  refine r_sld C hXs (nI_ad i 2 rfl rfl) (by omega) (by omega) d_law_469 ?_
  refine r_lawW (K := pM E (isM adM) adM gm cm) C (cX_digit (A := AX sz adM) (pr := pr) (xs (i + 1)) (xs (i + 2)) h1.2.1 h1.1 h3.2.1 h3.1 h4.2.1 h4.1 (Nat.le_trans h6.1.2.2.2.2.2.1 h6.1.2.2.2.2.2.2.1) h6.1.2.2.2.2.2.2.2 h6.2.2.1 h6.2.2.2.1 (dep12 H) h6.2.1.2 h3.2.2.2.2) cV_61_law ⟨by decide, by decide⟩ ⟨rfl, rfl⟩ (fun H h => h.1) (fun s H => pX_recv) (fun q h => h.1) (fun Hp H1 hp hk => pM_keep hp.2 hk) rfl rfl (Nat.le_of_ble_eq_true rfl) d_law_470 (fun r u hu => ?_)
  refine r_aload_n C d_law_473 rfl ?_
  refine r_aload_n C d_law_474 rfl ?_
  refine r_iload_n C d_law_475 rfl ?_
  refine r_iconst (v := 1) C d_law_476 (by decide) ?_
  refine r_iadd C d_law_477 ?_
  refine r_sld C hXs (nI_ad i 1 rfl rfl) (by omega) (by omega) d_law_478 ?_
  refine r_aload_n C d_law_479 rfl ?_
  refine r_iload_n C d_law_480 rfl ?_
  refine r_iconst (v := 2) C d_law_481 (by decide) ?_
  refine r_iadd C d_law_482 ?_
  refine r_sld C hXs (nI_ad i 2 rfl rfl) (by omega) (by omega) d_law_483 ?_
  refine r_lawW (K := pX E (AX sz adM) ad n u.1 u.2 lg lc) C (cM_digit (A := isM adM) (xs (i + 1)) (xs (i + 2)) h1.2.2.1 h1.1 h3.2.2.1 h3.1 h4.2.2.1 h4.1 h6.1.2.2.2.1 h6.1.2.2.2.2.2.2.2 (sz12 H) (fun k hk => by rw [← h3.2.2.2.1]; exact h3.2.2.2.2 k hk) (fun i hi w hw => by rw [← (h1.2.2.2.1 i hi w hw).1]; exact (h1.2.2.2.1 i hi w hw).2.1)) cV_64_law ⟨by decide, by decide⟩ ⟨rfl, rfl⟩ (fun H h => h.2) (fun s H => pM_recv) (fun q h => hMA q h) (fun Hp H1 hp hk => pX_keep hp.1 hk) rfl rfl (Nat.le_of_ble_eq_true rfl) d_law_484 (fun r' u' hu' => ?_)
  obtain ⟨e1, hR'⟩ := st_digit H hu hu'
  refine r_icmp_eq (tgt := 518) C d_law_487 (by decide) (fun hc => ?_) (fun hc => ?_)
  · exact Wg.mono (fun H h => ⟨h.2, h.1⟩) (nxt k m0 ad n u.1 u.2 lg lc u'.1 u'.2 (by omega) (by omega) rfl hR')
  · exact absurd e1 hc
set_option maxHeartbeats 4000000 in
theorem law_clear {Z : cZ} {E : eE} {b Ln i sz k m0 : Nat} {xs : Nat → Int32} {adM ad : Nat → Nat} {n : Nat} {g : Nat → Int32} {c lg : Nat → Nat → Int32} {lc : Nat → Nat → Nat → Int32} {gm : Nat → Int32} {cm : Nat → Nat → Int32} (C : CG (zs Z k m0) E mLaw (fun q => sz ≤ q)) (hXs : zX (zs Z k m0) b Ln xs) (hL : Ln ≤ 2560) (hi5 : i + 5 ≤ Ln) (hMA : ∀ q, isM adM q → sz ≤ q) (hRR : RR n g c lg lc gm cm) (nxt : ∀ (k' m1 : Nat) (ad' : Nat → Nat) (n' : Nat) (g' : Nat → Int32) (c' lg' : Nat → Nat → Int32) (lc' : Nat → Nat → Nat → Int32) (gm' : Nat → Int32) (cm' : Nat → Nat → Int32), k' ≤ k + 3 → m1 ≤ m0 + 518 → ad' 0 = ad 0 → RR n' g' c' lg' lc' gm' cm' → Wg (zs Z k' m1) (pL E sz adM ad' n' g' c' lg' lc' gm' cm') 518 [(0, .ref b), (1, .ref (ad 0)), (2, .ref (adM 0)), (3, .int (nI i))] []) : Wg (zs Z k m0) (pL E sz adM ad n g c lg lc gm cm) 344 [(0, .ref b), (1, .ref (ad 0)), (2, .ref (adM 0)), (3, .int (nI i))] [] := by
  obtain ⟨rl, ln, ne, fc, np, us, nc, pr, H⟩ := hRR
  have H' := H
  obtain ⟨h1, h2, h3, h4, h5, h6⟩ := H'
  refine r_aload_n C d_law_344 rfl ?_
  refine r_lawW (K := pM E (isM adM) adM gm cm) C (cX_clear (A := AX sz adM)) cV_41_law ⟨by decide, by decide⟩ ⟨rfl, rfl⟩ (fun H h => h.1) (fun s H => pX_recv) (fun q h => h.1) (fun Hp H1 hp hk => pM_keep hp.2 hk) rfl rfl (Nat.le_of_ble_eq_true rfl) d_law_345 (fun r u hu => ?_)
  refine r_aload_n C d_law_348 rfl ?_
  refine r_lawW (K := pX E (AX sz adM) ad n u c lg lc) C (cM_clear (A := isM adM)) cV_44_law ⟨by decide, by decide⟩ ⟨rfl, rfl⟩ (fun H h => h.2) (fun s H => pM_recv) (fun q h => hMA q h) (fun Hp H1 hp hk => pX_keep hp.1 hk) rfl rfl (Nat.le_of_ble_eq_true rfl) d_law_349 (fun r' u' hu' => ?_)
  obtain ⟨hr, rfl⟩ := hu
  obtain ⟨hr', rfl⟩ := hu'
  obtain ⟨e1, hR'⟩ := st_clear H
  refine r_icmp_eq (tgt := 518) C d_law_352 (by decide) (fun hc => ?_) (fun hc => ?_)
  · exact Wg.mono (fun H h => ⟨h.2, h.1⟩) (nxt k m0 ad n _ c lg lc _ cm (by omega) (by omega) rfl hR')
  · exact absurd (hr.trans (e1.trans hr'.symm)) hc
set_option maxHeartbeats 4000000 in
theorem law_code {Z : cZ} {E : eE} {b Ln i sz k m0 : Nat} {xs : Nat → Int32} {adM ad : Nat → Nat} {n : Nat} {g : Nat → Int32} {c lg : Nat → Nat → Int32} {lc : Nat → Nat → Nat → Int32} {gm : Nat → Int32} {cm : Nat → Nat → Int32} (C : CG (zs Z k m0) E mLaw (fun q => sz ≤ q)) (hXs : zX (zs Z k m0) b Ln xs) (hL : Ln ≤ 2560) (hi5 : i + 5 ≤ Ln) (hMA : ∀ q, isM adM q → sz ≤ q) (hRR : RR n g c lg lc gm cm) (nxt : ∀ (k' m1 : Nat) (ad' : Nat → Nat) (n' : Nat) (g' : Nat → Int32) (c' lg' : Nat → Nat → Int32) (lc' : Nat → Nat → Nat → Int32) (gm' : Nat → Int32) (cm' : Nat → Nat → Int32), k' ≤ k + 3 → m1 ≤ m0 + 518 → ad' 0 = ad 0 → RR n' g' c' lg' lc' gm' cm' → Wg (zs Z k' m1) (pL E sz adM ad' n' g' c' lg' lc' gm' cm') 518 [(0, .ref b), (1, .ref (ad 0)), (2, .ref (adM 0)), (3, .int (nI i))] []) : Wg (zs Z k m0) (pL E sz adM ad n g c lg lc gm cm) 117 [(0, .ref b), (1, .ref (ad 0)), (2, .ref (adM 0)), (3, .int (nI i))] [] := by
  obtain ⟨rl, ln, ne, fc, np, us, nc, pr, H⟩ := hRR
  have H' := H
  obtain ⟨h1, h2, h3, h4, h5, h6⟩ := H'
  obtain ⟨bb, hb0, hb1, hbb⟩ : ∃ bb : Int32, (xs (i + 4) = 0 → (0 : Int32) = bb) ∧ (¬ xs (i + 4) = 0 → (1 : Int32) = bb) ∧ (bb = 0 ∨ bb = 1) := by
    by_cases h : xs (i + 4) = 0
    · exact ⟨0, fun _ => rfl, fun h9 => absurd h h9, Or.inl rfl⟩
    · exact ⟨1, fun h9 => absurd h9 h, fun _ => rfl, Or.inr rfl⟩
  have J2 : ∀ (r : Int32) (u : Nat → Nat → Nat → Int32), coX n lc (xs (i + 1)) (xs (i + 2)) (xs (i + 3)) bb r u → Wg (zs Z k m0) (fun H => pX E (AX sz adM) ad n g c lg u H ∧ pM E (isM adM) adM gm cm H) 178 [(0, .ref b), (1, .ref (ad 0)), (2, .ref (adM 0)), (3, .int (nI i))] [.int bb, .int (xs (i + 3)), .int (xs (i + 2)), .int (xs (i + 1)), .ref (adM 0), .int r] := by
    intro r u hu
    refine r_lawW (K := pX E (AX sz adM) ad n g c lg u) C (cM_code (A := isM adM) (xs (i + 1)) (xs (i + 2)) (xs (i + 3)) bb h1.2.2.1 h1.1 hbb) cV_22_law ⟨by decide, by decide⟩ ⟨rfl, rfl⟩ (fun H h => h.2) (fun s H => pM_recv) (fun q h => hMA q h) (fun Hp H1 hp hk => pX_keep hp.1 hk) rfl rfl (Nat.le_of_ble_eq_true rfl) d_law_178 (fun r' u' hu' => ?_)
    obtain ⟨e1, hR'⟩ := st_code H hu hu'
    refine r_icmp_eq (tgt := 518) C d_law_181 (by decide) (fun hc => ?_) (fun hc => ?_)
    · exact Wg.mono (fun H h => ⟨h.2, h.1⟩) (nxt k m0 ad n g c lg u gm u' (by omega) (by omega) rfl hR')
    · exact absurd e1 hc
  have J1 : Wg (zs Z k m0) (pL E sz adM ad n g c lg lc gm cm) 146 [(0, .ref b), (1, .ref (ad 0)), (2, .ref (adM 0)), (3, .int (nI i))] [.int bb, .int (xs (i + 3)), .int (xs (i + 2)), .int (xs (i + 1)), .ref (ad 0)] := by
    refine r_lawW (K := pM E (isM adM) adM gm cm) C (cX_code (A := AX sz adM) (xs (i + 1)) (xs (i + 2)) (xs (i + 3)) bb h1.2.1 h1.1 hbb) cV_18_law ⟨by decide, by decide⟩ ⟨rfl, rfl⟩ (fun H h => h.1) (fun s H => pX_recv) (fun q h => h.1) (fun Hp H1 hp hk => pM_keep hp.2 hk) rfl rfl (Nat.le_of_ble_eq_true rfl) d_law_146 (fun r u hu => ?_)
    refine r_aload_n C d_law_149 rfl ?_
    refine r_aload_n C d_law_150 rfl ?_
    refine r_iload_n C d_law_151 rfl ?_
    refine r_iconst (v := 1) C d_law_152 (by decide) ?_
    refine r_iadd C d_law_153 ?_
    refine r_sld C hXs (nI_ad i 1 rfl rfl) (by omega) (by omega) d_law_154 ?_
    refine r_aload_n C d_law_155 rfl ?_
    refine r_iload_n C d_law_156 rfl ?_
    refine r_iconst (v := 2) C d_law_157 (by decide) ?_
    refine r_iadd C d_law_158 ?_
    refine r_sld C hXs (nI_ad i 2 rfl rfl) (by omega) (by omega) d_law_159 ?_
    refine r_aload_n C d_law_160 rfl ?_
    refine r_iload_n C d_law_161 rfl ?_
    refine r_iconst (v := 3) C d_law_162 (by decide) ?_
    refine r_iadd C d_law_163 ?_
    refine r_sld C hXs (nI_ad i 3 rfl rfl) (by omega) (by omega) d_law_164 ?_
    refine r_aload_n C d_law_165 rfl ?_
    refine r_iload_n C d_law_166 rfl ?_
    refine r_iconst (v := 4) C d_law_167 (by decide) ?_
    refine r_iadd C d_law_168 ?_
    refine r_sld C hXs (nI_ad i 4 rfl rfl) (by omega) (by omega) d_law_169 ?_
    refine r_if_eq (tgt := 177) C d_law_170 (by decide) (fun hq => ?_) (fun hq => ?_)
    · refine r_iconst (v := 0) C d_law_177 (by decide) ?_
      rw [hb0 hq]
      exact J2 r u hu
    · refine r_iconst (v := 1) C d_law_173 (by decide) ?_
      refine r_goto (tgt := 178) C d_law_174 (by decide) ?_
      rw [hb1 hq]
      exact J2 r u hu
  refine r_aload_n C d_law_117 rfl ?_
  refine r_aload_n C d_law_118 rfl ?_
  refine r_iload_n C d_law_119 rfl ?_
  refine r_iconst (v := 1) C d_law_120 (by decide) ?_
  refine r_iadd C d_law_121 ?_
  refine r_sld C hXs (nI_ad i 1 rfl rfl) (by omega) (by omega) d_law_122 ?_
  refine r_aload_n C d_law_123 rfl ?_
  refine r_iload_n C d_law_124 rfl ?_
  refine r_iconst (v := 2) C d_law_125 (by decide) ?_
  refine r_iadd C d_law_126 ?_
  refine r_sld C hXs (nI_ad i 2 rfl rfl) (by omega) (by omega) d_law_127 ?_
  refine r_aload_n C d_law_128 rfl ?_
  refine r_iload_n C d_law_129 rfl ?_
  refine r_iconst (v := 3) C d_law_130 (by decide) ?_
  refine r_iadd C d_law_131 ?_
  refine r_sld C hXs (nI_ad i 3 rfl rfl) (by omega) (by omega) d_law_132 ?_
  refine r_aload_n C d_law_133 rfl ?_
  refine r_iload_n C d_law_134 rfl ?_
  refine r_iconst (v := 4) C d_law_135 (by decide) ?_
  refine r_iadd C d_law_136 ?_
  refine r_sld C hXs (nI_ad i 4 rfl rfl) (by omega) (by omega) d_law_137 ?_
  refine r_if_eq (tgt := 145) C d_law_138 (by decide) (fun hq => ?_) (fun hq => ?_)
  · refine r_iconst (v := 0) C d_law_145 (by decide) ?_
    rw [hb0 hq]
    exact J1
  · refine r_iconst (v := 1) C d_law_141 (by decide) ?_
    refine r_goto (tgt := 146) C d_law_142 (by decide) ?_
    rw [hb1 hq]
    exact J1
set_option maxHeartbeats 4000000 in
theorem law_ends {Z : cZ} {E : eE} {b Ln i sz k m0 : Nat} {xs : Nat → Int32} {adM ad : Nat → Nat} {n : Nat} {g : Nat → Int32} {c lg : Nat → Nat → Int32} {lc : Nat → Nat → Nat → Int32} {gm : Nat → Int32} {cm : Nat → Nat → Int32} (C : CG (zs Z k m0) E mLaw (fun q => sz ≤ q)) (hXs : zX (zs Z k m0) b Ln xs) (hL : Ln ≤ 2560) (hi5 : i + 5 ≤ Ln) (hMA : ∀ q, isM adM q → sz ≤ q) (hRR : RR n g c lg lc gm cm) (nxt : ∀ (k' m1 : Nat) (ad' : Nat → Nat) (n' : Nat) (g' : Nat → Int32) (c' lg' : Nat → Nat → Int32) (lc' : Nat → Nat → Nat → Int32) (gm' : Nat → Int32) (cm' : Nat → Nat → Int32), k' ≤ k + 3 → m1 ≤ m0 + 518 → ad' 0 = ad 0 → RR n' g' c' lg' lc' gm' cm' → Wg (zs Z k' m1) (pL E sz adM ad' n' g' c' lg' lc' gm' cm') 518 [(0, .ref b), (1, .ref (ad 0)), (2, .ref (adM 0)), (3, .int (nI i))] []) : Wg (zs Z k m0) (pL E sz adM ad n g c lg lc gm cm) 186 [(0, .ref b), (1, .ref (ad 0)), (2, .ref (adM 0)), (3, .int (nI i))] [] := by
  obtain ⟨rl, ln, ne, fc, np, us, nc, pr, H⟩ := hRR
  have H' := H
  obtain ⟨h1, h2, h3, h4, h5, h6⟩ := H'
  obtain ⟨bb, hb0, hb1, hbb⟩ : ∃ bb : Int32, (xs (i + 4) = 0 → (0 : Int32) = bb) ∧ (¬ xs (i + 4) = 0 → (1 : Int32) = bb) ∧ (bb = 0 ∨ bb = 1) := by
    by_cases h : xs (i + 4) = 0
    · exact ⟨0, fun _ => rfl, fun h9 => absurd h h9, Or.inl rfl⟩
    · exact ⟨1, fun h9 => absurd h9 h, fun _ => rfl, Or.inr rfl⟩
  have J2 : ∀ (r : Int32) (u : Nat → Nat → Int32), enX n lg (xs (i + 1)) (xs (i + 2)) (xs (i + 3)) bb r u → Wg (zs Z k m0) (fun H => pX E (AX sz adM) ad n g c u lc H ∧ pM E (isM adM) adM gm cm H) 247 [(0, .ref b), (1, .ref (ad 0)), (2, .ref (adM 0)), (3, .int (nI i))] [.int bb, .int (xs (i + 3)), .int (xs (i + 2)), .int (xs (i + 1)), .ref (adM 0), .int r] := by
    intro r u hu
    refine r_lawW (K := pX E (AX sz adM) ad n g c u lc) C (cM_ends (A := isM adM) (xs (i + 1)) (xs (i + 2)) (xs (i + 3)) bb h1.2.2.1 h1.1 hbb) cV_26_law ⟨by decide, by decide⟩ ⟨rfl, rfl⟩ (fun H h => h.2) (fun s H => pM_recv) (fun q h => hMA q h) (fun Hp H1 hp hk => pX_keep hp.1 hk) rfl rfl (Nat.le_of_ble_eq_true rfl) d_law_247 (fun r' u' hu' => ?_)
    obtain ⟨e1, hR'⟩ := st_ends H hu hu'
    refine r_icmp_eq (tgt := 518) C d_law_250 (by decide) (fun hc => ?_) (fun hc => ?_)
    · exact Wg.mono (fun H h => ⟨h.2, h.1⟩) (nxt k m0 ad n g c u lc gm u' (by omega) (by omega) rfl hR')
    · exact absurd e1 hc
  have J1 : Wg (zs Z k m0) (pL E sz adM ad n g c lg lc gm cm) 215 [(0, .ref b), (1, .ref (ad 0)), (2, .ref (adM 0)), (3, .int (nI i))] [.int bb, .int (xs (i + 3)), .int (xs (i + 2)), .int (xs (i + 1)), .ref (ad 0)] := by
    refine r_lawW (K := pM E (isM adM) adM gm cm) C (cX_ends (A := AX sz adM) (xs (i + 1)) (xs (i + 2)) (xs (i + 3)) bb h1.2.1 h1.1 hbb) cV_23_law ⟨by decide, by decide⟩ ⟨rfl, rfl⟩ (fun H h => h.1) (fun s H => pX_recv) (fun q h => h.1) (fun Hp H1 hp hk => pM_keep hp.2 hk) rfl rfl (Nat.le_of_ble_eq_true rfl) d_law_215 (fun r u hu => ?_)
    refine r_aload_n C d_law_218 rfl ?_
    refine r_aload_n C d_law_219 rfl ?_
    refine r_iload_n C d_law_220 rfl ?_
    refine r_iconst (v := 1) C d_law_221 (by decide) ?_
    refine r_iadd C d_law_222 ?_
    refine r_sld C hXs (nI_ad i 1 rfl rfl) (by omega) (by omega) d_law_223 ?_
    refine r_aload_n C d_law_224 rfl ?_
    refine r_iload_n C d_law_225 rfl ?_
    refine r_iconst (v := 2) C d_law_226 (by decide) ?_
    refine r_iadd C d_law_227 ?_
    refine r_sld C hXs (nI_ad i 2 rfl rfl) (by omega) (by omega) d_law_228 ?_
    refine r_aload_n C d_law_229 rfl ?_
    refine r_iload_n C d_law_230 rfl ?_
    refine r_iconst (v := 3) C d_law_231 (by decide) ?_
    refine r_iadd C d_law_232 ?_
    refine r_sld C hXs (nI_ad i 3 rfl rfl) (by omega) (by omega) d_law_233 ?_
    refine r_aload_n C d_law_234 rfl ?_
    refine r_iload_n C d_law_235 rfl ?_
    refine r_iconst (v := 4) C d_law_236 (by decide) ?_
    refine r_iadd C d_law_237 ?_
    refine r_sld C hXs (nI_ad i 4 rfl rfl) (by omega) (by omega) d_law_238 ?_
    refine r_if_eq (tgt := 246) C d_law_239 (by decide) (fun hq => ?_) (fun hq => ?_)
    · refine r_iconst (v := 0) C d_law_246 (by decide) ?_
      rw [hb0 hq]
      exact J2 r u hu
    · refine r_iconst (v := 1) C d_law_242 (by decide) ?_
      refine r_goto (tgt := 247) C d_law_243 (by decide) ?_
      rw [hb1 hq]
      exact J2 r u hu
  refine r_aload_n C d_law_186 rfl ?_
  refine r_aload_n C d_law_187 rfl ?_
  refine r_iload_n C d_law_188 rfl ?_
  refine r_iconst (v := 1) C d_law_189 (by decide) ?_
  refine r_iadd C d_law_190 ?_
  refine r_sld C hXs (nI_ad i 1 rfl rfl) (by omega) (by omega) d_law_191 ?_
  refine r_aload_n C d_law_192 rfl ?_
  refine r_iload_n C d_law_193 rfl ?_
  refine r_iconst (v := 2) C d_law_194 (by decide) ?_
  refine r_iadd C d_law_195 ?_
  refine r_sld C hXs (nI_ad i 2 rfl rfl) (by omega) (by omega) d_law_196 ?_
  refine r_aload_n C d_law_197 rfl ?_
  refine r_iload_n C d_law_198 rfl ?_
  refine r_iconst (v := 3) C d_law_199 (by decide) ?_
  refine r_iadd C d_law_200 ?_
  refine r_sld C hXs (nI_ad i 3 rfl rfl) (by omega) (by omega) d_law_201 ?_
  refine r_aload_n C d_law_202 rfl ?_
  refine r_iload_n C d_law_203 rfl ?_
  refine r_iconst (v := 4) C d_law_204 (by decide) ?_
  refine r_iadd C d_law_205 ?_
  refine r_sld C hXs (nI_ad i 4 rfl rfl) (by omega) (by omega) d_law_206 ?_
  refine r_if_eq (tgt := 214) C d_law_207 (by decide) (fun hq => ?_) (fun hq => ?_)
  · refine r_iconst (v := 0) C d_law_214 (by decide) ?_
    rw [hb0 hq]
    exact J1
  · refine r_iconst (v := 1) C d_law_210 (by decide) ?_
    refine r_goto (tgt := 215) C d_law_211 (by decide) ?_
    rw [hb1 hq]
    exact J1
set_option maxHeartbeats 4000000 in
theorem law_at {Z : cZ} {E : eE} {b Ln i sz k m0 : Nat} {xs : Nat → Int32} {adM ad : Nat → Nat} {n : Nat} {g : Nat → Int32} {c lg : Nat → Nat → Int32} {lc : Nat → Nat → Nat → Int32} {gm : Nat → Int32} {cm : Nat → Nat → Int32} (C : CG (zs Z k m0) E mLaw (fun q => sz ≤ q)) (hXs : zX (zs Z k m0) b Ln xs) (hL : Ln ≤ 2560) (hi5 : i + 5 ≤ Ln) (hMA : ∀ q, isM adM q → sz ≤ q) (hRR : RR n g c lg lc gm cm) (nxt : ∀ (k' m1 : Nat) (ad' : Nat → Nat) (n' : Nat) (g' : Nat → Int32) (c' lg' : Nat → Nat → Int32) (lc' : Nat → Nat → Nat → Int32) (gm' : Nat → Int32) (cm' : Nat → Nat → Int32), k' ≤ k + 3 → m1 ≤ m0 + 518 → ad' 0 = ad 0 → RR n' g' c' lg' lc' gm' cm' → Wg (zs Z k' m1) (pL E sz adM ad' n' g' c' lg' lc' gm' cm') 518 [(0, .ref b), (1, .ref (ad 0)), (2, .ref (adM 0)), (3, .int (nI i))] []) : Wg (zs Z k m0) (pL E sz adM ad n g c lg lc gm cm) 436 [(0, .ref b), (1, .ref (ad 0)), (2, .ref (adM 0)), (3, .int (nI i))] [] := by
  obtain ⟨rl, ln, ne, fc, np, us, nc, pr, H⟩ := hRR
  have H' := H
  obtain ⟨h1, h2, h3, h4, h5, h6⟩ := H'
  refine r_aload_n C d_law_436 rfl ?_
  refine r_aload_n C d_law_437 rfl ?_
  refine r_iload_n C d_law_438 rfl ?_
  refine r_iconst (v := 1) C d_law_439 (by decide) ?_
  refine r_iadd C d_law_440 ?_
  refine r_sld C hXs (nI_ad i 1 rfl rfl) (by omega) (by omega) d_law_441 ?_
  refine r_callR C (cX_at (xs (i + 1)) h5.2.1 h5.1) cV_57_law ⟨by decide, by decide⟩ ⟨rfl, rfl⟩ (fun H h => h.1) (fun s H => pX_recv) rfl rfl (Nat.le_of_ble_eq_true rfl) d_law_442 (fun r hu => ?_)
  refine r_aload_n C d_law_445 rfl ?_
  refine r_aload_n C d_law_446 rfl ?_
  refine r_iload_n C d_law_447 rfl ?_
  refine r_iconst (v := 1) C d_law_448 (by decide) ?_
  refine r_iadd C d_law_449 ?_
  refine r_sld C hXs (nI_ad i 1 rfl rfl) (by omega) (by omega) d_law_450 ?_
  refine r_callR C (cM_at (xs (i + 1)) h5.2.2.1 h5.1) cV_60_law ⟨by decide, by decide⟩ ⟨rfl, rfl⟩ (fun H h => h.2) (fun s H => pM_recv) rfl rfl (Nat.le_of_ble_eq_true rfl) d_law_451 (fun r' hu' => ?_)
  refine r_icmp_eq (tgt := 518) C d_law_454 (by decide) (fun hc => ?_) (fun hc => ?_)
  · exact nxt k m0 ad n g c lg lc gm cm (by omega) (by omega) rfl ⟨rl, ln, ne, fc, np, us, nc, pr, H⟩
  · exact absurd (st_at H hu hu') hc
set_option maxHeartbeats 4000000 in
theorem law_patterns {Z : cZ} {E : eE} {b Ln i sz k m0 : Nat} {xs : Nat → Int32} {adM ad : Nat → Nat} {n : Nat} {g : Nat → Int32} {c lg : Nat → Nat → Int32} {lc : Nat → Nat → Nat → Int32} {gm : Nat → Int32} {cm : Nat → Nat → Int32} (C : CG (zs Z k m0) E mLaw (fun q => sz ≤ q)) (hXs : zX (zs Z k m0) b Ln xs) (hL : Ln ≤ 2560) (hi5 : i + 5 ≤ Ln) (hMA : ∀ q, isM adM q → sz ≤ q) (hRR : RR n g c lg lc gm cm) (nxt : ∀ (k' m1 : Nat) (ad' : Nat → Nat) (n' : Nat) (g' : Nat → Int32) (c' lg' : Nat → Nat → Int32) (lc' : Nat → Nat → Nat → Int32) (gm' : Nat → Int32) (cm' : Nat → Nat → Int32), k' ≤ k + 3 → m1 ≤ m0 + 518 → ad' 0 = ad 0 → RR n' g' c' lg' lc' gm' cm' → Wg (zs Z k' m1) (pL E sz adM ad' n' g' c' lg' lc' gm' cm') 518 [(0, .ref b), (1, .ref (ad 0)), (2, .ref (adM 0)), (3, .int (nI i))] []) : Wg (zs Z k m0) (pL E sz adM ad n g c lg lc gm cm) 492 [(0, .ref b), (1, .ref (ad 0)), (2, .ref (adM 0)), (3, .int (nI i))] [] := by
  obtain ⟨rl, ln, ne, fc, np, us, nc, pr, H⟩ := hRR
  have H' := H
  obtain ⟨h1, h2, h3, h4, h5, h6⟩ := H'
  refine r_aload_n C d_law_492 rfl ?_
  refine r_callR C cX_patterns cV_65_law ⟨by decide, by decide⟩ ⟨rfl, rfl⟩ (fun H h => h.1) (fun s H => pX_recv) rfl rfl (Nat.le_of_ble_eq_true rfl) d_law_493 (fun r hu => ?_)
  refine r_aload_n C d_law_496 rfl ?_
  refine r_callR C cM_patterns cV_68_law ⟨by decide, by decide⟩ ⟨rfl, rfl⟩ (fun H h => h.2) (fun s H => pM_recv) rfl rfl (Nat.le_of_ble_eq_true rfl) d_law_497 (fun r' hu' => ?_)
  refine r_icmp_eq (tgt := 518) C d_law_500 (by decide) (fun hc => ?_) (fun hc => ?_)
  · exact nxt k m0 ad n g c lg lc gm cm (by omega) (by omega) rfl ⟨rl, ln, ne, fc, np, us, nc, pr, H⟩
  · exact absurd (hu.trans (h6.1.2.1.trans (h6.1.2.2.2.1.symm.trans hu'.symm))) hc
set_option maxHeartbeats 4000000 in
theorem law_exceptions {Z : cZ} {E : eE} {b Ln i sz k m0 : Nat} {xs : Nat → Int32} {adM ad : Nat → Nat} {n : Nat} {g : Nat → Int32} {c lg : Nat → Nat → Int32} {lc : Nat → Nat → Nat → Int32} {gm : Nat → Int32} {cm : Nat → Nat → Int32} (C : CG (zs Z k m0) E mLaw (fun q => sz ≤ q)) (hXs : zX (zs Z k m0) b Ln xs) (hL : Ln ≤ 2560) (hi5 : i + 5 ≤ Ln) (hMA : ∀ q, isM adM q → sz ≤ q) (hRR : RR n g c lg lc gm cm) (nxt : ∀ (k' m1 : Nat) (ad' : Nat → Nat) (n' : Nat) (g' : Nat → Int32) (c' lg' : Nat → Nat → Int32) (lc' : Nat → Nat → Nat → Int32) (gm' : Nat → Int32) (cm' : Nat → Nat → Int32), k' ≤ k + 3 → m1 ≤ m0 + 518 → ad' 0 = ad 0 → RR n' g' c' lg' lc' gm' cm' → Wg (zs Z k' m1) (pL E sz adM ad' n' g' c' lg' lc' gm' cm') 518 [(0, .ref b), (1, .ref (ad 0)), (2, .ref (adM 0)), (3, .int (nI i))] []) : Wg (zs Z k m0) (pL E sz adM ad n g c lg lc gm cm) 505 [(0, .ref b), (1, .ref (ad 0)), (2, .ref (adM 0)), (3, .int (nI i))] [] := by
  obtain ⟨rl, ln, ne, fc, np, us, nc, pr, H⟩ := hRR
  have H' := H
  obtain ⟨h1, h2, h3, h4, h5, h6⟩ := H'
  refine r_aload_n C d_law_505 rfl ?_
  refine r_callR C cX_exceptions cV_69_law ⟨by decide, by decide⟩ ⟨rfl, rfl⟩ (fun H h => h.1) (fun s H => pX_recv) rfl rfl (Nat.le_of_ble_eq_true rfl) d_law_506 (fun r hu => ?_)
  refine r_aload_n C d_law_509 rfl ?_
  refine r_callR C cM_exceptions cV_72_law ⟨by decide, by decide⟩ ⟨rfl, rfl⟩ (fun H h => h.2) (fun s H => pM_recv) rfl rfl (Nat.le_of_ble_eq_true rfl) d_law_510 (fun r' hu' => ?_)
  refine r_icmp_eq (tgt := 518) C d_law_513 (by decide) (fun hc => ?_) (fun hc => ?_)
  · exact nxt k m0 ad n g c lg lc gm cm (by omega) (by omega) rfl ⟨rl, ln, ne, fc, np, us, nc, pr, H⟩
  · exact absurd (hu.trans (h4.2.1.trans (h4.2.2.1.symm.trans hu'.symm))) hc
set_option maxHeartbeats 4000000 in
theorem law_language {Z : cZ} {E : eE} {b Ln i sz k m0 : Nat} {xs : Nat → Int32} {adM ad : Nat → Nat} {n : Nat} {g : Nat → Int32} {c lg : Nat → Nat → Int32} {lc : Nat → Nat → Nat → Int32} {gm : Nat → Int32} {cm : Nat → Nat → Int32} (C : CG (zs Z k m0) E mLaw (fun q => sz ≤ q)) (hXs : zX (zs Z k m0) b Ln xs) (hL : Ln ≤ 2560) (hi5 : i + 5 ≤ Ln) (hMA : ∀ q, isM adM q → sz ≤ q) (hRR : RR n g c lg lc gm cm) (nxt : ∀ (k' m1 : Nat) (ad' : Nat → Nat) (n' : Nat) (g' : Nat → Int32) (c' lg' : Nat → Nat → Int32) (lc' : Nat → Nat → Nat → Int32) (gm' : Nat → Int32) (cm' : Nat → Nat → Int32), k' ≤ k + 3 → m1 ≤ m0 + 518 → ad' 0 = ad 0 → RR n' g' c' lg' lc' gm' cm' → Wg (zs Z k' m1) (pL E sz adM ad' n' g' c' lg' lc' gm' cm') 518 [(0, .ref b), (1, .ref (ad 0)), (2, .ref (adM 0)), (3, .int (nI i))] []) (hk3 : k + 3 ≤ 600000) (hm3 : m0 + 518 ≤ 7302250) {nm : String} (hZN : zN Z (fun q => sz ≤ q) nm) : Wg (zs Z k m0) (pL E sz adM ad n g c lg lc gm cm) 104 [(0, .ref b), (1, .ref (ad 0)), (2, .ref (adM 0)), (3, .int (nI i))] [] := by
  obtain ⟨rl, ln, ne, fc, np, us, nc, pr, H⟩ := hRR
  have H' := H
  obtain ⟨h1, h2, h3, h4, h5, h6⟩ := H'
  refine r_aload_n C d_law_104 rfl ?_
  refine r_lawL (K := pM E (isM adM) adM gm cm) C (cX_language (A := AX sz adM) h1.2.1 h1.1) cV_13_law ⟨by decide, by decide⟩ (fun H h => h.1) (fun s Hp _ hp q hq hA => ⟨hA q hq, fun h => Nat.not_lt.mpr hq (isM_lt hp.2 h)⟩) hZN (fun s H => pX_recv) (fun q h => h.1) (fun Hp H1 hp hk => pM_keep hp.2 hk) rfl rfl (Nat.le_of_ble_eq_true rfl) hk3 hm3 d_law_105 (fun r u hu => ?_)
  have C := zs_C (k' := k + 3) (n' := m0 + 518) C hk3 hm3
  refine r_aload_n C d_law_108 rfl ?_
  refine r_lawW (K := pX E (AX sz adM) u.1 u.2.1 u.2.2.1 c u.2.2.2.1 u.2.2.2.2) C (cM_language (A := isM adM) h1.2.2.1 h1.1) cV_17_law ⟨by decide, by decide⟩ ⟨rfl, rfl⟩ (fun H h => h.2) (fun s H => pM_recv) (fun q h => hMA q h) (fun Hp H1 hp hk => pX_keep hp.1 hk) rfl rfl (Nat.le_of_ble_eq_true rfl) d_law_109 (fun r' u' hu' => ?_)
  obtain ⟨e1, hR'⟩ := st_lang H hu hu'
  have e0 : u.1 0 = ad 0 := by
    rcases hu with ⟨-, -, rfl⟩ | ⟨-, -, h, -⟩
    · rfl
    · exact h
  refine r_icmp_eq (tgt := 518) C d_law_112 (by decide) (fun hc => ?_) (fun hc => ?_)
  · exact Wg.mono (fun H h => ⟨h.2, h.1⟩) (nxt (k + 3) (m0 + 518) u.1 u.2.1 u.2.2.1 c u.2.2.2.1 u.2.2.2.2 u'.1 u'.2 (by omega) (by omega) e0 hR')
  · exact absurd e1 hc
end
section
-- the law: its loop and its start; around them the rows of the skeleton (a starting text)
def lw_P (b : Addr) (xs : List Int32) (args : Array Value) (s : State) : Prop := args = #[.ref b] ∧ s.IntsAt b xs ∧ xs.length ≤ 2560 ∧ (Jvm.Cond.and given_1 narrow_1).before args s = true
def lw_Q (_ : Array Value) (s : State) (o : Outcome) (t : State) : Prop := o = .returned (some (.int 1)) ∧ Framed s o t [] 600000 7302250
def lw_Z (below : List Frame) (a : Array Value) (s : State) : State → Prop := fun t => ∃ o, t.status = .running ∧ Ended t below o ∧ lw_Q a s o t
/-- the law's own end, with 1 on the stack, nothing written that was there before, its room as the claim has it -/
theorem lw_ret {p : Program} {l : Launch} {e : Env} {s : State} {m : MethodId} {below : List Frame} {meth : Method} {c : Code} {b : Nat} (hx : p.tables.exec = Jvm.exec) (hb : c.code = code) (hr : meth.sig.returnType = ret) (hlocks : meth.locks = false) {pc : Nat} {H : Heap} {ls : Array Slot} (hdg : decode code pc = .ok (.ireturn, 1)) : W p l e room_1 s m #[Value.ref b] below meth c H [] 600000 7302250 (lw_Z below #[Value.ref b] s) (F0 m pc ls [.int 1]) := by
  intro T hT X
  obtain ⟨fs, hret, hrun, hended, hW, hframe⟩ := X.leave (v := some (.int 1)) (hlocks := hlocks) (fun h => by rw [hr] at h; cases h)
  have hmeth' : T.vm.method? m = some meth := X.method'
  refine ⟨T.setFrames fs, ?_, .returned (some (.int 1)), hrun, hended, rfl, ⟨_, rfl⟩, hW, hframe⟩
  jvm_step X.here [X.here.top, hx, hb, hdg, hmeth', hr, ret, narrow_b1]
  (try refine ⟨rfl, ?_⟩); (try refine ⟨rfl, ?_⟩)
  first | (intro acts; rw [hret _ acts rfl rfl rfl]) | rw [hret _ _ rfl rfl rfl]
  exact Steps.refl _
/-- what holds at the law's entry: the machine, the code, the tables' words (any of lw_tbl by 'hts w (by decide +kernel)'), the script of L ints xs at the cell b, what the Statement gives of the start (any of its parts by flat_of_before) -/
def lw_At (p : Program) (s : State) (m : MethodId) (meth : Method) (c : Code) (b L : Nat) (xs : Nat → Int32) : Prop :=
  p.tables.exec = Jvm.exec ∧ c.code = code ∧ meth.sig.returnType = ret ∧ c.maxLocals = 4 ∧ s.vm.findClass R_law = some m.cls ∧ (∀ w ∈ lw_tbl, w.before #[Value.ref b] s = true) ∧ va_X b L xs s s.heap ∧ b < s.heap.size ∧ meth.locks = false ∧ (Jvm.Cond.and given_1 narrow_1).before #[Value.ref b] s = true
theorem RR_0 : RR 0 (fun _ => 0) (fun _ _ => 0) (fun _ _ => 0) (fun _ _ _ => 0) (fun _ => 0) (fun _ _ => 0) := by
  refine ⟨0, 0, 0, 0, 0, 0, 0, fun _ => 0, ⟨by omega, rfl, rfl, fun i hi => by omega, fun i hi => by omega, fun i _ _ => ⟨rfl, fun w _ => ⟨rfl, rfl⟩⟩⟩, ⟨by omega, rfl, rfl, rfl, fun k hk => by omega⟩, ⟨by omega, rfl, rfl, rfl, fun k hk => by omega⟩, ⟨by omega, rfl, rfl, rfl, rfl, rfl, rfl, fun j _ => isIn_z (by decide)⟩, ⟨by omega, rfl, rfl, rfl⟩, ⟨⟨rfl, rfl, rfl, rfl, rfl, by omega, by omega, by omega⟩, ⟨rfl, fun j _ => isIn_z (by decide)⟩, ⟨fun q hq => by omega, fun v hv => ?_, fun q hq => by omega, fun q k hq => by omega⟩, fun q hq => by omega, fun p hp => by omega, fun q k hq => by omega⟩⟩
  rcases hv with h | h <;> omega
set_option maxHeartbeats 4000000 in
set_option maxRecDepth 100000 in
theorem law_loop {Z : cZ} {E : eE} {b Ln sz : Nat} {xs : Nat → Int32} {adM : Nat → Nat} {nm : String} (hL : Ln ≤ 2560) (C0 : CG (zs Z 0 0) E mLaw (fun q => sz ≤ q)) (hX0 : zX Z b Ln xs) (hZN : zN Z (fun q => sz ≤ q) nm) (hMA : ∀ q, isM adM q → sz ≤ q) (fin : ∀ (k m0 : Nat) (P : Heap → Prop) (L : List (Nat × Value)), k ≤ 600000 → m0 ≤ 7302250 → Wg (zs Z k m0) P 525 L [.int 1]) : ∀ (m i k m0 : Nat) (ad : Nat → Nat) (n : Nat) (g : Nat → Int32) (c lg : Nat → Nat → Int32) (lc : Nat → Nat → Nat → Int32) (gm : Nat → Int32) (cm : Nat → Nat → Int32) (a0 : Nat), Ln < i + m → i ≤ Ln + 4 → k ≤ 40 + 3 * i → m0 ≤ 20000 + 518 * i → ad 0 = a0 → RR n g c lg lc gm cm → Wg (zs Z k m0) (pL E sz adM ad n g c lg lc gm cm) 18 [(0, .ref b), (1, .ref a0), (2, .ref (adM 0)), (3, .int (nI i))] [] := by
  intro m
  induction m with
  | zero =>
    intro i k m0 ad n g c lg lc gm cm a0 h1 h2 h3 h4 h5 h6
    have C := zs_C (k' := k) (n' := m0) C0 (show k ≤ 600000 by omega) (show m0 ≤ 7302250 by omega)
    have hXs : zX (zs Z k m0) b Ln xs := zX_s hX0
    refine r_iload_n C d_law_18 rfl ?_
    refine r_aload_n C d_law_19 rfl ?_
    refine r_slen C hXs d_law_20 ?_
    refine r_iconst (v := 5) C d_law_21 (by decide) ?_
    refine r_isub C d_law_22 ?_
    refine r_icmp_gt (tgt := 524) C d_law_23 (by decide) (fun h7 => ?_) (fun h7 => ?_)
    · refine r_iconst (v := 1) C d_law_524 (by decide) ?_
      exact fin _ _ _ _ (by omega) (by omega)
    · exact absurd ((sub_lt (a := Ln) (b := 5) (k := i) (by omega) (by omega) (by omega)).mpr (by omega)) h7
  | succ m ih =>
    intro i k m0 ad n g c lg lc gm cm a0 h1 h2 h3 h4 h5 hRR
    subst h5
    have C := zs_C (k' := k) (n' := m0) C0 (show k ≤ 600000 by omega) (show m0 ≤ 7302250 by omega)
    have hXs : zX (zs Z k m0) b Ln xs := zX_s hX0
    refine r_iload_n C d_law_18 rfl ?_
    refine r_aload_n C d_law_19 rfl ?_
    refine r_slen C hXs d_law_20 ?_
    refine r_iconst (v := 5) C d_law_21 (by decide) ?_
    refine r_isub C d_law_22 ?_
    refine r_icmp_gt (tgt := 524) C d_law_23 (by decide) (fun h7 => ?_) (fun h7 => ?_)
    · refine r_iconst (v := 1) C d_law_524 (by decide) ?_
      exact fin _ _ _ _ (by omega) (by omega)
    · have hi5 : i + 5 ≤ Ln := by
        rcases Nat.lt_or_ge Ln (i + 5) with q | q
        · exact absurd ((sub_lt (a := Ln) (b := 5) (k := i) (by omega) (by omega) (by omega)).mpr q) h7
        · exact q
      have nxt : ∀ (k' m1 : Nat) (ad' : Nat → Nat) (n' : Nat) (g' : Nat → Int32) (c' lg' : Nat → Nat → Int32) (lc' : Nat → Nat → Nat → Int32) (gm' : Nat → Int32) (cm' : Nat → Nat → Int32), k' ≤ k + 3 → m1 ≤ m0 + 518 → ad' 0 = ad 0 → RR n' g' c' lg' lc' gm' cm' → Wg (zs Z k' m1) (pL E sz adM ad' n' g' c' lg' lc' gm' cm') 518 [(0, .ref b), (1, .ref (ad 0)), (2, .ref (adM 0)), (3, .int (nI i))] [] := by
        intro k' m1 ad' n' g' c' lg' lc' gm' cm' e1 e2 e3 e4
        have C := zs_C (k' := k') (n' := m1) C0 (show k' ≤ 600000 by omega) (show m1 ≤ 7302250 by omega)
        refine r_iinc (L' := [(0, _), (1, _), (2, _), (3, _)]) C d_law_518 rfl (nI_ad i 5 rfl rfl) (by decide) rfl ?_
        refine r_goto (tgt := 18) C d_law_521 (by decide) ?_
        exact ih (i + 5) k' m1 ad' n' g' c' lg' lc' gm' cm' (ad 0) (by omega) (by omega) (by omega) (by omega) e3 e4
      refine r_aload_n C d_law_26 rfl ?_
      refine r_iload_n C d_law_27 rfl ?_
      refine r_sld C hXs rfl (by omega) (by omega) d_law_28 ?_
      refine r_bipush (v := 15) C d_law_29 (by decide) ?_
      refine r_iand C d_law_31 ?_
      obtain ⟨j, hj, ej⟩ := pk_andE (xs i) (m := 15) 4 (by decide)
      refine r_tope (nI j) ej ?_
      rcases (show j = 0 ∨ j = 1 ∨ j = 2 ∨ j = 3 ∨ j = 4 ∨ j = 5 ∨ j = 6 ∨ j = 7 ∨ j = 8 ∨ j = 9 ∨ j = 10 ∨ j = 11 ∨ j = 12 ∨ j = 13 ∨ j = 14 ∨ j = 15 by omega) with rfl | rfl | rfl | rfl | rfl | rfl | rfl | rfl | rfl | rfl | rfl | rfl | rfl | rfl | rfl | rfl
      · exact r_tabIn (off := 72) (tgt := 104) C d_law_32 (by decide) (by decide) rfl (by decide) (law_language C hXs hL hi5 hMA hRR nxt (by omega) (by omega) hZN)
      · exact r_tabIn (off := 85) (tgt := 117) C d_law_32 (by decide) (by decide) rfl (by decide) (law_code C hXs hL hi5 hMA hRR nxt)
      · exact r_tabIn (off := 154) (tgt := 186) C d_law_32 (by decide) (by decide) rfl (by decide) (law_ends C hXs hL hi5 hMA hRR nxt)
      · exact r_tabIn (off := 223) (tgt := 255) C d_law_32 (by decide) (by decide) rfl (by decide) (law_next C hXs hL hi5 hMA hRR nxt)
      · exact r_tabIn (off := 256) (tgt := 288) C d_law_32 (by decide) (by decide) rfl (by decide) (law_pattern C hXs hL hi5 hMA hRR nxt)
      · exact r_tabIn (off := 289) (tgt := 321) C d_law_32 (by decide) (by decide) rfl (by decide) (law_sign C hXs hL hi5 hMA hRR nxt)
      · exact r_tabIn (off := 312) (tgt := 344) C d_law_32 (by decide) (by decide) rfl (by decide) (law_clear C hXs hL hi5 hMA hRR nxt)
      · exact r_tabIn (off := 325) (tgt := 357) C d_law_32 (by decide) (by decide) rfl (by decide) (law_exception C hXs hL hi5 hMA hRR nxt)
      · exact r_tabIn (off := 358) (tgt := 390) C d_law_32 (by decide) (by decide) rfl (by decide) (law_drop C hXs hL hi5 hMA hRR nxt)
      · exact r_tabIn (off := 381) (tgt := 413) C d_law_32 (by decide) (by decide) rfl (by decide) (law_run C hXs hL hi5 hMA hRR nxt)
      · exact r_tabIn (off := 404) (tgt := 436) C d_law_32 (by decide) (by decide) rfl (by decide) (law_at C hXs hL hi5 hMA hRR nxt)
      · exact r_tabIn (off := 427) (tgt := 459) C d_law_32 (by decide) (by decide) rfl (by decide) (law_digit C hXs hL hi5 hMA hRR nxt)
      · exact r_tabIn (off := 460) (tgt := 492) C d_law_32 (by decide) (by decide) rfl (by decide) (law_patterns C hXs hL hi5 hMA hRR nxt)
      · exact r_tabIn (off := 473) (tgt := 505) C d_law_32 (by decide) (by decide) rfl (by decide) (law_exceptions C hXs hL hi5 hMA hRR nxt)
      · exact r_tabOut (tgt := 518) C d_law_32 (Or.inr (by decide)) (by decide) (nxt k m0 ad n g c lg lc gm cm (by omega) (by omega) rfl hRR)
      · exact r_tabOut (tgt := 518) C d_law_32 (Or.inr (by decide)) (by decide) (nxt k m0 ad n g c lg lc gm cm (by omega) (by omega) rfl hRR)
set_option maxHeartbeats 4000000 in
set_option maxRecDepth 100000 in
/-- the tables' class ids at the start -/
theorem law_E {s : State} {b : Nat} (hts : ∀ w ∈ lw_tbl, w.before #[Value.ref b] s = true) : ∃ E : eE, eK E s := by
  have hg : ∀ w ∈ gw, w.before #[Value.ref b] s = true := fun w h => hts w (List.mem_filter.mp h).1
  obtain ⟨c0, iS0, hKn0⟩ := u_known (C := R_X) (T := F_X) (N := 24) (n := 24) hg i_X (hg _ q_6)
  obtain ⟨c1, iS1, hKn1⟩ := u_known (C := R_G) (T := F_G) (N := 6) (n := 6) hg i_G (hg _ q_94)
  obtain ⟨c2, iS2, hKn2⟩ := u_known (C := R_M) (T := F_M) (N := 25) (n := 25) hg i_M (hg _ q_234)
  obtain ⟨cI, kI, mI0, f1, f2, f3⟩ := Cond.arrayClass_spec (hg _ q_88)
  obtain ⟨cB, kB, mB0, g1, g2, g3⟩ := Cond.arrayClass_spec (hg _ q_89)
  obtain ⟨cZ0, kZ, mZ0, h1, h2, h3⟩ := Cond.arrayClass_spec (hg _ q_123)
  have hov : va_AO R_G s := va_AO.of (hts (.arrayOver (.object R_G)) (List.mem_append_right _ (List.mem_of_getElem? (i := 14) (by decide +kernel))))
  obtain ⟨mL0, cL, kL, j1, j2, j3, j4, j5⟩ := Cond.arrayOver_spec hov
  refine ⟨((fun k => if k = 0 then c0 else if k = 1 then c1 else c2, fun k => if k = 0 then iS0 else if k = 1 then iS1 else iS2), cI, cB, cZ0, cL), ⟨fun k q hq => ?_, fun k q hq => ?_⟩, fun w hw => va_Nw.of (nw_on w hw) (hts w (nw_in w hw)), hov⟩
  · match k, hq with
    | 0, hq => cases hq; exact hKn0
    | 1, hq => cases hq; exact hKn1
    | 2, hq => cases hq; exact hKn2
    | k + 3, hq => simp [classes] at hq
  · match k, hq with
    | 0, hq => cases hq; exact ⟨fun N z => ⟨(fun k h => by cases h), kI, f2, mI0, f3⟩, f1⟩
    | 1, hq => cases hq; exact ⟨fun N z => ⟨(fun k h => by cases h), kB, g2, mB0, g3⟩, g1⟩
    | 2, hq => cases hq; exact ⟨fun N z => ⟨(fun k h => by cases h), kZ, h2, mZ0, h3⟩, h1⟩
    | 3, hq => cases hq; exact ⟨fun N z => ⟨(fun k h => by cases h), kL, j3, mL0, j4⟩, kL, mL0, j3, j4, j1, j5⟩
    | k + 4, hq => simp [eT] at hq
set_option maxHeartbeats 4000000 in
set_option maxRecDepth 100000 in
/-- from the entry, for every script of at most 2560 ints, the law comes to its end with true -/
theorem whole_start {p : Program} {e : Env} {s : State} {m : MethodId} {below : List Frame} {meth : Method} {c : Code} (l : Launch) {b L : Nat} {xs : Nat → Int32} (hL : L ≤ 2560) (C0 : lw_At p s m meth c b L xs) : W p l e room_1 s m #[Value.ref b] below meth c s.heap [] 0 0 (lw_Z below #[Value.ref b] s) (entryFrame m ([Value.ref b] : List Value).toArray 4) := by
  obtain ⟨hx, hb, hr, hml, hown, hts, hX, hbl, hlocks, hgv⟩ := C0
  obtain ⟨E, hK⟩ := law_E hts
  have hg : ∀ w ∈ gw, w.before #[Value.ref b] s = true := fun w h => hts w (List.mem_filter.mp h).1
  have hl := lv_entry ([.ref b]) (n := 4) (Nat.le_of_ble_eq_true rfl)
  rw [lg_entry_eq]
  generalize (lg_sl ([.ref b]) ++ List.replicate (4 - (lg_sl ([.ref b])).length) Slot.unset).toArray = ls at hl ⊢
  obtain ⟨Z, hZe⟩ : ∃ Z : cZ, Z = (p, l, e, room_1, s, m, #[Value.ref b], below, meth, c, (fun q => s.heap.size ≤ q), 4, 0, 0, lw_Z below #[Value.ref b] s) := ⟨_, rfl⟩
  have C : CG (zs Z 0 0) E mLaw (fun q => s.heap.size ≤ q) := by rw [hZe]; exact ⟨hx, hb, hml, rfl, hown, hg, hK, rfl, rfl, hr, hlocks, Nat.zero_le _, Nat.zero_le _⟩
  have hZN : zN Z (fun q => s.heap.size ≤ q) meth.name := by rw [hZe]; exact ⟨fun q h => h, rfl⟩
  have hX0 : zX Z b L xs := by rw [hZe]; exact ⟨hX, hbl, Nat.not_le.mpr hbl⟩
  have fin : ∀ (k m0 : Nat) (P : Heap → Prop) (L : List (Nat × Value)), k ≤ 600000 → m0 ≤ 7302250 → Wg (zs Z k m0) P 525 L [.int 1] := by
    intro k m0 P L hk hm
    rw [hZe]
    intro H locs ls hP hS hl
    refine va_forget (fun q hq => hS.2.2 q hq) ?_
    refine W.widen (k := 600000) (n := 7302250) hk hm ?_
    exact lw_ret hx hb hr hlocks d_law_525
  have main : Wg (zs Z 0 0) (pW E (fun q => s.heap.size ≤ q) []) 0 [(0, .ref b)] [] := by
    clear hZe
    generalize hsz : s.heap.size = sz at C hZN ⊢
    refine r_newO (ci := 0) (cn := R_X) (T := F_X) (N := 24) (ty0 := t_X) (fs := [.null, .int 0, .null, .null, .null, .null, .int 0, .null, .int 0, .int 0, .null, .null, .int 0, .null, .int 0, .null, .null, .null, .null, .int 0, .null, .null, .null, .int 0]) (k := 0) (m0 := 0) C hZN rfl i_X t_X_ok q_5 rfl q_6 q_1 (fun j hj => by rcases (show j = 0 ∨ j = 1 ∨ j = 2 ∨ j = 3 ∨ j = 4 ∨ j = 5 ∨ j = 6 ∨ j = 7 ∨ j = 8 ∨ j = 9 ∨ j = 10 ∨ j = 11 ∨ j = 12 ∨ j = 13 ∨ j = 14 ∨ j = 15 ∨ j = 16 ∨ j = 17 ∨ j = 18 ∨ j = 19 ∨ j = 20 ∨ j = 21 ∨ j = 22 ∨ j = 23 by omega) with rfl | rfl | rfl | rfl | rfl | rfl | rfl | rfl | rfl | rfl | rfl | rfl | rfl | rfl | rfl | rfl | rfl | rfl | rfl | rfl | rfl | rfl | rfl | rfl <;> rfl) (Nat.le_of_ble_eq_true rfl) (Nat.le_of_ble_eq_true rfl) d_law_0 (fun q => ?_)
    have C := zs_C (k' := 1) (n' := 24) C (Nat.le_of_ble_eq_true rfl) (Nat.le_of_ble_eq_true rfl)
    refine r_dup C d_law_3 rfl ?_
    refine r_ctor (ws := []) (q := q) (ci := 0) C hZN (fun A' => cX_init (A := A') q) rfl q_7 q_8 q_1 q_9 rfl ⟨by decide +kernel, by decide +kernel, by decide +kernel⟩ ⟨by decide, by decide⟩ (Nat.le_of_ble_eq_true rfl) (Nat.le_of_ble_eq_true rfl) (Nat.le_of_ble_eq_true rfl) d_law_4 (fun hz ad hu hws hAq => ?_)
    have C := zs_C (k' := 17) (n' := 7047) C (Nat.le_of_ble_eq_true rfl) (Nat.le_of_ble_eq_true rfl)
    refine Wg.mono (P' := pW E (fun q => sz ≤ q) (wX E ad 0 (fun _ => 0) (fun _ _ => 0) (fun _ _ => 0) (fun _ _ _ => 0))) (fun H h => ⟨h.2.1, h.2.2.weaken (fun j x _ hx => hAq x.1 hx)⟩) ?_
    clear hws hAq
    subst hu
    refine r_astore_n (L' := [(0, _), (1, _)]) C d_law_7 (by decide) rfl ?_
    refine r_newO (ci := 2) (cn := R_M) (T := F_M) (N := 25) (ty0 := t_M) (fs := [.int 0, .null, .null, .null, .null, .null, .int 0, .null, .null, .int 0, .int 0, .null, .null, .null, .null, .int 0, .null, .null, .null, .null, .int 0, .null, .null, .int 0, .null]) (k := 17) (m0 := 7047) C hZN rfl i_M t_M_ok q_233 rfl q_234 q_2 (fun j hj => by rcases (show j = 0 ∨ j = 1 ∨ j = 2 ∨ j = 3 ∨ j = 4 ∨ j = 5 ∨ j = 6 ∨ j = 7 ∨ j = 8 ∨ j = 9 ∨ j = 10 ∨ j = 11 ∨ j = 12 ∨ j = 13 ∨ j = 14 ∨ j = 15 ∨ j = 16 ∨ j = 17 ∨ j = 18 ∨ j = 19 ∨ j = 20 ∨ j = 21 ∨ j = 22 ∨ j = 23 ∨ j = 24 by omega) with rfl | rfl | rfl | rfl | rfl | rfl | rfl | rfl | rfl | rfl | rfl | rfl | rfl | rfl | rfl | rfl | rfl | rfl | rfl | rfl | rfl | rfl | rfl | rfl | rfl <;> rfl) (Nat.le_of_ble_eq_true rfl) (Nat.le_of_ble_eq_true rfl) d_law_8 (fun q2 => ?_)
    have C := zs_C (k' := 18) (n' := 7072) C (Nat.le_of_ble_eq_true rfl) (Nat.le_of_ble_eq_true rfl)
    refine r_dup C d_law_11 rfl ?_
    refine r_ctor (q := q2) (ci := 2) C hZN (fun A' => cM_init (A := A') q2) rfl q_235 q_236 q_2 q_237 rfl ⟨by decide +kernel, by decide +kernel, by decide +kernel⟩ ⟨by decide, by decide⟩ (Nat.le_of_ble_eq_true rfl) (Nat.le_of_ble_eq_true rfl) (Nat.le_of_ble_eq_true rfl) d_law_12 (fun hz2 adM hu2 hws hAq => ?_)
    have C := zs_C (k' := 36) (n' := 14621) C (Nat.le_of_ble_eq_true rfl) (Nat.le_of_ble_eq_true rfl)
    subst hu2
    refine r_astore_n (L' := [(0, _), (1, _), (2, _)]) C d_law_15 (by decide) rfl ?_
    refine r_iconst (v := 0) C d_law_16 (by decide) ?_
    refine r_istore_n (L' := [(0, _), (1, _), (2, _), (3, _)]) C d_law_17 (by decide) rfl ?_
    refine Wg.pure (F := ∀ x, isM adM x → (x = adM 0 ∨ hz2 ≤ x)) (fun H h => ?_) (fun hMq => ?_)
    · rintro x ⟨j, hj, rfl⟩
      exact h.2.2.2 j _ (wl_get hj)
    refine Wg.mono (P' := pL E sz adM ad 0 (fun _ => 0) (fun _ _ => 0) (fun _ _ => 0) (fun _ _ _ => 0) (fun _ => 0) (fun _ _ => 0)) (fun H h => ⟨⟨h.1.1, h.1.2.1, fun j x hj => ⟨h.1.2.2 j x hj, fun hm => ?_⟩⟩, ⟨h.2.1, h.2.2.1, fun j x hj => ?_⟩⟩) ?_
    · have h3 := hws j x hj
      rcases hMq _ hm with h4 | h4
      · exact h3.2 h4
      · omega
    · have hj2 : j < 19 := by
        have := (List.getElem?_eq_some_iff.mp hj).1
        rw [show (wM E adM (fun _ => 0) (fun _ _ => 0)).length = 19 from wl_len] at this
        exact this
      have h5 := (wl_get (f := fun j => (adM j, eM E adM (fun _ => 0) (fun _ _ => 0) j)) hj2).symm.trans hj
      cases h5
      exact ⟨j, hj2, rfl⟩
    exact law_loop hL (zs_C C (Nat.zero_le _) (Nat.zero_le _)) hX0 hZN (fun x hx => hAq x (hMq x hx)) fin (L + 1) 0 36 14621 ad 0 _ _ _ _ _ _ (ad 0) (by omega) (by omega) (by omega) (by omega) rfl RR_0
  rw [hZe] at main
  exact main s.heap [] ls ⟨fun k q h => by simp at h, ⟨fun i j x y h => by simp at h, fun k q h => by simp at h⟩⟩ va_S.rf ⟨hl, catOK (As := [.ref b]) rfl⟩
set_option maxHeartbeats 4000000 in
theorem lw_walk (l : Launch) (b : Addr) (xs : List Int32) : MetFree l x (headSpec (Jvm.Cond.code x code maxLocals ret :: tables_1) room_1) (lw_P b xs) (fun _ _ _ _ _ => True) lw_Q := by
  refine MetFree.of_bodyS (code := code) (maxLocals := maxLocals) (ret := ret) (by decide) ?_ ?_
  · intro args s m h hn
    obtain ⟨meth, c, h1, h2, h3, h4, h5, h6, -, -⟩ := Cond.code_spec hn (atoms_spec (ws := Jvm.Cond.code x code maxLocals ret :: tables_1) h _ List.mem_cons_self)
    exact ⟨meth, c, h1, h2, h3, h4, h5, h6⟩
  · intro p e s m args below meth c s₁ B hml0 hP _
    obtain ⟨rfl, hx, hbd, hgv⟩ := hP
    obtain ⟨scr, harrAt, hlist, hof, hsmall⟩ := hx
    obtain ⟨hcb, hkn, -, -⟩ := State.arrayAt?_spec harrAt
    have hown : s.vm.findClass R_law = some m.cls := findClass_of_methodNamed B.named
    have hts0 : ∀ c ∈ (Jvm.Cond.code x code maxLocals ret :: tables_1), c.before #[Value.ref b] s = true := atoms_spec (ws := Jvm.Cond.code x code maxLocals ret :: tables_1) B.pre
    have hts : ∀ w ∈ lw_tbl, w.before #[Value.ref b] s = true := k2_hts_sels lw_privs (fun w hw => hts0 w (List.mem_cons_of_mem _ hw)) lw_privs_ok
    have hml : c.maxLocals = 4 := B.maxLocals_eq (hts0 _ List.mem_cons_self)
    have X₀ : Stand p l e room_1 s m #[Value.ref b] below meth c s₁ [] 0 0 := Stand.of_body B
    have hh0 : s₁.heap = s.heap := by rw [B.state]; rfl
    have hsz : scr.slots.size = xs.length := by rw [← Array.length_toList, hlist, List.length_map]
    have hval : ∀ j : Nat, j < xs.length → scr.slots[j]? = some (.int (xs.getD j 0)) := fun j hj => by
      rw [← Array.getElem?_toList, hlist]
      simp [hj]
    have hbl : b < s.heap.size := (Array.getElem?_eq_some_iff.mp hcb).1
    have hX : va_X b xs.length (fun j => xs.getD j 0) s s.heap := ⟨scr, hcb, hof, hkn, hsz, hval⟩
    have K : W p l e room_1 s m #[Value.ref b] below meth c s₁.heap [] 0 0 (lw_Z below #[Value.ref b] s) (entryFrame m ([Value.ref b] : List Value).toArray 4) := by
      rw [hh0]
      exact whole_start l hbd ⟨B.exec, B.bytes, B.returns, hml, hown, hts, hX, hbl, B.notSynchronized, hgv⟩
    obtain ⟨t, a1, o, b1, b2, b3⟩ := K s₁ rfl X₀
    exact ⟨t, o, a1, b1, b2, b3⟩
theorem lw_pre_spec {args : Array Value} {s : State} (h : (Jvm.Cond.and given_1 narrow_1).before args s = true) (hr : rest_1_c.before args s = true) : ∃ (b : Addr) (xs : List Int32), lw_P b xs args s := by
  have hs := flat_of_before _ h
  have hq := flat_of_before _ hr
  have hc : (Cond.count 1).before args s = true := hs _ (by decide +kernel)
  have harr : (Cond.arrayOf (.arg 0) .int).before args s = true := hs _ (by decide +kernel)
  have hle : (Cond.le (.length (.arg 0)) (.int 2560)).before args s = true := hs _ (by decide +kernel)
  have hlen : (Cond.isInt (.length (.arg 0))).before args s = true := hq _ (by decide +kernel)
  have hall : (Cond.all (.arg 0) (.isInt (.elem (.arg 0) (.index 0)))).before args s = true := hq _ (by decide +kernel)
  obtain ⟨b, xs, hb, hx⟩ := State.ints_of_pre rfl harr hlen hall
  have hsm : xs.length < 2 ^ 31 := hx.choose_spec.2.2.2
  have hev : (Term.length (.arg 0)).eval args s none [] s = some (.int xs.length.toInt32) := hx.length_eval hb
  have hv := Cond.le_ints hev (show (Term.int 2560).eval args s none [] s = some (.int 2560) from rfl)
  have hd : xs.length.toInt32 ≤ 2560 := by
    simpa [Cond.before, Cond.holds, hv] using hle
  have hN : xs.length ≤ 2560 := (Int32.ofNat_le_ofNat hsm (by decide)).mp (show Int32.ofNat xs.length ≤ Int32.ofNat 2560 from hd)
  exact ⟨b, xs, Cond.one_arg hc (show args[0]? = some (.ref b) from hb), hx, hN, h⟩
theorem lw_comes (l : Launch) : Comes l x (Jvm.Cond.code x code maxLocals ret :: tables_1) room_1 (fun tb e args s => Calls_1 tb e args s ∧ rest_1 tb e args s ∧ Pre_1 tb e args s)
    (fun _ _ args s o t => lw_Q args s o t) := by
  intro p e ha hc hk s m args below hf hfit hheap happ hpre
  obtain ⟨b, xs, hP⟩ := lw_pre_spec hpre.2.2 hpre.2.1
  obtain ⟨k, o, h1, h2, h3, hQ⟩ := lw_walk l b xs p e ha hc hk s m args below hf ((Spec.applies_iff_loose hf).mp happ).1 hP trivial
  exact ⟨k, o, h1, h2, h3, hQ⟩
theorem lw_frame {s t : State} {o : Outcome} {args : Array Value} (h : Framed s o t [] 600000 7302250) :
    Framed s o t (fieldLocs frame_1_writes args s ++ arrayLocs frame_1_arrays args s ++ staticLocs frame_1_statics s) 600000 7302250 := h
theorem lw_limb (L : Cond) (hL : ∀ (args : Array Value) (s t : State), L.after args s (.returned (some (.int 1))) t = true) :
    ArmFor flags0 classFile x code maxLocals ret World_1 tables_1 room_1 Calls_1 rest_1 Pre_1
      (fun tb e a s o t => postC L tb e a s o t ∧ Framed s o t (fieldLocs frame_1_writes a s ++ arrayLocs frame_1_arrays a s ++ staticLocs frame_1_statics s) 600000 7302250) := by
  intro l _ _ _ p e ha hc hk s m args below hf hfit hheap happ hpre
  obtain ⟨k, o, h1, h2, h3, rfl, hF⟩ := lw_comes l p e ha hc hk s m args below hf hfit hheap happ hpre
  exact ⟨k, _, h1, h2, h3, hL args s _, lw_frame hF⟩
theorem i_vc : Claimed_1_1 ∧ Claimed_1_2 := ⟨lw_limb limb_1_1 (fun args s t => by simp [limb_1_1, Cond.after, Cond.holds, Cond.value]), lw_limb limb_1_2 (fun args s t => Cond.after_iff.mpr (by
  first | (rw [show limb_1_2 = Cond.eq .result (.int 1) from rfl, Cond.eq_ints (x := 1) (y := 1) rfl rfl]; simp; done) | (simp [limb_1_2, Cond.value, Term.eval]; done)))⟩
end
