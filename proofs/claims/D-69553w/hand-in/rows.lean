section
-- ===== PART A: goes FIRST, ahead of the names: the tables' words, and 'selects' of the private methods out of them =====
/-- a private method of a class that the tables say can be made, by its rows of tables_1 -/
def lw_okq (q : MethodName × Nat) : Prop := (q.1.cls ≠ "java/lang/invoke/MethodHandle" ∧ q.1.cls ≠ "java/lang/invoke/VarHandle") ∧ Cond.instantiable q.1.cls q.2 ∈ tables_1 ∧ Cond.privateMethod q.1 ∈ tables_1 ∧ Cond.instanceMethod q.1 ∈ tables_1
theorem lw_p0 : lw_okq (⟨"FormatMill", "used", "()I"⟩, 11) := ⟨⟨by decide +kernel, by decide +kernel⟩, List.mem_of_getElem? (i := 13) (by decide +kernel), List.mem_of_getElem? (i := 102) (by decide +kernel), List.mem_of_getElem? (i := 103) (by decide +kernel)⟩
theorem lw_p1 : lw_okq (⟨"FormatMill", "add", "([BI)I"⟩, 11) := ⟨⟨by decide +kernel, by decide +kernel⟩, List.mem_of_getElem? (i := 13) (by decide +kernel), List.mem_of_getElem? (i := 113) (by decide +kernel), List.mem_of_getElem? (i := 114) (by decide +kernel)⟩
theorem lw_p2 : lw_okq (⟨"FormatMill", "at", "(I)I"⟩, 11) := ⟨⟨by decide +kernel, by decide +kernel⟩, List.mem_of_getElem? (i := 13) (by decide +kernel), List.mem_of_getElem? (i := 143) (by decide +kernel), List.mem_of_getElem? (i := 144) (by decide +kernel)⟩
theorem lw_p3 : lw_okq (⟨"FormatMill", "nothing", "(I)I"⟩, 11) := ⟨⟨by decide +kernel, by decide +kernel⟩, List.mem_of_getElem? (i := 13) (by decide +kernel), List.mem_of_getElem? (i := 148) (by decide +kernel), List.mem_of_getElem? (i := 149) (by decide +kernel)⟩
theorem lw_p4 : lw_okq (⟨"FormatMill", "isInteger", "(II)Z"⟩, 11) := ⟨⟨by decide +kernel, by decide +kernel⟩, List.mem_of_getElem? (i := 13) (by decide +kernel), List.mem_of_getElem? (i := 241) (by decide +kernel), List.mem_of_getElem? (i := 242) (by decide +kernel)⟩
theorem lw_p5 : lw_okq (⟨"FormatMillModel", "lay", "(I)V"⟩, 20) := ⟨⟨by decide +kernel, by decide +kernel⟩, List.mem_of_getElem? (i := 271) (by decide +kernel), List.mem_of_getElem? (i := 342) (by decide +kernel), List.mem_of_getElem? (i := 343) (by decide +kernel)⟩
theorem lw_p6 : lw_okq (⟨"FormatMillModel", "decimal", "(J)V"⟩, 20) := ⟨⟨by decide +kernel, by decide +kernel⟩, List.mem_of_getElem? (i := 271) (by decide +kernel), List.mem_of_getElem? (i := 362) (by decide +kernel), List.mem_of_getElem? (i := 363) (by decide +kernel)⟩
theorem lw_p7 : lw_okq (⟨"FormatMillModel", "digits", "(J)V"⟩, 20) := ⟨⟨by decide +kernel, by decide +kernel⟩, List.mem_of_getElem? (i := 271) (by decide +kernel), List.mem_of_getElem? (i := 366) (by decide +kernel), List.mem_of_getElem? (i := 367) (by decide +kernel)⟩
theorem lw_p8 : lw_okq (⟨"FormatMillModel", "ahead", "(I)V"⟩, 20) := ⟨⟨by decide +kernel, by decide +kernel⟩, List.mem_of_getElem? (i := 271) (by decide +kernel), List.mem_of_getElem? (i := 371) (by decide +kernel), List.mem_of_getElem? (i := 372) (by decide +kernel)⟩
theorem lw_p9 : lw_okq (⟨"FormatMillModel", "put", "(I)Z"⟩, 20) := ⟨⟨by decide +kernel, by decide +kernel⟩, List.mem_of_getElem? (i := 271) (by decide +kernel), List.mem_of_getElem? (i := 383) (by decide +kernel), List.mem_of_getElem? (i := 384) (by decide +kernel)⟩
theorem lw_p10 : lw_okq (⟨"FormatMillModel", "readPlace", "()Z"⟩, 20) := ⟨⟨by decide +kernel, by decide +kernel⟩, List.mem_of_getElem? (i := 271) (by decide +kernel), List.mem_of_getElem? (i := 387) (by decide +kernel), List.mem_of_getElem? (i := 388) (by decide +kernel)⟩
theorem lw_p11 : lw_okq (⟨"FormatMillModel", "flag", "()Z"⟩, 20) := ⟨⟨by decide +kernel, by decide +kernel⟩, List.mem_of_getElem? (i := 271) (by decide +kernel), List.mem_of_getElem? (i := 391) (by decide +kernel), List.mem_of_getElem? (i := 392) (by decide +kernel)⟩
theorem lw_p12 : lw_okq (⟨"FormatMillModel", "filled", "(I)I"⟩, 20) := ⟨⟨by decide +kernel, by decide +kernel⟩, List.mem_of_getElem? (i := 271) (by decide +kernel), List.mem_of_getElem? (i := 396) (by decide +kernel), List.mem_of_getElem? (i := 397) (by decide +kernel)⟩
theorem lw_p13 : lw_okq (⟨"FormatMillModel", "fill", "([BIII)Z"⟩, 20) := ⟨⟨by decide +kernel, by decide +kernel⟩, List.mem_of_getElem? (i := 271) (by decide +kernel), List.mem_of_getElem? (i := 400) (by decide +kernel), List.mem_of_getElem? (i := 401) (by decide +kernel)⟩
theorem lw_p14 : lw_okq (⟨"FormatMillModel", "puts", "(II)Z"⟩, 20) := ⟨⟨by decide +kernel, by decide +kernel⟩, List.mem_of_getElem? (i := 271) (by decide +kernel), List.mem_of_getElem? (i := 404) (by decide +kernel), List.mem_of_getElem? (i := 405) (by decide +kernel)⟩
theorem lw_p15 : lw_okq (⟨"FormatMillModel", "isInteger", "(I)Z"⟩, 20) := ⟨⟨by decide +kernel, by decide +kernel⟩, List.mem_of_getElem? (i := 271) (by decide +kernel), List.mem_of_getElem? (i := 408) (by decide +kernel), List.mem_of_getElem? (i := 409) (by decide +kernel)⟩
def lw_privs_1 : List (MethodName × Nat) := [(⟨"FormatMill", "used", "()I"⟩, 11), (⟨"FormatMill", "add", "([BI)I"⟩, 11), (⟨"FormatMill", "at", "(I)I"⟩, 11), (⟨"FormatMill", "nothing", "(I)I"⟩, 11), (⟨"FormatMill", "isInteger", "(II)Z"⟩, 11), (⟨"FormatMillModel", "lay", "(I)V"⟩, 20), (⟨"FormatMillModel", "decimal", "(J)V"⟩, 20), (⟨"FormatMillModel", "digits", "(J)V"⟩, 20), (⟨"FormatMillModel", "ahead", "(I)V"⟩, 20), (⟨"FormatMillModel", "put", "(I)Z"⟩, 20), (⟨"FormatMillModel", "readPlace", "()Z"⟩, 20), (⟨"FormatMillModel", "flag", "()Z"⟩, 20), (⟨"FormatMillModel", "filled", "(I)I"⟩, 20), (⟨"FormatMillModel", "fill", "([BIII)Z"⟩, 20), (⟨"FormatMillModel", "puts", "(II)Z"⟩, 20), (⟨"FormatMillModel", "isInteger", "(I)Z"⟩, 20)]
theorem lw_r1 : ∀ q ∈ lw_privs_1, lw_okq q := List.forall_mem_cons.mpr ⟨lw_p0, List.forall_mem_cons.mpr ⟨lw_p1, List.forall_mem_cons.mpr ⟨lw_p2, List.forall_mem_cons.mpr ⟨lw_p3, List.forall_mem_cons.mpr ⟨lw_p4, List.forall_mem_cons.mpr ⟨lw_p5, List.forall_mem_cons.mpr ⟨lw_p6, List.forall_mem_cons.mpr ⟨lw_p7, List.forall_mem_cons.mpr ⟨lw_p8, List.forall_mem_cons.mpr ⟨lw_p9, List.forall_mem_cons.mpr ⟨lw_p10, List.forall_mem_cons.mpr ⟨lw_p11, List.forall_mem_cons.mpr ⟨lw_p12, List.forall_mem_cons.mpr ⟨lw_p13, List.forall_mem_cons.mpr ⟨lw_p14, List.forall_mem_cons.mpr ⟨lw_p15, fun _ h => absurd h List.not_mem_nil⟩⟩⟩⟩⟩⟩⟩⟩⟩⟩⟩⟩⟩⟩⟩⟩
theorem lw_p16 : lw_okq (⟨"FormatMillModel", "isHex", "(IIZ)Z"⟩, 20) := ⟨⟨by decide +kernel, by decide +kernel⟩, List.mem_of_getElem? (i := 271) (by decide +kernel), List.mem_of_getElem? (i := 412) (by decide +kernel), List.mem_of_getElem? (i := 413) (by decide +kernel)⟩
theorem lw_p17 : lw_okq (⟨"FormatMillModel", "isDecimal", "(IIZ)Z"⟩, 20) := ⟨⟨by decide +kernel, by decide +kernel⟩, List.mem_of_getElem? (i := 271) (by decide +kernel), List.mem_of_getElem? (i := 419) (by decide +kernel), List.mem_of_getElem? (i := 420) (by decide +kernel)⟩
theorem lw_p18 : lw_okq (⟨"FormatMillModel", "bits", "(JII)V"⟩, 20) := ⟨⟨by decide +kernel, by decide +kernel⟩, List.mem_of_getElem? (i := 271) (by decide +kernel), List.mem_of_getElem? (i := 425) (by decide +kernel), List.mem_of_getElem? (i := 426) (by decide +kernel)⟩
def lw_privs_2 : List (MethodName × Nat) := [(⟨"FormatMillModel", "isHex", "(IIZ)Z"⟩, 20), (⟨"FormatMillModel", "isDecimal", "(IIZ)Z"⟩, 20), (⟨"FormatMillModel", "bits", "(JII)V"⟩, 20)]
theorem lw_r2 : ∀ q ∈ lw_privs_2, lw_okq q := List.forall_mem_cons.mpr ⟨lw_p16, List.forall_mem_cons.mpr ⟨lw_p17, List.forall_mem_cons.mpr ⟨lw_p18, fun _ h => absurd h List.not_mem_nil⟩⟩⟩
def lw_privs : List (MethodName × Nat) := lw_privs_1 ++ (lw_privs_2)
def lw_tbl : List Cond := k2_sels lw_privs ++ tables_1
theorem lw_privs_ok : ∀ q ∈ lw_privs, lw_okq q := by
  show ∀ q ∈ lw_privs_1 ++ (lw_privs_2), lw_okq q
  exact List.forall_mem_append.mpr ⟨lw_r1, lw_r2⟩
def R_Mi : String := "FormatMill"
def R_Ro : String := "FormatMill$Row"
def R_Fo : String := "FormatMill$Formats"
def R_Md : String := "FormatMillModel"
def R_La : String := "FormatMillLaw"
def R_St : String := "java/lang/String"
def R_Sl : String := "java/lang/StringLatin1"
def R_Ma : String := "java/lang/Math"
def R_Ob : String := "java/lang/Object"
def R_Sy : String := "java/lang/System"
def F_Ro : u_T := fun k => match k with
  | 0 => ("FormatMill$Row", "bytes", "[B", false)
  | _ => ("FormatMill$Row", "many", "I", false)
def t_Ro : Nat → FieldType := fun k => match k with
  | 0 => .array .byte
  | _ => .int
def F_Fo : u_T := fun k => match k with
  | 0 => ("FormatMill$Formats", "hand", "LFormatMill$Row;", true)
  | _ => ("FormatMill$Formats", "sign", "I", false)
def t_Fo : Nat → FieldType := fun k => match k with
  | 0 => .object "FormatMill$Row"
  | _ => .int
def F_Mi : u_T := fun k => match k with
  | 0 => ("FormatMill", "formats", "LFormatMill$Formats;", true)
  | 1 => ("FormatMill", "out", "LFormatMill$Row;", true)
  | 2 => ("FormatMill", "hand", "LFormatMill$Row;", true)
  | 3 => ("FormatMill", "format", "[B", true)
  | 4 => ("FormatMill", "formatSize", "I", false)
  | 5 => ("FormatMill", "words", "[B", true)
  | 6 => ("FormatMill", "sizes", "[I", true)
  | 7 => ("FormatMill", "many", "I", false)
  | 8 => ("FormatMill", "tape", "[B", true)
  | 9 => ("FormatMill", "length", "I", false)
  | _ => ("FormatMill", "value", "J", false)
def t_Mi : Nat → FieldType := fun k => match k with
  | 0 => .object "FormatMill$Formats"
  | 1 => .object "FormatMill$Row"
  | 2 => .object "FormatMill$Row"
  | 3 => .array .byte
  | 4 => .int
  | 5 => .array .byte
  | 6 => .array .int
  | 7 => .int
  | 8 => .array .byte
  | 9 => .int
  | _ => .long
def F_Md : u_T := fun k => match k with
  | 0 => ("FormatMillModel", "tape", "[B", true)
  | 1 => ("FormatMillModel", "text", "[B", true)
  | 2 => ("FormatMillModel", "words", "[B", true)
  | 3 => ("FormatMillModel", "out", "[B", true)
  | 4 => ("FormatMillModel", "taped", "I", false)
  | 5 => ("FormatMillModel", "size", "I", false)
  | 6 => ("FormatMillModel", "many", "I", false)
  | 7 => ("FormatMillModel", "made", "I", false)
  | 8 => ("FormatMillModel", "outSize", "I", false)
  | 9 => ("FormatMillModel", "wordSize", "[I", true)
  | 10 => ("FormatMillModel", "at", "I", false)
  | 11 => ("FormatMillModel", "width", "I", false)
  | 12 => ("FormatMillModel", "kind", "I", false)
  | 13 => ("FormatMillModel", "left", "Z", false)
  | 14 => ("FormatMillModel", "zeros", "Z", false)
  | 15 => ("FormatMillModel", "plus", "Z", false)
  | 16 => ("FormatMillModel", "blank", "Z", false)
  | 17 => ("FormatMillModel", "piece", "[B", true)
  | 18 => ("FormatMillModel", "from", "I", false)
  | _ => ("FormatMillModel", "value", "J", false)
def t_Md : Nat → FieldType := fun k => match k with
  | 0 => .array .byte
  | 1 => .array .byte
  | 2 => .array .byte
  | 3 => .array .byte
  | 4 => .int
  | 5 => .int
  | 6 => .int
  | 7 => .int
  | 8 => .int
  | 9 => .array .int
  | 10 => .int
  | 11 => .int
  | 12 => .int
  | 13 => .boolean
  | 14 => .boolean
  | 15 => .boolean
  | 16 => .boolean
  | 17 => .array .byte
  | 18 => .int
  | _ => .long
abbrev b_Mi_init : ByteArray := prog_1_method_1_code
def y_Mi_init : MethodName := ⟨R_Mi, "<init>", "()V"⟩
abbrev b_Fo_init : ByteArray := prog_2_method_1_code
def y_Fo_init : MethodName := ⟨R_Fo, "<init>", "()V"⟩
abbrev b_Ro_init : ByteArray := prog_3_method_1_code
def y_Ro_init : MethodName := ⟨R_Ro, "<init>", "(I)V"⟩
abbrev b_Mi_feed : ByteArray := prog_1_method_2_code
def y_Mi_feed : MethodName := ⟨R_Mi, "feed", "(IIIII)Z"⟩
abbrev b_Mi_end : ByteArray := prog_1_method_3_code
def y_Mi_end : MethodName := ⟨R_Mi, "end", "(I)Z"⟩
abbrev b_Mi_format : ByteArray := prog_1_method_5_code
def y_Mi_format : MethodName := ⟨R_Mi, "format", "()I"⟩
abbrev b_Mi_used : ByteArray := prog_1_method_4_code
def y_Mi_used : MethodName := ⟨R_Mi, "used", "()I"⟩
abbrev b_Mi_argument : ByteArray := prog_1_method_7_code
def y_Mi_argument : MethodName := ⟨R_Mi, "argument", "()I"⟩
abbrev b_Mi_add : ByteArray := prog_1_method_6_code
def y_Mi_add : MethodName := ⟨R_Mi, "add", "([BI)I"⟩
abbrev b_Mi_number : ByteArray := prog_1_method_8_code
def y_Mi_number : MethodName := ⟨R_Mi, "number", "(J)I"⟩
abbrev b_Ro_decimal : ByteArray := prog_3_method_6_code
def y_Ro_decimal : MethodName := ⟨R_Ro, "decimal", "(J)V"⟩
abbrev b_Ro_one : ByteArray := prog_3_method_2_code
def y_Ro_one : MethodName := ⟨R_Ro, "one", "(I)V"⟩
abbrev b_Mi_clear : ByteArray := prog_1_method_9_code
def y_Mi_clear : MethodName := ⟨R_Mi, "clear", "()V"⟩
abbrev b_Mi_make : ByteArray := prog_1_method_14_code
def y_Mi_make : MethodName := ⟨R_Mi, "make", "()I"⟩
abbrev b_Mi_at : ByteArray := prog_1_method_12_code
def y_Mi_at : MethodName := ⟨R_Mi, "at", "(I)I"⟩
abbrev b_Mi_nothing : ByteArray := prog_1_method_13_code
def y_Mi_nothing : MethodName := ⟨R_Mi, "nothing", "(I)I"⟩
abbrev b_St_indexOf1 : ByteArray := prog_8_method_79_code
def y_St_indexOf1 : MethodName := ⟨R_St, "indexOf", "(I)I"⟩
abbrev b_St_indexOf2 : ByteArray := prog_8_method_80_code
def y_St_indexOf2 : MethodName := ⟨R_St, "indexOf", "(II)I"⟩
abbrev b_St_isLatin1 : ByteArray := prog_8_method_154_code
def y_St_isLatin1 : MethodName := ⟨R_St, "isLatin1", "()Z"⟩
abbrev b_St_length : ByteArray := prog_8_method_54_code
def y_St_length : MethodName := ⟨R_St, "length", "()I"⟩
abbrev b_St_coder : ByteArray := prog_8_method_152_code
def y_St_coder : MethodName := ⟨R_St, "coder", "()B"⟩
abbrev b_Sl_indexOf : ByteArray := prog_9_method_22_code
def y_Sl_indexOf : MethodName := ⟨R_Sl, "indexOf", "([BIII)I"⟩
abbrev b_Sl_canEncode : ByteArray := prog_9_method_4_code
def y_Sl_canEncode : MethodName := ⟨R_Sl, "canEncode", "(I)Z"⟩
abbrev b_Sl_indexOfChar : ByteArray := prog_9_method_23_code
def y_Sl_indexOfChar : MethodName := ⟨R_Sl, "indexOfChar", "([BIII)I"⟩
abbrev b_Mi_isInteger : ByteArray := prog_1_method_11_code
def y_Mi_isInteger : MethodName := ⟨R_Mi, "isInteger", "(II)Z"⟩
abbrev b_Mi_hexadecimal : ByteArray := prog_1_method_10_code
def y_Mi_hexadecimal : MethodName := ⟨R_Mi, "hexadecimal", "(I)I"⟩
abbrev b_Ro_add : ByteArray := prog_3_method_4_code
def y_Ro_add : MethodName := ⟨R_Ro, "add", "([BII)V"⟩
abbrev b_Fo_digits : ByteArray := prog_2_method_2_code
def y_Fo_digits : MethodName := ⟨R_Fo, "digits", "(IJZZ)V"⟩
abbrev b_Fo_put : ByteArray := prog_2_method_3_code
def y_Fo_put : MethodName := ⟨R_Fo, "put", "(LFormatMill$Row;IZZ)V"⟩
abbrev b_Mi_madeAt : ByteArray := prog_1_method_15_code
def y_Mi_madeAt : MethodName := ⟨R_Mi, "madeAt", "(I)I"⟩
abbrev b_Md_init : ByteArray := prog_5_method_1_code
def y_Md_init : MethodName := ⟨R_Md, "<init>", "()V"⟩
abbrev b_Md_feed : ByteArray := prog_5_method_3_code
def y_Md_feed : MethodName := ⟨R_Md, "feed", "(IIIII)Z"⟩
abbrev b_Md_lay : ByteArray := prog_5_method_2_code
def y_Md_lay : MethodName := ⟨R_Md, "lay", "(I)V"⟩
abbrev b_Md_end : ByteArray := prog_5_method_4_code
def y_Md_end : MethodName := ⟨R_Md, "end", "(I)Z"⟩
abbrev b_Md_format : ByteArray := prog_5_method_5_code
def y_Md_format : MethodName := ⟨R_Md, "format", "()I"⟩
abbrev b_Md_argument : ByteArray := prog_5_method_6_code
def y_Md_argument : MethodName := ⟨R_Md, "argument", "()I"⟩
abbrev b_Md_number : ByteArray := prog_5_method_7_code
def y_Md_number : MethodName := ⟨R_Md, "number", "(J)I"⟩
abbrev b_Md_decimal : ByteArray := prog_5_method_10_code
def y_Md_decimal : MethodName := ⟨R_Md, "decimal", "(J)V"⟩
abbrev b_Md_digits : ByteArray := prog_5_method_11_code
def y_Md_digits : MethodName := ⟨R_Md, "digits", "(J)V"⟩
abbrev b_Md_ahead : ByteArray := prog_5_method_9_code
def y_Md_ahead : MethodName := ⟨R_Md, "ahead", "(I)V"⟩
abbrev b_Md_clear : ByteArray := prog_5_method_8_code
def y_Md_clear : MethodName := ⟨R_Md, "clear", "()V"⟩
abbrev b_Md_make : ByteArray := prog_5_method_23_code
def y_Md_make : MethodName := ⟨R_Md, "make", "()I"⟩
abbrev b_Md_put : ByteArray := prog_5_method_19_code
def y_Md_put : MethodName := ⟨R_Md, "put", "(I)Z"⟩
abbrev b_Md_readPlace : ByteArray := prog_5_method_18_code
def y_Md_readPlace : MethodName := ⟨R_Md, "readPlace", "()Z"⟩
abbrev b_Md_flag : ByteArray := prog_5_method_17_code
def y_Md_flag : MethodName := ⟨R_Md, "flag", "()Z"⟩
abbrev b_Md_filled : ByteArray := prog_5_method_22_code
def y_Md_filled : MethodName := ⟨R_Md, "filled", "(I)I"⟩
abbrev b_Md_fill : ByteArray := prog_5_method_21_code
def y_Md_fill : MethodName := ⟨R_Md, "fill", "([BIII)Z"⟩
abbrev b_Md_puts : ByteArray := prog_5_method_20_code
def y_Md_puts : MethodName := ⟨R_Md, "puts", "(II)Z"⟩
abbrev b_Md_isInteger : ByteArray := prog_5_method_16_code
def y_Md_isInteger : MethodName := ⟨R_Md, "isInteger", "(I)Z"⟩
abbrev b_Md_isHex : ByteArray := prog_5_method_14_code
def y_Md_isHex : MethodName := ⟨R_Md, "isHex", "(IIZ)Z"⟩
abbrev b_Md_hex : ByteArray := prog_5_method_13_code
def y_Md_hex : MethodName := ⟨R_Md, "hex", "(I)I"⟩
abbrev b_Md_isDecimal : ByteArray := prog_5_method_15_code
def y_Md_isDecimal : MethodName := ⟨R_Md, "isDecimal", "(IIZ)Z"⟩
abbrev b_Md_bits : ByteArray := prog_5_method_12_code
def y_Md_bits : MethodName := ⟨R_Md, "bits", "(JII)V"⟩
abbrev b_Md_madeAt : ByteArray := prog_5_method_24_code
def y_Md_madeAt : MethodName := ⟨R_Md, "madeAt", "(I)I"⟩
abbrev b_La_law : ByteArray := code
def y_La_law : MethodName := ⟨R_La, "law", "([I)Z"⟩
/-- the good words of the tables: one list for every contract -/
def gt : List Cond := lw_tbl.filter goodWord
theorem gt_in {w : Cond} {i : Nat} (h : lw_tbl[i]? = some w) (hg : goodWord w = true) : w ∈ gt := List.mem_filter.mpr ⟨List.mem_of_getElem? h, hg⟩
theorem gt_tbl {w : Cond} (h : w ∈ gt) : w ∈ lw_tbl := (List.mem_filter.mp h).1
theorem gt_good {w : Cond} (h : w ∈ gt) : (w.onTables && w.keeps) = true ∨ ∃ ty, w = .arrayClass ty := good_of_word (List.mem_filter.mp h).2
abbrev classes : List vw_C := [(R_Ro, F_Ro, 2), (R_Fo, F_Fo, 2), (R_Mi, F_Mi, 11), (R_Md, F_Md, 20)]
theorem n_Ro : ∀ a, a < 2 → ∀ b, b < 2 → a ≠ b → (F_Ro a).2.1 ≠ (F_Ro b).2.1 := by decide +kernel
theorem t_Ro_ok : ∀ k, k < 2 → parseFieldDescriptor (F_Ro k).2.2.1 = some (t_Ro k) := by decide +kernel
theorem n_Fo : ∀ a, a < 2 → ∀ b, b < 2 → a ≠ b → (F_Fo a).2.1 ≠ (F_Fo b).2.1 := by decide +kernel
theorem t_Fo_ok : ∀ k, k < 2 → parseFieldDescriptor (F_Fo k).2.2.1 = some (t_Fo k) := by decide +kernel
theorem n_Mi : ∀ a, a < 11 → ∀ b, b < 11 → a ≠ b → (F_Mi a).2.1 ≠ (F_Mi b).2.1 := by decide +kernel
theorem t_Mi_ok : ∀ k, k < 11 → parseFieldDescriptor (F_Mi k).2.2.1 = some (t_Mi k) := by decide +kernel
theorem n_Md : ∀ a, a < 20 → ∀ b, b < 20 → a ≠ b → (F_Md a).2.1 ≠ (F_Md b).2.1 := by decide +kernel
theorem t_Md_ok : ∀ k, k < 20 → parseFieldDescriptor (F_Md k).2.2.1 = some (t_Md k) := by decide +kernel
theorem k_0 : (.initialized R_La : Cond) ∈ gt := gt_in (i := 19) (by decide +kernel) (by decide +kernel)
theorem k_1 : (.initialized R_Mi : Cond) ∈ gt := gt_in (i := 20) (by decide +kernel) (by decide +kernel)
theorem k_2 : (.initialized R_Fo : Cond) ∈ gt := gt_in (i := 21) (by decide +kernel) (by decide +kernel)
theorem k_3 : (.initialized R_Ro : Cond) ∈ gt := gt_in (i := 22) (by decide +kernel) (by decide +kernel)
theorem k_4 : (.initialized R_Md : Cond) ∈ gt := gt_in (i := 23) (by decide +kernel) (by decide +kernel)
theorem k_5 : (.initialized R_Sy : Cond) ∈ gt := gt_in (i := 24) (by decide +kernel) (by decide +kernel)
theorem k_6 : (.initialized R_Ma : Cond) ∈ gt := gt_in (i := 25) (by decide +kernel) (by decide +kernel)
theorem k_7 : (.initialized R_St : Cond) ∈ gt := gt_in (i := 26) (by decide +kernel) (by decide +kernel)
theorem k_8 : (.initialized R_Sl : Cond) ∈ gt := gt_in (i := 27) (by decide +kernel) (by decide +kernel)
theorem k_12 : (.classLink R_La 7 R_Mi : Cond) ∈ gt := gt_in (i := 31) (by decide +kernel) (by decide +kernel)
theorem k_13 : (.instantiable R_Mi 11 : Cond) ∈ gt := gt_in (i := 32) (by decide +kernel) (by decide +kernel)
theorem k_14 : (.methodLink R_La 9 y_Mi_init : Cond) ∈ gt := gt_in (i := 33) (by decide +kernel) (by decide +kernel)
theorem k_15 : (.instanceMethod y_Mi_init : Cond) ∈ gt := gt_in (i := 34) (by decide +kernel) (by decide +kernel)
theorem k_16 : (.code y_Mi_init b_Mi_init 1 none : Cond) ∈ gt := gt_in (i := 35) rfl rfl
theorem k_17 : (.methodLink R_Mi 1 objectInit : Cond) ∈ gt := gt_in (i := 36) (by decide +kernel) (by decide +kernel)
theorem k_18 : (.instanceMethod objectInit : Cond) ∈ gt := gt_in (i := 37) (by decide +kernel) (by decide +kernel)
theorem k_19 : (.code objectInit ⟨#[0xb1]⟩ 1 none : Cond) ∈ gt := gt_in (i := 38) rfl rfl
theorem k_20 : (.classLink R_Mi 7 R_Fo : Cond) ∈ gt := gt_in (i := 39) (by decide +kernel) (by decide +kernel)
theorem k_21 : (.instantiable R_Fo 2 : Cond) ∈ gt := gt_in (i := 40) (by decide +kernel) (by decide +kernel)
theorem k_23 : (.instanceMethod y_Fo_init : Cond) ∈ gt := gt_in (i := 42) (by decide +kernel) (by decide +kernel)
theorem k_24 : (.code y_Fo_init b_Fo_init 1 none : Cond) ∈ gt := gt_in (i := 43) rfl rfl
theorem k_25 : (.methodLink R_Fo 3 objectInit : Cond) ∈ gt := gt_in (i := 44) (by decide +kernel) (by decide +kernel)
theorem k_26 : (.classLink R_Fo 9 R_Ro : Cond) ∈ gt := gt_in (i := 45) (by decide +kernel) (by decide +kernel)
theorem k_27 : (.instantiable R_Ro 2 : Cond) ∈ gt := gt_in (i := 46) (by decide +kernel) (by decide +kernel)
theorem k_28 : (.methodLink R_Fo 11 y_Ro_init : Cond) ∈ gt := gt_in (i := 47) (by decide +kernel) (by decide +kernel)
theorem k_29 : (.instanceMethod y_Ro_init : Cond) ∈ gt := gt_in (i := 48) (by decide +kernel) (by decide +kernel)
theorem k_30 : (.code y_Ro_init b_Ro_init 2 none : Cond) ∈ gt := gt_in (i := 49) rfl rfl
theorem k_31 : (.methodLink R_Ro 1 objectInit : Cond) ∈ gt := gt_in (i := 50) (by decide +kernel) (by decide +kernel)
theorem k_32 : (.fieldLink R_Ro 7 R_Ro "bytes" "[B" : Cond) ∈ gt := gt_in (i := 51) (by decide +kernel) (by decide +kernel)
theorem k_33 : (.fieldLink R_Fo 40 R_Ro "bytes" "[B" : Cond) ∈ gt := gt_in (i := 52) (by decide +kernel) (by decide +kernel)
theorem k_34 : (.fieldLink R_Mi 71 R_Ro "bytes" "[B" : Cond) ∈ gt := gt_in (i := 53) (by decide +kernel) (by decide +kernel)
theorem k_35 : (.fieldLink R_Ro 13 R_Ro "many" "I" : Cond) ∈ gt := gt_in (i := 54) (by decide +kernel) (by decide +kernel)
theorem k_36 : (.fieldLink R_Fo 31 R_Ro "many" "I" : Cond) ∈ gt := gt_in (i := 55) (by decide +kernel) (by decide +kernel)
theorem k_37 : (.fieldLink R_Mi 66 R_Ro "many" "I" : Cond) ∈ gt := gt_in (i := 56) (by decide +kernel) (by decide +kernel)
theorem k_43 : (.arrayClass .byte : Cond) ∈ gt := gt_in (i := 62) (by decide +kernel) (by decide +kernel)
theorem k_44 : (.fieldLink R_Fo 14 R_Fo "hand" "LFormatMill$Row;" : Cond) ∈ gt := gt_in (i := 63) (by decide +kernel) (by decide +kernel)
theorem k_45 : (.fieldLink R_Mi 113 R_Fo "hand" "LFormatMill$Row;" : Cond) ∈ gt := gt_in (i := 64) (by decide +kernel) (by decide +kernel)
theorem k_46 : (.fieldLink R_Fo 20 R_Fo "sign" "I" : Cond) ∈ gt := gt_in (i := 65) (by decide +kernel) (by decide +kernel)
theorem k_52 : (.classLink R_Mi 16 R_Ro : Cond) ∈ gt := gt_in (i := 71) (by decide +kernel) (by decide +kernel)
theorem k_53 : (.methodLink R_Mi 18 y_Ro_init : Cond) ∈ gt := gt_in (i := 72) (by decide +kernel) (by decide +kernel)
theorem k_54 : (.fieldLink R_Mi 10 R_Mi "formats" "LFormatMill$Formats;" : Cond) ∈ gt := gt_in (i := 73) (by decide +kernel) (by decide +kernel)
theorem k_55 : (.fieldLink R_Mi 21 R_Mi "out" "LFormatMill$Row;" : Cond) ∈ gt := gt_in (i := 74) (by decide +kernel) (by decide +kernel)
theorem k_56 : (.fieldLink R_Mi 25 R_Mi "hand" "LFormatMill$Row;" : Cond) ∈ gt := gt_in (i := 75) (by decide +kernel) (by decide +kernel)
theorem k_57 : (.fieldLink R_Mi 28 R_Mi "format" "[B" : Cond) ∈ gt := gt_in (i := 76) (by decide +kernel) (by decide +kernel)
theorem k_58 : (.fieldLink R_Mi 50 R_Mi "formatSize" "I" : Cond) ∈ gt := gt_in (i := 77) (by decide +kernel) (by decide +kernel)
theorem k_59 : (.fieldLink R_Mi 32 R_Mi "words" "[B" : Cond) ∈ gt := gt_in (i := 78) (by decide +kernel) (by decide +kernel)
theorem k_60 : (.fieldLink R_Mi 35 R_Mi "sizes" "[I" : Cond) ∈ gt := gt_in (i := 79) (by decide +kernel) (by decide +kernel)
theorem k_61 : (.fieldLink R_Mi 59 R_Mi "many" "I" : Cond) ∈ gt := gt_in (i := 80) (by decide +kernel) (by decide +kernel)
theorem k_62 : (.fieldLink R_Mi 39 R_Mi "tape" "[B" : Cond) ∈ gt := gt_in (i := 81) (by decide +kernel) (by decide +kernel)
theorem k_63 : (.fieldLink R_Mi 42 R_Mi "length" "I" : Cond) ∈ gt := gt_in (i := 82) (by decide +kernel) (by decide +kernel)
theorem k_64 : (.fieldLink R_Mi 74 R_Mi "value" "J" : Cond) ∈ gt := gt_in (i := 83) (by decide +kernel) (by decide +kernel)
theorem k_88 : (.arrayClass .int : Cond) ∈ gt := gt_in (i := 107) (by decide +kernel) (by decide +kernel)
theorem k_89 : (.methodLink R_La 13 y_Mi_feed : Cond) ∈ gt := gt_in (i := 108) (by decide +kernel) (by decide +kernel)
theorem k_90 : (.instanceMethod y_Mi_feed : Cond) ∈ gt := gt_in (i := 109) (by decide +kernel) (by decide +kernel)
theorem k_91 : (.selects R_Mi y_Mi_feed y_Mi_feed : Cond) ∈ gt := gt_in (i := 110) (by decide +kernel) (by decide +kernel)
theorem k_92 : (.code y_Mi_feed b_Mi_feed 8 (some .boolean) : Cond) ∈ gt := gt_in (i := 111) rfl rfl
theorem k_93 : (.methodLink R_La 18 y_Mi_end : Cond) ∈ gt := gt_in (i := 112) (by decide +kernel) (by decide +kernel)
theorem k_94 : (.instanceMethod y_Mi_end : Cond) ∈ gt := gt_in (i := 113) (by decide +kernel) (by decide +kernel)
theorem k_95 : (.selects R_Mi y_Mi_end y_Mi_end : Cond) ∈ gt := gt_in (i := 114) (by decide +kernel) (by decide +kernel)
theorem k_96 : (.code y_Mi_end b_Mi_end 2 (some .boolean) : Cond) ∈ gt := gt_in (i := 115) rfl rfl
theorem k_97 : (.methodLink R_La 23 y_Mi_format : Cond) ∈ gt := gt_in (i := 116) (by decide +kernel) (by decide +kernel)
theorem k_98 : (.instanceMethod y_Mi_format : Cond) ∈ gt := gt_in (i := 117) (by decide +kernel) (by decide +kernel)
theorem k_99 : (.selects R_Mi y_Mi_format y_Mi_format : Cond) ∈ gt := gt_in (i := 118) (by decide +kernel) (by decide +kernel)
theorem k_100 : (.code y_Mi_format b_Mi_format 1 (some .int) : Cond) ∈ gt := gt_in (i := 119) rfl rfl
theorem k_101 : (.methodLink R_Mi 46 y_Mi_used : Cond) ∈ gt := gt_in (i := 120) (by decide +kernel) (by decide +kernel)
theorem k_103 : (.instanceMethod y_Mi_used : Cond) ∈ gt := gt_in (i := 122) (by decide +kernel) (by decide +kernel)
theorem k_104 : (.code y_Mi_used b_Mi_used 2 (some .int) : Cond) ∈ gt := gt_in (i := 123) rfl rfl
theorem k_105 : (.methodLink R_Mi 53 arraycopyName : Cond) ∈ gt := gt_in (i := 124) (by decide +kernel) (by decide +kernel)
theorem k_106 : (.static arraycopyName : Cond) ∈ gt := gt_in (i := 125) (by decide +kernel) (by decide +kernel)
theorem k_107 : (.native arraycopyName : Cond) ∈ gt := gt_in (i := 126) (by decide +kernel) (by decide +kernel)
theorem k_108 : (.methodLink R_La 28 y_Mi_argument : Cond) ∈ gt := gt_in (i := 127) (by decide +kernel) (by decide +kernel)
theorem k_109 : (.instanceMethod y_Mi_argument : Cond) ∈ gt := gt_in (i := 128) (by decide +kernel) (by decide +kernel)
theorem k_110 : (.selects R_Mi y_Mi_argument y_Mi_argument : Cond) ∈ gt := gt_in (i := 129) (by decide +kernel) (by decide +kernel)
theorem k_111 : (.code y_Mi_argument b_Mi_argument 2 (some .int) : Cond) ∈ gt := gt_in (i := 130) rfl rfl
theorem k_112 : (.methodLink R_Mi 62 y_Mi_add : Cond) ∈ gt := gt_in (i := 131) (by decide +kernel) (by decide +kernel)
theorem k_114 : (.instanceMethod y_Mi_add : Cond) ∈ gt := gt_in (i := 133) (by decide +kernel) (by decide +kernel)
theorem k_115 : (.code y_Mi_add b_Mi_add 3 (some .int) : Cond) ∈ gt := gt_in (i := 134) rfl rfl
theorem k_116 : (.methodLink R_La 34 y_Mi_number : Cond) ∈ gt := gt_in (i := 135) (by decide +kernel) (by decide +kernel)
theorem k_117 : (.instanceMethod y_Mi_number : Cond) ∈ gt := gt_in (i := 136) (by decide +kernel) (by decide +kernel)
theorem k_118 : (.selects R_Mi y_Mi_number y_Mi_number : Cond) ∈ gt := gt_in (i := 137) (by decide +kernel) (by decide +kernel)
theorem k_119 : (.code y_Mi_number b_Mi_number 3 (some .int) : Cond) ∈ gt := gt_in (i := 138) rfl rfl
theorem k_120 : (.methodLink R_Mi 67 y_Ro_decimal : Cond) ∈ gt := gt_in (i := 139) (by decide +kernel) (by decide +kernel)
theorem k_121 : (.instanceMethod y_Ro_decimal : Cond) ∈ gt := gt_in (i := 140) (by decide +kernel) (by decide +kernel)
theorem k_122 : (.selects R_Ro y_Ro_decimal y_Ro_decimal : Cond) ∈ gt := gt_in (i := 141) (by decide +kernel) (by decide +kernel)
theorem k_123 : (.code y_Ro_decimal b_Ro_decimal 7 none : Cond) ∈ gt := gt_in (i := 142) rfl rfl
theorem k_124 : (.methodLink R_Ro 23 y_Ro_one : Cond) ∈ gt := gt_in (i := 143) (by decide +kernel) (by decide +kernel)
theorem k_125 : (.instanceMethod y_Ro_one : Cond) ∈ gt := gt_in (i := 144) (by decide +kernel) (by decide +kernel)
theorem k_126 : (.selects R_Ro y_Ro_one y_Ro_one : Cond) ∈ gt := gt_in (i := 145) (by decide +kernel) (by decide +kernel)
theorem k_127 : (.code y_Ro_one b_Ro_one 3 none : Cond) ∈ gt := gt_in (i := 146) rfl rfl
theorem k_128 : (.methodLink R_Ro 17 arraycopyName : Cond) ∈ gt := gt_in (i := 147) (by decide +kernel) (by decide +kernel)
theorem k_129 : (.constantLong R_Ro 37 (10) : Cond) ∈ gt := gt_in (i := 148) (by decide +kernel) (by decide +kernel)
theorem k_130 : (.constantLong R_Ro 39 (48) : Cond) ∈ gt := gt_in (i := 149) (by decide +kernel) (by decide +kernel)
theorem k_131 : (.methodLink R_Ro 41 Lib.MathLoose.abs_long.x : Cond) ∈ gt := gt_in (i := 150) (by decide +kernel) (by decide +kernel)
theorem k_132 : (.static Lib.MathLoose.abs_long.x : Cond) ∈ gt := gt_in (i := 151) (by decide +kernel) (by decide +kernel)
theorem k_133 : (.code Lib.MathLoose.abs_long.x Lib.MathLoose.abs_long.code 2 (some .long) : Cond) ∈ gt := gt_in (i := 152) rfl rfl
theorem k_134 : (.methodLink R_La 39 y_Mi_clear : Cond) ∈ gt := gt_in (i := 153) (by decide +kernel) (by decide +kernel)
theorem k_135 : (.instanceMethod y_Mi_clear : Cond) ∈ gt := gt_in (i := 154) (by decide +kernel) (by decide +kernel)
theorem k_136 : (.selects R_Mi y_Mi_clear y_Mi_clear : Cond) ∈ gt := gt_in (i := 155) (by decide +kernel) (by decide +kernel)
theorem k_137 : (.code y_Mi_clear b_Mi_clear 1 none : Cond) ∈ gt := gt_in (i := 156) rfl rfl
theorem k_138 : (.methodLink R_La 43 y_Mi_make : Cond) ∈ gt := gt_in (i := 157) (by decide +kernel) (by decide +kernel)
theorem k_139 : (.instanceMethod y_Mi_make : Cond) ∈ gt := gt_in (i := 158) (by decide +kernel) (by decide +kernel)
theorem k_140 : (.selects R_Mi y_Mi_make y_Mi_make : Cond) ∈ gt := gt_in (i := 159) (by decide +kernel) (by decide +kernel)
theorem k_141 : (.code y_Mi_make b_Mi_make 10 (some .int) : Cond) ∈ gt := gt_in (i := 160) rfl rfl
theorem k_142 : (.methodLink R_Mi 90 y_Mi_at : Cond) ∈ gt := gt_in (i := 161) (by decide +kernel) (by decide +kernel)
theorem k_144 : (.instanceMethod y_Mi_at : Cond) ∈ gt := gt_in (i := 163) (by decide +kernel) (by decide +kernel)
theorem k_145 : (.code y_Mi_at b_Mi_at 2 (some .int) : Cond) ∈ gt := gt_in (i := 164) rfl rfl
theorem k_146 : (.methodLink R_Mi 93 y_Ro_one : Cond) ∈ gt := gt_in (i := 165) (by decide +kernel) (by decide +kernel)
theorem k_147 : (.methodLink R_Mi 96 y_Mi_nothing : Cond) ∈ gt := gt_in (i := 166) (by decide +kernel) (by decide +kernel)
theorem k_149 : (.instanceMethod y_Mi_nothing : Cond) ∈ gt := gt_in (i := 168) (by decide +kernel) (by decide +kernel)
theorem k_150 : (.code y_Mi_nothing b_Mi_nothing 2 (some .int) : Cond) ∈ gt := gt_in (i := 169) rfl rfl
theorem k_151 : (.constant R_Mi 99 (100000) : Cond) ∈ gt := gt_in (i := 170) (by decide +kernel) (by decide +kernel)
theorem k_152 : (.methodLink R_Mi 100 Lib.Math.min.name : Cond) ∈ gt := gt_in (i := 171) (by decide +kernel) (by decide +kernel)
theorem k_153 : (.static Lib.Math.min.name : Cond) ∈ gt := gt_in (i := 172) (by decide +kernel) (by decide +kernel)
theorem k_154 : (.code Lib.Math.min.name Lib.Math.min.code 2 (some .int) : Cond) ∈ gt := gt_in (i := 173) rfl rfl
theorem k_156 : (.methodLink R_Mi 108 y_St_indexOf1 : Cond) ∈ gt := gt_in (i := 175) (by decide +kernel) (by decide +kernel)
theorem k_157 : (.instanceMethod y_St_indexOf1 : Cond) ∈ gt := gt_in (i := 176) (by decide +kernel) (by decide +kernel)
theorem k_158 : (.selects R_St y_St_indexOf1 y_St_indexOf1 : Cond) ∈ gt := gt_in (i := 177) (by decide +kernel) (by decide +kernel)
theorem k_159 : (.code y_St_indexOf1 b_St_indexOf1 2 (some .int) : Cond) ∈ gt := gt_in (i := 178) rfl rfl
theorem k_160 : (.methodLink R_St 633 y_St_indexOf2 : Cond) ∈ gt := gt_in (i := 179) (by decide +kernel) (by decide +kernel)
theorem k_161 : (.instanceMethod y_St_indexOf2 : Cond) ∈ gt := gt_in (i := 180) (by decide +kernel) (by decide +kernel)
theorem k_162 : (.selects R_St y_St_indexOf2 y_St_indexOf2 : Cond) ∈ gt := gt_in (i := 181) (by decide +kernel) (by decide +kernel)
theorem k_163 : (.code y_St_indexOf2 b_St_indexOf2 3 (some .int) : Cond) ∈ gt := gt_in (i := 182) rfl rfl
theorem k_164 : (.methodLink R_St 492 y_St_isLatin1 : Cond) ∈ gt := gt_in (i := 183) (by decide +kernel) (by decide +kernel)
theorem k_165 : (.instanceMethod y_St_isLatin1 : Cond) ∈ gt := gt_in (i := 184) (by decide +kernel) (by decide +kernel)
theorem k_166 : (.selects R_St y_St_isLatin1 y_St_isLatin1 : Cond) ∈ gt := gt_in (i := 185) (by decide +kernel) (by decide +kernel)
theorem k_167 : (.code y_St_isLatin1 b_St_isLatin1 1 (some .boolean) : Cond) ∈ gt := gt_in (i := 186) rfl rfl
theorem k_168 : (.fieldLink R_St 38 R_St "COMPACT_STRINGS" "Z" : Cond) ∈ gt := gt_in (i := 187) (by decide +kernel) (by decide +kernel)
theorem k_170 : (.methodLink R_St 505 y_St_length : Cond) ∈ gt := gt_in (i := 189) (by decide +kernel) (by decide +kernel)
theorem k_171 : (.instanceMethod y_St_length : Cond) ∈ gt := gt_in (i := 190) (by decide +kernel) (by decide +kernel)
theorem k_172 : (.selects R_St y_St_length y_St_length : Cond) ∈ gt := gt_in (i := 191) (by decide +kernel) (by decide +kernel)
theorem k_173 : (.code y_St_length b_St_length 1 (some .int) : Cond) ∈ gt := gt_in (i := 192) rfl rfl
theorem k_174 : (.methodLink R_St 335 y_St_coder : Cond) ∈ gt := gt_in (i := 193) (by decide +kernel) (by decide +kernel)
theorem k_175 : (.instanceMethod y_St_coder : Cond) ∈ gt := gt_in (i := 194) (by decide +kernel) (by decide +kernel)
theorem k_176 : (.selects R_St y_St_coder y_St_coder : Cond) ∈ gt := gt_in (i := 195) (by decide +kernel) (by decide +kernel)
theorem k_177 : (.code y_St_coder b_St_coder 1 (some .byte) : Cond) ∈ gt := gt_in (i := 196) rfl rfl
theorem k_178 : (.methodLink R_St 637 y_Sl_indexOf : Cond) ∈ gt := gt_in (i := 197) (by decide +kernel) (by decide +kernel)
theorem k_179 : (.static y_Sl_indexOf : Cond) ∈ gt := gt_in (i := 198) (by decide +kernel) (by decide +kernel)
theorem k_180 : (.code y_Sl_indexOf b_Sl_indexOf 4 (some .int) : Cond) ∈ gt := gt_in (i := 199) rfl rfl
theorem k_181 : (.methodLink R_Sl 88 y_Sl_canEncode : Cond) ∈ gt := gt_in (i := 200) (by decide +kernel) (by decide +kernel)
theorem k_182 : (.static y_Sl_canEncode : Cond) ∈ gt := gt_in (i := 201) (by decide +kernel) (by decide +kernel)
theorem k_183 : (.code y_Sl_canEncode b_Sl_canEncode 1 (some .boolean) : Cond) ∈ gt := gt_in (i := 202) rfl rfl
theorem k_184 : (.methodLink R_Sl 92 Lib.Math.max.name : Cond) ∈ gt := gt_in (i := 203) (by decide +kernel) (by decide +kernel)
theorem k_185 : (.static Lib.Math.max.name : Cond) ∈ gt := gt_in (i := 204) (by decide +kernel) (by decide +kernel)
theorem k_186 : (.code Lib.Math.max.name Lib.Math.max.code 2 (some .int) : Cond) ∈ gt := gt_in (i := 205) rfl rfl
theorem k_187 : (.methodLink R_Sl 38 Lib.Math.min.name : Cond) ∈ gt := gt_in (i := 206) (by decide +kernel) (by decide +kernel)
theorem k_188 : (.methodLink R_Sl 95 y_Sl_indexOfChar : Cond) ∈ gt := gt_in (i := 207) (by decide +kernel) (by decide +kernel)
theorem k_189 : (.static y_Sl_indexOfChar : Cond) ∈ gt := gt_in (i := 208) (by decide +kernel) (by decide +kernel)
theorem k_190 : (.code y_Sl_indexOfChar b_Sl_indexOfChar 6 (some .int) : Cond) ∈ gt := gt_in (i := 209) rfl rfl
theorem k_209 : (.fieldLink R_St 1053 "jdk/internal/util/Preconditions" "SIOOBE_FORMATTER" "Ljava/util/function/BiFunction;" : Cond) ∈ gt := gt_in (i := 228) (by decide +kernel) (by decide +kernel)
theorem k_240 : (.methodLink R_Mi 114 y_Mi_isInteger : Cond) ∈ gt := gt_in (i := 259) (by decide +kernel) (by decide +kernel)
theorem k_242 : (.instanceMethod y_Mi_isInteger : Cond) ∈ gt := gt_in (i := 261) (by decide +kernel) (by decide +kernel)
theorem k_243 : (.code y_Mi_isInteger b_Mi_isInteger 7 (some .boolean) : Cond) ∈ gt := gt_in (i := 262) rfl rfl
theorem k_244 : (.methodLink R_Mi 78 y_Mi_hexadecimal : Cond) ∈ gt := gt_in (i := 263) (by decide +kernel) (by decide +kernel)
theorem k_245 : (.static y_Mi_hexadecimal : Cond) ∈ gt := gt_in (i := 264) (by decide +kernel) (by decide +kernel)
theorem k_246 : (.code y_Mi_hexadecimal b_Mi_hexadecimal 1 (some .int) : Cond) ∈ gt := gt_in (i := 265) rfl rfl
theorem k_247 : (.constantLong R_Mi 82 (-922337203685477580) : Cond) ∈ gt := gt_in (i := 266) (by decide +kernel) (by decide +kernel)
theorem k_248 : (.constantLong R_Mi 84 (10) : Cond) ∈ gt := gt_in (i := 267) (by decide +kernel) (by decide +kernel)
theorem k_249 : (.constantLong R_Mi 88 (-9223372036854775808) : Cond) ∈ gt := gt_in (i := 268) (by decide +kernel) (by decide +kernel)
theorem k_250 : (.methodLink R_Mi 118 y_Ro_add : Cond) ∈ gt := gt_in (i := 269) (by decide +kernel) (by decide +kernel)
theorem k_251 : (.instanceMethod y_Ro_add : Cond) ∈ gt := gt_in (i := 270) (by decide +kernel) (by decide +kernel)
theorem k_252 : (.selects R_Ro y_Ro_add y_Ro_add : Cond) ∈ gt := gt_in (i := 271) (by decide +kernel) (by decide +kernel)
theorem k_253 : (.code y_Ro_add b_Ro_add 5 none : Cond) ∈ gt := gt_in (i := 272) rfl rfl
theorem k_254 : (.methodLink R_Mi 121 y_Fo_digits : Cond) ∈ gt := gt_in (i := 273) (by decide +kernel) (by decide +kernel)
theorem k_255 : (.instanceMethod y_Fo_digits : Cond) ∈ gt := gt_in (i := 274) (by decide +kernel) (by decide +kernel)
theorem k_256 : (.selects R_Fo y_Fo_digits y_Fo_digits : Cond) ∈ gt := gt_in (i := 275) (by decide +kernel) (by decide +kernel)
theorem k_257 : (.code y_Fo_digits b_Fo_digits 10 none : Cond) ∈ gt := gt_in (i := 276) rfl rfl
theorem k_258 : (.methodLink R_Fo 24 y_Ro_one : Cond) ∈ gt := gt_in (i := 277) (by decide +kernel) (by decide +kernel)
theorem k_259 : (.methodLink R_Fo 27 y_Ro_decimal : Cond) ∈ gt := gt_in (i := 278) (by decide +kernel) (by decide +kernel)
theorem k_260 : (.methodLink R_Mi 125 y_Fo_put : Cond) ∈ gt := gt_in (i := 279) (by decide +kernel) (by decide +kernel)
theorem k_261 : (.instanceMethod y_Fo_put : Cond) ∈ gt := gt_in (i := 280) (by decide +kernel) (by decide +kernel)
theorem k_262 : (.selects R_Fo y_Fo_put y_Fo_put : Cond) ∈ gt := gt_in (i := 281) (by decide +kernel) (by decide +kernel)
theorem k_263 : (.code y_Fo_put b_Fo_put 9 none : Cond) ∈ gt := gt_in (i := 282) rfl rfl
theorem k_264 : (.methodLink R_Fo 34 Lib.Math.max.name : Cond) ∈ gt := gt_in (i := 283) (by decide +kernel) (by decide +kernel)
theorem k_265 : (.methodLink R_Fo 44 y_Ro_add : Cond) ∈ gt := gt_in (i := 284) (by decide +kernel) (by decide +kernel)
theorem k_266 : (.methodLink R_La 47 y_Mi_madeAt : Cond) ∈ gt := gt_in (i := 285) (by decide +kernel) (by decide +kernel)
theorem k_267 : (.instanceMethod y_Mi_madeAt : Cond) ∈ gt := gt_in (i := 286) (by decide +kernel) (by decide +kernel)
theorem k_268 : (.selects R_Mi y_Mi_madeAt y_Mi_madeAt : Cond) ∈ gt := gt_in (i := 287) (by decide +kernel) (by decide +kernel)
theorem k_269 : (.code y_Mi_madeAt b_Mi_madeAt 2 (some .int) : Cond) ∈ gt := gt_in (i := 288) rfl rfl
theorem k_270 : (.classLink R_La 10 R_Md : Cond) ∈ gt := gt_in (i := 289) (by decide +kernel) (by decide +kernel)
theorem k_271 : (.instantiable R_Md 20 : Cond) ∈ gt := gt_in (i := 290) (by decide +kernel) (by decide +kernel)
theorem k_272 : (.methodLink R_La 12 y_Md_init : Cond) ∈ gt := gt_in (i := 291) (by decide +kernel) (by decide +kernel)
theorem k_273 : (.instanceMethod y_Md_init : Cond) ∈ gt := gt_in (i := 292) (by decide +kernel) (by decide +kernel)
theorem k_274 : (.code y_Md_init b_Md_init 1 none : Cond) ∈ gt := gt_in (i := 293) rfl rfl
theorem k_275 : (.methodLink R_Md 1 objectInit : Cond) ∈ gt := gt_in (i := 294) (by decide +kernel) (by decide +kernel)
theorem k_276 : (.fieldLink R_Md 7 R_Md "tape" "[B" : Cond) ∈ gt := gt_in (i := 295) (by decide +kernel) (by decide +kernel)
theorem k_277 : (.fieldLink R_Md 13 R_Md "text" "[B" : Cond) ∈ gt := gt_in (i := 296) (by decide +kernel) (by decide +kernel)
theorem k_278 : (.fieldLink R_Md 16 R_Md "words" "[B" : Cond) ∈ gt := gt_in (i := 297) (by decide +kernel) (by decide +kernel)
theorem k_279 : (.fieldLink R_Md 19 R_Md "out" "[B" : Cond) ∈ gt := gt_in (i := 298) (by decide +kernel) (by decide +kernel)
theorem k_280 : (.fieldLink R_Md 29 R_Md "taped" "I" : Cond) ∈ gt := gt_in (i := 299) (by decide +kernel) (by decide +kernel)
theorem k_281 : (.fieldLink R_Md 37 R_Md "size" "I" : Cond) ∈ gt := gt_in (i := 300) (by decide +kernel) (by decide +kernel)
theorem k_282 : (.fieldLink R_Md 40 R_Md "many" "I" : Cond) ∈ gt := gt_in (i := 301) (by decide +kernel) (by decide +kernel)
theorem k_283 : (.fieldLink R_Md 126 R_Md "made" "I" : Cond) ∈ gt := gt_in (i := 302) (by decide +kernel) (by decide +kernel)
theorem k_284 : (.fieldLink R_Md 104 R_Md "outSize" "I" : Cond) ∈ gt := gt_in (i := 303) (by decide +kernel) (by decide +kernel)
theorem k_285 : (.fieldLink R_Md 22 R_Md "wordSize" "[I" : Cond) ∈ gt := gt_in (i := 304) (by decide +kernel) (by decide +kernel)
theorem k_286 : (.fieldLink R_Md 77 R_Md "at" "I" : Cond) ∈ gt := gt_in (i := 305) (by decide +kernel) (by decide +kernel)
theorem k_287 : (.fieldLink R_Md 93 R_Md "width" "I" : Cond) ∈ gt := gt_in (i := 306) (by decide +kernel) (by decide +kernel)
theorem k_288 : (.fieldLink R_Md 101 R_Md "kind" "I" : Cond) ∈ gt := gt_in (i := 307) (by decide +kernel) (by decide +kernel)
theorem k_289 : (.fieldLink R_Md 80 R_Md "left" "Z" : Cond) ∈ gt := gt_in (i := 308) (by decide +kernel) (by decide +kernel)
theorem k_290 : (.fieldLink R_Md 84 R_Md "zeros" "Z" : Cond) ∈ gt := gt_in (i := 309) (by decide +kernel) (by decide +kernel)
theorem k_291 : (.fieldLink R_Md 87 R_Md "plus" "Z" : Cond) ∈ gt := gt_in (i := 310) (by decide +kernel) (by decide +kernel)
theorem k_292 : (.fieldLink R_Md 90 R_Md "blank" "Z" : Cond) ∈ gt := gt_in (i := 311) (by decide +kernel) (by decide +kernel)
theorem k_293 : (.fieldLink R_Md 26 R_Md "piece" "[B" : Cond) ∈ gt := gt_in (i := 312) (by decide +kernel) (by decide +kernel)
theorem k_294 : (.fieldLink R_Md 47 R_Md "from" "I" : Cond) ∈ gt := gt_in (i := 313) (by decide +kernel) (by decide +kernel)
theorem k_295 : (.fieldLink R_Md 62 R_Md "value" "J" : Cond) ∈ gt := gt_in (i := 314) (by decide +kernel) (by decide +kernel)
theorem k_337 : (.methodLink R_La 17 y_Md_feed : Cond) ∈ gt := gt_in (i := 356) (by decide +kernel) (by decide +kernel)
theorem k_338 : (.instanceMethod y_Md_feed : Cond) ∈ gt := gt_in (i := 357) (by decide +kernel) (by decide +kernel)
theorem k_339 : (.selects R_Md y_Md_feed y_Md_feed : Cond) ∈ gt := gt_in (i := 358) (by decide +kernel) (by decide +kernel)
theorem k_340 : (.code y_Md_feed b_Md_feed 6 (some .boolean) : Cond) ∈ gt := gt_in (i := 359) rfl rfl
theorem k_341 : (.methodLink R_Md 33 y_Md_lay : Cond) ∈ gt := gt_in (i := 360) (by decide +kernel) (by decide +kernel)
theorem k_343 : (.instanceMethod y_Md_lay : Cond) ∈ gt := gt_in (i := 362) (by decide +kernel) (by decide +kernel)
theorem k_344 : (.code y_Md_lay b_Md_lay 3 none : Cond) ∈ gt := gt_in (i := 363) rfl rfl
theorem k_345 : (.methodLink R_La 22 y_Md_end : Cond) ∈ gt := gt_in (i := 364) (by decide +kernel) (by decide +kernel)
theorem k_346 : (.instanceMethod y_Md_end : Cond) ∈ gt := gt_in (i := 365) (by decide +kernel) (by decide +kernel)
theorem k_347 : (.selects R_Md y_Md_end y_Md_end : Cond) ∈ gt := gt_in (i := 366) (by decide +kernel) (by decide +kernel)
theorem k_348 : (.code y_Md_end b_Md_end 2 (some .boolean) : Cond) ∈ gt := gt_in (i := 367) rfl rfl
theorem k_349 : (.methodLink R_La 27 y_Md_format : Cond) ∈ gt := gt_in (i := 368) (by decide +kernel) (by decide +kernel)
theorem k_350 : (.instanceMethod y_Md_format : Cond) ∈ gt := gt_in (i := 369) (by decide +kernel) (by decide +kernel)
theorem k_351 : (.selects R_Md y_Md_format y_Md_format : Cond) ∈ gt := gt_in (i := 370) (by decide +kernel) (by decide +kernel)
theorem k_352 : (.code y_Md_format b_Md_format 2 (some .int) : Cond) ∈ gt := gt_in (i := 371) rfl rfl
theorem k_353 : (.methodLink R_La 31 y_Md_argument : Cond) ∈ gt := gt_in (i := 372) (by decide +kernel) (by decide +kernel)
theorem k_354 : (.instanceMethod y_Md_argument : Cond) ∈ gt := gt_in (i := 373) (by decide +kernel) (by decide +kernel)
theorem k_355 : (.selects R_Md y_Md_argument y_Md_argument : Cond) ∈ gt := gt_in (i := 374) (by decide +kernel) (by decide +kernel)
theorem k_356 : (.code y_Md_argument b_Md_argument 3 (some .int) : Cond) ∈ gt := gt_in (i := 375) rfl rfl
theorem k_357 : (.methodLink R_La 38 y_Md_number : Cond) ∈ gt := gt_in (i := 376) (by decide +kernel) (by decide +kernel)
theorem k_358 : (.instanceMethod y_Md_number : Cond) ∈ gt := gt_in (i := 377) (by decide +kernel) (by decide +kernel)
theorem k_359 : (.selects R_Md y_Md_number y_Md_number : Cond) ∈ gt := gt_in (i := 378) (by decide +kernel) (by decide +kernel)
theorem k_360 : (.code y_Md_number b_Md_number 5 (some .int) : Cond) ∈ gt := gt_in (i := 379) rfl rfl
theorem k_361 : (.methodLink R_Md 43 y_Md_decimal : Cond) ∈ gt := gt_in (i := 380) (by decide +kernel) (by decide +kernel)
theorem k_363 : (.instanceMethod y_Md_decimal : Cond) ∈ gt := gt_in (i := 382) (by decide +kernel) (by decide +kernel)
theorem k_364 : (.code y_Md_decimal b_Md_decimal 3 none : Cond) ∈ gt := gt_in (i := 383) rfl rfl
theorem k_365 : (.methodLink R_Md 50 y_Md_digits : Cond) ∈ gt := gt_in (i := 384) (by decide +kernel) (by decide +kernel)
theorem k_367 : (.instanceMethod y_Md_digits : Cond) ∈ gt := gt_in (i := 386) (by decide +kernel) (by decide +kernel)
theorem k_368 : (.code y_Md_digits b_Md_digits 7 none : Cond) ∈ gt := gt_in (i := 387) rfl rfl
theorem k_369 : (.constantLong R_Md 56 (10) : Cond) ∈ gt := gt_in (i := 388) (by decide +kernel) (by decide +kernel)
theorem k_370 : (.methodLink R_Md 53 y_Md_ahead : Cond) ∈ gt := gt_in (i := 389) (by decide +kernel) (by decide +kernel)
theorem k_372 : (.instanceMethod y_Md_ahead : Cond) ∈ gt := gt_in (i := 391) (by decide +kernel) (by decide +kernel)
theorem k_373 : (.code y_Md_ahead b_Md_ahead 2 none : Cond) ∈ gt := gt_in (i := 392) rfl rfl
theorem k_374 : (.methodLink R_La 42 y_Md_clear : Cond) ∈ gt := gt_in (i := 393) (by decide +kernel) (by decide +kernel)
theorem k_375 : (.instanceMethod y_Md_clear : Cond) ∈ gt := gt_in (i := 394) (by decide +kernel) (by decide +kernel)
theorem k_376 : (.selects R_Md y_Md_clear y_Md_clear : Cond) ∈ gt := gt_in (i := 395) (by decide +kernel) (by decide +kernel)
theorem k_377 : (.code y_Md_clear b_Md_clear 1 none : Cond) ∈ gt := gt_in (i := 396) rfl rfl
theorem k_378 : (.methodLink R_La 46 y_Md_make : Cond) ∈ gt := gt_in (i := 397) (by decide +kernel) (by decide +kernel)
theorem k_379 : (.instanceMethod y_Md_make : Cond) ∈ gt := gt_in (i := 398) (by decide +kernel) (by decide +kernel)
theorem k_380 : (.selects R_Md y_Md_make y_Md_make : Cond) ∈ gt := gt_in (i := 399) (by decide +kernel) (by decide +kernel)
theorem k_381 : (.code y_Md_make b_Md_make 4 (some .int) : Cond) ∈ gt := gt_in (i := 400) rfl rfl
theorem k_382 : (.methodLink R_Md 107 y_Md_put : Cond) ∈ gt := gt_in (i := 401) (by decide +kernel) (by decide +kernel)
theorem k_384 : (.instanceMethod y_Md_put : Cond) ∈ gt := gt_in (i := 403) (by decide +kernel) (by decide +kernel)
theorem k_385 : (.code y_Md_put b_Md_put 2 (some .boolean) : Cond) ∈ gt := gt_in (i := 404) rfl rfl
theorem k_386 : (.methodLink R_Md 129 y_Md_readPlace : Cond) ∈ gt := gt_in (i := 405) (by decide +kernel) (by decide +kernel)
theorem k_388 : (.instanceMethod y_Md_readPlace : Cond) ∈ gt := gt_in (i := 407) (by decide +kernel) (by decide +kernel)
theorem k_389 : (.code y_Md_readPlace b_Md_readPlace 1 (some .boolean) : Cond) ∈ gt := gt_in (i := 408) rfl rfl
theorem k_390 : (.methodLink R_Md 96 y_Md_flag : Cond) ∈ gt := gt_in (i := 409) (by decide +kernel) (by decide +kernel)
theorem k_392 : (.instanceMethod y_Md_flag : Cond) ∈ gt := gt_in (i := 411) (by decide +kernel) (by decide +kernel)
theorem k_393 : (.code y_Md_flag b_Md_flag 2 (some .boolean) : Cond) ∈ gt := gt_in (i := 412) rfl rfl
theorem k_394 : (.constant R_Md 100 (100000) : Cond) ∈ gt := gt_in (i := 413) (by decide +kernel) (by decide +kernel)
theorem k_395 : (.methodLink R_Md 132 y_Md_filled : Cond) ∈ gt := gt_in (i := 414) (by decide +kernel) (by decide +kernel)
theorem k_397 : (.instanceMethod y_Md_filled : Cond) ∈ gt := gt_in (i := 416) (by decide +kernel) (by decide +kernel)
theorem k_398 : (.code y_Md_filled b_Md_filled 3 (some .int) : Cond) ∈ gt := gt_in (i := 417) rfl rfl
theorem k_399 : (.methodLink R_Md 115 y_Md_fill : Cond) ∈ gt := gt_in (i := 418) (by decide +kernel) (by decide +kernel)
theorem k_401 : (.instanceMethod y_Md_fill : Cond) ∈ gt := gt_in (i := 420) (by decide +kernel) (by decide +kernel)
theorem k_402 : (.code y_Md_fill b_Md_fill 10 (some .boolean) : Cond) ∈ gt := gt_in (i := 421) rfl rfl
theorem k_403 : (.methodLink R_Md 111 y_Md_puts : Cond) ∈ gt := gt_in (i := 422) (by decide +kernel) (by decide +kernel)
theorem k_405 : (.instanceMethod y_Md_puts : Cond) ∈ gt := gt_in (i := 424) (by decide +kernel) (by decide +kernel)
theorem k_406 : (.code y_Md_puts b_Md_puts 5 (some .boolean) : Cond) ∈ gt := gt_in (i := 425) rfl rfl
theorem k_407 : (.methodLink R_Md 119 y_Md_isInteger : Cond) ∈ gt := gt_in (i := 426) (by decide +kernel) (by decide +kernel)
theorem k_409 : (.instanceMethod y_Md_isInteger : Cond) ∈ gt := gt_in (i := 428) (by decide +kernel) (by decide +kernel)
theorem k_410 : (.code y_Md_isInteger b_Md_isInteger 7 (some .boolean) : Cond) ∈ gt := gt_in (i := 429) rfl rfl
theorem k_411 : (.methodLink R_Md 70 y_Md_isHex : Cond) ∈ gt := gt_in (i := 430) (by decide +kernel) (by decide +kernel)
theorem k_413 : (.instanceMethod y_Md_isHex : Cond) ∈ gt := gt_in (i := 432) (by decide +kernel) (by decide +kernel)
theorem k_414 : (.code y_Md_isHex b_Md_isHex 9 (some .boolean) : Cond) ∈ gt := gt_in (i := 433) rfl rfl
theorem k_415 : (.methodLink R_Md 58 y_Md_hex : Cond) ∈ gt := gt_in (i := 434) (by decide +kernel) (by decide +kernel)
theorem k_416 : (.static y_Md_hex : Cond) ∈ gt := gt_in (i := 435) (by decide +kernel) (by decide +kernel)
theorem k_417 : (.code y_Md_hex b_Md_hex 1 (some .int) : Cond) ∈ gt := gt_in (i := 436) rfl rfl
theorem k_418 : (.methodLink R_Md 74 y_Md_isDecimal : Cond) ∈ gt := gt_in (i := 437) (by decide +kernel) (by decide +kernel)
theorem k_420 : (.instanceMethod y_Md_isDecimal : Cond) ∈ gt := gt_in (i := 439) (by decide +kernel) (by decide +kernel)
theorem k_421 : (.code y_Md_isDecimal b_Md_isDecimal 9 (some .boolean) : Cond) ∈ gt := gt_in (i := 440) rfl rfl
theorem k_422 : (.constantLong R_Md 66 (-922337203685477580) : Cond) ∈ gt := gt_in (i := 441) (by decide +kernel) (by decide +kernel)
theorem k_423 : (.constantLong R_Md 68 (-9223372036854775808) : Cond) ∈ gt := gt_in (i := 442) (by decide +kernel) (by decide +kernel)
theorem k_424 : (.methodLink R_Md 122 y_Md_bits : Cond) ∈ gt := gt_in (i := 443) (by decide +kernel) (by decide +kernel)
theorem k_426 : (.instanceMethod y_Md_bits : Cond) ∈ gt := gt_in (i := 445) (by decide +kernel) (by decide +kernel)
theorem k_427 : (.code y_Md_bits b_Md_bits 8 none : Cond) ∈ gt := gt_in (i := 446) rfl rfl
theorem k_428 : (.methodLink R_La 51 y_Md_madeAt : Cond) ∈ gt := gt_in (i := 447) (by decide +kernel) (by decide +kernel)
theorem k_429 : (.instanceMethod y_Md_madeAt : Cond) ∈ gt := gt_in (i := 448) (by decide +kernel) (by decide +kernel)
theorem k_430 : (.selects R_Md y_Md_madeAt y_Md_madeAt : Cond) ∈ gt := gt_in (i := 449) (by decide +kernel) (by decide +kernel)
theorem k_431 : (.code y_Md_madeAt b_Md_madeAt 2 (some .int) : Cond) ∈ gt := gt_in (i := 450) rfl rfl
theorem k_432 : (.constantLong R_La 32 (4294967295) : Cond) ∈ gt := gt_in (i := 451) (by decide +kernel) (by decide +kernel)
theorem k_433 : (.fieldLink R_St 15 R_St "coder" "B" : Cond) ∈ gt := gt_in (i := 452) (by decide +kernel) (by decide +kernel)
theorem k_434 : (.fieldLink R_St 9 R_St "value" "[B" : Cond) ∈ gt := gt_in (i := 453) (by decide +kernel) (by decide +kernel)
theorem ks_0 : (.selects R_Mi y_Mi_used y_Mi_used : Cond) ∈ gt := gt_in (i := 0) (by decide +kernel) (by decide +kernel)
theorem ks_1 : (.selects R_Mi y_Mi_add y_Mi_add : Cond) ∈ gt := gt_in (i := 1) (by decide +kernel) (by decide +kernel)
theorem ks_2 : (.selects R_Mi y_Mi_at y_Mi_at : Cond) ∈ gt := gt_in (i := 2) (by decide +kernel) (by decide +kernel)
theorem ks_3 : (.selects R_Mi y_Mi_nothing y_Mi_nothing : Cond) ∈ gt := gt_in (i := 3) (by decide +kernel) (by decide +kernel)
theorem ks_4 : (.selects R_Mi y_Mi_isInteger y_Mi_isInteger : Cond) ∈ gt := gt_in (i := 4) (by decide +kernel) (by decide +kernel)
theorem ks_5 : (.selects R_Md y_Md_lay y_Md_lay : Cond) ∈ gt := gt_in (i := 5) (by decide +kernel) (by decide +kernel)
theorem ks_6 : (.selects R_Md y_Md_decimal y_Md_decimal : Cond) ∈ gt := gt_in (i := 6) (by decide +kernel) (by decide +kernel)
theorem ks_7 : (.selects R_Md y_Md_digits y_Md_digits : Cond) ∈ gt := gt_in (i := 7) (by decide +kernel) (by decide +kernel)
theorem ks_8 : (.selects R_Md y_Md_ahead y_Md_ahead : Cond) ∈ gt := gt_in (i := 8) (by decide +kernel) (by decide +kernel)
theorem ks_9 : (.selects R_Md y_Md_put y_Md_put : Cond) ∈ gt := gt_in (i := 9) (by decide +kernel) (by decide +kernel)
theorem ks_10 : (.selects R_Md y_Md_readPlace y_Md_readPlace : Cond) ∈ gt := gt_in (i := 10) (by decide +kernel) (by decide +kernel)
theorem ks_11 : (.selects R_Md y_Md_flag y_Md_flag : Cond) ∈ gt := gt_in (i := 11) (by decide +kernel) (by decide +kernel)
theorem ks_12 : (.selects R_Md y_Md_filled y_Md_filled : Cond) ∈ gt := gt_in (i := 12) (by decide +kernel) (by decide +kernel)
theorem ks_13 : (.selects R_Md y_Md_fill y_Md_fill : Cond) ∈ gt := gt_in (i := 13) (by decide +kernel) (by decide +kernel)
theorem ks_14 : (.selects R_Md y_Md_puts y_Md_puts : Cond) ∈ gt := gt_in (i := 14) (by decide +kernel) (by decide +kernel)
theorem ks_15 : (.selects R_Md y_Md_isInteger y_Md_isInteger : Cond) ∈ gt := gt_in (i := 15) (by decide +kernel) (by decide +kernel)
theorem ks_16 : (.selects R_Md y_Md_isHex y_Md_isHex : Cond) ∈ gt := gt_in (i := 16) (by decide +kernel) (by decide +kernel)
theorem ks_17 : (.selects R_Md y_Md_isDecimal y_Md_isDecimal : Cond) ∈ gt := gt_in (i := 17) (by decide +kernel) (by decide +kernel)
theorem ks_18 : (.selects R_Md y_Md_bits y_Md_bits : Cond) ∈ gt := gt_in (i := 18) (by decide +kernel) (by decide +kernel)
theorem i_Ro : ∀ w ∈ u_ws R_Ro F_Ro 2, w ∈ gt := fun w h => List.mem_filter.mpr ⟨(show ∀ w ∈ u_ws R_Ro F_Ro 2, w ∈ lw_tbl by decide +kernel) w h, (show ∀ w ∈ u_ws R_Ro F_Ro 2, goodWord w = true by decide +kernel) w h⟩
theorem i_Fo : ∀ w ∈ u_ws R_Fo F_Fo 2, w ∈ gt := fun w h => List.mem_filter.mpr ⟨(show ∀ w ∈ u_ws R_Fo F_Fo 2, w ∈ lw_tbl by decide +kernel) w h, (show ∀ w ∈ u_ws R_Fo F_Fo 2, goodWord w = true by decide +kernel) w h⟩
theorem i_Mi : ∀ w ∈ u_ws R_Mi F_Mi 11, w ∈ gt := fun w h => List.mem_filter.mpr ⟨(show ∀ w ∈ u_ws R_Mi F_Mi 11, w ∈ lw_tbl by decide +kernel) w h, (show ∀ w ∈ u_ws R_Mi F_Mi 11, goodWord w = true by decide +kernel) w h⟩
theorem i_Md : ∀ w ∈ u_ws R_Md F_Md 20, w ∈ gt := fun w h => List.mem_filter.mpr ⟨(show ∀ w ∈ u_ws R_Md F_Md 20, w ∈ lw_tbl by decide +kernel) w h, (show ∀ w ∈ u_ws R_Md F_Md 20, goodWord w = true by decide +kernel) w h⟩
/-- a field, by the place of its class and its slot, linked from a class at an entry -/
def FL (own : String) (index ci k : Nat) (fin : Bool) (ty : FieldType) : Prop := ∃ (C : String) (T : u_T) (N : Nat) (ty0 : Nat → FieldType), classes[ci]? = some (C, T, N) ∧ k < N ∧ (∀ w ∈ u_ws C T N, w ∈ gt) ∧ (∀ k, k < N → parseFieldDescriptor (T k).2.2.1 = some (ty0 k)) ∧ (∀ a, a < N → ∀ b, b < N → a ≠ b → (T a).2.1 ≠ (T b).2.1) ∧ Cond.fieldLink own index (T k).1 (T k).2.1 (T k).2.2.1 ∈ gt ∧ (T k).2.2.2 = fin ∧ parseFieldDescriptor (T k).2.2.1 = some ty ∧ (own = C → fin = true → (T k).1 = own)
theorem fl_Ro_7 : FL R_Ro 7 0 0 false (.array .byte) := ⟨R_Ro, F_Ro, 2, t_Ro, rfl, by decide, i_Ro, t_Ro_ok, n_Ro, k_32, rfl, by decide +kernel, fun ho _ => by first | rfl | exact absurd ho (by decide +kernel)⟩
theorem fl_Fo_40 : FL R_Fo 40 0 0 false (.array .byte) := ⟨R_Ro, F_Ro, 2, t_Ro, rfl, by decide, i_Ro, t_Ro_ok, n_Ro, k_33, rfl, by decide +kernel, fun ho _ => by first | rfl | exact absurd ho (by decide +kernel)⟩
theorem fl_Mi_71 : FL R_Mi 71 0 0 false (.array .byte) := ⟨R_Ro, F_Ro, 2, t_Ro, rfl, by decide, i_Ro, t_Ro_ok, n_Ro, k_34, rfl, by decide +kernel, fun ho _ => by first | rfl | exact absurd ho (by decide +kernel)⟩
theorem fl_Ro_13 : FL R_Ro 13 0 1 false (.int) := ⟨R_Ro, F_Ro, 2, t_Ro, rfl, by decide, i_Ro, t_Ro_ok, n_Ro, k_35, rfl, by decide +kernel, fun ho _ => by first | rfl | exact absurd ho (by decide +kernel)⟩
theorem fl_Fo_31 : FL R_Fo 31 0 1 false (.int) := ⟨R_Ro, F_Ro, 2, t_Ro, rfl, by decide, i_Ro, t_Ro_ok, n_Ro, k_36, rfl, by decide +kernel, fun ho _ => by first | rfl | exact absurd ho (by decide +kernel)⟩
theorem fl_Mi_66 : FL R_Mi 66 0 1 false (.int) := ⟨R_Ro, F_Ro, 2, t_Ro, rfl, by decide, i_Ro, t_Ro_ok, n_Ro, k_37, rfl, by decide +kernel, fun ho _ => by first | rfl | exact absurd ho (by decide +kernel)⟩
theorem fl_Fo_14 : FL R_Fo 14 1 0 true (.object "FormatMill$Row") := ⟨R_Fo, F_Fo, 2, t_Fo, rfl, by decide, i_Fo, t_Fo_ok, n_Fo, k_44, rfl, by decide +kernel, fun ho _ => by first | rfl | exact absurd ho (by decide +kernel)⟩
theorem fl_Mi_113 : FL R_Mi 113 1 0 true (.object "FormatMill$Row") := ⟨R_Fo, F_Fo, 2, t_Fo, rfl, by decide, i_Fo, t_Fo_ok, n_Fo, k_45, rfl, by decide +kernel, fun ho _ => by first | rfl | exact absurd ho (by decide +kernel)⟩
theorem fl_Fo_20 : FL R_Fo 20 1 1 false (.int) := ⟨R_Fo, F_Fo, 2, t_Fo, rfl, by decide, i_Fo, t_Fo_ok, n_Fo, k_46, rfl, by decide +kernel, fun ho _ => by first | rfl | exact absurd ho (by decide +kernel)⟩
theorem fl_Mi_10 : FL R_Mi 10 2 0 true (.object "FormatMill$Formats") := ⟨R_Mi, F_Mi, 11, t_Mi, rfl, by decide, i_Mi, t_Mi_ok, n_Mi, k_54, rfl, by decide +kernel, fun ho _ => by first | rfl | exact absurd ho (by decide +kernel)⟩
theorem fl_Mi_21 : FL R_Mi 21 2 1 true (.object "FormatMill$Row") := ⟨R_Mi, F_Mi, 11, t_Mi, rfl, by decide, i_Mi, t_Mi_ok, n_Mi, k_55, rfl, by decide +kernel, fun ho _ => by first | rfl | exact absurd ho (by decide +kernel)⟩
theorem fl_Mi_25 : FL R_Mi 25 2 2 true (.object "FormatMill$Row") := ⟨R_Mi, F_Mi, 11, t_Mi, rfl, by decide, i_Mi, t_Mi_ok, n_Mi, k_56, rfl, by decide +kernel, fun ho _ => by first | rfl | exact absurd ho (by decide +kernel)⟩
theorem fl_Mi_28 : FL R_Mi 28 2 3 true (.array .byte) := ⟨R_Mi, F_Mi, 11, t_Mi, rfl, by decide, i_Mi, t_Mi_ok, n_Mi, k_57, rfl, by decide +kernel, fun ho _ => by first | rfl | exact absurd ho (by decide +kernel)⟩
theorem fl_Mi_50 : FL R_Mi 50 2 4 false (.int) := ⟨R_Mi, F_Mi, 11, t_Mi, rfl, by decide, i_Mi, t_Mi_ok, n_Mi, k_58, rfl, by decide +kernel, fun ho _ => by first | rfl | exact absurd ho (by decide +kernel)⟩
theorem fl_Mi_32 : FL R_Mi 32 2 5 true (.array .byte) := ⟨R_Mi, F_Mi, 11, t_Mi, rfl, by decide, i_Mi, t_Mi_ok, n_Mi, k_59, rfl, by decide +kernel, fun ho _ => by first | rfl | exact absurd ho (by decide +kernel)⟩
theorem fl_Mi_35 : FL R_Mi 35 2 6 true (.array .int) := ⟨R_Mi, F_Mi, 11, t_Mi, rfl, by decide, i_Mi, t_Mi_ok, n_Mi, k_60, rfl, by decide +kernel, fun ho _ => by first | rfl | exact absurd ho (by decide +kernel)⟩
theorem fl_Mi_59 : FL R_Mi 59 2 7 false (.int) := ⟨R_Mi, F_Mi, 11, t_Mi, rfl, by decide, i_Mi, t_Mi_ok, n_Mi, k_61, rfl, by decide +kernel, fun ho _ => by first | rfl | exact absurd ho (by decide +kernel)⟩
theorem fl_Mi_39 : FL R_Mi 39 2 8 true (.array .byte) := ⟨R_Mi, F_Mi, 11, t_Mi, rfl, by decide, i_Mi, t_Mi_ok, n_Mi, k_62, rfl, by decide +kernel, fun ho _ => by first | rfl | exact absurd ho (by decide +kernel)⟩
theorem fl_Mi_42 : FL R_Mi 42 2 9 false (.int) := ⟨R_Mi, F_Mi, 11, t_Mi, rfl, by decide, i_Mi, t_Mi_ok, n_Mi, k_63, rfl, by decide +kernel, fun ho _ => by first | rfl | exact absurd ho (by decide +kernel)⟩
theorem fl_Mi_74 : FL R_Mi 74 2 10 false (.long) := ⟨R_Mi, F_Mi, 11, t_Mi, rfl, by decide, i_Mi, t_Mi_ok, n_Mi, k_64, rfl, by decide +kernel, fun ho _ => by first | rfl | exact absurd ho (by decide +kernel)⟩
theorem fl_Md_7 : FL R_Md 7 3 0 true (.array .byte) := ⟨R_Md, F_Md, 20, t_Md, rfl, by decide, i_Md, t_Md_ok, n_Md, k_276, rfl, by decide +kernel, fun ho _ => by first | rfl | exact absurd ho (by decide +kernel)⟩
theorem fl_Md_13 : FL R_Md 13 3 1 true (.array .byte) := ⟨R_Md, F_Md, 20, t_Md, rfl, by decide, i_Md, t_Md_ok, n_Md, k_277, rfl, by decide +kernel, fun ho _ => by first | rfl | exact absurd ho (by decide +kernel)⟩
theorem fl_Md_16 : FL R_Md 16 3 2 true (.array .byte) := ⟨R_Md, F_Md, 20, t_Md, rfl, by decide, i_Md, t_Md_ok, n_Md, k_278, rfl, by decide +kernel, fun ho _ => by first | rfl | exact absurd ho (by decide +kernel)⟩
theorem fl_Md_19 : FL R_Md 19 3 3 true (.array .byte) := ⟨R_Md, F_Md, 20, t_Md, rfl, by decide, i_Md, t_Md_ok, n_Md, k_279, rfl, by decide +kernel, fun ho _ => by first | rfl | exact absurd ho (by decide +kernel)⟩
theorem fl_Md_29 : FL R_Md 29 3 4 false (.int) := ⟨R_Md, F_Md, 20, t_Md, rfl, by decide, i_Md, t_Md_ok, n_Md, k_280, rfl, by decide +kernel, fun ho _ => by first | rfl | exact absurd ho (by decide +kernel)⟩
theorem fl_Md_37 : FL R_Md 37 3 5 false (.int) := ⟨R_Md, F_Md, 20, t_Md, rfl, by decide, i_Md, t_Md_ok, n_Md, k_281, rfl, by decide +kernel, fun ho _ => by first | rfl | exact absurd ho (by decide +kernel)⟩
theorem fl_Md_40 : FL R_Md 40 3 6 false (.int) := ⟨R_Md, F_Md, 20, t_Md, rfl, by decide, i_Md, t_Md_ok, n_Md, k_282, rfl, by decide +kernel, fun ho _ => by first | rfl | exact absurd ho (by decide +kernel)⟩
theorem fl_Md_126 : FL R_Md 126 3 7 false (.int) := ⟨R_Md, F_Md, 20, t_Md, rfl, by decide, i_Md, t_Md_ok, n_Md, k_283, rfl, by decide +kernel, fun ho _ => by first | rfl | exact absurd ho (by decide +kernel)⟩
theorem fl_Md_104 : FL R_Md 104 3 8 false (.int) := ⟨R_Md, F_Md, 20, t_Md, rfl, by decide, i_Md, t_Md_ok, n_Md, k_284, rfl, by decide +kernel, fun ho _ => by first | rfl | exact absurd ho (by decide +kernel)⟩
theorem fl_Md_22 : FL R_Md 22 3 9 true (.array .int) := ⟨R_Md, F_Md, 20, t_Md, rfl, by decide, i_Md, t_Md_ok, n_Md, k_285, rfl, by decide +kernel, fun ho _ => by first | rfl | exact absurd ho (by decide +kernel)⟩
theorem fl_Md_77 : FL R_Md 77 3 10 false (.int) := ⟨R_Md, F_Md, 20, t_Md, rfl, by decide, i_Md, t_Md_ok, n_Md, k_286, rfl, by decide +kernel, fun ho _ => by first | rfl | exact absurd ho (by decide +kernel)⟩
theorem fl_Md_93 : FL R_Md 93 3 11 false (.int) := ⟨R_Md, F_Md, 20, t_Md, rfl, by decide, i_Md, t_Md_ok, n_Md, k_287, rfl, by decide +kernel, fun ho _ => by first | rfl | exact absurd ho (by decide +kernel)⟩
theorem fl_Md_101 : FL R_Md 101 3 12 false (.int) := ⟨R_Md, F_Md, 20, t_Md, rfl, by decide, i_Md, t_Md_ok, n_Md, k_288, rfl, by decide +kernel, fun ho _ => by first | rfl | exact absurd ho (by decide +kernel)⟩
theorem fl_Md_80 : FL R_Md 80 3 13 false (.boolean) := ⟨R_Md, F_Md, 20, t_Md, rfl, by decide, i_Md, t_Md_ok, n_Md, k_289, rfl, by decide +kernel, fun ho _ => by first | rfl | exact absurd ho (by decide +kernel)⟩
theorem fl_Md_84 : FL R_Md 84 3 14 false (.boolean) := ⟨R_Md, F_Md, 20, t_Md, rfl, by decide, i_Md, t_Md_ok, n_Md, k_290, rfl, by decide +kernel, fun ho _ => by first | rfl | exact absurd ho (by decide +kernel)⟩
theorem fl_Md_87 : FL R_Md 87 3 15 false (.boolean) := ⟨R_Md, F_Md, 20, t_Md, rfl, by decide, i_Md, t_Md_ok, n_Md, k_291, rfl, by decide +kernel, fun ho _ => by first | rfl | exact absurd ho (by decide +kernel)⟩
theorem fl_Md_90 : FL R_Md 90 3 16 false (.boolean) := ⟨R_Md, F_Md, 20, t_Md, rfl, by decide, i_Md, t_Md_ok, n_Md, k_292, rfl, by decide +kernel, fun ho _ => by first | rfl | exact absurd ho (by decide +kernel)⟩
theorem fl_Md_26 : FL R_Md 26 3 17 true (.array .byte) := ⟨R_Md, F_Md, 20, t_Md, rfl, by decide, i_Md, t_Md_ok, n_Md, k_293, rfl, by decide +kernel, fun ho _ => by first | rfl | exact absurd ho (by decide +kernel)⟩
theorem fl_Md_47 : FL R_Md 47 3 18 false (.int) := ⟨R_Md, F_Md, 20, t_Md, rfl, by decide, i_Md, t_Md_ok, n_Md, k_294, rfl, by decide +kernel, fun ho _ => by first | rfl | exact absurd ho (by decide +kernel)⟩
theorem fl_Md_62 : FL R_Md 62 3 19 false (.long) := ⟨R_Md, F_Md, 20, t_Md, rfl, by decide, i_Md, t_Md_ok, n_Md, k_295, rfl, by decide +kernel, fun ho _ => by first | rfl | exact absurd ho (by decide +kernel)⟩
end
section
theorem d_Mi_init_0 : decode b_Mi_init 0 = .ok (.aload_n 0, 1) := by decide +kernel
theorem d_Mi_init_1 : decode b_Mi_init 1 = .ok (.invokespecial 1, 3) := by decide +kernel
theorem d_Mi_init_4 : decode b_Mi_init 4 = .ok (.aload_n 0, 1) := by decide +kernel
theorem d_Mi_init_5 : decode b_Mi_init 5 = .ok (.new 7, 3) := by decide +kernel
theorem d_Mi_init_8 : decode b_Mi_init 8 = .ok (.dup, 1) := by decide +kernel
theorem d_Mi_init_9 : decode b_Mi_init 9 = .ok (.invokespecial 9, 3) := by decide +kernel
theorem d_Mi_init_12 : decode b_Mi_init 12 = .ok (.putfield 10, 3) := by decide +kernel
theorem d_Mi_init_15 : decode b_Mi_init 15 = .ok (.aload_n 0, 1) := by decide +kernel
theorem d_Mi_init_16 : decode b_Mi_init 16 = .ok (.new 16, 3) := by decide +kernel
theorem d_Mi_init_19 : decode b_Mi_init 19 = .ok (.dup, 1) := by decide +kernel
theorem d_Mi_init_20 : decode b_Mi_init 20 = .ok (.sipush 4096, 3) := by decide +kernel
theorem d_Mi_init_23 : decode b_Mi_init 23 = .ok (.invokespecial 18, 3) := by decide +kernel
theorem d_Mi_init_26 : decode b_Mi_init 26 = .ok (.putfield 21, 3) := by decide +kernel
theorem d_Mi_init_29 : decode b_Mi_init 29 = .ok (.aload_n 0, 1) := by decide +kernel
theorem d_Mi_init_30 : decode b_Mi_init 30 = .ok (.new 16, 3) := by decide +kernel
theorem d_Mi_init_33 : decode b_Mi_init 33 = .ok (.dup, 1) := by decide +kernel
theorem d_Mi_init_34 : decode b_Mi_init 34 = .ok (.bipush 64, 2) := by decide +kernel
theorem d_Mi_init_36 : decode b_Mi_init 36 = .ok (.invokespecial 18, 3) := by decide +kernel
theorem d_Mi_init_39 : decode b_Mi_init 39 = .ok (.putfield 25, 3) := by decide +kernel
theorem d_Mi_init_42 : decode b_Mi_init 42 = .ok (.aload_n 0, 1) := by decide +kernel
theorem d_Mi_init_43 : decode b_Mi_init 43 = .ok (.sipush 400, 3) := by decide +kernel
theorem d_Mi_init_46 : decode b_Mi_init 46 = .ok (.newarray .byte, 2) := by decide +kernel
theorem d_Mi_init_48 : decode b_Mi_init 48 = .ok (.putfield 28, 3) := by decide +kernel
theorem d_Mi_init_51 : decode b_Mi_init 51 = .ok (.aload_n 0, 1) := by decide +kernel
theorem d_Mi_init_52 : decode b_Mi_init 52 = .ok (.sipush 800, 3) := by decide +kernel
theorem d_Mi_init_55 : decode b_Mi_init 55 = .ok (.newarray .byte, 2) := by decide +kernel
theorem d_Mi_init_57 : decode b_Mi_init 57 = .ok (.putfield 32, 3) := by decide +kernel
theorem d_Mi_init_60 : decode b_Mi_init 60 = .ok (.aload_n 0, 1) := by decide +kernel
theorem d_Mi_init_61 : decode b_Mi_init 61 = .ok (.bipush 20, 2) := by decide +kernel
theorem d_Mi_init_63 : decode b_Mi_init 63 = .ok (.newarray .int, 2) := by decide +kernel
theorem d_Mi_init_65 : decode b_Mi_init 65 = .ok (.putfield 35, 3) := by decide +kernel
theorem d_Mi_init_68 : decode b_Mi_init 68 = .ok (.aload_n 0, 1) := by decide +kernel
theorem d_Mi_init_69 : decode b_Mi_init 69 = .ok (.sipush 400, 3) := by decide +kernel
theorem d_Mi_init_72 : decode b_Mi_init 72 = .ok (.newarray .byte, 2) := by decide +kernel
theorem d_Mi_init_74 : decode b_Mi_init 74 = .ok (.putfield 39, 3) := by decide +kernel
theorem d_Mi_init_77 : decode b_Mi_init 77 = .ok (.return_, 1) := by decide +kernel
theorem d_Fo_init_0 : decode b_Fo_init 0 = .ok (.aload_n 0, 1) := by decide +kernel
theorem d_Fo_init_1 : decode b_Fo_init 1 = .ok (.invokespecial 3, 3) := by decide +kernel
theorem d_Fo_init_4 : decode b_Fo_init 4 = .ok (.aload_n 0, 1) := by decide +kernel
theorem d_Fo_init_5 : decode b_Fo_init 5 = .ok (.new 9, 3) := by decide +kernel
theorem d_Fo_init_8 : decode b_Fo_init 8 = .ok (.dup, 1) := by decide +kernel
theorem d_Fo_init_9 : decode b_Fo_init 9 = .ok (.sipush 2048, 3) := by decide +kernel
theorem d_Fo_init_12 : decode b_Fo_init 12 = .ok (.invokespecial 11, 3) := by decide +kernel
theorem d_Fo_init_15 : decode b_Fo_init 15 = .ok (.putfield 14, 3) := by decide +kernel
theorem d_Fo_init_18 : decode b_Fo_init 18 = .ok (.return_, 1) := by decide +kernel
theorem d_Ro_init_0 : decode b_Ro_init 0 = .ok (.aload_n 0, 1) := by decide +kernel
theorem d_Ro_init_1 : decode b_Ro_init 1 = .ok (.invokespecial 1, 3) := by decide +kernel
theorem d_Ro_init_4 : decode b_Ro_init 4 = .ok (.aload_n 0, 1) := by decide +kernel
theorem d_Ro_init_5 : decode b_Ro_init 5 = .ok (.iload_n 1, 1) := by decide +kernel
theorem d_Ro_init_6 : decode b_Ro_init 6 = .ok (.newarray .byte, 2) := by decide +kernel
theorem d_Ro_init_8 : decode b_Ro_init 8 = .ok (.putfield 7, 3) := by decide +kernel
theorem d_Ro_init_11 : decode b_Ro_init 11 = .ok (.return_, 1) := by decide +kernel
theorem d_Mi_feed_0 : decode b_Mi_feed 0 = .ok (.aload_n 0, 1) := by decide +kernel
theorem d_Mi_feed_1 : decode b_Mi_feed 1 = .ok (.getfield 42, 3) := by decide +kernel
theorem d_Mi_feed_4 : decode b_Mi_feed 4 = .ok (.bipush 20, 2) := by decide +kernel
theorem d_Mi_feed_6 : decode b_Mi_feed 6 = .ok (.iadd, 1) := by decide +kernel
theorem d_Mi_feed_7 : decode b_Mi_feed 7 = .ok (.sipush 400, 3) := by decide +kernel
theorem d_Mi_feed_10 : decode b_Mi_feed 10 = .ok (.if_icmp .le 5, 3) := by decide +kernel
theorem d_Mi_feed_13 : decode b_Mi_feed 13 = .ok (.iconst 0, 1) := by decide +kernel
theorem d_Mi_feed_14 : decode b_Mi_feed 14 = .ok (.ireturn, 1) := by decide +kernel
theorem d_Mi_feed_15 : decode b_Mi_feed 15 = .ok (.iconst 0, 1) := by decide +kernel
theorem d_Mi_feed_16 : decode b_Mi_feed 16 = .ok (.istore 6, 2) := by decide +kernel
theorem d_Mi_feed_18 : decode b_Mi_feed 18 = .ok (.iload 6, 2) := by decide +kernel
theorem d_Mi_feed_20 : decode b_Mi_feed 20 = .ok (.bipush 20, 2) := by decide +kernel
theorem d_Mi_feed_22 : decode b_Mi_feed 22 = .ok (.if_icmp .ge 90, 3) := by decide +kernel
theorem d_Mi_feed_25 : decode b_Mi_feed 25 = .ok (.iload 6, 2) := by decide +kernel
theorem d_Mi_feed_27 : decode b_Mi_feed 27 = .ok (.iconst 4, 1) := by decide +kernel
theorem d_Mi_feed_28 : decode b_Mi_feed 28 = .ok (.if_icmp .ge 7, 3) := by decide +kernel
theorem d_Mi_feed_31 : decode b_Mi_feed 31 = .ok (.iload_n 1, 1) := by decide +kernel
theorem d_Mi_feed_32 : decode b_Mi_feed 32 = .ok (.goto 39, 3) := by decide +kernel
theorem d_Mi_feed_35 : decode b_Mi_feed 35 = .ok (.iload 6, 2) := by decide +kernel
theorem d_Mi_feed_37 : decode b_Mi_feed 37 = .ok (.bipush 8, 2) := by decide +kernel
theorem d_Mi_feed_39 : decode b_Mi_feed 39 = .ok (.if_icmp .ge 7, 3) := by decide +kernel
theorem d_Mi_feed_42 : decode b_Mi_feed 42 = .ok (.iload_n 2, 1) := by decide +kernel
theorem d_Mi_feed_43 : decode b_Mi_feed 43 = .ok (.goto 28, 3) := by decide +kernel
theorem d_Mi_feed_46 : decode b_Mi_feed 46 = .ok (.iload 6, 2) := by decide +kernel
theorem d_Mi_feed_48 : decode b_Mi_feed 48 = .ok (.bipush 12, 2) := by decide +kernel
theorem d_Mi_feed_50 : decode b_Mi_feed 50 = .ok (.if_icmp .ge 7, 3) := by decide +kernel
theorem d_Mi_feed_53 : decode b_Mi_feed 53 = .ok (.iload_n 3, 1) := by decide +kernel
theorem d_Mi_feed_54 : decode b_Mi_feed 54 = .ok (.goto 17, 3) := by decide +kernel
theorem d_Mi_feed_57 : decode b_Mi_feed 57 = .ok (.iload 6, 2) := by decide +kernel
theorem d_Mi_feed_59 : decode b_Mi_feed 59 = .ok (.bipush 16, 2) := by decide +kernel
theorem d_Mi_feed_61 : decode b_Mi_feed 61 = .ok (.if_icmp .ge 8, 3) := by decide +kernel
theorem d_Mi_feed_64 : decode b_Mi_feed 64 = .ok (.iload 4, 2) := by decide +kernel
theorem d_Mi_feed_66 : decode b_Mi_feed 66 = .ok (.goto 5, 3) := by decide +kernel
theorem d_Mi_feed_69 : decode b_Mi_feed 69 = .ok (.iload 5, 2) := by decide +kernel
theorem d_Mi_feed_71 : decode b_Mi_feed 71 = .ok (.istore 7, 2) := by decide +kernel
theorem d_Mi_feed_73 : decode b_Mi_feed 73 = .ok (.aload_n 0, 1) := by decide +kernel
theorem d_Mi_feed_74 : decode b_Mi_feed 74 = .ok (.getfield 39, 3) := by decide +kernel
theorem d_Mi_feed_77 : decode b_Mi_feed 77 = .ok (.aload_n 0, 1) := by decide +kernel
theorem d_Mi_feed_78 : decode b_Mi_feed 78 = .ok (.getfield 42, 3) := by decide +kernel
theorem d_Mi_feed_81 : decode b_Mi_feed 81 = .ok (.iload 7, 2) := by decide +kernel
theorem d_Mi_feed_83 : decode b_Mi_feed 83 = .ok (.bipush 24, 2) := by decide +kernel
theorem d_Mi_feed_85 : decode b_Mi_feed 85 = .ok (.bipush 8, 2) := by decide +kernel
theorem d_Mi_feed_87 : decode b_Mi_feed 87 = .ok (.iload 6, 2) := by decide +kernel
theorem d_Mi_feed_89 : decode b_Mi_feed 89 = .ok (.iconst 4, 1) := by decide +kernel
theorem d_Mi_feed_90 : decode b_Mi_feed 90 = .ok (.irem, 1) := by decide +kernel
theorem d_Mi_feed_91 : decode b_Mi_feed 91 = .ok (.imul, 1) := by decide +kernel
theorem d_Mi_feed_92 : decode b_Mi_feed 92 = .ok (.isub, 1) := by decide +kernel
theorem d_Mi_feed_93 : decode b_Mi_feed 93 = .ok (.ishr, 1) := by decide +kernel
theorem d_Mi_feed_94 : decode b_Mi_feed 94 = .ok (.i2b, 1) := by decide +kernel
theorem d_Mi_feed_95 : decode b_Mi_feed 95 = .ok (.bastore, 1) := by decide +kernel
theorem d_Mi_feed_96 : decode b_Mi_feed 96 = .ok (.aload_n 0, 1) := by decide +kernel
theorem d_Mi_feed_97 : decode b_Mi_feed 97 = .ok (.dup, 1) := by decide +kernel
theorem d_Mi_feed_98 : decode b_Mi_feed 98 = .ok (.getfield 42, 3) := by decide +kernel
theorem d_Mi_feed_101 : decode b_Mi_feed 101 = .ok (.iconst 1, 1) := by decide +kernel
theorem d_Mi_feed_102 : decode b_Mi_feed 102 = .ok (.iadd, 1) := by decide +kernel
theorem d_Mi_feed_103 : decode b_Mi_feed 103 = .ok (.putfield 42, 3) := by decide +kernel
theorem d_Mi_feed_106 : decode b_Mi_feed 106 = .ok (.iinc 6 1, 3) := by decide +kernel
theorem d_Mi_feed_109 : decode b_Mi_feed 109 = .ok (.goto (-91), 3) := by decide +kernel
theorem d_Mi_feed_112 : decode b_Mi_feed 112 = .ok (.iconst 1, 1) := by decide +kernel
theorem d_Mi_feed_113 : decode b_Mi_feed 113 = .ok (.ireturn, 1) := by decide +kernel
theorem d_Mi_end_0 : decode b_Mi_end 0 = .ok (.iload_n 1, 1) := by decide +kernel
theorem d_Mi_end_1 : decode b_Mi_end 1 = .ok (.ifCond .lt 11, 3) := by decide +kernel
theorem d_Mi_end_4 : decode b_Mi_end 4 = .ok (.iload_n 1, 1) := by decide +kernel
theorem d_Mi_end_5 : decode b_Mi_end 5 = .ok (.aload_n 0, 1) := by decide +kernel
theorem d_Mi_end_6 : decode b_Mi_end 6 = .ok (.getfield 42, 3) := by decide +kernel
theorem d_Mi_end_9 : decode b_Mi_end 9 = .ok (.if_icmp .le 5, 3) := by decide +kernel
theorem d_Mi_end_12 : decode b_Mi_end 12 = .ok (.iconst 0, 1) := by decide +kernel
theorem d_Mi_end_13 : decode b_Mi_end 13 = .ok (.ireturn, 1) := by decide +kernel
theorem d_Mi_end_14 : decode b_Mi_end 14 = .ok (.aload_n 0, 1) := by decide +kernel
theorem d_Mi_end_15 : decode b_Mi_end 15 = .ok (.iload_n 1, 1) := by decide +kernel
theorem d_Mi_end_16 : decode b_Mi_end 16 = .ok (.putfield 42, 3) := by decide +kernel
theorem d_Mi_end_19 : decode b_Mi_end 19 = .ok (.iconst 1, 1) := by decide +kernel
theorem d_Mi_end_20 : decode b_Mi_end 20 = .ok (.ireturn, 1) := by decide +kernel
theorem d_Mi_format_0 : decode b_Mi_format 0 = .ok (.aload_n 0, 1) := by decide +kernel
theorem d_Mi_format_1 : decode b_Mi_format 1 = .ok (.aload_n 0, 1) := by decide +kernel
theorem d_Mi_format_2 : decode b_Mi_format 2 = .ok (.invokevirtual 46, 3) := by decide +kernel
theorem d_Mi_format_5 : decode b_Mi_format 5 = .ok (.putfield 50, 3) := by decide +kernel
theorem d_Mi_format_8 : decode b_Mi_format 8 = .ok (.aload_n 0, 1) := by decide +kernel
theorem d_Mi_format_9 : decode b_Mi_format 9 = .ok (.getfield 39, 3) := by decide +kernel
theorem d_Mi_format_12 : decode b_Mi_format 12 = .ok (.iconst 0, 1) := by decide +kernel
theorem d_Mi_format_13 : decode b_Mi_format 13 = .ok (.aload_n 0, 1) := by decide +kernel
theorem d_Mi_format_14 : decode b_Mi_format 14 = .ok (.getfield 28, 3) := by decide +kernel
theorem d_Mi_format_17 : decode b_Mi_format 17 = .ok (.iconst 0, 1) := by decide +kernel
theorem d_Mi_format_18 : decode b_Mi_format 18 = .ok (.aload_n 0, 1) := by decide +kernel
theorem d_Mi_format_19 : decode b_Mi_format 19 = .ok (.getfield 50, 3) := by decide +kernel
theorem d_Mi_format_22 : decode b_Mi_format 22 = .ok (.invokestatic 53, 3) := by decide +kernel
theorem d_Mi_format_25 : decode b_Mi_format 25 = .ok (.aload_n 0, 1) := by decide +kernel
theorem d_Mi_format_26 : decode b_Mi_format 26 = .ok (.getfield 50, 3) := by decide +kernel
theorem d_Mi_format_29 : decode b_Mi_format 29 = .ok (.ireturn, 1) := by decide +kernel
theorem d_Mi_used_0 : decode b_Mi_used 0 = .ok (.aload_n 0, 1) := by decide +kernel
theorem d_Mi_used_1 : decode b_Mi_used 1 = .ok (.getfield 42, 3) := by decide +kernel
theorem d_Mi_used_4 : decode b_Mi_used 4 = .ok (.istore_n 1, 1) := by decide +kernel
theorem d_Mi_used_5 : decode b_Mi_used 5 = .ok (.aload_n 0, 1) := by decide +kernel
theorem d_Mi_used_6 : decode b_Mi_used 6 = .ok (.iconst 0, 1) := by decide +kernel
theorem d_Mi_used_7 : decode b_Mi_used 7 = .ok (.putfield 42, 3) := by decide +kernel
theorem d_Mi_used_10 : decode b_Mi_used 10 = .ok (.iload_n 1, 1) := by decide +kernel
theorem d_Mi_used_11 : decode b_Mi_used 11 = .ok (.ireturn, 1) := by decide +kernel
theorem d_Mi_argument_0 : decode b_Mi_argument 0 = .ok (.aload_n 0, 1) := by decide +kernel
theorem d_Mi_argument_1 : decode b_Mi_argument 1 = .ok (.invokevirtual 46, 3) := by decide +kernel
theorem d_Mi_argument_4 : decode b_Mi_argument 4 = .ok (.istore_n 1, 1) := by decide +kernel
theorem d_Mi_argument_5 : decode b_Mi_argument 5 = .ok (.aload_n 0, 1) := by decide +kernel
theorem d_Mi_argument_6 : decode b_Mi_argument 6 = .ok (.aload_n 0, 1) := by decide +kernel
theorem d_Mi_argument_7 : decode b_Mi_argument 7 = .ok (.getfield 39, 3) := by decide +kernel
theorem d_Mi_argument_10 : decode b_Mi_argument 10 = .ok (.iload_n 1, 1) := by decide +kernel
theorem d_Mi_argument_11 : decode b_Mi_argument 11 = .ok (.invokevirtual 62, 3) := by decide +kernel
theorem d_Mi_argument_14 : decode b_Mi_argument 14 = .ok (.ireturn, 1) := by decide +kernel
theorem d_Mi_add_0 : decode b_Mi_add 0 = .ok (.aload_n 0, 1) := by decide +kernel
theorem d_Mi_add_1 : decode b_Mi_add 1 = .ok (.getfield 59, 3) := by decide +kernel
theorem d_Mi_add_4 : decode b_Mi_add 4 = .ok (.bipush 20, 2) := by decide +kernel
theorem d_Mi_add_6 : decode b_Mi_add 6 = .ok (.if_icmp .eq 9, 3) := by decide +kernel
theorem d_Mi_add_9 : decode b_Mi_add 9 = .ok (.iload_n 2, 1) := by decide +kernel
theorem d_Mi_add_10 : decode b_Mi_add 10 = .ok (.bipush 40, 2) := by decide +kernel
theorem d_Mi_add_12 : decode b_Mi_add 12 = .ok (.if_icmp .le 5, 3) := by decide +kernel
theorem d_Mi_add_15 : decode b_Mi_add 15 = .ok (.iconst (-1), 1) := by decide +kernel
theorem d_Mi_add_16 : decode b_Mi_add 16 = .ok (.ireturn, 1) := by decide +kernel
theorem d_Mi_add_17 : decode b_Mi_add 17 = .ok (.aload_n 1, 1) := by decide +kernel
theorem d_Mi_add_18 : decode b_Mi_add 18 = .ok (.iconst 0, 1) := by decide +kernel
theorem d_Mi_add_19 : decode b_Mi_add 19 = .ok (.aload_n 0, 1) := by decide +kernel
theorem d_Mi_add_20 : decode b_Mi_add 20 = .ok (.getfield 32, 3) := by decide +kernel
theorem d_Mi_add_23 : decode b_Mi_add 23 = .ok (.bipush 40, 2) := by decide +kernel
theorem d_Mi_add_25 : decode b_Mi_add 25 = .ok (.aload_n 0, 1) := by decide +kernel
theorem d_Mi_add_26 : decode b_Mi_add 26 = .ok (.getfield 59, 3) := by decide +kernel
theorem d_Mi_add_29 : decode b_Mi_add 29 = .ok (.imul, 1) := by decide +kernel
theorem d_Mi_add_30 : decode b_Mi_add 30 = .ok (.iload_n 2, 1) := by decide +kernel
theorem d_Mi_add_31 : decode b_Mi_add 31 = .ok (.invokestatic 53, 3) := by decide +kernel
theorem d_Mi_add_34 : decode b_Mi_add 34 = .ok (.aload_n 0, 1) := by decide +kernel
theorem d_Mi_add_35 : decode b_Mi_add 35 = .ok (.getfield 35, 3) := by decide +kernel
theorem d_Mi_add_38 : decode b_Mi_add 38 = .ok (.aload_n 0, 1) := by decide +kernel
theorem d_Mi_add_39 : decode b_Mi_add 39 = .ok (.getfield 59, 3) := by decide +kernel
theorem d_Mi_add_42 : decode b_Mi_add 42 = .ok (.iload_n 2, 1) := by decide +kernel
theorem d_Mi_add_43 : decode b_Mi_add 43 = .ok (.iastore, 1) := by decide +kernel
theorem d_Mi_add_44 : decode b_Mi_add 44 = .ok (.aload_n 0, 1) := by decide +kernel
theorem d_Mi_add_45 : decode b_Mi_add 45 = .ok (.dup, 1) := by decide +kernel
theorem d_Mi_add_46 : decode b_Mi_add 46 = .ok (.getfield 59, 3) := by decide +kernel
theorem d_Mi_add_49 : decode b_Mi_add 49 = .ok (.iconst 1, 1) := by decide +kernel
theorem d_Mi_add_50 : decode b_Mi_add 50 = .ok (.iadd, 1) := by decide +kernel
theorem d_Mi_add_51 : decode b_Mi_add 51 = .ok (.putfield 59, 3) := by decide +kernel
theorem d_Mi_add_54 : decode b_Mi_add 54 = .ok (.aload_n 0, 1) := by decide +kernel
theorem d_Mi_add_55 : decode b_Mi_add 55 = .ok (.getfield 59, 3) := by decide +kernel
theorem d_Mi_add_58 : decode b_Mi_add 58 = .ok (.iconst 1, 1) := by decide +kernel
theorem d_Mi_add_59 : decode b_Mi_add 59 = .ok (.isub, 1) := by decide +kernel
theorem d_Mi_add_60 : decode b_Mi_add 60 = .ok (.ireturn, 1) := by decide +kernel
theorem d_Mi_number_0 : decode b_Mi_number 0 = .ok (.aload_n 0, 1) := by decide +kernel
theorem d_Mi_number_1 : decode b_Mi_number 1 = .ok (.getfield 25, 3) := by decide +kernel
theorem d_Mi_number_4 : decode b_Mi_number 4 = .ok (.iconst 0, 1) := by decide +kernel
theorem d_Mi_number_5 : decode b_Mi_number 5 = .ok (.putfield 66, 3) := by decide +kernel
theorem d_Mi_number_8 : decode b_Mi_number 8 = .ok (.aload_n 0, 1) := by decide +kernel
theorem d_Mi_number_9 : decode b_Mi_number 9 = .ok (.getfield 25, 3) := by decide +kernel
theorem d_Mi_number_12 : decode b_Mi_number 12 = .ok (.lload_n 1, 1) := by decide +kernel
theorem d_Mi_number_13 : decode b_Mi_number 13 = .ok (.invokevirtual 67, 3) := by decide +kernel
theorem d_Mi_number_16 : decode b_Mi_number 16 = .ok (.aload_n 0, 1) := by decide +kernel
theorem d_Mi_number_17 : decode b_Mi_number 17 = .ok (.aload_n 0, 1) := by decide +kernel
theorem d_Mi_number_18 : decode b_Mi_number 18 = .ok (.getfield 25, 3) := by decide +kernel
theorem d_Mi_number_21 : decode b_Mi_number 21 = .ok (.getfield 71, 3) := by decide +kernel
theorem d_Mi_number_24 : decode b_Mi_number 24 = .ok (.aload_n 0, 1) := by decide +kernel
theorem d_Mi_number_25 : decode b_Mi_number 25 = .ok (.getfield 25, 3) := by decide +kernel
theorem d_Mi_number_28 : decode b_Mi_number 28 = .ok (.getfield 66, 3) := by decide +kernel
theorem d_Mi_number_31 : decode b_Mi_number 31 = .ok (.invokevirtual 62, 3) := by decide +kernel
theorem d_Mi_number_34 : decode b_Mi_number 34 = .ok (.ireturn, 1) := by decide +kernel
theorem d_Ro_decimal_0 : decode b_Ro_decimal 0 = .ok (.lload_n 1, 1) := by decide +kernel
theorem d_Ro_decimal_1 : decode b_Ro_decimal 1 = .ok (.lconst 0, 1) := by decide +kernel
theorem d_Ro_decimal_2 : decode b_Ro_decimal 2 = .ok (.lcmp, 1) := by decide +kernel
theorem d_Ro_decimal_3 : decode b_Ro_decimal 3 = .ok (.ifCond .ge 9, 3) := by decide +kernel
theorem d_Ro_decimal_6 : decode b_Ro_decimal 6 = .ok (.aload_n 0, 1) := by decide +kernel
theorem d_Ro_decimal_7 : decode b_Ro_decimal 7 = .ok (.bipush 45, 2) := by decide +kernel
theorem d_Ro_decimal_9 : decode b_Ro_decimal 9 = .ok (.invokevirtual 23, 3) := by decide +kernel
theorem d_Ro_decimal_12 : decode b_Ro_decimal 12 = .ok (.lconst 1, 1) := by decide +kernel
theorem d_Ro_decimal_13 : decode b_Ro_decimal 13 = .ok (.lstore_n 3, 1) := by decide +kernel
theorem d_Ro_decimal_14 : decode b_Ro_decimal 14 = .ok (.lload_n 1, 1) := by decide +kernel
theorem d_Ro_decimal_15 : decode b_Ro_decimal 15 = .ok (.ldc2_w 37, 3) := by decide +kernel
theorem d_Ro_decimal_18 : decode b_Ro_decimal 18 = .ok (.ldiv, 1) := by decide +kernel
theorem d_Ro_decimal_19 : decode b_Ro_decimal 19 = .ok (.lstore 5, 2) := by decide +kernel
theorem d_Ro_decimal_21 : decode b_Ro_decimal 21 = .ok (.lload 5, 2) := by decide +kernel
theorem d_Ro_decimal_23 : decode b_Ro_decimal 23 = .ok (.lconst 0, 1) := by decide +kernel
theorem d_Ro_decimal_24 : decode b_Ro_decimal 24 = .ok (.lcmp, 1) := by decide +kernel
theorem d_Ro_decimal_25 : decode b_Ro_decimal 25 = .ok (.ifCond .eq 20, 3) := by decide +kernel
theorem d_Ro_decimal_28 : decode b_Ro_decimal 28 = .ok (.lload_n 3, 1) := by decide +kernel
theorem d_Ro_decimal_29 : decode b_Ro_decimal 29 = .ok (.ldc2_w 37, 3) := by decide +kernel
theorem d_Ro_decimal_32 : decode b_Ro_decimal 32 = .ok (.lmul, 1) := by decide +kernel
theorem d_Ro_decimal_33 : decode b_Ro_decimal 33 = .ok (.lstore_n 3, 1) := by decide +kernel
theorem d_Ro_decimal_34 : decode b_Ro_decimal 34 = .ok (.lload 5, 2) := by decide +kernel
theorem d_Ro_decimal_36 : decode b_Ro_decimal 36 = .ok (.ldc2_w 37, 3) := by decide +kernel
theorem d_Ro_decimal_39 : decode b_Ro_decimal 39 = .ok (.ldiv, 1) := by decide +kernel
theorem d_Ro_decimal_40 : decode b_Ro_decimal 40 = .ok (.lstore 5, 2) := by decide +kernel
theorem d_Ro_decimal_42 : decode b_Ro_decimal 42 = .ok (.goto (-21), 3) := by decide +kernel
theorem d_Ro_decimal_45 : decode b_Ro_decimal 45 = .ok (.lload_n 3, 1) := by decide +kernel
theorem d_Ro_decimal_46 : decode b_Ro_decimal 46 = .ok (.lconst 0, 1) := by decide +kernel
theorem d_Ro_decimal_47 : decode b_Ro_decimal 47 = .ok (.lcmp, 1) := by decide +kernel
theorem d_Ro_decimal_48 : decode b_Ro_decimal 48 = .ok (.ifCond .le 31, 3) := by decide +kernel
theorem d_Ro_decimal_51 : decode b_Ro_decimal 51 = .ok (.aload_n 0, 1) := by decide +kernel
theorem d_Ro_decimal_52 : decode b_Ro_decimal 52 = .ok (.ldc2_w 39, 3) := by decide +kernel
theorem d_Ro_decimal_55 : decode b_Ro_decimal 55 = .ok (.lload_n 1, 1) := by decide +kernel
theorem d_Ro_decimal_56 : decode b_Ro_decimal 56 = .ok (.lload_n 3, 1) := by decide +kernel
theorem d_Ro_decimal_57 : decode b_Ro_decimal 57 = .ok (.ldiv, 1) := by decide +kernel
theorem d_Ro_decimal_58 : decode b_Ro_decimal 58 = .ok (.ldc2_w 37, 3) := by decide +kernel
theorem d_Ro_decimal_61 : decode b_Ro_decimal 61 = .ok (.lrem, 1) := by decide +kernel
theorem d_Ro_decimal_62 : decode b_Ro_decimal 62 = .ok (.invokestatic 41, 3) := by decide +kernel
theorem d_Ro_decimal_65 : decode b_Ro_decimal 65 = .ok (.ladd, 1) := by decide +kernel
theorem d_Ro_decimal_66 : decode b_Ro_decimal 66 = .ok (.l2i, 1) := by decide +kernel
theorem d_Ro_decimal_67 : decode b_Ro_decimal 67 = .ok (.invokevirtual 23, 3) := by decide +kernel
theorem d_Ro_decimal_70 : decode b_Ro_decimal 70 = .ok (.lload_n 3, 1) := by decide +kernel
theorem d_Ro_decimal_71 : decode b_Ro_decimal 71 = .ok (.ldc2_w 37, 3) := by decide +kernel
theorem d_Ro_decimal_74 : decode b_Ro_decimal 74 = .ok (.ldiv, 1) := by decide +kernel
theorem d_Ro_decimal_75 : decode b_Ro_decimal 75 = .ok (.lstore_n 3, 1) := by decide +kernel
theorem d_Ro_decimal_76 : decode b_Ro_decimal 76 = .ok (.goto (-31), 3) := by decide +kernel
theorem d_Ro_decimal_79 : decode b_Ro_decimal 79 = .ok (.return_, 1) := by decide +kernel
theorem d_Ro_one_0 : decode b_Ro_one 0 = .ok (.aload_n 0, 1) := by decide +kernel
theorem d_Ro_one_1 : decode b_Ro_one 1 = .ok (.getfield 13, 3) := by decide +kernel
theorem d_Ro_one_4 : decode b_Ro_one 4 = .ok (.aload_n 0, 1) := by decide +kernel
theorem d_Ro_one_5 : decode b_Ro_one 5 = .ok (.getfield 7, 3) := by decide +kernel
theorem d_Ro_one_8 : decode b_Ro_one 8 = .ok (.arraylength, 1) := by decide +kernel
theorem d_Ro_one_9 : decode b_Ro_one 9 = .ok (.if_icmp .ne 34, 3) := by decide +kernel
theorem d_Ro_one_12 : decode b_Ro_one 12 = .ok (.aload_n 0, 1) := by decide +kernel
theorem d_Ro_one_13 : decode b_Ro_one 13 = .ok (.getfield 7, 3) := by decide +kernel
theorem d_Ro_one_16 : decode b_Ro_one 16 = .ok (.astore_n 2, 1) := by decide +kernel
theorem d_Ro_one_17 : decode b_Ro_one 17 = .ok (.aload_n 0, 1) := by decide +kernel
theorem d_Ro_one_18 : decode b_Ro_one 18 = .ok (.iconst 2, 1) := by decide +kernel
theorem d_Ro_one_19 : decode b_Ro_one 19 = .ok (.aload_n 0, 1) := by decide +kernel
theorem d_Ro_one_20 : decode b_Ro_one 20 = .ok (.getfield 13, 3) := by decide +kernel
theorem d_Ro_one_23 : decode b_Ro_one 23 = .ok (.imul, 1) := by decide +kernel
theorem d_Ro_one_24 : decode b_Ro_one 24 = .ok (.newarray .byte, 2) := by decide +kernel
theorem d_Ro_one_26 : decode b_Ro_one 26 = .ok (.putfield 7, 3) := by decide +kernel
theorem d_Ro_one_29 : decode b_Ro_one 29 = .ok (.aload_n 2, 1) := by decide +kernel
theorem d_Ro_one_30 : decode b_Ro_one 30 = .ok (.iconst 0, 1) := by decide +kernel
theorem d_Ro_one_31 : decode b_Ro_one 31 = .ok (.aload_n 0, 1) := by decide +kernel
theorem d_Ro_one_32 : decode b_Ro_one 32 = .ok (.getfield 7, 3) := by decide +kernel
theorem d_Ro_one_35 : decode b_Ro_one 35 = .ok (.iconst 0, 1) := by decide +kernel
theorem d_Ro_one_36 : decode b_Ro_one 36 = .ok (.aload_n 0, 1) := by decide +kernel
theorem d_Ro_one_37 : decode b_Ro_one 37 = .ok (.getfield 13, 3) := by decide +kernel
theorem d_Ro_one_40 : decode b_Ro_one 40 = .ok (.invokestatic 17, 3) := by decide +kernel
theorem d_Ro_one_43 : decode b_Ro_one 43 = .ok (.aload_n 0, 1) := by decide +kernel
theorem d_Ro_one_44 : decode b_Ro_one 44 = .ok (.getfield 7, 3) := by decide +kernel
theorem d_Ro_one_47 : decode b_Ro_one 47 = .ok (.aload_n 0, 1) := by decide +kernel
theorem d_Ro_one_48 : decode b_Ro_one 48 = .ok (.getfield 13, 3) := by decide +kernel
theorem d_Ro_one_51 : decode b_Ro_one 51 = .ok (.iload_n 1, 1) := by decide +kernel
theorem d_Ro_one_52 : decode b_Ro_one 52 = .ok (.i2b, 1) := by decide +kernel
theorem d_Ro_one_53 : decode b_Ro_one 53 = .ok (.bastore, 1) := by decide +kernel
theorem d_Ro_one_54 : decode b_Ro_one 54 = .ok (.aload_n 0, 1) := by decide +kernel
theorem d_Ro_one_55 : decode b_Ro_one 55 = .ok (.dup, 1) := by decide +kernel
theorem d_Ro_one_56 : decode b_Ro_one 56 = .ok (.getfield 13, 3) := by decide +kernel
theorem d_Ro_one_59 : decode b_Ro_one 59 = .ok (.iconst 1, 1) := by decide +kernel
theorem d_Ro_one_60 : decode b_Ro_one 60 = .ok (.iadd, 1) := by decide +kernel
theorem d_Ro_one_61 : decode b_Ro_one 61 = .ok (.putfield 13, 3) := by decide +kernel
theorem d_Ro_one_64 : decode b_Ro_one 64 = .ok (.return_, 1) := by decide +kernel
theorem d_Mi_clear_0 : decode b_Mi_clear 0 = .ok (.aload_n 0, 1) := by decide +kernel
theorem d_Mi_clear_1 : decode b_Mi_clear 1 = .ok (.iconst 0, 1) := by decide +kernel
theorem d_Mi_clear_2 : decode b_Mi_clear 2 = .ok (.putfield 59, 3) := by decide +kernel
theorem d_Mi_clear_5 : decode b_Mi_clear 5 = .ok (.return_, 1) := by decide +kernel
theorem d_Mi_make_0 : decode b_Mi_make 0 = .ok (.aload_n 0, 1) := by decide +kernel
theorem d_Mi_make_1 : decode b_Mi_make 1 = .ok (.getfield 21, 3) := by decide +kernel
theorem d_Mi_make_4 : decode b_Mi_make 4 = .ok (.iconst 0, 1) := by decide +kernel
theorem d_Mi_make_5 : decode b_Mi_make 5 = .ok (.putfield 66, 3) := by decide +kernel
theorem d_Mi_make_8 : decode b_Mi_make 8 = .ok (.iconst 0, 1) := by decide +kernel
theorem d_Mi_make_9 : decode b_Mi_make 9 = .ok (.istore_n 1, 1) := by decide +kernel
theorem d_Mi_make_10 : decode b_Mi_make 10 = .ok (.iconst 0, 1) := by decide +kernel
theorem d_Mi_make_11 : decode b_Mi_make 11 = .ok (.istore_n 2, 1) := by decide +kernel
theorem d_Mi_make_12 : decode b_Mi_make 12 = .ok (.iload_n 2, 1) := by decide +kernel
theorem d_Mi_make_13 : decode b_Mi_make 13 = .ok (.aload_n 0, 1) := by decide +kernel
theorem d_Mi_make_14 : decode b_Mi_make 14 = .ok (.getfield 50, 3) := by decide +kernel
theorem d_Mi_make_17 : decode b_Mi_make 17 = .ok (.if_icmp .ge 487, 3) := by decide +kernel
theorem d_Mi_make_20 : decode b_Mi_make 20 = .ok (.aload_n 0, 1) := by decide +kernel
theorem d_Mi_make_21 : decode b_Mi_make 21 = .ok (.iload_n 2, 1) := by decide +kernel
theorem d_Mi_make_22 : decode b_Mi_make 22 = .ok (.invokevirtual 90, 3) := by decide +kernel
theorem d_Mi_make_25 : decode b_Mi_make 25 = .ok (.bipush 37, 2) := by decide +kernel
theorem d_Mi_make_27 : decode b_Mi_make 27 = .ok (.if_icmp .eq 35, 3) := by decide +kernel
theorem d_Mi_make_30 : decode b_Mi_make 30 = .ok (.aload_n 0, 1) := by decide +kernel
theorem d_Mi_make_31 : decode b_Mi_make 31 = .ok (.getfield 21, 3) := by decide +kernel
theorem d_Mi_make_34 : decode b_Mi_make 34 = .ok (.aload_n 0, 1) := by decide +kernel
theorem d_Mi_make_35 : decode b_Mi_make 35 = .ok (.iload_n 2, 1) := by decide +kernel
theorem d_Mi_make_36 : decode b_Mi_make 36 = .ok (.invokevirtual 90, 3) := by decide +kernel
theorem d_Mi_make_39 : decode b_Mi_make 39 = .ok (.invokevirtual 93, 3) := by decide +kernel
theorem d_Mi_make_42 : decode b_Mi_make 42 = .ok (.aload_n 0, 1) := by decide +kernel
theorem d_Mi_make_43 : decode b_Mi_make 43 = .ok (.getfield 21, 3) := by decide +kernel
theorem d_Mi_make_46 : decode b_Mi_make 46 = .ok (.getfield 66, 3) := by decide +kernel
theorem d_Mi_make_49 : decode b_Mi_make 49 = .ok (.sipush 1024, 3) := by decide +kernel
theorem d_Mi_make_52 : decode b_Mi_make 52 = .ok (.if_icmp .le 446, 3) := by decide +kernel
theorem d_Mi_make_55 : decode b_Mi_make 55 = .ok (.aload_n 0, 1) := by decide +kernel
theorem d_Mi_make_56 : decode b_Mi_make 56 = .ok (.bipush (-5), 2) := by decide +kernel
theorem d_Mi_make_58 : decode b_Mi_make 58 = .ok (.invokevirtual 96, 3) := by decide +kernel
theorem d_Mi_make_61 : decode b_Mi_make 61 = .ok (.ireturn, 1) := by decide +kernel
theorem d_Mi_make_62 : decode b_Mi_make 62 = .ok (.iconst 0, 1) := by decide +kernel
theorem d_Mi_make_63 : decode b_Mi_make 63 = .ok (.istore_n 3, 1) := by decide +kernel
theorem d_Mi_make_64 : decode b_Mi_make 64 = .ok (.iconst 0, 1) := by decide +kernel
theorem d_Mi_make_65 : decode b_Mi_make 65 = .ok (.istore 4, 2) := by decide +kernel
theorem d_Mi_make_67 : decode b_Mi_make 67 = .ok (.iconst 0, 1) := by decide +kernel
theorem d_Mi_make_68 : decode b_Mi_make 68 = .ok (.istore 5, 2) := by decide +kernel
theorem d_Mi_make_70 : decode b_Mi_make 70 = .ok (.iconst 0, 1) := by decide +kernel
theorem d_Mi_make_71 : decode b_Mi_make 71 = .ok (.istore 6, 2) := by decide +kernel
theorem d_Mi_make_73 : decode b_Mi_make 73 = .ok (.iload_n 2, 1) := by decide +kernel
theorem d_Mi_make_74 : decode b_Mi_make 74 = .ok (.iconst 1, 1) := by decide +kernel
theorem d_Mi_make_75 : decode b_Mi_make 75 = .ok (.iadd, 1) := by decide +kernel
theorem d_Mi_make_76 : decode b_Mi_make 76 = .ok (.istore 7, 2) := by decide +kernel
theorem d_Mi_make_78 : decode b_Mi_make 78 = .ok (.aload_n 0, 1) := by decide +kernel
theorem d_Mi_make_79 : decode b_Mi_make 79 = .ok (.iload 7, 2) := by decide +kernel
theorem d_Mi_make_81 : decode b_Mi_make 81 = .ok (.invokevirtual 90, 3) := by decide +kernel
theorem d_Mi_make_84 : decode b_Mi_make 84 = .ok (.bipush 45, 2) := by decide +kernel
theorem d_Mi_make_86 : decode b_Mi_make 86 = .ok (.if_icmp .eq 36, 3) := by decide +kernel
theorem d_Mi_make_89 : decode b_Mi_make 89 = .ok (.aload_n 0, 1) := by decide +kernel
theorem d_Mi_make_90 : decode b_Mi_make 90 = .ok (.iload 7, 2) := by decide +kernel
theorem d_Mi_make_92 : decode b_Mi_make 92 = .ok (.invokevirtual 90, 3) := by decide +kernel
theorem d_Mi_make_95 : decode b_Mi_make 95 = .ok (.bipush 48, 2) := by decide +kernel
theorem d_Mi_make_97 : decode b_Mi_make 97 = .ok (.if_icmp .eq 25, 3) := by decide +kernel
theorem d_Mi_make_100 : decode b_Mi_make 100 = .ok (.aload_n 0, 1) := by decide +kernel
theorem d_Mi_make_101 : decode b_Mi_make 101 = .ok (.iload 7, 2) := by decide +kernel
theorem d_Mi_make_103 : decode b_Mi_make 103 = .ok (.invokevirtual 90, 3) := by decide +kernel
theorem d_Mi_make_106 : decode b_Mi_make 106 = .ok (.bipush 43, 2) := by decide +kernel
theorem d_Mi_make_108 : decode b_Mi_make 108 = .ok (.if_icmp .eq 14, 3) := by decide +kernel
theorem d_Mi_make_111 : decode b_Mi_make 111 = .ok (.aload_n 0, 1) := by decide +kernel
theorem d_Mi_make_112 : decode b_Mi_make 112 = .ok (.iload 7, 2) := by decide +kernel
theorem d_Mi_make_114 : decode b_Mi_make 114 = .ok (.invokevirtual 90, 3) := by decide +kernel
theorem d_Mi_make_117 : decode b_Mi_make 117 = .ok (.bipush 32, 2) := by decide +kernel
theorem d_Mi_make_119 : decode b_Mi_make 119 = .ok (.if_icmp .ne 99, 3) := by decide +kernel
theorem d_Mi_make_122 : decode b_Mi_make 122 = .ok (.iload_n 3, 1) := by decide +kernel
theorem d_Mi_make_123 : decode b_Mi_make 123 = .ok (.ifCond .ne 14, 3) := by decide +kernel
theorem d_Mi_make_126 : decode b_Mi_make 126 = .ok (.aload_n 0, 1) := by decide +kernel
theorem d_Mi_make_127 : decode b_Mi_make 127 = .ok (.iload 7, 2) := by decide +kernel
theorem d_Mi_make_129 : decode b_Mi_make 129 = .ok (.invokevirtual 90, 3) := by decide +kernel
theorem d_Mi_make_132 : decode b_Mi_make 132 = .ok (.bipush 45, 2) := by decide +kernel
theorem d_Mi_make_134 : decode b_Mi_make 134 = .ok (.if_icmp .ne 7, 3) := by decide +kernel
theorem d_Mi_make_137 : decode b_Mi_make 137 = .ok (.iconst 1, 1) := by decide +kernel
theorem d_Mi_make_138 : decode b_Mi_make 138 = .ok (.goto 4, 3) := by decide +kernel
theorem d_Mi_make_141 : decode b_Mi_make 141 = .ok (.iconst 0, 1) := by decide +kernel
theorem d_Mi_make_142 : decode b_Mi_make 142 = .ok (.istore_n 3, 1) := by decide +kernel
theorem d_Mi_make_143 : decode b_Mi_make 143 = .ok (.iload 4, 2) := by decide +kernel
theorem d_Mi_make_145 : decode b_Mi_make 145 = .ok (.ifCond .ne 14, 3) := by decide +kernel
theorem d_Mi_make_148 : decode b_Mi_make 148 = .ok (.aload_n 0, 1) := by decide +kernel
theorem d_Mi_make_149 : decode b_Mi_make 149 = .ok (.iload 7, 2) := by decide +kernel
theorem d_Mi_make_151 : decode b_Mi_make 151 = .ok (.invokevirtual 90, 3) := by decide +kernel
theorem d_Mi_make_154 : decode b_Mi_make 154 = .ok (.bipush 48, 2) := by decide +kernel
theorem d_Mi_make_156 : decode b_Mi_make 156 = .ok (.if_icmp .ne 7, 3) := by decide +kernel
theorem d_Mi_make_159 : decode b_Mi_make 159 = .ok (.iconst 1, 1) := by decide +kernel
theorem d_Mi_make_160 : decode b_Mi_make 160 = .ok (.goto 4, 3) := by decide +kernel
theorem d_Mi_make_163 : decode b_Mi_make 163 = .ok (.iconst 0, 1) := by decide +kernel
theorem d_Mi_make_164 : decode b_Mi_make 164 = .ok (.istore 4, 2) := by decide +kernel
theorem d_Mi_make_166 : decode b_Mi_make 166 = .ok (.iload 5, 2) := by decide +kernel
theorem d_Mi_make_168 : decode b_Mi_make 168 = .ok (.ifCond .ne 14, 3) := by decide +kernel
theorem d_Mi_make_171 : decode b_Mi_make 171 = .ok (.aload_n 0, 1) := by decide +kernel
theorem d_Mi_make_172 : decode b_Mi_make 172 = .ok (.iload 7, 2) := by decide +kernel
theorem d_Mi_make_174 : decode b_Mi_make 174 = .ok (.invokevirtual 90, 3) := by decide +kernel
theorem d_Mi_make_177 : decode b_Mi_make 177 = .ok (.bipush 43, 2) := by decide +kernel
theorem d_Mi_make_179 : decode b_Mi_make 179 = .ok (.if_icmp .ne 7, 3) := by decide +kernel
theorem d_Mi_make_182 : decode b_Mi_make 182 = .ok (.iconst 1, 1) := by decide +kernel
theorem d_Mi_make_183 : decode b_Mi_make 183 = .ok (.goto 4, 3) := by decide +kernel
theorem d_Mi_make_186 : decode b_Mi_make 186 = .ok (.iconst 0, 1) := by decide +kernel
theorem d_Mi_make_187 : decode b_Mi_make 187 = .ok (.istore 5, 2) := by decide +kernel
theorem d_Mi_make_189 : decode b_Mi_make 189 = .ok (.iload 6, 2) := by decide +kernel
theorem d_Mi_make_191 : decode b_Mi_make 191 = .ok (.ifCond .ne 14, 3) := by decide +kernel
theorem d_Mi_make_194 : decode b_Mi_make 194 = .ok (.aload_n 0, 1) := by decide +kernel
theorem d_Mi_make_195 : decode b_Mi_make 195 = .ok (.iload 7, 2) := by decide +kernel
theorem d_Mi_make_197 : decode b_Mi_make 197 = .ok (.invokevirtual 90, 3) := by decide +kernel
theorem d_Mi_make_200 : decode b_Mi_make 200 = .ok (.bipush 32, 2) := by decide +kernel
theorem d_Mi_make_202 : decode b_Mi_make 202 = .ok (.if_icmp .ne 7, 3) := by decide +kernel
theorem d_Mi_make_205 : decode b_Mi_make 205 = .ok (.iconst 1, 1) := by decide +kernel
theorem d_Mi_make_206 : decode b_Mi_make 206 = .ok (.goto 4, 3) := by decide +kernel
theorem d_Mi_make_209 : decode b_Mi_make 209 = .ok (.iconst 0, 1) := by decide +kernel
theorem d_Mi_make_210 : decode b_Mi_make 210 = .ok (.istore 6, 2) := by decide +kernel
theorem d_Mi_make_212 : decode b_Mi_make 212 = .ok (.iinc 7 1, 3) := by decide +kernel
theorem d_Mi_make_215 : decode b_Mi_make 215 = .ok (.goto (-137), 3) := by decide +kernel
theorem d_Mi_make_218 : decode b_Mi_make 218 = .ok (.iconst 0, 1) := by decide +kernel
theorem d_Mi_make_219 : decode b_Mi_make 219 = .ok (.istore 8, 2) := by decide +kernel
theorem d_Mi_make_221 : decode b_Mi_make 221 = .ok (.aload_n 0, 1) := by decide +kernel
theorem d_Mi_make_222 : decode b_Mi_make 222 = .ok (.iload 7, 2) := by decide +kernel
theorem d_Mi_make_224 : decode b_Mi_make 224 = .ok (.invokevirtual 90, 3) := by decide +kernel
theorem d_Mi_make_227 : decode b_Mi_make 227 = .ok (.bipush 48, 2) := by decide +kernel
theorem d_Mi_make_229 : decode b_Mi_make 229 = .ok (.if_icmp .lt 42, 3) := by decide +kernel
theorem d_Mi_make_232 : decode b_Mi_make 232 = .ok (.aload_n 0, 1) := by decide +kernel
theorem d_Mi_make_233 : decode b_Mi_make 233 = .ok (.iload 7, 2) := by decide +kernel
theorem d_Mi_make_235 : decode b_Mi_make 235 = .ok (.invokevirtual 90, 3) := by decide +kernel
theorem d_Mi_make_238 : decode b_Mi_make 238 = .ok (.bipush 57, 2) := by decide +kernel
theorem d_Mi_make_240 : decode b_Mi_make 240 = .ok (.if_icmp .gt 31, 3) := by decide +kernel
theorem d_Mi_make_243 : decode b_Mi_make 243 = .ok (.ldc 99, 2) := by decide +kernel
theorem d_Mi_make_245 : decode b_Mi_make 245 = .ok (.bipush 10, 2) := by decide +kernel
theorem d_Mi_make_247 : decode b_Mi_make 247 = .ok (.iload 8, 2) := by decide +kernel
theorem d_Mi_make_249 : decode b_Mi_make 249 = .ok (.imul, 1) := by decide +kernel
theorem d_Mi_make_250 : decode b_Mi_make 250 = .ok (.aload_n 0, 1) := by decide +kernel
theorem d_Mi_make_251 : decode b_Mi_make 251 = .ok (.iload 7, 2) := by decide +kernel
theorem d_Mi_make_253 : decode b_Mi_make 253 = .ok (.invokevirtual 90, 3) := by decide +kernel
theorem d_Mi_make_256 : decode b_Mi_make 256 = .ok (.iadd, 1) := by decide +kernel
theorem d_Mi_make_257 : decode b_Mi_make 257 = .ok (.bipush 48, 2) := by decide +kernel
theorem d_Mi_make_259 : decode b_Mi_make 259 = .ok (.isub, 1) := by decide +kernel
theorem d_Mi_make_260 : decode b_Mi_make 260 = .ok (.invokestatic 100, 3) := by decide +kernel
theorem d_Mi_make_263 : decode b_Mi_make 263 = .ok (.istore 8, 2) := by decide +kernel
theorem d_Mi_make_265 : decode b_Mi_make 265 = .ok (.iinc 7 1, 3) := by decide +kernel
theorem d_Mi_make_268 : decode b_Mi_make 268 = .ok (.goto (-47), 3) := by decide +kernel
theorem d_Mi_make_271 : decode b_Mi_make 271 = .ok (.aload_n 0, 1) := by decide +kernel
theorem d_Mi_make_272 : decode b_Mi_make 272 = .ok (.iload 7, 2) := by decide +kernel
theorem d_Mi_make_274 : decode b_Mi_make 274 = .ok (.invokevirtual 90, 3) := by decide +kernel
theorem d_Mi_make_277 : decode b_Mi_make 277 = .ok (.istore 9, 2) := by decide +kernel
theorem d_Mi_make_279 : decode b_Mi_make 279 = .ok (.iload 9, 2) := by decide +kernel
theorem d_Mi_make_281 : decode b_Mi_make 281 = .ok (.ifCond .lt 13, 3) := by decide +kernel
theorem d_Mi_make_284 : decode b_Mi_make 284 = .ok (.ldc 106, 2) := by decide +kernel
theorem d_Mi_make_286 : decode b_Mi_make 286 = .ok (.iload 9, 2) := by decide +kernel
theorem d_Mi_make_288 : decode b_Mi_make 288 = .ok (.invokevirtual 108, 3) := by decide +kernel
theorem d_Mi_make_291 : decode b_Mi_make 291 = .ok (.ifCond .ge 10, 3) := by decide +kernel
theorem d_Mi_make_294 : decode b_Mi_make 294 = .ok (.aload_n 0, 1) := by decide +kernel
theorem d_Mi_make_295 : decode b_Mi_make 295 = .ok (.bipush (-2), 2) := by decide +kernel
theorem d_Mi_make_297 : decode b_Mi_make 297 = .ok (.invokevirtual 96, 3) := by decide +kernel
theorem d_Mi_make_300 : decode b_Mi_make 300 = .ok (.ireturn, 1) := by decide +kernel
theorem d_Mi_make_301 : decode b_Mi_make 301 = .ok (.iload 7, 2) := by decide +kernel
theorem d_Mi_make_303 : decode b_Mi_make 303 = .ok (.istore_n 2, 1) := by decide +kernel
theorem d_Mi_make_304 : decode b_Mi_make 304 = .ok (.aload_n 0, 1) := by decide +kernel
theorem d_Mi_make_305 : decode b_Mi_make 305 = .ok (.getfield 10, 3) := by decide +kernel
theorem d_Mi_make_308 : decode b_Mi_make 308 = .ok (.getfield 113, 3) := by decide +kernel
theorem d_Mi_make_311 : decode b_Mi_make 311 = .ok (.iconst 0, 1) := by decide +kernel
theorem d_Mi_make_312 : decode b_Mi_make 312 = .ok (.putfield 66, 3) := by decide +kernel
theorem d_Mi_make_315 : decode b_Mi_make 315 = .ok (.iload 9, 2) := by decide +kernel
theorem d_Mi_make_317 : decode b_Mi_make 317 = .ok (.bipush 37, 2) := by decide +kernel
theorem d_Mi_make_319 : decode b_Mi_make 319 = .ok (.if_icmp .ne 15, 3) := by decide +kernel
theorem d_Mi_make_322 : decode b_Mi_make 322 = .ok (.aload_n 0, 1) := by decide +kernel
theorem d_Mi_make_323 : decode b_Mi_make 323 = .ok (.getfield 21, 3) := by decide +kernel
theorem d_Mi_make_326 : decode b_Mi_make 326 = .ok (.bipush 37, 2) := by decide +kernel
theorem d_Mi_make_328 : decode b_Mi_make 328 = .ok (.invokevirtual 93, 3) := by decide +kernel
theorem d_Mi_make_331 : decode b_Mi_make 331 = .ok (.goto 147, 3) := by decide +kernel
theorem d_Mi_make_334 : decode b_Mi_make 334 = .ok (.iload_n 1, 1) := by decide +kernel
theorem d_Mi_make_335 : decode b_Mi_make 335 = .ok (.aload_n 0, 1) := by decide +kernel
theorem d_Mi_make_336 : decode b_Mi_make 336 = .ok (.getfield 59, 3) := by decide +kernel
theorem d_Mi_make_339 : decode b_Mi_make 339 = .ok (.if_icmp .ne 10, 3) := by decide +kernel
theorem d_Mi_make_342 : decode b_Mi_make 342 = .ok (.aload_n 0, 1) := by decide +kernel
theorem d_Mi_make_343 : decode b_Mi_make 343 = .ok (.bipush (-3), 2) := by decide +kernel
theorem d_Mi_make_345 : decode b_Mi_make 345 = .ok (.invokevirtual 96, 3) := by decide +kernel
theorem d_Mi_make_348 : decode b_Mi_make 348 = .ok (.ireturn, 1) := by decide +kernel
theorem d_Mi_make_349 : decode b_Mi_make 349 = .ok (.iload 9, 2) := by decide +kernel
theorem d_Mi_make_351 : decode b_Mi_make 351 = .ok (.bipush 115, 2) := by decide +kernel
theorem d_Mi_make_353 : decode b_Mi_make 353 = .ok (.if_icmp .eq 27, 3) := by decide +kernel
theorem d_Mi_make_356 : decode b_Mi_make 356 = .ok (.aload_n 0, 1) := by decide +kernel
theorem d_Mi_make_357 : decode b_Mi_make 357 = .ok (.bipush 40, 2) := by decide +kernel
theorem d_Mi_make_359 : decode b_Mi_make 359 = .ok (.iload_n 1, 1) := by decide +kernel
theorem d_Mi_make_360 : decode b_Mi_make 360 = .ok (.imul, 1) := by decide +kernel
theorem d_Mi_make_361 : decode b_Mi_make 361 = .ok (.aload_n 0, 1) := by decide +kernel
theorem d_Mi_make_362 : decode b_Mi_make 362 = .ok (.getfield 35, 3) := by decide +kernel
theorem d_Mi_make_365 : decode b_Mi_make 365 = .ok (.iload_n 1, 1) := by decide +kernel
theorem d_Mi_make_366 : decode b_Mi_make 366 = .ok (.iaload, 1) := by decide +kernel
theorem d_Mi_make_367 : decode b_Mi_make 367 = .ok (.invokevirtual 114, 3) := by decide +kernel
theorem d_Mi_make_370 : decode b_Mi_make 370 = .ok (.ifCond .ne 10, 3) := by decide +kernel
theorem d_Mi_make_373 : decode b_Mi_make 373 = .ok (.aload_n 0, 1) := by decide +kernel
theorem d_Mi_make_374 : decode b_Mi_make 374 = .ok (.bipush (-4), 2) := by decide +kernel
theorem d_Mi_make_376 : decode b_Mi_make 376 = .ok (.invokevirtual 96, 3) := by decide +kernel
theorem d_Mi_make_379 : decode b_Mi_make 379 = .ok (.ireturn, 1) := by decide +kernel
theorem d_Mi_make_380 : decode b_Mi_make 380 = .ok (.iload 9, 2) := by decide +kernel
theorem d_Mi_make_382 : decode b_Mi_make 382 = .ok (.bipush 115, 2) := by decide +kernel
theorem d_Mi_make_384 : decode b_Mi_make 384 = .ok (.if_icmp .ne 30, 3) := by decide +kernel
theorem d_Mi_make_387 : decode b_Mi_make 387 = .ok (.aload_n 0, 1) := by decide +kernel
theorem d_Mi_make_388 : decode b_Mi_make 388 = .ok (.getfield 10, 3) := by decide +kernel
theorem d_Mi_make_391 : decode b_Mi_make 391 = .ok (.getfield 113, 3) := by decide +kernel
theorem d_Mi_make_394 : decode b_Mi_make 394 = .ok (.aload_n 0, 1) := by decide +kernel
theorem d_Mi_make_395 : decode b_Mi_make 395 = .ok (.getfield 32, 3) := by decide +kernel
theorem d_Mi_make_398 : decode b_Mi_make 398 = .ok (.bipush 40, 2) := by decide +kernel
theorem d_Mi_make_400 : decode b_Mi_make 400 = .ok (.iload_n 1, 1) := by decide +kernel
theorem d_Mi_make_401 : decode b_Mi_make 401 = .ok (.imul, 1) := by decide +kernel
theorem d_Mi_make_402 : decode b_Mi_make 402 = .ok (.aload_n 0, 1) := by decide +kernel
theorem d_Mi_make_403 : decode b_Mi_make 403 = .ok (.getfield 35, 3) := by decide +kernel
theorem d_Mi_make_406 : decode b_Mi_make 406 = .ok (.iload_n 1, 1) := by decide +kernel
theorem d_Mi_make_407 : decode b_Mi_make 407 = .ok (.iaload, 1) := by decide +kernel
theorem d_Mi_make_408 : decode b_Mi_make 408 = .ok (.invokevirtual 118, 3) := by decide +kernel
theorem d_Mi_make_411 : decode b_Mi_make 411 = .ok (.goto 20, 3) := by decide +kernel
theorem d_Mi_make_414 : decode b_Mi_make 414 = .ok (.aload_n 0, 1) := by decide +kernel
theorem d_Mi_make_415 : decode b_Mi_make 415 = .ok (.getfield 10, 3) := by decide +kernel
theorem d_Mi_make_418 : decode b_Mi_make 418 = .ok (.iload 9, 2) := by decide +kernel
theorem d_Mi_make_420 : decode b_Mi_make 420 = .ok (.aload_n 0, 1) := by decide +kernel
theorem d_Mi_make_421 : decode b_Mi_make 421 = .ok (.getfield 74, 3) := by decide +kernel
theorem d_Mi_make_424 : decode b_Mi_make 424 = .ok (.iload 5, 2) := by decide +kernel
theorem d_Mi_make_426 : decode b_Mi_make 426 = .ok (.iload 6, 2) := by decide +kernel
theorem d_Mi_make_428 : decode b_Mi_make 428 = .ok (.invokevirtual 121, 3) := by decide +kernel
theorem d_Mi_make_431 : decode b_Mi_make 431 = .ok (.iinc 1 1, 3) := by decide +kernel
theorem d_Mi_make_434 : decode b_Mi_make 434 = .ok (.aload_n 0, 1) := by decide +kernel
theorem d_Mi_make_435 : decode b_Mi_make 435 = .ok (.getfield 10, 3) := by decide +kernel
theorem d_Mi_make_438 : decode b_Mi_make 438 = .ok (.aload_n 0, 1) := by decide +kernel
theorem d_Mi_make_439 : decode b_Mi_make 439 = .ok (.getfield 21, 3) := by decide +kernel
theorem d_Mi_make_442 : decode b_Mi_make 442 = .ok (.iload 8, 2) := by decide +kernel
theorem d_Mi_make_444 : decode b_Mi_make 444 = .ok (.sipush 2048, 3) := by decide +kernel
theorem d_Mi_make_447 : decode b_Mi_make 447 = .ok (.invokestatic 100, 3) := by decide +kernel
theorem d_Mi_make_450 : decode b_Mi_make 450 = .ok (.iload_n 3, 1) := by decide +kernel
theorem d_Mi_make_451 : decode b_Mi_make 451 = .ok (.iload 4, 2) := by decide +kernel
theorem d_Mi_make_453 : decode b_Mi_make 453 = .ok (.ifCond .eq 21, 3) := by decide +kernel
theorem d_Mi_make_456 : decode b_Mi_make 456 = .ok (.iload 9, 2) := by decide +kernel
theorem d_Mi_make_458 : decode b_Mi_make 458 = .ok (.bipush 115, 2) := by decide +kernel
theorem d_Mi_make_460 : decode b_Mi_make 460 = .ok (.if_icmp .eq 14, 3) := by decide +kernel
theorem d_Mi_make_463 : decode b_Mi_make 463 = .ok (.iload 9, 2) := by decide +kernel
theorem d_Mi_make_465 : decode b_Mi_make 465 = .ok (.bipush 99, 2) := by decide +kernel
theorem d_Mi_make_467 : decode b_Mi_make 467 = .ok (.if_icmp .eq 7, 3) := by decide +kernel
theorem d_Mi_make_470 : decode b_Mi_make 470 = .ok (.iconst 1, 1) := by decide +kernel
theorem d_Mi_make_471 : decode b_Mi_make 471 = .ok (.goto 4, 3) := by decide +kernel
theorem d_Mi_make_474 : decode b_Mi_make 474 = .ok (.iconst 0, 1) := by decide +kernel
theorem d_Mi_make_475 : decode b_Mi_make 475 = .ok (.invokevirtual 125, 3) := by decide +kernel
theorem d_Mi_make_478 : decode b_Mi_make 478 = .ok (.aload_n 0, 1) := by decide +kernel
theorem d_Mi_make_479 : decode b_Mi_make 479 = .ok (.getfield 21, 3) := by decide +kernel
theorem d_Mi_make_482 : decode b_Mi_make 482 = .ok (.getfield 66, 3) := by decide +kernel
theorem d_Mi_make_485 : decode b_Mi_make 485 = .ok (.sipush 1024, 3) := by decide +kernel
theorem d_Mi_make_488 : decode b_Mi_make 488 = .ok (.if_icmp .le 10, 3) := by decide +kernel
theorem d_Mi_make_491 : decode b_Mi_make 491 = .ok (.aload_n 0, 1) := by decide +kernel
theorem d_Mi_make_492 : decode b_Mi_make 492 = .ok (.bipush (-5), 2) := by decide +kernel
theorem d_Mi_make_494 : decode b_Mi_make 494 = .ok (.invokevirtual 96, 3) := by decide +kernel
theorem d_Mi_make_497 : decode b_Mi_make 497 = .ok (.ireturn, 1) := by decide +kernel
theorem d_Mi_make_498 : decode b_Mi_make 498 = .ok (.iinc 2 1, 3) := by decide +kernel
theorem d_Mi_make_501 : decode b_Mi_make 501 = .ok (.goto (-489), 3) := by decide +kernel
theorem d_Mi_make_504 : decode b_Mi_make 504 = .ok (.aload_n 0, 1) := by decide +kernel
theorem d_Mi_make_505 : decode b_Mi_make 505 = .ok (.getfield 21, 3) := by decide +kernel
theorem d_Mi_make_508 : decode b_Mi_make 508 = .ok (.getfield 66, 3) := by decide +kernel
theorem d_Mi_make_511 : decode b_Mi_make 511 = .ok (.ireturn, 1) := by decide +kernel
theorem d_Mi_at_0 : decode b_Mi_at 0 = .ok (.iload_n 1, 1) := by decide +kernel
theorem d_Mi_at_1 : decode b_Mi_at 1 = .ok (.aload_n 0, 1) := by decide +kernel
theorem d_Mi_at_2 : decode b_Mi_at 2 = .ok (.getfield 50, 3) := by decide +kernel
theorem d_Mi_at_5 : decode b_Mi_at 5 = .ok (.if_icmp .ge 16, 3) := by decide +kernel
theorem d_Mi_at_8 : decode b_Mi_at 8 = .ok (.aload_n 0, 1) := by decide +kernel
theorem d_Mi_at_9 : decode b_Mi_at 9 = .ok (.getfield 28, 3) := by decide +kernel
theorem d_Mi_at_12 : decode b_Mi_at 12 = .ok (.iload_n 1, 1) := by decide +kernel
theorem d_Mi_at_13 : decode b_Mi_at 13 = .ok (.baload, 1) := by decide +kernel
theorem d_Mi_at_14 : decode b_Mi_at 14 = .ok (.sipush 255, 3) := by decide +kernel
theorem d_Mi_at_17 : decode b_Mi_at 17 = .ok (.iand, 1) := by decide +kernel
theorem d_Mi_at_18 : decode b_Mi_at 18 = .ok (.goto 4, 3) := by decide +kernel
theorem d_Mi_at_21 : decode b_Mi_at 21 = .ok (.iconst (-1), 1) := by decide +kernel
theorem d_Mi_at_22 : decode b_Mi_at 22 = .ok (.ireturn, 1) := by decide +kernel
theorem d_Mi_nothing_0 : decode b_Mi_nothing 0 = .ok (.aload_n 0, 1) := by decide +kernel
theorem d_Mi_nothing_1 : decode b_Mi_nothing 1 = .ok (.getfield 21, 3) := by decide +kernel
theorem d_Mi_nothing_4 : decode b_Mi_nothing 4 = .ok (.iconst 0, 1) := by decide +kernel
theorem d_Mi_nothing_5 : decode b_Mi_nothing 5 = .ok (.putfield 66, 3) := by decide +kernel
theorem d_Mi_nothing_8 : decode b_Mi_nothing 8 = .ok (.iload_n 1, 1) := by decide +kernel
theorem d_Mi_nothing_9 : decode b_Mi_nothing 9 = .ok (.ireturn, 1) := by decide +kernel
theorem d_St_indexOf1_0 : decode b_St_indexOf1 0 = .ok (.aload_n 0, 1) := by decide +kernel
theorem d_St_indexOf1_1 : decode b_St_indexOf1 1 = .ok (.iload_n 1, 1) := by decide +kernel
theorem d_St_indexOf1_2 : decode b_St_indexOf1 2 = .ok (.iconst 0, 1) := by decide +kernel
theorem d_St_indexOf1_3 : decode b_St_indexOf1 3 = .ok (.invokevirtual 633, 3) := by decide +kernel
theorem d_St_indexOf1_6 : decode b_St_indexOf1 6 = .ok (.ireturn, 1) := by decide +kernel
theorem d_St_indexOf2_0 : decode b_St_indexOf2 0 = .ok (.aload_n 0, 1) := by decide +kernel
theorem d_St_indexOf2_1 : decode b_St_indexOf2 1 = .ok (.invokevirtual 492, 3) := by decide +kernel
theorem d_St_indexOf2_4 : decode b_St_indexOf2 4 = .ok (.ifCond .eq 19, 3) := by decide +kernel
theorem d_St_indexOf2_7 : decode b_St_indexOf2 7 = .ok (.aload_n 0, 1) := by decide +kernel
theorem d_St_indexOf2_8 : decode b_St_indexOf2 8 = .ok (.getfield 9, 3) := by decide +kernel
theorem d_St_indexOf2_11 : decode b_St_indexOf2 11 = .ok (.iload_n 1, 1) := by decide +kernel
theorem d_St_indexOf2_12 : decode b_St_indexOf2 12 = .ok (.iload_n 2, 1) := by decide +kernel
theorem d_St_indexOf2_13 : decode b_St_indexOf2 13 = .ok (.aload_n 0, 1) := by decide +kernel
theorem d_St_indexOf2_14 : decode b_St_indexOf2 14 = .ok (.invokevirtual 505, 3) := by decide +kernel
theorem d_St_indexOf2_17 : decode b_St_indexOf2 17 = .ok (.invokestatic 637, 3) := by decide +kernel
theorem d_St_indexOf2_20 : decode b_St_indexOf2 20 = .ok (.goto 16, 3) := by decide +kernel
theorem d_St_indexOf2_23 : decode b_St_indexOf2 23 = .ok (.aload_n 0, 1) := by decide +kernel
theorem d_St_indexOf2_24 : decode b_St_indexOf2 24 = .ok (.getfield 9, 3) := by decide +kernel
theorem d_St_indexOf2_27 : decode b_St_indexOf2 27 = .ok (.iload_n 1, 1) := by decide +kernel
theorem d_St_indexOf2_28 : decode b_St_indexOf2 28 = .ok (.iload_n 2, 1) := by decide +kernel
theorem d_St_indexOf2_29 : decode b_St_indexOf2 29 = .ok (.aload_n 0, 1) := by decide +kernel
theorem d_St_indexOf2_30 : decode b_St_indexOf2 30 = .ok (.invokevirtual 505, 3) := by decide +kernel
theorem d_St_indexOf2_33 : decode b_St_indexOf2 33 = .ok (.invokestatic 640, 3) := by decide +kernel
theorem d_St_indexOf2_36 : decode b_St_indexOf2 36 = .ok (.ireturn, 1) := by decide +kernel
theorem d_St_isLatin1_0 : decode b_St_isLatin1 0 = .ok (.getstatic 38, 3) := by decide +kernel
theorem d_St_isLatin1_3 : decode b_St_isLatin1 3 = .ok (.ifCond .eq 14, 3) := by decide +kernel
theorem d_St_isLatin1_6 : decode b_St_isLatin1 6 = .ok (.aload_n 0, 1) := by decide +kernel
theorem d_St_isLatin1_7 : decode b_St_isLatin1 7 = .ok (.getfield 15, 3) := by decide +kernel
theorem d_St_isLatin1_10 : decode b_St_isLatin1 10 = .ok (.ifCond .ne 7, 3) := by decide +kernel
theorem d_St_isLatin1_13 : decode b_St_isLatin1 13 = .ok (.iconst 1, 1) := by decide +kernel
end
section
theorem d_St_isLatin1_14 : decode b_St_isLatin1 14 = .ok (.goto 4, 3) := by decide +kernel
theorem d_St_isLatin1_17 : decode b_St_isLatin1 17 = .ok (.iconst 0, 1) := by decide +kernel
theorem d_St_isLatin1_18 : decode b_St_isLatin1 18 = .ok (.ireturn, 1) := by decide +kernel
theorem d_St_length_0 : decode b_St_length 0 = .ok (.aload_n 0, 1) := by decide +kernel
theorem d_St_length_1 : decode b_St_length 1 = .ok (.getfield 9, 3) := by decide +kernel
theorem d_St_length_4 : decode b_St_length 4 = .ok (.arraylength, 1) := by decide +kernel
theorem d_St_length_5 : decode b_St_length 5 = .ok (.aload_n 0, 1) := by decide +kernel
theorem d_St_length_6 : decode b_St_length 6 = .ok (.invokevirtual 335, 3) := by decide +kernel
theorem d_St_length_9 : decode b_St_length 9 = .ok (.ishr, 1) := by decide +kernel
theorem d_St_length_10 : decode b_St_length 10 = .ok (.ireturn, 1) := by decide +kernel
theorem d_St_coder_0 : decode b_St_coder 0 = .ok (.getstatic 38, 3) := by decide +kernel
theorem d_St_coder_3 : decode b_St_coder 3 = .ok (.ifCond .eq 10, 3) := by decide +kernel
theorem d_St_coder_6 : decode b_St_coder 6 = .ok (.aload_n 0, 1) := by decide +kernel
theorem d_St_coder_7 : decode b_St_coder 7 = .ok (.getfield 15, 3) := by decide +kernel
theorem d_St_coder_10 : decode b_St_coder 10 = .ok (.goto 4, 3) := by decide +kernel
theorem d_St_coder_13 : decode b_St_coder 13 = .ok (.iconst 1, 1) := by decide +kernel
theorem d_St_coder_14 : decode b_St_coder 14 = .ok (.ireturn, 1) := by decide +kernel
theorem d_Sl_indexOf_0 : decode b_Sl_indexOf 0 = .ok (.iload_n 1, 1) := by decide +kernel
theorem d_Sl_indexOf_1 : decode b_Sl_indexOf 1 = .ok (.invokestatic 88, 3) := by decide +kernel
theorem d_Sl_indexOf_4 : decode b_Sl_indexOf 4 = .ok (.ifCond .ne 5, 3) := by decide +kernel
theorem d_Sl_indexOf_7 : decode b_Sl_indexOf 7 = .ok (.iconst (-1), 1) := by decide +kernel
theorem d_Sl_indexOf_8 : decode b_Sl_indexOf 8 = .ok (.ireturn, 1) := by decide +kernel
theorem d_Sl_indexOf_9 : decode b_Sl_indexOf 9 = .ok (.iload_n 2, 1) := by decide +kernel
theorem d_Sl_indexOf_10 : decode b_Sl_indexOf 10 = .ok (.iconst 0, 1) := by decide +kernel
theorem d_Sl_indexOf_11 : decode b_Sl_indexOf 11 = .ok (.invokestatic 92, 3) := by decide +kernel
theorem d_Sl_indexOf_14 : decode b_Sl_indexOf 14 = .ok (.istore_n 2, 1) := by decide +kernel
theorem d_Sl_indexOf_15 : decode b_Sl_indexOf 15 = .ok (.iload_n 3, 1) := by decide +kernel
theorem d_Sl_indexOf_16 : decode b_Sl_indexOf 16 = .ok (.aload_n 0, 1) := by decide +kernel
theorem d_Sl_indexOf_17 : decode b_Sl_indexOf 17 = .ok (.arraylength, 1) := by decide +kernel
theorem d_Sl_indexOf_18 : decode b_Sl_indexOf 18 = .ok (.invokestatic 38, 3) := by decide +kernel
theorem d_Sl_indexOf_21 : decode b_Sl_indexOf 21 = .ok (.istore_n 3, 1) := by decide +kernel
theorem d_Sl_indexOf_22 : decode b_Sl_indexOf 22 = .ok (.iload_n 2, 1) := by decide +kernel
theorem d_Sl_indexOf_23 : decode b_Sl_indexOf 23 = .ok (.iload_n 3, 1) := by decide +kernel
theorem d_Sl_indexOf_24 : decode b_Sl_indexOf 24 = .ok (.if_icmp .lt 5, 3) := by decide +kernel
theorem d_Sl_indexOf_27 : decode b_Sl_indexOf 27 = .ok (.iconst (-1), 1) := by decide +kernel
theorem d_Sl_indexOf_28 : decode b_Sl_indexOf 28 = .ok (.ireturn, 1) := by decide +kernel
theorem d_Sl_indexOf_29 : decode b_Sl_indexOf 29 = .ok (.aload_n 0, 1) := by decide +kernel
theorem d_Sl_indexOf_30 : decode b_Sl_indexOf 30 = .ok (.iload_n 1, 1) := by decide +kernel
theorem d_Sl_indexOf_31 : decode b_Sl_indexOf 31 = .ok (.iload_n 2, 1) := by decide +kernel
theorem d_Sl_indexOf_32 : decode b_Sl_indexOf 32 = .ok (.iload_n 3, 1) := by decide +kernel
theorem d_Sl_indexOf_33 : decode b_Sl_indexOf 33 = .ok (.invokestatic 95, 3) := by decide +kernel
theorem d_Sl_indexOf_36 : decode b_Sl_indexOf 36 = .ok (.ireturn, 1) := by decide +kernel
theorem d_Sl_canEncode_0 : decode b_Sl_canEncode 0 = .ok (.iload_n 0, 1) := by decide +kernel
theorem d_Sl_canEncode_1 : decode b_Sl_canEncode 1 = .ok (.ifCond .lt 14, 3) := by decide +kernel
theorem d_Sl_canEncode_4 : decode b_Sl_canEncode 4 = .ok (.iload_n 0, 1) := by decide +kernel
theorem d_Sl_canEncode_5 : decode b_Sl_canEncode 5 = .ok (.sipush 255, 3) := by decide +kernel
theorem d_Sl_canEncode_8 : decode b_Sl_canEncode 8 = .ok (.if_icmp .gt 7, 3) := by decide +kernel
theorem d_Sl_canEncode_11 : decode b_Sl_canEncode 11 = .ok (.iconst 1, 1) := by decide +kernel
theorem d_Sl_canEncode_12 : decode b_Sl_canEncode 12 = .ok (.goto 4, 3) := by decide +kernel
theorem d_Sl_canEncode_15 : decode b_Sl_canEncode 15 = .ok (.iconst 0, 1) := by decide +kernel
theorem d_Sl_canEncode_16 : decode b_Sl_canEncode 16 = .ok (.ireturn, 1) := by decide +kernel
theorem d_Sl_indexOfChar_0 : decode b_Sl_indexOfChar 0 = .ok (.iload_n 1, 1) := by decide +kernel
theorem d_Sl_indexOfChar_1 : decode b_Sl_indexOfChar 1 = .ok (.i2b, 1) := by decide +kernel
theorem d_Sl_indexOfChar_2 : decode b_Sl_indexOfChar 2 = .ok (.istore 4, 2) := by decide +kernel
theorem d_Sl_indexOfChar_4 : decode b_Sl_indexOfChar 4 = .ok (.iload_n 2, 1) := by decide +kernel
theorem d_Sl_indexOfChar_5 : decode b_Sl_indexOfChar 5 = .ok (.istore 5, 2) := by decide +kernel
theorem d_Sl_indexOfChar_7 : decode b_Sl_indexOfChar 7 = .ok (.iload 5, 2) := by decide +kernel
theorem d_Sl_indexOfChar_9 : decode b_Sl_indexOfChar 9 = .ok (.iload_n 3, 1) := by decide +kernel
theorem d_Sl_indexOfChar_10 : decode b_Sl_indexOfChar 10 = .ok (.if_icmp .ge 21, 3) := by decide +kernel
theorem d_Sl_indexOfChar_13 : decode b_Sl_indexOfChar 13 = .ok (.aload_n 0, 1) := by decide +kernel
theorem d_Sl_indexOfChar_14 : decode b_Sl_indexOfChar 14 = .ok (.iload 5, 2) := by decide +kernel
theorem d_Sl_indexOfChar_16 : decode b_Sl_indexOfChar 16 = .ok (.baload, 1) := by decide +kernel
theorem d_Sl_indexOfChar_17 : decode b_Sl_indexOfChar 17 = .ok (.iload 4, 2) := by decide +kernel
theorem d_Sl_indexOfChar_19 : decode b_Sl_indexOfChar 19 = .ok (.if_icmp .ne 6, 3) := by decide +kernel
theorem d_Sl_indexOfChar_22 : decode b_Sl_indexOfChar 22 = .ok (.iload 5, 2) := by decide +kernel
theorem d_Sl_indexOfChar_24 : decode b_Sl_indexOfChar 24 = .ok (.ireturn, 1) := by decide +kernel
theorem d_Sl_indexOfChar_25 : decode b_Sl_indexOfChar 25 = .ok (.iinc 5 1, 3) := by decide +kernel
theorem d_Sl_indexOfChar_28 : decode b_Sl_indexOfChar 28 = .ok (.goto (-21), 3) := by decide +kernel
theorem d_Sl_indexOfChar_31 : decode b_Sl_indexOfChar 31 = .ok (.iconst (-1), 1) := by decide +kernel
theorem d_Sl_indexOfChar_32 : decode b_Sl_indexOfChar 32 = .ok (.ireturn, 1) := by decide +kernel
theorem d_Mi_isInteger_0 : decode b_Mi_isInteger 0 = .ok (.iload_n 2, 1) := by decide +kernel
theorem d_Mi_isInteger_1 : decode b_Mi_isInteger 1 = .ok (.ifCond .le 29, 3) := by decide +kernel
theorem d_Mi_isInteger_4 : decode b_Mi_isInteger 4 = .ok (.aload_n 0, 1) := by decide +kernel
theorem d_Mi_isInteger_5 : decode b_Mi_isInteger 5 = .ok (.getfield 32, 3) := by decide +kernel
theorem d_Mi_isInteger_8 : decode b_Mi_isInteger 8 = .ok (.iload_n 1, 1) := by decide +kernel
theorem d_Mi_isInteger_9 : decode b_Mi_isInteger 9 = .ok (.baload, 1) := by decide +kernel
theorem d_Mi_isInteger_10 : decode b_Mi_isInteger 10 = .ok (.bipush 45, 2) := by decide +kernel
theorem d_Mi_isInteger_12 : decode b_Mi_isInteger 12 = .ok (.if_icmp .eq 14, 3) := by decide +kernel
theorem d_Mi_isInteger_15 : decode b_Mi_isInteger 15 = .ok (.aload_n 0, 1) := by decide +kernel
theorem d_Mi_isInteger_16 : decode b_Mi_isInteger 16 = .ok (.getfield 32, 3) := by decide +kernel
theorem d_Mi_isInteger_19 : decode b_Mi_isInteger 19 = .ok (.iload_n 1, 1) := by decide +kernel
theorem d_Mi_isInteger_20 : decode b_Mi_isInteger 20 = .ok (.baload, 1) := by decide +kernel
theorem d_Mi_isInteger_21 : decode b_Mi_isInteger 21 = .ok (.bipush 43, 2) := by decide +kernel
theorem d_Mi_isInteger_23 : decode b_Mi_isInteger 23 = .ok (.if_icmp .ne 7, 3) := by decide +kernel
theorem d_Mi_isInteger_26 : decode b_Mi_isInteger 26 = .ok (.iconst 1, 1) := by decide +kernel
theorem d_Mi_isInteger_27 : decode b_Mi_isInteger 27 = .ok (.goto 4, 3) := by decide +kernel
theorem d_Mi_isInteger_30 : decode b_Mi_isInteger 30 = .ok (.iconst 0, 1) := by decide +kernel
theorem d_Mi_isInteger_31 : decode b_Mi_isInteger 31 = .ok (.istore_n 3, 1) := by decide +kernel
theorem d_Mi_isInteger_32 : decode b_Mi_isInteger 32 = .ok (.iload_n 3, 1) := by decide +kernel
theorem d_Mi_isInteger_33 : decode b_Mi_isInteger 33 = .ok (.iconst 1, 1) := by decide +kernel
theorem d_Mi_isInteger_34 : decode b_Mi_isInteger 34 = .ok (.if_icmp .ne 18, 3) := by decide +kernel
theorem d_Mi_isInteger_37 : decode b_Mi_isInteger 37 = .ok (.aload_n 0, 1) := by decide +kernel
theorem d_Mi_isInteger_38 : decode b_Mi_isInteger 38 = .ok (.getfield 32, 3) := by decide +kernel
theorem d_Mi_isInteger_41 : decode b_Mi_isInteger 41 = .ok (.iload_n 1, 1) := by decide +kernel
theorem d_Mi_isInteger_42 : decode b_Mi_isInteger 42 = .ok (.baload, 1) := by decide +kernel
theorem d_Mi_isInteger_43 : decode b_Mi_isInteger 43 = .ok (.bipush 45, 2) := by decide +kernel
theorem d_Mi_isInteger_45 : decode b_Mi_isInteger 45 = .ok (.if_icmp .ne 7, 3) := by decide +kernel
theorem d_Mi_isInteger_48 : decode b_Mi_isInteger 48 = .ok (.iconst 1, 1) := by decide +kernel
theorem d_Mi_isInteger_49 : decode b_Mi_isInteger 49 = .ok (.goto 4, 3) := by decide +kernel
theorem d_Mi_isInteger_52 : decode b_Mi_isInteger 52 = .ok (.iconst 0, 1) := by decide +kernel
theorem d_Mi_isInteger_53 : decode b_Mi_isInteger 53 = .ok (.istore 4, 2) := by decide +kernel
theorem d_Mi_isInteger_55 : decode b_Mi_isInteger 55 = .ok (.aload_n 0, 1) := by decide +kernel
theorem d_Mi_isInteger_56 : decode b_Mi_isInteger 56 = .ok (.lconst 0, 1) := by decide +kernel
theorem d_Mi_isInteger_57 : decode b_Mi_isInteger 57 = .ok (.putfield 74, 3) := by decide +kernel
theorem d_Mi_isInteger_60 : decode b_Mi_isInteger 60 = .ok (.iload_n 2, 1) := by decide +kernel
theorem d_Mi_isInteger_61 : decode b_Mi_isInteger 61 = .ok (.iload_n 3, 1) := by decide +kernel
theorem d_Mi_isInteger_62 : decode b_Mi_isInteger 62 = .ok (.isub, 1) := by decide +kernel
theorem d_Mi_isInteger_63 : decode b_Mi_isInteger 63 = .ok (.iconst 2, 1) := by decide +kernel
theorem d_Mi_isInteger_64 : decode b_Mi_isInteger 64 = .ok (.if_icmp .le 111, 3) := by decide +kernel
theorem d_Mi_isInteger_67 : decode b_Mi_isInteger 67 = .ok (.aload_n 0, 1) := by decide +kernel
theorem d_Mi_isInteger_68 : decode b_Mi_isInteger 68 = .ok (.getfield 32, 3) := by decide +kernel
theorem d_Mi_isInteger_71 : decode b_Mi_isInteger 71 = .ok (.iload_n 1, 1) := by decide +kernel
theorem d_Mi_isInteger_72 : decode b_Mi_isInteger 72 = .ok (.iload_n 3, 1) := by decide +kernel
theorem d_Mi_isInteger_73 : decode b_Mi_isInteger 73 = .ok (.iadd, 1) := by decide +kernel
theorem d_Mi_isInteger_74 : decode b_Mi_isInteger 74 = .ok (.baload, 1) := by decide +kernel
theorem d_Mi_isInteger_75 : decode b_Mi_isInteger 75 = .ok (.bipush 48, 2) := by decide +kernel
theorem d_Mi_isInteger_77 : decode b_Mi_isInteger 77 = .ok (.if_icmp .ne 98, 3) := by decide +kernel
theorem d_Mi_isInteger_80 : decode b_Mi_isInteger 80 = .ok (.aload_n 0, 1) := by decide +kernel
theorem d_Mi_isInteger_81 : decode b_Mi_isInteger 81 = .ok (.getfield 32, 3) := by decide +kernel
theorem d_Mi_isInteger_84 : decode b_Mi_isInteger 84 = .ok (.iload_n 1, 1) := by decide +kernel
theorem d_Mi_isInteger_85 : decode b_Mi_isInteger 85 = .ok (.iload_n 3, 1) := by decide +kernel
theorem d_Mi_isInteger_86 : decode b_Mi_isInteger 86 = .ok (.iadd, 1) := by decide +kernel
theorem d_Mi_isInteger_87 : decode b_Mi_isInteger 87 = .ok (.iconst 1, 1) := by decide +kernel
theorem d_Mi_isInteger_88 : decode b_Mi_isInteger 88 = .ok (.iadd, 1) := by decide +kernel
theorem d_Mi_isInteger_89 : decode b_Mi_isInteger 89 = .ok (.baload, 1) := by decide +kernel
theorem d_Mi_isInteger_90 : decode b_Mi_isInteger 90 = .ok (.bipush 120, 2) := by decide +kernel
theorem d_Mi_isInteger_92 : decode b_Mi_isInteger 92 = .ok (.if_icmp .ne 83, 3) := by decide +kernel
theorem d_Mi_isInteger_95 : decode b_Mi_isInteger 95 = .ok (.iload_n 3, 1) := by decide +kernel
theorem d_Mi_isInteger_96 : decode b_Mi_isInteger 96 = .ok (.iconst 2, 1) := by decide +kernel
theorem d_Mi_isInteger_97 : decode b_Mi_isInteger 97 = .ok (.iadd, 1) := by decide +kernel
theorem d_Mi_isInteger_98 : decode b_Mi_isInteger 98 = .ok (.istore 5, 2) := by decide +kernel
theorem d_Mi_isInteger_100 : decode b_Mi_isInteger 100 = .ok (.iload 5, 2) := by decide +kernel
theorem d_Mi_isInteger_102 : decode b_Mi_isInteger 102 = .ok (.iload_n 2, 1) := by decide +kernel
theorem d_Mi_isInteger_103 : decode b_Mi_isInteger 103 = .ok (.if_icmp .ge 56, 3) := by decide +kernel
theorem d_Mi_isInteger_106 : decode b_Mi_isInteger 106 = .ok (.aload_n 0, 1) := by decide +kernel
theorem d_Mi_isInteger_107 : decode b_Mi_isInteger 107 = .ok (.getfield 32, 3) := by decide +kernel
theorem d_Mi_isInteger_110 : decode b_Mi_isInteger 110 = .ok (.iload_n 1, 1) := by decide +kernel
theorem d_Mi_isInteger_111 : decode b_Mi_isInteger 111 = .ok (.iload 5, 2) := by decide +kernel
theorem d_Mi_isInteger_113 : decode b_Mi_isInteger 113 = .ok (.iadd, 1) := by decide +kernel
theorem d_Mi_isInteger_114 : decode b_Mi_isInteger 114 = .ok (.baload, 1) := by decide +kernel
theorem d_Mi_isInteger_115 : decode b_Mi_isInteger 115 = .ok (.sipush 255, 3) := by decide +kernel
theorem d_Mi_isInteger_118 : decode b_Mi_isInteger 118 = .ok (.iand, 1) := by decide +kernel
theorem d_Mi_isInteger_119 : decode b_Mi_isInteger 119 = .ok (.invokestatic 78, 3) := by decide +kernel
theorem d_Mi_isInteger_122 : decode b_Mi_isInteger 122 = .ok (.istore 6, 2) := by decide +kernel
theorem d_Mi_isInteger_124 : decode b_Mi_isInteger 124 = .ok (.iload 6, 2) := by decide +kernel
theorem d_Mi_isInteger_126 : decode b_Mi_isInteger 126 = .ok (.ifCond .lt 11, 3) := by decide +kernel
theorem d_Mi_isInteger_129 : decode b_Mi_isInteger 129 = .ok (.iload_n 2, 1) := by decide +kernel
theorem d_Mi_isInteger_130 : decode b_Mi_isInteger 130 = .ok (.iload_n 3, 1) := by decide +kernel
theorem d_Mi_isInteger_131 : decode b_Mi_isInteger 131 = .ok (.isub, 1) := by decide +kernel
theorem d_Mi_isInteger_132 : decode b_Mi_isInteger 132 = .ok (.bipush 18, 2) := by decide +kernel
theorem d_Mi_isInteger_134 : decode b_Mi_isInteger 134 = .ok (.if_icmp .le 5, 3) := by decide +kernel
theorem d_Mi_isInteger_137 : decode b_Mi_isInteger 137 = .ok (.iconst 0, 1) := by decide +kernel
theorem d_Mi_isInteger_138 : decode b_Mi_isInteger 138 = .ok (.ireturn, 1) := by decide +kernel
theorem d_Mi_isInteger_139 : decode b_Mi_isInteger 139 = .ok (.aload_n 0, 1) := by decide +kernel
theorem d_Mi_isInteger_140 : decode b_Mi_isInteger 140 = .ok (.aload_n 0, 1) := by decide +kernel
theorem d_Mi_isInteger_141 : decode b_Mi_isInteger 141 = .ok (.getfield 74, 3) := by decide +kernel
theorem d_Mi_isInteger_144 : decode b_Mi_isInteger 144 = .ok (.iconst 4, 1) := by decide +kernel
theorem d_Mi_isInteger_145 : decode b_Mi_isInteger 145 = .ok (.lshl, 1) := by decide +kernel
theorem d_Mi_isInteger_146 : decode b_Mi_isInteger 146 = .ok (.iload 6, 2) := by decide +kernel
theorem d_Mi_isInteger_148 : decode b_Mi_isInteger 148 = .ok (.i2l, 1) := by decide +kernel
theorem d_Mi_isInteger_149 : decode b_Mi_isInteger 149 = .ok (.lor, 1) := by decide +kernel
theorem d_Mi_isInteger_150 : decode b_Mi_isInteger 150 = .ok (.putfield 74, 3) := by decide +kernel
theorem d_Mi_isInteger_153 : decode b_Mi_isInteger 153 = .ok (.iinc 5 1, 3) := by decide +kernel
theorem d_Mi_isInteger_156 : decode b_Mi_isInteger 156 = .ok (.goto (-56), 3) := by decide +kernel
theorem d_Mi_isInteger_159 : decode b_Mi_isInteger 159 = .ok (.iload 4, 2) := by decide +kernel
theorem d_Mi_isInteger_161 : decode b_Mi_isInteger 161 = .ok (.ifCond .eq 12, 3) := by decide +kernel
theorem d_Mi_isInteger_164 : decode b_Mi_isInteger 164 = .ok (.aload_n 0, 1) := by decide +kernel
theorem d_Mi_isInteger_165 : decode b_Mi_isInteger 165 = .ok (.aload_n 0, 1) := by decide +kernel
theorem d_Mi_isInteger_166 : decode b_Mi_isInteger 166 = .ok (.getfield 74, 3) := by decide +kernel
theorem d_Mi_isInteger_169 : decode b_Mi_isInteger 169 = .ok (.lneg, 1) := by decide +kernel
theorem d_Mi_isInteger_170 : decode b_Mi_isInteger 170 = .ok (.putfield 74, 3) := by decide +kernel
theorem d_Mi_isInteger_173 : decode b_Mi_isInteger 173 = .ok (.iconst 1, 1) := by decide +kernel
theorem d_Mi_isInteger_174 : decode b_Mi_isInteger 174 = .ok (.ireturn, 1) := by decide +kernel
theorem d_Mi_isInteger_175 : decode b_Mi_isInteger 175 = .ok (.iload_n 3, 1) := by decide +kernel
theorem d_Mi_isInteger_176 : decode b_Mi_isInteger 176 = .ok (.istore 5, 2) := by decide +kernel
theorem d_Mi_isInteger_178 : decode b_Mi_isInteger 178 = .ok (.iload 5, 2) := by decide +kernel
theorem d_Mi_isInteger_180 : decode b_Mi_isInteger 180 = .ok (.iload_n 2, 1) := by decide +kernel
theorem d_Mi_isInteger_181 : decode b_Mi_isInteger 181 = .ok (.if_icmp .ge 82, 3) := by decide +kernel
theorem d_Mi_isInteger_184 : decode b_Mi_isInteger 184 = .ok (.aload_n 0, 1) := by decide +kernel
theorem d_Mi_isInteger_185 : decode b_Mi_isInteger 185 = .ok (.getfield 32, 3) := by decide +kernel
theorem d_Mi_isInteger_188 : decode b_Mi_isInteger 188 = .ok (.iload_n 1, 1) := by decide +kernel
theorem d_Mi_isInteger_189 : decode b_Mi_isInteger 189 = .ok (.iload 5, 2) := by decide +kernel
theorem d_Mi_isInteger_191 : decode b_Mi_isInteger 191 = .ok (.iadd, 1) := by decide +kernel
theorem d_Mi_isInteger_192 : decode b_Mi_isInteger 192 = .ok (.baload, 1) := by decide +kernel
theorem d_Mi_isInteger_193 : decode b_Mi_isInteger 193 = .ok (.bipush 48, 2) := by decide +kernel
theorem d_Mi_isInteger_195 : decode b_Mi_isInteger 195 = .ok (.isub, 1) := by decide +kernel
theorem d_Mi_isInteger_196 : decode b_Mi_isInteger 196 = .ok (.istore 6, 2) := by decide +kernel
theorem d_Mi_isInteger_198 : decode b_Mi_isInteger 198 = .ok (.iload 6, 2) := by decide +kernel
theorem d_Mi_isInteger_200 : decode b_Mi_isInteger 200 = .ok (.ifCond .lt 39, 3) := by decide +kernel
theorem d_Mi_isInteger_203 : decode b_Mi_isInteger 203 = .ok (.iload 6, 2) := by decide +kernel
theorem d_Mi_isInteger_205 : decode b_Mi_isInteger 205 = .ok (.bipush 9, 2) := by decide +kernel
theorem d_Mi_isInteger_207 : decode b_Mi_isInteger 207 = .ok (.if_icmp .gt 32, 3) := by decide +kernel
theorem d_Mi_isInteger_210 : decode b_Mi_isInteger 210 = .ok (.aload_n 0, 1) := by decide +kernel
theorem d_Mi_isInteger_211 : decode b_Mi_isInteger 211 = .ok (.getfield 74, 3) := by decide +kernel
theorem d_Mi_isInteger_214 : decode b_Mi_isInteger 214 = .ok (.ldc2_w 82, 3) := by decide +kernel
theorem d_Mi_isInteger_217 : decode b_Mi_isInteger 217 = .ok (.lcmp, 1) := by decide +kernel
theorem d_Mi_isInteger_218 : decode b_Mi_isInteger 218 = .ok (.ifCond .lt 21, 3) := by decide +kernel
theorem d_Mi_isInteger_221 : decode b_Mi_isInteger 221 = .ok (.aload_n 0, 1) := by decide +kernel
theorem d_Mi_isInteger_222 : decode b_Mi_isInteger 222 = .ok (.getfield 74, 3) := by decide +kernel
theorem d_Mi_isInteger_225 : decode b_Mi_isInteger 225 = .ok (.ldc2_w 82, 3) := by decide +kernel
theorem d_Mi_isInteger_228 : decode b_Mi_isInteger 228 = .ok (.lcmp, 1) := by decide +kernel
theorem d_Mi_isInteger_229 : decode b_Mi_isInteger 229 = .ok (.ifCond .ne 12, 3) := by decide +kernel
theorem d_Mi_isInteger_232 : decode b_Mi_isInteger 232 = .ok (.iload 6, 2) := by decide +kernel
theorem d_Mi_isInteger_234 : decode b_Mi_isInteger 234 = .ok (.bipush 8, 2) := by decide +kernel
theorem d_Mi_isInteger_236 : decode b_Mi_isInteger 236 = .ok (.if_icmp .le 5, 3) := by decide +kernel
theorem d_Mi_isInteger_239 : decode b_Mi_isInteger 239 = .ok (.iconst 0, 1) := by decide +kernel
theorem d_Mi_isInteger_240 : decode b_Mi_isInteger 240 = .ok (.ireturn, 1) := by decide +kernel
theorem d_Mi_isInteger_241 : decode b_Mi_isInteger 241 = .ok (.aload_n 0, 1) := by decide +kernel
theorem d_Mi_isInteger_242 : decode b_Mi_isInteger 242 = .ok (.ldc2_w 84, 3) := by decide +kernel
theorem d_Mi_isInteger_245 : decode b_Mi_isInteger 245 = .ok (.aload_n 0, 1) := by decide +kernel
theorem d_Mi_isInteger_246 : decode b_Mi_isInteger 246 = .ok (.getfield 74, 3) := by decide +kernel
theorem d_Mi_isInteger_249 : decode b_Mi_isInteger 249 = .ok (.lmul, 1) := by decide +kernel
theorem d_Mi_isInteger_250 : decode b_Mi_isInteger 250 = .ok (.iload 6, 2) := by decide +kernel
theorem d_Mi_isInteger_252 : decode b_Mi_isInteger 252 = .ok (.i2l, 1) := by decide +kernel
theorem d_Mi_isInteger_253 : decode b_Mi_isInteger 253 = .ok (.lsub, 1) := by decide +kernel
theorem d_Mi_isInteger_254 : decode b_Mi_isInteger 254 = .ok (.putfield 74, 3) := by decide +kernel
theorem d_Mi_isInteger_257 : decode b_Mi_isInteger 257 = .ok (.iinc 5 1, 3) := by decide +kernel
theorem d_Mi_isInteger_260 : decode b_Mi_isInteger 260 = .ok (.goto (-82), 3) := by decide +kernel
theorem d_Mi_isInteger_263 : decode b_Mi_isInteger 263 = .ok (.iload_n 2, 1) := by decide +kernel
theorem d_Mi_isInteger_264 : decode b_Mi_isInteger 264 = .ok (.iload_n 3, 1) := by decide +kernel
theorem d_Mi_isInteger_265 : decode b_Mi_isInteger 265 = .ok (.if_icmp .eq 19, 3) := by decide +kernel
theorem d_Mi_isInteger_268 : decode b_Mi_isInteger 268 = .ok (.iload 4, 2) := by decide +kernel
theorem d_Mi_isInteger_270 : decode b_Mi_isInteger 270 = .ok (.ifCond .ne 16, 3) := by decide +kernel
theorem d_Mi_isInteger_273 : decode b_Mi_isInteger 273 = .ok (.aload_n 0, 1) := by decide +kernel
theorem d_Mi_isInteger_274 : decode b_Mi_isInteger 274 = .ok (.getfield 74, 3) := by decide +kernel
theorem d_Mi_isInteger_277 : decode b_Mi_isInteger 277 = .ok (.ldc2_w 88, 3) := by decide +kernel
theorem d_Mi_isInteger_280 : decode b_Mi_isInteger 280 = .ok (.lcmp, 1) := by decide +kernel
theorem d_Mi_isInteger_281 : decode b_Mi_isInteger 281 = .ok (.ifCond .ne 5, 3) := by decide +kernel
theorem d_Mi_isInteger_284 : decode b_Mi_isInteger 284 = .ok (.iconst 0, 1) := by decide +kernel
theorem d_Mi_isInteger_285 : decode b_Mi_isInteger 285 = .ok (.ireturn, 1) := by decide +kernel
theorem d_Mi_isInteger_286 : decode b_Mi_isInteger 286 = .ok (.iload 4, 2) := by decide +kernel
theorem d_Mi_isInteger_288 : decode b_Mi_isInteger 288 = .ok (.ifCond .ne 12, 3) := by decide +kernel
theorem d_Mi_isInteger_291 : decode b_Mi_isInteger 291 = .ok (.aload_n 0, 1) := by decide +kernel
theorem d_Mi_isInteger_292 : decode b_Mi_isInteger 292 = .ok (.aload_n 0, 1) := by decide +kernel
theorem d_Mi_isInteger_293 : decode b_Mi_isInteger 293 = .ok (.getfield 74, 3) := by decide +kernel
theorem d_Mi_isInteger_296 : decode b_Mi_isInteger 296 = .ok (.lneg, 1) := by decide +kernel
theorem d_Mi_isInteger_297 : decode b_Mi_isInteger 297 = .ok (.putfield 74, 3) := by decide +kernel
theorem d_Mi_isInteger_300 : decode b_Mi_isInteger 300 = .ok (.iconst 1, 1) := by decide +kernel
theorem d_Mi_isInteger_301 : decode b_Mi_isInteger 301 = .ok (.ireturn, 1) := by decide +kernel
theorem d_Mi_hexadecimal_0 : decode b_Mi_hexadecimal 0 = .ok (.iload_n 0, 1) := by decide +kernel
theorem d_Mi_hexadecimal_1 : decode b_Mi_hexadecimal 1 = .ok (.bipush 48, 2) := by decide +kernel
theorem d_Mi_hexadecimal_3 : decode b_Mi_hexadecimal 3 = .ok (.if_icmp .lt 16, 3) := by decide +kernel
theorem d_Mi_hexadecimal_6 : decode b_Mi_hexadecimal 6 = .ok (.iload_n 0, 1) := by decide +kernel
theorem d_Mi_hexadecimal_7 : decode b_Mi_hexadecimal 7 = .ok (.bipush 57, 2) := by decide +kernel
theorem d_Mi_hexadecimal_9 : decode b_Mi_hexadecimal 9 = .ok (.if_icmp .gt 10, 3) := by decide +kernel
theorem d_Mi_hexadecimal_12 : decode b_Mi_hexadecimal 12 = .ok (.iload_n 0, 1) := by decide +kernel
theorem d_Mi_hexadecimal_13 : decode b_Mi_hexadecimal 13 = .ok (.bipush 48, 2) := by decide +kernel
theorem d_Mi_hexadecimal_15 : decode b_Mi_hexadecimal 15 = .ok (.isub, 1) := by decide +kernel
theorem d_Mi_hexadecimal_16 : decode b_Mi_hexadecimal 16 = .ok (.goto 48, 3) := by decide +kernel
theorem d_Mi_hexadecimal_19 : decode b_Mi_hexadecimal 19 = .ok (.iload_n 0, 1) := by decide +kernel
theorem d_Mi_hexadecimal_20 : decode b_Mi_hexadecimal 20 = .ok (.bipush 97, 2) := by decide +kernel
theorem d_Mi_hexadecimal_22 : decode b_Mi_hexadecimal 22 = .ok (.if_icmp .lt 19, 3) := by decide +kernel
theorem d_Mi_hexadecimal_25 : decode b_Mi_hexadecimal 25 = .ok (.iload_n 0, 1) := by decide +kernel
theorem d_Mi_hexadecimal_26 : decode b_Mi_hexadecimal 26 = .ok (.bipush 102, 2) := by decide +kernel
theorem d_Mi_hexadecimal_28 : decode b_Mi_hexadecimal 28 = .ok (.if_icmp .gt 13, 3) := by decide +kernel
theorem d_Mi_hexadecimal_31 : decode b_Mi_hexadecimal 31 = .ok (.iload_n 0, 1) := by decide +kernel
theorem d_Mi_hexadecimal_32 : decode b_Mi_hexadecimal 32 = .ok (.bipush 97, 2) := by decide +kernel
theorem d_Mi_hexadecimal_34 : decode b_Mi_hexadecimal 34 = .ok (.isub, 1) := by decide +kernel
theorem d_Mi_hexadecimal_35 : decode b_Mi_hexadecimal 35 = .ok (.bipush 10, 2) := by decide +kernel
theorem d_Mi_hexadecimal_37 : decode b_Mi_hexadecimal 37 = .ok (.iadd, 1) := by decide +kernel
theorem d_Mi_hexadecimal_38 : decode b_Mi_hexadecimal 38 = .ok (.goto 26, 3) := by decide +kernel
theorem d_Mi_hexadecimal_41 : decode b_Mi_hexadecimal 41 = .ok (.iload_n 0, 1) := by decide +kernel
theorem d_Mi_hexadecimal_42 : decode b_Mi_hexadecimal 42 = .ok (.bipush 65, 2) := by decide +kernel
theorem d_Mi_hexadecimal_44 : decode b_Mi_hexadecimal 44 = .ok (.if_icmp .lt 19, 3) := by decide +kernel
theorem d_Mi_hexadecimal_47 : decode b_Mi_hexadecimal 47 = .ok (.iload_n 0, 1) := by decide +kernel
theorem d_Mi_hexadecimal_48 : decode b_Mi_hexadecimal 48 = .ok (.bipush 70, 2) := by decide +kernel
theorem d_Mi_hexadecimal_50 : decode b_Mi_hexadecimal 50 = .ok (.if_icmp .gt 13, 3) := by decide +kernel
theorem d_Mi_hexadecimal_53 : decode b_Mi_hexadecimal 53 = .ok (.iload_n 0, 1) := by decide +kernel
theorem d_Mi_hexadecimal_54 : decode b_Mi_hexadecimal 54 = .ok (.bipush 65, 2) := by decide +kernel
theorem d_Mi_hexadecimal_56 : decode b_Mi_hexadecimal 56 = .ok (.isub, 1) := by decide +kernel
theorem d_Mi_hexadecimal_57 : decode b_Mi_hexadecimal 57 = .ok (.bipush 10, 2) := by decide +kernel
theorem d_Mi_hexadecimal_59 : decode b_Mi_hexadecimal 59 = .ok (.iadd, 1) := by decide +kernel
theorem d_Mi_hexadecimal_60 : decode b_Mi_hexadecimal 60 = .ok (.goto 4, 3) := by decide +kernel
theorem d_Mi_hexadecimal_63 : decode b_Mi_hexadecimal 63 = .ok (.iconst (-1), 1) := by decide +kernel
theorem d_Mi_hexadecimal_64 : decode b_Mi_hexadecimal 64 = .ok (.ireturn, 1) := by decide +kernel
theorem d_Ro_add_0 : decode b_Ro_add 0 = .ok (.iconst 0, 1) := by decide +kernel
theorem d_Ro_add_1 : decode b_Ro_add 1 = .ok (.istore 4, 2) := by decide +kernel
theorem d_Ro_add_3 : decode b_Ro_add 3 = .ok (.iload 4, 2) := by decide +kernel
theorem d_Ro_add_5 : decode b_Ro_add 5 = .ok (.iload_n 3, 1) := by decide +kernel
theorem d_Ro_add_6 : decode b_Ro_add 6 = .ok (.if_icmp .ge 19, 3) := by decide +kernel
theorem d_Ro_add_9 : decode b_Ro_add 9 = .ok (.aload_n 0, 1) := by decide +kernel
theorem d_Ro_add_10 : decode b_Ro_add 10 = .ok (.aload_n 1, 1) := by decide +kernel
theorem d_Ro_add_11 : decode b_Ro_add 11 = .ok (.iload_n 2, 1) := by decide +kernel
theorem d_Ro_add_12 : decode b_Ro_add 12 = .ok (.iload 4, 2) := by decide +kernel
theorem d_Ro_add_14 : decode b_Ro_add 14 = .ok (.iadd, 1) := by decide +kernel
theorem d_Ro_add_15 : decode b_Ro_add 15 = .ok (.baload, 1) := by decide +kernel
theorem d_Ro_add_16 : decode b_Ro_add 16 = .ok (.invokevirtual 23, 3) := by decide +kernel
theorem d_Ro_add_19 : decode b_Ro_add 19 = .ok (.iinc 4 1, 3) := by decide +kernel
theorem d_Ro_add_22 : decode b_Ro_add 22 = .ok (.goto (-19), 3) := by decide +kernel
theorem d_Ro_add_25 : decode b_Ro_add 25 = .ok (.return_, 1) := by decide +kernel
theorem d_Fo_digits_0 : decode b_Fo_digits 0 = .ok (.aload_n 0, 1) := by decide +kernel
theorem d_Fo_digits_1 : decode b_Fo_digits 1 = .ok (.iconst 0, 1) := by decide +kernel
theorem d_Fo_digits_2 : decode b_Fo_digits 2 = .ok (.putfield 20, 3) := by decide +kernel
theorem d_Fo_digits_5 : decode b_Fo_digits 5 = .ok (.iload_n 1, 1) := by decide +kernel
theorem d_Fo_digits_6 : decode b_Fo_digits 6 = .ok (.bipush 99, 2) := by decide +kernel
theorem d_Fo_digits_8 : decode b_Fo_digits 8 = .ok (.if_icmp .ne 15, 3) := by decide +kernel
theorem d_Fo_digits_11 : decode b_Fo_digits 11 = .ok (.aload_n 0, 1) := by decide +kernel
theorem d_Fo_digits_12 : decode b_Fo_digits 12 = .ok (.getfield 14, 3) := by decide +kernel
theorem d_Fo_digits_15 : decode b_Fo_digits 15 = .ok (.lload_n 2, 1) := by decide +kernel
theorem d_Fo_digits_16 : decode b_Fo_digits 16 = .ok (.l2i, 1) := by decide +kernel
theorem d_Fo_digits_17 : decode b_Fo_digits 17 = .ok (.invokevirtual 24, 3) := by decide +kernel
theorem d_Fo_digits_20 : decode b_Fo_digits 20 = .ok (.goto 208, 3) := by decide +kernel
theorem d_Fo_digits_23 : decode b_Fo_digits 23 = .ok (.iload_n 1, 1) := by decide +kernel
theorem d_Fo_digits_24 : decode b_Fo_digits 24 = .ok (.bipush 100, 2) := by decide +kernel
theorem d_Fo_digits_26 : decode b_Fo_digits 26 = .ok (.if_icmp .ne 74, 3) := by decide +kernel
theorem d_Fo_digits_29 : decode b_Fo_digits 29 = .ok (.lload_n 2, 1) := by decide +kernel
theorem d_Fo_digits_30 : decode b_Fo_digits 30 = .ok (.lconst 0, 1) := by decide +kernel
theorem d_Fo_digits_31 : decode b_Fo_digits 31 = .ok (.lcmp, 1) := by decide +kernel
theorem d_Fo_digits_32 : decode b_Fo_digits 32 = .ok (.ifCond .lt 32, 3) := by decide +kernel
theorem d_Fo_digits_35 : decode b_Fo_digits 35 = .ok (.iload 4, 2) := by decide +kernel
theorem d_Fo_digits_37 : decode b_Fo_digits 37 = .ok (.ifCond .ne 8, 3) := by decide +kernel
theorem d_Fo_digits_40 : decode b_Fo_digits 40 = .ok (.iload 5, 2) := by decide +kernel
theorem d_Fo_digits_42 : decode b_Fo_digits 42 = .ok (.ifCond .eq 22, 3) := by decide +kernel
theorem d_Fo_digits_45 : decode b_Fo_digits 45 = .ok (.aload_n 0, 1) := by decide +kernel
theorem d_Fo_digits_46 : decode b_Fo_digits 46 = .ok (.getfield 14, 3) := by decide +kernel
theorem d_Fo_digits_49 : decode b_Fo_digits 49 = .ok (.iload 4, 2) := by decide +kernel
theorem d_Fo_digits_51 : decode b_Fo_digits 51 = .ok (.ifCond .eq 8, 3) := by decide +kernel
theorem d_Fo_digits_54 : decode b_Fo_digits 54 = .ok (.bipush 43, 2) := by decide +kernel
theorem d_Fo_digits_56 : decode b_Fo_digits 56 = .ok (.goto 5, 3) := by decide +kernel
theorem d_Fo_digits_59 : decode b_Fo_digits 59 = .ok (.bipush 32, 2) := by decide +kernel
theorem d_Fo_digits_61 : decode b_Fo_digits 61 = .ok (.invokevirtual 24, 3) := by decide +kernel
theorem d_Fo_digits_64 : decode b_Fo_digits 64 = .ok (.aload_n 0, 1) := by decide +kernel
theorem d_Fo_digits_65 : decode b_Fo_digits 65 = .ok (.getfield 14, 3) := by decide +kernel
theorem d_Fo_digits_68 : decode b_Fo_digits 68 = .ok (.lload_n 2, 1) := by decide +kernel
theorem d_Fo_digits_69 : decode b_Fo_digits 69 = .ok (.invokevirtual 27, 3) := by decide +kernel
theorem d_Fo_digits_72 : decode b_Fo_digits 72 = .ok (.aload_n 0, 1) := by decide +kernel
theorem d_Fo_digits_73 : decode b_Fo_digits 73 = .ok (.lload_n 2, 1) := by decide +kernel
theorem d_Fo_digits_74 : decode b_Fo_digits 74 = .ok (.lconst 0, 1) := by decide +kernel
theorem d_Fo_digits_75 : decode b_Fo_digits 75 = .ok (.lcmp, 1) := by decide +kernel
theorem d_Fo_digits_76 : decode b_Fo_digits 76 = .ok (.ifCond .lt 13, 3) := by decide +kernel
theorem d_Fo_digits_79 : decode b_Fo_digits 79 = .ok (.iload 4, 2) := by decide +kernel
theorem d_Fo_digits_81 : decode b_Fo_digits 81 = .ok (.ifCond .ne 8, 3) := by decide +kernel
theorem d_Fo_digits_84 : decode b_Fo_digits 84 = .ok (.iload 5, 2) := by decide +kernel
theorem d_Fo_digits_86 : decode b_Fo_digits 86 = .ok (.ifCond .eq 7, 3) := by decide +kernel
theorem d_Fo_digits_89 : decode b_Fo_digits 89 = .ok (.iconst 1, 1) := by decide +kernel
theorem d_Fo_digits_90 : decode b_Fo_digits 90 = .ok (.goto 4, 3) := by decide +kernel
theorem d_Fo_digits_93 : decode b_Fo_digits 93 = .ok (.iconst 0, 1) := by decide +kernel
theorem d_Fo_digits_94 : decode b_Fo_digits 94 = .ok (.putfield 20, 3) := by decide +kernel
theorem d_Fo_digits_97 : decode b_Fo_digits 97 = .ok (.goto 131, 3) := by decide +kernel
theorem d_Fo_digits_100 : decode b_Fo_digits 100 = .ok (.iload_n 1, 1) := by decide +kernel
theorem d_Fo_digits_101 : decode b_Fo_digits 101 = .ok (.bipush 111, 2) := by decide +kernel
theorem d_Fo_digits_103 : decode b_Fo_digits 103 = .ok (.if_icmp .ne 7, 3) := by decide +kernel
theorem d_Fo_digits_106 : decode b_Fo_digits 106 = .ok (.iconst 3, 1) := by decide +kernel
theorem d_Fo_digits_107 : decode b_Fo_digits 107 = .ok (.goto 4, 3) := by decide +kernel
theorem d_Fo_digits_110 : decode b_Fo_digits 110 = .ok (.iconst 4, 1) := by decide +kernel
theorem d_Fo_digits_111 : decode b_Fo_digits 111 = .ok (.istore 6, 2) := by decide +kernel
theorem d_Fo_digits_113 : decode b_Fo_digits 113 = .ok (.iconst 0, 1) := by decide +kernel
theorem d_Fo_digits_114 : decode b_Fo_digits 114 = .ok (.istore 7, 2) := by decide +kernel
theorem d_Fo_digits_116 : decode b_Fo_digits 116 = .ok (.iload_n 1, 1) := by decide +kernel
theorem d_Fo_digits_117 : decode b_Fo_digits 117 = .ok (.bipush 111, 2) := by decide +kernel
theorem d_Fo_digits_119 : decode b_Fo_digits 119 = .ok (.if_icmp .ne 8, 3) := by decide +kernel
theorem d_Fo_digits_122 : decode b_Fo_digits 122 = .ok (.bipush 63, 2) := by decide +kernel
theorem d_Fo_digits_124 : decode b_Fo_digits 124 = .ok (.goto 5, 3) := by decide +kernel
theorem d_Fo_digits_127 : decode b_Fo_digits 127 = .ok (.bipush 60, 2) := by decide +kernel
theorem d_Fo_digits_129 : decode b_Fo_digits 129 = .ok (.istore 8, 2) := by decide +kernel
theorem d_Fo_digits_131 : decode b_Fo_digits 131 = .ok (.iload 8, 2) := by decide +kernel
theorem d_Fo_digits_133 : decode b_Fo_digits 133 = .ok (.ifCond .lt 95, 3) := by decide +kernel
theorem d_Fo_digits_136 : decode b_Fo_digits 136 = .ok (.lload_n 2, 1) := by decide +kernel
theorem d_Fo_digits_137 : decode b_Fo_digits 137 = .ok (.iload 8, 2) := by decide +kernel
theorem d_Fo_digits_139 : decode b_Fo_digits 139 = .ok (.lushr, 1) := by decide +kernel
theorem d_Fo_digits_140 : decode b_Fo_digits 140 = .ok (.l2i, 1) := by decide +kernel
theorem d_Fo_digits_141 : decode b_Fo_digits 141 = .ok (.iconst 1, 1) := by decide +kernel
theorem d_Fo_digits_142 : decode b_Fo_digits 142 = .ok (.iload 6, 2) := by decide +kernel
theorem d_Fo_digits_144 : decode b_Fo_digits 144 = .ok (.ishl, 1) := by decide +kernel
theorem d_Fo_digits_145 : decode b_Fo_digits 145 = .ok (.iconst 1, 1) := by decide +kernel
theorem d_Fo_digits_146 : decode b_Fo_digits 146 = .ok (.isub, 1) := by decide +kernel
theorem d_Fo_digits_147 : decode b_Fo_digits 147 = .ok (.iand, 1) := by decide +kernel
theorem d_Fo_digits_148 : decode b_Fo_digits 148 = .ok (.istore 9, 2) := by decide +kernel
theorem d_Fo_digits_150 : decode b_Fo_digits 150 = .ok (.iload 7, 2) := by decide +kernel
theorem d_Fo_digits_152 : decode b_Fo_digits 152 = .ok (.ifCond .ne 13, 3) := by decide +kernel
theorem d_Fo_digits_155 : decode b_Fo_digits 155 = .ok (.iload 9, 2) := by decide +kernel
theorem d_Fo_digits_157 : decode b_Fo_digits 157 = .ok (.ifCond .ne 8, 3) := by decide +kernel
theorem d_Fo_digits_160 : decode b_Fo_digits 160 = .ok (.iload 8, 2) := by decide +kernel
theorem d_Fo_digits_162 : decode b_Fo_digits 162 = .ok (.ifCond .ne 7, 3) := by decide +kernel
theorem d_Fo_digits_165 : decode b_Fo_digits 165 = .ok (.iconst 1, 1) := by decide +kernel
theorem d_Fo_digits_166 : decode b_Fo_digits 166 = .ok (.goto 4, 3) := by decide +kernel
theorem d_Fo_digits_169 : decode b_Fo_digits 169 = .ok (.iconst 0, 1) := by decide +kernel
theorem d_Fo_digits_170 : decode b_Fo_digits 170 = .ok (.istore 7, 2) := by decide +kernel
theorem d_Fo_digits_172 : decode b_Fo_digits 172 = .ok (.iload 7, 2) := by decide +kernel
theorem d_Fo_digits_174 : decode b_Fo_digits 174 = .ok (.ifCond .eq 44, 3) := by decide +kernel
theorem d_Fo_digits_177 : decode b_Fo_digits 177 = .ok (.aload_n 0, 1) := by decide +kernel
theorem d_Fo_digits_178 : decode b_Fo_digits 178 = .ok (.getfield 14, 3) := by decide +kernel
theorem d_Fo_digits_181 : decode b_Fo_digits 181 = .ok (.iload 9, 2) := by decide +kernel
theorem d_Fo_digits_183 : decode b_Fo_digits 183 = .ok (.bipush 10, 2) := by decide +kernel
theorem d_Fo_digits_185 : decode b_Fo_digits 185 = .ok (.if_icmp .ge 11, 3) := by decide +kernel
theorem d_Fo_digits_188 : decode b_Fo_digits 188 = .ok (.bipush 48, 2) := by decide +kernel
theorem d_Fo_digits_190 : decode b_Fo_digits 190 = .ok (.iload 9, 2) := by decide +kernel
theorem d_Fo_digits_192 : decode b_Fo_digits 192 = .ok (.iadd, 1) := by decide +kernel
theorem d_Fo_digits_193 : decode b_Fo_digits 193 = .ok (.goto 22, 3) := by decide +kernel
theorem d_Fo_digits_196 : decode b_Fo_digits 196 = .ok (.iload_n 1, 1) := by decide +kernel
theorem d_Fo_digits_197 : decode b_Fo_digits 197 = .ok (.bipush 88, 2) := by decide +kernel
theorem d_Fo_digits_199 : decode b_Fo_digits 199 = .ok (.if_icmp .ne 8, 3) := by decide +kernel
theorem d_Fo_digits_202 : decode b_Fo_digits 202 = .ok (.bipush 65, 2) := by decide +kernel
theorem d_Fo_digits_204 : decode b_Fo_digits 204 = .ok (.goto 5, 3) := by decide +kernel
theorem d_Fo_digits_207 : decode b_Fo_digits 207 = .ok (.bipush 97, 2) := by decide +kernel
theorem d_Fo_digits_209 : decode b_Fo_digits 209 = .ok (.iload 9, 2) := by decide +kernel
theorem d_Fo_digits_211 : decode b_Fo_digits 211 = .ok (.iadd, 1) := by decide +kernel
theorem d_Fo_digits_212 : decode b_Fo_digits 212 = .ok (.bipush 10, 2) := by decide +kernel
theorem d_Fo_digits_214 : decode b_Fo_digits 214 = .ok (.isub, 1) := by decide +kernel
theorem d_Fo_digits_215 : decode b_Fo_digits 215 = .ok (.invokevirtual 24, 3) := by decide +kernel
theorem d_Fo_digits_218 : decode b_Fo_digits 218 = .ok (.iload 8, 2) := by decide +kernel
theorem d_Fo_digits_220 : decode b_Fo_digits 220 = .ok (.iload 6, 2) := by decide +kernel
theorem d_Fo_digits_222 : decode b_Fo_digits 222 = .ok (.isub, 1) := by decide +kernel
theorem d_Fo_digits_223 : decode b_Fo_digits 223 = .ok (.istore 8, 2) := by decide +kernel
theorem d_Fo_digits_225 : decode b_Fo_digits 225 = .ok (.goto (-94), 3) := by decide +kernel
theorem d_Fo_digits_228 : decode b_Fo_digits 228 = .ok (.return_, 1) := by decide +kernel
theorem d_Fo_put_0 : decode b_Fo_put 0 = .ok (.iconst 0, 1) := by decide +kernel
theorem d_Fo_put_1 : decode b_Fo_put 1 = .ok (.iload_n 2, 1) := by decide +kernel
theorem d_Fo_put_2 : decode b_Fo_put 2 = .ok (.aload_n 0, 1) := by decide +kernel
theorem d_Fo_put_3 : decode b_Fo_put 3 = .ok (.getfield 14, 3) := by decide +kernel
theorem d_Fo_put_6 : decode b_Fo_put 6 = .ok (.getfield 31, 3) := by decide +kernel
theorem d_Fo_put_9 : decode b_Fo_put 9 = .ok (.isub, 1) := by decide +kernel
theorem d_Fo_put_10 : decode b_Fo_put 10 = .ok (.invokestatic 34, 3) := by decide +kernel
theorem d_Fo_put_13 : decode b_Fo_put 13 = .ok (.istore 5, 2) := by decide +kernel
theorem d_Fo_put_15 : decode b_Fo_put 15 = .ok (.iload 4, 2) := by decide +kernel
theorem d_Fo_put_17 : decode b_Fo_put 17 = .ok (.ifCond .eq 11, 3) := by decide +kernel
theorem d_Fo_put_20 : decode b_Fo_put 20 = .ok (.iload_n 3, 1) := by decide +kernel
theorem d_Fo_put_21 : decode b_Fo_put 21 = .ok (.ifCond .ne 7, 3) := by decide +kernel
theorem d_Fo_put_24 : decode b_Fo_put 24 = .ok (.iconst 1, 1) := by decide +kernel
theorem d_Fo_put_25 : decode b_Fo_put 25 = .ok (.goto 4, 3) := by decide +kernel
theorem d_Fo_put_28 : decode b_Fo_put 28 = .ok (.iconst 0, 1) := by decide +kernel
theorem d_Fo_put_29 : decode b_Fo_put 29 = .ok (.istore 6, 2) := by decide +kernel
theorem d_Fo_put_31 : decode b_Fo_put 31 = .ok (.iload 6, 2) := by decide +kernel
theorem d_Fo_put_33 : decode b_Fo_put 33 = .ok (.ifCond .eq 10, 3) := by decide +kernel
theorem d_Fo_put_36 : decode b_Fo_put 36 = .ok (.aload_n 0, 1) := by decide +kernel
theorem d_Fo_put_37 : decode b_Fo_put 37 = .ok (.getfield 20, 3) := by decide +kernel
theorem d_Fo_put_40 : decode b_Fo_put 40 = .ok (.goto 4, 3) := by decide +kernel
theorem d_Fo_put_43 : decode b_Fo_put 43 = .ok (.iconst 0, 1) := by decide +kernel
theorem d_Fo_put_44 : decode b_Fo_put 44 = .ok (.istore 7, 2) := by decide +kernel
theorem d_Fo_put_46 : decode b_Fo_put 46 = .ok (.iconst 0, 1) := by decide +kernel
theorem d_Fo_put_47 : decode b_Fo_put 47 = .ok (.istore 8, 2) := by decide +kernel
theorem d_Fo_put_49 : decode b_Fo_put 49 = .ok (.iload 8, 2) := by decide +kernel
theorem d_Fo_put_51 : decode b_Fo_put 51 = .ok (.iload 5, 2) := by decide +kernel
theorem d_Fo_put_53 : decode b_Fo_put 53 = .ok (.if_icmp .ge 24, 3) := by decide +kernel
theorem d_Fo_put_56 : decode b_Fo_put 56 = .ok (.iload_n 3, 1) := by decide +kernel
theorem d_Fo_put_57 : decode b_Fo_put 57 = .ok (.ifCond .ne 20, 3) := by decide +kernel
theorem d_Fo_put_60 : decode b_Fo_put 60 = .ok (.iload 6, 2) := by decide +kernel
theorem d_Fo_put_62 : decode b_Fo_put 62 = .ok (.ifCond .ne 15, 3) := by decide +kernel
theorem d_Fo_put_65 : decode b_Fo_put 65 = .ok (.aload_n 1, 1) := by decide +kernel
theorem d_Fo_put_66 : decode b_Fo_put 66 = .ok (.bipush 32, 2) := by decide +kernel
theorem d_Fo_put_68 : decode b_Fo_put 68 = .ok (.invokevirtual 24, 3) := by decide +kernel
theorem d_Fo_put_71 : decode b_Fo_put 71 = .ok (.iinc 8 1, 3) := by decide +kernel
theorem d_Fo_put_74 : decode b_Fo_put 74 = .ok (.goto (-25), 3) := by decide +kernel
theorem d_Fo_put_77 : decode b_Fo_put 77 = .ok (.aload_n 1, 1) := by decide +kernel
theorem d_Fo_put_78 : decode b_Fo_put 78 = .ok (.aload_n 0, 1) := by decide +kernel
theorem d_Fo_put_79 : decode b_Fo_put 79 = .ok (.getfield 14, 3) := by decide +kernel
theorem d_Fo_put_82 : decode b_Fo_put 82 = .ok (.getfield 40, 3) := by decide +kernel
theorem d_Fo_put_85 : decode b_Fo_put 85 = .ok (.iconst 0, 1) := by decide +kernel
theorem d_Fo_put_86 : decode b_Fo_put 86 = .ok (.iload 7, 2) := by decide +kernel
theorem d_Fo_put_88 : decode b_Fo_put 88 = .ok (.invokevirtual 44, 3) := by decide +kernel
theorem d_Fo_put_91 : decode b_Fo_put 91 = .ok (.iconst 0, 1) := by decide +kernel
theorem d_Fo_put_92 : decode b_Fo_put 92 = .ok (.istore 8, 2) := by decide +kernel
theorem d_Fo_put_94 : decode b_Fo_put 94 = .ok (.iload 8, 2) := by decide +kernel
theorem d_Fo_put_96 : decode b_Fo_put 96 = .ok (.iload 5, 2) := by decide +kernel
theorem d_Fo_put_98 : decode b_Fo_put 98 = .ok (.if_icmp .ge 20, 3) := by decide +kernel
theorem d_Fo_put_101 : decode b_Fo_put 101 = .ok (.iload 6, 2) := by decide +kernel
theorem d_Fo_put_103 : decode b_Fo_put 103 = .ok (.ifCond .eq 15, 3) := by decide +kernel
theorem d_Fo_put_106 : decode b_Fo_put 106 = .ok (.aload_n 1, 1) := by decide +kernel
theorem d_Fo_put_107 : decode b_Fo_put 107 = .ok (.bipush 48, 2) := by decide +kernel
theorem d_Fo_put_109 : decode b_Fo_put 109 = .ok (.invokevirtual 24, 3) := by decide +kernel
theorem d_Fo_put_112 : decode b_Fo_put 112 = .ok (.iinc 8 1, 3) := by decide +kernel
theorem d_Fo_put_115 : decode b_Fo_put 115 = .ok (.goto (-21), 3) := by decide +kernel
theorem d_Fo_put_118 : decode b_Fo_put 118 = .ok (.aload_n 1, 1) := by decide +kernel
theorem d_Fo_put_119 : decode b_Fo_put 119 = .ok (.aload_n 0, 1) := by decide +kernel
theorem d_Fo_put_120 : decode b_Fo_put 120 = .ok (.getfield 14, 3) := by decide +kernel
theorem d_Fo_put_123 : decode b_Fo_put 123 = .ok (.getfield 40, 3) := by decide +kernel
theorem d_Fo_put_126 : decode b_Fo_put 126 = .ok (.iload 7, 2) := by decide +kernel
theorem d_Fo_put_128 : decode b_Fo_put 128 = .ok (.aload_n 0, 1) := by decide +kernel
theorem d_Fo_put_129 : decode b_Fo_put 129 = .ok (.getfield 14, 3) := by decide +kernel
theorem d_Fo_put_132 : decode b_Fo_put 132 = .ok (.getfield 31, 3) := by decide +kernel
theorem d_Fo_put_135 : decode b_Fo_put 135 = .ok (.iload 7, 2) := by decide +kernel
theorem d_Fo_put_137 : decode b_Fo_put 137 = .ok (.isub, 1) := by decide +kernel
theorem d_Fo_put_138 : decode b_Fo_put 138 = .ok (.invokevirtual 44, 3) := by decide +kernel
theorem d_Fo_put_141 : decode b_Fo_put 141 = .ok (.iconst 0, 1) := by decide +kernel
theorem d_Fo_put_142 : decode b_Fo_put 142 = .ok (.istore 8, 2) := by decide +kernel
theorem d_Fo_put_144 : decode b_Fo_put 144 = .ok (.iload 8, 2) := by decide +kernel
theorem d_Fo_put_146 : decode b_Fo_put 146 = .ok (.iload 5, 2) := by decide +kernel
theorem d_Fo_put_148 : decode b_Fo_put 148 = .ok (.if_icmp .ge 19, 3) := by decide +kernel
theorem d_Fo_put_151 : decode b_Fo_put 151 = .ok (.iload_n 3, 1) := by decide +kernel
theorem d_Fo_put_152 : decode b_Fo_put 152 = .ok (.ifCond .eq 15, 3) := by decide +kernel
theorem d_Fo_put_155 : decode b_Fo_put 155 = .ok (.aload_n 1, 1) := by decide +kernel
theorem d_Fo_put_156 : decode b_Fo_put 156 = .ok (.bipush 32, 2) := by decide +kernel
theorem d_Fo_put_158 : decode b_Fo_put 158 = .ok (.invokevirtual 24, 3) := by decide +kernel
theorem d_Fo_put_161 : decode b_Fo_put 161 = .ok (.iinc 8 1, 3) := by decide +kernel
theorem d_Fo_put_164 : decode b_Fo_put 164 = .ok (.goto (-20), 3) := by decide +kernel
theorem d_Fo_put_167 : decode b_Fo_put 167 = .ok (.return_, 1) := by decide +kernel
theorem d_Mi_madeAt_0 : decode b_Mi_madeAt 0 = .ok (.iload_n 1, 1) := by decide +kernel
theorem d_Mi_madeAt_1 : decode b_Mi_madeAt 1 = .ok (.ifCond .lt 30, 3) := by decide +kernel
theorem d_Mi_madeAt_4 : decode b_Mi_madeAt 4 = .ok (.iload_n 1, 1) := by decide +kernel
theorem d_Mi_madeAt_5 : decode b_Mi_madeAt 5 = .ok (.aload_n 0, 1) := by decide +kernel
theorem d_Mi_madeAt_6 : decode b_Mi_madeAt 6 = .ok (.getfield 21, 3) := by decide +kernel
theorem d_Mi_madeAt_9 : decode b_Mi_madeAt 9 = .ok (.getfield 66, 3) := by decide +kernel
theorem d_Mi_madeAt_12 : decode b_Mi_madeAt 12 = .ok (.if_icmp .ge 19, 3) := by decide +kernel
theorem d_Mi_madeAt_15 : decode b_Mi_madeAt 15 = .ok (.aload_n 0, 1) := by decide +kernel
theorem d_Mi_madeAt_16 : decode b_Mi_madeAt 16 = .ok (.getfield 21, 3) := by decide +kernel
theorem d_Mi_madeAt_19 : decode b_Mi_madeAt 19 = .ok (.getfield 71, 3) := by decide +kernel
theorem d_Mi_madeAt_22 : decode b_Mi_madeAt 22 = .ok (.iload_n 1, 1) := by decide +kernel
theorem d_Mi_madeAt_23 : decode b_Mi_madeAt 23 = .ok (.baload, 1) := by decide +kernel
theorem d_Mi_madeAt_24 : decode b_Mi_madeAt 24 = .ok (.sipush 255, 3) := by decide +kernel
theorem d_Mi_madeAt_27 : decode b_Mi_madeAt 27 = .ok (.iand, 1) := by decide +kernel
theorem d_Mi_madeAt_28 : decode b_Mi_madeAt 28 = .ok (.goto 4, 3) := by decide +kernel
theorem d_Mi_madeAt_31 : decode b_Mi_madeAt 31 = .ok (.iconst (-1), 1) := by decide +kernel
theorem d_Mi_madeAt_32 : decode b_Mi_madeAt 32 = .ok (.ireturn, 1) := by decide +kernel
theorem d_Md_init_0 : decode b_Md_init 0 = .ok (.aload_n 0, 1) := by decide +kernel
theorem d_Md_init_1 : decode b_Md_init 1 = .ok (.invokespecial 1, 3) := by decide +kernel
theorem d_Md_init_4 : decode b_Md_init 4 = .ok (.aload_n 0, 1) := by decide +kernel
theorem d_Md_init_5 : decode b_Md_init 5 = .ok (.sipush 400, 3) := by decide +kernel
theorem d_Md_init_8 : decode b_Md_init 8 = .ok (.newarray .byte, 2) := by decide +kernel
theorem d_Md_init_10 : decode b_Md_init 10 = .ok (.putfield 7, 3) := by decide +kernel
theorem d_Md_init_13 : decode b_Md_init 13 = .ok (.aload_n 0, 1) := by decide +kernel
theorem d_Md_init_14 : decode b_Md_init 14 = .ok (.sipush 400, 3) := by decide +kernel
theorem d_Md_init_17 : decode b_Md_init 17 = .ok (.newarray .byte, 2) := by decide +kernel
theorem d_Md_init_19 : decode b_Md_init 19 = .ok (.putfield 13, 3) := by decide +kernel
theorem d_Md_init_22 : decode b_Md_init 22 = .ok (.aload_n 0, 1) := by decide +kernel
theorem d_Md_init_23 : decode b_Md_init 23 = .ok (.sipush 800, 3) := by decide +kernel
theorem d_Md_init_26 : decode b_Md_init 26 = .ok (.newarray .byte, 2) := by decide +kernel
theorem d_Md_init_28 : decode b_Md_init 28 = .ok (.putfield 16, 3) := by decide +kernel
theorem d_Md_init_31 : decode b_Md_init 31 = .ok (.aload_n 0, 1) := by decide +kernel
theorem d_Md_init_32 : decode b_Md_init 32 = .ok (.sipush 1024, 3) := by decide +kernel
theorem d_Md_init_35 : decode b_Md_init 35 = .ok (.newarray .byte, 2) := by decide +kernel
theorem d_Md_init_37 : decode b_Md_init 37 = .ok (.putfield 19, 3) := by decide +kernel
theorem d_Md_init_40 : decode b_Md_init 40 = .ok (.aload_n 0, 1) := by decide +kernel
theorem d_Md_init_41 : decode b_Md_init 41 = .ok (.bipush 20, 2) := by decide +kernel
theorem d_Md_init_43 : decode b_Md_init 43 = .ok (.newarray .int, 2) := by decide +kernel
theorem d_Md_init_45 : decode b_Md_init 45 = .ok (.putfield 22, 3) := by decide +kernel
theorem d_Md_init_48 : decode b_Md_init 48 = .ok (.aload_n 0, 1) := by decide +kernel
theorem d_Md_init_49 : decode b_Md_init 49 = .ok (.bipush 72, 2) := by decide +kernel
theorem d_Md_init_51 : decode b_Md_init 51 = .ok (.newarray .byte, 2) := by decide +kernel
theorem d_Md_init_53 : decode b_Md_init 53 = .ok (.putfield 26, 3) := by decide +kernel
theorem d_Md_init_56 : decode b_Md_init 56 = .ok (.return_, 1) := by decide +kernel
theorem d_Md_feed_0 : decode b_Md_feed 0 = .ok (.aload_n 0, 1) := by decide +kernel
theorem d_Md_feed_1 : decode b_Md_feed 1 = .ok (.getfield 29, 3) := by decide +kernel
theorem d_Md_feed_4 : decode b_Md_feed 4 = .ok (.bipush 20, 2) := by decide +kernel
theorem d_Md_feed_6 : decode b_Md_feed 6 = .ok (.iadd, 1) := by decide +kernel
theorem d_Md_feed_7 : decode b_Md_feed 7 = .ok (.sipush 400, 3) := by decide +kernel
theorem d_Md_feed_10 : decode b_Md_feed 10 = .ok (.if_icmp .le 5, 3) := by decide +kernel
theorem d_Md_feed_13 : decode b_Md_feed 13 = .ok (.iconst 0, 1) := by decide +kernel
theorem d_Md_feed_14 : decode b_Md_feed 14 = .ok (.ireturn, 1) := by decide +kernel
theorem d_Md_feed_15 : decode b_Md_feed 15 = .ok (.aload_n 0, 1) := by decide +kernel
theorem d_Md_feed_16 : decode b_Md_feed 16 = .ok (.iload_n 1, 1) := by decide +kernel
theorem d_Md_feed_17 : decode b_Md_feed 17 = .ok (.invokevirtual 33, 3) := by decide +kernel
theorem d_Md_feed_20 : decode b_Md_feed 20 = .ok (.aload_n 0, 1) := by decide +kernel
theorem d_Md_feed_21 : decode b_Md_feed 21 = .ok (.iload_n 2, 1) := by decide +kernel
theorem d_Md_feed_22 : decode b_Md_feed 22 = .ok (.invokevirtual 33, 3) := by decide +kernel
theorem d_Md_feed_25 : decode b_Md_feed 25 = .ok (.aload_n 0, 1) := by decide +kernel
theorem d_Md_feed_26 : decode b_Md_feed 26 = .ok (.iload_n 3, 1) := by decide +kernel
theorem d_Md_feed_27 : decode b_Md_feed 27 = .ok (.invokevirtual 33, 3) := by decide +kernel
theorem d_Md_feed_30 : decode b_Md_feed 30 = .ok (.aload_n 0, 1) := by decide +kernel
theorem d_Md_feed_31 : decode b_Md_feed 31 = .ok (.iload 4, 2) := by decide +kernel
theorem d_Md_feed_33 : decode b_Md_feed 33 = .ok (.invokevirtual 33, 3) := by decide +kernel
theorem d_Md_feed_36 : decode b_Md_feed 36 = .ok (.aload_n 0, 1) := by decide +kernel
theorem d_Md_feed_37 : decode b_Md_feed 37 = .ok (.iload 5, 2) := by decide +kernel
theorem d_Md_feed_39 : decode b_Md_feed 39 = .ok (.invokevirtual 33, 3) := by decide +kernel
theorem d_Md_feed_42 : decode b_Md_feed 42 = .ok (.iconst 1, 1) := by decide +kernel
theorem d_Md_feed_43 : decode b_Md_feed 43 = .ok (.ireturn, 1) := by decide +kernel
theorem d_Md_lay_0 : decode b_Md_lay 0 = .ok (.bipush 24, 2) := by decide +kernel
theorem d_Md_lay_2 : decode b_Md_lay 2 = .ok (.istore_n 2, 1) := by decide +kernel
theorem d_Md_lay_3 : decode b_Md_lay 3 = .ok (.iload_n 2, 1) := by decide +kernel
theorem d_Md_lay_4 : decode b_Md_lay 4 = .ok (.ifCond .lt 32, 3) := by decide +kernel
theorem d_Md_lay_7 : decode b_Md_lay 7 = .ok (.aload_n 0, 1) := by decide +kernel
theorem d_Md_lay_8 : decode b_Md_lay 8 = .ok (.getfield 7, 3) := by decide +kernel
theorem d_Md_lay_11 : decode b_Md_lay 11 = .ok (.aload_n 0, 1) := by decide +kernel
theorem d_Md_lay_12 : decode b_Md_lay 12 = .ok (.getfield 29, 3) := by decide +kernel
theorem d_Md_lay_15 : decode b_Md_lay 15 = .ok (.iload_n 1, 1) := by decide +kernel
theorem d_Md_lay_16 : decode b_Md_lay 16 = .ok (.iload_n 2, 1) := by decide +kernel
theorem d_Md_lay_17 : decode b_Md_lay 17 = .ok (.ishr, 1) := by decide +kernel
theorem d_Md_lay_18 : decode b_Md_lay 18 = .ok (.i2b, 1) := by decide +kernel
theorem d_Md_lay_19 : decode b_Md_lay 19 = .ok (.bastore, 1) := by decide +kernel
theorem d_Md_lay_20 : decode b_Md_lay 20 = .ok (.aload_n 0, 1) := by decide +kernel
theorem d_Md_lay_21 : decode b_Md_lay 21 = .ok (.dup, 1) := by decide +kernel
theorem d_Md_lay_22 : decode b_Md_lay 22 = .ok (.getfield 29, 3) := by decide +kernel
theorem d_Md_lay_25 : decode b_Md_lay 25 = .ok (.iconst 1, 1) := by decide +kernel
theorem d_Md_lay_26 : decode b_Md_lay 26 = .ok (.iadd, 1) := by decide +kernel
theorem d_Md_lay_27 : decode b_Md_lay 27 = .ok (.putfield 29, 3) := by decide +kernel
theorem d_Md_lay_30 : decode b_Md_lay 30 = .ok (.iinc 2 (-8), 3) := by decide +kernel
theorem d_Md_lay_33 : decode b_Md_lay 33 = .ok (.goto (-30), 3) := by decide +kernel
theorem d_Md_lay_36 : decode b_Md_lay 36 = .ok (.return_, 1) := by decide +kernel
theorem d_Md_end_0 : decode b_Md_end 0 = .ok (.iload_n 1, 1) := by decide +kernel
theorem d_Md_end_1 : decode b_Md_end 1 = .ok (.ifCond .lt 11, 3) := by decide +kernel
theorem d_Md_end_4 : decode b_Md_end 4 = .ok (.iload_n 1, 1) := by decide +kernel
theorem d_Md_end_5 : decode b_Md_end 5 = .ok (.aload_n 0, 1) := by decide +kernel
theorem d_Md_end_6 : decode b_Md_end 6 = .ok (.getfield 29, 3) := by decide +kernel
theorem d_Md_end_9 : decode b_Md_end 9 = .ok (.if_icmp .le 5, 3) := by decide +kernel
theorem d_Md_end_12 : decode b_Md_end 12 = .ok (.iconst 0, 1) := by decide +kernel
theorem d_Md_end_13 : decode b_Md_end 13 = .ok (.ireturn, 1) := by decide +kernel
theorem d_Md_end_14 : decode b_Md_end 14 = .ok (.aload_n 0, 1) := by decide +kernel
theorem d_Md_end_15 : decode b_Md_end 15 = .ok (.iload_n 1, 1) := by decide +kernel
theorem d_Md_end_16 : decode b_Md_end 16 = .ok (.putfield 29, 3) := by decide +kernel
theorem d_Md_end_19 : decode b_Md_end 19 = .ok (.iconst 1, 1) := by decide +kernel
theorem d_Md_end_20 : decode b_Md_end 20 = .ok (.ireturn, 1) := by decide +kernel
theorem d_Md_format_0 : decode b_Md_format 0 = .ok (.aload_n 0, 1) := by decide +kernel
theorem d_Md_format_1 : decode b_Md_format 1 = .ok (.aload_n 0, 1) := by decide +kernel
theorem d_Md_format_2 : decode b_Md_format 2 = .ok (.getfield 29, 3) := by decide +kernel
theorem d_Md_format_5 : decode b_Md_format 5 = .ok (.putfield 37, 3) := by decide +kernel
theorem d_Md_format_8 : decode b_Md_format 8 = .ok (.iconst 0, 1) := by decide +kernel
theorem d_Md_format_9 : decode b_Md_format 9 = .ok (.istore_n 1, 1) := by decide +kernel
theorem d_Md_format_10 : decode b_Md_format 10 = .ok (.iload_n 1, 1) := by decide +kernel
theorem d_Md_format_11 : decode b_Md_format 11 = .ok (.aload_n 0, 1) := by decide +kernel
theorem d_Md_format_12 : decode b_Md_format 12 = .ok (.getfield 37, 3) := by decide +kernel
theorem d_Md_format_15 : decode b_Md_format 15 = .ok (.if_icmp .ge 21, 3) := by decide +kernel
end
section
theorem d_Md_format_18 : decode b_Md_format 18 = .ok (.aload_n 0, 1) := by decide +kernel
theorem d_Md_format_19 : decode b_Md_format 19 = .ok (.getfield 13, 3) := by decide +kernel
theorem d_Md_format_22 : decode b_Md_format 22 = .ok (.iload_n 1, 1) := by decide +kernel
theorem d_Md_format_23 : decode b_Md_format 23 = .ok (.aload_n 0, 1) := by decide +kernel
theorem d_Md_format_24 : decode b_Md_format 24 = .ok (.getfield 7, 3) := by decide +kernel
theorem d_Md_format_27 : decode b_Md_format 27 = .ok (.iload_n 1, 1) := by decide +kernel
theorem d_Md_format_28 : decode b_Md_format 28 = .ok (.baload, 1) := by decide +kernel
theorem d_Md_format_29 : decode b_Md_format 29 = .ok (.bastore, 1) := by decide +kernel
theorem d_Md_format_30 : decode b_Md_format 30 = .ok (.iinc 1 1, 3) := by decide +kernel
theorem d_Md_format_33 : decode b_Md_format 33 = .ok (.goto (-23), 3) := by decide +kernel
theorem d_Md_format_36 : decode b_Md_format 36 = .ok (.aload_n 0, 1) := by decide +kernel
theorem d_Md_format_37 : decode b_Md_format 37 = .ok (.iconst 0, 1) := by decide +kernel
theorem d_Md_format_38 : decode b_Md_format 38 = .ok (.putfield 29, 3) := by decide +kernel
theorem d_Md_format_41 : decode b_Md_format 41 = .ok (.aload_n 0, 1) := by decide +kernel
theorem d_Md_format_42 : decode b_Md_format 42 = .ok (.getfield 37, 3) := by decide +kernel
theorem d_Md_format_45 : decode b_Md_format 45 = .ok (.ireturn, 1) := by decide +kernel
theorem d_Md_argument_0 : decode b_Md_argument 0 = .ok (.aload_n 0, 1) := by decide +kernel
theorem d_Md_argument_1 : decode b_Md_argument 1 = .ok (.getfield 29, 3) := by decide +kernel
theorem d_Md_argument_4 : decode b_Md_argument 4 = .ok (.istore_n 1, 1) := by decide +kernel
theorem d_Md_argument_5 : decode b_Md_argument 5 = .ok (.aload_n 0, 1) := by decide +kernel
theorem d_Md_argument_6 : decode b_Md_argument 6 = .ok (.iconst 0, 1) := by decide +kernel
theorem d_Md_argument_7 : decode b_Md_argument 7 = .ok (.putfield 29, 3) := by decide +kernel
theorem d_Md_argument_10 : decode b_Md_argument 10 = .ok (.iload_n 1, 1) := by decide +kernel
theorem d_Md_argument_11 : decode b_Md_argument 11 = .ok (.bipush 40, 2) := by decide +kernel
theorem d_Md_argument_13 : decode b_Md_argument 13 = .ok (.if_icmp .gt 12, 3) := by decide +kernel
theorem d_Md_argument_16 : decode b_Md_argument 16 = .ok (.aload_n 0, 1) := by decide +kernel
theorem d_Md_argument_17 : decode b_Md_argument 17 = .ok (.getfield 40, 3) := by decide +kernel
theorem d_Md_argument_20 : decode b_Md_argument 20 = .ok (.bipush 20, 2) := by decide +kernel
theorem d_Md_argument_22 : decode b_Md_argument 22 = .ok (.if_icmp .ne 5, 3) := by decide +kernel
theorem d_Md_argument_25 : decode b_Md_argument 25 = .ok (.iconst (-1), 1) := by decide +kernel
theorem d_Md_argument_26 : decode b_Md_argument 26 = .ok (.ireturn, 1) := by decide +kernel
theorem d_Md_argument_27 : decode b_Md_argument 27 = .ok (.iconst 0, 1) := by decide +kernel
theorem d_Md_argument_28 : decode b_Md_argument 28 = .ok (.istore_n 2, 1) := by decide +kernel
theorem d_Md_argument_29 : decode b_Md_argument 29 = .ok (.iload_n 2, 1) := by decide +kernel
theorem d_Md_argument_30 : decode b_Md_argument 30 = .ok (.iload_n 1, 1) := by decide +kernel
theorem d_Md_argument_31 : decode b_Md_argument 31 = .ok (.if_icmp .ge 29, 3) := by decide +kernel
theorem d_Md_argument_34 : decode b_Md_argument 34 = .ok (.aload_n 0, 1) := by decide +kernel
theorem d_Md_argument_35 : decode b_Md_argument 35 = .ok (.getfield 16, 3) := by decide +kernel
theorem d_Md_argument_38 : decode b_Md_argument 38 = .ok (.bipush 40, 2) := by decide +kernel
theorem d_Md_argument_40 : decode b_Md_argument 40 = .ok (.aload_n 0, 1) := by decide +kernel
theorem d_Md_argument_41 : decode b_Md_argument 41 = .ok (.getfield 40, 3) := by decide +kernel
theorem d_Md_argument_44 : decode b_Md_argument 44 = .ok (.imul, 1) := by decide +kernel
theorem d_Md_argument_45 : decode b_Md_argument 45 = .ok (.iload_n 2, 1) := by decide +kernel
theorem d_Md_argument_46 : decode b_Md_argument 46 = .ok (.iadd, 1) := by decide +kernel
theorem d_Md_argument_47 : decode b_Md_argument 47 = .ok (.aload_n 0, 1) := by decide +kernel
theorem d_Md_argument_48 : decode b_Md_argument 48 = .ok (.getfield 7, 3) := by decide +kernel
theorem d_Md_argument_51 : decode b_Md_argument 51 = .ok (.iload_n 2, 1) := by decide +kernel
theorem d_Md_argument_52 : decode b_Md_argument 52 = .ok (.baload, 1) := by decide +kernel
theorem d_Md_argument_53 : decode b_Md_argument 53 = .ok (.bastore, 1) := by decide +kernel
theorem d_Md_argument_54 : decode b_Md_argument 54 = .ok (.iinc 2 1, 3) := by decide +kernel
theorem d_Md_argument_57 : decode b_Md_argument 57 = .ok (.goto (-28), 3) := by decide +kernel
theorem d_Md_argument_60 : decode b_Md_argument 60 = .ok (.aload_n 0, 1) := by decide +kernel
theorem d_Md_argument_61 : decode b_Md_argument 61 = .ok (.getfield 22, 3) := by decide +kernel
theorem d_Md_argument_64 : decode b_Md_argument 64 = .ok (.aload_n 0, 1) := by decide +kernel
theorem d_Md_argument_65 : decode b_Md_argument 65 = .ok (.getfield 40, 3) := by decide +kernel
theorem d_Md_argument_68 : decode b_Md_argument 68 = .ok (.iload_n 1, 1) := by decide +kernel
theorem d_Md_argument_69 : decode b_Md_argument 69 = .ok (.iastore, 1) := by decide +kernel
theorem d_Md_argument_70 : decode b_Md_argument 70 = .ok (.aload_n 0, 1) := by decide +kernel
theorem d_Md_argument_71 : decode b_Md_argument 71 = .ok (.dup, 1) := by decide +kernel
theorem d_Md_argument_72 : decode b_Md_argument 72 = .ok (.getfield 40, 3) := by decide +kernel
theorem d_Md_argument_75 : decode b_Md_argument 75 = .ok (.iconst 1, 1) := by decide +kernel
theorem d_Md_argument_76 : decode b_Md_argument 76 = .ok (.iadd, 1) := by decide +kernel
theorem d_Md_argument_77 : decode b_Md_argument 77 = .ok (.putfield 40, 3) := by decide +kernel
theorem d_Md_argument_80 : decode b_Md_argument 80 = .ok (.aload_n 0, 1) := by decide +kernel
theorem d_Md_argument_81 : decode b_Md_argument 81 = .ok (.getfield 40, 3) := by decide +kernel
theorem d_Md_argument_84 : decode b_Md_argument 84 = .ok (.iconst 1, 1) := by decide +kernel
theorem d_Md_argument_85 : decode b_Md_argument 85 = .ok (.isub, 1) := by decide +kernel
theorem d_Md_argument_86 : decode b_Md_argument 86 = .ok (.ireturn, 1) := by decide +kernel
theorem d_Md_number_0 : decode b_Md_number 0 = .ok (.aload_n 0, 1) := by decide +kernel
theorem d_Md_number_1 : decode b_Md_number 1 = .ok (.getfield 40, 3) := by decide +kernel
theorem d_Md_number_4 : decode b_Md_number 4 = .ok (.bipush 20, 2) := by decide +kernel
theorem d_Md_number_6 : decode b_Md_number 6 = .ok (.if_icmp .ne 5, 3) := by decide +kernel
theorem d_Md_number_9 : decode b_Md_number 9 = .ok (.iconst (-1), 1) := by decide +kernel
theorem d_Md_number_10 : decode b_Md_number 10 = .ok (.ireturn, 1) := by decide +kernel
theorem d_Md_number_11 : decode b_Md_number 11 = .ok (.aload_n 0, 1) := by decide +kernel
theorem d_Md_number_12 : decode b_Md_number 12 = .ok (.lload_n 1, 1) := by decide +kernel
theorem d_Md_number_13 : decode b_Md_number 13 = .ok (.invokevirtual 43, 3) := by decide +kernel
theorem d_Md_number_16 : decode b_Md_number 16 = .ok (.bipush 72, 2) := by decide +kernel
theorem d_Md_number_18 : decode b_Md_number 18 = .ok (.aload_n 0, 1) := by decide +kernel
theorem d_Md_number_19 : decode b_Md_number 19 = .ok (.getfield 47, 3) := by decide +kernel
theorem d_Md_number_22 : decode b_Md_number 22 = .ok (.isub, 1) := by decide +kernel
theorem d_Md_number_23 : decode b_Md_number 23 = .ok (.istore_n 3, 1) := by decide +kernel
theorem d_Md_number_24 : decode b_Md_number 24 = .ok (.iconst 0, 1) := by decide +kernel
theorem d_Md_number_25 : decode b_Md_number 25 = .ok (.istore 4, 2) := by decide +kernel
theorem d_Md_number_27 : decode b_Md_number 27 = .ok (.iload 4, 2) := by decide +kernel
theorem d_Md_number_29 : decode b_Md_number 29 = .ok (.iload_n 3, 1) := by decide +kernel
theorem d_Md_number_30 : decode b_Md_number 30 = .ok (.if_icmp .ge 36, 3) := by decide +kernel
theorem d_Md_number_33 : decode b_Md_number 33 = .ok (.aload_n 0, 1) := by decide +kernel
theorem d_Md_number_34 : decode b_Md_number 34 = .ok (.getfield 16, 3) := by decide +kernel
theorem d_Md_number_37 : decode b_Md_number 37 = .ok (.bipush 40, 2) := by decide +kernel
theorem d_Md_number_39 : decode b_Md_number 39 = .ok (.aload_n 0, 1) := by decide +kernel
theorem d_Md_number_40 : decode b_Md_number 40 = .ok (.getfield 40, 3) := by decide +kernel
theorem d_Md_number_43 : decode b_Md_number 43 = .ok (.imul, 1) := by decide +kernel
theorem d_Md_number_44 : decode b_Md_number 44 = .ok (.iload 4, 2) := by decide +kernel
theorem d_Md_number_46 : decode b_Md_number 46 = .ok (.iadd, 1) := by decide +kernel
theorem d_Md_number_47 : decode b_Md_number 47 = .ok (.aload_n 0, 1) := by decide +kernel
theorem d_Md_number_48 : decode b_Md_number 48 = .ok (.getfield 26, 3) := by decide +kernel
theorem d_Md_number_51 : decode b_Md_number 51 = .ok (.aload_n 0, 1) := by decide +kernel
theorem d_Md_number_52 : decode b_Md_number 52 = .ok (.getfield 47, 3) := by decide +kernel
theorem d_Md_number_55 : decode b_Md_number 55 = .ok (.iload 4, 2) := by decide +kernel
theorem d_Md_number_57 : decode b_Md_number 57 = .ok (.iadd, 1) := by decide +kernel
theorem d_Md_number_58 : decode b_Md_number 58 = .ok (.baload, 1) := by decide +kernel
theorem d_Md_number_59 : decode b_Md_number 59 = .ok (.bastore, 1) := by decide +kernel
theorem d_Md_number_60 : decode b_Md_number 60 = .ok (.iinc 4 1, 3) := by decide +kernel
theorem d_Md_number_63 : decode b_Md_number 63 = .ok (.goto (-36), 3) := by decide +kernel
theorem d_Md_number_66 : decode b_Md_number 66 = .ok (.aload_n 0, 1) := by decide +kernel
theorem d_Md_number_67 : decode b_Md_number 67 = .ok (.getfield 22, 3) := by decide +kernel
theorem d_Md_number_70 : decode b_Md_number 70 = .ok (.aload_n 0, 1) := by decide +kernel
theorem d_Md_number_71 : decode b_Md_number 71 = .ok (.getfield 40, 3) := by decide +kernel
theorem d_Md_number_74 : decode b_Md_number 74 = .ok (.iload_n 3, 1) := by decide +kernel
theorem d_Md_number_75 : decode b_Md_number 75 = .ok (.iastore, 1) := by decide +kernel
theorem d_Md_number_76 : decode b_Md_number 76 = .ok (.aload_n 0, 1) := by decide +kernel
theorem d_Md_number_77 : decode b_Md_number 77 = .ok (.dup, 1) := by decide +kernel
theorem d_Md_number_78 : decode b_Md_number 78 = .ok (.getfield 40, 3) := by decide +kernel
theorem d_Md_number_81 : decode b_Md_number 81 = .ok (.iconst 1, 1) := by decide +kernel
theorem d_Md_number_82 : decode b_Md_number 82 = .ok (.iadd, 1) := by decide +kernel
theorem d_Md_number_83 : decode b_Md_number 83 = .ok (.putfield 40, 3) := by decide +kernel
theorem d_Md_number_86 : decode b_Md_number 86 = .ok (.aload_n 0, 1) := by decide +kernel
theorem d_Md_number_87 : decode b_Md_number 87 = .ok (.getfield 40, 3) := by decide +kernel
theorem d_Md_number_90 : decode b_Md_number 90 = .ok (.iconst 1, 1) := by decide +kernel
theorem d_Md_number_91 : decode b_Md_number 91 = .ok (.isub, 1) := by decide +kernel
theorem d_Md_number_92 : decode b_Md_number 92 = .ok (.ireturn, 1) := by decide +kernel
theorem d_Md_decimal_0 : decode b_Md_decimal 0 = .ok (.aload_n 0, 1) := by decide +kernel
theorem d_Md_decimal_1 : decode b_Md_decimal 1 = .ok (.lload_n 1, 1) := by decide +kernel
theorem d_Md_decimal_2 : decode b_Md_decimal 2 = .ok (.invokevirtual 50, 3) := by decide +kernel
theorem d_Md_decimal_5 : decode b_Md_decimal 5 = .ok (.lload_n 1, 1) := by decide +kernel
theorem d_Md_decimal_6 : decode b_Md_decimal 6 = .ok (.lconst 0, 1) := by decide +kernel
theorem d_Md_decimal_7 : decode b_Md_decimal 7 = .ok (.lcmp, 1) := by decide +kernel
theorem d_Md_decimal_8 : decode b_Md_decimal 8 = .ok (.ifCond .ge 9, 3) := by decide +kernel
theorem d_Md_decimal_11 : decode b_Md_decimal 11 = .ok (.aload_n 0, 1) := by decide +kernel
theorem d_Md_decimal_12 : decode b_Md_decimal 12 = .ok (.bipush 45, 2) := by decide +kernel
theorem d_Md_decimal_14 : decode b_Md_decimal 14 = .ok (.invokevirtual 53, 3) := by decide +kernel
theorem d_Md_decimal_17 : decode b_Md_decimal 17 = .ok (.return_, 1) := by decide +kernel
theorem d_Md_digits_0 : decode b_Md_digits 0 = .ok (.aload_n 0, 1) := by decide +kernel
theorem d_Md_digits_1 : decode b_Md_digits 1 = .ok (.bipush 72, 2) := by decide +kernel
theorem d_Md_digits_3 : decode b_Md_digits 3 = .ok (.putfield 47, 3) := by decide +kernel
theorem d_Md_digits_6 : decode b_Md_digits 6 = .ok (.lload_n 1, 1) := by decide +kernel
theorem d_Md_digits_7 : decode b_Md_digits 7 = .ok (.lstore_n 3, 1) := by decide +kernel
theorem d_Md_digits_8 : decode b_Md_digits 8 = .ok (.lload_n 3, 1) := by decide +kernel
theorem d_Md_digits_9 : decode b_Md_digits 9 = .ok (.ldc2_w 56, 3) := by decide +kernel
theorem d_Md_digits_12 : decode b_Md_digits 12 = .ok (.lrem, 1) := by decide +kernel
theorem d_Md_digits_13 : decode b_Md_digits 13 = .ok (.lstore 5, 2) := by decide +kernel
theorem d_Md_digits_15 : decode b_Md_digits 15 = .ok (.aload_n 0, 1) := by decide +kernel
theorem d_Md_digits_16 : decode b_Md_digits 16 = .ok (.bipush 48, 2) := by decide +kernel
theorem d_Md_digits_18 : decode b_Md_digits 18 = .ok (.lload 5, 2) := by decide +kernel
theorem d_Md_digits_20 : decode b_Md_digits 20 = .ok (.lconst 0, 1) := by decide +kernel
theorem d_Md_digits_21 : decode b_Md_digits 21 = .ok (.lcmp, 1) := by decide +kernel
theorem d_Md_digits_22 : decode b_Md_digits 22 = .ok (.ifCond .ge 9, 3) := by decide +kernel
theorem d_Md_digits_25 : decode b_Md_digits 25 = .ok (.lload 5, 2) := by decide +kernel
theorem d_Md_digits_27 : decode b_Md_digits 27 = .ok (.lneg, 1) := by decide +kernel
theorem d_Md_digits_28 : decode b_Md_digits 28 = .ok (.goto 5, 3) := by decide +kernel
theorem d_Md_digits_31 : decode b_Md_digits 31 = .ok (.lload 5, 2) := by decide +kernel
theorem d_Md_digits_33 : decode b_Md_digits 33 = .ok (.l2i, 1) := by decide +kernel
theorem d_Md_digits_34 : decode b_Md_digits 34 = .ok (.iadd, 1) := by decide +kernel
theorem d_Md_digits_35 : decode b_Md_digits 35 = .ok (.invokevirtual 53, 3) := by decide +kernel
theorem d_Md_digits_38 : decode b_Md_digits 38 = .ok (.lload_n 3, 1) := by decide +kernel
theorem d_Md_digits_39 : decode b_Md_digits 39 = .ok (.ldc2_w 56, 3) := by decide +kernel
theorem d_Md_digits_42 : decode b_Md_digits 42 = .ok (.ldiv, 1) := by decide +kernel
theorem d_Md_digits_43 : decode b_Md_digits 43 = .ok (.lstore_n 3, 1) := by decide +kernel
theorem d_Md_digits_44 : decode b_Md_digits 44 = .ok (.lload_n 3, 1) := by decide +kernel
theorem d_Md_digits_45 : decode b_Md_digits 45 = .ok (.lconst 0, 1) := by decide +kernel
theorem d_Md_digits_46 : decode b_Md_digits 46 = .ok (.lcmp, 1) := by decide +kernel
theorem d_Md_digits_47 : decode b_Md_digits 47 = .ok (.ifCond .ne (-39), 3) := by decide +kernel
theorem d_Md_digits_50 : decode b_Md_digits 50 = .ok (.return_, 1) := by decide +kernel
theorem d_Md_ahead_0 : decode b_Md_ahead 0 = .ok (.aload_n 0, 1) := by decide +kernel
theorem d_Md_ahead_1 : decode b_Md_ahead 1 = .ok (.dup, 1) := by decide +kernel
theorem d_Md_ahead_2 : decode b_Md_ahead 2 = .ok (.getfield 47, 3) := by decide +kernel
theorem d_Md_ahead_5 : decode b_Md_ahead 5 = .ok (.iconst 1, 1) := by decide +kernel
theorem d_Md_ahead_6 : decode b_Md_ahead 6 = .ok (.isub, 1) := by decide +kernel
theorem d_Md_ahead_7 : decode b_Md_ahead 7 = .ok (.putfield 47, 3) := by decide +kernel
theorem d_Md_ahead_10 : decode b_Md_ahead 10 = .ok (.aload_n 0, 1) := by decide +kernel
theorem d_Md_ahead_11 : decode b_Md_ahead 11 = .ok (.getfield 26, 3) := by decide +kernel
theorem d_Md_ahead_14 : decode b_Md_ahead 14 = .ok (.aload_n 0, 1) := by decide +kernel
theorem d_Md_ahead_15 : decode b_Md_ahead 15 = .ok (.getfield 47, 3) := by decide +kernel
theorem d_Md_ahead_18 : decode b_Md_ahead 18 = .ok (.iload_n 1, 1) := by decide +kernel
theorem d_Md_ahead_19 : decode b_Md_ahead 19 = .ok (.i2b, 1) := by decide +kernel
theorem d_Md_ahead_20 : decode b_Md_ahead 20 = .ok (.bastore, 1) := by decide +kernel
theorem d_Md_ahead_21 : decode b_Md_ahead 21 = .ok (.return_, 1) := by decide +kernel
theorem d_Md_clear_0 : decode b_Md_clear 0 = .ok (.aload_n 0, 1) := by decide +kernel
theorem d_Md_clear_1 : decode b_Md_clear 1 = .ok (.iconst 0, 1) := by decide +kernel
theorem d_Md_clear_2 : decode b_Md_clear 2 = .ok (.putfield 40, 3) := by decide +kernel
theorem d_Md_clear_5 : decode b_Md_clear 5 = .ok (.return_, 1) := by decide +kernel
theorem d_Md_make_0 : decode b_Md_make 0 = .ok (.aload_n 0, 1) := by decide +kernel
theorem d_Md_make_1 : decode b_Md_make 1 = .ok (.iconst 0, 1) := by decide +kernel
theorem d_Md_make_2 : decode b_Md_make 2 = .ok (.putfield 126, 3) := by decide +kernel
theorem d_Md_make_5 : decode b_Md_make 5 = .ok (.aload_n 0, 1) := by decide +kernel
theorem d_Md_make_6 : decode b_Md_make 6 = .ok (.iconst 0, 1) := by decide +kernel
theorem d_Md_make_7 : decode b_Md_make 7 = .ok (.putfield 104, 3) := by decide +kernel
theorem d_Md_make_10 : decode b_Md_make 10 = .ok (.aload_n 0, 1) := by decide +kernel
theorem d_Md_make_11 : decode b_Md_make 11 = .ok (.iconst 0, 1) := by decide +kernel
theorem d_Md_make_12 : decode b_Md_make 12 = .ok (.putfield 77, 3) := by decide +kernel
theorem d_Md_make_15 : decode b_Md_make 15 = .ok (.iconst 0, 1) := by decide +kernel
theorem d_Md_make_16 : decode b_Md_make 16 = .ok (.istore_n 1, 1) := by decide +kernel
theorem d_Md_make_17 : decode b_Md_make 17 = .ok (.iconst 0, 1) := by decide +kernel
theorem d_Md_make_18 : decode b_Md_make 18 = .ok (.istore_n 2, 1) := by decide +kernel
theorem d_Md_make_19 : decode b_Md_make 19 = .ok (.aload_n 0, 1) := by decide +kernel
theorem d_Md_make_20 : decode b_Md_make 20 = .ok (.getfield 77, 3) := by decide +kernel
theorem d_Md_make_23 : decode b_Md_make 23 = .ok (.aload_n 0, 1) := by decide +kernel
theorem d_Md_make_24 : decode b_Md_make 24 = .ok (.getfield 37, 3) := by decide +kernel
theorem d_Md_make_27 : decode b_Md_make 27 = .ok (.if_icmp .ge 104, 3) := by decide +kernel
theorem d_Md_make_30 : decode b_Md_make 30 = .ok (.iload_n 2, 1) := by decide +kernel
theorem d_Md_make_31 : decode b_Md_make 31 = .ok (.ifCond .ne 100, 3) := by decide +kernel
theorem d_Md_make_34 : decode b_Md_make 34 = .ok (.aload_n 0, 1) := by decide +kernel
theorem d_Md_make_35 : decode b_Md_make 35 = .ok (.getfield 13, 3) := by decide +kernel
theorem d_Md_make_38 : decode b_Md_make 38 = .ok (.aload_n 0, 1) := by decide +kernel
theorem d_Md_make_39 : decode b_Md_make 39 = .ok (.getfield 77, 3) := by decide +kernel
theorem d_Md_make_42 : decode b_Md_make 42 = .ok (.baload, 1) := by decide +kernel
theorem d_Md_make_43 : decode b_Md_make 43 = .ok (.istore_n 3, 1) := by decide +kernel
theorem d_Md_make_44 : decode b_Md_make 44 = .ok (.aload_n 0, 1) := by decide +kernel
theorem d_Md_make_45 : decode b_Md_make 45 = .ok (.dup, 1) := by decide +kernel
theorem d_Md_make_46 : decode b_Md_make 46 = .ok (.getfield 77, 3) := by decide +kernel
theorem d_Md_make_49 : decode b_Md_make 49 = .ok (.iconst 1, 1) := by decide +kernel
theorem d_Md_make_50 : decode b_Md_make 50 = .ok (.iadd, 1) := by decide +kernel
theorem d_Md_make_51 : decode b_Md_make 51 = .ok (.putfield 77, 3) := by decide +kernel
theorem d_Md_make_54 : decode b_Md_make 54 = .ok (.iload_n 3, 1) := by decide +kernel
theorem d_Md_make_55 : decode b_Md_make 55 = .ok (.bipush 37, 2) := by decide +kernel
theorem d_Md_make_57 : decode b_Md_make 57 = .ok (.if_icmp .eq 21, 3) := by decide +kernel
theorem d_Md_make_60 : decode b_Md_make 60 = .ok (.aload_n 0, 1) := by decide +kernel
theorem d_Md_make_61 : decode b_Md_make 61 = .ok (.iload_n 3, 1) := by decide +kernel
theorem d_Md_make_62 : decode b_Md_make 62 = .ok (.invokevirtual 107, 3) := by decide +kernel
theorem d_Md_make_65 : decode b_Md_make 65 = .ok (.ifCond .eq 7, 3) := by decide +kernel
theorem d_Md_make_68 : decode b_Md_make 68 = .ok (.iconst 0, 1) := by decide +kernel
theorem d_Md_make_69 : decode b_Md_make 69 = .ok (.goto 5, 3) := by decide +kernel
theorem d_Md_make_72 : decode b_Md_make 72 = .ok (.bipush (-5), 2) := by decide +kernel
theorem d_Md_make_74 : decode b_Md_make 74 = .ok (.istore_n 2, 1) := by decide +kernel
theorem d_Md_make_75 : decode b_Md_make 75 = .ok (.goto 53, 3) := by decide +kernel
theorem d_Md_make_78 : decode b_Md_make 78 = .ok (.aload_n 0, 1) := by decide +kernel
theorem d_Md_make_79 : decode b_Md_make 79 = .ok (.invokevirtual 129, 3) := by decide +kernel
theorem d_Md_make_82 : decode b_Md_make 82 = .ok (.ifCond .ne 9, 3) := by decide +kernel
theorem d_Md_make_85 : decode b_Md_make 85 = .ok (.bipush (-2), 2) := by decide +kernel
theorem d_Md_make_87 : decode b_Md_make 87 = .ok (.istore_n 2, 1) := by decide +kernel
theorem d_Md_make_88 : decode b_Md_make 88 = .ok (.goto 40, 3) := by decide +kernel
theorem d_Md_make_91 : decode b_Md_make 91 = .ok (.aload_n 0, 1) := by decide +kernel
theorem d_Md_make_92 : decode b_Md_make 92 = .ok (.getfield 101, 3) := by decide +kernel
theorem d_Md_make_95 : decode b_Md_make 95 = .ok (.bipush 37, 2) := by decide +kernel
theorem d_Md_make_97 : decode b_Md_make 97 = .ok (.if_icmp .ne 22, 3) := by decide +kernel
theorem d_Md_make_100 : decode b_Md_make 100 = .ok (.aload_n 0, 1) := by decide +kernel
theorem d_Md_make_101 : decode b_Md_make 101 = .ok (.bipush 37, 2) := by decide +kernel
theorem d_Md_make_103 : decode b_Md_make 103 = .ok (.invokevirtual 107, 3) := by decide +kernel
theorem d_Md_make_106 : decode b_Md_make 106 = .ok (.ifCond .eq 7, 3) := by decide +kernel
theorem d_Md_make_109 : decode b_Md_make 109 = .ok (.iconst 0, 1) := by decide +kernel
theorem d_Md_make_110 : decode b_Md_make 110 = .ok (.goto 5, 3) := by decide +kernel
theorem d_Md_make_113 : decode b_Md_make 113 = .ok (.bipush (-5), 2) := by decide +kernel
theorem d_Md_make_115 : decode b_Md_make 115 = .ok (.istore_n 2, 1) := by decide +kernel
theorem d_Md_make_116 : decode b_Md_make 116 = .ok (.goto 12, 3) := by decide +kernel
theorem d_Md_make_119 : decode b_Md_make 119 = .ok (.aload_n 0, 1) := by decide +kernel
theorem d_Md_make_120 : decode b_Md_make 120 = .ok (.iload_n 1, 1) := by decide +kernel
theorem d_Md_make_121 : decode b_Md_make 121 = .ok (.invokevirtual 132, 3) := by decide +kernel
theorem d_Md_make_124 : decode b_Md_make 124 = .ok (.istore_n 2, 1) := by decide +kernel
theorem d_Md_make_125 : decode b_Md_make 125 = .ok (.iinc 1 1, 3) := by decide +kernel
theorem d_Md_make_128 : decode b_Md_make 128 = .ok (.goto (-109), 3) := by decide +kernel
theorem d_Md_make_131 : decode b_Md_make 131 = .ok (.aload_n 0, 1) := by decide +kernel
theorem d_Md_make_132 : decode b_Md_make 132 = .ok (.iload_n 2, 1) := by decide +kernel
theorem d_Md_make_133 : decode b_Md_make 133 = .ok (.ifCond .ne 10, 3) := by decide +kernel
theorem d_Md_make_136 : decode b_Md_make 136 = .ok (.aload_n 0, 1) := by decide +kernel
theorem d_Md_make_137 : decode b_Md_make 137 = .ok (.getfield 104, 3) := by decide +kernel
theorem d_Md_make_140 : decode b_Md_make 140 = .ok (.goto 4, 3) := by decide +kernel
theorem d_Md_make_143 : decode b_Md_make 143 = .ok (.iconst 0, 1) := by decide +kernel
theorem d_Md_make_144 : decode b_Md_make 144 = .ok (.putfield 126, 3) := by decide +kernel
theorem d_Md_make_147 : decode b_Md_make 147 = .ok (.iload_n 2, 1) := by decide +kernel
theorem d_Md_make_148 : decode b_Md_make 148 = .ok (.ifCond .ne 10, 3) := by decide +kernel
theorem d_Md_make_151 : decode b_Md_make 151 = .ok (.aload_n 0, 1) := by decide +kernel
theorem d_Md_make_152 : decode b_Md_make 152 = .ok (.getfield 104, 3) := by decide +kernel
theorem d_Md_make_155 : decode b_Md_make 155 = .ok (.goto 4, 3) := by decide +kernel
theorem d_Md_make_158 : decode b_Md_make 158 = .ok (.iload_n 2, 1) := by decide +kernel
theorem d_Md_make_159 : decode b_Md_make 159 = .ok (.ireturn, 1) := by decide +kernel
theorem d_Md_put_0 : decode b_Md_put 0 = .ok (.aload_n 0, 1) := by decide +kernel
theorem d_Md_put_1 : decode b_Md_put 1 = .ok (.getfield 104, 3) := by decide +kernel
theorem d_Md_put_4 : decode b_Md_put 4 = .ok (.sipush 1024, 3) := by decide +kernel
theorem d_Md_put_7 : decode b_Md_put 7 = .ok (.if_icmp .ne 5, 3) := by decide +kernel
theorem d_Md_put_10 : decode b_Md_put 10 = .ok (.iconst 0, 1) := by decide +kernel
theorem d_Md_put_11 : decode b_Md_put 11 = .ok (.ireturn, 1) := by decide +kernel
theorem d_Md_put_12 : decode b_Md_put 12 = .ok (.aload_n 0, 1) := by decide +kernel
theorem d_Md_put_13 : decode b_Md_put 13 = .ok (.getfield 19, 3) := by decide +kernel
theorem d_Md_put_16 : decode b_Md_put 16 = .ok (.aload_n 0, 1) := by decide +kernel
theorem d_Md_put_17 : decode b_Md_put 17 = .ok (.getfield 104, 3) := by decide +kernel
theorem d_Md_put_20 : decode b_Md_put 20 = .ok (.iload_n 1, 1) := by decide +kernel
theorem d_Md_put_21 : decode b_Md_put 21 = .ok (.i2b, 1) := by decide +kernel
theorem d_Md_put_22 : decode b_Md_put 22 = .ok (.bastore, 1) := by decide +kernel
theorem d_Md_put_23 : decode b_Md_put 23 = .ok (.aload_n 0, 1) := by decide +kernel
theorem d_Md_put_24 : decode b_Md_put 24 = .ok (.dup, 1) := by decide +kernel
theorem d_Md_put_25 : decode b_Md_put 25 = .ok (.getfield 104, 3) := by decide +kernel
theorem d_Md_put_28 : decode b_Md_put 28 = .ok (.iconst 1, 1) := by decide +kernel
theorem d_Md_put_29 : decode b_Md_put 29 = .ok (.iadd, 1) := by decide +kernel
theorem d_Md_put_30 : decode b_Md_put 30 = .ok (.putfield 104, 3) := by decide +kernel
theorem d_Md_put_33 : decode b_Md_put 33 = .ok (.iconst 1, 1) := by decide +kernel
theorem d_Md_put_34 : decode b_Md_put 34 = .ok (.ireturn, 1) := by decide +kernel
theorem d_Md_readPlace_0 : decode b_Md_readPlace 0 = .ok (.aload_n 0, 1) := by decide +kernel
theorem d_Md_readPlace_1 : decode b_Md_readPlace 1 = .ok (.iconst 0, 1) := by decide +kernel
theorem d_Md_readPlace_2 : decode b_Md_readPlace 2 = .ok (.putfield 80, 3) := by decide +kernel
theorem d_Md_readPlace_5 : decode b_Md_readPlace 5 = .ok (.aload_n 0, 1) := by decide +kernel
theorem d_Md_readPlace_6 : decode b_Md_readPlace 6 = .ok (.iconst 0, 1) := by decide +kernel
theorem d_Md_readPlace_7 : decode b_Md_readPlace 7 = .ok (.putfield 84, 3) := by decide +kernel
theorem d_Md_readPlace_10 : decode b_Md_readPlace 10 = .ok (.aload_n 0, 1) := by decide +kernel
theorem d_Md_readPlace_11 : decode b_Md_readPlace 11 = .ok (.iconst 0, 1) := by decide +kernel
theorem d_Md_readPlace_12 : decode b_Md_readPlace 12 = .ok (.putfield 87, 3) := by decide +kernel
theorem d_Md_readPlace_15 : decode b_Md_readPlace 15 = .ok (.aload_n 0, 1) := by decide +kernel
theorem d_Md_readPlace_16 : decode b_Md_readPlace 16 = .ok (.iconst 0, 1) := by decide +kernel
theorem d_Md_readPlace_17 : decode b_Md_readPlace 17 = .ok (.putfield 90, 3) := by decide +kernel
theorem d_Md_readPlace_20 : decode b_Md_readPlace 20 = .ok (.aload_n 0, 1) := by decide +kernel
theorem d_Md_readPlace_21 : decode b_Md_readPlace 21 = .ok (.iconst 0, 1) := by decide +kernel
theorem d_Md_readPlace_22 : decode b_Md_readPlace 22 = .ok (.putfield 93, 3) := by decide +kernel
theorem d_Md_readPlace_25 : decode b_Md_readPlace 25 = .ok (.aload_n 0, 1) := by decide +kernel
theorem d_Md_readPlace_26 : decode b_Md_readPlace 26 = .ok (.invokevirtual 96, 3) := by decide +kernel
theorem d_Md_readPlace_29 : decode b_Md_readPlace 29 = .ok (.ifCond .eq 16, 3) := by decide +kernel
theorem d_Md_readPlace_32 : decode b_Md_readPlace 32 = .ok (.aload_n 0, 1) := by decide +kernel
theorem d_Md_readPlace_33 : decode b_Md_readPlace 33 = .ok (.dup, 1) := by decide +kernel
theorem d_Md_readPlace_34 : decode b_Md_readPlace 34 = .ok (.getfield 77, 3) := by decide +kernel
theorem d_Md_readPlace_37 : decode b_Md_readPlace 37 = .ok (.iconst 1, 1) := by decide +kernel
theorem d_Md_readPlace_38 : decode b_Md_readPlace 38 = .ok (.iadd, 1) := by decide +kernel
theorem d_Md_readPlace_39 : decode b_Md_readPlace 39 = .ok (.putfield 77, 3) := by decide +kernel
theorem d_Md_readPlace_42 : decode b_Md_readPlace 42 = .ok (.goto (-17), 3) := by decide +kernel
theorem d_Md_readPlace_45 : decode b_Md_readPlace 45 = .ok (.aload_n 0, 1) := by decide +kernel
theorem d_Md_readPlace_46 : decode b_Md_readPlace 46 = .ok (.getfield 77, 3) := by decide +kernel
theorem d_Md_readPlace_49 : decode b_Md_readPlace 49 = .ok (.aload_n 0, 1) := by decide +kernel
theorem d_Md_readPlace_50 : decode b_Md_readPlace 50 = .ok (.getfield 37, 3) := by decide +kernel
theorem d_Md_readPlace_53 : decode b_Md_readPlace 53 = .ok (.if_icmp .ge 90, 3) := by decide +kernel
theorem d_Md_readPlace_56 : decode b_Md_readPlace 56 = .ok (.aload_n 0, 1) := by decide +kernel
theorem d_Md_readPlace_57 : decode b_Md_readPlace 57 = .ok (.getfield 13, 3) := by decide +kernel
theorem d_Md_readPlace_60 : decode b_Md_readPlace 60 = .ok (.aload_n 0, 1) := by decide +kernel
theorem d_Md_readPlace_61 : decode b_Md_readPlace 61 = .ok (.getfield 77, 3) := by decide +kernel
theorem d_Md_readPlace_64 : decode b_Md_readPlace 64 = .ok (.baload, 1) := by decide +kernel
theorem d_Md_readPlace_65 : decode b_Md_readPlace 65 = .ok (.bipush 48, 2) := by decide +kernel
theorem d_Md_readPlace_67 : decode b_Md_readPlace 67 = .ok (.if_icmp .lt 76, 3) := by decide +kernel
theorem d_Md_readPlace_70 : decode b_Md_readPlace 70 = .ok (.aload_n 0, 1) := by decide +kernel
theorem d_Md_readPlace_71 : decode b_Md_readPlace 71 = .ok (.getfield 13, 3) := by decide +kernel
theorem d_Md_readPlace_74 : decode b_Md_readPlace 74 = .ok (.aload_n 0, 1) := by decide +kernel
theorem d_Md_readPlace_75 : decode b_Md_readPlace 75 = .ok (.getfield 77, 3) := by decide +kernel
theorem d_Md_readPlace_78 : decode b_Md_readPlace 78 = .ok (.baload, 1) := by decide +kernel
theorem d_Md_readPlace_79 : decode b_Md_readPlace 79 = .ok (.bipush 57, 2) := by decide +kernel
theorem d_Md_readPlace_81 : decode b_Md_readPlace 81 = .ok (.if_icmp .gt 62, 3) := by decide +kernel
theorem d_Md_readPlace_84 : decode b_Md_readPlace 84 = .ok (.aload_n 0, 1) := by decide +kernel
theorem d_Md_readPlace_85 : decode b_Md_readPlace 85 = .ok (.bipush 10, 2) := by decide +kernel
theorem d_Md_readPlace_87 : decode b_Md_readPlace 87 = .ok (.aload_n 0, 1) := by decide +kernel
theorem d_Md_readPlace_88 : decode b_Md_readPlace 88 = .ok (.getfield 93, 3) := by decide +kernel
theorem d_Md_readPlace_91 : decode b_Md_readPlace 91 = .ok (.imul, 1) := by decide +kernel
theorem d_Md_readPlace_92 : decode b_Md_readPlace 92 = .ok (.aload_n 0, 1) := by decide +kernel
theorem d_Md_readPlace_93 : decode b_Md_readPlace 93 = .ok (.getfield 13, 3) := by decide +kernel
theorem d_Md_readPlace_96 : decode b_Md_readPlace 96 = .ok (.aload_n 0, 1) := by decide +kernel
theorem d_Md_readPlace_97 : decode b_Md_readPlace 97 = .ok (.getfield 77, 3) := by decide +kernel
theorem d_Md_readPlace_100 : decode b_Md_readPlace 100 = .ok (.baload, 1) := by decide +kernel
theorem d_Md_readPlace_101 : decode b_Md_readPlace 101 = .ok (.iadd, 1) := by decide +kernel
theorem d_Md_readPlace_102 : decode b_Md_readPlace 102 = .ok (.bipush 48, 2) := by decide +kernel
theorem d_Md_readPlace_104 : decode b_Md_readPlace 104 = .ok (.isub, 1) := by decide +kernel
theorem d_Md_readPlace_105 : decode b_Md_readPlace 105 = .ok (.putfield 93, 3) := by decide +kernel
theorem d_Md_readPlace_108 : decode b_Md_readPlace 108 = .ok (.aload_n 0, 1) := by decide +kernel
theorem d_Md_readPlace_109 : decode b_Md_readPlace 109 = .ok (.aload_n 0, 1) := by decide +kernel
theorem d_Md_readPlace_110 : decode b_Md_readPlace 110 = .ok (.getfield 93, 3) := by decide +kernel
theorem d_Md_readPlace_113 : decode b_Md_readPlace 113 = .ok (.ldc 100, 2) := by decide +kernel
theorem d_Md_readPlace_115 : decode b_Md_readPlace 115 = .ok (.if_icmp .le 8, 3) := by decide +kernel
theorem d_Md_readPlace_118 : decode b_Md_readPlace 118 = .ok (.ldc 100, 2) := by decide +kernel
theorem d_Md_readPlace_120 : decode b_Md_readPlace 120 = .ok (.goto 7, 3) := by decide +kernel
theorem d_Md_readPlace_123 : decode b_Md_readPlace 123 = .ok (.aload_n 0, 1) := by decide +kernel
theorem d_Md_readPlace_124 : decode b_Md_readPlace 124 = .ok (.getfield 93, 3) := by decide +kernel
theorem d_Md_readPlace_127 : decode b_Md_readPlace 127 = .ok (.putfield 93, 3) := by decide +kernel
theorem d_Md_readPlace_130 : decode b_Md_readPlace 130 = .ok (.aload_n 0, 1) := by decide +kernel
theorem d_Md_readPlace_131 : decode b_Md_readPlace 131 = .ok (.dup, 1) := by decide +kernel
theorem d_Md_readPlace_132 : decode b_Md_readPlace 132 = .ok (.getfield 77, 3) := by decide +kernel
theorem d_Md_readPlace_135 : decode b_Md_readPlace 135 = .ok (.iconst 1, 1) := by decide +kernel
theorem d_Md_readPlace_136 : decode b_Md_readPlace 136 = .ok (.iadd, 1) := by decide +kernel
theorem d_Md_readPlace_137 : decode b_Md_readPlace 137 = .ok (.putfield 77, 3) := by decide +kernel
theorem d_Md_readPlace_140 : decode b_Md_readPlace 140 = .ok (.goto (-95), 3) := by decide +kernel
theorem d_Md_readPlace_143 : decode b_Md_readPlace 143 = .ok (.aload_n 0, 1) := by decide +kernel
theorem d_Md_readPlace_144 : decode b_Md_readPlace 144 = .ok (.aload_n 0, 1) := by decide +kernel
theorem d_Md_readPlace_145 : decode b_Md_readPlace 145 = .ok (.getfield 77, 3) := by decide +kernel
theorem d_Md_readPlace_148 : decode b_Md_readPlace 148 = .ok (.aload_n 0, 1) := by decide +kernel
theorem d_Md_readPlace_149 : decode b_Md_readPlace 149 = .ok (.getfield 37, 3) := by decide +kernel
theorem d_Md_readPlace_152 : decode b_Md_readPlace 152 = .ok (.if_icmp .ge 15, 3) := by decide +kernel
theorem d_Md_readPlace_155 : decode b_Md_readPlace 155 = .ok (.aload_n 0, 1) := by decide +kernel
theorem d_Md_readPlace_156 : decode b_Md_readPlace 156 = .ok (.getfield 13, 3) := by decide +kernel
theorem d_Md_readPlace_159 : decode b_Md_readPlace 159 = .ok (.aload_n 0, 1) := by decide +kernel
theorem d_Md_readPlace_160 : decode b_Md_readPlace 160 = .ok (.getfield 77, 3) := by decide +kernel
theorem d_Md_readPlace_163 : decode b_Md_readPlace 163 = .ok (.baload, 1) := by decide +kernel
theorem d_Md_readPlace_164 : decode b_Md_readPlace 164 = .ok (.goto 4, 3) := by decide +kernel
theorem d_Md_readPlace_167 : decode b_Md_readPlace 167 = .ok (.iconst 0, 1) := by decide +kernel
theorem d_Md_readPlace_168 : decode b_Md_readPlace 168 = .ok (.putfield 101, 3) := by decide +kernel
theorem d_Md_readPlace_171 : decode b_Md_readPlace 171 = .ok (.aload_n 0, 1) := by decide +kernel
theorem d_Md_readPlace_172 : decode b_Md_readPlace 172 = .ok (.dup, 1) := by decide +kernel
theorem d_Md_readPlace_173 : decode b_Md_readPlace 173 = .ok (.getfield 77, 3) := by decide +kernel
theorem d_Md_readPlace_176 : decode b_Md_readPlace 176 = .ok (.iconst 1, 1) := by decide +kernel
theorem d_Md_readPlace_177 : decode b_Md_readPlace 177 = .ok (.iadd, 1) := by decide +kernel
theorem d_Md_readPlace_178 : decode b_Md_readPlace 178 = .ok (.putfield 77, 3) := by decide +kernel
theorem d_Md_readPlace_181 : decode b_Md_readPlace 181 = .ok (.aload_n 0, 1) := by decide +kernel
theorem d_Md_readPlace_182 : decode b_Md_readPlace 182 = .ok (.getfield 101, 3) := by decide +kernel
theorem d_Md_readPlace_185 : decode b_Md_readPlace 185 = .ok (.bipush 100, 2) := by decide +kernel
theorem d_Md_readPlace_187 : decode b_Md_readPlace 187 = .ok (.if_icmp .eq 57, 3) := by decide +kernel
theorem d_Md_readPlace_190 : decode b_Md_readPlace 190 = .ok (.aload_n 0, 1) := by decide +kernel
theorem d_Md_readPlace_191 : decode b_Md_readPlace 191 = .ok (.getfield 101, 3) := by decide +kernel
theorem d_Md_readPlace_194 : decode b_Md_readPlace 194 = .ok (.bipush 120, 2) := by decide +kernel
theorem d_Md_readPlace_196 : decode b_Md_readPlace 196 = .ok (.if_icmp .eq 48, 3) := by decide +kernel
theorem d_Md_readPlace_199 : decode b_Md_readPlace 199 = .ok (.aload_n 0, 1) := by decide +kernel
theorem d_Md_readPlace_200 : decode b_Md_readPlace 200 = .ok (.getfield 101, 3) := by decide +kernel
theorem d_Md_readPlace_203 : decode b_Md_readPlace 203 = .ok (.bipush 88, 2) := by decide +kernel
theorem d_Md_readPlace_205 : decode b_Md_readPlace 205 = .ok (.if_icmp .eq 39, 3) := by decide +kernel
theorem d_Md_readPlace_208 : decode b_Md_readPlace 208 = .ok (.aload_n 0, 1) := by decide +kernel
theorem d_Md_readPlace_209 : decode b_Md_readPlace 209 = .ok (.getfield 101, 3) := by decide +kernel
theorem d_Md_readPlace_212 : decode b_Md_readPlace 212 = .ok (.bipush 111, 2) := by decide +kernel
theorem d_Md_readPlace_214 : decode b_Md_readPlace 214 = .ok (.if_icmp .eq 30, 3) := by decide +kernel
theorem d_Md_readPlace_217 : decode b_Md_readPlace 217 = .ok (.aload_n 0, 1) := by decide +kernel
theorem d_Md_readPlace_218 : decode b_Md_readPlace 218 = .ok (.getfield 101, 3) := by decide +kernel
theorem d_Md_readPlace_221 : decode b_Md_readPlace 221 = .ok (.bipush 99, 2) := by decide +kernel
theorem d_Md_readPlace_223 : decode b_Md_readPlace 223 = .ok (.if_icmp .eq 21, 3) := by decide +kernel
theorem d_Md_readPlace_226 : decode b_Md_readPlace 226 = .ok (.aload_n 0, 1) := by decide +kernel
theorem d_Md_readPlace_227 : decode b_Md_readPlace 227 = .ok (.getfield 101, 3) := by decide +kernel
theorem d_Md_readPlace_230 : decode b_Md_readPlace 230 = .ok (.bipush 115, 2) := by decide +kernel
theorem d_Md_readPlace_232 : decode b_Md_readPlace 232 = .ok (.if_icmp .eq 12, 3) := by decide +kernel
theorem d_Md_readPlace_235 : decode b_Md_readPlace 235 = .ok (.aload_n 0, 1) := by decide +kernel
theorem d_Md_readPlace_236 : decode b_Md_readPlace 236 = .ok (.getfield 101, 3) := by decide +kernel
theorem d_Md_readPlace_239 : decode b_Md_readPlace 239 = .ok (.bipush 37, 2) := by decide +kernel
theorem d_Md_readPlace_241 : decode b_Md_readPlace 241 = .ok (.if_icmp .ne 7, 3) := by decide +kernel
theorem d_Md_readPlace_244 : decode b_Md_readPlace 244 = .ok (.iconst 1, 1) := by decide +kernel
theorem d_Md_readPlace_245 : decode b_Md_readPlace 245 = .ok (.goto 4, 3) := by decide +kernel
theorem d_Md_readPlace_248 : decode b_Md_readPlace 248 = .ok (.iconst 0, 1) := by decide +kernel
theorem d_Md_readPlace_249 : decode b_Md_readPlace 249 = .ok (.ireturn, 1) := by decide +kernel
theorem d_Md_flag_0 : decode b_Md_flag 0 = .ok (.aload_n 0, 1) := by decide +kernel
theorem d_Md_flag_1 : decode b_Md_flag 1 = .ok (.getfield 77, 3) := by decide +kernel
theorem d_Md_flag_4 : decode b_Md_flag 4 = .ok (.aload_n 0, 1) := by decide +kernel
theorem d_Md_flag_5 : decode b_Md_flag 5 = .ok (.getfield 37, 3) := by decide +kernel
theorem d_Md_flag_8 : decode b_Md_flag 8 = .ok (.if_icmp .ge 15, 3) := by decide +kernel
theorem d_Md_flag_11 : decode b_Md_flag 11 = .ok (.aload_n 0, 1) := by decide +kernel
theorem d_Md_flag_12 : decode b_Md_flag 12 = .ok (.getfield 13, 3) := by decide +kernel
theorem d_Md_flag_15 : decode b_Md_flag 15 = .ok (.aload_n 0, 1) := by decide +kernel
theorem d_Md_flag_16 : decode b_Md_flag 16 = .ok (.getfield 77, 3) := by decide +kernel
theorem d_Md_flag_19 : decode b_Md_flag 19 = .ok (.baload, 1) := by decide +kernel
theorem d_Md_flag_20 : decode b_Md_flag 20 = .ok (.goto 4, 3) := by decide +kernel
theorem d_Md_flag_23 : decode b_Md_flag 23 = .ok (.iconst (-1), 1) := by decide +kernel
theorem d_Md_flag_24 : decode b_Md_flag 24 = .ok (.istore_n 1, 1) := by decide +kernel
theorem d_Md_flag_25 : decode b_Md_flag 25 = .ok (.aload_n 0, 1) := by decide +kernel
theorem d_Md_flag_26 : decode b_Md_flag 26 = .ok (.aload_n 0, 1) := by decide +kernel
theorem d_Md_flag_27 : decode b_Md_flag 27 = .ok (.getfield 80, 3) := by decide +kernel
theorem d_Md_flag_30 : decode b_Md_flag 30 = .ok (.ifCond .ne 9, 3) := by decide +kernel
theorem d_Md_flag_33 : decode b_Md_flag 33 = .ok (.iload_n 1, 1) := by decide +kernel
theorem d_Md_flag_34 : decode b_Md_flag 34 = .ok (.bipush 45, 2) := by decide +kernel
theorem d_Md_flag_36 : decode b_Md_flag 36 = .ok (.if_icmp .ne 7, 3) := by decide +kernel
theorem d_Md_flag_39 : decode b_Md_flag 39 = .ok (.iconst 1, 1) := by decide +kernel
theorem d_Md_flag_40 : decode b_Md_flag 40 = .ok (.goto 4, 3) := by decide +kernel
theorem d_Md_flag_43 : decode b_Md_flag 43 = .ok (.iconst 0, 1) := by decide +kernel
theorem d_Md_flag_44 : decode b_Md_flag 44 = .ok (.putfield 80, 3) := by decide +kernel
theorem d_Md_flag_47 : decode b_Md_flag 47 = .ok (.aload_n 0, 1) := by decide +kernel
theorem d_Md_flag_48 : decode b_Md_flag 48 = .ok (.aload_n 0, 1) := by decide +kernel
theorem d_Md_flag_49 : decode b_Md_flag 49 = .ok (.getfield 84, 3) := by decide +kernel
theorem d_Md_flag_52 : decode b_Md_flag 52 = .ok (.ifCond .ne 9, 3) := by decide +kernel
theorem d_Md_flag_55 : decode b_Md_flag 55 = .ok (.iload_n 1, 1) := by decide +kernel
theorem d_Md_flag_56 : decode b_Md_flag 56 = .ok (.bipush 48, 2) := by decide +kernel
theorem d_Md_flag_58 : decode b_Md_flag 58 = .ok (.if_icmp .ne 7, 3) := by decide +kernel
theorem d_Md_flag_61 : decode b_Md_flag 61 = .ok (.iconst 1, 1) := by decide +kernel
theorem d_Md_flag_62 : decode b_Md_flag 62 = .ok (.goto 4, 3) := by decide +kernel
theorem d_Md_flag_65 : decode b_Md_flag 65 = .ok (.iconst 0, 1) := by decide +kernel
theorem d_Md_flag_66 : decode b_Md_flag 66 = .ok (.putfield 84, 3) := by decide +kernel
theorem d_Md_flag_69 : decode b_Md_flag 69 = .ok (.aload_n 0, 1) := by decide +kernel
theorem d_Md_flag_70 : decode b_Md_flag 70 = .ok (.aload_n 0, 1) := by decide +kernel
theorem d_Md_flag_71 : decode b_Md_flag 71 = .ok (.getfield 87, 3) := by decide +kernel
theorem d_Md_flag_74 : decode b_Md_flag 74 = .ok (.ifCond .ne 9, 3) := by decide +kernel
theorem d_Md_flag_77 : decode b_Md_flag 77 = .ok (.iload_n 1, 1) := by decide +kernel
theorem d_Md_flag_78 : decode b_Md_flag 78 = .ok (.bipush 43, 2) := by decide +kernel
theorem d_Md_flag_80 : decode b_Md_flag 80 = .ok (.if_icmp .ne 7, 3) := by decide +kernel
theorem d_Md_flag_83 : decode b_Md_flag 83 = .ok (.iconst 1, 1) := by decide +kernel
theorem d_Md_flag_84 : decode b_Md_flag 84 = .ok (.goto 4, 3) := by decide +kernel
theorem d_Md_flag_87 : decode b_Md_flag 87 = .ok (.iconst 0, 1) := by decide +kernel
theorem d_Md_flag_88 : decode b_Md_flag 88 = .ok (.putfield 87, 3) := by decide +kernel
theorem d_Md_flag_91 : decode b_Md_flag 91 = .ok (.aload_n 0, 1) := by decide +kernel
theorem d_Md_flag_92 : decode b_Md_flag 92 = .ok (.aload_n 0, 1) := by decide +kernel
theorem d_Md_flag_93 : decode b_Md_flag 93 = .ok (.getfield 90, 3) := by decide +kernel
theorem d_Md_flag_96 : decode b_Md_flag 96 = .ok (.ifCond .ne 9, 3) := by decide +kernel
theorem d_Md_flag_99 : decode b_Md_flag 99 = .ok (.iload_n 1, 1) := by decide +kernel
theorem d_Md_flag_100 : decode b_Md_flag 100 = .ok (.bipush 32, 2) := by decide +kernel
theorem d_Md_flag_102 : decode b_Md_flag 102 = .ok (.if_icmp .ne 7, 3) := by decide +kernel
theorem d_Md_flag_105 : decode b_Md_flag 105 = .ok (.iconst 1, 1) := by decide +kernel
theorem d_Md_flag_106 : decode b_Md_flag 106 = .ok (.goto 4, 3) := by decide +kernel
theorem d_Md_flag_109 : decode b_Md_flag 109 = .ok (.iconst 0, 1) := by decide +kernel
theorem d_Md_flag_110 : decode b_Md_flag 110 = .ok (.putfield 90, 3) := by decide +kernel
theorem d_Md_flag_113 : decode b_Md_flag 113 = .ok (.iload_n 1, 1) := by decide +kernel
theorem d_Md_flag_114 : decode b_Md_flag 114 = .ok (.bipush 45, 2) := by decide +kernel
theorem d_Md_flag_116 : decode b_Md_flag 116 = .ok (.if_icmp .eq 21, 3) := by decide +kernel
theorem d_Md_flag_119 : decode b_Md_flag 119 = .ok (.iload_n 1, 1) := by decide +kernel
theorem d_Md_flag_120 : decode b_Md_flag 120 = .ok (.bipush 48, 2) := by decide +kernel
theorem d_Md_flag_122 : decode b_Md_flag 122 = .ok (.if_icmp .eq 15, 3) := by decide +kernel
theorem d_Md_flag_125 : decode b_Md_flag 125 = .ok (.iload_n 1, 1) := by decide +kernel
theorem d_Md_flag_126 : decode b_Md_flag 126 = .ok (.bipush 43, 2) := by decide +kernel
theorem d_Md_flag_128 : decode b_Md_flag 128 = .ok (.if_icmp .eq 9, 3) := by decide +kernel
theorem d_Md_flag_131 : decode b_Md_flag 131 = .ok (.iload_n 1, 1) := by decide +kernel
theorem d_Md_flag_132 : decode b_Md_flag 132 = .ok (.bipush 32, 2) := by decide +kernel
theorem d_Md_flag_134 : decode b_Md_flag 134 = .ok (.if_icmp .ne 7, 3) := by decide +kernel
theorem d_Md_flag_137 : decode b_Md_flag 137 = .ok (.iconst 1, 1) := by decide +kernel
theorem d_Md_flag_138 : decode b_Md_flag 138 = .ok (.goto 4, 3) := by decide +kernel
theorem d_Md_flag_141 : decode b_Md_flag 141 = .ok (.iconst 0, 1) := by decide +kernel
theorem d_Md_flag_142 : decode b_Md_flag 142 = .ok (.ireturn, 1) := by decide +kernel
theorem d_Md_filled_0 : decode b_Md_filled 0 = .ok (.iload_n 1, 1) := by decide +kernel
theorem d_Md_filled_1 : decode b_Md_filled 1 = .ok (.aload_n 0, 1) := by decide +kernel
theorem d_Md_filled_2 : decode b_Md_filled 2 = .ok (.getfield 40, 3) := by decide +kernel
theorem d_Md_filled_5 : decode b_Md_filled 5 = .ok (.if_icmp .lt 6, 3) := by decide +kernel
theorem d_Md_filled_8 : decode b_Md_filled 8 = .ok (.bipush (-3), 2) := by decide +kernel
theorem d_Md_filled_10 : decode b_Md_filled 10 = .ok (.ireturn, 1) := by decide +kernel
theorem d_Md_filled_11 : decode b_Md_filled 11 = .ok (.aload_n 0, 1) := by decide +kernel
theorem d_Md_filled_12 : decode b_Md_filled 12 = .ok (.getfield 101, 3) := by decide +kernel
theorem d_Md_filled_15 : decode b_Md_filled 15 = .ok (.bipush 115, 2) := by decide +kernel
theorem d_Md_filled_17 : decode b_Md_filled 17 = .ok (.if_icmp .ne 32, 3) := by decide +kernel
theorem d_Md_filled_20 : decode b_Md_filled 20 = .ok (.aload_n 0, 1) := by decide +kernel
theorem d_Md_filled_21 : decode b_Md_filled 21 = .ok (.aload_n 0, 1) := by decide +kernel
theorem d_Md_filled_22 : decode b_Md_filled 22 = .ok (.getfield 16, 3) := by decide +kernel
theorem d_Md_filled_25 : decode b_Md_filled 25 = .ok (.bipush 40, 2) := by decide +kernel
theorem d_Md_filled_27 : decode b_Md_filled 27 = .ok (.iload_n 1, 1) := by decide +kernel
theorem d_Md_filled_28 : decode b_Md_filled 28 = .ok (.imul, 1) := by decide +kernel
theorem d_Md_filled_29 : decode b_Md_filled 29 = .ok (.aload_n 0, 1) := by decide +kernel
theorem d_Md_filled_30 : decode b_Md_filled 30 = .ok (.getfield 22, 3) := by decide +kernel
theorem d_Md_filled_33 : decode b_Md_filled 33 = .ok (.iload_n 1, 1) := by decide +kernel
theorem d_Md_filled_34 : decode b_Md_filled 34 = .ok (.iaload, 1) := by decide +kernel
theorem d_Md_filled_35 : decode b_Md_filled 35 = .ok (.iconst 0, 1) := by decide +kernel
theorem d_Md_filled_36 : decode b_Md_filled 36 = .ok (.invokevirtual 115, 3) := by decide +kernel
theorem d_Md_filled_39 : decode b_Md_filled 39 = .ok (.ifCond .eq 7, 3) := by decide +kernel
theorem d_Md_filled_42 : decode b_Md_filled 42 = .ok (.iconst 0, 1) := by decide +kernel
theorem d_Md_filled_43 : decode b_Md_filled 43 = .ok (.goto 5, 3) := by decide +kernel
theorem d_Md_filled_46 : decode b_Md_filled 46 = .ok (.bipush (-5), 2) := by decide +kernel
theorem d_Md_filled_48 : decode b_Md_filled 48 = .ok (.ireturn, 1) := by decide +kernel
theorem d_Md_filled_49 : decode b_Md_filled 49 = .ok (.aload_n 0, 1) := by decide +kernel
theorem d_Md_filled_50 : decode b_Md_filled 50 = .ok (.iload_n 1, 1) := by decide +kernel
theorem d_Md_filled_51 : decode b_Md_filled 51 = .ok (.invokevirtual 119, 3) := by decide +kernel
theorem d_Md_filled_54 : decode b_Md_filled 54 = .ok (.ifCond .ne 6, 3) := by decide +kernel
theorem d_Md_filled_57 : decode b_Md_filled 57 = .ok (.bipush (-4), 2) := by decide +kernel
theorem d_Md_filled_59 : decode b_Md_filled 59 = .ok (.ireturn, 1) := by decide +kernel
theorem d_Md_filled_60 : decode b_Md_filled 60 = .ok (.iconst 0, 1) := by decide +kernel
theorem d_Md_filled_61 : decode b_Md_filled 61 = .ok (.istore_n 2, 1) := by decide +kernel
theorem d_Md_filled_62 : decode b_Md_filled 62 = .ok (.aload_n 0, 1) := by decide +kernel
theorem d_Md_filled_63 : decode b_Md_filled 63 = .ok (.getfield 101, 3) := by decide +kernel
theorem d_Md_filled_66 : decode b_Md_filled 66 = .ok (.bipush 100, 2) := by decide +kernel
theorem d_Md_filled_68 : decode b_Md_filled 68 = .ok (.if_icmp .ne 54, 3) := by decide +kernel
theorem d_Md_filled_71 : decode b_Md_filled 71 = .ok (.aload_n 0, 1) := by decide +kernel
theorem d_Md_filled_72 : decode b_Md_filled 72 = .ok (.aload_n 0, 1) := by decide +kernel
theorem d_Md_filled_73 : decode b_Md_filled 73 = .ok (.getfield 62, 3) := by decide +kernel
theorem d_Md_filled_76 : decode b_Md_filled 76 = .ok (.invokevirtual 50, 3) := by decide +kernel
theorem d_Md_filled_79 : decode b_Md_filled 79 = .ok (.aload_n 0, 1) := by decide +kernel
theorem d_Md_filled_80 : decode b_Md_filled 80 = .ok (.getfield 62, 3) := by decide +kernel
theorem d_Md_filled_83 : decode b_Md_filled 83 = .ok (.lconst 0, 1) := by decide +kernel
theorem d_Md_filled_84 : decode b_Md_filled 84 = .ok (.lcmp, 1) := by decide +kernel
theorem d_Md_filled_85 : decode b_Md_filled 85 = .ok (.ifCond .ge 8, 3) := by decide +kernel
theorem d_Md_filled_88 : decode b_Md_filled 88 = .ok (.bipush 45, 2) := by decide +kernel
theorem d_Md_filled_90 : decode b_Md_filled 90 = .ok (.goto 28, 3) := by decide +kernel
theorem d_Md_filled_93 : decode b_Md_filled 93 = .ok (.aload_n 0, 1) := by decide +kernel
theorem d_Md_filled_94 : decode b_Md_filled 94 = .ok (.getfield 87, 3) := by decide +kernel
theorem d_Md_filled_97 : decode b_Md_filled 97 = .ok (.ifCond .eq 8, 3) := by decide +kernel
theorem d_Md_filled_100 : decode b_Md_filled 100 = .ok (.bipush 43, 2) := by decide +kernel
theorem d_Md_filled_102 : decode b_Md_filled 102 = .ok (.goto 16, 3) := by decide +kernel
theorem d_Md_filled_105 : decode b_Md_filled 105 = .ok (.aload_n 0, 1) := by decide +kernel
theorem d_Md_filled_106 : decode b_Md_filled 106 = .ok (.getfield 90, 3) := by decide +kernel
theorem d_Md_filled_109 : decode b_Md_filled 109 = .ok (.ifCond .eq 8, 3) := by decide +kernel
theorem d_Md_filled_112 : decode b_Md_filled 112 = .ok (.bipush 32, 2) := by decide +kernel
theorem d_Md_filled_114 : decode b_Md_filled 114 = .ok (.goto 4, 3) := by decide +kernel
theorem d_Md_filled_117 : decode b_Md_filled 117 = .ok (.iconst 0, 1) := by decide +kernel
theorem d_Md_filled_118 : decode b_Md_filled 118 = .ok (.istore_n 2, 1) := by decide +kernel
theorem d_Md_filled_119 : decode b_Md_filled 119 = .ok (.goto 68, 3) := by decide +kernel
theorem d_Md_filled_122 : decode b_Md_filled 122 = .ok (.aload_n 0, 1) := by decide +kernel
theorem d_Md_filled_123 : decode b_Md_filled 123 = .ok (.getfield 101, 3) := by decide +kernel
theorem d_Md_filled_126 : decode b_Md_filled 126 = .ok (.bipush 99, 2) := by decide +kernel
theorem d_Md_filled_128 : decode b_Md_filled 128 = .ok (.if_icmp .ne 21, 3) := by decide +kernel
theorem d_Md_filled_131 : decode b_Md_filled 131 = .ok (.aload_n 0, 1) := by decide +kernel
theorem d_Md_filled_132 : decode b_Md_filled 132 = .ok (.bipush 72, 2) := by decide +kernel
theorem d_Md_filled_134 : decode b_Md_filled 134 = .ok (.putfield 47, 3) := by decide +kernel
theorem d_Md_filled_137 : decode b_Md_filled 137 = .ok (.aload_n 0, 1) := by decide +kernel
theorem d_Md_filled_138 : decode b_Md_filled 138 = .ok (.aload_n 0, 1) := by decide +kernel
theorem d_Md_filled_139 : decode b_Md_filled 139 = .ok (.getfield 62, 3) := by decide +kernel
theorem d_Md_filled_142 : decode b_Md_filled 142 = .ok (.l2i, 1) := by decide +kernel
theorem d_Md_filled_143 : decode b_Md_filled 143 = .ok (.invokevirtual 53, 3) := by decide +kernel
theorem d_Md_filled_146 : decode b_Md_filled 146 = .ok (.goto 41, 3) := by decide +kernel
theorem d_Md_filled_149 : decode b_Md_filled 149 = .ok (.aload_n 0, 1) := by decide +kernel
theorem d_Md_filled_150 : decode b_Md_filled 150 = .ok (.aload_n 0, 1) := by decide +kernel
theorem d_Md_filled_151 : decode b_Md_filled 151 = .ok (.getfield 62, 3) := by decide +kernel
theorem d_Md_filled_154 : decode b_Md_filled 154 = .ok (.aload_n 0, 1) := by decide +kernel
theorem d_Md_filled_155 : decode b_Md_filled 155 = .ok (.getfield 101, 3) := by decide +kernel
theorem d_Md_filled_158 : decode b_Md_filled 158 = .ok (.bipush 111, 2) := by decide +kernel
theorem d_Md_filled_160 : decode b_Md_filled 160 = .ok (.if_icmp .ne 7, 3) := by decide +kernel
theorem d_Md_filled_163 : decode b_Md_filled 163 = .ok (.iconst 3, 1) := by decide +kernel
theorem d_Md_filled_164 : decode b_Md_filled 164 = .ok (.goto 4, 3) := by decide +kernel
theorem d_Md_filled_167 : decode b_Md_filled 167 = .ok (.iconst 4, 1) := by decide +kernel
theorem d_Md_filled_168 : decode b_Md_filled 168 = .ok (.aload_n 0, 1) := by decide +kernel
theorem d_Md_filled_169 : decode b_Md_filled 169 = .ok (.getfield 101, 3) := by decide +kernel
theorem d_Md_filled_172 : decode b_Md_filled 172 = .ok (.bipush 88, 2) := by decide +kernel
theorem d_Md_filled_174 : decode b_Md_filled 174 = .ok (.if_icmp .ne 8, 3) := by decide +kernel
theorem d_Md_filled_177 : decode b_Md_filled 177 = .ok (.bipush 65, 2) := by decide +kernel
theorem d_Md_filled_179 : decode b_Md_filled 179 = .ok (.goto 5, 3) := by decide +kernel
theorem d_Md_filled_182 : decode b_Md_filled 182 = .ok (.bipush 97, 2) := by decide +kernel
theorem d_Md_filled_184 : decode b_Md_filled 184 = .ok (.invokevirtual 122, 3) := by decide +kernel
theorem d_Md_filled_187 : decode b_Md_filled 187 = .ok (.aload_n 0, 1) := by decide +kernel
theorem d_Md_filled_188 : decode b_Md_filled 188 = .ok (.aload_n 0, 1) := by decide +kernel
theorem d_Md_filled_189 : decode b_Md_filled 189 = .ok (.getfield 26, 3) := by decide +kernel
theorem d_Md_filled_192 : decode b_Md_filled 192 = .ok (.aload_n 0, 1) := by decide +kernel
theorem d_Md_filled_193 : decode b_Md_filled 193 = .ok (.getfield 47, 3) := by decide +kernel
theorem d_Md_filled_196 : decode b_Md_filled 196 = .ok (.bipush 72, 2) := by decide +kernel
theorem d_Md_filled_198 : decode b_Md_filled 198 = .ok (.aload_n 0, 1) := by decide +kernel
theorem d_Md_filled_199 : decode b_Md_filled 199 = .ok (.getfield 47, 3) := by decide +kernel
theorem d_Md_filled_202 : decode b_Md_filled 202 = .ok (.isub, 1) := by decide +kernel
theorem d_Md_filled_203 : decode b_Md_filled 203 = .ok (.iload_n 2, 1) := by decide +kernel
theorem d_Md_filled_204 : decode b_Md_filled 204 = .ok (.invokevirtual 115, 3) := by decide +kernel
theorem d_Md_filled_207 : decode b_Md_filled 207 = .ok (.ifCond .eq 7, 3) := by decide +kernel
theorem d_Md_filled_210 : decode b_Md_filled 210 = .ok (.iconst 0, 1) := by decide +kernel
theorem d_Md_filled_211 : decode b_Md_filled 211 = .ok (.goto 5, 3) := by decide +kernel
theorem d_Md_filled_214 : decode b_Md_filled 214 = .ok (.bipush (-5), 2) := by decide +kernel
theorem d_Md_filled_216 : decode b_Md_filled 216 = .ok (.ireturn, 1) := by decide +kernel
theorem d_Md_fill_0 : decode b_Md_fill 0 = .ok (.iload 4, 2) := by decide +kernel
theorem d_Md_fill_2 : decode b_Md_fill 2 = .ok (.ifCond .ne 7, 3) := by decide +kernel
theorem d_Md_fill_5 : decode b_Md_fill 5 = .ok (.iload_n 3, 1) := by decide +kernel
end
section
theorem d_Md_fill_6 : decode b_Md_fill 6 = .ok (.goto 6, 3) := by decide +kernel
theorem d_Md_fill_9 : decode b_Md_fill 9 = .ok (.iload_n 3, 1) := by decide +kernel
theorem d_Md_fill_10 : decode b_Md_fill 10 = .ok (.iconst 1, 1) := by decide +kernel
theorem d_Md_fill_11 : decode b_Md_fill 11 = .ok (.iadd, 1) := by decide +kernel
theorem d_Md_fill_12 : decode b_Md_fill 12 = .ok (.istore 5, 2) := by decide +kernel
theorem d_Md_fill_14 : decode b_Md_fill 14 = .ok (.aload_n 0, 1) := by decide +kernel
theorem d_Md_fill_15 : decode b_Md_fill 15 = .ok (.getfield 93, 3) := by decide +kernel
theorem d_Md_fill_18 : decode b_Md_fill 18 = .ok (.iload 5, 2) := by decide +kernel
theorem d_Md_fill_20 : decode b_Md_fill 20 = .ok (.if_icmp .le 13, 3) := by decide +kernel
theorem d_Md_fill_23 : decode b_Md_fill 23 = .ok (.aload_n 0, 1) := by decide +kernel
theorem d_Md_fill_24 : decode b_Md_fill 24 = .ok (.getfield 93, 3) := by decide +kernel
theorem d_Md_fill_27 : decode b_Md_fill 27 = .ok (.iload 5, 2) := by decide +kernel
theorem d_Md_fill_29 : decode b_Md_fill 29 = .ok (.isub, 1) := by decide +kernel
theorem d_Md_fill_30 : decode b_Md_fill 30 = .ok (.goto 4, 3) := by decide +kernel
theorem d_Md_fill_33 : decode b_Md_fill 33 = .ok (.iconst 0, 1) := by decide +kernel
theorem d_Md_fill_34 : decode b_Md_fill 34 = .ok (.istore 6, 2) := by decide +kernel
theorem d_Md_fill_36 : decode b_Md_fill 36 = .ok (.aload_n 0, 1) := by decide +kernel
theorem d_Md_fill_37 : decode b_Md_fill 37 = .ok (.getfield 84, 3) := by decide +kernel
theorem d_Md_fill_40 : decode b_Md_fill 40 = .ok (.ifCond .eq 32, 3) := by decide +kernel
theorem d_Md_fill_43 : decode b_Md_fill 43 = .ok (.aload_n 0, 1) := by decide +kernel
theorem d_Md_fill_44 : decode b_Md_fill 44 = .ok (.getfield 80, 3) := by decide +kernel
theorem d_Md_fill_47 : decode b_Md_fill 47 = .ok (.ifCond .ne 25, 3) := by decide +kernel
theorem d_Md_fill_50 : decode b_Md_fill 50 = .ok (.aload_n 0, 1) := by decide +kernel
theorem d_Md_fill_51 : decode b_Md_fill 51 = .ok (.getfield 101, 3) := by decide +kernel
theorem d_Md_fill_54 : decode b_Md_fill 54 = .ok (.bipush 99, 2) := by decide +kernel
theorem d_Md_fill_56 : decode b_Md_fill 56 = .ok (.if_icmp .eq 16, 3) := by decide +kernel
theorem d_Md_fill_59 : decode b_Md_fill 59 = .ok (.aload_n 0, 1) := by decide +kernel
theorem d_Md_fill_60 : decode b_Md_fill 60 = .ok (.getfield 101, 3) := by decide +kernel
theorem d_Md_fill_63 : decode b_Md_fill 63 = .ok (.bipush 115, 2) := by decide +kernel
theorem d_Md_fill_65 : decode b_Md_fill 65 = .ok (.if_icmp .eq 7, 3) := by decide +kernel
theorem d_Md_fill_68 : decode b_Md_fill 68 = .ok (.iconst 1, 1) := by decide +kernel
theorem d_Md_fill_69 : decode b_Md_fill 69 = .ok (.goto 4, 3) := by decide +kernel
theorem d_Md_fill_72 : decode b_Md_fill 72 = .ok (.iconst 0, 1) := by decide +kernel
theorem d_Md_fill_73 : decode b_Md_fill 73 = .ok (.istore 7, 2) := by decide +kernel
theorem d_Md_fill_75 : decode b_Md_fill 75 = .ok (.aload_n 0, 1) := by decide +kernel
theorem d_Md_fill_76 : decode b_Md_fill 76 = .ok (.getfield 80, 3) := by decide +kernel
theorem d_Md_fill_79 : decode b_Md_fill 79 = .ok (.ifCond .ne 19, 3) := by decide +kernel
theorem d_Md_fill_82 : decode b_Md_fill 82 = .ok (.iload 7, 2) := by decide +kernel
theorem d_Md_fill_84 : decode b_Md_fill 84 = .ok (.ifCond .ne 14, 3) := by decide +kernel
theorem d_Md_fill_87 : decode b_Md_fill 87 = .ok (.aload_n 0, 1) := by decide +kernel
theorem d_Md_fill_88 : decode b_Md_fill 88 = .ok (.bipush 32, 2) := by decide +kernel
theorem d_Md_fill_90 : decode b_Md_fill 90 = .ok (.iload 6, 2) := by decide +kernel
theorem d_Md_fill_92 : decode b_Md_fill 92 = .ok (.invokevirtual 111, 3) := by decide +kernel
theorem d_Md_fill_95 : decode b_Md_fill 95 = .ok (.ifCond .eq 7, 3) := by decide +kernel
theorem d_Md_fill_98 : decode b_Md_fill 98 = .ok (.iconst 1, 1) := by decide +kernel
theorem d_Md_fill_99 : decode b_Md_fill 99 = .ok (.goto 4, 3) := by decide +kernel
theorem d_Md_fill_102 : decode b_Md_fill 102 = .ok (.iconst 0, 1) := by decide +kernel
theorem d_Md_fill_103 : decode b_Md_fill 103 = .ok (.istore 8, 2) := by decide +kernel
theorem d_Md_fill_105 : decode b_Md_fill 105 = .ok (.iload 8, 2) := by decide +kernel
theorem d_Md_fill_107 : decode b_Md_fill 107 = .ok (.ifCond .eq 37, 3) := by decide +kernel
theorem d_Md_fill_110 : decode b_Md_fill 110 = .ok (.iload 4, 2) := by decide +kernel
theorem d_Md_fill_112 : decode b_Md_fill 112 = .ok (.ifCond .eq 12, 3) := by decide +kernel
theorem d_Md_fill_115 : decode b_Md_fill 115 = .ok (.aload_n 0, 1) := by decide +kernel
theorem d_Md_fill_116 : decode b_Md_fill 116 = .ok (.iload 4, 2) := by decide +kernel
theorem d_Md_fill_118 : decode b_Md_fill 118 = .ok (.invokevirtual 107, 3) := by decide +kernel
theorem d_Md_fill_121 : decode b_Md_fill 121 = .ok (.ifCond .eq 23, 3) := by decide +kernel
theorem d_Md_fill_124 : decode b_Md_fill 124 = .ok (.iload 7, 2) := by decide +kernel
theorem d_Md_fill_126 : decode b_Md_fill 126 = .ok (.ifCond .eq 14, 3) := by decide +kernel
theorem d_Md_fill_129 : decode b_Md_fill 129 = .ok (.aload_n 0, 1) := by decide +kernel
theorem d_Md_fill_130 : decode b_Md_fill 130 = .ok (.bipush 48, 2) := by decide +kernel
theorem d_Md_fill_132 : decode b_Md_fill 132 = .ok (.iload 6, 2) := by decide +kernel
theorem d_Md_fill_134 : decode b_Md_fill 134 = .ok (.invokevirtual 111, 3) := by decide +kernel
theorem d_Md_fill_137 : decode b_Md_fill 137 = .ok (.ifCond .eq 7, 3) := by decide +kernel
theorem d_Md_fill_140 : decode b_Md_fill 140 = .ok (.iconst 1, 1) := by decide +kernel
theorem d_Md_fill_141 : decode b_Md_fill 141 = .ok (.goto 4, 3) := by decide +kernel
theorem d_Md_fill_144 : decode b_Md_fill 144 = .ok (.iconst 0, 1) := by decide +kernel
theorem d_Md_fill_145 : decode b_Md_fill 145 = .ok (.istore 8, 2) := by decide +kernel
theorem d_Md_fill_147 : decode b_Md_fill 147 = .ok (.iconst 0, 1) := by decide +kernel
theorem d_Md_fill_148 : decode b_Md_fill 148 = .ok (.istore 9, 2) := by decide +kernel
theorem d_Md_fill_150 : decode b_Md_fill 150 = .ok (.iload 9, 2) := by decide +kernel
theorem d_Md_fill_152 : decode b_Md_fill 152 = .ok (.iload_n 3, 1) := by decide +kernel
theorem d_Md_fill_153 : decode b_Md_fill 153 = .ok (.if_icmp .ge 26, 3) := by decide +kernel
theorem d_Md_fill_156 : decode b_Md_fill 156 = .ok (.iload 8, 2) := by decide +kernel
theorem d_Md_fill_158 : decode b_Md_fill 158 = .ok (.ifCond .eq 21, 3) := by decide +kernel
theorem d_Md_fill_161 : decode b_Md_fill 161 = .ok (.aload_n 0, 1) := by decide +kernel
theorem d_Md_fill_162 : decode b_Md_fill 162 = .ok (.aload_n 1, 1) := by decide +kernel
theorem d_Md_fill_163 : decode b_Md_fill 163 = .ok (.iload_n 2, 1) := by decide +kernel
theorem d_Md_fill_164 : decode b_Md_fill 164 = .ok (.iload 9, 2) := by decide +kernel
theorem d_Md_fill_166 : decode b_Md_fill 166 = .ok (.iadd, 1) := by decide +kernel
theorem d_Md_fill_167 : decode b_Md_fill 167 = .ok (.baload, 1) := by decide +kernel
theorem d_Md_fill_168 : decode b_Md_fill 168 = .ok (.invokevirtual 107, 3) := by decide +kernel
theorem d_Md_fill_171 : decode b_Md_fill 171 = .ok (.istore 8, 2) := by decide +kernel
theorem d_Md_fill_173 : decode b_Md_fill 173 = .ok (.iinc 9 1, 3) := by decide +kernel
theorem d_Md_fill_176 : decode b_Md_fill 176 = .ok (.goto (-26), 3) := by decide +kernel
theorem d_Md_fill_179 : decode b_Md_fill 179 = .ok (.iload 8, 2) := by decide +kernel
theorem d_Md_fill_181 : decode b_Md_fill 181 = .ok (.ifCond .eq 25, 3) := by decide +kernel
theorem d_Md_fill_184 : decode b_Md_fill 184 = .ok (.aload_n 0, 1) := by decide +kernel
theorem d_Md_fill_185 : decode b_Md_fill 185 = .ok (.getfield 80, 3) := by decide +kernel
theorem d_Md_fill_188 : decode b_Md_fill 188 = .ok (.ifCond .eq 14, 3) := by decide +kernel
theorem d_Md_fill_191 : decode b_Md_fill 191 = .ok (.aload_n 0, 1) := by decide +kernel
theorem d_Md_fill_192 : decode b_Md_fill 192 = .ok (.bipush 32, 2) := by decide +kernel
theorem d_Md_fill_194 : decode b_Md_fill 194 = .ok (.iload 6, 2) := by decide +kernel
theorem d_Md_fill_196 : decode b_Md_fill 196 = .ok (.invokevirtual 111, 3) := by decide +kernel
theorem d_Md_fill_199 : decode b_Md_fill 199 = .ok (.ifCond .eq 7, 3) := by decide +kernel
theorem d_Md_fill_202 : decode b_Md_fill 202 = .ok (.iconst 1, 1) := by decide +kernel
theorem d_Md_fill_203 : decode b_Md_fill 203 = .ok (.goto 4, 3) := by decide +kernel
theorem d_Md_fill_206 : decode b_Md_fill 206 = .ok (.iconst 0, 1) := by decide +kernel
theorem d_Md_fill_207 : decode b_Md_fill 207 = .ok (.ireturn, 1) := by decide +kernel
theorem d_Md_puts_0 : decode b_Md_puts 0 = .ok (.aload_n 0, 1) := by decide +kernel
theorem d_Md_puts_1 : decode b_Md_puts 1 = .ok (.getfield 104, 3) := by decide +kernel
theorem d_Md_puts_4 : decode b_Md_puts 4 = .ok (.iload_n 2, 1) := by decide +kernel
theorem d_Md_puts_5 : decode b_Md_puts 5 = .ok (.iadd, 1) := by decide +kernel
theorem d_Md_puts_6 : decode b_Md_puts 6 = .ok (.sipush 1024, 3) := by decide +kernel
theorem d_Md_puts_9 : decode b_Md_puts 9 = .ok (.if_icmp .gt 7, 3) := by decide +kernel
theorem d_Md_puts_12 : decode b_Md_puts 12 = .ok (.iconst 1, 1) := by decide +kernel
theorem d_Md_puts_13 : decode b_Md_puts 13 = .ok (.goto 4, 3) := by decide +kernel
theorem d_Md_puts_16 : decode b_Md_puts 16 = .ok (.iconst 0, 1) := by decide +kernel
theorem d_Md_puts_17 : decode b_Md_puts 17 = .ok (.istore_n 3, 1) := by decide +kernel
theorem d_Md_puts_18 : decode b_Md_puts 18 = .ok (.iconst 0, 1) := by decide +kernel
theorem d_Md_puts_19 : decode b_Md_puts 19 = .ok (.istore 4, 2) := by decide +kernel
theorem d_Md_puts_21 : decode b_Md_puts 21 = .ok (.iload 4, 2) := by decide +kernel
theorem d_Md_puts_23 : decode b_Md_puts 23 = .ok (.iload_n 2, 1) := by decide +kernel
theorem d_Md_puts_24 : decode b_Md_puts 24 = .ok (.if_icmp .ge 19, 3) := by decide +kernel
theorem d_Md_puts_27 : decode b_Md_puts 27 = .ok (.iload_n 3, 1) := by decide +kernel
theorem d_Md_puts_28 : decode b_Md_puts 28 = .ok (.ifCond .eq 15, 3) := by decide +kernel
theorem d_Md_puts_31 : decode b_Md_puts 31 = .ok (.aload_n 0, 1) := by decide +kernel
theorem d_Md_puts_32 : decode b_Md_puts 32 = .ok (.iload_n 1, 1) := by decide +kernel
theorem d_Md_puts_33 : decode b_Md_puts 33 = .ok (.invokevirtual 107, 3) := by decide +kernel
theorem d_Md_puts_36 : decode b_Md_puts 36 = .ok (.istore_n 3, 1) := by decide +kernel
theorem d_Md_puts_37 : decode b_Md_puts 37 = .ok (.iinc 4 1, 3) := by decide +kernel
theorem d_Md_puts_40 : decode b_Md_puts 40 = .ok (.goto (-19), 3) := by decide +kernel
theorem d_Md_puts_43 : decode b_Md_puts 43 = .ok (.iload_n 3, 1) := by decide +kernel
theorem d_Md_puts_44 : decode b_Md_puts 44 = .ok (.ireturn, 1) := by decide +kernel
theorem d_Md_isInteger_0 : decode b_Md_isInteger 0 = .ok (.bipush 40, 2) := by decide +kernel
theorem d_Md_isInteger_2 : decode b_Md_isInteger 2 = .ok (.iload_n 1, 1) := by decide +kernel
theorem d_Md_isInteger_3 : decode b_Md_isInteger 3 = .ok (.imul, 1) := by decide +kernel
theorem d_Md_isInteger_4 : decode b_Md_isInteger 4 = .ok (.istore_n 2, 1) := by decide +kernel
theorem d_Md_isInteger_5 : decode b_Md_isInteger 5 = .ok (.iload_n 2, 1) := by decide +kernel
theorem d_Md_isInteger_6 : decode b_Md_isInteger 6 = .ok (.aload_n 0, 1) := by decide +kernel
theorem d_Md_isInteger_7 : decode b_Md_isInteger 7 = .ok (.getfield 22, 3) := by decide +kernel
theorem d_Md_isInteger_10 : decode b_Md_isInteger 10 = .ok (.iload_n 1, 1) := by decide +kernel
theorem d_Md_isInteger_11 : decode b_Md_isInteger 11 = .ok (.iaload, 1) := by decide +kernel
theorem d_Md_isInteger_12 : decode b_Md_isInteger 12 = .ok (.iadd, 1) := by decide +kernel
theorem d_Md_isInteger_13 : decode b_Md_isInteger 13 = .ok (.istore_n 3, 1) := by decide +kernel
theorem d_Md_isInteger_14 : decode b_Md_isInteger 14 = .ok (.iload_n 2, 1) := by decide +kernel
theorem d_Md_isInteger_15 : decode b_Md_isInteger 15 = .ok (.iload_n 3, 1) := by decide +kernel
theorem d_Md_isInteger_16 : decode b_Md_isInteger 16 = .ok (.if_icmp .ge 18, 3) := by decide +kernel
theorem d_Md_isInteger_19 : decode b_Md_isInteger 19 = .ok (.aload_n 0, 1) := by decide +kernel
theorem d_Md_isInteger_20 : decode b_Md_isInteger 20 = .ok (.getfield 16, 3) := by decide +kernel
theorem d_Md_isInteger_23 : decode b_Md_isInteger 23 = .ok (.iload_n 2, 1) := by decide +kernel
theorem d_Md_isInteger_24 : decode b_Md_isInteger 24 = .ok (.baload, 1) := by decide +kernel
theorem d_Md_isInteger_25 : decode b_Md_isInteger 25 = .ok (.bipush 45, 2) := by decide +kernel
theorem d_Md_isInteger_27 : decode b_Md_isInteger 27 = .ok (.if_icmp .ne 7, 3) := by decide +kernel
theorem d_Md_isInteger_30 : decode b_Md_isInteger 30 = .ok (.iconst 1, 1) := by decide +kernel
theorem d_Md_isInteger_31 : decode b_Md_isInteger 31 = .ok (.goto 4, 3) := by decide +kernel
theorem d_Md_isInteger_34 : decode b_Md_isInteger 34 = .ok (.iconst 0, 1) := by decide +kernel
theorem d_Md_isInteger_35 : decode b_Md_isInteger 35 = .ok (.istore 4, 2) := by decide +kernel
theorem d_Md_isInteger_37 : decode b_Md_isInteger 37 = .ok (.iload_n 2, 1) := by decide +kernel
theorem d_Md_isInteger_38 : decode b_Md_isInteger 38 = .ok (.iload_n 3, 1) := by decide +kernel
theorem d_Md_isInteger_39 : decode b_Md_isInteger 39 = .ok (.if_icmp .ge 25, 3) := by decide +kernel
theorem d_Md_isInteger_42 : decode b_Md_isInteger 42 = .ok (.iload 4, 2) := by decide +kernel
theorem d_Md_isInteger_44 : decode b_Md_isInteger 44 = .ok (.ifCond .ne 14, 3) := by decide +kernel
theorem d_Md_isInteger_47 : decode b_Md_isInteger 47 = .ok (.aload_n 0, 1) := by decide +kernel
theorem d_Md_isInteger_48 : decode b_Md_isInteger 48 = .ok (.getfield 16, 3) := by decide +kernel
theorem d_Md_isInteger_51 : decode b_Md_isInteger 51 = .ok (.iload_n 2, 1) := by decide +kernel
theorem d_Md_isInteger_52 : decode b_Md_isInteger 52 = .ok (.baload, 1) := by decide +kernel
theorem d_Md_isInteger_53 : decode b_Md_isInteger 53 = .ok (.bipush 43, 2) := by decide +kernel
theorem d_Md_isInteger_55 : decode b_Md_isInteger 55 = .ok (.if_icmp .ne 9, 3) := by decide +kernel
theorem d_Md_isInteger_58 : decode b_Md_isInteger 58 = .ok (.iload_n 2, 1) := by decide +kernel
theorem d_Md_isInteger_59 : decode b_Md_isInteger 59 = .ok (.iconst 1, 1) := by decide +kernel
theorem d_Md_isInteger_60 : decode b_Md_isInteger 60 = .ok (.iadd, 1) := by decide +kernel
theorem d_Md_isInteger_61 : decode b_Md_isInteger 61 = .ok (.goto 4, 3) := by decide +kernel
theorem d_Md_isInteger_64 : decode b_Md_isInteger 64 = .ok (.iload_n 2, 1) := by decide +kernel
theorem d_Md_isInteger_65 : decode b_Md_isInteger 65 = .ok (.istore 5, 2) := by decide +kernel
theorem d_Md_isInteger_67 : decode b_Md_isInteger 67 = .ok (.iload 5, 2) := by decide +kernel
theorem d_Md_isInteger_69 : decode b_Md_isInteger 69 = .ok (.iconst 1, 1) := by decide +kernel
theorem d_Md_isInteger_70 : decode b_Md_isInteger 70 = .ok (.iadd, 1) := by decide +kernel
theorem d_Md_isInteger_71 : decode b_Md_isInteger 71 = .ok (.iload_n 3, 1) := by decide +kernel
theorem d_Md_isInteger_72 : decode b_Md_isInteger 72 = .ok (.if_icmp .ge 33, 3) := by decide +kernel
theorem d_Md_isInteger_75 : decode b_Md_isInteger 75 = .ok (.aload_n 0, 1) := by decide +kernel
theorem d_Md_isInteger_76 : decode b_Md_isInteger 76 = .ok (.getfield 16, 3) := by decide +kernel
theorem d_Md_isInteger_79 : decode b_Md_isInteger 79 = .ok (.iload 5, 2) := by decide +kernel
theorem d_Md_isInteger_81 : decode b_Md_isInteger 81 = .ok (.baload, 1) := by decide +kernel
theorem d_Md_isInteger_82 : decode b_Md_isInteger 82 = .ok (.bipush 48, 2) := by decide +kernel
theorem d_Md_isInteger_84 : decode b_Md_isInteger 84 = .ok (.if_icmp .ne 21, 3) := by decide +kernel
theorem d_Md_isInteger_87 : decode b_Md_isInteger 87 = .ok (.aload_n 0, 1) := by decide +kernel
theorem d_Md_isInteger_88 : decode b_Md_isInteger 88 = .ok (.getfield 16, 3) := by decide +kernel
theorem d_Md_isInteger_91 : decode b_Md_isInteger 91 = .ok (.iload 5, 2) := by decide +kernel
theorem d_Md_isInteger_93 : decode b_Md_isInteger 93 = .ok (.iconst 1, 1) := by decide +kernel
theorem d_Md_isInteger_94 : decode b_Md_isInteger 94 = .ok (.iadd, 1) := by decide +kernel
theorem d_Md_isInteger_95 : decode b_Md_isInteger 95 = .ok (.baload, 1) := by decide +kernel
theorem d_Md_isInteger_96 : decode b_Md_isInteger 96 = .ok (.bipush 120, 2) := by decide +kernel
theorem d_Md_isInteger_98 : decode b_Md_isInteger 98 = .ok (.if_icmp .ne 7, 3) := by decide +kernel
theorem d_Md_isInteger_101 : decode b_Md_isInteger 101 = .ok (.iconst 1, 1) := by decide +kernel
theorem d_Md_isInteger_102 : decode b_Md_isInteger 102 = .ok (.goto 4, 3) := by decide +kernel
theorem d_Md_isInteger_105 : decode b_Md_isInteger 105 = .ok (.iconst 0, 1) := by decide +kernel
theorem d_Md_isInteger_106 : decode b_Md_isInteger 106 = .ok (.istore 6, 2) := by decide +kernel
theorem d_Md_isInteger_108 : decode b_Md_isInteger 108 = .ok (.iload 6, 2) := by decide +kernel
theorem d_Md_isInteger_110 : decode b_Md_isInteger 110 = .ok (.ifCond .eq 17, 3) := by decide +kernel
theorem d_Md_isInteger_113 : decode b_Md_isInteger 113 = .ok (.aload_n 0, 1) := by decide +kernel
theorem d_Md_isInteger_114 : decode b_Md_isInteger 114 = .ok (.iload 5, 2) := by decide +kernel
theorem d_Md_isInteger_116 : decode b_Md_isInteger 116 = .ok (.iconst 2, 1) := by decide +kernel
theorem d_Md_isInteger_117 : decode b_Md_isInteger 117 = .ok (.iadd, 1) := by decide +kernel
theorem d_Md_isInteger_118 : decode b_Md_isInteger 118 = .ok (.iload_n 3, 1) := by decide +kernel
theorem d_Md_isInteger_119 : decode b_Md_isInteger 119 = .ok (.iload 4, 2) := by decide +kernel
theorem d_Md_isInteger_121 : decode b_Md_isInteger 121 = .ok (.invokevirtual 70, 3) := by decide +kernel
theorem d_Md_isInteger_124 : decode b_Md_isInteger 124 = .ok (.goto 12, 3) := by decide +kernel
theorem d_Md_isInteger_127 : decode b_Md_isInteger 127 = .ok (.aload_n 0, 1) := by decide +kernel
theorem d_Md_isInteger_128 : decode b_Md_isInteger 128 = .ok (.iload 5, 2) := by decide +kernel
theorem d_Md_isInteger_130 : decode b_Md_isInteger 130 = .ok (.iload_n 3, 1) := by decide +kernel
theorem d_Md_isInteger_131 : decode b_Md_isInteger 131 = .ok (.iload 4, 2) := by decide +kernel
theorem d_Md_isInteger_133 : decode b_Md_isInteger 133 = .ok (.invokevirtual 74, 3) := by decide +kernel
theorem d_Md_isInteger_136 : decode b_Md_isInteger 136 = .ok (.ireturn, 1) := by decide +kernel
theorem d_Md_isHex_0 : decode b_Md_isHex 0 = .ok (.lconst 0, 1) := by decide +kernel
theorem d_Md_isHex_1 : decode b_Md_isHex 1 = .ok (.lstore 4, 2) := by decide +kernel
theorem d_Md_isHex_3 : decode b_Md_isHex 3 = .ok (.iload_n 1, 1) := by decide +kernel
theorem d_Md_isHex_4 : decode b_Md_isHex 4 = .ok (.iload_n 2, 1) := by decide +kernel
theorem d_Md_isHex_5 : decode b_Md_isHex 5 = .ok (.if_icmp .ge 15, 3) := by decide +kernel
theorem d_Md_isHex_8 : decode b_Md_isHex 8 = .ok (.iload_n 2, 1) := by decide +kernel
theorem d_Md_isHex_9 : decode b_Md_isHex 9 = .ok (.iload_n 1, 1) := by decide +kernel
theorem d_Md_isHex_10 : decode b_Md_isHex 10 = .ok (.isub, 1) := by decide +kernel
theorem d_Md_isHex_11 : decode b_Md_isHex 11 = .ok (.bipush 16, 2) := by decide +kernel
theorem d_Md_isHex_13 : decode b_Md_isHex 13 = .ok (.if_icmp .gt 7, 3) := by decide +kernel
theorem d_Md_isHex_16 : decode b_Md_isHex 16 = .ok (.iconst 1, 1) := by decide +kernel
theorem d_Md_isHex_17 : decode b_Md_isHex 17 = .ok (.goto 4, 3) := by decide +kernel
theorem d_Md_isHex_20 : decode b_Md_isHex 20 = .ok (.iconst 0, 1) := by decide +kernel
theorem d_Md_isHex_21 : decode b_Md_isHex 21 = .ok (.istore 6, 2) := by decide +kernel
theorem d_Md_isHex_23 : decode b_Md_isHex 23 = .ok (.iload_n 1, 1) := by decide +kernel
theorem d_Md_isHex_24 : decode b_Md_isHex 24 = .ok (.istore 7, 2) := by decide +kernel
theorem d_Md_isHex_26 : decode b_Md_isHex 26 = .ok (.iload 7, 2) := by decide +kernel
theorem d_Md_isHex_28 : decode b_Md_isHex 28 = .ok (.iload_n 2, 1) := by decide +kernel
theorem d_Md_isHex_29 : decode b_Md_isHex 29 = .ok (.if_icmp .ge 49, 3) := by decide +kernel
theorem d_Md_isHex_32 : decode b_Md_isHex 32 = .ok (.iload 6, 2) := by decide +kernel
theorem d_Md_isHex_34 : decode b_Md_isHex 34 = .ok (.ifCond .eq 44, 3) := by decide +kernel
theorem d_Md_isHex_37 : decode b_Md_isHex 37 = .ok (.aload_n 0, 1) := by decide +kernel
theorem d_Md_isHex_38 : decode b_Md_isHex 38 = .ok (.getfield 16, 3) := by decide +kernel
theorem d_Md_isHex_41 : decode b_Md_isHex 41 = .ok (.iload 7, 2) := by decide +kernel
theorem d_Md_isHex_43 : decode b_Md_isHex 43 = .ok (.baload, 1) := by decide +kernel
theorem d_Md_isHex_44 : decode b_Md_isHex 44 = .ok (.invokestatic 58, 3) := by decide +kernel
theorem d_Md_isHex_47 : decode b_Md_isHex 47 = .ok (.istore 8, 2) := by decide +kernel
theorem d_Md_isHex_49 : decode b_Md_isHex 49 = .ok (.iload 8, 2) := by decide +kernel
theorem d_Md_isHex_51 : decode b_Md_isHex 51 = .ok (.iconst (-1), 1) := by decide +kernel
theorem d_Md_isHex_52 : decode b_Md_isHex 52 = .ok (.if_icmp .eq 7, 3) := by decide +kernel
theorem d_Md_isHex_55 : decode b_Md_isHex 55 = .ok (.iconst 1, 1) := by decide +kernel
theorem d_Md_isHex_56 : decode b_Md_isHex 56 = .ok (.goto 4, 3) := by decide +kernel
theorem d_Md_isHex_59 : decode b_Md_isHex 59 = .ok (.iconst 0, 1) := by decide +kernel
theorem d_Md_isHex_60 : decode b_Md_isHex 60 = .ok (.istore 6, 2) := by decide +kernel
theorem d_Md_isHex_62 : decode b_Md_isHex 62 = .ok (.lload 4, 2) := by decide +kernel
theorem d_Md_isHex_64 : decode b_Md_isHex 64 = .ok (.iconst 4, 1) := by decide +kernel
theorem d_Md_isHex_65 : decode b_Md_isHex 65 = .ok (.lshl, 1) := by decide +kernel
theorem d_Md_isHex_66 : decode b_Md_isHex 66 = .ok (.iload 8, 2) := by decide +kernel
theorem d_Md_isHex_68 : decode b_Md_isHex 68 = .ok (.i2l, 1) := by decide +kernel
theorem d_Md_isHex_69 : decode b_Md_isHex 69 = .ok (.lor, 1) := by decide +kernel
theorem d_Md_isHex_70 : decode b_Md_isHex 70 = .ok (.lstore 4, 2) := by decide +kernel
theorem d_Md_isHex_72 : decode b_Md_isHex 72 = .ok (.iinc 7 1, 3) := by decide +kernel
theorem d_Md_isHex_75 : decode b_Md_isHex 75 = .ok (.goto (-49), 3) := by decide +kernel
theorem d_Md_isHex_78 : decode b_Md_isHex 78 = .ok (.aload_n 0, 1) := by decide +kernel
theorem d_Md_isHex_79 : decode b_Md_isHex 79 = .ok (.iload_n 3, 1) := by decide +kernel
theorem d_Md_isHex_80 : decode b_Md_isHex 80 = .ok (.ifCond .eq 9, 3) := by decide +kernel
theorem d_Md_isHex_83 : decode b_Md_isHex 83 = .ok (.lload 4, 2) := by decide +kernel
theorem d_Md_isHex_85 : decode b_Md_isHex 85 = .ok (.lneg, 1) := by decide +kernel
theorem d_Md_isHex_86 : decode b_Md_isHex 86 = .ok (.goto 5, 3) := by decide +kernel
theorem d_Md_isHex_89 : decode b_Md_isHex 89 = .ok (.lload 4, 2) := by decide +kernel
theorem d_Md_isHex_91 : decode b_Md_isHex 91 = .ok (.putfield 62, 3) := by decide +kernel
theorem d_Md_isHex_94 : decode b_Md_isHex 94 = .ok (.iload 6, 2) := by decide +kernel
theorem d_Md_isHex_96 : decode b_Md_isHex 96 = .ok (.ireturn, 1) := by decide +kernel
theorem d_Md_hex_0 : decode b_Md_hex 0 = .ok (.iload_n 0, 1) := by decide +kernel
theorem d_Md_hex_1 : decode b_Md_hex 1 = .ok (.bipush 48, 2) := by decide +kernel
theorem d_Md_hex_3 : decode b_Md_hex 3 = .ok (.if_icmp .lt 14, 3) := by decide +kernel
theorem d_Md_hex_6 : decode b_Md_hex 6 = .ok (.iload_n 0, 1) := by decide +kernel
theorem d_Md_hex_7 : decode b_Md_hex 7 = .ok (.bipush 57, 2) := by decide +kernel
theorem d_Md_hex_9 : decode b_Md_hex 9 = .ok (.if_icmp .gt 8, 3) := by decide +kernel
theorem d_Md_hex_12 : decode b_Md_hex 12 = .ok (.iload_n 0, 1) := by decide +kernel
theorem d_Md_hex_13 : decode b_Md_hex 13 = .ok (.bipush 48, 2) := by decide +kernel
theorem d_Md_hex_15 : decode b_Md_hex 15 = .ok (.isub, 1) := by decide +kernel
theorem d_Md_hex_16 : decode b_Md_hex 16 = .ok (.ireturn, 1) := by decide +kernel
theorem d_Md_hex_17 : decode b_Md_hex 17 = .ok (.iload_n 0, 1) := by decide +kernel
theorem d_Md_hex_18 : decode b_Md_hex 18 = .ok (.bipush 97, 2) := by decide +kernel
theorem d_Md_hex_20 : decode b_Md_hex 20 = .ok (.if_icmp .lt 17, 3) := by decide +kernel
theorem d_Md_hex_23 : decode b_Md_hex 23 = .ok (.iload_n 0, 1) := by decide +kernel
theorem d_Md_hex_24 : decode b_Md_hex 24 = .ok (.bipush 102, 2) := by decide +kernel
theorem d_Md_hex_26 : decode b_Md_hex 26 = .ok (.if_icmp .gt 11, 3) := by decide +kernel
theorem d_Md_hex_29 : decode b_Md_hex 29 = .ok (.iload_n 0, 1) := by decide +kernel
theorem d_Md_hex_30 : decode b_Md_hex 30 = .ok (.bipush 97, 2) := by decide +kernel
theorem d_Md_hex_32 : decode b_Md_hex 32 = .ok (.isub, 1) := by decide +kernel
theorem d_Md_hex_33 : decode b_Md_hex 33 = .ok (.bipush 10, 2) := by decide +kernel
theorem d_Md_hex_35 : decode b_Md_hex 35 = .ok (.iadd, 1) := by decide +kernel
theorem d_Md_hex_36 : decode b_Md_hex 36 = .ok (.ireturn, 1) := by decide +kernel
theorem d_Md_hex_37 : decode b_Md_hex 37 = .ok (.iload_n 0, 1) := by decide +kernel
theorem d_Md_hex_38 : decode b_Md_hex 38 = .ok (.bipush 65, 2) := by decide +kernel
theorem d_Md_hex_40 : decode b_Md_hex 40 = .ok (.if_icmp .lt 19, 3) := by decide +kernel
theorem d_Md_hex_43 : decode b_Md_hex 43 = .ok (.iload_n 0, 1) := by decide +kernel
theorem d_Md_hex_44 : decode b_Md_hex 44 = .ok (.bipush 70, 2) := by decide +kernel
theorem d_Md_hex_46 : decode b_Md_hex 46 = .ok (.if_icmp .gt 13, 3) := by decide +kernel
theorem d_Md_hex_49 : decode b_Md_hex 49 = .ok (.iload_n 0, 1) := by decide +kernel
theorem d_Md_hex_50 : decode b_Md_hex 50 = .ok (.bipush 65, 2) := by decide +kernel
theorem d_Md_hex_52 : decode b_Md_hex 52 = .ok (.isub, 1) := by decide +kernel
theorem d_Md_hex_53 : decode b_Md_hex 53 = .ok (.bipush 10, 2) := by decide +kernel
theorem d_Md_hex_55 : decode b_Md_hex 55 = .ok (.iadd, 1) := by decide +kernel
theorem d_Md_hex_56 : decode b_Md_hex 56 = .ok (.goto 4, 3) := by decide +kernel
theorem d_Md_hex_59 : decode b_Md_hex 59 = .ok (.iconst (-1), 1) := by decide +kernel
theorem d_Md_hex_60 : decode b_Md_hex 60 = .ok (.ireturn, 1) := by decide +kernel
theorem d_Md_isDecimal_0 : decode b_Md_isDecimal 0 = .ok (.lconst 0, 1) := by decide +kernel
theorem d_Md_isDecimal_1 : decode b_Md_isDecimal 1 = .ok (.lstore 4, 2) := by decide +kernel
theorem d_Md_isDecimal_3 : decode b_Md_isDecimal 3 = .ok (.iload_n 1, 1) := by decide +kernel
theorem d_Md_isDecimal_4 : decode b_Md_isDecimal 4 = .ok (.iload_n 2, 1) := by decide +kernel
theorem d_Md_isDecimal_5 : decode b_Md_isDecimal 5 = .ok (.if_icmp .ge 7, 3) := by decide +kernel
theorem d_Md_isDecimal_8 : decode b_Md_isDecimal 8 = .ok (.iconst 1, 1) := by decide +kernel
theorem d_Md_isDecimal_9 : decode b_Md_isDecimal 9 = .ok (.goto 4, 3) := by decide +kernel
theorem d_Md_isDecimal_12 : decode b_Md_isDecimal 12 = .ok (.iconst 0, 1) := by decide +kernel
theorem d_Md_isDecimal_13 : decode b_Md_isDecimal 13 = .ok (.istore 6, 2) := by decide +kernel
theorem d_Md_isDecimal_15 : decode b_Md_isDecimal 15 = .ok (.iload_n 1, 1) := by decide +kernel
theorem d_Md_isDecimal_16 : decode b_Md_isDecimal 16 = .ok (.istore 7, 2) := by decide +kernel
theorem d_Md_isDecimal_18 : decode b_Md_isDecimal 18 = .ok (.iload 7, 2) := by decide +kernel
theorem d_Md_isDecimal_20 : decode b_Md_isDecimal 20 = .ok (.iload_n 2, 1) := by decide +kernel
theorem d_Md_isDecimal_21 : decode b_Md_isDecimal 21 = .ok (.if_icmp .ge 92, 3) := by decide +kernel
theorem d_Md_isDecimal_24 : decode b_Md_isDecimal 24 = .ok (.iload 6, 2) := by decide +kernel
theorem d_Md_isDecimal_26 : decode b_Md_isDecimal 26 = .ok (.ifCond .eq 87, 3) := by decide +kernel
theorem d_Md_isDecimal_29 : decode b_Md_isDecimal 29 = .ok (.aload_n 0, 1) := by decide +kernel
theorem d_Md_isDecimal_30 : decode b_Md_isDecimal 30 = .ok (.getfield 16, 3) := by decide +kernel
theorem d_Md_isDecimal_33 : decode b_Md_isDecimal 33 = .ok (.iload 7, 2) := by decide +kernel
theorem d_Md_isDecimal_35 : decode b_Md_isDecimal 35 = .ok (.baload, 1) := by decide +kernel
theorem d_Md_isDecimal_36 : decode b_Md_isDecimal 36 = .ok (.bipush 48, 2) := by decide +kernel
theorem d_Md_isDecimal_38 : decode b_Md_isDecimal 38 = .ok (.isub, 1) := by decide +kernel
theorem d_Md_isDecimal_39 : decode b_Md_isDecimal 39 = .ok (.istore 8, 2) := by decide +kernel
theorem d_Md_isDecimal_41 : decode b_Md_isDecimal 41 = .ok (.iload 8, 2) := by decide +kernel
theorem d_Md_isDecimal_43 : decode b_Md_isDecimal 43 = .ok (.ifCond .lt 40, 3) := by decide +kernel
theorem d_Md_isDecimal_46 : decode b_Md_isDecimal 46 = .ok (.iload 8, 2) := by decide +kernel
theorem d_Md_isDecimal_48 : decode b_Md_isDecimal 48 = .ok (.bipush 9, 2) := by decide +kernel
theorem d_Md_isDecimal_50 : decode b_Md_isDecimal 50 = .ok (.if_icmp .gt 33, 3) := by decide +kernel
theorem d_Md_isDecimal_53 : decode b_Md_isDecimal 53 = .ok (.lload 4, 2) := by decide +kernel
theorem d_Md_isDecimal_55 : decode b_Md_isDecimal 55 = .ok (.ldc2_w 66, 3) := by decide +kernel
theorem d_Md_isDecimal_58 : decode b_Md_isDecimal 58 = .ok (.lcmp, 1) := by decide +kernel
theorem d_Md_isDecimal_59 : decode b_Md_isDecimal 59 = .ok (.ifCond .lt 24, 3) := by decide +kernel
theorem d_Md_isDecimal_62 : decode b_Md_isDecimal 62 = .ok (.ldc2_w 56, 3) := by decide +kernel
theorem d_Md_isDecimal_65 : decode b_Md_isDecimal 65 = .ok (.lload 4, 2) := by decide +kernel
theorem d_Md_isDecimal_67 : decode b_Md_isDecimal 67 = .ok (.lmul, 1) := by decide +kernel
theorem d_Md_isDecimal_68 : decode b_Md_isDecimal 68 = .ok (.ldc2_w 68, 3) := by decide +kernel
theorem d_Md_isDecimal_71 : decode b_Md_isDecimal 71 = .ok (.iload 8, 2) := by decide +kernel
theorem d_Md_isDecimal_73 : decode b_Md_isDecimal 73 = .ok (.i2l, 1) := by decide +kernel
theorem d_Md_isDecimal_74 : decode b_Md_isDecimal 74 = .ok (.ladd, 1) := by decide +kernel
theorem d_Md_isDecimal_75 : decode b_Md_isDecimal 75 = .ok (.lcmp, 1) := by decide +kernel
theorem d_Md_isDecimal_76 : decode b_Md_isDecimal 76 = .ok (.ifCond .lt 7, 3) := by decide +kernel
theorem d_Md_isDecimal_79 : decode b_Md_isDecimal 79 = .ok (.iconst 1, 1) := by decide +kernel
theorem d_Md_isDecimal_80 : decode b_Md_isDecimal 80 = .ok (.goto 4, 3) := by decide +kernel
theorem d_Md_isDecimal_83 : decode b_Md_isDecimal 83 = .ok (.iconst 0, 1) := by decide +kernel
theorem d_Md_isDecimal_84 : decode b_Md_isDecimal 84 = .ok (.istore 6, 2) := by decide +kernel
theorem d_Md_isDecimal_86 : decode b_Md_isDecimal 86 = .ok (.iload 6, 2) := by decide +kernel
theorem d_Md_isDecimal_88 : decode b_Md_isDecimal 88 = .ok (.ifCond .eq 16, 3) := by decide +kernel
theorem d_Md_isDecimal_91 : decode b_Md_isDecimal 91 = .ok (.ldc2_w 56, 3) := by decide +kernel
theorem d_Md_isDecimal_94 : decode b_Md_isDecimal 94 = .ok (.lload 4, 2) := by decide +kernel
theorem d_Md_isDecimal_96 : decode b_Md_isDecimal 96 = .ok (.lmul, 1) := by decide +kernel
theorem d_Md_isDecimal_97 : decode b_Md_isDecimal 97 = .ok (.iload 8, 2) := by decide +kernel
theorem d_Md_isDecimal_99 : decode b_Md_isDecimal 99 = .ok (.i2l, 1) := by decide +kernel
theorem d_Md_isDecimal_100 : decode b_Md_isDecimal 100 = .ok (.lsub, 1) := by decide +kernel
theorem d_Md_isDecimal_101 : decode b_Md_isDecimal 101 = .ok (.goto 4, 3) := by decide +kernel
theorem d_Md_isDecimal_104 : decode b_Md_isDecimal 104 = .ok (.lconst 0, 1) := by decide +kernel
theorem d_Md_isDecimal_105 : decode b_Md_isDecimal 105 = .ok (.lstore 4, 2) := by decide +kernel
theorem d_Md_isDecimal_107 : decode b_Md_isDecimal 107 = .ok (.iinc 7 1, 3) := by decide +kernel
theorem d_Md_isDecimal_110 : decode b_Md_isDecimal 110 = .ok (.goto (-92), 3) := by decide +kernel
theorem d_Md_isDecimal_113 : decode b_Md_isDecimal 113 = .ok (.iload 6, 2) := by decide +kernel
theorem d_Md_isDecimal_115 : decode b_Md_isDecimal 115 = .ok (.ifCond .eq 20, 3) := by decide +kernel
theorem d_Md_isDecimal_118 : decode b_Md_isDecimal 118 = .ok (.iload_n 3, 1) := by decide +kernel
theorem d_Md_isDecimal_119 : decode b_Md_isDecimal 119 = .ok (.ifCond .ne 12, 3) := by decide +kernel
theorem d_Md_isDecimal_122 : decode b_Md_isDecimal 122 = .ok (.lload 4, 2) := by decide +kernel
theorem d_Md_isDecimal_124 : decode b_Md_isDecimal 124 = .ok (.ldc2_w 68, 3) := by decide +kernel
theorem d_Md_isDecimal_127 : decode b_Md_isDecimal 127 = .ok (.lcmp, 1) := by decide +kernel
theorem d_Md_isDecimal_128 : decode b_Md_isDecimal 128 = .ok (.ifCond .eq 7, 3) := by decide +kernel
theorem d_Md_isDecimal_131 : decode b_Md_isDecimal 131 = .ok (.iconst 1, 1) := by decide +kernel
theorem d_Md_isDecimal_132 : decode b_Md_isDecimal 132 = .ok (.goto 4, 3) := by decide +kernel
theorem d_Md_isDecimal_135 : decode b_Md_isDecimal 135 = .ok (.iconst 0, 1) := by decide +kernel
theorem d_Md_isDecimal_136 : decode b_Md_isDecimal 136 = .ok (.istore 6, 2) := by decide +kernel
theorem d_Md_isDecimal_138 : decode b_Md_isDecimal 138 = .ok (.aload_n 0, 1) := by decide +kernel
theorem d_Md_isDecimal_139 : decode b_Md_isDecimal 139 = .ok (.iload_n 3, 1) := by decide +kernel
theorem d_Md_isDecimal_140 : decode b_Md_isDecimal 140 = .ok (.ifCond .eq 8, 3) := by decide +kernel
theorem d_Md_isDecimal_143 : decode b_Md_isDecimal 143 = .ok (.lload 4, 2) := by decide +kernel
theorem d_Md_isDecimal_145 : decode b_Md_isDecimal 145 = .ok (.goto 6, 3) := by decide +kernel
theorem d_Md_isDecimal_148 : decode b_Md_isDecimal 148 = .ok (.lload 4, 2) := by decide +kernel
theorem d_Md_isDecimal_150 : decode b_Md_isDecimal 150 = .ok (.lneg, 1) := by decide +kernel
theorem d_Md_isDecimal_151 : decode b_Md_isDecimal 151 = .ok (.putfield 62, 3) := by decide +kernel
theorem d_Md_isDecimal_154 : decode b_Md_isDecimal 154 = .ok (.iload 6, 2) := by decide +kernel
theorem d_Md_isDecimal_156 : decode b_Md_isDecimal 156 = .ok (.ireturn, 1) := by decide +kernel
theorem d_Md_bits_0 : decode b_Md_bits 0 = .ok (.aload_n 0, 1) := by decide +kernel
theorem d_Md_bits_1 : decode b_Md_bits 1 = .ok (.bipush 72, 2) := by decide +kernel
theorem d_Md_bits_3 : decode b_Md_bits 3 = .ok (.putfield 47, 3) := by decide +kernel
theorem d_Md_bits_6 : decode b_Md_bits 6 = .ok (.lload_n 1, 1) := by decide +kernel
theorem d_Md_bits_7 : decode b_Md_bits 7 = .ok (.lstore 5, 2) := by decide +kernel
theorem d_Md_bits_9 : decode b_Md_bits 9 = .ok (.lload 5, 2) := by decide +kernel
theorem d_Md_bits_11 : decode b_Md_bits 11 = .ok (.lconst 1, 1) := by decide +kernel
theorem d_Md_bits_12 : decode b_Md_bits 12 = .ok (.iload_n 3, 1) := by decide +kernel
theorem d_Md_bits_13 : decode b_Md_bits 13 = .ok (.lshl, 1) := by decide +kernel
theorem d_Md_bits_14 : decode b_Md_bits 14 = .ok (.lconst 1, 1) := by decide +kernel
theorem d_Md_bits_15 : decode b_Md_bits 15 = .ok (.lsub, 1) := by decide +kernel
theorem d_Md_bits_16 : decode b_Md_bits 16 = .ok (.land, 1) := by decide +kernel
theorem d_Md_bits_17 : decode b_Md_bits 17 = .ok (.l2i, 1) := by decide +kernel
theorem d_Md_bits_18 : decode b_Md_bits 18 = .ok (.istore 7, 2) := by decide +kernel
theorem d_Md_bits_20 : decode b_Md_bits 20 = .ok (.aload_n 0, 1) := by decide +kernel
theorem d_Md_bits_21 : decode b_Md_bits 21 = .ok (.iload 7, 2) := by decide +kernel
theorem d_Md_bits_23 : decode b_Md_bits 23 = .ok (.bipush 10, 2) := by decide +kernel
theorem d_Md_bits_25 : decode b_Md_bits 25 = .ok (.if_icmp .ge 11, 3) := by decide +kernel
theorem d_Md_bits_28 : decode b_Md_bits 28 = .ok (.bipush 48, 2) := by decide +kernel
theorem d_Md_bits_30 : decode b_Md_bits 30 = .ok (.iload 7, 2) := by decide +kernel
theorem d_Md_bits_32 : decode b_Md_bits 32 = .ok (.iadd, 1) := by decide +kernel
theorem d_Md_bits_33 : decode b_Md_bits 33 = .ok (.goto 11, 3) := by decide +kernel
theorem d_Md_bits_36 : decode b_Md_bits 36 = .ok (.iload 4, 2) := by decide +kernel
theorem d_Md_bits_38 : decode b_Md_bits 38 = .ok (.iload 7, 2) := by decide +kernel
theorem d_Md_bits_40 : decode b_Md_bits 40 = .ok (.iadd, 1) := by decide +kernel
theorem d_Md_bits_41 : decode b_Md_bits 41 = .ok (.bipush 10, 2) := by decide +kernel
theorem d_Md_bits_43 : decode b_Md_bits 43 = .ok (.isub, 1) := by decide +kernel
theorem d_Md_bits_44 : decode b_Md_bits 44 = .ok (.invokevirtual 53, 3) := by decide +kernel
theorem d_Md_bits_47 : decode b_Md_bits 47 = .ok (.lload 5, 2) := by decide +kernel
theorem d_Md_bits_49 : decode b_Md_bits 49 = .ok (.iload_n 3, 1) := by decide +kernel
theorem d_Md_bits_50 : decode b_Md_bits 50 = .ok (.lushr, 1) := by decide +kernel
theorem d_Md_bits_51 : decode b_Md_bits 51 = .ok (.lstore 5, 2) := by decide +kernel
theorem d_Md_bits_53 : decode b_Md_bits 53 = .ok (.lload 5, 2) := by decide +kernel
theorem d_Md_bits_55 : decode b_Md_bits 55 = .ok (.lconst 0, 1) := by decide +kernel
theorem d_Md_bits_56 : decode b_Md_bits 56 = .ok (.lcmp, 1) := by decide +kernel
theorem d_Md_bits_57 : decode b_Md_bits 57 = .ok (.ifCond .ne (-48), 3) := by decide +kernel
theorem d_Md_bits_60 : decode b_Md_bits 60 = .ok (.return_, 1) := by decide +kernel
theorem d_Md_madeAt_0 : decode b_Md_madeAt 0 = .ok (.iload_n 1, 1) := by decide +kernel
theorem d_Md_madeAt_1 : decode b_Md_madeAt 1 = .ok (.ifCond .lt 24, 3) := by decide +kernel
theorem d_Md_madeAt_4 : decode b_Md_madeAt 4 = .ok (.iload_n 1, 1) := by decide +kernel
theorem d_Md_madeAt_5 : decode b_Md_madeAt 5 = .ok (.aload_n 0, 1) := by decide +kernel
theorem d_Md_madeAt_6 : decode b_Md_madeAt 6 = .ok (.getfield 126, 3) := by decide +kernel
theorem d_Md_madeAt_9 : decode b_Md_madeAt 9 = .ok (.if_icmp .ge 16, 3) := by decide +kernel
theorem d_Md_madeAt_12 : decode b_Md_madeAt 12 = .ok (.aload_n 0, 1) := by decide +kernel
theorem d_Md_madeAt_13 : decode b_Md_madeAt 13 = .ok (.getfield 19, 3) := by decide +kernel
theorem d_Md_madeAt_16 : decode b_Md_madeAt 16 = .ok (.iload_n 1, 1) := by decide +kernel
theorem d_Md_madeAt_17 : decode b_Md_madeAt 17 = .ok (.baload, 1) := by decide +kernel
theorem d_Md_madeAt_18 : decode b_Md_madeAt 18 = .ok (.sipush 255, 3) := by decide +kernel
theorem d_Md_madeAt_21 : decode b_Md_madeAt 21 = .ok (.iand, 1) := by decide +kernel
theorem d_Md_madeAt_22 : decode b_Md_madeAt 22 = .ok (.goto 4, 3) := by decide +kernel
theorem d_Md_madeAt_25 : decode b_Md_madeAt 25 = .ok (.iconst (-1), 1) := by decide +kernel
theorem d_Md_madeAt_26 : decode b_Md_madeAt 26 = .ok (.ireturn, 1) := by decide +kernel
theorem d_La_law_0 : decode b_La_law 0 = .ok (.new 7, 3) := by decide +kernel
theorem d_La_law_3 : decode b_La_law 3 = .ok (.dup, 1) := by decide +kernel
theorem d_La_law_4 : decode b_La_law 4 = .ok (.invokespecial 9, 3) := by decide +kernel
theorem d_La_law_7 : decode b_La_law 7 = .ok (.astore_n 1, 1) := by decide +kernel
theorem d_La_law_8 : decode b_La_law 8 = .ok (.new 10, 3) := by decide +kernel
theorem d_La_law_11 : decode b_La_law 11 = .ok (.dup, 1) := by decide +kernel
theorem d_La_law_12 : decode b_La_law 12 = .ok (.invokespecial 12, 3) := by decide +kernel
theorem d_La_law_15 : decode b_La_law 15 = .ok (.astore_n 2, 1) := by decide +kernel
theorem d_La_law_16 : decode b_La_law 16 = .ok (.iconst 0, 1) := by decide +kernel
theorem d_La_law_17 : decode b_La_law 17 = .ok (.istore_n 3, 1) := by decide +kernel
theorem d_La_law_18 : decode b_La_law 18 = .ok (.iload_n 3, 1) := by decide +kernel
theorem d_La_law_19 : decode b_La_law 19 = .ok (.aload_n 0, 1) := by decide +kernel
theorem d_La_law_20 : decode b_La_law 20 = .ok (.arraylength, 1) := by decide +kernel
theorem d_La_law_21 : decode b_La_law 21 = .ok (.bipush 6, 2) := by decide +kernel
theorem d_La_law_23 : decode b_La_law 23 = .ok (.isub, 1) := by decide +kernel
theorem d_La_law_24 : decode b_La_law 24 = .ok (.if_icmp .gt 274, 3) := by decide +kernel
theorem d_La_law_27 : decode b_La_law 27 = .ok (.aload_n 0, 1) := by decide +kernel
theorem d_La_law_28 : decode b_La_law 28 = .ok (.iload_n 3, 1) := by decide +kernel
theorem d_La_law_29 : decode b_La_law 29 = .ok (.iaload, 1) := by decide +kernel
theorem d_La_law_30 : decode b_La_law 30 = .ok (.bipush 7, 2) := by decide +kernel
theorem d_La_law_32 : decode b_La_law 32 = .ok (.iand, 1) := by decide +kernel
theorem d_La_law_33 : decode b_La_law 33 = .ok (.tableswitch 259 0 7 #[47, 110, 133, 146, 159, 212, 223, 236], 47) := by decide +kernel
theorem d_La_law_80 : decode b_La_law 80 = .ok (.aload_n 1, 1) := by decide +kernel
theorem d_La_law_81 : decode b_La_law 81 = .ok (.aload_n 0, 1) := by decide +kernel
theorem d_La_law_82 : decode b_La_law 82 = .ok (.iload_n 3, 1) := by decide +kernel
theorem d_La_law_83 : decode b_La_law 83 = .ok (.iconst 1, 1) := by decide +kernel
theorem d_La_law_84 : decode b_La_law 84 = .ok (.iadd, 1) := by decide +kernel
theorem d_La_law_85 : decode b_La_law 85 = .ok (.iaload, 1) := by decide +kernel
theorem d_La_law_86 : decode b_La_law 86 = .ok (.aload_n 0, 1) := by decide +kernel
theorem d_La_law_87 : decode b_La_law 87 = .ok (.iload_n 3, 1) := by decide +kernel
theorem d_La_law_88 : decode b_La_law 88 = .ok (.iconst 2, 1) := by decide +kernel
theorem d_La_law_89 : decode b_La_law 89 = .ok (.iadd, 1) := by decide +kernel
theorem d_La_law_90 : decode b_La_law 90 = .ok (.iaload, 1) := by decide +kernel
theorem d_La_law_91 : decode b_La_law 91 = .ok (.aload_n 0, 1) := by decide +kernel
theorem d_La_law_92 : decode b_La_law 92 = .ok (.iload_n 3, 1) := by decide +kernel
theorem d_La_law_93 : decode b_La_law 93 = .ok (.iconst 3, 1) := by decide +kernel
theorem d_La_law_94 : decode b_La_law 94 = .ok (.iadd, 1) := by decide +kernel
theorem d_La_law_95 : decode b_La_law 95 = .ok (.iaload, 1) := by decide +kernel
theorem d_La_law_96 : decode b_La_law 96 = .ok (.aload_n 0, 1) := by decide +kernel
theorem d_La_law_97 : decode b_La_law 97 = .ok (.iload_n 3, 1) := by decide +kernel
theorem d_La_law_98 : decode b_La_law 98 = .ok (.iconst 4, 1) := by decide +kernel
theorem d_La_law_99 : decode b_La_law 99 = .ok (.iadd, 1) := by decide +kernel
theorem d_La_law_100 : decode b_La_law 100 = .ok (.iaload, 1) := by decide +kernel
theorem d_La_law_101 : decode b_La_law 101 = .ok (.aload_n 0, 1) := by decide +kernel
theorem d_La_law_102 : decode b_La_law 102 = .ok (.iload_n 3, 1) := by decide +kernel
theorem d_La_law_103 : decode b_La_law 103 = .ok (.iconst 5, 1) := by decide +kernel
theorem d_La_law_104 : decode b_La_law 104 = .ok (.iadd, 1) := by decide +kernel
theorem d_La_law_105 : decode b_La_law 105 = .ok (.iaload, 1) := by decide +kernel
theorem d_La_law_106 : decode b_La_law 106 = .ok (.invokevirtual 13, 3) := by decide +kernel
theorem d_La_law_109 : decode b_La_law 109 = .ok (.aload_n 2, 1) := by decide +kernel
theorem d_La_law_110 : decode b_La_law 110 = .ok (.aload_n 0, 1) := by decide +kernel
theorem d_La_law_111 : decode b_La_law 111 = .ok (.iload_n 3, 1) := by decide +kernel
theorem d_La_law_112 : decode b_La_law 112 = .ok (.iconst 1, 1) := by decide +kernel
theorem d_La_law_113 : decode b_La_law 113 = .ok (.iadd, 1) := by decide +kernel
theorem d_La_law_114 : decode b_La_law 114 = .ok (.iaload, 1) := by decide +kernel
theorem d_La_law_115 : decode b_La_law 115 = .ok (.aload_n 0, 1) := by decide +kernel
theorem d_La_law_116 : decode b_La_law 116 = .ok (.iload_n 3, 1) := by decide +kernel
theorem d_La_law_117 : decode b_La_law 117 = .ok (.iconst 2, 1) := by decide +kernel
theorem d_La_law_118 : decode b_La_law 118 = .ok (.iadd, 1) := by decide +kernel
theorem d_La_law_119 : decode b_La_law 119 = .ok (.iaload, 1) := by decide +kernel
theorem d_La_law_120 : decode b_La_law 120 = .ok (.aload_n 0, 1) := by decide +kernel
theorem d_La_law_121 : decode b_La_law 121 = .ok (.iload_n 3, 1) := by decide +kernel
theorem d_La_law_122 : decode b_La_law 122 = .ok (.iconst 3, 1) := by decide +kernel
theorem d_La_law_123 : decode b_La_law 123 = .ok (.iadd, 1) := by decide +kernel
theorem d_La_law_124 : decode b_La_law 124 = .ok (.iaload, 1) := by decide +kernel
theorem d_La_law_125 : decode b_La_law 125 = .ok (.aload_n 0, 1) := by decide +kernel
theorem d_La_law_126 : decode b_La_law 126 = .ok (.iload_n 3, 1) := by decide +kernel
theorem d_La_law_127 : decode b_La_law 127 = .ok (.iconst 4, 1) := by decide +kernel
theorem d_La_law_128 : decode b_La_law 128 = .ok (.iadd, 1) := by decide +kernel
theorem d_La_law_129 : decode b_La_law 129 = .ok (.iaload, 1) := by decide +kernel
theorem d_La_law_130 : decode b_La_law 130 = .ok (.aload_n 0, 1) := by decide +kernel
theorem d_La_law_131 : decode b_La_law 131 = .ok (.iload_n 3, 1) := by decide +kernel
theorem d_La_law_132 : decode b_La_law 132 = .ok (.iconst 5, 1) := by decide +kernel
theorem d_La_law_133 : decode b_La_law 133 = .ok (.iadd, 1) := by decide +kernel
theorem d_La_law_134 : decode b_La_law 134 = .ok (.iaload, 1) := by decide +kernel
theorem d_La_law_135 : decode b_La_law 135 = .ok (.invokevirtual 17, 3) := by decide +kernel
theorem d_La_law_138 : decode b_La_law 138 = .ok (.if_icmp .eq 154, 3) := by decide +kernel
theorem d_La_law_141 : decode b_La_law 141 = .ok (.iconst 0, 1) := by decide +kernel
theorem d_La_law_142 : decode b_La_law 142 = .ok (.ireturn, 1) := by decide +kernel
theorem d_La_law_143 : decode b_La_law 143 = .ok (.aload_n 1, 1) := by decide +kernel
theorem d_La_law_144 : decode b_La_law 144 = .ok (.aload_n 0, 1) := by decide +kernel
theorem d_La_law_145 : decode b_La_law 145 = .ok (.iload_n 3, 1) := by decide +kernel
theorem d_La_law_146 : decode b_La_law 146 = .ok (.iconst 1, 1) := by decide +kernel
theorem d_La_law_147 : decode b_La_law 147 = .ok (.iadd, 1) := by decide +kernel
theorem d_La_law_148 : decode b_La_law 148 = .ok (.iaload, 1) := by decide +kernel
theorem d_La_law_149 : decode b_La_law 149 = .ok (.invokevirtual 18, 3) := by decide +kernel
theorem d_La_law_152 : decode b_La_law 152 = .ok (.aload_n 2, 1) := by decide +kernel
theorem d_La_law_153 : decode b_La_law 153 = .ok (.aload_n 0, 1) := by decide +kernel
theorem d_La_law_154 : decode b_La_law 154 = .ok (.iload_n 3, 1) := by decide +kernel
theorem d_La_law_155 : decode b_La_law 155 = .ok (.iconst 1, 1) := by decide +kernel
theorem d_La_law_156 : decode b_La_law 156 = .ok (.iadd, 1) := by decide +kernel
theorem d_La_law_157 : decode b_La_law 157 = .ok (.iaload, 1) := by decide +kernel
theorem d_La_law_158 : decode b_La_law 158 = .ok (.invokevirtual 22, 3) := by decide +kernel
theorem d_La_law_161 : decode b_La_law 161 = .ok (.if_icmp .eq 131, 3) := by decide +kernel
theorem d_La_law_164 : decode b_La_law 164 = .ok (.iconst 0, 1) := by decide +kernel
theorem d_La_law_165 : decode b_La_law 165 = .ok (.ireturn, 1) := by decide +kernel
theorem d_La_law_166 : decode b_La_law 166 = .ok (.aload_n 1, 1) := by decide +kernel
theorem d_La_law_167 : decode b_La_law 167 = .ok (.invokevirtual 23, 3) := by decide +kernel
theorem d_La_law_170 : decode b_La_law 170 = .ok (.aload_n 2, 1) := by decide +kernel
theorem d_La_law_171 : decode b_La_law 171 = .ok (.invokevirtual 27, 3) := by decide +kernel
theorem d_La_law_174 : decode b_La_law 174 = .ok (.if_icmp .eq 118, 3) := by decide +kernel
theorem d_La_law_177 : decode b_La_law 177 = .ok (.iconst 0, 1) := by decide +kernel
theorem d_La_law_178 : decode b_La_law 178 = .ok (.ireturn, 1) := by decide +kernel
theorem d_La_law_179 : decode b_La_law 179 = .ok (.aload_n 1, 1) := by decide +kernel
theorem d_La_law_180 : decode b_La_law 180 = .ok (.invokevirtual 28, 3) := by decide +kernel
theorem d_La_law_183 : decode b_La_law 183 = .ok (.aload_n 2, 1) := by decide +kernel
theorem d_La_law_184 : decode b_La_law 184 = .ok (.invokevirtual 31, 3) := by decide +kernel
theorem d_La_law_187 : decode b_La_law 187 = .ok (.if_icmp .eq 105, 3) := by decide +kernel
theorem d_La_law_190 : decode b_La_law 190 = .ok (.iconst 0, 1) := by decide +kernel
theorem d_La_law_191 : decode b_La_law 191 = .ok (.ireturn, 1) := by decide +kernel
theorem d_La_law_192 : decode b_La_law 192 = .ok (.aload_n 1, 1) := by decide +kernel
theorem d_La_law_193 : decode b_La_law 193 = .ok (.aload_n 0, 1) := by decide +kernel
theorem d_La_law_194 : decode b_La_law 194 = .ok (.iload_n 3, 1) := by decide +kernel
theorem d_La_law_195 : decode b_La_law 195 = .ok (.iconst 1, 1) := by decide +kernel
theorem d_La_law_196 : decode b_La_law 196 = .ok (.iadd, 1) := by decide +kernel
theorem d_La_law_197 : decode b_La_law 197 = .ok (.iaload, 1) := by decide +kernel
theorem d_La_law_198 : decode b_La_law 198 = .ok (.i2l, 1) := by decide +kernel
theorem d_La_law_199 : decode b_La_law 199 = .ok (.bipush 32, 2) := by decide +kernel
theorem d_La_law_201 : decode b_La_law 201 = .ok (.lshl, 1) := by decide +kernel
theorem d_La_law_202 : decode b_La_law 202 = .ok (.aload_n 0, 1) := by decide +kernel
theorem d_La_law_203 : decode b_La_law 203 = .ok (.iload_n 3, 1) := by decide +kernel
theorem d_La_law_204 : decode b_La_law 204 = .ok (.iconst 2, 1) := by decide +kernel
theorem d_La_law_205 : decode b_La_law 205 = .ok (.iadd, 1) := by decide +kernel
theorem d_La_law_206 : decode b_La_law 206 = .ok (.iaload, 1) := by decide +kernel
theorem d_La_law_207 : decode b_La_law 207 = .ok (.i2l, 1) := by decide +kernel
theorem d_La_law_208 : decode b_La_law 208 = .ok (.ldc2_w 32, 3) := by decide +kernel
theorem d_La_law_211 : decode b_La_law 211 = .ok (.land, 1) := by decide +kernel
theorem d_La_law_212 : decode b_La_law 212 = .ok (.lor, 1) := by decide +kernel
theorem d_La_law_213 : decode b_La_law 213 = .ok (.invokevirtual 34, 3) := by decide +kernel
theorem d_La_law_216 : decode b_La_law 216 = .ok (.aload_n 2, 1) := by decide +kernel
theorem d_La_law_217 : decode b_La_law 217 = .ok (.aload_n 0, 1) := by decide +kernel
theorem d_La_law_218 : decode b_La_law 218 = .ok (.iload_n 3, 1) := by decide +kernel
theorem d_La_law_219 : decode b_La_law 219 = .ok (.iconst 1, 1) := by decide +kernel
theorem d_La_law_220 : decode b_La_law 220 = .ok (.iadd, 1) := by decide +kernel
theorem d_La_law_221 : decode b_La_law 221 = .ok (.iaload, 1) := by decide +kernel
theorem d_La_law_222 : decode b_La_law 222 = .ok (.i2l, 1) := by decide +kernel
theorem d_La_law_223 : decode b_La_law 223 = .ok (.bipush 32, 2) := by decide +kernel
theorem d_La_law_225 : decode b_La_law 225 = .ok (.lshl, 1) := by decide +kernel
theorem d_La_law_226 : decode b_La_law 226 = .ok (.aload_n 0, 1) := by decide +kernel
theorem d_La_law_227 : decode b_La_law 227 = .ok (.iload_n 3, 1) := by decide +kernel
theorem d_La_law_228 : decode b_La_law 228 = .ok (.iconst 2, 1) := by decide +kernel
theorem d_La_law_229 : decode b_La_law 229 = .ok (.iadd, 1) := by decide +kernel
theorem d_La_law_230 : decode b_La_law 230 = .ok (.iaload, 1) := by decide +kernel
theorem d_La_law_231 : decode b_La_law 231 = .ok (.i2l, 1) := by decide +kernel
theorem d_La_law_232 : decode b_La_law 232 = .ok (.ldc2_w 32, 3) := by decide +kernel
theorem d_La_law_235 : decode b_La_law 235 = .ok (.land, 1) := by decide +kernel
theorem d_La_law_236 : decode b_La_law 236 = .ok (.lor, 1) := by decide +kernel
theorem d_La_law_237 : decode b_La_law 237 = .ok (.invokevirtual 38, 3) := by decide +kernel
theorem d_La_law_240 : decode b_La_law 240 = .ok (.if_icmp .eq 52, 3) := by decide +kernel
theorem d_La_law_243 : decode b_La_law 243 = .ok (.iconst 0, 1) := by decide +kernel
theorem d_La_law_244 : decode b_La_law 244 = .ok (.ireturn, 1) := by decide +kernel
theorem d_La_law_245 : decode b_La_law 245 = .ok (.aload_n 1, 1) := by decide +kernel
theorem d_La_law_246 : decode b_La_law 246 = .ok (.invokevirtual 39, 3) := by decide +kernel
theorem d_La_law_249 : decode b_La_law 249 = .ok (.aload_n 2, 1) := by decide +kernel
theorem d_La_law_250 : decode b_La_law 250 = .ok (.invokevirtual 42, 3) := by decide +kernel
theorem d_La_law_253 : decode b_La_law 253 = .ok (.goto 39, 3) := by decide +kernel
theorem d_La_law_256 : decode b_La_law 256 = .ok (.aload_n 1, 1) := by decide +kernel
theorem d_La_law_257 : decode b_La_law 257 = .ok (.invokevirtual 43, 3) := by decide +kernel
theorem d_La_law_260 : decode b_La_law 260 = .ok (.aload_n 2, 1) := by decide +kernel
theorem d_La_law_261 : decode b_La_law 261 = .ok (.invokevirtual 46, 3) := by decide +kernel
theorem d_La_law_264 : decode b_La_law 264 = .ok (.if_icmp .eq 28, 3) := by decide +kernel
theorem d_La_law_267 : decode b_La_law 267 = .ok (.iconst 0, 1) := by decide +kernel
theorem d_La_law_268 : decode b_La_law 268 = .ok (.ireturn, 1) := by decide +kernel
theorem d_La_law_269 : decode b_La_law 269 = .ok (.aload_n 1, 1) := by decide +kernel
theorem d_La_law_270 : decode b_La_law 270 = .ok (.aload_n 0, 1) := by decide +kernel
theorem d_La_law_271 : decode b_La_law 271 = .ok (.iload_n 3, 1) := by decide +kernel
theorem d_La_law_272 : decode b_La_law 272 = .ok (.iconst 1, 1) := by decide +kernel
theorem d_La_law_273 : decode b_La_law 273 = .ok (.iadd, 1) := by decide +kernel
theorem d_La_law_274 : decode b_La_law 274 = .ok (.iaload, 1) := by decide +kernel
theorem d_La_law_275 : decode b_La_law 275 = .ok (.invokevirtual 47, 3) := by decide +kernel
theorem d_La_law_278 : decode b_La_law 278 = .ok (.aload_n 2, 1) := by decide +kernel
theorem d_La_law_279 : decode b_La_law 279 = .ok (.aload_n 0, 1) := by decide +kernel
theorem d_La_law_280 : decode b_La_law 280 = .ok (.iload_n 3, 1) := by decide +kernel
theorem d_La_law_281 : decode b_La_law 281 = .ok (.iconst 1, 1) := by decide +kernel
theorem d_La_law_282 : decode b_La_law 282 = .ok (.iadd, 1) := by decide +kernel
theorem d_La_law_283 : decode b_La_law 283 = .ok (.iaload, 1) := by decide +kernel
end
section
theorem d_La_law_284 : decode b_La_law 284 = .ok (.invokevirtual 51, 3) := by decide +kernel
theorem d_La_law_287 : decode b_La_law 287 = .ok (.if_icmp .eq 5, 3) := by decide +kernel
theorem d_La_law_290 : decode b_La_law 290 = .ok (.iconst 0, 1) := by decide +kernel
theorem d_La_law_291 : decode b_La_law 291 = .ok (.ireturn, 1) := by decide +kernel
theorem d_La_law_292 : decode b_La_law 292 = .ok (.iinc 3 6, 3) := by decide +kernel
theorem d_La_law_295 : decode b_La_law 295 = .ok (.goto (-277), 3) := by decide +kernel
theorem d_La_law_298 : decode b_La_law 298 = .ok (.iconst 1, 1) := by decide +kernel
theorem d_La_law_299 : decode b_La_law 299 = .ok (.ireturn, 1) := by decide +kernel
end
section
/-! ===== the forms of this proof: one world bundle, contracts, rows over the kit's ===== -/
abbrev gG : Type := (Nat → ClassId) × (Nat → Nat → Nat) × ClassId × ClassId
abbrev gD (G : gG) : va_G := (G.1, G.2.1)
abbrev gcB (G : gG) : ClassId := G.2.2.1
abbrev gcI (G : gG) : ClassId := G.2.2.2
abbrev gT (G : gG) : List (ClassId × FieldType) := [(gcB G, .byte), (gcI G, .int)]
abbrev gK (G : gG) (U : State) : Prop := va_K (gD G) classes (gT G) U
/-- the world in a method: the cells ws, since the method's start nothing outside A was written -/
def gW (G : gG) (A : Nat → Prop) (s : State) (ws : va_W) (H : Heap) (locs : List Loc) : Prop :=
  gK G s ∧ va_P (gD G) classes ws H ∧ va_D A ws ∧ va_S A s.heap H locs ∧ ∀ q, s.heap.size ≤ q → A q
def gPre (G : gG) (av : List Value) (wc : va_W) (X : (Nat → Prop) → State → Prop) (sz : Nat) : Array Value → State → Prop :=
  va_Pc av (fun U => U.heap.size = sz ∧ gK G U ∧ va_P (gD G) classes wc U.heap ∧ va_D (fun _ => True) wc ∧ X (va_A wc sz) U)
def gB {σ : Type} (G : gG) (A : Nat → Prop) (w' : σ → va_W) : σ → State → Prop := fun u t => gK G t ∧ va_P (gD G) classes (w' u) t.heap ∧ va_D A (w' u)
/-- the contract of a method that answers an int or a boolean -/
def MetI {σ : Type} (l : Launch) (y : MethodName) (cw : Cond) (rm : Room) (mc ms : Nat) (G : gG) (av : List Value) (wc : va_W) (X : (Nat → Prop) → State → Prop) (post : Int32 → σ → Prop) (w' : σ → va_W) : Prop :=
  ∀ sz, Met l y (cw :: gt) rm (gPre G av wc X sz) (va_Qi post (gB G (va_A wc sz) w') (va_A wc sz)) mc ms (va_A wc sz)
/-- the contract of a void method -/
def MetV {σ : Type} (l : Launch) (y : MethodName) (cw : Cond) (rm : Room) (mc ms : Nat) (G : gG) (av : List Value) (wc : va_W) (X : (Nat → Prop) → State → Prop) (post : σ → Prop) (w' : σ → va_W) : Prop :=
  ∀ sz, Met l y (cw :: gt) rm (gPre G av wc X sz) (va_Qv post (gB G (va_A wc sz) w') (va_A wc sz)) mc ms (va_A wc sz)
abbrev X0 : (Nat → Prop) → State → Prop := fun _ _ => True
def XB (X : (Nat → Prop) → State → Prop) : Prop := ∀ (A : Nat → Prop) (U : State) (g : JFrame) (mk : MethodId) (a : Array Value), X A U → X A (U.calling g mk a)
theorem XB0 : XB X0 := fun _ _ _ _ _ _ => trivial
abbrev rmL (k : Nat) : Room := { frames := k + 1, cells := 0, slots := 0, locals := 40 * (k + 1) }
theorem gPre_blind {G : gG} {av : List Value} {wc : va_W} {X : (Nat → Prop) → State → Prop} {sz : Nat} (hX : XB X) : FrameBlind (gPre G av wc X sz) := by
  intro a U g mk q
  obtain ⟨q0, q1, qK, qP, qD, qX⟩ := q
  exact ⟨q0, q1, va_K.moved (u := U) (U := U.calling g mk a) (Vm.Alike.refl U.vm) qK, qP, qD, hX _ _ _ _ _ qX⟩
theorem MetI.mk {σ : Type} {l : Launch} {y : MethodName} {cc : ByteArray} {maxL : Nat} {ret : Option FieldType} {rm : Room} {mc ms : Nat} {G : gG} {av : List Value} {wc : va_W} {X : (Nat → Prop) → State → Prop} {post : Int32 → σ → Prop} {w' : σ → va_W} (hy : plainName y.cls = true) (hle : (lg_sl av).length ≤ maxL)
    (body : ∀ (p : Program) (e : Env) (s : State) (m : MethodId) (args : Array Value) (below : List Frame) (meth : Method) (c : Code) (A : Nat → Prop) (ls : Array Slot), CallFix p m c cc maxL s args gt y.cls → meth.sig.returnType = ret → meth.locks = false → gW G A s wc s.heap [] → X A s → lv_has ls maxL (lv_args 0 av) →
      W p l e rm s m args below meth c s.heap [] 0 0 (MQ below (va_Qi post (gB G A w') A) args s mc ms A) (F0 m 0 ls [])) : MetI l y (Cond.code y cc maxL ret) rm mc ms G av wc X post w' := by
  intro sz
  refine Met.ofW (cc := cc) (maxL := maxL) (ret := ret) hy rfl ?_
  intro p e s m args below meth c s₁ B hml hv
  obtain ⟨rfl, hsz, hK, hP, hD, hX⟩ := hv
  subst hsz
  have hts := atoms_spec (ws := Cond.code y cc maxL ret :: gt) B.pre
  rw [lg_entry_eq]
  exact body p e s m _ below meth c (va_A wc s.heap.size) _ ⟨B.exec, B.bytes, hml, findClass_of_methodNamed B.named, fun w hw => hts w (List.mem_cons_of_mem _ hw)⟩ B.returns B.notSynchronized ⟨hK, hP, hD.self, va_S.rf, fun q h => Or.inr h⟩ hX (lv_entry av hle)
theorem MetV.mk {σ : Type} {l : Launch} {y : MethodName} {cc : ByteArray} {maxL : Nat} {ret : Option FieldType} {rm : Room} {mc ms : Nat} {G : gG} {av : List Value} {wc : va_W} {X : (Nat → Prop) → State → Prop} {post : σ → Prop} {w' : σ → va_W} (hy : plainName y.cls = true) (hle : (lg_sl av).length ≤ maxL)
    (body : ∀ (p : Program) (e : Env) (s : State) (m : MethodId) (args : Array Value) (below : List Frame) (meth : Method) (c : Code) (A : Nat → Prop) (ls : Array Slot), CallFix p m c cc maxL s args gt y.cls → meth.sig.returnType = ret → meth.locks = false → meth.name = y.name → gW G A s wc s.heap [] → X A s → lv_has ls maxL (lv_args 0 av) →
      W p l e rm s m args below meth c s.heap [] 0 0 (MQ below (va_Qv post (gB G A w') A) args s mc ms A) (F0 m 0 ls [])) : MetV l y (Cond.code y cc maxL ret) rm mc ms G av wc X post w' := by
  intro sz
  refine Met.ofW (cc := cc) (maxL := maxL) (ret := ret) hy rfl ?_
  intro p e s m args below meth c s₁ B hml hv
  obtain ⟨rfl, hsz, hK, hP, hD, hX⟩ := hv
  subst hsz
  have hts := atoms_spec (ws := Cond.code y cc maxL ret :: gt) B.pre
  rw [lg_entry_eq]
  exact body p e s m _ below meth c (va_A wc s.heap.size) _ ⟨B.exec, B.bytes, hml, findClass_of_methodNamed B.named, fun w hw => hts w (List.mem_cons_of_mem _ hw)⟩ B.returns B.notSynchronized (name_of_methodNamed B.named B.method).1 ⟨hK, hP, hD.self, va_S.rf, fun q h => Or.inr h⟩ hX (lv_entry av hle)
section CORE
variable {p : Program} {l : Launch} {e : Env} {R : Room} {s : State} {m : MethodId} {args : Array Value} {below : List Frame} {meth : Method} {c : Code} {H : Heap} {locs : List Loc} {cells slots : Nat} {Q : State → Prop}
variable {cc : ByteArray} {pc nL : Nat} {ls : Array Slot} {rest : List Value} {own : String} {G : gG} {A : Nat → Prop} {a : Nat} {ws ws' : va_W}
theorem tpi {x y : Int32} (h : x = y) (k : W p l e R s m args below meth c H locs cells slots Q (F0 m pc ls (.int y :: rest))) : W p l e R s m args below meth c H locs cells slots Q (F0 m pc ls (.int x :: rest)) := by
  subst h; exact k
theorem tpl {x y : Int64} (h : x = y) (k : W p l e R s m args below meth c H locs cells slots Q (F0 m pc ls (.long y :: rest))) : W p l e R s m args below meth c H locs cells slots Q (F0 m pc ls (.long x :: rest)) := by
  subst h; exact k
theorem gW.eq (hw : gW G A s ws H locs) (h : ws = ws') : gW G A s ws' H locs := h ▸ hw
theorem xget (S : CallFix p m c cc nL s args gt own) (hw : gW G A s ws H locs) {index ci k : Nat} {fin : Bool} {ty : FieldType} (fl : FL own index ci k fin ty) (q0 : Nat) {fs : List Value} (he : ws[q0]? = some (a, .inr (ci, fs))) {v : Value} (hv : fs[k]? = some v) (hdg : decode cc pc = .ok (.getfield index, 3))
    (kk : W p l e R s m args below meth c H locs cells slots Q (F0 m (pc + 3) ls (v :: rest))) : W p l e R s m args below meth c H locs cells slots Q (F0 m pc ls (.ref a :: rest)) := by
  obtain ⟨C, T, N, ty0, h1, h2, h3, h4, h5, h6, h7, h8, h9⟩ := fl
  obtain ⟨hx, hb, hml, ho, hts⟩ := S
  exact va_get (D := gD G) (T := T) hx hb hts h3 ho hw.1 hw.2.1 q0 he h1 k h2 (hts _ h6) (fun _ h => h) hv hdg kk
theorem xput (S : CallFix p m c cc nL s args gt own) (hw : gW G A s ws H locs) {index ci k : Nat} {ty : FieldType} (fl : FL own index ci k false ty) (q0 : Nat) {fs : List Value} (he : ws[q0]? = some (a, .inr (ci, fs))) {v : Value} (hn : narrow ty v = v) (hfit : fits ty v = true) (hl : k < fs.length) (hws : ws.set q0 (a, .inr (ci, fs.set k v)) = ws') (hdg : decode cc pc = .ok (.putfield index, 3))
    (kk : ∀ (H : Heap) (locs : List Loc), gW G A s ws' H locs → W p l e R s m args below meth c H locs cells slots Q (F0 m (pc + 3) ls rest)) : W p l e R s m args below meth c H locs cells slots Q (F0 m pc ls (v :: .ref a :: rest)) := by
  obtain ⟨C, T, N, ty0, h1, h2, h3, h4, h5, h6, h7, h8, h9⟩ := fl
  obtain ⟨hx, hb, hml, ho, hts⟩ := S
  obtain ⟨hK, hP, hD, hS, hA⟩ := hw
  subst hws
  exact va_put (D := gD G) (T := T) hx hb hts h3 ty0 h4 h5 ho hK hP hD hS q0 he h1 k h2 (hts _ h6) (fun _ h => h) h7 h8 hn hfit hl hdg (fun H1 locs1 hP hD hS => kk H1 locs1 ⟨hK, hP, hD, hS, hA⟩)
theorem xputF (S : CallFix p m c cc nL s args gt own) (hw : gW G A s ws H locs) (hin : meth.name = "<init>") {index ci k : Nat} {ty : FieldType} (fl : FL own index ci k true ty) (hci : (classes[ci]?).map (·.1) = some own) (q0 : Nat) {fs : List Value} (he : ws[q0]? = some (a, .inr (ci, fs))) {v : Value} (hn : narrow ty v = v) (hfit : fits ty v = true) (hl : k < fs.length) (hws : ws.set q0 (a, .inr (ci, fs.set k v)) = ws') (hdg : decode cc pc = .ok (.putfield index, 3))
    (kk : ∀ (H : Heap) (locs : List Loc), gW G A s ws' H locs → W p l e R s m args below meth c H locs cells slots Q (F0 m (pc + 3) ls rest)) : W p l e R s m args below meth c H locs cells slots Q (F0 m pc ls (v :: .ref a :: rest)) := by
  obtain ⟨C, T, N, ty0, h1, h2, h3, h4, h5, h6, h7, h8, h9⟩ := fl
  obtain ⟨hx, hb, hml, ho, hts⟩ := S
  obtain ⟨hK, hP, hD, hS, hA⟩ := hw
  subst hws
  rw [h1] at hci
  have hC : own = C := (Option.some.inj hci).symm
  exact va_putF (D := gD G) (T := T) hx hb hts h3 ty0 h4 h5 ho hK hP hD hS q0 he h1 k h2 (hts _ h6) (fun _ h => h) h7 hin (h9 hC rfl) h8 hn hfit hl hdg (fun H1 locs1 hP hD hS => kk H1 locs1 ⟨hK, hP, hD, hS, hA⟩)
theorem xbald (S : CallFix p m c cc nL s args gt own) (hw : gW G A s ws H locs) (q0 : Nat) {n : Nat} {f : Nat → Int32} (he : ws[q0]? = some (a, .inl (gcB G, n, .inl f))) {j : Nat} (hj : j < n) (hn : n < 2 ^ 31) (hdg : decode cc pc = .ok (.baload, 1))
    (kk : W p l e R s m args below meth c H locs cells slots Q (F0 m (pc + 1) ls (.int (f j) :: rest))) : W p l e R s m args below meth c H locs cells slots Q (F0 m pc ls (.int (nI j) :: .ref a :: rest)) := by
  obtain ⟨hK, hP, hD, hS, hA⟩ := hw
  exact va_bald S.1 S.2.1 hK hP q0 0 he rfl (vp_in_nI hj hn) hdg (by rw [nI_clamp (by omega)]; exact kk)
theorem xiald (S : CallFix p m c cc nL s args gt own) (hw : gW G A s ws H locs) (q0 : Nat) {n : Nat} {f : Nat → Int32} (he : ws[q0]? = some (a, .inl (gcI G, n, .inl f))) {j : Nat} (hj : j < n) (hn : n < 2 ^ 31) (hdg : decode cc pc = .ok (.iaload, 1))
    (kk : W p l e R s m args below meth c H locs cells slots Q (F0 m (pc + 1) ls (.int (f j) :: rest))) : W p l e R s m args below meth c H locs cells slots Q (F0 m pc ls (.int (nI j) :: .ref a :: rest)) := by
  obtain ⟨hK, hP, hD, hS, hA⟩ := hw
  exact va_iald S.1 S.2.1 hK hP q0 1 he rfl (vp_in_nI hj hn) hdg (by rw [nI_clamp (by omega)]; exact kk)
theorem xbast (S : CallFix p m c cc nL s args gt own) (hw : gW G A s ws H locs) (q0 : Nat) {n : Nat} {f : Nat → Int32} (he : ws[q0]? = some (a, .inl (gcB G, n, .inl f))) {j : Nat} {x y : Int32} (hj : j < n) (hn : n < 2 ^ 31) (hy : x.toInt8.toInt32 = y) (hws : ws.set q0 (a, .inl (gcB G, n, .inl (upd f j y))) = ws') (hdg : decode cc pc = .ok (.bastore, 1))
    (kk : ∀ (H : Heap) (locs : List Loc), gW G A s ws' H locs → W p l e R s m args below meth c H locs cells slots Q (F0 m (pc + 1) ls rest)) : W p l e R s m args below meth c H locs cells slots Q (F0 m pc ls (.int x :: .int (nI j) :: .ref a :: rest)) := by
  obtain ⟨hK, hP, hD, hS, hA⟩ := hw
  subst hws; subst hy
  refine va_bast S.1 S.2.1 hK hP hD hS q0 0 he rfl (vp_in_nI hj hn) hdg (fun H1 locs1 hP hD hS => kk H1 locs1 ⟨hK, ?_, ?_, hS, hA⟩)
  · rw [nI_clamp (by omega)] at hP; exact hP
  · rw [nI_clamp (by omega)] at hD; exact hD
theorem xiast (S : CallFix p m c cc nL s args gt own) (hw : gW G A s ws H locs) (q0 : Nat) {n : Nat} {f : Nat → Int32} (he : ws[q0]? = some (a, .inl (gcI G, n, .inl f))) {j : Nat} {x : Int32} (hj : j < n) (hn : n < 2 ^ 31) (hws : ws.set q0 (a, .inl (gcI G, n, .inl (upd f j x))) = ws') (hdg : decode cc pc = .ok (.iastore, 1))
    (kk : ∀ (H : Heap) (locs : List Loc), gW G A s ws' H locs → W p l e R s m args below meth c H locs cells slots Q (F0 m (pc + 1) ls rest)) : W p l e R s m args below meth c H locs cells slots Q (F0 m pc ls (.int x :: .int (nI j) :: .ref a :: rest)) := by
  obtain ⟨hK, hP, hD, hS, hA⟩ := hw
  subst hws
  refine va_iast S.1 S.2.1 hK hP hD hS q0 1 he rfl (vp_in_nI hj hn) hdg (fun H1 locs1 hP hD hS => kk H1 locs1 ⟨hK, ?_, ?_, hS, hA⟩)
  · rw [nI_clamp (by omega)] at hP; exact hP
  · rw [nI_clamp (by omega)] at hD; exact hD
theorem xblen (S : CallFix p m c cc nL s args gt own) (hw : gW G A s ws H locs) (q0 : Nat) {n : Nat} {f : Nat → Int32} (he : ws[q0]? = some (a, .inl (gcB G, n, .inl f))) (hdg : decode cc pc = .ok (.arraylength, 1))
    (kk : W p l e R s m args below meth c H locs cells slots Q (F0 m (pc + 1) ls (.int (nI n) :: rest))) : W p l e R s m args below meth c H locs cells slots Q (F0 m pc ls (.ref a :: rest)) := by
  obtain ⟨hK, hP, hD, hS, hA⟩ := hw
  exact va_alen S.1 S.2.1 hK hP q0 0 he (ty := .byte) rfl rfl hdg kk
theorem xnewB (S : CallFix p m c cc nL s args gt own) (hw : gW G A s ws H locs) {n : Nat} (hn : n ≤ 100000) (hcells : cells + 1 ≤ R.cells) (hslots : slots + n ≤ R.slots) (hdg : decode cc pc = .ok (.newarray .byte, 2))
    (kk : ∀ (q : Nat) (H : Heap), gW G A s (ws ++ [(q, .inl (gcB G, n, .inl (fun _ => 0)))]) H locs → W p l e R s m args below meth c H locs (cells + 1) (slots + n) Q (F0 m (pc + 2) ls (.ref q :: rest))) : W p l e R s m args below meth c H locs cells slots Q (F0 m pc ls (.int (nI n) :: rest)) := by
  obtain ⟨hx, hb, hml, ho, hts⟩ := S
  obtain ⟨hK, hP, hD, hS, hA⟩ := hw
  refine va_newaK hx hb (atype := .byte) (hts _ k_43) rfl hdg rfl (nI_pos (by omega)) (nI_clamp (by omega)) (show n * 1 ≤ _ by omega) hcells hslots rfl fun H1 cA e1 z1 o1 hAr hNm => ?_
  have hcA : cA = gcB G := Option.some.inj (hNm.symm.trans (hK.2 0 _ rfl).2)
  subst hcA
  have hk : ∀ (k : Nat) (x : Nat × va_E), ws[k]? = some x → H1[x.1]? = H[x.1]? := fun k x hx => o1 x.1 ((hP k x hx).lt)
  refine kk H.size H1 ⟨hK, (hP.kept hk).app (fun k x hx => ?_), hD.push hP rfl (hA _ hS.1), ⟨Nat.le_trans hS.1 (by omega), fun x h1 h2 => (o1 x (Nat.lt_of_lt_of_le h1 hS.1)).trans (hS.2.1 x h1 h2), hS.2.2⟩, hA⟩
  have hz : k < 1 := (List.getElem?_eq_some_iff.mp hx).1
  rw [show k = 0 by omega] at hx
  cases hx
  exact e1
theorem xnewI (S : CallFix p m c cc nL s args gt own) (hw : gW G A s ws H locs) {n : Nat} (hn : n ≤ 100000) (hcells : cells + 1 ≤ R.cells) (hslots : slots + n ≤ R.slots) (hdg : decode cc pc = .ok (.newarray .int, 2))
    (kk : ∀ (q : Nat) (H : Heap), gW G A s (ws ++ [(q, .inl (gcI G, n, .inl (fun _ => 0)))]) H locs → W p l e R s m args below meth c H locs (cells + 1) (slots + n) Q (F0 m (pc + 2) ls (.ref q :: rest))) : W p l e R s m args below meth c H locs cells slots Q (F0 m pc ls (.int (nI n) :: rest)) := by
  obtain ⟨hx, hb, hml, ho, hts⟩ := S
  obtain ⟨hK, hP, hD, hS, hA⟩ := hw
  refine va_newaK hx hb (atype := .int) (hts _ k_88) rfl hdg rfl (nI_pos (by omega)) (nI_clamp (by omega)) (show n * 4 ≤ _ by omega) hcells hslots rfl fun H1 cA e1 z1 o1 hAr hNm => ?_
  have hcA : cA = gcI G := Option.some.inj (hNm.symm.trans (hK.2 1 _ rfl).2)
  subst hcA
  have hk : ∀ (k : Nat) (x : Nat × va_E), ws[k]? = some x → H1[x.1]? = H[x.1]? := fun k x hx => o1 x.1 ((hP k x hx).lt)
  refine kk H.size H1 ⟨hK, (hP.kept hk).app (fun k x hx => ?_), hD.push hP rfl (hA _ hS.1), ⟨Nat.le_trans hS.1 (by omega), fun x h1 h2 => (o1 x (Nat.lt_of_lt_of_le h1 hS.1)).trans (hS.2.1 x h1 h2), hS.2.2⟩, hA⟩
  have hz : k < 1 := (List.getElem?_eq_some_iff.mp hx).1
  rw [show k = 0 by omega] at hx
  cases hx
  exact e1
theorem xnew {index ci N : Nat} {C : String} {T : u_T} {ty : Nat → FieldType} (S : CallFix p m c cc nL s args gt own) (hw : gW G A s ws H locs) (hc : classes[ci]? = some (C, T, N)) (hin : ∀ w ∈ u_ws C T N, w ∈ gt) (hty : ∀ k, k < N → parseFieldDescriptor (T k).2.2.1 = some (ty k)) (hcl : Cond.classLink own index C ∈ gt) (hinst : Cond.instantiable C N ∈ gt) (hini : Cond.initialized C ∈ gt) {fs : List Value} (hfs : ∀ j, j < N → defaultValue (ty j) = vp_V fs j) (hcells : cells + 1 ≤ R.cells) (hslots : slots + N ≤ R.slots) (hdg : decode cc pc = .ok (.new index, 3))
    (kk : ∀ (q : Nat) (H : Heap), gW G A s (ws ++ [(q, .inr (ci, fs))]) H locs → W p l e R s m args below meth c H locs (cells + 1) (slots + N) Q (F0 m (pc + 3) ls (.ref q :: rest))) : W p l e R s m args below meth c H locs cells slots Q (F0 m pc ls rest) := by
  obtain ⟨hx, hb, hml, ho, hts⟩ := S
  obtain ⟨hK, hP, hD, hS, hA⟩ := hw
  exact va_new (D := gD G) (T := T) hx hb hts hin ty hty ho (hts _ hcl) (hts _ hinst) (hts _ hini) hK hP hD hS hA hc hfs hcells hslots hdg (fun q H1 hP hD hS => kk q H1 ⟨hK, hP, hD, hS, hA⟩)
theorem xobj (S : CallFix p m c cc nL s args gt own) (hsz : ls.size = nL) {idx : Nat} (hl : Cond.methodLink own idx objectInit ∈ gt) (hd : decode cc pc = .ok (.invokespecial idx, 3)) (hf : 1 ≤ R.frames) (hlo : (rest.map fun v => v.category).sum + 12 ≤ R.locals)
    (kk : W p l e R s m args below meth c H locs cells slots Q (F0 m (pc + 3) ls rest)) : W p l e R s m args below meth c H locs cells slots Q (F0 m pc ls (.ref a :: rest)) := by
  obtain ⟨hx, hb, hml, ho, hts⟩ := S
  exact W.objInit hx hb ho (hts _ hl) (hts _ k_18) (hts _ k_19) rfl (by rw [hml]; exact hsz) rfl hd hf (by show 2 * 0 + _ + 12 ≤ _; omega) kk
theorem xiret {σ : Type} {post : Int32 → σ → Prop} {w' : σ → va_W} {ty : FieldType} {v : Int32} (S : CallFix p m c cc nL s args gt own) (hw : gW G A s ws H locs) (hr : meth.sig.returnType = some ty) (hlk : meth.locks = false) (u : σ) (hp : post v u) (hws : ws = w' u) (hn : narrow ty (.int v) = .int v) (hdg : decode cc pc = .ok (.ireturn, 1)) :
    W p l e R s m args below meth c H locs cells slots (MQ below (va_Qi post (gB G A w') A) args s cells slots A) (F0 m pc ls [.int v]) := by
  obtain ⟨hK, hP, hD, hS, hA⟩ := hw
  subst hws
  exact W.zret S.1 S.2.1 hr hn (fun t ht hW => ⟨⟨v, u, rfl, hp, va_K.moved hW.alike hK, by rw [ht]; exact hP, hD⟩, hS.F ht⟩) hS.2.2 hdg hlk
theorem xvret {σ : Type} {post : σ → Prop} {w' : σ → va_W} (S : CallFix p m c cc nL s args gt own) (hw : gW G A s ws H locs) (hr : meth.sig.returnType = none) (hlk : meth.locks = false) (u : σ) (hp : post u) (hws : ws = w' u) (hdg : decode cc pc = .ok (.return_, 1)) :
    W p l e R s m args below meth c H locs cells slots (MQ below (va_Qv post (gB G A w') A) args s cells slots A) (F0 m pc ls []) := by
  obtain ⟨hK, hP, hD, hS, hA⟩ := hw
  subst hws
  exact W.vret S.1 S.2.1 hr (fun t ht hW => ⟨⟨u, rfl, hp, va_K.moved hW.alike hK, by rw [ht]; exact hP, hD⟩, hS.F ht⟩) hS.2.2 hdg hlk
end CORE
end
section
theorem fm_of_map {α β : Type} {f : α → Option β} {is : List α} {l : List β} (h : is.map f = l.map some) : is.filterMap f = l := by
  have h2 : (is.map f).filterMap id = (l.map some).filterMap id := by rw [h]
  rw [List.filterMap_map, List.filterMap_map] at h2
  simpa using h2
theorem gi_gt {w : Cond} (h : w ∈ gt) : GoodIn gt (w :: gt) := fun x hx => by
  rcases List.mem_cons.mp hx with rfl | hx
  · exact ⟨h, gt_good h⟩
  · exact ⟨hx, gt_good hx⟩
/-- what the tables say of a virtual call -/
def VL (own : String) (index : Nat) (y : MethodName) (bytes : ByteArray) (maxL : Nat) (ret : Option FieldType) (n : Nat) : Prop :=
  Cond.methodLink own index y ∈ gt ∧ Cond.instanceMethod y ∈ gt ∧ Cond.selects y.cls y y ∈ gt ∧ Cond.initialized y.cls ∈ gt ∧ Cond.code y bytes maxL ret ∈ gt ∧ y.cls ≠ "java/lang/invoke/MethodHandle" ∧ y.cls ≠ "java/lang/invoke/VarHandle" ∧ (parseMethodDescriptor y.desc).map (fun d => d.parameters.length) = some n
/-- of a static one -/
def SL (own : String) (index : Nat) (y : MethodName) (bytes : ByteArray) (maxL : Nat) (ret : Option FieldType) (n : Nat) : Prop :=
  Cond.methodLink own index y ∈ gt ∧ Cond.static y ∈ gt ∧ Cond.initialized y.cls ∈ gt ∧ Cond.code y bytes maxL ret ∈ gt ∧ y.cls ≠ "java/lang/invoke/MethodHandle" ∧ y.cls ≠ "java/lang/invoke/VarHandle" ∧ (parseMethodDescriptor y.desc).map (fun d => d.parameters.length) = some n
/-- of a constructor -/
def IL (own : String) (index : Nat) (y : MethodName) (bytes : ByteArray) (maxL : Nat) (n : Nat) : Prop :=
  Cond.methodLink own index y ∈ gt ∧ Cond.instanceMethod y ∈ gt ∧ Cond.initialized y.cls ∈ gt ∧ Cond.code y bytes maxL none ∈ gt ∧ y.name = "<init>" ∧ y.cls ≠ "java/lang/invoke/MethodHandle" ∧ y.cls ≠ "java/lang/invoke/VarHandle" ∧ (parseMethodDescriptor y.desc).map (fun d => d.parameters.length) = some n
section CALLS
variable {p : Program} {l : Launch} {e : Env} {R : Room} {s : State} {m : MethodId} {args : Array Value} {below : List Frame} {meth : Method} {c : Code} {H : Heap} {locs : List Loc} {cells slots : Nat} {Q : State → Prop}
variable {cc : ByteArray} {pc nL : Nat} {ls : Array Slot} {rest st0 : List Value} {own : String} {G : gG} {A : Nat → Prop} {ws wc wr : va_W} {σ : Type}
variable {y : MethodName} {bytes : ByteArray} {maxL index n mc ms : Nat} {ret : Option FieldType} {rm : Room} {As : List Value} {b : Nat} {X : (Nat → Prop) → State → Prop} {w' wn : σ → va_W}
theorem xaftI {post : Int32 → σ → Prop} {a' : Array Value} (hr : va_Run p l e R s m args below meth c H locs cells slots mc ms (F0 m pc ls st0) rest (va_Qi post (gB G (va_A wc H.size) w') (va_A wc H.size) a') (va_A wc H.size)) (hw : gW G A s ws H locs)
    (isC isR isN : List Nat) (hC : isC.map (fun i => ws[i]?) = wc.map some) (hR : isR.map (fun i => ws[i]?) = wr.map some) (hn : va_nd isR = true) (hdis : ∀ i ∈ isR, i ∉ isC) (hN : ∀ u, isN.map (fun i => (wr ++ w' u)[i]?) = (wn u).map some) (hnd : va_nd isN = true)
    (kk : ∀ (r : Int32) (u : σ) (H : Heap) (locs : List Loc), post r u → gW G A s (wn u) H locs → W p l e R s m args below meth c H locs (cells + mc) (slots + ms) Q (F0 m (pc + 3) ls (.int r :: rest))) : W p l e R s m args below meth c H locs cells slots Q (F0 m pc ls st0) := by
  obtain ⟨hK, hP, hD, hS, hA⟩ := hw
  have hFc := va_free (wc := wc) hD hS hA isC hC
  refine va_calli hr hS (fun q _ h => hFc q h) hFc (fun r u t H1 locs1 ht hvm hw hB hz1 hk1 hS1 => ?_)
  obtain ⟨hK1, hP1, hD1⟩ := hB
  rw [ht] at hP1
  obtain ⟨hP2, hD2⟩ := va_join (wr := wr) (w1 := w' u) hP hD isC isR hC hR hn hdis hk1 hFc hP1 hD1
  exact kk r u H1 locs1 hw ⟨hK, hP2.sub isN (fm_of_map (hN u)), hD2.sub isN hnd (hN u), hS1, hA⟩
theorem xaftV {post : σ → Prop} {a' : Array Value} (hr : va_Run p l e R s m args below meth c H locs cells slots mc ms (F0 m pc ls st0) rest (va_Qv post (gB G (va_A wc H.size) w') (va_A wc H.size) a') (va_A wc H.size)) (hw : gW G A s ws H locs)
    (isC isR isN : List Nat) (hC : isC.map (fun i => ws[i]?) = wc.map some) (hR : isR.map (fun i => ws[i]?) = wr.map some) (hn : va_nd isR = true) (hdis : ∀ i ∈ isR, i ∉ isC) (hN : ∀ u, isN.map (fun i => (wr ++ w' u)[i]?) = (wn u).map some) (hnd : va_nd isN = true)
    (kk : ∀ (u : σ) (H : Heap) (locs : List Loc), post u → gW G A s (wn u) H locs → W p l e R s m args below meth c H locs (cells + mc) (slots + ms) Q (F0 m (pc + 3) ls rest)) : W p l e R s m args below meth c H locs cells slots Q (F0 m pc ls st0) := by
  obtain ⟨hK, hP, hD, hS, hA⟩ := hw
  have hFc := va_free (wc := wc) hD hS hA isC hC
  refine va_callv hr hS (fun q _ h => hFc q h) hFc (fun u t H1 locs1 ht hvm hw hB hz1 hk1 hS1 => ?_)
  obtain ⟨hK1, hP1, hD1⟩ := hB
  rw [ht] at hP1
  obtain ⟨hP2, hD2⟩ := va_join (wr := wr) (w1 := w' u) hP hD isC isR hC hR hn hdis hk1 hFc hP1 hD1
  exact kk u H1 locs1 hw ⟨hK, hP2.sub isN (fm_of_map (hN u)), hD2.sub isN hnd (hN u), hS1, hA⟩
theorem xpre (hw : gW G A s ws H locs) (isC : List Nat) (hnC : va_nd isC = true) (hC : isC.map (fun i => ws[i]?) = wc.map some) (hXB : XB X) (hX : ∀ U : State, U.heap = H → s.WarmedH U.vm → X (va_A wc H.size) U) (av : List Value) : PreS s H (gPre G av wc X H.size) av := by
  obtain ⟨hK, hP, hD, hS, hA⟩ := hw
  have hPc := hP.sub isC (fm_of_map hC)
  have hDc := hD.sub isC hnC hC
  exact ⟨gPre_blind hXB, fun U hU hW => ⟨rfl, by rw [hU], va_K.moved hW.alike hK, by rw [hU]; exact hPc, hDc.weaken (fun _ _ _ _ => trivial), hX U hU hW⟩⟩
theorem xcwV {C : String} (S : CallFix p m c cc nL s args gt own) (vl : VL own index y bytes maxL ret n) (hC : C = y.cls) (hrc : rm.cells = mc) (hrs : rm.slots = ms) (hR : rm.frames + 1 ≤ R.frames ∧ 8 + (maxL + 11) + rm.locals ≤ R.locals) : CallW R s args own C index y bytes maxL ret (Cond.code y bytes maxL ret :: gt) rm mc ms n := by
  subst hC
  obtain ⟨h1, h2, h3, h4, h5, h6⟩ := vl
  have ht := S.2.2.2.2
  exact ⟨callB_of n ht (gi_gt h5) rfl hrc hrs (ht _ h4) (ht _ h1) h6 hR, ht _ h2, ht _ h3⟩
theorem xcallVi' {post : Int32 → σ → Prop} (S : CallFix p m c cc nL s args gt own) (hw : gW G A s ws H locs) (vl : VL own index y bytes maxL ret n) (hM : MetI l y (Cond.code y bytes maxL ret) rm mc ms G (.ref b :: As) wc X post w')
    (hR : rm.frames + 1 ≤ R.frames ∧ 8 + (maxL + 11) + rm.locals ≤ R.locals) (hrc : rm.cells = mc) (hrs : rm.slots = ms) (isC isR isN : List Nat) (hC : isC.map (fun i => ws[i]?) = wc.map some) (hRw : isR.map (fun i => ws[i]?) = wr.map some) (hnC : va_nd isC = true) (hn : va_nd isR = true) (hdis : ∀ i ∈ isR, i ∉ isC)
    (hXB : XB X) (hX : ∀ U : State, U.heap = H → s.WarmedH U.vm → X (va_A wc H.size) U) (hrecv : ∃ cellB : Cell, H[b]? = some cellB ∧ cellB.vm.isStatics = false ∧ s.vm.findClass y.cls = some cellB.cls)
    (hst : st0 = As.reverse ++ .ref b :: rest) (hlen : As.length = n) (hsz : ls.size = nL) (hrest : (rest.map fun v => v.category).sum ≤ 8) (hdg : decode cc pc = .ok (.invokevirtual index, 3)) (hf : cells + mc ≤ R.cells ∧ slots + ms ≤ R.slots)
    (hN : ∀ u, isN.map (fun i => (wr ++ w' u)[i]?) = (wn u).map some) (hnd : va_nd isN = true)
    (kk : ∀ (r : Int32) (u : σ) (H : Heap) (locs : List Loc), post r u → gW G A s (wn u) H locs → W p l e R s m args below meth c H locs (cells + mc) (slots + ms) Q (F0 m (pc + 3) ls (.int r :: rest))) : W p l e R s m args below meth c H locs cells slots Q (F0 m pc ls st0) := by
  have hp := xpre hw isC hnC hC hXB hX (.ref b :: As)
  refine xaftI (va_runV (g := F0 m pc ls st0) (rest := rest) S (hM H.size) (xcwV S vl rfl hrc hrs hR) ⟨hp.1, hrecv, hp.2⟩ rfl hlen hsz hst (lv_room hrest) hdg hf) hw isC isR isN hC hRw hn hdis hN hnd kk
theorem xcallVv' {post : σ → Prop} (S : CallFix p m c cc nL s args gt own) (hw : gW G A s ws H locs) (vl : VL own index y bytes maxL ret n) (hM : MetV l y (Cond.code y bytes maxL ret) rm mc ms G (.ref b :: As) wc X post w')
    (hR : rm.frames + 1 ≤ R.frames ∧ 8 + (maxL + 11) + rm.locals ≤ R.locals) (hrc : rm.cells = mc) (hrs : rm.slots = ms) (isC isR isN : List Nat) (hC : isC.map (fun i => ws[i]?) = wc.map some) (hRw : isR.map (fun i => ws[i]?) = wr.map some) (hnC : va_nd isC = true) (hn : va_nd isR = true) (hdis : ∀ i ∈ isR, i ∉ isC)
    (hXB : XB X) (hX : ∀ U : State, U.heap = H → s.WarmedH U.vm → X (va_A wc H.size) U) (hrecv : ∃ cellB : Cell, H[b]? = some cellB ∧ cellB.vm.isStatics = false ∧ s.vm.findClass y.cls = some cellB.cls)
    (hst : st0 = As.reverse ++ .ref b :: rest) (hlen : As.length = n) (hsz : ls.size = nL) (hrest : (rest.map fun v => v.category).sum ≤ 8) (hdg : decode cc pc = .ok (.invokevirtual index, 3)) (hf : cells + mc ≤ R.cells ∧ slots + ms ≤ R.slots)
    (hN : ∀ u, isN.map (fun i => (wr ++ w' u)[i]?) = (wn u).map some) (hnd : va_nd isN = true)
    (kk : ∀ (u : σ) (H : Heap) (locs : List Loc), post u → gW G A s (wn u) H locs → W p l e R s m args below meth c H locs (cells + mc) (slots + ms) Q (F0 m (pc + 3) ls rest)) : W p l e R s m args below meth c H locs cells slots Q (F0 m pc ls st0) := by
  have hp := xpre hw isC hnC hC hXB hX (.ref b :: As)
  refine xaftV (va_runV (g := F0 m pc ls st0) (rest := rest) S (hM H.size) (xcwV S vl rfl hrc hrs hR) ⟨hp.1, hrecv, hp.2⟩ rfl hlen hsz hst (lv_room hrest) hdg hf) hw isC isR isN hC hRw hn hdis hN hnd kk
theorem xrecv {ci q0 : Nat} {fs : List Value} {C : String} (hw : gW G A s ws H locs) (he : ws[q0]? = some (b, .inr (ci, fs))) (hc : (classes[ci]?).map (·.1) = some C) : ∃ cellB : Cell, H[b]? = some cellB ∧ cellB.vm.isStatics = false ∧ s.vm.findClass C = some cellB.cls := by
  cases hq : classes[ci]? with
  | none => rw [hq] at hc; cases hc
  | some q =>
    rw [hq] at hc
    have hC : q.1 = C := Option.some.inj hc
    subst hC
    exact va_recv hw.1 hw.2.1 hq he
/-- a virtual call of a method of the world's own object, which is the first of the callee's cells; it makes no cells, asks nothing more -/
theorem xVi {post : Int32 → σ → Prop} {ci : Nat} {fs : List Value} (S : CallFix p m c cc nL s args gt own) (hw : gW G A s ws H locs) (hsz : ls.size = nL) (vl : VL own index y bytes maxL ret n) (hM : MetI l y (Cond.code y bytes maxL ret) rm 0 0 G (.ref b :: As) wc X0 post w') (q0 : Nat) (he : ws[q0]? = some (b, .inr (ci, fs))) (hc : (classes[ci]?).map (·.1) = some y.cls)
    (hR : rm.frames + 1 ≤ R.frames ∧ 8 + (maxL + 11) + rm.locals ≤ R.locals) (hrm : rm.cells = 0 ∧ rm.slots = 0) (hcs : cells ≤ R.cells ∧ slots ≤ R.slots) (isC isR isN : List Nat) (hC : isC.map (fun i => ws[i]?) = wc.map some) (hRw : isR.map (fun i => ws[i]?) = wr.map some) (hnds : (va_nd isC && va_nd isR && va_nd isN && isR.all (fun i => decide (i ∉ isC))) = true)
    (hst : st0 = As.reverse ++ .ref b :: rest) (hlen : As.length = n) (hrest : (rest.map fun v => v.category).sum ≤ 8) (hdg : decode cc pc = .ok (.invokevirtual index, 3))
    (hN : ∀ u, isN.map (fun i => (wr ++ w' u)[i]?) = (wn u).map some)
    (kk : ∀ (r : Int32) (u : σ) (H : Heap) (locs : List Loc), post r u → gW G A s (wn u) H locs → W p l e R s m args below meth c H locs cells slots Q (F0 m (pc + 3) ls (.int r :: rest))) : W p l e R s m args below meth c H locs cells slots Q (F0 m pc ls st0) := by
  simp only [Bool.and_eq_true, List.all_eq_true, decide_eq_true_eq] at hnds
  exact xcallVi' S hw vl hM hR hrm.1 hrm.2 isC isR isN hC hRw hnds.1.1.1 hnds.1.1.2 hnds.2 XB0 (fun _ _ _ => trivial) (xrecv hw he hc) hst hlen hsz hrest hdg hcs hN hnds.1.2 kk
theorem xVv {post : σ → Prop} {ci : Nat} {fs : List Value} (S : CallFix p m c cc nL s args gt own) (hw : gW G A s ws H locs) (hsz : ls.size = nL) (vl : VL own index y bytes maxL ret n) (hM : MetV l y (Cond.code y bytes maxL ret) rm 0 0 G (.ref b :: As) wc X0 post w') (q0 : Nat) (he : ws[q0]? = some (b, .inr (ci, fs))) (hc : (classes[ci]?).map (·.1) = some y.cls)
    (hR : rm.frames + 1 ≤ R.frames ∧ 8 + (maxL + 11) + rm.locals ≤ R.locals) (hrm : rm.cells = 0 ∧ rm.slots = 0) (hcs : cells ≤ R.cells ∧ slots ≤ R.slots) (isC isR isN : List Nat) (hC : isC.map (fun i => ws[i]?) = wc.map some) (hRw : isR.map (fun i => ws[i]?) = wr.map some) (hnds : (va_nd isC && va_nd isR && va_nd isN && isR.all (fun i => decide (i ∉ isC))) = true)
    (hst : st0 = As.reverse ++ .ref b :: rest) (hlen : As.length = n) (hrest : (rest.map fun v => v.category).sum ≤ 8) (hdg : decode cc pc = .ok (.invokevirtual index, 3))
    (hN : ∀ u, isN.map (fun i => (wr ++ w' u)[i]?) = (wn u).map some)
    (kk : ∀ (u : σ) (H : Heap) (locs : List Loc), post u → gW G A s (wn u) H locs → W p l e R s m args below meth c H locs cells slots Q (F0 m (pc + 3) ls rest)) : W p l e R s m args below meth c H locs cells slots Q (F0 m pc ls st0) := by
  simp only [Bool.and_eq_true, List.all_eq_true, decide_eq_true_eq] at hnds
  exact xcallVv' S hw vl hM hR hrm.1 hrm.2 isC isR isN hC hRw hnds.1.1.1 hnds.1.1.2 hnds.2 XB0 (fun _ _ _ => trivial) (xrecv hw he hc) hst hlen hsz hrest hdg hcs hN hnds.1.2 kk
/-- a static call; X asked -/
theorem xSi {post : Int32 → σ → Prop} (S : CallFix p m c cc nL s args gt own) (hw : gW G A s ws H locs) (hsz : ls.size = nL) (sl : SL own index y bytes maxL ret n) (hM : MetI l y (Cond.code y bytes maxL ret) rm 0 0 G As wc X post w')
    (hXB : XB X) (hX : ∀ U : State, U.heap = H → s.WarmedH U.vm → X (va_A wc H.size) U)
    (hR : rm.frames + 1 ≤ R.frames ∧ 8 + (maxL + 11) + rm.locals ≤ R.locals) (hrm : rm.cells = 0 ∧ rm.slots = 0) (hcs : cells ≤ R.cells ∧ slots ≤ R.slots) (isC isR isN : List Nat) (hC : isC.map (fun i => ws[i]?) = wc.map some) (hRw : isR.map (fun i => ws[i]?) = wr.map some) (hnds : (va_nd isC && va_nd isR && va_nd isN && isR.all (fun i => decide (i ∉ isC))) = true)
    (hst : st0 = As.reverse ++ rest) (hlen : As.length = n) (hrest : (rest.map fun v => v.category).sum ≤ 8) (hdg : decode cc pc = .ok (.invokestatic index, 3))
    (hN : ∀ u, isN.map (fun i => (wr ++ w' u)[i]?) = (wn u).map some)
    (kk : ∀ (r : Int32) (u : σ) (H : Heap) (locs : List Loc), post r u → gW G A s (wn u) H locs → W p l e R s m args below meth c H locs cells slots Q (F0 m (pc + 3) ls (.int r :: rest))) : W p l e R s m args below meth c H locs cells slots Q (F0 m pc ls st0) := by
  simp only [Bool.and_eq_true, List.all_eq_true, decide_eq_true_eq] at hnds
  have hp := xpre hw isC hnds.1.1.1 hC hXB hX As
  obtain ⟨h1, h2, h3, h4, h6⟩ := sl
  have ht := S.2.2.2.2
  exact xaftI (va_runS (g := F0 m pc ls st0) (rest := rest) S (hM H.size) ⟨callB_of n ht (gi_gt h4) rfl hrm.1 hrm.2 (ht _ h3) (ht _ h1) h6 hR, ht _ h2⟩ hp rfl hlen hsz hst (lv_room hrest) hdg hcs) hw isC isR isN hC hRw hnds.1.1.2 hnds.2 hN hnds.1.2 kk
/-- a constructor's call -/
theorem xIv {post : σ → Prop} (S : CallFix p m c cc nL s args gt own) (hw : gW G A s ws H locs) (hsz : ls.size = nL) (il : IL own index y bytes maxL n) (hM : MetV l y (Cond.code y bytes maxL none) rm mc ms G (.ref b :: As) wc X0 post w')
    (hR : rm.frames + 1 ≤ R.frames ∧ 8 + (maxL + 11) + rm.locals ≤ R.locals) (hrm : rm.cells = mc ∧ rm.slots = ms) (hcs : cells + mc ≤ R.cells ∧ slots + ms ≤ R.slots) (isC isR isN : List Nat) (hC : isC.map (fun i => ws[i]?) = wc.map some) (hRw : isR.map (fun i => ws[i]?) = wr.map some) (hnds : (va_nd isC && va_nd isR && va_nd isN && isR.all (fun i => decide (i ∉ isC))) = true)
    (hst : st0 = As.reverse ++ .ref b :: rest) (hlen : As.length = n) (hrest : (rest.map fun v => v.category).sum ≤ 8) (hdg : decode cc pc = .ok (.invokespecial index, 3))
    (hN : ∀ u, isN.map (fun i => (wr ++ w' u)[i]?) = (wn u).map some)
    (kk : ∀ (u : σ) (H : Heap) (locs : List Loc), post u → gW G A s (wn u) H locs → W p l e R s m args below meth c H locs (cells + mc) (slots + ms) Q (F0 m (pc + 3) ls rest)) : W p l e R s m args below meth c H locs cells slots Q (F0 m pc ls st0) := by
  simp only [Bool.and_eq_true, List.all_eq_true, decide_eq_true_eq] at hnds
  have hp := xpre hw isC hnds.1.1.1 hC XB0 (fun _ _ _ => trivial) (.ref b :: As)
  obtain ⟨h1, h2, h3, h4, h5, h6⟩ := il
  have ht := S.2.2.2.2
  exact xaftV (va_runI (g := F0 m pc ls st0) (rest := rest) S (hM H.size) ⟨callB_of n ht (gi_gt h4) rfl hrm.1 hrm.2 (ht _ h3) (ht _ h1) h6 hR, h5, ht _ h2⟩ hp rfl hlen hsz hst (lv_room hrest) hdg hcs) hw isC isR isN hC hRw hnds.1.1.2 hnds.2 hN hnds.1.2 kk
/-- System.arraycopy of bytes -/
theorem xcopy {a0 a1 n0 n1 : Nat} {f g : Nat → Int32} {ws' : va_W} (S : CallFix p m c cc nL s args gt own) (hw : gW G A s ws H locs) (hsz : ls.size = nL) (hl : Cond.methodLink own index arraycopyName ∈ gt) (q0 q1 : Nat) (h0 : ws[q0]? = some (a0, .inl (gcB G, n0, .inl f))) (h1 : ws[q1]? = some (a1, .inl (gcB G, n1, .inl g))) {sp dp k : Nat} (hs : sp + k ≤ n0) (hd : dp + k ≤ n1) (hn0 : n0 < 2 ^ 31) (hn1 : n1 < 2 ^ 31) (hb8 : ∀ j, (f j).toInt8.toInt32 = f j) (hws : ws.set q1 (a1, .inl (gcB G, n1, .inl (va_cpy f g sp dp k))) = ws')
    (hf : 1 ≤ R.frames) (hlo : (rest.map fun v => v.category).sum + 18 ≤ R.locals) (hdg : decode cc pc = .ok (.invokestatic index, 3))
    (kk : ∀ (H : Heap) (locs : List Loc), gW G A s ws' H locs → W p l e R s m args below meth c H locs cells slots Q (F0 m (pc + 3) ls rest)) : W p l e R s m args below meth c H locs cells slots Q (F0 m pc ls (.int (nI k) :: .int (nI dp) :: .ref a1 :: .int (nI sp) :: .ref a0 :: rest)) := by
  obtain ⟨hx, hb, hml, ho, hts⟩ := S
  obtain ⟨hK, hP, hD, hS, hA⟩ := hw
  subst hws
  refine va_copyi hx hb (by rw [hml, hsz]) ho (hts _ hl) (hts _ k_107) (hts _ k_106) (hts _ k_5) hK hP hD hS q0 q1 0 0 h0 h1 rfl rfl rfl (nI_pos (by omega)) (nI_pos (by omega)) (nI_pos (by omega)) (by rw [nI_clamp (by omega), nI_clamp (by omega)]; exact hs) (by rw [nI_clamp (by omega), nI_clamp (by omega)]; exact hd) (fun i _ => by rw [← hb8]; exact pk_fb _) hf (by show _ + (nativeFrameWords "java/lang/System" "arraycopy" 5 + 11) ≤ _; exact hlo) hdg (fun H1 locs1 hP hD hS => kk H1 locs1 ⟨hK, ?_, ?_, hS, hA⟩)
  · rw [nI_clamp (by omega), nI_clamp (by omega), nI_clamp (by omega)] at hP; exact hP
  · rw [nI_clamp (by omega), nI_clamp (by omega), nI_clamp (by omega)] at hD; exact hD
theorem xmax {x y : Int32} {idx : Nat} (S : CallFix p m c cc nL s args gt own) (hsz : ls.size = nL) (hl : Cond.methodLink own idx Lib.Math.max.name ∈ gt) (hf : 1 ≤ R.frames) (hlo : (rest.map fun v => v.category).sum + 13 ≤ R.locals) (hcs : cells ≤ R.cells ∧ slots ≤ R.slots) (hdg : decode cc pc = .ok (.invokestatic idx, 3)) (kk : W p l e R s m args below meth c H locs cells slots Q (F0 m (pc + 3) ls (.int (if x < y then y else x) :: rest))) : W p l e R s m args below meth c H locs cells slots Q (F0 m pc ls (.int y :: .int x :: rest)) := by
  obtain ⟨hx, hb, hml, ho, hts⟩ := S
  exact va_mmax hx hb (by rw [hml, hsz]) ho (hts _ hl) (hts _ k_185) (hts _ k_6) (hts _ k_186) hf hlo hcs.1 hcs.2 hdg kk
theorem xmin {x y : Int32} {idx : Nat} (S : CallFix p m c cc nL s args gt own) (hsz : ls.size = nL) (hl : Cond.methodLink own idx Lib.Math.min.name ∈ gt) (hf : 1 ≤ R.frames) (hlo : (rest.map fun v => v.category).sum + 13 ≤ R.locals) (hcs : cells ≤ R.cells ∧ slots ≤ R.slots) (hdg : decode cc pc = .ok (.invokestatic idx, 3)) (kk : W p l e R s m args below meth c H locs cells slots Q (F0 m (pc + 3) ls (.int (if y < x then y else x) :: rest))) : W p l e R s m args below meth c H locs cells slots Q (F0 m pc ls (.int y :: .int x :: rest)) := by
  obtain ⟨hx, hb, hml, ho, hts⟩ := S
  exact va_mmin hx hb (by rw [hml, hsz]) ho (hts _ hl) (hts _ k_153) (hts _ k_6) (hts _ k_154) hf hlo hcs.1 hcs.2 hdg kk
theorem xabs {x : Int64} {idx : Nat} (S : CallFix p m c cc nL s args gt own) (hsz : ls.size = nL) (hl : Cond.methodLink own idx Lib.MathLoose.abs_long.x ∈ gt) (hf : 1 ≤ R.frames) (hlo : (rest.map fun v => v.category).sum + 13 ≤ R.locals) (hcs : cells ≤ R.cells ∧ slots ≤ R.slots) (hdg : decode cc pc = .ok (.invokestatic idx, 3)) (kk : W p l e R s m args below meth c H locs cells slots Q (F0 m (pc + 3) ls (.long (if 0 < x then x else -x) :: rest))) : W p l e R s m args below meth c H locs cells slots Q (F0 m pc ls (.long x :: rest)) := by
  obtain ⟨hx, hb, hml, ho, hts⟩ := S
  exact va_mabs_long hx hb (by rw [hml, hsz]) ho (hts _ hl) (hts _ k_132) (hts _ k_6) (hts _ k_133) hf hlo hcs.1 hcs.2 hdg kk
/-- lcmp and the branch behind it -/
theorem xl_lt {x y : Int64} {off : Int} {tgt : Nat} (S : CallFix p m c cc nL s args gt own) (hd1 : decode cc pc = .ok (.lcmp, 1)) (hd2 : decode cc (pc + 1) = .ok (.ifCond .lt off, 3)) (ht : ((pc + 1 : Nat) : Int) + off = (tgt : Int)) (kt : x < y → W p l e R s m args below meth c H locs cells slots Q (F0 m tgt ls rest)) (kf : ¬ x < y → W p l e R s m args below meth c H locs cells slots Q (F0 m (pc + 1 + 3) ls rest)) : W p l e R s m args below meth c H locs cells slots Q (F0 m pc ls (.long y :: .long x :: rest)) :=
  W.lcmp S.1 S.2.1 hd1 (lv_if_lt S.1 S.2.1 hd2 ht (fun h => kt ((lg_cmp_lt x y).mp h)) (fun h => kf (fun q => h ((lg_cmp_lt x y).mpr q))))
theorem xl_ge {x y : Int64} {off : Int} {tgt : Nat} (S : CallFix p m c cc nL s args gt own) (hd1 : decode cc pc = .ok (.lcmp, 1)) (hd2 : decode cc (pc + 1) = .ok (.ifCond .ge off, 3)) (ht : ((pc + 1 : Nat) : Int) + off = (tgt : Int)) (kt : y ≤ x → W p l e R s m args below meth c H locs cells slots Q (F0 m tgt ls rest)) (kf : ¬ y ≤ x → W p l e R s m args below meth c H locs cells slots Q (F0 m (pc + 1 + 3) ls rest)) : W p l e R s m args below meth c H locs cells slots Q (F0 m pc ls (.long y :: .long x :: rest)) :=
  W.lcmp S.1 S.2.1 hd1 (lv_if_ge S.1 S.2.1 hd2 ht (fun h => kt ((lg_cmp_ge x y).mp h)) (fun h => kf (fun q => h ((lg_cmp_ge x y).mpr q))))
theorem xl_le {x y : Int64} {off : Int} {tgt : Nat} (S : CallFix p m c cc nL s args gt own) (hd1 : decode cc pc = .ok (.lcmp, 1)) (hd2 : decode cc (pc + 1) = .ok (.ifCond .le off, 3)) (ht : ((pc + 1 : Nat) : Int) + off = (tgt : Int)) (kt : x ≤ y → W p l e R s m args below meth c H locs cells slots Q (F0 m tgt ls rest)) (kf : ¬ x ≤ y → W p l e R s m args below meth c H locs cells slots Q (F0 m (pc + 1 + 3) ls rest)) : W p l e R s m args below meth c H locs cells slots Q (F0 m pc ls (.long y :: .long x :: rest)) :=
  W.lcmp S.1 S.2.1 hd1 (lv_if_le S.1 S.2.1 hd2 ht (fun h => kt ((lg_cmp_le x y).mp h)) (fun h => kf (fun q => h ((lg_cmp_le x y).mpr q))))
theorem xl_eq {x y : Int64} {off : Int} {tgt : Nat} (S : CallFix p m c cc nL s args gt own) (hd1 : decode cc pc = .ok (.lcmp, 1)) (hd2 : decode cc (pc + 1) = .ok (.ifCond .eq off, 3)) (ht : ((pc + 1 : Nat) : Int) + off = (tgt : Int)) (kt : x = y → W p l e R s m args below meth c H locs cells slots Q (F0 m tgt ls rest)) (kf : ¬ x = y → W p l e R s m args below meth c H locs cells slots Q (F0 m (pc + 1 + 3) ls rest)) : W p l e R s m args below meth c H locs cells slots Q (F0 m pc ls (.long y :: .long x :: rest)) :=
  W.lcmp S.1 S.2.1 hd1 (lv_if_eq S.1 S.2.1 hd2 ht (fun h => kt ((lg_cmp_eq x y).mp h)) (fun h => kf (fun q => h ((lg_cmp_eq x y).mpr q))))
theorem xl_ne {x y : Int64} {off : Int} {tgt : Nat} (S : CallFix p m c cc nL s args gt own) (hd1 : decode cc pc = .ok (.lcmp, 1)) (hd2 : decode cc (pc + 1) = .ok (.ifCond .ne off, 3)) (ht : ((pc + 1 : Nat) : Int) + off = (tgt : Int)) (kt : ¬ x = y → W p l e R s m args below meth c H locs cells slots Q (F0 m tgt ls rest)) (kf : x = y → W p l e R s m args below meth c H locs cells slots Q (F0 m (pc + 1 + 3) ls rest)) : W p l e R s m args below meth c H locs cells slots Q (F0 m pc ls (.long y :: .long x :: rest)) :=
  W.lcmp S.1 S.2.1 hd1 (lv_if_ne S.1 S.2.1 hd2 ht (fun h => kt (fun q => h ((lg_cmp_eq x y).mpr q))) (fun h => kf ((lg_cmp_eq x y).mp h)))
end CALLS
end
section
/-! ===== plain words: bytes, lists in arrays, digits, the parse of an integer, places, the text made ===== -/
def bI (b : Bool) : Int32 := if b then 1 else 0
theorem bI_n (b : Bool) : narrow .boolean (.int (bI b)) = .int (bI b) := by cases b <;> rfl
theorem bI_f (b : Bool) : fits .boolean (.int (bI b)) = true := by cases b <;> rfl
theorem bI_t {b : Bool} (h : ¬ bI b = 0) : b = true := by
  cases b
  · exact absurd rfl h
  · rfl
theorem bI_z {b : Bool} (h : bI b = 0) : b = false := by
  cases b
  · rfl
  · exact absurd h (by decide)
abbrev b8 (x : Int32) : Int32 := x.toInt8.toInt32
theorem b8_b8 (x : Int32) : b8 (b8 x) = b8 x := pk_vb x
def By (f : Nat → Int32) : Prop := ∀ j, (f j).toInt8.toInt32 = f j
def wr (f : Nat → Int32) (p : Nat) (l : List Int32) : Nat → Int32 := fun j => if p ≤ j ∧ j < p + l.length then l.getD (j - p) 0 else f j
theorem wr_lt {f : Nat → Int32} {p j : Nat} {l : List Int32} (h : j < p) : wr f p l j = f j := if_neg (by omega)
theorem wr_ge {f : Nat → Int32} {p j : Nat} {l : List Int32} (h : p + l.length ≤ j) : wr f p l j = f j := if_neg (by omega)
theorem wr_in {f : Nat → Int32} {p j : Nat} {l : List Int32} (h1 : p ≤ j) (h2 : j < p + l.length) : wr f p l j = l.getD (j - p) 0 := if_pos ⟨h1, h2⟩
theorem wr_nil {f : Nat → Int32} {p : Nat} : wr f p [] = f := by
  funext j
  exact if_neg (fun h => by simp at h; omega)
theorem wr_app {f : Nat → Int32} {p q : Nat} {l l' : List Int32} (hq : q = p + l.length) : wr (wr f p l) q l' = wr f p (l ++ l') := by
  subst hq
  funext j
  have hl : (l ++ l').length = l.length + l'.length := List.length_append
  by_cases h1 : j < p
  · rw [wr_lt (by omega), wr_lt h1, wr_lt h1]
  · by_cases h2 : j < p + l.length
    · rw [wr_lt h2, wr_in (by omega) h2, wr_in (by omega) (by omega)]
      simp only [List.getD_eq_getElem?_getD]
      rw [List.getElem?_append_left (by omega)]
    · by_cases h3 : j < p + l.length + l'.length
      · rw [wr_in (by omega) h3, wr_in (by omega) (by omega)]
        simp only [List.getD_eq_getElem?_getD]
        rw [List.getElem?_append_right (by omega)]
        congr 2
        omega
      · rw [wr_ge (by omega), wr_ge (by omega), wr_ge (by omega)]
theorem wr_upd {f : Nat → Int32} {n : Nat} {x : Int32} : upd f n x = wr f n [x] := by
  funext j
  by_cases h : j = n
  · subst h
    rw [wr_in (Nat.le_refl _) (by simp), pk_us]
    simp
  · rw [pk_un h]
    by_cases h2 : j < n
    · rw [wr_lt h2]
    · rw [wr_ge (by simp; omega)]
theorem By_wr {f : Nat → Int32} {p : Nat} {l : List Int32} (hf : By f) (hl : ∀ x ∈ l, b8 x = x) : By (wr f p l) := by
  intro j
  by_cases h : p ≤ j ∧ j < p + l.length
  · rw [wr_in h.1 h.2]
    have hlt : j - p < l.length := by omega
    rw [List.getD_eq_getElem?_getD, List.getElem?_eq_getElem hlt]
    exact hl _ (List.getElem_mem hlt)
  · show (wr f p l j).toInt8.toInt32 = wr f p l j
    rw [show wr f p l j = f j from if_neg h]
    exact hf j
theorem By_upd {f : Nat → Int32} {n : Nat} {x : Int32} (hf : By f) (hx : b8 x = x) : By (upd f n x) := by
  rw [wr_upd]
  exact By_wr hf (fun y hy => by rw [List.mem_singleton.mp hy]; exact hx)
theorem By0 : By (fun _ => 0) := fun _ => rfl
def sg (f : Nat → Int32) (p n : Nat) : List Int32 := (List.range n).map (fun i => f (p + i))
theorem sg_len {f : Nat → Int32} {p n : Nat} : (sg f p n).length = n := by simp [sg]
theorem sg_get {f : Nat → Int32} {p n i : Nat} (h : i < n) : (sg f p n).getD i 0 = f (p + i) := by
  rw [List.getD_eq_getElem?_getD]
  simp [sg, List.getElem?_map, List.getElem?_range h]
theorem sg_zero {f : Nat → Int32} {p : Nat} : sg f p 0 = [] := rfl
theorem sg_succ {f : Nat → Int32} {p n : Nat} : sg f p (n + 1) = sg f p n ++ [f (p + n)] := by
  simp [sg, List.range_succ]
theorem sg_ext {f g : Nat → Int32} {p q n : Nat} (h : ∀ i, i < n → f (p + i) = g (q + i)) : sg f p n = sg g q n := by
  induction n with
  | zero => rfl
  | succ n ih =>
    rw [sg_succ, sg_succ, ih (fun i hi => h i (by omega)), h n (by omega)]
theorem sg_cons {f : Nat → Int32} {p n : Nat} : sg f p (n + 1) = f p :: sg f (p + 1) n := by
  induction n with
  | zero => simp [sg]
  | succ n ih =>
    rw [sg_succ, ih, sg_succ]
    simp only [List.cons_append]
    congr 4
    omega
theorem sg_wr {f : Nat → Int32} {p : Nat} {l : List Int32} : sg (wr f p l) p l.length = l := by
  apply List.ext_getElem?
  intro i
  by_cases h : i < l.length
  · have h2 := sg_get (f := wr f p l) (p := p) h
    rw [wr_in (Nat.le_add_right _ _) (by omega), Nat.add_sub_cancel_left] at h2
    rw [List.getD_eq_getElem?_getD, List.getD_eq_getElem?_getD, List.getElem?_eq_getElem h, List.getElem?_eq_getElem (by rw [sg_len]; exact h)] at h2
    rw [List.getElem?_eq_getElem h, List.getElem?_eq_getElem (by rw [sg_len]; exact h)]
    exact congrArg some h2
  · rw [List.getElem?_eq_none (by rw [sg_len]; omega), List.getElem?_eq_none (by omega)]
theorem sg_mem {f : Nat → Int32} {p n : Nat} (hf : By f) : ∀ x ∈ sg f p n, b8 x = x := by
  intro x hx
  obtain ⟨i, -, rfl⟩ := List.mem_map.mp hx
  exact hf _
theorem cpy_wr {f g : Nat → Int32} {sp dp n : Nat} : va_cpy f g sp dp n = wr g dp (sg f sp n) := by
  funext j
  by_cases h : dp ≤ j ∧ j < dp + n
  · rw [pk_cpy_in h.1 h.2, wr_in h.1 (by rw [sg_len]; exact h.2), sg_get (by omega)]
  · rw [pk_cpy_out (by omega)]
    by_cases h2 : j < dp
    · rw [wr_lt h2]
    · rw [wr_ge (by rw [sg_len]; omega)]
-- digits
def nd (b : Nat) (dg : Nat → Int32) : Nat → Nat → List Int32
  | 0, _ => []
  | n + 1, k => if k < b then [dg k] else nd b dg n (k / b) ++ [dg (k % b)]
def tops (b : Nat) (dg : Nat → Int32) : Nat → Nat → List Int32
  | 0, _ => []
  | t + 1, k => dg (k / b ^ t % b) :: tops b dg t k
theorem tops_snoc (b : Nat) (dg : Nat → Int32) (t k : Nat) : tops b dg (t + 1) k = tops b dg t (k / b) ++ [dg (k % b)] := by
  induction t with
  | zero => simp [tops]
  | succ t ih =>
    rw [tops, ih]
    show _ = (dg (k / b / b ^ t % b) :: tops b dg t (k / b)) ++ _
    rw [Nat.div_div_eq_div_mul, Nat.pow_succ, Nat.mul_comm (b ^ t) b]
    rfl
theorem tops_len (b : Nat) (dg : Nat → Int32) (t k : Nat) : (tops b dg t k).length = t := by
  induction t with
  | zero => rfl
  | succ t ih => simp [tops, ih]
theorem nd_tops {b : Nat} {dg : Nat → Int32} (hb : 2 ≤ b) : ∀ (t n k : Nat), t < n → (b ^ t ≤ k ∨ t = 0) → k < b ^ (t + 1) → nd b dg n k = tops b dg (t + 1) k := by
  intro t
  induction t with
  | zero =>
    intro n k hn _ hk
    obtain ⟨n, rfl⟩ : ∃ n', n = n' + 1 := ⟨n - 1, by omega⟩
    have hk : k < b := by simpa using hk
    simp [nd, tops, hk, Nat.mod_eq_of_lt hk]
  | succ t ih =>
    intro n k hn h1 hk
    obtain ⟨n, rfl⟩ : ∃ n', n = n' + 1 := ⟨n - 1, by omega⟩
    have h1 : b ^ (t + 1) ≤ k := by
      rcases h1 with h | h
      · exact h
      · cases h
    have hbk : b ≤ k := Nat.le_trans (by rw [Nat.pow_succ]; exact Nat.le_mul_of_pos_left _ (Nat.pow_pos (by omega))) h1
    rw [nd, if_neg (by omega), tops_snoc]
    congr 1
    refine ih n (k / b) (by omega) (Or.inl ?_) ?_
    · rw [Nat.le_div_iff_mul_le (by omega), ← Nat.pow_succ]; exact h1
    · rw [Nat.div_lt_iff_lt_mul (by omega), ← Nat.pow_succ]; exact hk
theorem nd_len {b : Nat} {dg : Nat → Int32} (n k : Nat) : (nd b dg n k).length ≤ n := by
  induction n generalizing k with
  | zero => simp [nd]
  | succ n ih =>
    rw [nd]
    split
    · simp
    · have := ih (k / b)
      simp; omega
theorem nd_mem {b : Nat} {dg : Nat → Int32} (hb : 0 < b) (P : Int32 → Prop) (h : ∀ d, d < b → P (dg d)) : ∀ (n k : Nat), ∀ x ∈ nd b dg n k, P x := by
  intro n
  induction n with
  | zero => intro k x hx; simp [nd] at hx
  | succ n ih =>
    intro k x hx
    rw [nd] at hx
    split at hx
    · rw [List.mem_singleton.mp hx]; exact h _ (by assumption)
    · rcases List.mem_append.mp hx with hx | hx
      · exact ih _ _ hx
      · rw [List.mem_singleton.mp hx]; exact h _ (Nat.mod_lt _ hb)
def dgx (L d : Nat) : Int32 := if d < 10 then nI (48 + d) else nI (L + d - 10)
abbrev dg10 (d : Nat) : Int32 := nI (48 + d)
/-- a long without its sign -/
def absN (v : Int64) : Nat := v.toInt.natAbs
abbrev dig (v : Int64) : List Int32 := nd 10 dg10 20 (absN v)
abbrev dec (v : Int64) : List Int32 := (if v < 0 then [45] else []) ++ dig v
def uL (v : Int64) : Nat := v.toBitVec.toNat
-- the parse of an integer
def hexd (c : Int32) : Int32 := if 48 ≤ c ∧ c ≤ 57 then c - 48 else if 97 ≤ c ∧ c ≤ 102 then c - 97 + 10 else if 65 ≤ c ∧ c ≤ 70 then c - 65 + 10 else -1
def hx64 (v : Int64) (d : Int32) : Int64 := v <<< ((4 : Int32).toInt64 &&& 63) ||| d.toInt64
def phx (w : Nat → Int32) : Nat → Nat → Int64 → Option Int64
  | 0, _, v => some v
  | k + 1, i, v => if hexd (w i) < 0 then none else phx w k (i + 1) (hx64 v (hexd (w i)))
def dbad (d : Int32) (v : Int64) : Bool := decide (d < 0) || decide (9 < d) || decide (v < -922337203685477580) || (decide (v = -922337203685477580) && decide (8 < d))
def d10 (v : Int64) (d : Int32) : Int64 := 10 * v - d.toInt64
def pdc (w : Nat → Int32) : Nat → Nat → Int64 → Option Int64
  | 0, _, v => some v
  | k + 1, i, v => if dbad (w i - 48) v = true then none else pdc w k (i + 1) (d10 v (w i - 48))
def pSg (w : Nat → Int32) (f n : Nat) : Nat := if 0 < n ∧ (w f = 45 ∨ w f = 43) then 1 else 0
def pMi (w : Nat → Int32) (f n : Nat) : Bool := decide (0 < n ∧ w f = 45)
def pI (w : Nat → Int32) (f n : Nat) : Option Int64 :=
  if pSg w f n + 2 < n ∧ w (f + pSg w f n) = 48 ∧ w (f + pSg w f n + 1) = 120 then
    (if n ≤ pSg w f n + 18 then (phx w (n - (pSg w f n + 2)) (f + pSg w f n + 2) 0).map (fun v => if pMi w f n then -v else v) else none)
  else if n = pSg w f n then none
  else (pdc w (n - pSg w f n) (f + pSg w f n) 0).bind (fun v => if pMi w f n then some v else if v = -9223372036854775808 then none else some (-v))
-- places
def fcA (t : Nat → Int32) (n j : Nat) : Int32 := if j < n then t j else -1
def isFl (c : Int32) : Bool := decide (c = 45) || decide (c = 48) || decide (c = 43) || decide (c = 32)
abbrev Fl4 : Type := Bool × Bool × Bool × Bool
def fupd (F : Fl4) (c : Int32) : Fl4 := (F.1 || decide (c = 45), F.2.1 || decide (c = 48), F.2.2.1 || decide (c = 43), F.2.2.2 || decide (c = 32))
def flA (t : Nat → Int32) (n : Nat) : Nat → Nat → Fl4 → Fl4 × Nat
  | 0, j, F => (F, j)
  | k + 1, j, F => if isFl (fcA t n j) = true then flA t n k (j + 1) (fupd F (fcA t n j)) else (F, j)
def isDg (c : Int32) : Bool := decide (48 ≤ c) && decide (c ≤ 57)
def wstep (w : Nat) (c : Int32) : Nat := min 100000 (10 * w + (c.toNatClampNeg - 48))
def wdA (t : Nat → Int32) (n : Nat) : Nat → Nat → Nat → Nat × Nat
  | 0, j, w => (w, j)
  | k + 1, j, w => if isDg (fcA t n j) = true then wdA t n k (j + 1) (wstep w (fcA t n j)) else (w, j)
def kOk (c : Int32) : Bool := decide (c = 100) || decide (c = 120) || decide (c = 88) || decide (c = 111) || decide (c = 99) || decide (c = 115) || decide (c = 37)
def pad (w n : Nat) (c : Int32) : List Int32 := List.replicate (w - n) c
/-- a piece with a sign ahead, filled to a width; zeros: 0s behind the sign -/
def fldS (sgl body : List Int32) (w : Nat) (left zeros : Bool) : List Int32 :=
  (if left || zeros then [] else pad w (sgl.length + body.length) 32) ++ sgl ++ (if zeros then pad w (sgl.length + body.length) 48 else []) ++ body ++ (if left then pad w (sgl.length + body.length) 32 else [])
def sgnL (d : Int32) (v : Int64) (plus blank : Bool) : List Int32 := if d = 100 then (if v < 0 then [45] else if plus then [43] else if blank then [32] else []) else []
def bdy (d : Int32) (v : Int64) : List Int32 :=
  if d = 100 then dig v else if d = 99 then [b8 v.toInt32] else nd (if d = 111 then 8 else 16) (dgx (if d = 88 then 65 else 97)) 22 (uL v)
def plF (t : Nat → Int32) (n i : Nat) : Fl4 × Nat := flA t n n (i + 1) (false, false, false, false)
def plW (t : Nat → Int32) (n i : Nat) : Nat × Nat := wdA t n n (plF t n i).2 0
def plK (t : Nat → Int32) (n i : Nat) : Int32 := fcA t n (plW t n i).2
/-- one place or byte of a format at i, k arguments used: what is wrong, or the text, where the next one begins, how many are used then -/
def step (t : Nat → Int32) (n : Nat) (w z : Nat → Int32) (many i k : Nat) : Int32 ⊕ (List Int32 × Nat × Nat) :=
  if t i ≠ 37 then .inr ([t i], i + 1, k)
  else if kOk (plK t n i) = false then .inl (-2)
  else if plK t n i = 37 then .inr ([37], (plW t n i).2 + 1, k)
  else if many ≤ k then .inl (-3)
  else if plK t n i = 115 then .inr (fldS [] (sg w (40 * k) (z k).toNatClampNeg) (plW t n i).1 (plF t n i).1.1 false, (plW t n i).2 + 1, k + 1)
  else match pI w (40 * k) (z k).toNatClampNeg with
    | none => .inl (-4)
    | some v => .inr (fldS (sgnL (plK t n i) v (plF t n i).1.2.2.1 (plF t n i).1.2.2.2) (bdy (plK t n i) v) (plW t n i).1 (plF t n i).1.1 ((plF t n i).1.2.1 && !(plF t n i).1.1 && !decide (plK t n i = 99)), (plW t n i).2 + 1, k + 1)
def mk (t : Nat → Int32) (n : Nat) (w z : Nat → Int32) (many : Nat) : Nat → Nat → Nat → List Int32 → Int32 ⊕ List Int32
  | 0, _, _, o => .inr o
  | f + 1, i, k, o => if i < n then
      (match step t n w z many i k with
        | .inl e => .inl e
        | .inr (l, i', k') => if 1024 < o.length + l.length then .inl (-5) else mk t n w z many f i' k' (o ++ l))
    else .inr o
end
section
/-! ===== links of calls, worlds, the contracts' entry with a free goal ===== -/
def pick (ws : va_W) (is : List Nat) : va_W := is.filterMap (fun i => ws[i]?)
theorem pick_map {ws : va_W} {is : List Nat} (h : is.all (fun i => Nat.blt i ws.length) = true) : is.map (fun i => ws[i]?) = (pick ws is).map some := by
  induction is with
  | nil => rfl
  | cons i is ih =>
    rw [List.all_cons, Bool.and_eq_true] at h
    have hi : i < ws.length := by have := h.1; rw [Nat.blt_eq] at this; exact this
    have e : pick ws (i :: is) = ws[i] :: pick ws is := by
      unfold pick
      rw [List.filterMap_cons, List.getElem?_eq_getElem hi]
    rw [List.map_cons, ih h.2, e, List.getElem?_eq_getElem hi]
    rfl
theorem MetI.mk2 {σ : Type} {l : Launch} {y : MethodName} {cc : ByteArray} {maxL : Nat} {ty : FieldType} {rm : Room} {mc ms : Nat} {G : gG} {av : List Value} {wc : va_W} {X : (Nat → Prop) → State → Prop} {post : Int32 → σ → Prop} {w' : σ → va_W} (hy : plainName y.cls = true) (hle : (lg_sl av).length ≤ maxL)
    (body : ∀ (p : Program) (e : Env) (s : State) (m : MethodId) (args : Array Value) (below : List Frame) (meth : Method) (c : Code) (A : Nat → Prop) (ls : Array Slot) (Q : State → Prop), CallFix p m c cc maxL s args gt y.cls → gW G A s wc s.heap [] → X A s → lv_has ls maxL (lv_args 0 av) →
      (∀ (H : Heap) (locs : List Loc) (pc : Nat) (ls : Array Slot) (v : Int32) (u : σ), gW G A s (w' u) H locs → post v u → narrow ty (.int v) = .int v → decode cc pc = .ok (.ireturn, 1) → W p l e rm s m args below meth c H locs mc ms Q (F0 m pc ls [.int v])) →
      W p l e rm s m args below meth c s.heap [] 0 0 Q (F0 m 0 ls [])) : MetI l y (Cond.code y cc maxL (some ty)) rm mc ms G av wc X post w' :=
  MetI.mk hy hle fun p e s m args below meth c A ls S hr hlk hw hX hl => body p e s m args below meth c A ls _ S hw hX hl (fun _ _ _ _ _ u hw hp hn hd => xiret S hw hr hlk u hp rfl hn hd)
theorem MetV.mk2 {σ : Type} {l : Launch} {y : MethodName} {cc : ByteArray} {maxL : Nat} {rm : Room} {mc ms : Nat} {G : gG} {av : List Value} {wc : va_W} {X : (Nat → Prop) → State → Prop} {post : σ → Prop} {w' : σ → va_W} (hy : plainName y.cls = true) (hle : (lg_sl av).length ≤ maxL)
    (body : ∀ (p : Program) (e : Env) (s : State) (m : MethodId) (args : Array Value) (below : List Frame) (meth : Method) (c : Code) (A : Nat → Prop) (ls : Array Slot) (Q : State → Prop), CallFix p m c cc maxL s args gt y.cls → gW G A s wc s.heap [] → X A s → lv_has ls maxL (lv_args 0 av) → meth.name = y.name →
      (∀ (H : Heap) (locs : List Loc) (pc : Nat) (ls : Array Slot) (u : σ), gW G A s (w' u) H locs → post u → decode cc pc = .ok (.return_, 1) → W p l e rm s m args below meth c H locs mc ms Q (F0 m pc ls [])) →
      W p l e rm s m args below meth c s.heap [] 0 0 Q (F0 m 0 ls [])) : MetV l y (Cond.code y cc maxL none) rm mc ms G av wc X post w' :=
  MetV.mk hy hle fun p e s m args below meth c A ls S hr hlk hnm hw hX hl => body p e s m args below meth c A ls _ S hw hX hl hnm (fun _ _ _ _ u hw hp hd => xvret S hw hr hlk u hp rfl hd)
section ZC
variable {p : Program} {l : Launch} {e : Env} {R : Room} {s : State} {m : MethodId} {args : Array Value} {below : List Frame} {meth : Method} {c : Code} {H : Heap} {locs : List Loc} {cells slots : Nat} {Q : State → Prop}
variable {cc : ByteArray} {pc nL : Nat} {ls : Array Slot} {rest st0 : List Value} {own : String} {G : gG} {A : Nat → Prop} {ws wc : va_W} {σ : Type}
variable {y : MethodName} {bytes : ByteArray} {maxL index n mc ms : Nat} {ret : Option FieldType} {rm : Room} {As : List Value} {b : Nat} {X : (Nat → Prop) → State → Prop} {w' wn : σ → va_W}
theorem zVi {post : Int32 → σ → Prop} {ci : Nat} {fs : List Value} (S : CallFix p m c cc nL s args gt own) (hw : gW G A s ws H locs) (hsz : ls.size = nL) (vl : VL own index y bytes maxL ret n) (hM : MetI l y (Cond.code y bytes maxL ret) rm 0 0 G (.ref b :: As) wc X0 post w') (q0 : Nat) (he : ws[q0]? = some (b, .inr (ci, fs))) (hc : (classes[ci]?).map (·.1) = some y.cls)
    (hR : (Nat.ble (rm.frames + 1) R.frames && Nat.ble (8 + (maxL + 11) + rm.locals) R.locals && Nat.ble cells R.cells && Nat.ble slots R.slots) = true) (hrm : rm.cells = 0 ∧ rm.slots = 0) (isC isR isN : List Nat) (hC : isC.map (fun i => ws[i]?) = wc.map some) (hRl : isR.all (fun i => Nat.blt i ws.length) = true) (hnds : (va_nd isC && va_nd isR && va_nd isN && isR.all (fun i => decide (i ∉ isC))) = true)
    (hst : st0 = As.reverse ++ .ref b :: rest) (hlen : As.length = n) (hrest : Nat.ble (rest.map fun v => v.category).sum 8 = true) (hdg : decode cc pc = .ok (.invokevirtual index, 3))
    (wn : σ → va_W) (hN : ∀ u, isN.map (fun i => (pick ws isR ++ w' u)[i]?) = (wn u).map some)
    (kk : ∀ (r : Int32) (u : σ) (H : Heap) (locs : List Loc), post r u → gW G A s (wn u) H locs → W p l e R s m args below meth c H locs cells slots Q (F0 m (pc + 3) ls (.int r :: rest))) : W p l e R s m args below meth c H locs cells slots Q (F0 m pc ls st0) := by
  simp only [Bool.and_eq_true, Nat.ble_eq] at hR
  exact xVi S hw hsz vl hM q0 he hc ⟨hR.1.1.1, hR.1.1.2⟩ hrm ⟨hR.1.2, hR.2⟩ isC isR isN hC (pick_map hRl) hnds hst hlen (Nat.le_of_ble_eq_true hrest) hdg hN kk
theorem zVv {post : σ → Prop} {ci : Nat} {fs : List Value} (S : CallFix p m c cc nL s args gt own) (hw : gW G A s ws H locs) (hsz : ls.size = nL) (vl : VL own index y bytes maxL ret n) (hM : MetV l y (Cond.code y bytes maxL ret) rm 0 0 G (.ref b :: As) wc X0 post w') (q0 : Nat) (he : ws[q0]? = some (b, .inr (ci, fs))) (hc : (classes[ci]?).map (·.1) = some y.cls)
    (hR : (Nat.ble (rm.frames + 1) R.frames && Nat.ble (8 + (maxL + 11) + rm.locals) R.locals && Nat.ble cells R.cells && Nat.ble slots R.slots) = true) (hrm : rm.cells = 0 ∧ rm.slots = 0) (isC isR isN : List Nat) (hC : isC.map (fun i => ws[i]?) = wc.map some) (hRl : isR.all (fun i => Nat.blt i ws.length) = true) (hnds : (va_nd isC && va_nd isR && va_nd isN && isR.all (fun i => decide (i ∉ isC))) = true)
    (hst : st0 = As.reverse ++ .ref b :: rest) (hlen : As.length = n) (hrest : Nat.ble (rest.map fun v => v.category).sum 8 = true) (hdg : decode cc pc = .ok (.invokevirtual index, 3))
    (wn : σ → va_W) (hN : ∀ u, isN.map (fun i => (pick ws isR ++ w' u)[i]?) = (wn u).map some)
    (kk : ∀ (u : σ) (H : Heap) (locs : List Loc), post u → gW G A s (wn u) H locs → W p l e R s m args below meth c H locs cells slots Q (F0 m (pc + 3) ls rest)) : W p l e R s m args below meth c H locs cells slots Q (F0 m pc ls st0) := by
  simp only [Bool.and_eq_true, Nat.ble_eq] at hR
  exact xVv S hw hsz vl hM q0 he hc ⟨hR.1.1.1, hR.1.1.2⟩ hrm ⟨hR.1.2, hR.2⟩ isC isR isN hC (pick_map hRl) hnds hst hlen (Nat.le_of_ble_eq_true hrest) hdg hN kk
theorem zSi {post : Int32 → σ → Prop} (S : CallFix p m c cc nL s args gt own) (hw : gW G A s ws H locs) (hsz : ls.size = nL) (sl : SL own index y bytes maxL ret n) (hM : MetI l y (Cond.code y bytes maxL ret) rm 0 0 G As wc X post w') (hXB : XB X) (hX : ∀ U : State, U.heap = H → s.WarmedH U.vm → X (va_A wc H.size) U)
    (hR : (Nat.ble (rm.frames + 1) R.frames && Nat.ble (8 + (maxL + 11) + rm.locals) R.locals && Nat.ble cells R.cells && Nat.ble slots R.slots) = true) (hrm : rm.cells = 0 ∧ rm.slots = 0) (isC isR isN : List Nat) (hC : isC.map (fun i => ws[i]?) = wc.map some) (hRl : isR.all (fun i => Nat.blt i ws.length) = true) (hnds : (va_nd isC && va_nd isR && va_nd isN && isR.all (fun i => decide (i ∉ isC))) = true)
    (hst : st0 = As.reverse ++ rest) (hlen : As.length = n) (hrest : Nat.ble (rest.map fun v => v.category).sum 8 = true) (hdg : decode cc pc = .ok (.invokestatic index, 3))
    (wn : σ → va_W) (hN : ∀ u, isN.map (fun i => (pick ws isR ++ w' u)[i]?) = (wn u).map some)
    (kk : ∀ (r : Int32) (u : σ) (H : Heap) (locs : List Loc), post r u → gW G A s (wn u) H locs → W p l e R s m args below meth c H locs cells slots Q (F0 m (pc + 3) ls (.int r :: rest))) : W p l e R s m args below meth c H locs cells slots Q (F0 m pc ls st0) := by
  simp only [Bool.and_eq_true, Nat.ble_eq] at hR
  exact xSi S hw hsz sl hM hXB hX ⟨hR.1.1.1, hR.1.1.2⟩ hrm ⟨hR.1.2, hR.2⟩ isC isR isN hC (pick_map hRl) hnds hst hlen (Nat.le_of_ble_eq_true hrest) hdg hN kk
theorem zIv {post : σ → Prop} (S : CallFix p m c cc nL s args gt own) (hw : gW G A s ws H locs) (hsz : ls.size = nL) (il : IL own index y bytes maxL n) (hM : MetV l y (Cond.code y bytes maxL none) rm mc ms G (.ref b :: As) wc X0 post w')
    (hR : (Nat.ble (rm.frames + 1) R.frames && Nat.ble (8 + (maxL + 11) + rm.locals) R.locals && Nat.ble (cells + mc) R.cells && Nat.ble (slots + ms) R.slots) = true) (hrm : rm.cells = mc ∧ rm.slots = ms) (isC isR isN : List Nat) (hC : isC.map (fun i => ws[i]?) = wc.map some) (hRl : isR.all (fun i => Nat.blt i ws.length) = true) (hnds : (va_nd isC && va_nd isR && va_nd isN && isR.all (fun i => decide (i ∉ isC))) = true)
    (hst : st0 = As.reverse ++ .ref b :: rest) (hlen : As.length = n) (hrest : Nat.ble (rest.map fun v => v.category).sum 8 = true) (hdg : decode cc pc = .ok (.invokespecial index, 3))
    (wn : σ → va_W) (hN : ∀ u, isN.map (fun i => (pick ws isR ++ w' u)[i]?) = (wn u).map some)
    (kk : ∀ (u : σ) (H : Heap) (locs : List Loc), post u → gW G A s (wn u) H locs → W p l e R s m args below meth c H locs (cells + mc) (slots + ms) Q (F0 m (pc + 3) ls rest)) : W p l e R s m args below meth c H locs cells slots Q (F0 m pc ls st0) := by
  simp only [Bool.and_eq_true, Nat.ble_eq] at hR
  exact xIv S hw hsz il hM ⟨hR.1.1.1, hR.1.1.2⟩ hrm ⟨hR.1.2, hR.2⟩ isC isR isN hC (pick_map hRl) hnds hst hlen (Nat.le_of_ble_eq_true hrest) hdg hN kk
end ZC
-- worlds
abbrev oRo (r a : Nat) (n : Int32) : Nat × va_E := (r, .inr (0, [.ref a, .int n]))
abbrev aB (G : gG) (a n : Nat) (f : Nat → Int32) : Nat × va_E := (a, .inl (gcB G, n, .inl f))
abbrev aI (G : gG) (a n : Nat) (f : Nat → Int32) : Nat × va_E := (a, .inl (gcI G, n, .inl f))
abbrev wRo (G : gG) (r a cap : Nat) (n : Int32) (f : Nat → Int32) : va_W := [oRo r a n, aB G a cap f]
abbrev wRoA (G : gG) (r a cap : Nat) (n : Int32) (f : Nat → Int32) (b bn : Nat) (g : Nat → Int32) : va_W := [oRo r a n, aB G a cap f, aB G b bn g]
abbrev wFo (G : gG) (h r a : Nat) (sn n : Int32) (f : Nat → Int32) : va_W := [(h, .inr (1, [.ref r, .int sn])), oRo r a n, aB G a 2048 f]
abbrev wPu (G : gG) (h r a o b : Nat) (sn n : Int32) (f : Nat → Int32) (on : Int32) (g : Nat → Int32) : va_W := [(h, .inr (1, [.ref r, .int sn])), oRo r a n, aB G a 2048 f, oRo o b on, aB G b 4096 g]
abbrev wMi (G : gG) (ad : Nat → Nat) (sn fn : Int32) (ff : Nat → Int32) (on : Int32) (of : Nat → Int32) (hn : Int32) (hf fm : Nat → Int32) (fs : Int32) (wd sz : Nat → Int32) (mn : Int32) (tp : Nat → Int32) (ln : Int32) (vl : Int64) : va_W :=
  [(ad 0, .inr (2, [.ref (ad 1), .ref (ad 4), .ref (ad 6), .ref (ad 8), .int fs, .ref (ad 9), .ref (ad 10), .int mn, .ref (ad 11), .int ln, .long vl])),
   (ad 1, .inr (1, [.ref (ad 2), .int sn])), oRo (ad 2) (ad 3) fn, aB G (ad 3) 2048 ff, oRo (ad 4) (ad 5) on, aB G (ad 5) 4096 of, oRo (ad 6) (ad 7) hn, aB G (ad 7) 64 hf, aB G (ad 8) 400 fm, aB G (ad 9) 800 wd, aI G (ad 10) 20 sz, aB G (ad 11) 400 tp]
abbrev wMd (G : gG) (ad : Nat → Nat) (tp tx wd ou wz pi : Nat → Int32) (tk si mn md os at' wi ki le ze pl bl fr : Int32) (vl : Int64) : va_W :=
  [(ad 0, .inr (3, [.ref (ad 1), .ref (ad 2), .ref (ad 3), .ref (ad 4), .int tk, .int si, .int mn, .int md, .int os, .ref (ad 5), .int at', .int wi, .int ki, .int le, .int ze, .int pl, .int bl, .ref (ad 6), .int fr, .long vl])),
   aB G (ad 1) 400 tp, aB G (ad 2) 400 tx, aB G (ad 3) 800 wd, aB G (ad 4) 1024 ou, aI G (ad 5) 20 wz, aB G (ad 6) 72 pi]
theorem il_La_9 : IL R_La 9 y_Mi_init b_Mi_init 1 0 := ⟨k_14, k_15, k_1, k_16, rfl, (by decide +kernel), (by decide +kernel), (by decide +kernel)⟩
theorem il_Fo_11 : IL R_Fo 11 y_Ro_init b_Ro_init 2 1 := ⟨k_28, k_29, k_3, k_30, rfl, (by decide +kernel), (by decide +kernel), (by decide +kernel)⟩
theorem il_Mi_18 : IL R_Mi 18 y_Ro_init b_Ro_init 2 1 := ⟨k_53, k_29, k_3, k_30, rfl, (by decide +kernel), (by decide +kernel), (by decide +kernel)⟩
theorem vl_La_13 : VL R_La 13 y_Mi_feed b_Mi_feed 8 (some .boolean) 5 := ⟨k_89, k_90, k_91, k_1, k_92, (by decide +kernel), (by decide +kernel), (by decide +kernel)⟩
theorem vl_La_18 : VL R_La 18 y_Mi_end b_Mi_end 2 (some .boolean) 1 := ⟨k_93, k_94, k_95, k_1, k_96, (by decide +kernel), (by decide +kernel), (by decide +kernel)⟩
theorem vl_La_23 : VL R_La 23 y_Mi_format b_Mi_format 1 (some .int) 0 := ⟨k_97, k_98, k_99, k_1, k_100, (by decide +kernel), (by decide +kernel), (by decide +kernel)⟩
theorem vl_Mi_46 : VL R_Mi 46 y_Mi_used b_Mi_used 2 (some .int) 0 := ⟨k_101, k_103, ks_0, k_1, k_104, (by decide +kernel), (by decide +kernel), (by decide +kernel)⟩
theorem vl_La_28 : VL R_La 28 y_Mi_argument b_Mi_argument 2 (some .int) 0 := ⟨k_108, k_109, k_110, k_1, k_111, (by decide +kernel), (by decide +kernel), (by decide +kernel)⟩
theorem vl_Mi_62 : VL R_Mi 62 y_Mi_add b_Mi_add 3 (some .int) 2 := ⟨k_112, k_114, ks_1, k_1, k_115, (by decide +kernel), (by decide +kernel), (by decide +kernel)⟩
theorem vl_La_34 : VL R_La 34 y_Mi_number b_Mi_number 3 (some .int) 1 := ⟨k_116, k_117, k_118, k_1, k_119, (by decide +kernel), (by decide +kernel), (by decide +kernel)⟩
theorem vl_Mi_67 : VL R_Mi 67 y_Ro_decimal b_Ro_decimal 7 none 1 := ⟨k_120, k_121, k_122, k_3, k_123, (by decide +kernel), (by decide +kernel), (by decide +kernel)⟩
theorem vl_Ro_23 : VL R_Ro 23 y_Ro_one b_Ro_one 3 none 1 := ⟨k_124, k_125, k_126, k_3, k_127, (by decide +kernel), (by decide +kernel), (by decide +kernel)⟩
theorem vl_La_39 : VL R_La 39 y_Mi_clear b_Mi_clear 1 none 0 := ⟨k_134, k_135, k_136, k_1, k_137, (by decide +kernel), (by decide +kernel), (by decide +kernel)⟩
theorem vl_La_43 : VL R_La 43 y_Mi_make b_Mi_make 10 (some .int) 0 := ⟨k_138, k_139, k_140, k_1, k_141, (by decide +kernel), (by decide +kernel), (by decide +kernel)⟩
theorem vl_Mi_90 : VL R_Mi 90 y_Mi_at b_Mi_at 2 (some .int) 1 := ⟨k_142, k_144, ks_2, k_1, k_145, (by decide +kernel), (by decide +kernel), (by decide +kernel)⟩
theorem vl_Mi_93 : VL R_Mi 93 y_Ro_one b_Ro_one 3 none 1 := ⟨k_146, k_125, k_126, k_3, k_127, (by decide +kernel), (by decide +kernel), (by decide +kernel)⟩
theorem vl_Mi_96 : VL R_Mi 96 y_Mi_nothing b_Mi_nothing 2 (some .int) 1 := ⟨k_147, k_149, ks_3, k_1, k_150, (by decide +kernel), (by decide +kernel), (by decide +kernel)⟩
theorem vl_Mi_108 : VL R_Mi 108 y_St_indexOf1 b_St_indexOf1 2 (some .int) 1 := ⟨k_156, k_157, k_158, k_7, k_159, (by decide +kernel), (by decide +kernel), (by decide +kernel)⟩
theorem vl_St_633 : VL R_St 633 y_St_indexOf2 b_St_indexOf2 3 (some .int) 2 := ⟨k_160, k_161, k_162, k_7, k_163, (by decide +kernel), (by decide +kernel), (by decide +kernel)⟩
theorem vl_St_492 : VL R_St 492 y_St_isLatin1 b_St_isLatin1 1 (some .boolean) 0 := ⟨k_164, k_165, k_166, k_7, k_167, (by decide +kernel), (by decide +kernel), (by decide +kernel)⟩
theorem vl_St_505 : VL R_St 505 y_St_length b_St_length 1 (some .int) 0 := ⟨k_170, k_171, k_172, k_7, k_173, (by decide +kernel), (by decide +kernel), (by decide +kernel)⟩
theorem vl_St_335 : VL R_St 335 y_St_coder b_St_coder 1 (some .byte) 0 := ⟨k_174, k_175, k_176, k_7, k_177, (by decide +kernel), (by decide +kernel), (by decide +kernel)⟩
theorem sl_St_637 : SL R_St 637 y_Sl_indexOf b_Sl_indexOf 4 (some .int) 4 := ⟨k_178, k_179, k_8, k_180, (by decide +kernel), (by decide +kernel), (by decide +kernel)⟩
theorem sl_Sl_88 : SL R_Sl 88 y_Sl_canEncode b_Sl_canEncode 1 (some .boolean) 1 := ⟨k_181, k_182, k_8, k_183, (by decide +kernel), (by decide +kernel), (by decide +kernel)⟩
theorem sl_Sl_95 : SL R_Sl 95 y_Sl_indexOfChar b_Sl_indexOfChar 6 (some .int) 4 := ⟨k_188, k_189, k_8, k_190, (by decide +kernel), (by decide +kernel), (by decide +kernel)⟩
theorem vl_Mi_114 : VL R_Mi 114 y_Mi_isInteger b_Mi_isInteger 7 (some .boolean) 2 := ⟨k_240, k_242, ks_4, k_1, k_243, (by decide +kernel), (by decide +kernel), (by decide +kernel)⟩
theorem sl_Mi_78 : SL R_Mi 78 y_Mi_hexadecimal b_Mi_hexadecimal 1 (some .int) 1 := ⟨k_244, k_245, k_1, k_246, (by decide +kernel), (by decide +kernel), (by decide +kernel)⟩
theorem vl_Mi_118 : VL R_Mi 118 y_Ro_add b_Ro_add 5 none 3 := ⟨k_250, k_251, k_252, k_3, k_253, (by decide +kernel), (by decide +kernel), (by decide +kernel)⟩
theorem vl_Mi_121 : VL R_Mi 121 y_Fo_digits b_Fo_digits 10 none 4 := ⟨k_254, k_255, k_256, k_2, k_257, (by decide +kernel), (by decide +kernel), (by decide +kernel)⟩
theorem vl_Fo_24 : VL R_Fo 24 y_Ro_one b_Ro_one 3 none 1 := ⟨k_258, k_125, k_126, k_3, k_127, (by decide +kernel), (by decide +kernel), (by decide +kernel)⟩
theorem vl_Fo_27 : VL R_Fo 27 y_Ro_decimal b_Ro_decimal 7 none 1 := ⟨k_259, k_121, k_122, k_3, k_123, (by decide +kernel), (by decide +kernel), (by decide +kernel)⟩
theorem vl_Mi_125 : VL R_Mi 125 y_Fo_put b_Fo_put 9 none 4 := ⟨k_260, k_261, k_262, k_2, k_263, (by decide +kernel), (by decide +kernel), (by decide +kernel)⟩
theorem vl_Fo_44 : VL R_Fo 44 y_Ro_add b_Ro_add 5 none 3 := ⟨k_265, k_251, k_252, k_3, k_253, (by decide +kernel), (by decide +kernel), (by decide +kernel)⟩
theorem vl_La_47 : VL R_La 47 y_Mi_madeAt b_Mi_madeAt 2 (some .int) 1 := ⟨k_266, k_267, k_268, k_1, k_269, (by decide +kernel), (by decide +kernel), (by decide +kernel)⟩
theorem il_La_12 : IL R_La 12 y_Md_init b_Md_init 1 0 := ⟨k_272, k_273, k_4, k_274, rfl, (by decide +kernel), (by decide +kernel), (by decide +kernel)⟩
theorem vl_La_17 : VL R_La 17 y_Md_feed b_Md_feed 6 (some .boolean) 5 := ⟨k_337, k_338, k_339, k_4, k_340, (by decide +kernel), (by decide +kernel), (by decide +kernel)⟩
theorem vl_Md_33 : VL R_Md 33 y_Md_lay b_Md_lay 3 none 1 := ⟨k_341, k_343, ks_5, k_4, k_344, (by decide +kernel), (by decide +kernel), (by decide +kernel)⟩
theorem vl_La_22 : VL R_La 22 y_Md_end b_Md_end 2 (some .boolean) 1 := ⟨k_345, k_346, k_347, k_4, k_348, (by decide +kernel), (by decide +kernel), (by decide +kernel)⟩
theorem vl_La_27 : VL R_La 27 y_Md_format b_Md_format 2 (some .int) 0 := ⟨k_349, k_350, k_351, k_4, k_352, (by decide +kernel), (by decide +kernel), (by decide +kernel)⟩
theorem vl_La_31 : VL R_La 31 y_Md_argument b_Md_argument 3 (some .int) 0 := ⟨k_353, k_354, k_355, k_4, k_356, (by decide +kernel), (by decide +kernel), (by decide +kernel)⟩
theorem vl_La_38 : VL R_La 38 y_Md_number b_Md_number 5 (some .int) 1 := ⟨k_357, k_358, k_359, k_4, k_360, (by decide +kernel), (by decide +kernel), (by decide +kernel)⟩
theorem vl_Md_43 : VL R_Md 43 y_Md_decimal b_Md_decimal 3 none 1 := ⟨k_361, k_363, ks_6, k_4, k_364, (by decide +kernel), (by decide +kernel), (by decide +kernel)⟩
theorem vl_Md_50 : VL R_Md 50 y_Md_digits b_Md_digits 7 none 1 := ⟨k_365, k_367, ks_7, k_4, k_368, (by decide +kernel), (by decide +kernel), (by decide +kernel)⟩
theorem vl_Md_53 : VL R_Md 53 y_Md_ahead b_Md_ahead 2 none 1 := ⟨k_370, k_372, ks_8, k_4, k_373, (by decide +kernel), (by decide +kernel), (by decide +kernel)⟩
theorem vl_La_42 : VL R_La 42 y_Md_clear b_Md_clear 1 none 0 := ⟨k_374, k_375, k_376, k_4, k_377, (by decide +kernel), (by decide +kernel), (by decide +kernel)⟩
theorem vl_La_46 : VL R_La 46 y_Md_make b_Md_make 4 (some .int) 0 := ⟨k_378, k_379, k_380, k_4, k_381, (by decide +kernel), (by decide +kernel), (by decide +kernel)⟩
theorem vl_Md_107 : VL R_Md 107 y_Md_put b_Md_put 2 (some .boolean) 1 := ⟨k_382, k_384, ks_9, k_4, k_385, (by decide +kernel), (by decide +kernel), (by decide +kernel)⟩
theorem vl_Md_129 : VL R_Md 129 y_Md_readPlace b_Md_readPlace 1 (some .boolean) 0 := ⟨k_386, k_388, ks_10, k_4, k_389, (by decide +kernel), (by decide +kernel), (by decide +kernel)⟩
theorem vl_Md_96 : VL R_Md 96 y_Md_flag b_Md_flag 2 (some .boolean) 0 := ⟨k_390, k_392, ks_11, k_4, k_393, (by decide +kernel), (by decide +kernel), (by decide +kernel)⟩
theorem vl_Md_132 : VL R_Md 132 y_Md_filled b_Md_filled 3 (some .int) 1 := ⟨k_395, k_397, ks_12, k_4, k_398, (by decide +kernel), (by decide +kernel), (by decide +kernel)⟩
theorem vl_Md_115 : VL R_Md 115 y_Md_fill b_Md_fill 10 (some .boolean) 4 := ⟨k_399, k_401, ks_13, k_4, k_402, (by decide +kernel), (by decide +kernel), (by decide +kernel)⟩
theorem vl_Md_111 : VL R_Md 111 y_Md_puts b_Md_puts 5 (some .boolean) 2 := ⟨k_403, k_405, ks_14, k_4, k_406, (by decide +kernel), (by decide +kernel), (by decide +kernel)⟩
theorem vl_Md_119 : VL R_Md 119 y_Md_isInteger b_Md_isInteger 7 (some .boolean) 1 := ⟨k_407, k_409, ks_15, k_4, k_410, (by decide +kernel), (by decide +kernel), (by decide +kernel)⟩
theorem vl_Md_70 : VL R_Md 70 y_Md_isHex b_Md_isHex 9 (some .boolean) 3 := ⟨k_411, k_413, ks_16, k_4, k_414, (by decide +kernel), (by decide +kernel), (by decide +kernel)⟩
theorem sl_Md_58 : SL R_Md 58 y_Md_hex b_Md_hex 1 (some .int) 1 := ⟨k_415, k_416, k_4, k_417, (by decide +kernel), (by decide +kernel), (by decide +kernel)⟩
theorem vl_Md_74 : VL R_Md 74 y_Md_isDecimal b_Md_isDecimal 9 (some .boolean) 3 := ⟨k_418, k_420, ks_17, k_4, k_421, (by decide +kernel), (by decide +kernel), (by decide +kernel)⟩
theorem vl_Md_122 : VL R_Md 122 y_Md_bits b_Md_bits 8 none 3 := ⟨k_424, k_426, ks_18, k_4, k_427, (by decide +kernel), (by decide +kernel), (by decide +kernel)⟩
theorem vl_La_51 : VL R_La 51 y_Md_madeAt b_Md_madeAt 2 (some .int) 1 := ⟨k_428, k_429, k_430, k_4, k_431, (by decide +kernel), (by decide +kernel), (by decide +kernel)⟩
end
section
/-! ===== longs: absolute values, digits ===== -/
theorem wr_sg_succ {f g : Nat → Int32} {n fo i : Nat} (hg : By g) : wr (wr f n (sg g fo i)) (n + i) [b8 (g (fo + i))] = wr f n (sg g fo (i + 1)) := by
  rw [show b8 (g (fo + i)) = g (fo + i) from hg _, wr_app (by rw [sg_len]), sg_succ]
theorem absN_le (v : Int64) : absN v ≤ 9223372036854775808 := by
  have h1 := v.toInt_lt; have h2 := v.le_toInt
  simp only [absN]
  omega
theorem absN_zero {v : Int64} : v = 0 ↔ absN v = 0 := by
  rw [← Int64.toInt_inj]
  simp only [absN, Int64.toInt_zero]
  omega
theorem tdiv_abs (a : Int) (u : Nat) : (a.tdiv (u : Int)).natAbs = a.natAbs / u := by
  rw [Int.natAbs_tdiv, Int.natAbs_natCast]
  rfl
theorem lN_int {u : Nat} (h : u < 2 ^ 63) : (lN u).toInt = (u : Int) := Int64.toInt_ofNat_of_lt h
theorem absN_div (v : Int64) {u : Nat} (h0 : 0 < u) (h : u < 2 ^ 63) : absN (v / lN u) = absN v / u := by
  have hne : lN u ≠ -1 := by
    intro q
    have h2 := lN_int h
    rw [q] at h2
    have h3 : (-1 : Int64).toInt = -1 := rfl
    omega
  simp only [absN]
  rw [Int64.toInt_div_of_ne_right _ _ hne, lN_int h, tdiv_abs]
theorem i64_div10 (v : Int64) : (v / 10).toInt = v.toInt.tdiv 10 := Int64.toInt_div_of_ne_right _ _ (by decide)
theorem i64_rem10 (v : Int64) : (v - v / 10 * 10).toInt = v.toInt.tmod 10 := by
  have h1 := v.toInt_lt; have h2 := v.le_toInt
  have h3 : v.toInt.tmod 10 = v.toInt - 10 * v.toInt.tdiv 10 := Int.tmod_def _ _
  have h4 : -10 < v.toInt.tmod 10 ∧ v.toInt.tmod 10 < 10 := tmod_bounds (by decide)
  have h5 : (10 : Int64).toInt = 10 := rfl
  have h6 : (v.toInt.tdiv 10).natAbs = v.toInt.natAbs / 10 := tdiv_abs v.toInt 10
  have e1 : (v / 10 * 10).toInt = v.toInt.tdiv 10 * 10 := by
    rw [Int64.toInt_mul, i64_div10, h5]
    exact Int.bmod_eq_of_le (by omega) (by omega)
  rw [Int64.toInt_sub, e1, h3]
  have : v.toInt - v.toInt.tdiv 10 * 10 = v.toInt - 10 * v.toInt.tdiv 10 := by omega
  rw [this]
  exact Int.bmod_eq_of_le (by omega) (by omega)
theorem tmod_abs (a : Int) : (a.tmod 10).natAbs = a.natAbs % 10 := by
  rw [Int.natAbs_tmod]; rfl
theorem absN_rem10 (v : Int64) : absN (v - v / 10 * 10) = absN v % 10 := by
  simp only [absN]
  rw [i64_rem10, tmod_abs]
theorem i64_neg {r : Int64} (h : -9223372036854775808 < r.toInt) : (-r).toInt = -r.toInt := by
  have h1 := r.toInt_lt
  rw [Int64.toInt_neg]
  exact Int.bmod_eq_of_le (by omega) (by omega)
/-- Math.abs and the model's own: both give the number without its sign -/
theorem abs_lN {r : Int64} (h : absN r < 10) : (if 0 < r then r else -r) = lN (absN r) := by
  have h1 := r.toInt_lt; have h2 := r.le_toInt
  rw [← Int64.toInt_inj, lN_int (by omega)]
  simp only [absN] at h ⊢
  have h0 : (0 : Int64).toInt = 0 := rfl
  by_cases hp : 0 < r
  · rw [if_pos hp]
    rw [Int64.lt_iff_toInt_lt, h0] at hp
    omega
  · rw [if_neg hp, i64_neg (by omega)]
    rw [Int64.lt_iff_toInt_lt, h0] at hp
    omega
theorem abs_lN2 {r : Int64} (h : absN r < 10) (hr : ¬ 0 ≤ r) : -r = lN (absN r) := by
  have h3 := abs_lN h
  have h0 : (0 : Int64).toInt = 0 := rfl
  rw [if_neg (by rw [Int64.lt_iff_toInt_lt, h0]; rw [Int64.le_iff_toInt_le, h0] at hr; omega)] at h3
  exact h3
theorem abs_lN3 {r : Int64} (h : absN r < 10) (hr : 0 ≤ r) : r = lN (absN r) := by
  have h1 := r.toInt_lt
  have h0 : (0 : Int64).toInt = 0 := rfl
  rw [← Int64.toInt_inj, lN_int (by omega)]
  rw [Int64.le_iff_toInt_le, h0] at hr
  simp only [absN]
  omega
theorem dg_l2i (d : Nat) : (48 + lN d : Int64).toInt32 = nI (48 + d) := by
  have h : (48 + lN d : Int64) = lN (48 + d) := lN_add 48 d
  rw [h, lN_i]
/-- the unit when c digits are left -/
def unt : Nat → Int64
  | 0 => 0
  | c + 1 => lN (10 ^ c)
theorem p10_lt {c : Nat} (h : c ≤ 18) : 10 ^ c < 2 ^ 63 := Nat.lt_of_le_of_lt (Nat.pow_le_pow_right (by decide) h) (by decide)
theorem unt_div {c : Nat} (h : c ≤ 18) : unt (c + 1) / 10 = unt c := by
  show lN (10 ^ c) / lN 10 = _
  rw [pk_lDiv (p10_lt h) (by decide) (by decide)]
  cases c with
  | zero => rfl
  | succ c =>
    show _ = lN (10 ^ c)
    rw [Nat.pow_succ, Nat.mul_div_cancel _ (by decide)]
theorem unt_pos {c : Nat} (h : c ≤ 18) : ¬ unt (c + 1) ≤ 0 := by
  intro q
  rw [Int64.le_iff_toInt_le, show unt (c + 1) = lN (10 ^ c) from rfl, lN_int (p10_lt h), show (0 : Int64).toInt = 0 from rfl] at q
  have : 0 < 10 ^ c := Nat.pow_pos (by decide)
  omega
theorem dig_len {v : Int64} : (dig v).length ≤ 19 := by
  have h := absN_le v
  by_cases h0 : absN v < 10
  · simp only [dig, nd, if_pos h0]; simp
  · have key : ∀ n k, k < 10 ^ (n + 1) → (nd 10 dg10 20 k).length ≤ n + 1 := by
      intro n
      have gen : ∀ (n f k : Nat), k < 10 ^ (n + 1) → (nd 10 dg10 f k).length ≤ n + 1 := by
        intro n
        induction n with
        | zero =>
          intro f k hk
          cases f with
          | zero => simp [nd]
          | succ f =>
            rw [nd, if_pos (by simpa using hk)]; simp
        | succ n ih =>
          intro f k hk
          cases f with
          | zero => simp [nd]
          | succ f =>
            rw [nd]
            split
            · simp
            · have := ih f (k / 10) (by rw [Nat.div_lt_iff_lt_mul (by decide)]; rw [Nat.pow_succ] at hk; exact hk)
              simp; omega
      exact fun k hk => gen n 20 k hk
    exact key 18 _ (Nat.lt_of_le_of_lt h (by decide))
theorem dec_len {v : Int64} : (dec v).length ≤ 20 := by
  have := dig_len (v := v)
  simp only [dec, List.length_append]
  split <;> simp <;> omega
theorem dg10_b8 : ∀ d, d < 10 → b8 (dg10 d) = dg10 d := by decide
theorem dig_b8 {v : Int64} : ∀ x ∈ dig v, b8 x = x := nd_mem (by decide) (fun x => b8 x = x) dg10_b8 20 _
theorem dec_b8 {v : Int64} : ∀ x ∈ dec v, b8 x = x := by
  intro x hx
  rcases List.mem_append.mp hx with h | h
  · split at h
    · rw [List.mem_singleton.mp h]; decide
    · cases h
  · exact dig_b8 x h
end
section
set_option maxHeartbeats 4000000 in
set_option maxRecDepth 100000 in
/-- Row.one: a byte more -/
theorem c_Ro_one (l : Launch) (G : gG) (r a cap n : Nat) (f : Nat → Int32) (x : Int32) (hn : n < cap) (hc : cap ≤ 5000) : MetV (σ := Unit) l y_Ro_one (Cond.code y_Ro_one b_Ro_one 3 none) (rmL 0) 0 0 G [.ref r, .int x] (wRo G r a cap (nI n) f) X0 (fun _ => True) (fun _ => wRo G r a cap (nI (n + 1)) (wr f n [b8 x])) := by
  refine MetV.mk2 (by decide) (Nat.le_of_ble_eq_true rfl) ?_
  intro p e s m args below meth c A ls Q S hw hX hl hnm kret
  have hx := S.1
  have hb := S.2.1
  have hl : lv_has ls 3 [(0, .ref r), (1, .int x)] := hl
  generalize hH0 : s.heap = H at hw ⊢
  generalize hL0 : ([] : List Loc) = locs at hw ⊢
  refine lv_aload_n hx hb d_Ro_one_0 rfl (lv_at hl 0 rfl) ?_
  refine xget S hw fl_Ro_13 0 rfl rfl d_Ro_one_1 ?_
  refine lv_aload_n hx hb d_Ro_one_4 rfl (lv_at hl 0 rfl) ?_
  refine xget S hw fl_Ro_7 0 rfl rfl d_Ro_one_5 ?_
  refine xblen S hw 1 rfl d_Ro_one_8 ?_
  refine lv_icmp_ne (tgt := 43) hx hb d_Ro_one_9 (by decide) (fun _ => ?_) (fun q => absurd q (fun q => by have := (nI_eq (a := n) (b := cap) (by omega) (by omega)).mp q; omega))
  refine lv_aload_n hx hb d_Ro_one_43 rfl (lv_at hl 0 rfl) ?_
  refine xget S hw fl_Ro_7 0 rfl rfl d_Ro_one_44 ?_
  refine lv_aload_n hx hb d_Ro_one_47 rfl (lv_at hl 0 rfl) ?_
  refine xget S hw fl_Ro_13 0 rfl rfl d_Ro_one_48 ?_
  refine lv_iload_n hx hb d_Ro_one_51 rfl (lv_at hl 1 rfl) ?_
  refine lv_i2b hx hb d_Ro_one_52 rfl ?_
  refine xbast S hw 1 rfl (j := n) (y := b8 x) (hn) (by omega) (b8_b8 _) (ws' := wRo G r a cap (nI n) (upd f n (b8 x))) rfl d_Ro_one_53 (fun H locs hw => ?_)
  refine lv_aload_n hx hb d_Ro_one_54 rfl (lv_at hl 0 rfl) ?_
  refine lv_dup hx hb d_Ro_one_55 rfl ?_
  refine xget S hw fl_Ro_13 0 rfl rfl d_Ro_one_56 ?_
  refine lv_iconst (v := 1) hx hb d_Ro_one_59 (by decide) ?_
  refine lv_iadd hx hb d_Ro_one_60 ?_
  refine tpi (y := nI (n + 1)) (nI_add n 1) ?_
  refine xput S hw fl_Ro_13 0 rfl rfl rfl (Nat.le_of_ble_eq_true rfl) (ws' := wRo G r a cap (nI (n + 1)) (upd f n (b8 x))) rfl d_Ro_one_61 (fun H locs hw => ?_)
  have hw : gW G A s (wRo G r a cap (nI (n + 1)) (wr f n [b8 x])) H locs := by rw [← wr_upd]; exact hw
  exact kret _ _ _ _ () hw trivial d_Ro_one_64
set_option maxHeartbeats 4000000 in
set_option maxRecDepth 100000 in
/-- Row.add: k bytes of a row more -/
theorem c_Ro_add (l : Launch) (G : gG) (r a cap n : Nat) (f : Nat → Int32) (b bn : Nat) (g : Nat → Int32) (fo k : Nat) (hn : n + k ≤ cap) (hc : cap ≤ 5000) (hf : fo + k ≤ bn) (hbn : bn ≤ 5000) (hg : By g) : MetV (σ := Unit) l y_Ro_add (Cond.code y_Ro_add b_Ro_add 5 none) (rmL 1) 0 0 G [.ref r, .ref b, .int (nI fo), .int (nI k)] (wRoA G r a cap (nI n) f b bn g) X0 (fun _ => True) (fun _ => wRoA G r a cap (nI (n + k)) (wr f n (sg g fo k)) b bn g) := by
  refine MetV.mk2 (by decide) (Nat.le_of_ble_eq_true rfl) ?_
  intro p e s m args below meth c A ls Q S hw hX hl hnm kret
  have hx := S.1
  have hb := S.2.1
  have hl : lv_has ls 5 [(0, .ref r), (1, .ref b), (2, .int (nI fo)), (3, .int (nI k))] := hl
  generalize hH0 : s.heap = H at hw ⊢
  generalize hL0 : ([] : List Loc) = locs at hw ⊢
  refine lv_iconst (v := 0) hx hb d_Ro_add_0 (by decide) ?_
  refine lv_istore (lv' := [(4, .int 0), (0, .ref r), (1, .ref b), (2, .int (nI fo)), (3, .int (nI k))]) hx hb d_Ro_add_1 hl (by decide) rfl (fun ls hl => ?_)
  have lp : ∀ (d i : Nat), i + d = k → ∀ (H : Heap) (locs : List Loc) (ls : Array Slot), gW G A s (wRoA G r a cap (nI (n + i)) (wr f n (sg g fo i)) b bn g) H locs → lv_has ls 5 [(4, .int (nI i)), (0, .ref r), (1, .ref b), (2, .int (nI fo)), (3, .int (nI k))] → W p l e (rmL 1) s m args below meth c H locs 0 0 Q (F0 m 3 ls []) := by
    intro d
    induction d with
    | zero =>
      intro i hi H locs ls hw hl
      refine lv_iload hx hb d_Ro_add_3 (lv_at hl 0 rfl) ?_
      refine lv_iload_n hx hb d_Ro_add_5 rfl (lv_at hl 4 rfl) ?_
      refine lv_icmp_ge (tgt := 25) hx hb d_Ro_add_6 (by decide) (fun _ => ?_) (fun q => absurd ((nI_leI (by omega) (by omega)).mpr (by omega)) q)
      obtain rfl : i = k := by omega
      exact kret _ _ _ _ () hw trivial d_Ro_add_25
    | succ d ih =>
      intro i hi H locs ls hw hl
      refine lv_iload hx hb d_Ro_add_3 (lv_at hl 0 rfl) ?_
      refine lv_iload_n hx hb d_Ro_add_5 rfl (lv_at hl 4 rfl) ?_
      refine lv_icmp_ge (tgt := 25) hx hb d_Ro_add_6 (by decide) (fun q => absurd q (fun q => by have := (nI_leI (by omega) (by omega)).mp q; omega)) (fun _ => ?_)
      refine lv_aload_n hx hb d_Ro_add_9 rfl (lv_at hl 1 rfl) ?_
      refine lv_aload_n hx hb d_Ro_add_10 rfl (lv_at hl 2 rfl) ?_
      refine lv_iload_n hx hb d_Ro_add_11 rfl (lv_at hl 3 rfl) ?_
      refine lv_iload hx hb d_Ro_add_12 (lv_at hl 0 rfl) ?_
      refine lv_iadd hx hb d_Ro_add_14 ?_
      refine tpi (y := nI (fo + i)) (nI_add fo i) ?_
      refine xbald S hw 2 rfl (j := (fo + i)) (by omega) (by omega) d_Ro_add_15 ?_
      refine zVv (As := [.int (g (fo + i))]) (rest := []) S hw hl.1 vl_Ro_23 (c_Ro_one l G r a cap (n + i) (wr f n (sg g fo i)) (g (fo + i)) (by omega) hc) 0 rfl rfl rfl ⟨rfl, rfl⟩ [0, 1] [2] [1, 2, 0] rfl rfl (by decide) rfl rfl rfl d_Ro_add_16 (fun _ => wRoA G r a cap (nI (n + i + 1)) (wr (wr f n (sg g fo i)) (n + i) [b8 (g (fo + i))]) b bn g) (fun _ => rfl) (fun _ H locs hp hw => ?_)
      refine lv_iinc (v := nI (i + 1)) (lv' := [(4, .int (nI (i + 1))), (0, .ref r), (1, .ref b), (2, .int (nI fo)), (3, .int (nI k))]) hx hb d_Ro_add_19 hl (k := 0) rfl (nI_1 i) (by decide) rfl (fun ls hl => ?_)
      refine lv_goto (tgt := 3) hx hb d_Ro_add_22 (by decide) ?_
      rw [wr_sg_succ hg] at hw
      exact ih (i + 1) (by omega) _ _ _ hw (lv_sub hl [0, 1, 2, 3, 4] rfl)
  exact lp k 0 (by omega) _ _ _ (by rw [sg_zero, wr_nil]; exact hw) hl
set_option maxHeartbeats 4000000 in
set_option maxRecDepth 100000 in
/-- Row.decimal: the digits of a long, - ahead -/
theorem c_Ro_decimal (l : Launch) (G : gG) (r a cap n : Nat) (f : Nat → Int32) (v : Int64) (hn : n + 20 ≤ cap) (hc : cap ≤ 5000) : MetV (σ := Unit) l y_Ro_decimal (Cond.code y_Ro_decimal b_Ro_decimal 7 none) (rmL 1) 0 0 G [.ref r, .long v] (wRo G r a cap (nI n) f) X0 (fun _ => True) (fun _ => wRo G r a cap (nI (n + (dec v).length)) (wr f n (dec v))) := by
  refine MetV.mk2 (by decide) (Nat.le_of_ble_eq_true rfl) ?_
  intro p e s m args below meth c A ls Q S hw hX hl hnm kret
  have hx := S.1
  have hb := S.2.1
  have hl : lv_has ls 7 [(0, .ref r), (1, .long v)] := hl
  generalize hH0 : s.heap = H at hw ⊢
  generalize hL0 : ([] : List Loc) = locs at hw ⊢
  have j12 : ∀ (pre : List Int32), pre = (if v < 0 then [45] else []) → ∀ (H : Heap) (locs : List Loc) (ls : Array Slot), gW G A s (wRo G r a cap (nI (n + pre.length)) (wr f n pre)) H locs → lv_has ls 7 [(0, .ref r), (1, .long v)] → W p l e (rmL 1) s m args below meth c H locs 0 0 Q (F0 m 12 ls []) := by
    intro pre hpre H locs ls hw hl
    have hpl : pre.length ≤ 1 := by rw [hpre]; split <;> simp
    have hdl := dig_len (v := v)
    have lp2 : ∀ (k : Nat) (em : List Int32), em ++ tops 10 dg10 k (absN v) = dig v → ∀ (H : Heap) (locs : List Loc) (ls : Array Slot), gW G A s (wRo G r a cap (nI (n + (pre ++ em).length)) (wr f n (pre ++ em))) H locs → lv_has ls 7 [(3, .long (unt k)), (0, .ref r), (1, .long v)] → W p l e (rmL 1) s m args below meth c H locs 0 0 Q (F0 m 45 ls []) := by
      intro k
      induction k with
      | zero =>
        intro em he H locs ls hw hl
        have he : em = dig v := by simpa [tops] using he
        have he2 : pre ++ em = dec v := by rw [he, hpre]
        rw [he2] at hw
        refine lv_lload_n hx hb d_Ro_decimal_45 rfl (lv_at hl 0 rfl) ?_
        refine lv_lconst (v := 0) hx hb d_Ro_decimal_46 (by decide) ?_
        refine xl_le (tgt := 79) S d_Ro_decimal_47 d_Ro_decimal_48 (by decide) (fun _ => ?_) (fun q => absurd (by decide) q)
        exact kret _ _ _ _ () hw trivial d_Ro_decimal_79
      | succ k ih =>
        intro em he H locs ls hw hl
        have hel : em.length + (k + 1) ≤ 19 := by have := congrArg List.length he; rw [List.length_append, tops_len] at this; omega
        have hpe : (pre ++ em).length = pre.length + em.length := List.length_append
        refine lv_lload_n hx hb d_Ro_decimal_45 rfl (lv_at hl 0 rfl) ?_
        refine lv_lconst (v := 0) hx hb d_Ro_decimal_46 (by decide) ?_
        refine xl_le (tgt := 79) S d_Ro_decimal_47 d_Ro_decimal_48 (by decide) (fun q => absurd q (unt_pos (by omega))) (fun _ => ?_)
        refine lv_aload_n hx hb d_Ro_decimal_51 rfl (lv_at hl 1 rfl) ?_
        refine lv_ldc2 (v := 48) hx hb S.2.2.2.1 (S.2.2.2.2 _ k_130) d_Ro_decimal_52 ?_
        refine lv_lload_n hx hb d_Ro_decimal_55 rfl (lv_at hl 2 rfl) ?_
        refine lv_lload_n hx hb d_Ro_decimal_56 rfl (lv_at hl 0 rfl) ?_
        refine lv_ldiv hx hb d_Ro_decimal_57 (fun q => unt_pos (c := k) (by omega) (by rw [q]; decide)) ?_
        refine lv_ldc2 (v := 10) hx hb S.2.2.2.1 (S.2.2.2.2 _ k_129) d_Ro_decimal_58 ?_
        refine lv_lrem hx hb d_Ro_decimal_61 (by decide) ?_
        refine xabs S hl.1 k_131 (Nat.le_of_ble_eq_true rfl) (Nat.le_of_ble_eq_true rfl) ⟨(Nat.le_of_ble_eq_true rfl), (Nat.le_of_ble_eq_true rfl)⟩ d_Ro_decimal_62 ?_
        refine tpl (y := lN (absN v / 10 ^ k % 10)) (by rw [abs_lN (by rw [absN_rem10]; exact Nat.mod_lt _ (by decide)), absN_rem10]; exact congrArg (fun z => lN (z % 10)) (absN_div v (Nat.pow_pos (by decide)) (p10_lt (by omega)))) ?_
        refine lv_ladd hx hb d_Ro_decimal_65 ?_
        refine lv_l2i hx hb d_Ro_decimal_66 rfl ?_
        refine tpi (y := nI (48 + absN v / 10 ^ k % 10)) (dg_l2i _) ?_
        refine zVv (As := [.int (nI (48 + absN v / 10 ^ k % 10))]) (rest := []) S hw hl.1 vl_Ro_23 (c_Ro_one l G r a cap (n + (pre ++ em).length) (wr f n (pre ++ em)) (nI (48 + absN v / 10 ^ k % 10)) (by omega) hc) 0 rfl rfl rfl ⟨rfl, rfl⟩ [0, 1] [] [0, 1] rfl rfl (by decide) rfl rfl rfl d_Ro_decimal_67 (fun _ => wRo G r a cap (nI (n + (pre ++ em).length + 1)) (wr (wr f n (pre ++ em)) (n + (pre ++ em).length) [b8 (nI (48 + absN v / 10 ^ k % 10))])) (fun _ => rfl) (fun _ H locs hp hw => ?_)
        refine lv_lload_n hx hb d_Ro_decimal_70 rfl (lv_at hl 0 rfl) ?_
        refine lv_ldc2 (v := 10) hx hb S.2.2.2.1 (S.2.2.2.2 _ k_129) d_Ro_decimal_71 ?_
        refine lv_ldiv hx hb d_Ro_decimal_74 (by decide) ?_
        refine tpl (y := unt k) (unt_div (by omega)) ?_
        refine lv_lstore_n (lv' := [(3, .long (unt k)), (0, .ref r), (1, .long v)]) hx hb d_Ro_decimal_75 rfl hl (by decide) rfl (fun ls hl => ?_)
        refine lv_goto (tgt := 45) hx hb d_Ro_decimal_76 (by decide) ?_
        refine ih (em ++ [dg10 (absN v / 10 ^ k % 10)]) (by rw [← he, List.append_assoc]; rfl) _ _ _ ?_ (lv_sub hl [0, 1, 2] rfl)
        rw [dg10_b8 _ (Nat.mod_lt _ (by decide)), wr_app rfl, List.append_assoc] at hw
        rw [← List.append_assoc, List.length_append (as := pre ++ em), List.append_assoc]
        exact hw
    have lp1 : ∀ (d t : Nat) (w : Int64), t + d = 19 → (10 ^ t ≤ absN v ∨ t = 0) → absN w = absN v / 10 ^ (t + 1) → ∀ (H : Heap) (locs : List Loc) (ls : Array Slot), gW G A s (wRo G r a cap (nI (n + pre.length)) (wr f n pre)) H locs → lv_has ls 7 [(5, .long w), (3, .long (unt (t + 1))), (0, .ref r), (1, .long v)] → W p l e (rmL 1) s m args below meth c H locs 0 0 Q (F0 m 21 ls []) := by
      intro d
      induction d with
      | zero =>
        intro t w ht h1
        have := absN_le v
        have ht : t = 19 := by omega
        subst ht
        omega
      | succ d ih =>
        intro t w ht h1 h2 H locs ls hw hl
        refine lv_lload hx hb d_Ro_decimal_21 (lv_at hl 0 rfl) ?_
        refine lv_lconst (v := 0) hx hb d_Ro_decimal_23 (by decide) ?_
        refine xl_eq (tgt := 45) S d_Ro_decimal_24 d_Ro_decimal_25 (by decide) (fun c_24 => ?_) (fun c_24 => ?_)
        · have h3 : absN v < 10 ^ (t + 1) := by
            have h4 := absN_zero.mp c_24
            rw [h2] at h4
            exact (Nat.div_eq_zero_iff_lt (Nat.pow_pos (by decide))).mp h4
          exact lp2 (t + 1) [] (by rw [List.nil_append]; exact (nd_tops (by decide) t 20 _ (by omega) h1 h3).symm) _ _ _ (by rw [List.append_nil]; exact hw) (lv_sub hl [1, 2, 3] rfl)
        · have h3 : 10 ^ (t + 1) ≤ absN v := by
            apply Nat.le_of_not_lt
            intro h4
            exact c_24 (absN_zero.mpr (by rw [h2]; exact Nat.div_eq_of_lt h4))
          refine lv_lload_n hx hb d_Ro_decimal_28 rfl (lv_at hl 1 rfl) ?_
          refine lv_ldc2 (v := 10) hx hb S.2.2.2.1 (S.2.2.2.2 _ k_129) d_Ro_decimal_29 ?_
          refine lv_lmul hx hb d_Ro_decimal_32 ?_
          refine tpl (y := unt (t + 2)) (by show lN (10 ^ t) * lN 10 = lN (10 ^ (t + 1)); rw [lN_mul, Nat.pow_succ]) ?_
          refine lv_lstore_n (lv' := [(3, .long (unt (t + 2))), (5, .long w), (0, .ref r), (1, .long v)]) hx hb d_Ro_decimal_33 rfl hl (by decide) rfl (fun ls hl => ?_)
          refine lv_lload hx hb d_Ro_decimal_34 (lv_at hl 1 rfl) ?_
          refine lv_ldc2 (v := 10) hx hb S.2.2.2.1 (S.2.2.2.2 _ k_129) d_Ro_decimal_36 ?_
          refine lv_ldiv hx hb d_Ro_decimal_39 (by decide) ?_
          refine lv_lstore (lv' := [(5, .long (w / 10)), (3, .long (unt (t + 2))), (0, .ref r), (1, .long v)]) hx hb d_Ro_decimal_40 hl (by decide) rfl (fun ls hl => ?_)
          refine lv_goto (tgt := 21) hx hb d_Ro_decimal_42 (by decide) ?_
          exact ih (t + 1) _ (by omega) (Or.inl h3) (by rw [show w / 10 = w / lN 10 from rfl, absN_div w (by decide) (by decide), h2, Nat.div_div_eq_div_mul, ← Nat.pow_succ]) _ _ _ hw (lv_sub hl [0, 1, 2, 3] rfl)
    refine lv_lconst (v := 1) hx hb d_Ro_decimal_12 (by decide) ?_
    refine lv_lstore_n (lv' := [(3, .long 1), (0, .ref r), (1, .long v)]) hx hb d_Ro_decimal_13 rfl hl (by decide) rfl (fun ls hl => ?_)
    refine lv_lload_n hx hb d_Ro_decimal_14 rfl (lv_at hl 2 rfl) ?_
    refine lv_ldc2 (v := 10) hx hb S.2.2.2.1 (S.2.2.2.2 _ k_129) d_Ro_decimal_15 ?_
    refine lv_ldiv hx hb d_Ro_decimal_18 (by decide) ?_
    refine lv_lstore (lv' := [(5, .long (v / 10)), (3, .long 1), (0, .ref r), (1, .long v)]) hx hb d_Ro_decimal_19 hl (by decide) rfl (fun ls hl => ?_)
    exact lp1 19 0 _ (by omega) (Or.inr rfl) (absN_div v (by decide) (by decide)) _ _ _ hw hl
  refine lv_lload_n hx hb d_Ro_decimal_0 rfl (lv_at hl 1 rfl) ?_
  refine lv_lconst (v := 0) hx hb d_Ro_decimal_1 (by decide) ?_
  refine xl_ge (tgt := 12) S d_Ro_decimal_2 d_Ro_decimal_3 (by decide) (fun c_2 => ?_) (fun c_2 => ?_)
  · exact j12 [] (by rw [if_neg (Int64.not_lt.mpr c_2)]) _ _ _ (by rw [wr_nil]; exact hw) hl
  · refine lv_aload_n hx hb d_Ro_decimal_6 rfl (lv_at hl 0 rfl) ?_
    refine lv_bipush (v := 45) hx hb d_Ro_decimal_7 (by decide) ?_
    refine zVv (As := [.int 45]) (rest := []) S hw hl.1 vl_Ro_23 (c_Ro_one l G r a cap n f 45 (by omega) hc) 0 rfl rfl rfl ⟨rfl, rfl⟩ [0, 1] [] [0, 1] rfl rfl (by decide) rfl rfl rfl d_Ro_decimal_9 (fun _ => wRo G r a cap (nI (n + 1)) (wr f n [b8 45])) (fun _ => rfl) (fun _ H locs hp hw => ?_)
    exact j12 [45] (by rw [if_pos (Int64.not_le.mp c_2)]) _ _ _ hw hl
end
section
/-! ===== plain words for Formats ===== -/
theorem uL_sk (x : Int64) {k : Nat} (hk : k < 64) : uL (x.toUInt64 >>> ((nI k).toInt64.toUInt64 &&& Int64.toUInt64 63)).toInt64 = uL x / 2 ^ k := by
  have h : ((nI k).toInt64.toUInt64 &&& Int64.toUInt64 63).toNat % 64 = k := by
    rw [nI_l (by omega), UInt64.toNat_and]
    have e : (lN k).toUInt64.toNat = k % 2 ^ 64 := rfl
    have e2 : (Int64.toUInt64 63).toNat = 2 ^ 6 - 1 := by decide
    rw [e, e2, Nat.and_two_pow_sub_one_eq_mod]
    omega
  show (x.toUInt64 >>> ((nI k).toInt64.toUInt64 &&& Int64.toUInt64 63)).toNat = _
  rw [UInt64.toNat_shiftRight, Nat.shiftRight_eq_div_pow, h]
  rfl
theorem uL_lt (x : Int64) : uL x < 2 ^ 64 := x.toBitVec.isLt
theorem l2i_tn (x : Int64) : x.toInt32.toBitVec.toNat = uL x % 2 ^ 32 := by
  rw [Int64.toBitVec_toInt32, BitVec.signExtend_eq_setWidth_of_le _ (by decide), BitVec.toNat_setWidth]
  rfl
theorem bits_x (v : Int64) {bb t : Nat} (hbb : bb = 3 ∨ bb = 4) (ht : bb * t < 64) : ((v.toUInt64 >>> ((nI (bb * t) : Int32).toInt64.toUInt64 &&& Int64.toUInt64 63)).toInt64 : Int64).toInt32 &&& ((1 <<< (nI bb &&& 31)) - 1) = nI (uL v / (2 ^ bb) ^ t % 2 ^ bb) := by
  have key : ∀ (b : Nat) (mk : Int32), mk.toBitVec.toNat = 2 ^ b - 1 → b ≤ 32 → b * t < 64 → ((v.toUInt64 >>> ((nI (b * t) : Int32).toInt64.toUInt64 &&& Int64.toUInt64 63)).toInt64 : Int64).toInt32 &&& mk = nI (uL v / (2 ^ b) ^ t % 2 ^ b) := by
    intro b mk hm hb ht
    rw [pk_and _ b hm, l2i_tn, uL_sk v ht, ← Nat.pow_mul, Nat.mod_mod_of_dvd _ (Nat.pow_dvd_pow 2 hb)]
  rcases hbb with rfl | rfl
  · exact key 3 _ (by decide) (by decide) ht
  · exact key 4 _ (by decide) (by decide) ht
def sI (bb t : Nat) : Int32 := nI (bb * t) - nI bb
theorem sI_succ (bb t : Nat) : sI bb (t + 1) = nI (bb * t) := by
  unfold sI
  rw [pk_sub (by rw [Nat.mul_succ]; omega)]
  congr 1
  rw [Nat.mul_succ]; omega
theorem sI_neg {bb : Nat} (hbb : bb = 3 ∨ bb = 4) : sI bb 0 < 0 := by
  rcases hbb with rfl | rfl <;> decide
def bInv (b : Nat) (dg : Nat → Int32) (K : Nat) (beg : Bool) (em : List Int32) (t : Nat) : Prop :=
  (beg = true ∧ em ++ tops b dg t K = nd b dg 22 K) ∨ (beg = false ∧ em = [] ∧ K < b ^ t ∧ 0 < t)
theorem bInv_step {b : Nat} {dg : Nat → Int32} {K t : Nat} {beg b' : Bool} {em : List Int32} (hb : 2 ≤ b) (ht : t < 22) (h : bInv b dg K beg em (t + 1)) (hb' : b' = (beg || decide (K / b ^ t % b ≠ 0) || decide (t = 0))) : bInv b dg K b' (if b' then em ++ [dg (K / b ^ t % b)] else em) t := by
  rcases h with ⟨h1, h2⟩ | ⟨h1, h2, h3, -⟩
  · subst h1
    have e : b' = true := by rw [hb']; rfl
    subst e
    refine Or.inl ⟨rfl, ?_⟩
    rw [if_pos rfl, List.append_assoc]
    exact h2
  · subst h1; subst h2
    have hx : K / b ^ t % b = K / b ^ t := Nat.mod_eq_of_lt (by rw [Nat.div_lt_iff_lt_mul (Nat.pow_pos (by omega)), Nat.mul_comm, ← Nat.pow_succ]; exact h3)
    by_cases hz : K / b ^ t % b ≠ 0 ∨ t = 0
    · have e : b' = true := by
        rw [hb']
        rcases hz with hz | hz <;> simp [hz]
      subst e
      refine Or.inl ⟨rfl, ?_⟩
      rw [if_pos rfl, List.nil_append]
      refine (nd_tops hb t 22 K ht ?_ h3).symm
      rcases hz with hz | hz
      · left
        rw [hx] at hz
        apply Nat.le_of_not_lt
        intro hq
        exact hz (Nat.div_eq_of_lt hq)
      · exact Or.inr hz
    · have hz1 : K / b ^ t % b = 0 := by
        apply Classical.byContradiction
        intro q
        exact hz (Or.inl q)
      have hz2 : t ≠ 0 := fun q => hz (Or.inr q)
      have e : b' = false := by rw [hb']; simp [hz1, hz2]
      subst e
      refine Or.inr ⟨rfl, by simp, ?_, by omega⟩
      rw [hx] at hz1
      exact (Nat.div_eq_zero_iff_lt (Nat.pow_pos (by omega))).mp hz1
theorem bInv_len {b : Nat} {dg : Nat → Int32} {K t : Nat} {beg : Bool} {em : List Int32} (h : bInv b dg K beg em t) : em.length ≤ 22 := by
  rcases h with ⟨-, h2⟩ | ⟨-, h2, -⟩
  · have h3 := congrArg List.length h2
    have h4 := nd_len (b := b) (dg := dg) 22 K
    rw [List.length_append] at h3
    omega
  · rw [h2]; simp
theorem bInv_end {b : Nat} {dg : Nat → Int32} {K : Nat} {beg : Bool} {em : List Int32} (h : bInv b dg K beg em 0) : em = nd b dg 22 K := by
  rcases h with ⟨-, h2⟩ | ⟨-, -, -, h2⟩
  · simpa [tops] using h2
  · cases h2
theorem dgx_b8 {L : Nat} (hL : L = 65 ∨ L = 97) : ∀ d, d < 16 → b8 (dgx L d) = dgx L d := by
  rcases hL with rfl | rfl <;> decide
theorem max_sub {w k : Nat} (hw : w < 2 ^ 30) (hk : k < 2 ^ 30) : (if (0 : Int32) < nI w - nI k then nI w - nI k else 0) = nI (w - k) := by
  by_cases h : k < w
  · rw [pk_sub (Nat.le_of_lt h)]
    exact if_pos (show nI 0 < nI (w - k) from nI_lt (by omega) (by omega))
  · by_cases h2 : w = k
    · subst h2
      rw [pk_sub (Nat.le_refl _), Nat.sub_self]
      rfl
    · have h3 := pk_sneg (a := w) (b := k) hk (by omega)
      rw [if_neg (fun q => by rw [Int32.lt_iff_toInt_lt] at q h3; omega), show w - k = 0 by omega]
      rfl
theorem sg_add {f : Nat → Int32} {p a b : Nat} : sg f p (a + b) = sg f p a ++ sg f (p + a) b := by
  induction b with
  | zero => simp [sg_zero]
  | succ b ih => rw [← Nat.add_assoc, sg_succ, ih, sg_succ, List.append_assoc, Nat.add_assoc]
theorem fld_asm {f : Nat → Int32} {sgl body : List Int32} {w fi : Nat} {left z : Bool} (hf : sg f 0 (sgl.length + body.length) = sgl ++ body) (hfi : fi = if z then sgl.length else 0) :
    (if left || z then [] else pad w (sgl.length + body.length) 32) ++ sg f 0 fi ++ (if z then pad w (sgl.length + body.length) 48 else []) ++ sg f fi (sgl.length + body.length - fi) ++ (if left then pad w (sgl.length + body.length) 32 else []) = fldS sgl body w left z := by
  unfold fldS
  cases z with
  | false =>
    have e : fi = 0 := hfi
    subst e
    rw [sg_zero, Nat.sub_zero, hf]
    simp
  | true =>
    have e : fi = sgl.length := hfi
    subst e
    rw [sg_add] at hf
    have h1 := List.append_inj hf (by rw [sg_len])
    rw [Nat.add_sub_cancel_left, h1.1]
    have h2 := h1.2
    rw [Nat.zero_add] at h2
    rw [h2]
theorem fldS_len {sgl body : List Int32} {w : Nat} {left z : Bool} (h : z = true → left = false) : (fldS sgl body w left z).length = max w (sgl.length + body.length) := by
  unfold fldS pad
  cases z
  · cases left <;> simp <;> omega
  · rw [h rfl]
    simp
    omega
theorem rep_snoc (n : Nat) (c : Int32) : List.replicate (n + 1) c = List.replicate n c ++ [c] := by
  rw [List.replicate_succ']
end
section
set_option maxHeartbeats 4000000 in
set_option maxRecDepth 100000 in
/-- Formats.digits -/
theorem c_Fo_digits (l : Launch) (G : gG) (h r a : Nat) (sn : Int32) (f : Nat → Int32) (d : Int32) (v : Int64) (plus blank : Bool) : MetV (σ := Unit) l y_Fo_digits (Cond.code y_Fo_digits b_Fo_digits 10 none) (rmL 2) 0 0 G [.ref h, .int d, .long v, .int (bI plus), .int (bI blank)] (wFo G h r a sn (nI 0) f) X0 (fun _ => True) (fun _ => wFo G h r a (nI (sgnL d v plus blank).length) (nI (sgnL d v plus blank ++ bdy d v).length) (wr f 0 (sgnL d v plus blank ++ bdy d v))) := by
  refine MetV.mk2 (by decide) (Nat.le_of_ble_eq_true rfl) ?_
  intro p e s m args below meth c A ls Q S hw hX hl hnm kret
  have hx := S.1
  have hb := S.2.1
  have hl : lv_has ls 10 [(0, .ref h), (1, .int d), (2, .long v), (4, .int (bI plus)), (5, .int (bI blank))] := hl
  generalize hH0 : s.heap = H at hw ⊢
  generalize hL0 : ([] : List Loc) = locs at hw ⊢
  refine lv_aload_n hx hb d_Fo_digits_0 rfl (lv_at hl 0 rfl) ?_
  refine lv_iconst (v := 0) hx hb d_Fo_digits_1 (by decide) ?_
  refine xput S hw fl_Fo_20 0 rfl rfl rfl (Nat.le_of_ble_eq_true rfl) (ws' := wFo G h r a 0 (nI 0) f) rfl d_Fo_digits_2 (fun H locs hw => ?_)
  refine lv_iload_n hx hb d_Fo_digits_5 rfl (lv_at hl 1 rfl) ?_
  refine lv_bipush (v := 99) hx hb d_Fo_digits_6 (by decide) ?_
  refine lv_icmp_ne (tgt := 23) hx hb d_Fo_digits_8 (by decide) (fun c99 => ?_) (fun c99 => ?_)
  · refine lv_iload_n hx hb d_Fo_digits_23 rfl (lv_at hl 1 rfl) ?_
    refine lv_bipush (v := 100) hx hb d_Fo_digits_24 (by decide) ?_
    refine lv_icmp_ne (tgt := 100) hx hb d_Fo_digits_26 (by decide) (fun c100 => ?_) (fun c100 => ?_)
    · have hsg : sgnL d v plus blank = [] := by unfold sgnL; rw [if_neg c100]
      have hbd : bdy d v = nd (if d = 111 then 8 else 16) (dgx (if d = 88 then 65 else 97)) 22 (uL v) := by unfold bdy; rw [if_neg c100, if_neg c99]
      rw [hsg, hbd] at kret
      have lp : ∀ (bb : Nat), (bb = 3 ∨ bb = 4) → 2 ^ bb = (if d = 111 then 8 else 16) → ∀ (t : Nat) (beg : Bool) (em : List Int32), bb * t < 67 → t ≤ 22 → bInv (2 ^ bb) (dgx (if d = 88 then 65 else 97)) (uL v) beg em t → ∀ (H : Heap) (locs : List Loc) (ls : Array Slot), gW G A s (wFo G h r a 0 (nI em.length) (wr f 0 em)) H locs → lv_has ls 10 [(8, .int (sI bb t)), (7, .int (bI beg)), (6, .int (nI bb)), (0, .ref h), (1, .int d), (2, .long v), (4, .int (bI plus)), (5, .int (bI blank))] → W p l e (rmL 2) s m args below meth c H locs 0 0 Q (F0 m 131 ls []) := by
        intro bb hbb hbase t
        induction t with
        | zero =>
          intro beg em ht ht2 hi H locs ls hw hl
          refine lv_iload hx hb d_Fo_digits_131 (lv_at hl 0 rfl) ?_
          refine lv_if_lt (tgt := 228) hx hb d_Fo_digits_133 (by decide) (fun _ => ?_) (fun q => absurd (sI_neg hbb) q)
          have he := bInv_end hi
          rw [hbase] at he
          rw [he] at hw
          exact kret _ _ _ _ () hw trivial d_Fo_digits_228
        | succ t ih =>
          intro beg em ht ht2 hi H locs ls hw hl
          have hbt : bb * t < 64 := by rw [Nat.mul_succ] at ht; omega
          rw [sI_succ] at hl
          have hel := bInv_len hi
          obtain ⟨x, hxx⟩ : ∃ x, x = uL v / (2 ^ bb) ^ t % 2 ^ bb := ⟨_, rfl⟩
          have hx16 : x < 16 := by rw [hxx]; refine Nat.lt_of_lt_of_le (Nat.mod_lt _ (Nat.pow_pos (by decide))) ?_; rcases hbb with rfl | rfl <;> decide
          refine lv_iload hx hb d_Fo_digits_131 (lv_at hl 0 rfl) ?_
          refine lv_if_lt (tgt := 228) hx hb d_Fo_digits_133 (by decide) (fun q => absurd q (nI_pos (by omega))) (fun _ => ?_)
          refine lv_lload_n hx hb d_Fo_digits_136 rfl (lv_at hl 5 rfl) ?_
          refine lv_iload hx hb d_Fo_digits_137 (lv_at hl 0 rfl) ?_
          refine lv_lushr hx hb d_Fo_digits_139 rfl ?_
          refine lv_l2i hx hb d_Fo_digits_140 rfl ?_
          refine lv_iconst (v := 1) hx hb d_Fo_digits_141 (by decide) ?_
          refine lv_iload hx hb d_Fo_digits_142 (lv_at hl 2 rfl) ?_
          refine lv_ishl hx hb d_Fo_digits_144 ?_
          refine lv_iconst (v := 1) hx hb d_Fo_digits_145 (by decide) ?_
          refine lv_isub hx hb d_Fo_digits_146 ?_
          refine lv_iand hx hb d_Fo_digits_147 ?_
          refine tpi (y := nI x) (by rw [hxx]; exact bits_x v hbb hbt) ?_
          refine lv_istore (lv' := [(9, .int (nI x)), (8, .int (nI (bb * t))), (7, .int (bI beg)), (6, .int (nI bb)), (0, .ref h), (1, .int d), (2, .long v), (4, .int (bI plus)), (5, .int (bI blank))]) hx hb d_Fo_digits_148 hl (by decide) rfl (fun ls hl => ?_)
          have j218 : ∀ (b' : Bool) (em2 : List Int32), bInv (2 ^ bb) (dgx (if d = 88 then 65 else 97)) (uL v) b' em2 t → ∀ (H : Heap) (locs : List Loc) (ls : Array Slot), gW G A s (wFo G h r a 0 (nI em2.length) (wr f 0 em2)) H locs → lv_has ls 10 [(7, .int (bI b')), (9, .int (nI x)), (8, .int (nI (bb * t))), (6, .int (nI bb)), (0, .ref h), (1, .int d), (2, .long v), (4, .int (bI plus)), (5, .int (bI blank))] → W p l e (rmL 2) s m args below meth c H locs 0 0 Q (F0 m 218 ls []) := by
            intro b' em2 hi2 H locs ls hw hl
            refine lv_iload hx hb d_Fo_digits_218 (lv_at hl 2 rfl) ?_
            refine lv_iload hx hb d_Fo_digits_220 (lv_at hl 3 rfl) ?_
            refine lv_isub hx hb d_Fo_digits_222 ?_
            refine tpi (y := sI bb t) rfl ?_
            refine lv_istore (lv' := [(8, .int (sI bb t)), (7, .int (bI b')), (9, .int (nI x)), (6, .int (nI bb)), (0, .ref h), (1, .int d), (2, .long v), (4, .int (bI plus)), (5, .int (bI blank))]) hx hb d_Fo_digits_223 hl (by decide) rfl (fun ls hl => ?_)
            refine lv_goto (tgt := 131) hx hb d_Fo_digits_225 (by decide) ?_
            exact ih b' em2 (by omega) (by omega) hi2 _ _ _ hw (lv_sub hl [0, 1, 3, 4, 5, 6, 7, 8] rfl)
          have j170 : ∀ (b' : Bool), b' = (beg || decide (x ≠ 0) || decide (t = 0)) → ∀ (H : Heap) (locs : List Loc) (ls : Array Slot), gW G A s (wFo G h r a 0 (nI em.length) (wr f 0 em)) H locs → lv_has ls 10 [(9, .int (nI x)), (8, .int (nI (bb * t))), (7, .int (bI beg)), (6, .int (nI bb)), (0, .ref h), (1, .int d), (2, .long v), (4, .int (bI plus)), (5, .int (bI blank))] → W p l e (rmL 2) s m args below meth c H locs 0 0 Q (F0 m 170 ls [.int (bI b')]) := by
            intro b' hb' H locs ls hw hl
            have hst := bInv_step (by rcases hbb with rfl | rfl <;> decide) (by omega) hi (b' := b') (by rw [hb', hxx])
            rw [← hxx] at hst
            refine lv_istore (lv' := [(7, .int (bI b')), (9, .int (nI x)), (8, .int (nI (bb * t))), (6, .int (nI bb)), (0, .ref h), (1, .int d), (2, .long v), (4, .int (bI plus)), (5, .int (bI blank))]) hx hb d_Fo_digits_170 hl (by decide) rfl (fun ls hl => ?_)
            refine lv_iload hx hb d_Fo_digits_172 (lv_at hl 0 rfl) ?_
            refine lv_if_eq (tgt := 218) hx hb d_Fo_digits_174 (by decide) (fun cb => ?_) (fun cb => ?_)
            · have cb : b' = false := bI_z cb
              rw [cb] at hst
              exact j218 _ em (by rw [cb]; exact hst) _ _ _ hw (lv_sub hl [0, 1, 2, 3, 4, 5, 6, 7, 8] rfl)
            · have cb : b' = true := bI_t cb
              rw [cb] at hst
              refine lv_aload_n hx hb d_Fo_digits_177 rfl (lv_at hl 4 rfl) ?_
              refine xget S hw fl_Fo_14 0 rfl rfl d_Fo_digits_178 ?_
              have j215 : ∀ (cc : Int32), cc = dgx (if d = 88 then 65 else 97) x → ∀ (H : Heap) (locs : List Loc) (ls : Array Slot), gW G A s (wFo G h r a 0 (nI em.length) (wr f 0 em)) H locs → lv_has ls 10 [(7, .int (bI b')), (9, .int (nI x)), (8, .int (nI (bb * t))), (6, .int (nI bb)), (0, .ref h), (1, .int d), (2, .long v), (4, .int (bI plus)), (5, .int (bI blank))] → W p l e (rmL 2) s m args below meth c H locs 0 0 Q (F0 m 215 ls [.int cc, .ref r]) := by
                intro cc hcc H locs ls hw hl
                refine zVv (As := [.int cc]) (rest := []) S hw hl.1 vl_Fo_24 (c_Ro_one l G r a 2048 em.length (wr f 0 em) cc (by omega) (by decide)) 1 rfl rfl rfl ⟨rfl, rfl⟩ [1, 2] [0] [0, 1, 2] rfl rfl (by decide) rfl rfl rfl d_Fo_digits_215 (fun _ => wFo G h r a 0 (nI (em.length + 1)) (wr (wr f 0 em) em.length [b8 cc])) (fun _ => rfl) (fun _ H locs hp hw => ?_)
                rw [wr_app (Nat.zero_add _).symm, hcc, dgx_b8 (by split <;> simp) x hx16] at hw
                exact j218 _ (em ++ [dgx (if d = 88 then 65 else 97) x]) (by rw [cb]; exact hst) _ _ _ (by rw [List.length_append]; exact hw) (lv_sub hl [0, 1, 2, 3, 4, 5, 6, 7, 8] rfl)
              refine lv_iload hx hb d_Fo_digits_181 (lv_at hl 1 rfl) ?_
              refine lv_bipush (v := 10) hx hb d_Fo_digits_183 (by decide) ?_
              refine lv_icmp_ge (tgt := 196) hx hb d_Fo_digits_185 (by decide) (fun c10 => ?_) (fun c10 => ?_)
              · have c10 : 10 ≤ x := (nI_leI (a := 10) (b := x) (by omega) (by omega)).mp c10
                refine lv_iload_n hx hb d_Fo_digits_196 rfl (lv_at hl 5 rfl) ?_
                refine lv_bipush (v := 88) hx hb d_Fo_digits_197 (by decide) ?_
                refine lv_icmp_ne (tgt := 207) hx hb d_Fo_digits_199 (by decide) (fun c88 => ?_) (fun c88 => ?_)
                · refine lv_bipush (v := 97) hx hb d_Fo_digits_207 (by decide) ?_
                  refine lv_iload hx hb d_Fo_digits_209 (lv_at hl 1 rfl) ?_
                  refine lv_iadd hx hb d_Fo_digits_211 ?_
                  refine tpi (y := nI (97 + x)) (nI_add 97 x) ?_
                  refine lv_bipush (v := 10) hx hb d_Fo_digits_212 (by decide) ?_
                  refine lv_isub hx hb d_Fo_digits_214 ?_
                  refine tpi (y := nI (97 + x - 10)) (pk_sub (a := 97 + x) (b := 10) (by omega)) ?_
                  exact j215 _ (by rw [if_neg c88]; unfold dgx; rw [if_neg (by omega)]) _ _ _ hw hl
                · refine lv_bipush (v := 65) hx hb d_Fo_digits_202 (by decide) ?_
                  refine lv_goto (tgt := 209) hx hb d_Fo_digits_204 (by decide) ?_
                  refine lv_iload hx hb d_Fo_digits_209 (lv_at hl 1 rfl) ?_
                  refine lv_iadd hx hb d_Fo_digits_211 ?_
                  refine tpi (y := nI (65 + x)) (nI_add 65 x) ?_
                  refine lv_bipush (v := 10) hx hb d_Fo_digits_212 (by decide) ?_
                  refine lv_isub hx hb d_Fo_digits_214 ?_
                  refine tpi (y := nI (65 + x - 10)) (pk_sub (a := 65 + x) (b := 10) (by omega)) ?_
                  exact j215 _ (by rw [if_pos c88]; unfold dgx; rw [if_neg (by omega)]) _ _ _ hw hl
              · have c10 : ¬ 10 ≤ x := fun q => c10 ((nI_leI (a := 10) (b := x) (by omega) (by omega)).mpr q)
                refine lv_bipush (v := 48) hx hb d_Fo_digits_188 (by decide) ?_
                refine lv_iload hx hb d_Fo_digits_190 (lv_at hl 1 rfl) ?_
                refine lv_iadd hx hb d_Fo_digits_192 ?_
                refine tpi (y := nI (48 + x)) (nI_add 48 x) ?_
                refine lv_goto (tgt := 215) hx hb d_Fo_digits_193 (by decide) ?_
                exact j215 _ (by unfold dgx; rw [if_pos (by omega)]) _ _ _ hw hl
          refine lv_iload hx hb d_Fo_digits_150 (lv_at hl 2 rfl) ?_
          refine lv_if_ne (tgt := 165) hx hb d_Fo_digits_152 (by decide) (fun cg => ?_) (fun cg => ?_)
          · have cg : beg = true := bI_t cg
            refine lv_iconst (v := 1) hx hb d_Fo_digits_165 (by decide) ?_
            refine lv_goto (tgt := 170) hx hb d_Fo_digits_166 (by decide) ?_
            exact j170 true (by rw [cg]; rfl) _ _ _ hw hl
          · have cg : beg = false := bI_z cg
            refine lv_iload hx hb d_Fo_digits_155 (lv_at hl 0 rfl) ?_
            refine lv_if_ne (tgt := 165) hx hb d_Fo_digits_157 (by decide) (fun cx => ?_) (fun cx => ?_)
            · have cx : x ≠ 0 := fun q => cx (by rw [q]; rfl)
              refine lv_iconst (v := 1) hx hb d_Fo_digits_165 (by decide) ?_
              refine lv_goto (tgt := 170) hx hb d_Fo_digits_166 (by decide) ?_
              exact j170 true (by rw [decide_eq_true cx]; simp) _ _ _ hw hl
            · have cx : x = 0 := (nI_eq (a := x) (b := 0) (by omega) (by omega)).mp cx
              refine lv_iload hx hb d_Fo_digits_160 (lv_at hl 1 rfl) ?_
              refine lv_if_ne (tgt := 169) hx hb d_Fo_digits_162 (by decide) (fun cs => ?_) (fun cs => ?_)
              · have ct : t ≠ 0 := fun q => cs (by rw [q]; rfl)
                refine lv_iconst (v := 0) hx hb d_Fo_digits_169 (by decide) ?_
                exact j170 false (by rw [cg, cx]; simp [ct]) _ _ _ hw hl
              · have ct : bb * t = 0 := (nI_eq (a := bb * t) (b := 0) (by omega) (by omega)).mp cs
                have ct : t = 0 := by rcases hbb with rfl | rfl <;> omega
                refine lv_iconst (v := 1) hx hb d_Fo_digits_165 (by decide) ?_
                refine lv_goto (tgt := 170) hx hb d_Fo_digits_166 (by decide) ?_
                exact j170 true (by rw [ct]; simp) _ _ _ hw hl
      refine lv_iload_n hx hb d_Fo_digits_100 rfl (lv_at hl 1 rfl) ?_
      refine lv_bipush (v := 111) hx hb d_Fo_digits_101 (by decide) ?_
      refine lv_icmp_ne (tgt := 110) hx hb d_Fo_digits_103 (by decide) (fun c111 => ?_) (fun c111 => ?_)
      · refine lv_iconst (v := 4) hx hb d_Fo_digits_110 (by decide) ?_
        refine lv_istore (lv' := [(6, .int 4), (0, .ref h), (1, .int d), (2, .long v), (4, .int (bI plus)), (5, .int (bI blank))]) hx hb d_Fo_digits_111 hl (by decide) rfl (fun ls hl => ?_)
        refine lv_iconst (v := 0) hx hb d_Fo_digits_113 (by decide) ?_
        refine lv_istore (lv' := [(7, .int 0), (6, .int 4), (0, .ref h), (1, .int d), (2, .long v), (4, .int (bI plus)), (5, .int (bI blank))]) hx hb d_Fo_digits_114 hl (by decide) rfl (fun ls hl => ?_)
        refine lv_iload_n hx hb d_Fo_digits_116 rfl (lv_at hl 3 rfl) ?_
        refine lv_bipush (v := 111) hx hb d_Fo_digits_117 (by decide) ?_
        refine lv_icmp_ne (tgt := 127) hx hb d_Fo_digits_119 (by decide) (fun _ => ?_) (fun q => absurd q c111)
        refine lv_bipush (v := 60) hx hb d_Fo_digits_127 (by decide) ?_
        refine lv_istore (lv' := [(8, .int 60), (7, .int 0), (6, .int 4), (0, .ref h), (1, .int d), (2, .long v), (4, .int (bI plus)), (5, .int (bI blank))]) hx hb d_Fo_digits_129 hl (by decide) rfl (fun ls hl => ?_)
        exact lp 4 (by decide) (by rw [if_neg c111]) 16 false [] (by decide) (by decide) (Or.inr ⟨rfl, rfl, Nat.lt_of_lt_of_le (uL_lt v) (by decide), by decide⟩) _ _ _ (by rw [wr_nil]; exact hw) (lv_sub hl [0, 1, 2, 3, 4, 5, 6, 7] rfl)
      · refine lv_iconst (v := 3) hx hb d_Fo_digits_106 (by decide) ?_
        refine lv_goto (tgt := 111) hx hb d_Fo_digits_107 (by decide) ?_
        refine lv_istore (lv' := [(6, .int 3), (0, .ref h), (1, .int d), (2, .long v), (4, .int (bI plus)), (5, .int (bI blank))]) hx hb d_Fo_digits_111 hl (by decide) rfl (fun ls hl => ?_)
        refine lv_iconst (v := 0) hx hb d_Fo_digits_113 (by decide) ?_
        refine lv_istore (lv' := [(7, .int 0), (6, .int 3), (0, .ref h), (1, .int d), (2, .long v), (4, .int (bI plus)), (5, .int (bI blank))]) hx hb d_Fo_digits_114 hl (by decide) rfl (fun ls hl => ?_)
        refine lv_iload_n hx hb d_Fo_digits_116 rfl (lv_at hl 3 rfl) ?_
        refine lv_bipush (v := 111) hx hb d_Fo_digits_117 (by decide) ?_
        refine lv_icmp_ne (tgt := 127) hx hb d_Fo_digits_119 (by decide) (fun q => absurd c111 q) (fun _ => ?_)
        refine lv_bipush (v := 63) hx hb d_Fo_digits_122 (by decide) ?_
        refine lv_goto (tgt := 129) hx hb d_Fo_digits_124 (by decide) ?_
        refine lv_istore (lv' := [(8, .int 63), (7, .int 0), (6, .int 3), (0, .ref h), (1, .int d), (2, .long v), (4, .int (bI plus)), (5, .int (bI blank))]) hx hb d_Fo_digits_129 hl (by decide) rfl (fun ls hl => ?_)
        exact lp 3 (by decide) (by rw [if_pos c111]) 22 false [] (by decide) (by decide) (Or.inr ⟨rfl, rfl, Nat.lt_of_lt_of_le (uL_lt v) (by decide), by decide⟩) _ _ _ (by rw [wr_nil]; exact hw) (lv_sub hl [0, 1, 2, 3, 4, 5, 6, 7] rfl)
    · subst c100
      have hsg : sgnL 100 v plus blank = (if v < 0 then [45] else if plus then [43] else if blank then [32] else []) := rfl
      have hbd : bdy 100 v = dig v := rfl
      rw [hbd] at kret
      have j64 : ∀ (pre : List Int32), pre = (if v < 0 then [] else if plus then [43] else if blank then [32] else []) → ∀ (H : Heap) (locs : List Loc) (ls : Array Slot), gW G A s (wFo G h r a 0 (nI pre.length) (wr f 0 pre)) H locs → lv_has ls 10 [(0, .ref h), (1, .int 100), (2, .long v), (4, .int (bI plus)), (5, .int (bI blank))] → W p l e (rmL 2) s m args below meth c H locs 0 0 Q (F0 m 64 ls []) := by
        intro pre hpre H locs ls hw hl
        have hpl : pre.length ≤ 1 := by rw [hpre]; (repeat' split) <;> simp
        have hall : pre ++ dec v = sgnL 100 v plus blank ++ dig v := by
          rw [hsg, hpre]
          by_cases hv : v < 0
          · simp [dec, hv]
          · simp [dec, hv]
        refine lv_aload_n hx hb d_Fo_digits_64 rfl (lv_at hl 0 rfl) ?_
        refine xget S hw fl_Fo_14 0 rfl rfl d_Fo_digits_65 ?_
        refine lv_lload_n hx hb d_Fo_digits_68 rfl (lv_at hl 2 rfl) ?_
        refine zVv (As := [.long v]) (rest := []) S hw hl.1 vl_Fo_27 (c_Ro_decimal l G r a 2048 pre.length (wr f 0 pre) v (by omega) (by decide)) 1 rfl rfl rfl ⟨rfl, rfl⟩ [1, 2] [0] [0, 1, 2] rfl rfl (by decide) rfl rfl rfl d_Fo_digits_69 (fun _ => wFo G h r a 0 (nI (pre.length + (dec v).length)) (wr (wr f 0 pre) pre.length (dec v))) (fun _ => rfl) (fun _ H locs hp hw => ?_)
        rw [wr_app (Nat.zero_add _).symm, ← List.length_append, hall] at hw
        have j94 : ∀ (sv : Int32), sv = nI (sgnL 100 v plus blank).length → ∀ (H : Heap) (locs : List Loc) (ls : Array Slot), gW G A s (wFo G h r a 0 (nI (sgnL 100 v plus blank ++ dig v).length) (wr f 0 (sgnL 100 v plus blank ++ dig v))) H locs → lv_has ls 10 [(0, .ref h), (1, .int 100), (2, .long v), (4, .int (bI plus)), (5, .int (bI blank))] → W p l e (rmL 2) s m args below meth c H locs 0 0 Q (F0 m 94 ls [.int sv, .ref h]) := by
          intro sv hsv H locs ls hw hl
          rw [hsv]
          refine xput S hw fl_Fo_20 0 rfl rfl rfl (Nat.le_of_ble_eq_true rfl) (ws' := wFo G h r a (nI (sgnL 100 v plus blank).length) (nI (sgnL 100 v plus blank ++ dig v).length) (wr f 0 (sgnL 100 v plus blank ++ dig v))) rfl d_Fo_digits_94 (fun H locs hw => ?_)
          refine lv_goto (tgt := 228) hx hb d_Fo_digits_97 (by decide) ?_
          exact kret _ _ _ _ () hw trivial d_Fo_digits_228
        refine lv_aload_n hx hb d_Fo_digits_72 rfl (lv_at hl 0 rfl) ?_
        refine lv_lload_n hx hb d_Fo_digits_73 rfl (lv_at hl 2 rfl) ?_
        refine lv_lconst (v := 0) hx hb d_Fo_digits_74 (by decide) ?_
        refine xl_lt (tgt := 89) S d_Fo_digits_75 d_Fo_digits_76 (by decide) (fun cv => ?_) (fun cv => ?_)
        · refine lv_iconst (v := 1) hx hb d_Fo_digits_89 (by decide) ?_
          refine lv_goto (tgt := 94) hx hb d_Fo_digits_90 (by decide) ?_
          exact j94 _ (by rw [hsg, if_pos cv]; rfl) _ _ _ hw hl
        · refine lv_iload hx hb d_Fo_digits_79 (lv_at hl 3 rfl) ?_
          refine lv_if_ne (tgt := 89) hx hb d_Fo_digits_81 (by decide) (fun cp => ?_) (fun cp => ?_)
          · have cp : plus = true := bI_t cp
            refine lv_iconst (v := 1) hx hb d_Fo_digits_89 (by decide) ?_
            refine lv_goto (tgt := 94) hx hb d_Fo_digits_90 (by decide) ?_
            exact j94 _ (by rw [hsg, if_neg cv, if_pos cp]; rfl) _ _ _ hw hl
          · have cp : plus = false := bI_z cp
            refine lv_iload hx hb d_Fo_digits_84 (lv_at hl 4 rfl) ?_
            refine lv_if_eq (tgt := 93) hx hb d_Fo_digits_86 (by decide) (fun cb => ?_) (fun cb => ?_)
            · have cb : blank = false := bI_z cb
              refine lv_iconst (v := 0) hx hb d_Fo_digits_93 (by decide) ?_
              exact j94 _ (by rw [hsg, if_neg cv, cp, cb]; rfl) _ _ _ hw hl
            · have cb : blank = true := bI_t cb
              refine lv_iconst (v := 1) hx hb d_Fo_digits_89 (by decide) ?_
              refine lv_goto (tgt := 94) hx hb d_Fo_digits_90 (by decide) ?_
              exact j94 _ (by rw [hsg, if_neg cv, cp, cb]; rfl) _ _ _ hw hl
      refine lv_lload_n hx hb d_Fo_digits_29 rfl (lv_at hl 2 rfl) ?_
      refine lv_lconst (v := 0) hx hb d_Fo_digits_30 (by decide) ?_
      refine xl_lt (tgt := 64) S d_Fo_digits_31 d_Fo_digits_32 (by decide) (fun cv => ?_) (fun cv => ?_)
      · exact j64 [] (by rw [if_pos cv]) _ _ _ (by rw [wr_nil]; exact hw) hl
      · refine lv_iload hx hb d_Fo_digits_35 (lv_at hl 3 rfl) ?_
        refine lv_if_ne (tgt := 45) hx hb d_Fo_digits_37 (by decide) (fun cp => ?_) (fun cp => ?_)
        · have cp : plus = true := bI_t cp
          refine lv_aload_n hx hb d_Fo_digits_45 rfl (lv_at hl 0 rfl) ?_
          refine xget S hw fl_Fo_14 0 rfl rfl d_Fo_digits_46 ?_
          refine lv_iload hx hb d_Fo_digits_49 (lv_at hl 3 rfl) ?_
          refine lv_if_eq (tgt := 59) hx hb d_Fo_digits_51 (by decide) (fun q => absurd q (fun q => by rw [cp] at q; exact absurd q (by decide))) (fun _ => ?_)
          refine lv_bipush (v := 43) hx hb d_Fo_digits_54 (by decide) ?_
          refine lv_goto (tgt := 61) hx hb d_Fo_digits_56 (by decide) ?_
          refine zVv (As := [.int 43]) (rest := []) S hw hl.1 vl_Fo_24 (c_Ro_one l G r a 2048 0 f 43 (by decide) (by decide)) 1 rfl rfl rfl ⟨rfl, rfl⟩ [1, 2] [0] [0, 1, 2] rfl rfl (by decide) rfl rfl rfl d_Fo_digits_61 (fun _ => wFo G h r a 0 (nI (0 + 1)) (wr f 0 [b8 43])) (fun _ => rfl) (fun _ H locs hp hw => ?_)
          exact j64 [43] (by rw [if_neg cv, if_pos cp]) _ _ _ hw hl
        · have cp : plus = false := bI_z cp
          refine lv_iload hx hb d_Fo_digits_40 (lv_at hl 4 rfl) ?_
          refine lv_if_eq (tgt := 64) hx hb d_Fo_digits_42 (by decide) (fun cb => ?_) (fun cb => ?_)
          · have cb : blank = false := bI_z cb
            exact j64 [] (by rw [if_neg cv, cp, cb]; rfl) _ _ _ (by rw [wr_nil]; exact hw) hl
          · have cb : blank = true := bI_t cb
            refine lv_aload_n hx hb d_Fo_digits_45 rfl (lv_at hl 0 rfl) ?_
            refine xget S hw fl_Fo_14 0 rfl rfl d_Fo_digits_46 ?_
            refine lv_iload hx hb d_Fo_digits_49 (lv_at hl 3 rfl) ?_
            refine lv_if_eq (tgt := 59) hx hb d_Fo_digits_51 (by decide) (fun _ => ?_) (fun q => absurd (by rw [cp]; rfl) q)
            refine lv_bipush (v := 32) hx hb d_Fo_digits_59 (by decide) ?_
            refine zVv (As := [.int 32]) (rest := []) S hw hl.1 vl_Fo_24 (c_Ro_one l G r a 2048 0 f 32 (by decide) (by decide)) 1 rfl rfl rfl ⟨rfl, rfl⟩ [1, 2] [0] [0, 1, 2] rfl rfl (by decide) rfl rfl rfl d_Fo_digits_61 (fun _ => wFo G h r a 0 (nI (0 + 1)) (wr f 0 [b8 32])) (fun _ => rfl) (fun _ H locs hp hw => ?_)
            exact j64 [32] (by rw [if_neg cv, cp, cb]; rfl) _ _ _ hw hl
  · subst c99
    refine lv_aload_n hx hb d_Fo_digits_11 rfl (lv_at hl 0 rfl) ?_
    refine xget S hw fl_Fo_14 0 rfl rfl d_Fo_digits_12 ?_
    refine lv_lload_n hx hb d_Fo_digits_15 rfl (lv_at hl 2 rfl) ?_
    refine lv_l2i hx hb d_Fo_digits_16 rfl ?_
    refine zVv (As := [.int ((v : Int64).toInt32)]) (rest := []) S hw hl.1 vl_Fo_24 (c_Ro_one l G r a 2048 0 f v.toInt32 (by decide) (by decide)) 1 rfl rfl rfl ⟨rfl, rfl⟩ [1, 2] [0] [0, 1, 2] rfl rfl (by decide) rfl rfl rfl d_Fo_digits_17 (fun _ => wFo G h r a 0 (nI (0 + 1)) (wr f 0 [b8 v.toInt32])) (fun _ => rfl) (fun _ H locs hp hw => ?_)
    refine lv_goto (tgt := 228) hx hb d_Fo_digits_20 (by decide) ?_
    exact kret _ _ _ _ () hw trivial d_Fo_digits_228
end
section
set_option maxHeartbeats 4000000 in
set_option maxRecDepth 100000 in
/-- Formats.put -/
theorem c_Fo_put (l : Launch) (G : gG) (h r a o b : Nat) (sn : Int32) (f : Nat → Int32) (g : Nat → Int32) (mm w : Nat) (left zero : Bool) (sgl body : List Int32) (hf : sg f 0 (sgl.length + body.length) = sgl ++ body) (hby : By f) (hsn : (zero && !left) = true → sn = nI sgl.length) (hm : mm ≤ 1024) (hww : w ≤ 2048) (hln : sgl.length + body.length ≤ 100) : MetV (σ := Unit) l y_Fo_put (Cond.code y_Fo_put b_Fo_put 9 none) (rmL 2) 0 0 G [.ref h, .ref o, .int (nI w), .int (bI left), .int (bI zero)] (wPu G h r a o b sn (nI (sgl.length + body.length)) f (nI mm) g) X0 (fun _ => True) (fun _ => wPu G h r a o b sn (nI (sgl.length + body.length)) f (nI (mm + (fldS sgl body w left (zero && !left)).length)) (wr g mm (fldS sgl body w left (zero && !left)))) := by
  refine MetV.mk2 (by decide) (Nat.le_of_ble_eq_true rfl) ?_
  intro p e s m args below meth c A ls Q S hw hX hl hnm kret
  have hx := S.1
  have hb := S.2.1
  have hl : lv_has ls 9 [(0, .ref h), (1, .ref o), (2, .int (nI w)), (3, .int (bI left)), (4, .int (bI zero))] := hl
  generalize hH0 : s.heap = H at hw ⊢
  generalize hL0 : ([] : List Loc) = locs at hw ⊢
  have hzl : (zero && !left) = true → left = false := by cases left <;> simp
  have hfl := fldS_len (sgl := sgl) (body := body) (w := w) hzl
  have hasm := fun fi hfi => fld_asm (f := f) (sgl := sgl) (body := body) (w := w) (fi := fi) (left := left) (z := (zero && !left)) hf hfi
  obtain ⟨z, hz⟩ : ∃ z, z = (zero && !left) := ⟨_, rfl⟩
  rw [← hz] at hsn hzl hfl hasm kret
  obtain ⟨len, hlen⟩ : ∃ k, k = sgl.length + body.length := ⟨_, rfl⟩
  rw [← hlen] at hw hln hfl hasm kret
  have hp32 : (pad w len 32).length = w - len := by simp [pad]
  have hp48 : (pad w len 48).length = w - len := by simp [pad]
  refine lv_iconst (v := 0) hx hb d_Fo_put_0 (by decide) ?_
  refine lv_iload_n hx hb d_Fo_put_1 rfl (lv_at hl 2 rfl) ?_
  refine lv_aload_n hx hb d_Fo_put_2 rfl (lv_at hl 0 rfl) ?_
  refine xget S hw fl_Fo_14 0 rfl rfl d_Fo_put_3 ?_
  refine xget S hw fl_Fo_31 1 rfl rfl d_Fo_put_6 ?_
  refine lv_isub hx hb d_Fo_put_9 ?_
  refine xmax S hl.1 k_264 (Nat.le_of_ble_eq_true rfl) (Nat.le_of_ble_eq_true rfl) ⟨(Nat.le_of_ble_eq_true rfl), (Nat.le_of_ble_eq_true rfl)⟩ d_Fo_put_10 ?_
  refine tpi (y := nI (w - len)) (max_sub (by omega) (by omega)) ?_
  refine lv_istore (lv' := [(5, .int (nI (w - len))), (0, .ref h), (1, .ref o), (2, .int (nI w)), (3, .int (bI left)), (4, .int (bI zero))]) hx hb d_Fo_put_13 hl (by decide) rfl (fun ls hl => ?_)
  refine lv_iload hx hb d_Fo_put_15 (lv_at hl 5 rfl) ?_
  have j167 : ∀ (i fi : Nat) (E : List Int32), fi = (if z then sgl.length else 0) → E = (if left || z then [] else pad w len 32) ++ sg f 0 fi ++ (if z then pad w len 48 else []) ++ sg f fi (len - fi) ++ (if left then pad w len 32 else []) → ∀ (H : Heap) (locs : List Loc) (ls : Array Slot), gW G A s (wPu G h r a o b sn (nI len) f (nI (mm + (E).length)) (wr g mm (E))) H locs → lv_has ls 9 [(8, .int (nI i)), (7, .int (nI fi)), (6, .int (bI z)), (5, .int (nI (w - len))), (0, .ref h), (1, .ref o), (2, .int (nI w)), (3, .int (bI left)), (4, .int (bI zero))] → W p l e (rmL 2) s m args below meth c H locs 0 0 Q (F0 m 167 ls []) := by
    intro i fi E hfi hE H locs ls hw hl
    rw [hE, hasm fi hfi] at hw
    exact kret _ _ _ _ () hw trivial d_Fo_put_167
  have lp3 : ∀ (fi : Nat) (E : List Int32), ((left) = true → E.length + (w - len) ≤ 2200) → (∀ (i : Nat) (E2 : List Int32), E2 = E ++ (if left then List.replicate (w - len) 32 else []) → ∀ (H : Heap) (locs : List Loc) (ls : Array Slot), gW G A s (wPu G h r a o b sn (nI len) f (nI (mm + E2.length)) (wr g mm E2)) H locs → lv_has ls 9 [(8, .int (nI i)), (7, .int (nI fi)), (6, .int (bI z)), (5, .int (nI (w - len))), (0, .ref h), (1, .ref o), (2, .int (nI w)), (3, .int (bI left)), (4, .int (bI zero))] → W p l e (rmL 2) s m args below meth c H locs 0 0 Q (F0 m 167 ls [])) → ∀ (H : Heap) (locs : List Loc) (ls : Array Slot), gW G A s (wPu G h r a o b sn (nI len) f (nI (mm + (E).length)) (wr g mm (E))) H locs → lv_has ls 9 [(8, .int 0), (7, .int (nI fi)), (6, .int (bI z)), (5, .int (nI (w - len))), (0, .ref h), (1, .ref o), (2, .int (nI w)), (3, .int (bI left)), (4, .int (bI zero))] → W p l e (rmL 2) s m args below meth c H locs 0 0 Q (F0 m 144 ls []) := by
    intro fi E hE hnx
    rcases (Bool.eq_false_or_eq_true (left)).symm with hcd | hcd
    · intro H locs ls hw hl
      have hnx := hnx 0 E (by rw [hcd]; simp)
      refine lv_iload hx hb d_Fo_put_144 (lv_at hl 0 rfl) ?_
      refine lv_iload hx hb d_Fo_put_146 (lv_at hl 3 rfl) ?_
      refine lv_icmp_ge (tgt := 167) hx hb d_Fo_put_148 (by decide) (fun cc => ?_) (fun cc => ?_)
      · exact hnx _ _ _ hw hl
      · refine lv_iload_n hx hb d_Fo_put_151 rfl (lv_at hl 7 rfl) ?_
        refine lv_if_eq (tgt := 167) hx hb d_Fo_put_152 (by decide) (fun c0 => ?_) (fun c0 => ?_)
        · have c0 : left = false := bI_z c0
          exact hnx _ _ _ hw hl
        · have c0 : left = true := bI_t c0
          simp [c0] at hcd
    · have hcond : left = true := by simpa using hcd
      have hE := hE hcd
      have lpr : ∀ (dd i : Nat), i + dd = w - len → ∀ (H : Heap) (locs : List Loc) (ls : Array Slot), gW G A s (wPu G h r a o b sn (nI len) f (nI (mm + (E ++ List.replicate i 32).length)) (wr g mm (E ++ List.replicate i 32))) H locs → lv_has ls 9 [(8, .int (nI i)), (7, .int (nI fi)), (6, .int (bI z)), (5, .int (nI (w - len))), (0, .ref h), (1, .ref o), (2, .int (nI w)), (3, .int (bI left)), (4, .int (bI zero))] → W p l e (rmL 2) s m args below meth c H locs 0 0 Q (F0 m 144 ls []) := by
        intro dd
        induction dd with
        | zero =>
          intro i hi H locs ls hw hl
          refine lv_iload hx hb d_Fo_put_144 (lv_at hl 0 rfl) ?_
          refine lv_iload hx hb d_Fo_put_146 (lv_at hl 3 rfl) ?_
          refine lv_icmp_ge (tgt := 167) hx hb d_Fo_put_148 (by decide) (fun _ => ?_) (fun q => absurd ((nI_leI (by omega) (by omega)).mpr (by omega)) q)
          obtain rfl : i = w - len := by omega
          exact hnx _ _ (by rw [hcd]; rfl) _ _ _ hw hl
        | succ dd ih =>
          intro i hi H locs ls hw hl
          have hpe : (E ++ List.replicate i 32).length = E.length + i := by simp
          refine lv_iload hx hb d_Fo_put_144 (lv_at hl 0 rfl) ?_
          refine lv_iload hx hb d_Fo_put_146 (lv_at hl 3 rfl) ?_
          refine lv_icmp_ge (tgt := 167) hx hb d_Fo_put_148 (by decide) (fun q => absurd q (fun q => by have := (nI_leI (by omega) (by omega)).mp q; omega)) (fun _ => ?_)
          refine lv_iload_n hx hb d_Fo_put_151 rfl (lv_at hl 7 rfl) ?_
          refine lv_if_eq (tgt := 167) hx hb d_Fo_put_152 (by decide) (fun q => absurd q (fun q => by rw [hcond] at q; exact absurd q (by decide))) (fun _ => ?_)
          refine lv_aload_n hx hb d_Fo_put_155 rfl (lv_at hl 5 rfl) ?_
          refine lv_bipush (v := 32) hx hb d_Fo_put_156 (by decide) ?_
          refine zVv (As := [.int 32]) (rest := []) S hw hl.1 vl_Fo_24 (c_Ro_one l G o b 4096 (mm + (E ++ List.replicate i 32).length) (wr g mm (E ++ List.replicate i 32)) 32 (by omega) (by decide)) 3 rfl rfl rfl ⟨rfl, rfl⟩ [3, 4] [0, 1, 2] [0, 1, 2, 3, 4] rfl rfl (by decide) rfl rfl rfl d_Fo_put_158 (fun _ => wPu G h r a o b sn (nI len) f (nI (mm + (E ++ List.replicate i 32).length + 1)) (wr (wr g mm (E ++ List.replicate i 32)) (mm + (E ++ List.replicate i 32).length) [b8 32])) (fun _ => rfl) (fun _ H locs hp hw => ?_)
          refine lv_iinc (v := nI (i + 1)) (lv' := [(8, .int (nI (i + 1))), (7, .int (nI fi)), (6, .int (bI z)), (5, .int (nI (w - len))), (0, .ref h), (1, .ref o), (2, .int (nI w)), (3, .int (bI left)), (4, .int (bI zero))]) hx hb d_Fo_put_161 hl (k := 0) rfl (nI_1 i) (by decide) rfl (fun ls hl => ?_)
          refine lv_goto (tgt := 144) hx hb d_Fo_put_164 (by decide) ?_
          refine ih (i + 1) (by omega) _ _ _ ?_ (lv_sub hl [0, 1, 2, 3, 4, 5, 6, 7, 8] rfl)
          rw [show b8 32 = (32 : Int32) from by decide, wr_app rfl] at hw
          rw [rep_snoc, ← List.append_assoc, List.length_append (as := E ++ List.replicate i 32)]
          exact hw
      intro H locs ls hw hl
      exact lpr (w - len) 0 (by omega) _ _ _ (by rw [List.replicate_zero, List.append_nil]; exact hw) hl
  have lp2 : ∀ (fi : Nat) (E : List Int32), ((z) = true → E.length + (w - len) ≤ 2200) → (∀ (i : Nat) (E2 : List Int32), E2 = E ++ (if z then List.replicate (w - len) 48 else []) → ∀ (H : Heap) (locs : List Loc) (ls : Array Slot), gW G A s (wPu G h r a o b sn (nI len) f (nI (mm + E2.length)) (wr g mm E2)) H locs → lv_has ls 9 [(8, .int (nI i)), (7, .int (nI fi)), (6, .int (bI z)), (5, .int (nI (w - len))), (0, .ref h), (1, .ref o), (2, .int (nI w)), (3, .int (bI left)), (4, .int (bI zero))] → W p l e (rmL 2) s m args below meth c H locs 0 0 Q (F0 m 118 ls [])) → ∀ (H : Heap) (locs : List Loc) (ls : Array Slot), gW G A s (wPu G h r a o b sn (nI len) f (nI (mm + (E).length)) (wr g mm (E))) H locs → lv_has ls 9 [(8, .int 0), (7, .int (nI fi)), (6, .int (bI z)), (5, .int (nI (w - len))), (0, .ref h), (1, .ref o), (2, .int (nI w)), (3, .int (bI left)), (4, .int (bI zero))] → W p l e (rmL 2) s m args below meth c H locs 0 0 Q (F0 m 94 ls []) := by
    intro fi E hE hnx
    rcases (Bool.eq_false_or_eq_true (z)).symm with hcd | hcd
    · intro H locs ls hw hl
      have hnx := hnx 0 E (by rw [hcd]; simp)
      refine lv_iload hx hb d_Fo_put_94 (lv_at hl 0 rfl) ?_
      refine lv_iload hx hb d_Fo_put_96 (lv_at hl 3 rfl) ?_
      refine lv_icmp_ge (tgt := 118) hx hb d_Fo_put_98 (by decide) (fun cc => ?_) (fun cc => ?_)
      · exact hnx _ _ _ hw hl
      · refine lv_iload hx hb d_Fo_put_101 (lv_at hl 2 rfl) ?_
        refine lv_if_eq (tgt := 118) hx hb d_Fo_put_103 (by decide) (fun c0 => ?_) (fun c0 => ?_)
        · have c0 : z = false := bI_z c0
          exact hnx _ _ _ hw hl
        · have c0 : z = true := bI_t c0
          simp [c0] at hcd
    · have hcond : z = true := by simpa using hcd
      have hE := hE hcd
      have lpr : ∀ (dd i : Nat), i + dd = w - len → ∀ (H : Heap) (locs : List Loc) (ls : Array Slot), gW G A s (wPu G h r a o b sn (nI len) f (nI (mm + (E ++ List.replicate i 48).length)) (wr g mm (E ++ List.replicate i 48))) H locs → lv_has ls 9 [(8, .int (nI i)), (7, .int (nI fi)), (6, .int (bI z)), (5, .int (nI (w - len))), (0, .ref h), (1, .ref o), (2, .int (nI w)), (3, .int (bI left)), (4, .int (bI zero))] → W p l e (rmL 2) s m args below meth c H locs 0 0 Q (F0 m 94 ls []) := by
        intro dd
        induction dd with
        | zero =>
          intro i hi H locs ls hw hl
          refine lv_iload hx hb d_Fo_put_94 (lv_at hl 0 rfl) ?_
          refine lv_iload hx hb d_Fo_put_96 (lv_at hl 3 rfl) ?_
          refine lv_icmp_ge (tgt := 118) hx hb d_Fo_put_98 (by decide) (fun _ => ?_) (fun q => absurd ((nI_leI (by omega) (by omega)).mpr (by omega)) q)
          obtain rfl : i = w - len := by omega
          exact hnx _ _ (by rw [hcd]; rfl) _ _ _ hw hl
        | succ dd ih =>
          intro i hi H locs ls hw hl
          have hpe : (E ++ List.replicate i 48).length = E.length + i := by simp
          refine lv_iload hx hb d_Fo_put_94 (lv_at hl 0 rfl) ?_
          refine lv_iload hx hb d_Fo_put_96 (lv_at hl 3 rfl) ?_
          refine lv_icmp_ge (tgt := 118) hx hb d_Fo_put_98 (by decide) (fun q => absurd q (fun q => by have := (nI_leI (by omega) (by omega)).mp q; omega)) (fun _ => ?_)
          refine lv_iload hx hb d_Fo_put_101 (lv_at hl 2 rfl) ?_
          refine lv_if_eq (tgt := 118) hx hb d_Fo_put_103 (by decide) (fun q => absurd q (fun q => by rw [hcond] at q; exact absurd q (by decide))) (fun _ => ?_)
          refine lv_aload_n hx hb d_Fo_put_106 rfl (lv_at hl 5 rfl) ?_
          refine lv_bipush (v := 48) hx hb d_Fo_put_107 (by decide) ?_
          refine zVv (As := [.int 48]) (rest := []) S hw hl.1 vl_Fo_24 (c_Ro_one l G o b 4096 (mm + (E ++ List.replicate i 48).length) (wr g mm (E ++ List.replicate i 48)) 48 (by omega) (by decide)) 3 rfl rfl rfl ⟨rfl, rfl⟩ [3, 4] [0, 1, 2] [0, 1, 2, 3, 4] rfl rfl (by decide) rfl rfl rfl d_Fo_put_109 (fun _ => wPu G h r a o b sn (nI len) f (nI (mm + (E ++ List.replicate i 48).length + 1)) (wr (wr g mm (E ++ List.replicate i 48)) (mm + (E ++ List.replicate i 48).length) [b8 48])) (fun _ => rfl) (fun _ H locs hp hw => ?_)
          refine lv_iinc (v := nI (i + 1)) (lv' := [(8, .int (nI (i + 1))), (7, .int (nI fi)), (6, .int (bI z)), (5, .int (nI (w - len))), (0, .ref h), (1, .ref o), (2, .int (nI w)), (3, .int (bI left)), (4, .int (bI zero))]) hx hb d_Fo_put_112 hl (k := 0) rfl (nI_1 i) (by decide) rfl (fun ls hl => ?_)
          refine lv_goto (tgt := 94) hx hb d_Fo_put_115 (by decide) ?_
          refine ih (i + 1) (by omega) _ _ _ ?_ (lv_sub hl [0, 1, 2, 3, 4, 5, 6, 7, 8] rfl)
          rw [show b8 48 = (48 : Int32) from by decide, wr_app rfl] at hw
          rw [rep_snoc, ← List.append_assoc, List.length_append (as := E ++ List.replicate i 48)]
          exact hw
      intro H locs ls hw hl
      exact lpr (w - len) 0 (by omega) _ _ _ (by rw [List.replicate_zero, List.append_nil]; exact hw) hl
  have lp1 : ∀ (fi : Nat) (E : List Int32), ((!left && !z) = true → E.length + (w - len) ≤ 2200) → (∀ (i : Nat) (E2 : List Int32), E2 = E ++ (if !left && !z then List.replicate (w - len) 32 else []) → ∀ (H : Heap) (locs : List Loc) (ls : Array Slot), gW G A s (wPu G h r a o b sn (nI len) f (nI (mm + E2.length)) (wr g mm E2)) H locs → lv_has ls 9 [(8, .int (nI i)), (7, .int (nI fi)), (6, .int (bI z)), (5, .int (nI (w - len))), (0, .ref h), (1, .ref o), (2, .int (nI w)), (3, .int (bI left)), (4, .int (bI zero))] → W p l e (rmL 2) s m args below meth c H locs 0 0 Q (F0 m 77 ls [])) → ∀ (H : Heap) (locs : List Loc) (ls : Array Slot), gW G A s (wPu G h r a o b sn (nI len) f (nI (mm + (E).length)) (wr g mm (E))) H locs → lv_has ls 9 [(8, .int 0), (7, .int (nI fi)), (6, .int (bI z)), (5, .int (nI (w - len))), (0, .ref h), (1, .ref o), (2, .int (nI w)), (3, .int (bI left)), (4, .int (bI zero))] → W p l e (rmL 2) s m args below meth c H locs 0 0 Q (F0 m 49 ls []) := by
    intro fi E hE hnx
    rcases (Bool.eq_false_or_eq_true (!left && !z)).symm with hcd | hcd
    · intro H locs ls hw hl
      have hnx := hnx 0 E (by rw [hcd]; simp)
      refine lv_iload hx hb d_Fo_put_49 (lv_at hl 0 rfl) ?_
      refine lv_iload hx hb d_Fo_put_51 (lv_at hl 3 rfl) ?_
      refine lv_icmp_ge (tgt := 77) hx hb d_Fo_put_53 (by decide) (fun cc => ?_) (fun cc => ?_)
      · exact hnx _ _ _ hw hl
      · refine lv_iload_n hx hb d_Fo_put_56 rfl (lv_at hl 7 rfl) ?_
        refine lv_if_ne (tgt := 77) hx hb d_Fo_put_57 (by decide) (fun c0 => ?_) (fun c0 => ?_)
        · have c0 : left = true := bI_t c0
          exact hnx _ _ _ hw hl
        · have c0 : left = false := bI_z c0
          refine lv_iload hx hb d_Fo_put_60 (lv_at hl 2 rfl) ?_
          refine lv_if_ne (tgt := 77) hx hb d_Fo_put_62 (by decide) (fun c1 => ?_) (fun c1 => ?_)
          · have c1 : z = true := bI_t c1
            exact hnx _ _ _ hw hl
          · have c1 : z = false := bI_z c1
            simp [c0, c1] at hcd
    · have hcond : left = false ∧ z = false := by simpa using hcd
      have hE := hE hcd
      have lpr : ∀ (dd i : Nat), i + dd = w - len → ∀ (H : Heap) (locs : List Loc) (ls : Array Slot), gW G A s (wPu G h r a o b sn (nI len) f (nI (mm + (E ++ List.replicate i 32).length)) (wr g mm (E ++ List.replicate i 32))) H locs → lv_has ls 9 [(8, .int (nI i)), (7, .int (nI fi)), (6, .int (bI z)), (5, .int (nI (w - len))), (0, .ref h), (1, .ref o), (2, .int (nI w)), (3, .int (bI left)), (4, .int (bI zero))] → W p l e (rmL 2) s m args below meth c H locs 0 0 Q (F0 m 49 ls []) := by
        intro dd
        induction dd with
        | zero =>
          intro i hi H locs ls hw hl
          refine lv_iload hx hb d_Fo_put_49 (lv_at hl 0 rfl) ?_
          refine lv_iload hx hb d_Fo_put_51 (lv_at hl 3 rfl) ?_
          refine lv_icmp_ge (tgt := 77) hx hb d_Fo_put_53 (by decide) (fun _ => ?_) (fun q => absurd ((nI_leI (by omega) (by omega)).mpr (by omega)) q)
          obtain rfl : i = w - len := by omega
          exact hnx _ _ (by rw [hcd]; rfl) _ _ _ hw hl
        | succ dd ih =>
          intro i hi H locs ls hw hl
          have hpe : (E ++ List.replicate i 32).length = E.length + i := by simp
          refine lv_iload hx hb d_Fo_put_49 (lv_at hl 0 rfl) ?_
          refine lv_iload hx hb d_Fo_put_51 (lv_at hl 3 rfl) ?_
          refine lv_icmp_ge (tgt := 77) hx hb d_Fo_put_53 (by decide) (fun q => absurd q (fun q => by have := (nI_leI (by omega) (by omega)).mp q; omega)) (fun _ => ?_)
          refine lv_iload_n hx hb d_Fo_put_56 rfl (lv_at hl 7 rfl) ?_
          refine lv_if_ne (tgt := 77) hx hb d_Fo_put_57 (by decide) (fun q => absurd (by rw [hcond.1]; rfl) q) (fun _ => ?_)
          refine lv_iload hx hb d_Fo_put_60 (lv_at hl 2 rfl) ?_
          refine lv_if_ne (tgt := 77) hx hb d_Fo_put_62 (by decide) (fun q => absurd (by rw [hcond.2]; rfl) q) (fun _ => ?_)
          refine lv_aload_n hx hb d_Fo_put_65 rfl (lv_at hl 5 rfl) ?_
          refine lv_bipush (v := 32) hx hb d_Fo_put_66 (by decide) ?_
          refine zVv (As := [.int 32]) (rest := []) S hw hl.1 vl_Fo_24 (c_Ro_one l G o b 4096 (mm + (E ++ List.replicate i 32).length) (wr g mm (E ++ List.replicate i 32)) 32 (by omega) (by decide)) 3 rfl rfl rfl ⟨rfl, rfl⟩ [3, 4] [0, 1, 2] [0, 1, 2, 3, 4] rfl rfl (by decide) rfl rfl rfl d_Fo_put_68 (fun _ => wPu G h r a o b sn (nI len) f (nI (mm + (E ++ List.replicate i 32).length + 1)) (wr (wr g mm (E ++ List.replicate i 32)) (mm + (E ++ List.replicate i 32).length) [b8 32])) (fun _ => rfl) (fun _ H locs hp hw => ?_)
          refine lv_iinc (v := nI (i + 1)) (lv' := [(8, .int (nI (i + 1))), (7, .int (nI fi)), (6, .int (bI z)), (5, .int (nI (w - len))), (0, .ref h), (1, .ref o), (2, .int (nI w)), (3, .int (bI left)), (4, .int (bI zero))]) hx hb d_Fo_put_71 hl (k := 0) rfl (nI_1 i) (by decide) rfl (fun ls hl => ?_)
          refine lv_goto (tgt := 49) hx hb d_Fo_put_74 (by decide) ?_
          refine ih (i + 1) (by omega) _ _ _ ?_ (lv_sub hl [0, 1, 2, 3, 4, 5, 6, 7, 8] rfl)
          rw [show b8 32 = (32 : Int32) from by decide, wr_app rfl] at hw
          rw [rep_snoc, ← List.append_assoc, List.length_append (as := E ++ List.replicate i 32)]
          exact hw
      intro H locs ls hw hl
      exact lpr (w - len) 0 (by omega) _ _ _ (by rw [List.replicate_zero, List.append_nil]; exact hw) hl
  have j118 : ∀ (i fi : Nat) (E : List Int32), fi = (if z then sgl.length else 0) → E = (if left || z then [] else pad w len 32) ++ sg f 0 fi ++ (if z then pad w len 48 else []) → E.length ≤ 2200 → ∀ (H : Heap) (locs : List Loc) (ls : Array Slot), gW G A s (wPu G h r a o b sn (nI len) f (nI (mm + (E).length)) (wr g mm (E))) H locs → lv_has ls 9 [(8, .int (nI i)), (7, .int (nI fi)), (6, .int (bI z)), (5, .int (nI (w - len))), (0, .ref h), (1, .ref o), (2, .int (nI w)), (3, .int (bI left)), (4, .int (bI zero))] → W p l e (rmL 2) s m args below meth c H locs 0 0 Q (F0 m 118 ls []) := by
    intro i fi E hfi hE hEl H locs ls hw hl
    have hfl2 : fi ≤ len := by rw [hfi, hlen]; split <;> omega
    refine lv_aload_n hx hb d_Fo_put_118 rfl (lv_at hl 5 rfl) ?_
    refine lv_aload_n hx hb d_Fo_put_119 rfl (lv_at hl 4 rfl) ?_
    refine xget S hw fl_Fo_14 0 rfl rfl d_Fo_put_120 ?_
    refine xget S hw fl_Fo_40 1 rfl rfl d_Fo_put_123 ?_
    refine lv_iload hx hb d_Fo_put_126 (lv_at hl 1 rfl) ?_
    refine lv_aload_n hx hb d_Fo_put_128 rfl (lv_at hl 4 rfl) ?_
    refine xget S hw fl_Fo_14 0 rfl rfl d_Fo_put_129 ?_
    refine xget S hw fl_Fo_31 1 rfl rfl d_Fo_put_132 ?_
    refine lv_iload hx hb d_Fo_put_135 (lv_at hl 1 rfl) ?_
    refine lv_isub hx hb d_Fo_put_137 ?_
    refine tpi (y := nI (len - fi)) (pk_sub hfl2) ?_
    refine zVv (As := [.ref a, .int (nI fi), .int (nI (len - fi))]) (rest := []) S hw hl.1 vl_Fo_44 (c_Ro_add l G o b 4096 (mm + E.length) (wr g mm E) a 2048 f fi (len - fi) (by omega) (by decide) (by omega) (by decide) hby) 3 rfl rfl rfl ⟨rfl, rfl⟩ [3, 4, 2] [0, 1] [0, 1, 4, 2, 3] rfl rfl (by decide) rfl rfl rfl d_Fo_put_138 (fun _ => wPu G h r a o b sn (nI len) f (nI (mm + E.length + (len - fi))) (wr (wr g mm E) (mm + E.length) (sg f fi (len - fi)))) (fun _ => rfl) (fun _ H locs hp hw => ?_)
    rw [wr_app rfl] at hw
    have hEl2 : (E ++ sg f fi (len - fi)).length = E.length + (len - fi) := by rw [List.length_append, sg_len]
    refine lv_iconst (v := 0) hx hb d_Fo_put_141 (by decide) ?_
    refine lv_istore (lv' := [(8, .int 0), (7, .int (nI fi)), (6, .int (bI z)), (5, .int (nI (w - len))), (0, .ref h), (1, .ref o), (2, .int (nI w)), (3, .int (bI left)), (4, .int (bI zero))]) hx hb d_Fo_put_142 hl (by decide) rfl (fun ls hl => ?_)
    have hlq : left = true → (E ++ sg f fi (len - fi)).length + (w - len) ≤ 2200 := by
      intro q
      have hzf : z = false := by cases hzz : z
                                 · rfl
                                 · rw [hzl hzz] at q; cases q
      have hE0 : E.length = fi := by rw [hE, q, hzf]; simp [sg_len]
      omega
    refine lp3 fi (E ++ sg f fi (len - fi)) hlq ?_ _ _ _ (by rw [hEl2, ← Nat.add_assoc]; exact hw) (lv_sub hl [0, 1, 2, 3, 4, 5, 6, 7, 8] rfl)
    intro i E2 hE2 H locs ls hw hl
    exact j167 i fi E2 hfi (by rw [hE2, hE]; rfl) _ _ _ hw hl
  have j77 : ∀ (i fi : Nat) (E : List Int32), fi = (if z then sgl.length else 0) → E = (if left || z then [] else pad w len 32) → ∀ (H : Heap) (locs : List Loc) (ls : Array Slot), gW G A s (wPu G h r a o b sn (nI len) f (nI (mm + (E).length)) (wr g mm (E))) H locs → lv_has ls 9 [(8, .int (nI i)), (7, .int (nI fi)), (6, .int (bI z)), (5, .int (nI (w - len))), (0, .ref h), (1, .ref o), (2, .int (nI w)), (3, .int (bI left)), (4, .int (bI zero))] → W p l e (rmL 2) s m args below meth c H locs 0 0 Q (F0 m 77 ls []) := by
    intro i fi E hfi hE H locs ls hw hl
    have hfl2 : fi ≤ len := by rw [hfi, hlen]; split <;> omega
    have hEl : E.length ≤ 2048 := by rw [hE]; split <;> first | omega | simp
    have hEz : z = true → E = [] := by intro q; rw [hE, q]; simp
    refine lv_aload_n hx hb d_Fo_put_77 rfl (lv_at hl 5 rfl) ?_
    refine lv_aload_n hx hb d_Fo_put_78 rfl (lv_at hl 4 rfl) ?_
    refine xget S hw fl_Fo_14 0 rfl rfl d_Fo_put_79 ?_
    refine xget S hw fl_Fo_40 1 rfl rfl d_Fo_put_82 ?_
    refine lv_iconst (v := 0) hx hb d_Fo_put_85 (by decide) ?_
    refine lv_iload hx hb d_Fo_put_86 (lv_at hl 1 rfl) ?_
    refine zVv (As := [.ref a, .int 0, .int (nI fi)]) (rest := []) S hw hl.1 vl_Fo_44 (c_Ro_add l G o b 4096 (mm + E.length) (wr g mm E) a 2048 f 0 fi (by omega) (by decide) (by omega) (by decide) hby) 3 rfl rfl rfl ⟨rfl, rfl⟩ [3, 4, 2] [0, 1] [0, 1, 4, 2, 3] rfl rfl (by decide) rfl rfl rfl d_Fo_put_88 (fun _ => wPu G h r a o b sn (nI len) f (nI (mm + E.length + fi)) (wr (wr g mm E) (mm + E.length) (sg f 0 fi))) (fun _ => rfl) (fun _ H locs hp hw => ?_)
    rw [wr_app rfl] at hw
    have hEl2 : (E ++ sg f 0 fi).length = E.length + fi := by rw [List.length_append, sg_len]
    refine lv_iconst (v := 0) hx hb d_Fo_put_91 (by decide) ?_
    refine lv_istore (lv' := [(8, .int 0), (7, .int (nI fi)), (6, .int (bI z)), (5, .int (nI (w - len))), (0, .ref h), (1, .ref o), (2, .int (nI w)), (3, .int (bI left)), (4, .int (bI zero))]) hx hb d_Fo_put_92 hl (by decide) rfl (fun ls hl => ?_)
    refine lp2 fi (E ++ sg f 0 fi) (fun q => by rw [hEl2, hEz q]; simp; omega) ?_ _ _ _ (by rw [hEl2, ← Nat.add_assoc]; exact hw) (lv_sub hl [0, 1, 2, 3, 4, 5, 6, 7, 8] rfl)
    intro i E2 hE2 H locs ls hw hl
    refine j118 i fi E2 hfi (by rw [hE2, hE]; rfl) ?_ _ _ _ hw hl
    rw [hE2, List.length_append, hEl2]
    cases z
    · simp; omega
    · rw [hEz rfl]; simp; omega
  have j44 : ∀ (fi : Nat), fi = (if z then sgl.length else 0) → ∀ (H : Heap) (locs : List Loc) (ls : Array Slot), gW G A s (wPu G h r a o b sn (nI len) f (nI mm) g) H locs → lv_has ls 9 [(6, .int (bI z)), (5, .int (nI (w - len))), (0, .ref h), (1, .ref o), (2, .int (nI w)), (3, .int (bI left)), (4, .int (bI zero))] → W p l e (rmL 2) s m args below meth c H locs 0 0 Q (F0 m 44 ls [.int (nI fi)]) := by
    intro fi hfi H locs ls hw hl
    refine lv_istore (lv' := [(7, .int (nI fi)), (6, .int (bI z)), (5, .int (nI (w - len))), (0, .ref h), (1, .ref o), (2, .int (nI w)), (3, .int (bI left)), (4, .int (bI zero))]) hx hb d_Fo_put_44 hl (by decide) rfl (fun ls hl => ?_)
    refine lv_iconst (v := 0) hx hb d_Fo_put_46 (by decide) ?_
    refine lv_istore (lv' := [(8, .int 0), (7, .int (nI fi)), (6, .int (bI z)), (5, .int (nI (w - len))), (0, .ref h), (1, .ref o), (2, .int (nI w)), (3, .int (bI left)), (4, .int (bI zero))]) hx hb d_Fo_put_47 hl (by decide) rfl (fun ls hl => ?_)
    refine lp1 fi [] (fun _ => by simp; omega) ?_ _ _ _ (by rw [wr_nil]; exact hw) (lv_sub hl [0, 1, 2, 3, 4, 5, 6, 7, 8] rfl)
    intro i E2 hE2 H locs ls hw hl
    exact j77 i fi E2 hfi (by rw [hE2]; cases left <;> cases z <;> rfl) _ _ _ hw hl
  have j29 : ∀ (_ : Unit), ∀ (H : Heap) (locs : List Loc) (ls : Array Slot), gW G A s (wPu G h r a o b sn (nI len) f (nI mm) g) H locs → lv_has ls 9 [(5, .int (nI (w - len))), (0, .ref h), (1, .ref o), (2, .int (nI w)), (3, .int (bI left)), (4, .int (bI zero))] → W p l e (rmL 2) s m args below meth c H locs 0 0 Q (F0 m 29 ls [.int (bI z)]) := by
    intro _ H locs ls hw hl
    refine lv_istore (lv' := [(6, .int (bI z)), (5, .int (nI (w - len))), (0, .ref h), (1, .ref o), (2, .int (nI w)), (3, .int (bI left)), (4, .int (bI zero))]) hx hb d_Fo_put_29 hl (by decide) rfl (fun ls hl => ?_)
    refine lv_iload hx hb d_Fo_put_31 (lv_at hl 0 rfl) ?_
    refine lv_if_eq (tgt := 43) hx hb d_Fo_put_33 (by decide) (fun cz => ?_) (fun cz => ?_)
    · have cz : z = false := bI_z cz
      refine lv_iconst (v := 0) hx hb d_Fo_put_43 (by decide) ?_
      exact j44 0 (by rw [cz]; rfl) _ _ _ hw (lv_sub hl [0, 1, 2, 3, 4, 5, 6] rfl)
    · have cz : z = true := bI_t cz
      refine lv_aload_n hx hb d_Fo_put_36 rfl (lv_at hl 2 rfl) ?_
      refine xget S hw fl_Fo_20 0 rfl rfl d_Fo_put_37 ?_
      refine lv_goto (tgt := 44) hx hb d_Fo_put_40 (by decide) ?_
      rw [hsn cz] at hw ⊢
      refine j44 sgl.length (by rw [cz]; rfl) _ _ _ ?_ (lv_sub hl [0, 1, 2, 3, 4, 5, 6] rfl)
      rw [hsn cz]; exact hw
  refine lv_if_eq (tgt := 28) hx hb d_Fo_put_17 (by decide) (fun cz => ?_) (fun cz => ?_)
  · have cz : zero = false := bI_z cz
    refine lv_iconst (v := 0) hx hb d_Fo_put_28 (by decide) ?_
    refine W.eq (by rw [show (0 : Int32) = bI z from by rw [hz, cz]; rfl]) (j29 () _ _ _ hw hl)
  · have cz : zero = true := bI_t cz
    refine lv_iload_n hx hb d_Fo_put_20 rfl (lv_at hl 4 rfl) ?_
    refine lv_if_ne (tgt := 28) hx hb d_Fo_put_21 (by decide) (fun cl => ?_) (fun cl => ?_)
    · have cl : left = true := bI_t cl
      refine lv_iconst (v := 0) hx hb d_Fo_put_28 (by decide) ?_
      refine W.eq (by rw [show (0 : Int32) = bI z from by rw [hz, cz, cl]; rfl]) (j29 () _ _ _ hw hl)
    · have cl : left = false := bI_z cl
      refine lv_iconst (v := 1) hx hb d_Fo_put_24 (by decide) ?_
      refine lv_goto (tgt := 29) hx hb d_Fo_put_25 (by decide) ?_
      refine W.eq (by rw [show (1 : Int32) = bI z from by rw [hz, cz, cl]; rfl]) (j29 () _ _ _ hw hl)
end
section
/-! ===== plain words for the small methods ===== -/
def endR (x : Int32) (L : Nat) : Bool := decide (0 ≤ x) && decide (x ≤ nI L)
def endL (x : Int32) (L : Nat) : Nat := if endR x L then x.toNatClampNeg else L
def fdAt (a b c d e : Int32) (k : Nat) : Int32 := b8 ((if k < 4 then a else if k < 8 then b else if k < 12 then c else if k < 16 then d else e) >>> (nI (24 - 8 * (k % 4)) &&& 31))
theorem fdAt_b8 (a b c d e : Int32) : By (fdAt a b c d e) := fun k => b8_b8 _
def adOk (M k : Nat) : Bool := !decide (M = 20) && decide (k ≤ 40)
def madeR (f : Nat → Int32) (N : Nat) (x : Int32) : Int32 := if 0 ≤ x ∧ x < nI N then f x.toNatClampNeg &&& 255 else -1
def fcC (t : Nat → Int32) (n j : Nat) : Int32 := if j < n then t j &&& 255 else -1
theorem nI_x {x : Int32} (h : 0 ≤ x) : x = nI x.toNatClampNeg ∧ x.toNatClampNeg < 2 ^ 31 := by
  obtain ⟨j, hj, rfl⟩ := nI_of (Int32.not_lt.mpr h)
  rw [nI_clamp hj]
  exact ⟨rfl, hj⟩
theorem b8_255 {x : Int32} (h : b8 x = x) {n : Nat} (hn : n < 128) : x &&& 255 = nI n ↔ x = nI n := by
  have e : (nI n).toInt8.toInt32 = nI n := by
    have : ∀ n, n < 128 → (nI n).toInt8.toInt32 = nI n := by decide
    exact this n hn
  rw [← sc_eq (b := x) h (by omega), e]
theorem upd_if {b : Bool} {f : Nat → Int32} {g : Nat → Int32} : (if b then f else g) = if b then f else g := rfl
end
section
set_option maxHeartbeats 4000000 in
set_option maxRecDepth 100000 in
theorem c_Mi_used (l : Launch) (G : gG) (ad : Nat → Nat) (sn : Int32) (fn : Int32) (ff : Nat → Int32) (on : Int32) (of : Nat → Int32) (hn : Int32) (hf : Nat → Int32) (fm : Nat → Int32) (fs : Int32) (wd : Nat → Int32) (sz : Nat → Int32) (mn : Int32) (tp : Nat → Int32) (vl : Int64) (L : Nat) : MetI (σ := Unit) l y_Mi_used (Cond.code y_Mi_used b_Mi_used 2 (some .int)) (rmL 0) 0 0 G [.ref (ad 0)] (wMi G ad sn fn ff on of hn hf fm fs wd sz mn tp (nI L) vl) X0 (fun r _ => r = nI L) (fun _ => wMi G ad sn fn ff on of hn hf fm fs wd sz mn tp (nI 0) vl) := by
  refine MetI.mk2 (by decide) (Nat.le_of_ble_eq_true rfl) ?_
  intro p e s m args below meth c A ls Q S hw hX hl kret
  have hx := S.1
  have hb := S.2.1
  have hl : lv_has ls 2 [(0, .ref (ad 0))] := hl
  generalize hH0 : s.heap = H at hw ⊢
  generalize hL0 : ([] : List Loc) = locs at hw ⊢
  refine lv_aload_n hx hb d_Mi_used_0 rfl (lv_at hl 0 rfl) ?_
  refine xget S hw fl_Mi_42 0 rfl rfl d_Mi_used_1 ?_
  refine lv_istore_n (lv' := [(1, .int (nI L)), (0, .ref (ad 0))]) hx hb d_Mi_used_4 rfl hl (by decide) rfl (fun ls hl => ?_)
  refine lv_aload_n hx hb d_Mi_used_5 rfl (lv_at hl 1 rfl) ?_
  refine lv_iconst (v := 0) hx hb d_Mi_used_6 (by decide) ?_
  refine xput S hw fl_Mi_42 0 rfl rfl rfl (Nat.le_of_ble_eq_true rfl) (ws' := wMi G ad sn fn ff on of hn hf fm fs wd sz mn tp 0 vl) rfl d_Mi_used_7 (fun H locs hw => ?_)
  refine lv_iload_n hx hb d_Mi_used_10 rfl (lv_at hl 0 rfl) ?_
  exact kret _ _ _ _ _ () hw rfl rfl d_Mi_used_11
set_option maxHeartbeats 4000000 in
set_option maxRecDepth 100000 in
theorem c_Mi_clear (l : Launch) (G : gG) (ad : Nat → Nat) (sn : Int32) (fn : Int32) (ff : Nat → Int32) (on : Int32) (of : Nat → Int32) (hn : Int32) (hf : Nat → Int32) (fm : Nat → Int32) (fs : Int32) (wd : Nat → Int32) (sz : Nat → Int32) (mn : Int32) (tp : Nat → Int32) (ln : Int32) (vl : Int64)  : MetV (σ := Unit) l y_Mi_clear (Cond.code y_Mi_clear b_Mi_clear 1 none) (rmL 0) 0 0 G [.ref (ad 0)] (wMi G ad sn fn ff on of hn hf fm fs wd sz mn tp ln vl) X0 (fun _ => True) (fun _ => wMi G ad sn fn ff on of hn hf fm fs wd sz (nI 0) tp ln vl) := by
  refine MetV.mk2 (by decide) (Nat.le_of_ble_eq_true rfl) ?_
  intro p e s m args below meth c A ls Q S hw hX hl hnm kret
  have hx := S.1
  have hb := S.2.1
  have hl : lv_has ls 1 [(0, .ref (ad 0))] := hl
  generalize hH0 : s.heap = H at hw ⊢
  generalize hL0 : ([] : List Loc) = locs at hw ⊢
  refine lv_aload_n hx hb d_Mi_clear_0 rfl (lv_at hl 0 rfl) ?_
  refine lv_iconst (v := 0) hx hb d_Mi_clear_1 (by decide) ?_
  refine xput S hw fl_Mi_59 0 rfl rfl rfl (Nat.le_of_ble_eq_true rfl) (ws' := wMi G ad sn fn ff on of hn hf fm fs wd sz 0 tp ln vl) rfl d_Mi_clear_2 (fun H locs hw => ?_)
  exact kret _ _ _ _ () hw trivial d_Mi_clear_5
set_option maxHeartbeats 4000000 in
set_option maxRecDepth 100000 in
theorem c_Mi_end (l : Launch) (G : gG) (ad : Nat → Nat) (sn : Int32) (fn : Int32) (ff : Nat → Int32) (on : Int32) (of : Nat → Int32) (hn : Int32) (hf : Nat → Int32) (fm : Nat → Int32) (fs : Int32) (wd : Nat → Int32) (sz : Nat → Int32) (mn : Int32) (tp : Nat → Int32) (vl : Int64) (L : Nat) (x : Int32) : MetI (σ := Unit) l y_Mi_end (Cond.code y_Mi_end b_Mi_end 2 (some .boolean)) (rmL 0) 0 0 G [.ref (ad 0), .int x] (wMi G ad sn fn ff on of hn hf fm fs wd sz mn tp (nI L) vl) X0 (fun r _ => r = bI (endR x L)) (fun _ => wMi G ad sn fn ff on of hn hf fm fs wd sz mn tp (nI (endL x L)) vl) := by
  refine MetI.mk2 (by decide) (Nat.le_of_ble_eq_true rfl) ?_
  intro p e s m args below meth c A ls Q S hw hX hl kret
  have hx := S.1
  have hb := S.2.1
  have hl : lv_has ls 2 [(0, .ref (ad 0)), (1, .int x)] := hl
  generalize hH0 : s.heap = H at hw ⊢
  generalize hL0 : ([] : List Loc) = locs at hw ⊢
  refine lv_iload_n hx hb d_Mi_end_0 rfl (lv_at hl 1 rfl) ?_
  refine lv_if_lt (tgt := 12) hx hb d_Mi_end_1 (by decide) (fun c1 => ?_) (fun c1 => ?_)
  · have hz : endR x L = false := by unfold endR; rw [decide_eq_false (Int32.not_le.mpr c1)]; rfl
    refine lv_iconst (v := 0) hx hb d_Mi_end_12 (by decide) ?_
    have hw : gW G A s (wMi G ad sn fn ff on of hn hf fm fs wd sz mn tp (nI (endL x L)) vl) H locs := by unfold endL; rw [hz]; exact hw
    exact kret _ _ _ _ _ () hw (by rw [hz]; rfl) rfl d_Mi_end_13
  · refine lv_iload_n hx hb d_Mi_end_4 rfl (lv_at hl 1 rfl) ?_
    refine lv_aload_n hx hb d_Mi_end_5 rfl (lv_at hl 0 rfl) ?_
    refine xget S hw fl_Mi_42 0 rfl rfl d_Mi_end_6 ?_
    refine lv_icmp_le (tgt := 14) hx hb d_Mi_end_9 (by decide) (fun c2 => ?_) (fun c2 => ?_)
    · have hz : endR x L = true := by unfold endR; rw [decide_eq_true (Int32.not_lt.mp c1), decide_eq_true c2]; rfl
      refine lv_aload_n hx hb d_Mi_end_14 rfl (lv_at hl 0 rfl) ?_
      refine lv_iload_n hx hb d_Mi_end_15 rfl (lv_at hl 1 rfl) ?_
      refine xput S hw fl_Mi_42 0 rfl rfl rfl (Nat.le_of_ble_eq_true rfl) (ws' := wMi G ad sn fn ff on of hn hf fm fs wd sz mn tp x vl) rfl d_Mi_end_16 (fun H locs hw => ?_)
      refine lv_iconst (v := 1) hx hb d_Mi_end_19 (by decide) ?_
      have hw : gW G A s (wMi G ad sn fn ff on of hn hf fm fs wd sz mn tp (nI (endL x L)) vl) H locs := by unfold endL; rw [hz, if_pos rfl, ← (nI_x (Int32.not_lt.mp c1)).1]; exact hw
      exact kret _ _ _ _ _ () hw (by rw [hz]; rfl) rfl d_Mi_end_20
    · have hz : endR x L = false := by unfold endR; rw [decide_eq_false c2, Bool.and_false]
      refine lv_iconst (v := 0) hx hb d_Mi_end_12 (by decide) ?_
      have hw : gW G A s (wMi G ad sn fn ff on of hn hf fm fs wd sz mn tp (nI (endL x L)) vl) H locs := by unfold endL; rw [hz]; exact hw
      exact kret _ _ _ _ _ () hw (by rw [hz]; rfl) rfl d_Mi_end_13
set_option maxHeartbeats 4000000 in
set_option maxRecDepth 100000 in
theorem c_Mi_feed (l : Launch) (G : gG) (ad : Nat → Nat) (sn : Int32) (fn : Int32) (ff : Nat → Int32) (on : Int32) (of : Nat → Int32) (hn : Int32) (hf : Nat → Int32) (fm : Nat → Int32) (fs : Int32) (wd : Nat → Int32) (sz : Nat → Int32) (mn : Int32) (tp : Nat → Int32) (vl : Int64) (L : Nat) (hL : L ≤ 400) (x1 x2 x3 x4 x5 : Int32) : MetI (σ := Unit) l y_Mi_feed (Cond.code y_Mi_feed b_Mi_feed 8 (some .boolean)) (rmL 0) 0 0 G [.ref (ad 0), .int x1, .int x2, .int x3, .int x4, .int x5] (wMi G ad sn fn ff on of hn hf fm fs wd sz mn tp (nI L) vl) X0 (fun r _ => r = if L + 20 ≤ 400 then 1 else 0) (fun _ => wMi G ad sn fn ff on of hn hf fm fs wd sz mn (if L + 20 ≤ 400 then wr tp L (sg (fdAt x1 x2 x3 x4 x5) 0 20) else tp) (nI (if L + 20 ≤ 400 then L + 20 else L)) vl) := by
  refine MetI.mk2 (by decide) (Nat.le_of_ble_eq_true rfl) ?_
  intro p e s m args below meth c A ls Q S hw hX hl kret
  have hx := S.1
  have hb := S.2.1
  have hl : lv_has ls 8 [(0, .ref (ad 0)), (1, .int x1), (2, .int x2), (3, .int x3), (4, .int x4), (5, .int x5)] := hl
  generalize hH0 : s.heap = H at hw ⊢
  generalize hL0 : ([] : List Loc) = locs at hw ⊢
  refine lv_aload_n hx hb d_Mi_feed_0 rfl (lv_at hl 0 rfl) ?_
  refine xget S hw fl_Mi_42 0 rfl rfl d_Mi_feed_1 ?_
  refine lv_bipush (v := 20) hx hb d_Mi_feed_4 (by decide) ?_
  refine lv_iadd hx hb d_Mi_feed_6 ?_
  refine tpi (y := nI (L + 20)) (nI_add L 20) ?_
  refine lv_sipush (v := 400) hx hb d_Mi_feed_7 (by decide) ?_
  refine lv_icmp_le (tgt := 15) hx hb d_Mi_feed_10 (by decide) (fun c1 => ?_) (fun c1 => ?_)
  · have c1 : (L + 20) ≤ 400 := (nI_leI (a := (L + 20)) (b := 400) (by omega) (by omega)).mp c1
    rw [if_pos c1, if_pos c1, if_pos c1] at kret
    refine lv_iconst (v := 0) hx hb d_Mi_feed_15 (by decide) ?_
    refine lv_istore (lv' := [(6, .int 0), (0, .ref (ad 0)), (1, .int x1), (2, .int x2), (3, .int x3), (4, .int x4), (5, .int x5)]) hx hb d_Mi_feed_16 hl (by decide) rfl (fun ls hl => ?_)
    have lp : ∀ (d k : Nat), k + d = 20 → ∀ (H : Heap) (locs : List Loc) (ls : Array Slot), gW G A s (wMi G ad sn fn ff on of hn hf fm fs wd sz mn (wr tp L (sg (fdAt x1 x2 x3 x4 x5) 0 k)) (nI (L + k)) vl) H locs → lv_has ls 8 [(6, .int (nI k)), (0, .ref (ad 0)), (1, .int x1), (2, .int x2), (3, .int x3), (4, .int x4), (5, .int x5)] → W p l e (rmL 0) s m args below meth c H locs 0 0 Q (F0 m 18 ls []) := by
      intro d
      induction d with
      | zero =>
        intro k hk H locs ls hw hl
        obtain rfl : k = 20 := by omega
        refine lv_iload hx hb d_Mi_feed_18 (lv_at hl 0 rfl) ?_
        refine lv_bipush (v := 20) hx hb d_Mi_feed_20 (by decide) ?_
        refine lv_icmp_ge (tgt := 112) hx hb d_Mi_feed_22 (by decide) (fun _ => ?_) (fun q => absurd (by decide) q)
        refine lv_iconst (v := 1) hx hb d_Mi_feed_112 (by decide) ?_
        exact kret _ _ _ _ _ () hw rfl rfl d_Mi_feed_113
      | succ d ih =>
        intro k hk H locs ls hw hl
        refine lv_iload hx hb d_Mi_feed_18 (lv_at hl 0 rfl) ?_
        refine lv_bipush (v := 20) hx hb d_Mi_feed_20 (by decide) ?_
        refine lv_icmp_ge (tgt := 112) hx hb d_Mi_feed_22 (by decide) (fun q => absurd q (fun q => by have := (nI_leI (a := 20) (b := k) (by omega) (by omega)).mp q; omega)) (fun _ => ?_)
        have j71 : ∀ (v : Int32), v = (if k < 4 then x1 else if k < 8 then x2 else if k < 12 then x3 else if k < 16 then x4 else x5) → ∀ (H : Heap) (locs : List Loc) (ls : Array Slot), gW G A s (wMi G ad sn fn ff on of hn hf fm fs wd sz mn (wr tp L (sg (fdAt x1 x2 x3 x4 x5) 0 k)) (nI (L + k)) vl) H locs → lv_has ls 8 [(6, .int (nI k)), (0, .ref (ad 0)), (1, .int x1), (2, .int x2), (3, .int x3), (4, .int x4), (5, .int x5)] → W p l e (rmL 0) s m args below meth c H locs 0 0 Q (F0 m 71 ls [.int v]) := by
          intro v hv H locs ls hw hl
          refine lv_istore (lv' := [(7, .int v), (6, .int (nI k)), (0, .ref (ad 0)), (1, .int x1), (2, .int x2), (3, .int x3), (4, .int x4), (5, .int x5)]) hx hb d_Mi_feed_71 hl (by decide) rfl (fun ls hl => ?_)
          refine lv_aload_n hx hb d_Mi_feed_73 rfl (lv_at hl 2 rfl) ?_
          refine xget S hw fl_Mi_39 0 rfl rfl d_Mi_feed_74 ?_
          refine lv_aload_n hx hb d_Mi_feed_77 rfl (lv_at hl 2 rfl) ?_
          refine xget S hw fl_Mi_42 0 rfl rfl d_Mi_feed_78 ?_
          refine lv_iload hx hb d_Mi_feed_81 (lv_at hl 0 rfl) ?_
          refine lv_bipush (v := 24) hx hb d_Mi_feed_83 (by decide) ?_
          refine lv_bipush (v := 8) hx hb d_Mi_feed_85 (by decide) ?_
          refine lv_iload hx hb d_Mi_feed_87 (lv_at hl 1 rfl) ?_
          refine lv_iconst (v := 4) hx hb d_Mi_feed_89 (by decide) ?_
          refine lv_irem hx hb d_Mi_feed_90 (by decide) ?_
          refine tpi (y := nI (k % 4)) (pk_rem (by omega) (by decide) (by decide)) ?_
          refine lv_imul hx hb d_Mi_feed_91 ?_
          refine tpi (y := nI (8 * (k % 4))) (pk_mul 8 (k % 4)) ?_
          refine lv_isub hx hb d_Mi_feed_92 ?_
          refine tpi (y := nI (24 - 8 * (k % 4))) (pk_sub (a := 24) (by omega)) ?_
          refine lv_ishr hx hb d_Mi_feed_93 ?_
          refine lv_i2b hx hb d_Mi_feed_94 rfl ?_
          refine xbast S hw 11 rfl (j := (L + k)) (y := b8 (v >>> ((nI (24 - 8 * (k % 4))) &&& 31))) (by omega) (by decide) (b8_b8 _) (ws' := wMi G ad sn fn ff on of hn hf fm fs wd sz mn (upd (wr tp L (sg (fdAt x1 x2 x3 x4 x5) 0 k)) (L + k) (b8 (v >>> ((nI (24 - 8 * (k % 4))) &&& 31)))) (nI (L + k)) vl) rfl d_Mi_feed_95 (fun H locs hw => ?_)
          refine lv_aload_n hx hb d_Mi_feed_96 rfl (lv_at hl 2 rfl) ?_
          refine lv_dup hx hb d_Mi_feed_97 rfl ?_
          refine xget S hw fl_Mi_42 0 rfl rfl d_Mi_feed_98 ?_
          refine lv_iconst (v := 1) hx hb d_Mi_feed_101 (by decide) ?_
          refine lv_iadd hx hb d_Mi_feed_102 ?_
          refine tpi (y := nI ((L + k) + 1)) (nI_add (L + k) 1) ?_
          refine xput S hw fl_Mi_42 0 rfl rfl rfl (Nat.le_of_ble_eq_true rfl) (ws' := wMi G ad sn fn ff on of hn hf fm fs wd sz mn (upd (wr tp L (sg (fdAt x1 x2 x3 x4 x5) 0 k)) (L + k) (b8 (v >>> ((nI (24 - 8 * (k % 4))) &&& 31)))) (nI ((L + k) + 1)) vl) rfl d_Mi_feed_103 (fun H locs hw => ?_)
          refine lv_iinc (v := nI (k + 1)) (lv' := [(6, .int (nI (k + 1))), (7, .int v), (0, .ref (ad 0)), (1, .int x1), (2, .int x2), (3, .int x3), (4, .int x4), (5, .int x5)]) hx hb d_Mi_feed_106 hl (k := 1) rfl (nI_1 k) (by decide) rfl (fun ls hl => ?_)
          refine lv_goto (tgt := 18) hx hb d_Mi_feed_109 (by decide) ?_
          have e1 : upd (wr tp L (sg (fdAt x1 x2 x3 x4 x5) 0 k)) (L + k) (b8 (v >>> (nI (24 - 8 * (k % 4)) &&& 31))) = wr tp L (sg (fdAt x1 x2 x3 x4 x5) 0 (k + 1)) := by
            rw [wr_upd, hv, wr_app (by rw [sg_len]), sg_succ, Nat.zero_add]
            rfl
          rw [e1] at hw
          exact ih (k + 1) (by omega) _ _ _ hw (lv_sub hl [0, 2, 3, 4, 5, 6, 7] rfl)
        refine lv_iload hx hb d_Mi_feed_25 (lv_at hl 0 rfl) ?_
        refine lv_iconst (v := 4) hx hb d_Mi_feed_27 (by decide) ?_
        refine lv_icmp_ge (tgt := 35) hx hb d_Mi_feed_28 (by decide) (fun d0 => ?_) (fun d0 => ?_)
        · have d0 : 4 ≤ k := (nI_leI (a := 4) (b := k) (by omega) (by omega)).mp d0
          refine lv_iload hx hb d_Mi_feed_35 (lv_at hl 0 rfl) ?_
          refine lv_bipush (v := 8) hx hb d_Mi_feed_37 (by decide) ?_
          refine lv_icmp_ge (tgt := 46) hx hb d_Mi_feed_39 (by decide) (fun d1 => ?_) (fun d1 => ?_)
          · have d1 : 8 ≤ k := (nI_leI (a := 8) (b := k) (by omega) (by omega)).mp d1
            refine lv_iload hx hb d_Mi_feed_46 (lv_at hl 0 rfl) ?_
            refine lv_bipush (v := 12) hx hb d_Mi_feed_48 (by decide) ?_
            refine lv_icmp_ge (tgt := 57) hx hb d_Mi_feed_50 (by decide) (fun d2 => ?_) (fun d2 => ?_)
            · have d2 : 12 ≤ k := (nI_leI (a := 12) (b := k) (by omega) (by omega)).mp d2
              refine lv_iload hx hb d_Mi_feed_57 (lv_at hl 0 rfl) ?_
              refine lv_bipush (v := 16) hx hb d_Mi_feed_59 (by decide) ?_
              refine lv_icmp_ge (tgt := 69) hx hb d_Mi_feed_61 (by decide) (fun d3 => ?_) (fun d3 => ?_)
              · have d3 : 16 ≤ k := (nI_leI (a := 16) (b := k) (by omega) (by omega)).mp d3
                refine lv_iload hx hb d_Mi_feed_69 (lv_at hl 6 rfl) ?_
                exact j71 _ (by rw [if_neg (show ¬ k < 4 by omega), if_neg (show ¬ k < 8 by omega), if_neg (show ¬ k < 12 by omega), if_neg (show ¬ k < 16 by omega)]) _ _ _ hw hl
              · have d3 : ¬ 16 ≤ k := fun q => d3 ((nI_leI (a := 16) (b := k) (by omega) (by omega)).mpr q)
                refine lv_iload hx hb d_Mi_feed_64 (lv_at hl 5 rfl) ?_
                refine lv_goto (tgt := 71) hx hb d_Mi_feed_66 (by decide) ?_
                exact j71 _ (by rw [if_neg (show ¬ k < 4 by omega), if_neg (show ¬ k < 8 by omega), if_neg (show ¬ k < 12 by omega), if_pos (show k < 16 by omega)]) _ _ _ hw hl
            · have d2 : ¬ 12 ≤ k := fun q => d2 ((nI_leI (a := 12) (b := k) (by omega) (by omega)).mpr q)
              refine lv_iload_n hx hb d_Mi_feed_53 rfl (lv_at hl 4 rfl) ?_
              refine lv_goto (tgt := 71) hx hb d_Mi_feed_54 (by decide) ?_
              exact j71 _ (by rw [if_neg (show ¬ k < 4 by omega), if_neg (show ¬ k < 8 by omega), if_pos (show k < 12 by omega)]) _ _ _ hw hl
          · have d1 : ¬ 8 ≤ k := fun q => d1 ((nI_leI (a := 8) (b := k) (by omega) (by omega)).mpr q)
            refine lv_iload_n hx hb d_Mi_feed_42 rfl (lv_at hl 3 rfl) ?_
            refine lv_goto (tgt := 71) hx hb d_Mi_feed_43 (by decide) ?_
            exact j71 _ (by rw [if_neg (show ¬ k < 4 by omega), if_pos (show k < 8 by omega)]) _ _ _ hw hl
        · have d0 : ¬ 4 ≤ k := fun q => d0 ((nI_leI (a := 4) (b := k) (by omega) (by omega)).mpr q)
          refine lv_iload_n hx hb d_Mi_feed_31 rfl (lv_at hl 2 rfl) ?_
          refine lv_goto (tgt := 71) hx hb d_Mi_feed_32 (by decide) ?_
          exact j71 _ (by rw [if_pos (show k < 4 by omega)]) _ _ _ hw hl
    exact lp 20 0 (by omega) _ _ _ (by rw [sg_zero, wr_nil]; exact hw) hl
  · have c1 : ¬ (L + 20) ≤ 400 := fun q => c1 ((nI_leI (a := (L + 20)) (b := 400) (by omega) (by omega)).mpr q)
    rw [if_neg c1, if_neg c1, if_neg c1] at kret
    refine lv_iconst (v := 0) hx hb d_Mi_feed_13 (by decide) ?_
    exact kret _ _ _ _ _ () hw rfl rfl d_Mi_feed_14
set_option maxHeartbeats 4000000 in
set_option maxRecDepth 100000 in
theorem c_Mi_format (l : Launch) (G : gG) (ad : Nat → Nat) (sn : Int32) (fn : Int32) (ff : Nat → Int32) (on : Int32) (of : Nat → Int32) (hn : Int32) (hf : Nat → Int32) (fm : Nat → Int32) (fs : Int32) (wd : Nat → Int32) (sz : Nat → Int32) (mn : Int32) (tp : Nat → Int32) (vl : Int64) (L : Nat) (hL : L ≤ 400) (hb8 : By tp) : MetI (σ := Unit) l y_Mi_format (Cond.code y_Mi_format b_Mi_format 1 (some .int)) (rmL 1) 0 0 G [.ref (ad 0)] (wMi G ad sn fn ff on of hn hf fm fs wd sz mn tp (nI L) vl) X0 (fun r _ => r = nI L) (fun _ => wMi G ad sn fn ff on of hn hf (wr fm 0 (sg tp 0 L)) (nI L) wd sz mn tp (nI 0) vl) := by
  refine MetI.mk2 (by decide) (Nat.le_of_ble_eq_true rfl) ?_
  intro p e s m args below meth c A ls Q S hw hX hl kret
  have hx := S.1
  have hb := S.2.1
  have hl : lv_has ls 1 [(0, .ref (ad 0))] := hl
  generalize hH0 : s.heap = H at hw ⊢
  generalize hL0 : ([] : List Loc) = locs at hw ⊢
  refine lv_aload_n hx hb d_Mi_format_0 rfl (lv_at hl 0 rfl) ?_
  refine lv_aload_n hx hb d_Mi_format_1 rfl (lv_at hl 0 rfl) ?_
  refine zVi (As := []) (rest := [.ref (ad 0)]) S hw hl.1 vl_Mi_46 (c_Mi_used l G ad sn fn ff on of hn hf fm fs wd sz mn tp vl L) 0 rfl rfl rfl ⟨rfl, rfl⟩ [0, 1, 2, 3, 4, 5, 6, 7, 8, 9, 10, 11] [] [0, 1, 2, 3, 4, 5, 6, 7, 8, 9, 10, 11] rfl rfl (by decide) rfl rfl rfl d_Mi_format_2 (fun _ => wMi G ad sn fn ff on of hn hf fm fs wd sz mn tp (nI 0) vl) (fun _ => rfl) (fun r_2 _ H locs hp hw => ?_)
  subst hp
  refine xput S hw fl_Mi_50 0 rfl rfl rfl (Nat.le_of_ble_eq_true rfl) (ws' := wMi G ad sn fn ff on of hn hf fm (nI L) wd sz mn tp (nI 0) vl) rfl d_Mi_format_5 (fun H locs hw => ?_)
  refine lv_aload_n hx hb d_Mi_format_8 rfl (lv_at hl 0 rfl) ?_
  refine xget S hw fl_Mi_39 0 rfl rfl d_Mi_format_9 ?_
  refine lv_iconst (v := 0) hx hb d_Mi_format_12 (by decide) ?_
  refine lv_aload_n hx hb d_Mi_format_13 rfl (lv_at hl 0 rfl) ?_
  refine xget S hw fl_Mi_28 0 rfl rfl d_Mi_format_14 ?_
  refine lv_iconst (v := 0) hx hb d_Mi_format_17 (by decide) ?_
  refine lv_aload_n hx hb d_Mi_format_18 rfl (lv_at hl 0 rfl) ?_
  refine xget S hw fl_Mi_50 0 rfl rfl d_Mi_format_19 ?_
  refine xcopy S hw hl.1 k_105 11 8 rfl rfl (sp := 0) (dp := 0) (k := L) (by omega) (by omega) (by decide) (by decide) hb8 (ws' := wMi G ad sn fn ff on of hn hf (va_cpy tp fm 0 0 L) (nI L) wd sz mn tp (nI 0) vl) rfl (Nat.le_of_ble_eq_true rfl) (Nat.le_of_ble_eq_true rfl) d_Mi_format_22 (fun H locs hw => ?_)
  refine lv_aload_n hx hb d_Mi_format_25 rfl (lv_at hl 0 rfl) ?_
  refine xget S hw fl_Mi_50 0 rfl rfl d_Mi_format_26 ?_
  rw [cpy_wr] at hw
  exact kret _ _ _ _ _ () hw rfl rfl d_Mi_format_29
set_option maxHeartbeats 4000000 in
set_option maxRecDepth 100000 in
theorem c_Mi_addT (l : Launch) (G : gG) (ad : Nat → Nat) (sn : Int32) (fn : Int32) (ff : Nat → Int32) (on : Int32) (of : Nat → Int32) (hn : Int32) (hf : Nat → Int32) (fm : Nat → Int32) (fs : Int32) (wd : Nat → Int32) (sz : Nat → Int32) (tp : Nat → Int32) (ln : Int32) (vl : Int64) (M k : Nat) (hM : M ≤ 20) (hk : k ≤ 400) (hb8 : By tp) : MetI (σ := Unit) l y_Mi_add (Cond.code y_Mi_add b_Mi_add 3 (some .int)) (rmL 0) 0 0 G [.ref (ad 0), .ref (ad 11), .int (nI k)] (wMi G ad sn fn ff on of hn hf fm fs wd sz (nI M) tp ln vl) X0 (fun r _ => r = if adOk M k then nI M else -1) (fun _ => wMi G ad sn fn ff on of hn hf fm fs (if adOk M k then wr wd (40 * M) (sg tp 0 k) else wd) (if adOk M k then upd sz M (nI k) else sz) (nI (if adOk M k then M + 1 else M)) tp ln vl) := by
  refine MetI.mk2 (by decide) (Nat.le_of_ble_eq_true rfl) ?_
  intro p e s m args below meth c A ls Q S hw hX hl kret
  have hx := S.1
  have hb := S.2.1
  have hl : lv_has ls 3 [(0, .ref (ad 0)), (1, .ref (ad 11)), (2, .int (nI k))] := hl
  generalize hH0 : s.heap = H at hw ⊢
  generalize hL0 : ([] : List Loc) = locs at hw ⊢
  refine lv_aload_n hx hb d_Mi_add_0 rfl (lv_at hl 0 rfl) ?_
  refine xget S hw fl_Mi_59 0 rfl rfl d_Mi_add_1 ?_
  refine lv_bipush (v := 20) hx hb d_Mi_add_4 (by decide) ?_
  refine lv_icmp_eq (tgt := 15) hx hb d_Mi_add_6 (by decide) (fun c1 => ?_) (fun c1 => ?_)
  · have c1 : M = 20 := (nI_eq (a := M) (b := 20) (by omega) (by omega)).mp c1
    have hz : adOk M k = false := by unfold adOk; rw [decide_eq_true c1]; rfl
    rw [hz] at kret
    refine lv_iconst (v := (-1)) hx hb d_Mi_add_15 (by decide) ?_
    exact kret _ _ _ _ _ () hw rfl rfl d_Mi_add_16
  · have c1 : ¬ M = 20 := fun q => c1 ((nI_eq (a := M) (b := 20) (by omega) (by omega)).mpr q)
    refine lv_iload_n hx hb d_Mi_add_9 rfl (lv_at hl 2 rfl) ?_
    refine lv_bipush (v := 40) hx hb d_Mi_add_10 (by decide) ?_
    refine lv_icmp_le (tgt := 17) hx hb d_Mi_add_12 (by decide) (fun c2 => ?_) (fun c2 => ?_)
    · have c2 : k ≤ 40 := (nI_leI (a := k) (b := 40) (by omega) (by omega)).mp c2
      have hz : adOk M k = true := by unfold adOk; rw [decide_eq_false c1, decide_eq_true c2]; rfl
      rw [hz] at kret
      refine lv_aload_n hx hb d_Mi_add_17 rfl (lv_at hl 1 rfl) ?_
      refine lv_iconst (v := 0) hx hb d_Mi_add_18 (by decide) ?_
      refine lv_aload_n hx hb d_Mi_add_19 rfl (lv_at hl 0 rfl) ?_
      refine xget S hw fl_Mi_32 0 rfl rfl d_Mi_add_20 ?_
      refine lv_bipush (v := 40) hx hb d_Mi_add_23 (by decide) ?_
      refine lv_aload_n hx hb d_Mi_add_25 rfl (lv_at hl 0 rfl) ?_
      refine xget S hw fl_Mi_59 0 rfl rfl d_Mi_add_26 ?_
      refine lv_imul hx hb d_Mi_add_29 ?_
      refine tpi (y := nI (40 * M)) (pk_mul 40 M) ?_
      refine lv_iload_n hx hb d_Mi_add_30 rfl (lv_at hl 2 rfl) ?_
      refine xcopy S hw hl.1 k_105 11 9 rfl rfl (sp := 0) (dp := 40 * M) (k := k) (by omega) (by omega) (by decide) (by decide) hb8 (ws' := wMi G ad sn fn ff on of hn hf fm fs (va_cpy tp wd 0 (40 * M) k) sz (nI M) tp ln vl) rfl (Nat.le_of_ble_eq_true rfl) (Nat.le_of_ble_eq_true rfl) d_Mi_add_31 (fun H locs hw => ?_)
      refine lv_aload_n hx hb d_Mi_add_34 rfl (lv_at hl 0 rfl) ?_
      refine xget S hw fl_Mi_35 0 rfl rfl d_Mi_add_35 ?_
      refine lv_aload_n hx hb d_Mi_add_38 rfl (lv_at hl 0 rfl) ?_
      refine xget S hw fl_Mi_59 0 rfl rfl d_Mi_add_39 ?_
      refine lv_iload_n hx hb d_Mi_add_42 rfl (lv_at hl 2 rfl) ?_
      refine xiast S hw 10 rfl (j := M) (by omega) (by decide) (ws' := wMi G ad sn fn ff on of hn hf fm fs (va_cpy tp wd 0 (40 * M) k) (upd sz M (nI k)) (nI M) tp ln vl) rfl d_Mi_add_43 (fun H locs hw => ?_)
      refine lv_aload_n hx hb d_Mi_add_44 rfl (lv_at hl 0 rfl) ?_
      refine lv_dup hx hb d_Mi_add_45 rfl ?_
      refine xget S hw fl_Mi_59 0 rfl rfl d_Mi_add_46 ?_
      refine lv_iconst (v := 1) hx hb d_Mi_add_49 (by decide) ?_
      refine lv_iadd hx hb d_Mi_add_50 ?_
      refine tpi (y := nI (M + 1)) (nI_add M 1) ?_
      refine xput S hw fl_Mi_59 0 rfl rfl rfl (Nat.le_of_ble_eq_true rfl) (ws' := wMi G ad sn fn ff on of hn hf fm fs (va_cpy tp wd 0 (40 * M) k) (upd sz M (nI k)) (nI (M + 1)) tp ln vl) rfl d_Mi_add_51 (fun H locs hw => ?_)
      refine lv_aload_n hx hb d_Mi_add_54 rfl (lv_at hl 0 rfl) ?_
      refine xget S hw fl_Mi_59 0 rfl rfl d_Mi_add_55 ?_
      refine lv_iconst (v := 1) hx hb d_Mi_add_58 (by decide) ?_
      refine lv_isub hx hb d_Mi_add_59 ?_
      refine tpi (y := nI M) (nI_pred M) ?_
      rw [cpy_wr] at hw
      exact kret _ _ _ _ _ () hw rfl rfl d_Mi_add_60
    · have c2 : ¬ k ≤ 40 := fun q => c2 ((nI_leI (a := k) (b := 40) (by omega) (by omega)).mpr q)
      have hz : adOk M k = false := by unfold adOk; rw [decide_eq_false c2, Bool.and_false]
      rw [hz] at kret
      refine lv_iconst (v := (-1)) hx hb d_Mi_add_15 (by decide) ?_
      exact kret _ _ _ _ _ () hw rfl rfl d_Mi_add_16
set_option maxHeartbeats 4000000 in
set_option maxRecDepth 100000 in
theorem c_Mi_addH (l : Launch) (G : gG) (ad : Nat → Nat) (sn : Int32) (fn : Int32) (ff : Nat → Int32) (on : Int32) (of : Nat → Int32) (hn : Int32) (hf : Nat → Int32) (fm : Nat → Int32) (fs : Int32) (wd : Nat → Int32) (sz : Nat → Int32) (tp : Nat → Int32) (ln : Int32) (vl : Int64) (M k : Nat) (hM : M ≤ 20) (hk : k ≤ 64) (hb8 : By hf) : MetI (σ := Unit) l y_Mi_add (Cond.code y_Mi_add b_Mi_add 3 (some .int)) (rmL 0) 0 0 G [.ref (ad 0), .ref (ad 7), .int (nI k)] (wMi G ad sn fn ff on of hn hf fm fs wd sz (nI M) tp ln vl) X0 (fun r _ => r = if adOk M k then nI M else -1) (fun _ => wMi G ad sn fn ff on of hn hf fm fs (if adOk M k then wr wd (40 * M) (sg hf 0 k) else wd) (if adOk M k then upd sz M (nI k) else sz) (nI (if adOk M k then M + 1 else M)) tp ln vl) := by
  refine MetI.mk2 (by decide) (Nat.le_of_ble_eq_true rfl) ?_
  intro p e s m args below meth c A ls Q S hw hX hl kret
  have hx := S.1
  have hb := S.2.1
  have hl : lv_has ls 3 [(0, .ref (ad 0)), (1, .ref (ad 7)), (2, .int (nI k))] := hl
  generalize hH0 : s.heap = H at hw ⊢
  generalize hL0 : ([] : List Loc) = locs at hw ⊢
  refine lv_aload_n hx hb d_Mi_add_0 rfl (lv_at hl 0 rfl) ?_
  refine xget S hw fl_Mi_59 0 rfl rfl d_Mi_add_1 ?_
  refine lv_bipush (v := 20) hx hb d_Mi_add_4 (by decide) ?_
  refine lv_icmp_eq (tgt := 15) hx hb d_Mi_add_6 (by decide) (fun c1 => ?_) (fun c1 => ?_)
  · have c1 : M = 20 := (nI_eq (a := M) (b := 20) (by omega) (by omega)).mp c1
    have hz : adOk M k = false := by unfold adOk; rw [decide_eq_true c1]; rfl
    rw [hz] at kret
    refine lv_iconst (v := (-1)) hx hb d_Mi_add_15 (by decide) ?_
    exact kret _ _ _ _ _ () hw rfl rfl d_Mi_add_16
  · have c1 : ¬ M = 20 := fun q => c1 ((nI_eq (a := M) (b := 20) (by omega) (by omega)).mpr q)
    refine lv_iload_n hx hb d_Mi_add_9 rfl (lv_at hl 2 rfl) ?_
    refine lv_bipush (v := 40) hx hb d_Mi_add_10 (by decide) ?_
    refine lv_icmp_le (tgt := 17) hx hb d_Mi_add_12 (by decide) (fun c2 => ?_) (fun c2 => ?_)
    · have c2 : k ≤ 40 := (nI_leI (a := k) (b := 40) (by omega) (by omega)).mp c2
      have hz : adOk M k = true := by unfold adOk; rw [decide_eq_false c1, decide_eq_true c2]; rfl
      rw [hz] at kret
      refine lv_aload_n hx hb d_Mi_add_17 rfl (lv_at hl 1 rfl) ?_
      refine lv_iconst (v := 0) hx hb d_Mi_add_18 (by decide) ?_
      refine lv_aload_n hx hb d_Mi_add_19 rfl (lv_at hl 0 rfl) ?_
      refine xget S hw fl_Mi_32 0 rfl rfl d_Mi_add_20 ?_
      refine lv_bipush (v := 40) hx hb d_Mi_add_23 (by decide) ?_
      refine lv_aload_n hx hb d_Mi_add_25 rfl (lv_at hl 0 rfl) ?_
      refine xget S hw fl_Mi_59 0 rfl rfl d_Mi_add_26 ?_
      refine lv_imul hx hb d_Mi_add_29 ?_
      refine tpi (y := nI (40 * M)) (pk_mul 40 M) ?_
      refine lv_iload_n hx hb d_Mi_add_30 rfl (lv_at hl 2 rfl) ?_
      refine xcopy S hw hl.1 k_105 7 9 rfl rfl (sp := 0) (dp := 40 * M) (k := k) (by omega) (by omega) (by decide) (by decide) hb8 (ws' := wMi G ad sn fn ff on of hn hf fm fs (va_cpy hf wd 0 (40 * M) k) sz (nI M) tp ln vl) rfl (Nat.le_of_ble_eq_true rfl) (Nat.le_of_ble_eq_true rfl) d_Mi_add_31 (fun H locs hw => ?_)
      refine lv_aload_n hx hb d_Mi_add_34 rfl (lv_at hl 0 rfl) ?_
      refine xget S hw fl_Mi_35 0 rfl rfl d_Mi_add_35 ?_
      refine lv_aload_n hx hb d_Mi_add_38 rfl (lv_at hl 0 rfl) ?_
      refine xget S hw fl_Mi_59 0 rfl rfl d_Mi_add_39 ?_
      refine lv_iload_n hx hb d_Mi_add_42 rfl (lv_at hl 2 rfl) ?_
      refine xiast S hw 10 rfl (j := M) (by omega) (by decide) (ws' := wMi G ad sn fn ff on of hn hf fm fs (va_cpy hf wd 0 (40 * M) k) (upd sz M (nI k)) (nI M) tp ln vl) rfl d_Mi_add_43 (fun H locs hw => ?_)
      refine lv_aload_n hx hb d_Mi_add_44 rfl (lv_at hl 0 rfl) ?_
      refine lv_dup hx hb d_Mi_add_45 rfl ?_
      refine xget S hw fl_Mi_59 0 rfl rfl d_Mi_add_46 ?_
      refine lv_iconst (v := 1) hx hb d_Mi_add_49 (by decide) ?_
      refine lv_iadd hx hb d_Mi_add_50 ?_
      refine tpi (y := nI (M + 1)) (nI_add M 1) ?_
      refine xput S hw fl_Mi_59 0 rfl rfl rfl (Nat.le_of_ble_eq_true rfl) (ws' := wMi G ad sn fn ff on of hn hf fm fs (va_cpy hf wd 0 (40 * M) k) (upd sz M (nI k)) (nI (M + 1)) tp ln vl) rfl d_Mi_add_51 (fun H locs hw => ?_)
      refine lv_aload_n hx hb d_Mi_add_54 rfl (lv_at hl 0 rfl) ?_
      refine xget S hw fl_Mi_59 0 rfl rfl d_Mi_add_55 ?_
      refine lv_iconst (v := 1) hx hb d_Mi_add_58 (by decide) ?_
      refine lv_isub hx hb d_Mi_add_59 ?_
      refine tpi (y := nI M) (nI_pred M) ?_
      rw [cpy_wr] at hw
      exact kret _ _ _ _ _ () hw rfl rfl d_Mi_add_60
    · have c2 : ¬ k ≤ 40 := fun q => c2 ((nI_leI (a := k) (b := 40) (by omega) (by omega)).mpr q)
      have hz : adOk M k = false := by unfold adOk; rw [decide_eq_false c2, Bool.and_false]
      rw [hz] at kret
      refine lv_iconst (v := (-1)) hx hb d_Mi_add_15 (by decide) ?_
      exact kret _ _ _ _ _ () hw rfl rfl d_Mi_add_16
set_option maxHeartbeats 4000000 in
set_option maxRecDepth 100000 in
theorem c_Mi_argument (l : Launch) (G : gG) (ad : Nat → Nat) (sn : Int32) (fn : Int32) (ff : Nat → Int32) (on : Int32) (of : Nat → Int32) (hn : Int32) (hf : Nat → Int32) (fm : Nat → Int32) (fs : Int32) (wd : Nat → Int32) (sz : Nat → Int32) (tp : Nat → Int32) (vl : Int64) (M L : Nat) (hM : M ≤ 20) (hL : L ≤ 400) (hb8 : By tp) : MetI (σ := Unit) l y_Mi_argument (Cond.code y_Mi_argument b_Mi_argument 2 (some .int)) (rmL 1) 0 0 G [.ref (ad 0)] (wMi G ad sn fn ff on of hn hf fm fs wd sz (nI M) tp (nI L) vl) X0 (fun r _ => r = if adOk M L then nI M else -1) (fun _ => wMi G ad sn fn ff on of hn hf fm fs (if adOk M L then wr wd (40 * M) (sg tp 0 L) else wd) (if adOk M L then upd sz M (nI L) else sz) (nI (if adOk M L then M + 1 else M)) tp (nI 0) vl) := by
  refine MetI.mk2 (by decide) (Nat.le_of_ble_eq_true rfl) ?_
  intro p e s m args below meth c A ls Q S hw hX hl kret
  have hx := S.1
  have hb := S.2.1
  have hl : lv_has ls 2 [(0, .ref (ad 0))] := hl
  generalize hH0 : s.heap = H at hw ⊢
  generalize hL0 : ([] : List Loc) = locs at hw ⊢
  refine lv_aload_n hx hb d_Mi_argument_0 rfl (lv_at hl 0 rfl) ?_
  refine zVi (As := []) (rest := []) S hw hl.1 vl_Mi_46 (c_Mi_used l G ad sn fn ff on of hn hf fm fs wd sz (nI M) tp vl L) 0 rfl rfl rfl ⟨rfl, rfl⟩ [0, 1, 2, 3, 4, 5, 6, 7, 8, 9, 10, 11] [] [0, 1, 2, 3, 4, 5, 6, 7, 8, 9, 10, 11] rfl rfl (by decide) rfl rfl rfl d_Mi_argument_1 (fun _ => wMi G ad sn fn ff on of hn hf fm fs wd sz (nI M) tp (nI 0) vl) (fun _ => rfl) (fun r_1 _ H locs hp hw => ?_)
  subst hp
  refine lv_istore_n (lv' := [(1, .int (nI L)), (0, .ref (ad 0))]) hx hb d_Mi_argument_4 rfl hl (by decide) rfl (fun ls hl => ?_)
  refine lv_aload_n hx hb d_Mi_argument_5 rfl (lv_at hl 1 rfl) ?_
  refine lv_aload_n hx hb d_Mi_argument_6 rfl (lv_at hl 1 rfl) ?_
  refine xget S hw fl_Mi_39 0 rfl rfl d_Mi_argument_7 ?_
  refine lv_iload_n hx hb d_Mi_argument_10 rfl (lv_at hl 0 rfl) ?_
  refine zVi (As := [.ref (ad 11), .int (nI L)]) (rest := []) S hw hl.1 vl_Mi_62 (c_Mi_addT l G ad sn fn ff on of hn hf fm fs wd sz tp (nI 0) vl M L hM hL hb8) 0 rfl rfl rfl ⟨rfl, rfl⟩ [0, 1, 2, 3, 4, 5, 6, 7, 8, 9, 10, 11] [] [0, 1, 2, 3, 4, 5, 6, 7, 8, 9, 10, 11] rfl rfl (by decide) rfl rfl rfl d_Mi_argument_11 (fun _ => wMi G ad sn fn ff on of hn hf fm fs (if adOk M L then wr wd (40 * M) (sg tp 0 L) else wd) (if adOk M L then upd sz M (nI L) else sz) (nI (if adOk M L then M + 1 else M)) tp (nI 0) vl) (fun _ => rfl) (fun r_11 _ H locs hp2 hw => ?_)
  exact kret _ _ _ _ _ () hw hp2 rfl d_Mi_argument_14
set_option maxHeartbeats 4000000 in
set_option maxRecDepth 100000 in
theorem c_Mi_number (l : Launch) (G : gG) (ad : Nat → Nat) (sn : Int32) (fn : Int32) (ff : Nat → Int32) (on : Int32) (of : Nat → Int32) (hn : Int32) (hf : Nat → Int32) (fm : Nat → Int32) (fs : Int32) (wd : Nat → Int32) (sz : Nat → Int32) (tp : Nat → Int32) (ln : Int32) (vl : Int64) (M : Nat) (hM : M ≤ 20) (hbh : By hf) (v : Int64) : MetI (σ := Unit) l y_Mi_number (Cond.code y_Mi_number b_Mi_number 3 (some .int)) (rmL 2) 0 0 G [.ref (ad 0), .long v] (wMi G ad sn fn ff on of hn hf fm fs wd sz (nI M) tp ln vl) X0 (fun r _ => r = if adOk M 0 then nI M else -1) (fun _ => wMi G ad sn fn ff on of (nI (dec v).length) (wr hf 0 (dec v)) fm fs (if adOk M 0 then wr wd (40 * M) (dec v) else wd) (if adOk M 0 then upd sz M (nI (dec v).length) else sz) (nI (if adOk M 0 then M + 1 else M)) tp ln vl) := by
  refine MetI.mk2 (by decide) (Nat.le_of_ble_eq_true rfl) ?_
  intro p e s m args below meth c A ls Q S hw hX hl kret
  have hx := S.1
  have hb := S.2.1
  have hl : lv_has ls 3 [(0, .ref (ad 0)), (1, .long v)] := hl
  generalize hH0 : s.heap = H at hw ⊢
  generalize hL0 : ([] : List Loc) = locs at hw ⊢
  have hdl := dec_len (v := v)
  have hok : adOk M (dec v).length = adOk M 0 := by unfold adOk; rw [decide_eq_true (show (dec v).length ≤ 40 by omega)]; rfl
  refine lv_aload_n hx hb d_Mi_number_0 rfl (lv_at hl 0 rfl) ?_
  refine xget S hw fl_Mi_25 0 rfl rfl d_Mi_number_1 ?_
  refine lv_iconst (v := 0) hx hb d_Mi_number_4 (by decide) ?_
  refine xput S hw fl_Mi_66 6 rfl rfl rfl (Nat.le_of_ble_eq_true rfl) (ws' := wMi G ad sn fn ff on of 0 hf fm fs wd sz (nI M) tp ln vl) rfl d_Mi_number_5 (fun H locs hw => ?_)
  refine lv_aload_n hx hb d_Mi_number_8 rfl (lv_at hl 0 rfl) ?_
  refine xget S hw fl_Mi_25 0 rfl rfl d_Mi_number_9 ?_
  refine lv_lload_n hx hb d_Mi_number_12 rfl (lv_at hl 1 rfl) ?_
  refine zVv (As := [.long v]) (rest := []) S hw hl.1 vl_Mi_67 (c_Ro_decimal l G (ad 6) (ad 7) 64 0 hf v (by decide) (by decide)) 6 rfl rfl rfl ⟨rfl, rfl⟩ [6, 7] [0, 1, 2, 3, 4, 5, 8, 9, 10, 11] [0, 1, 2, 3, 4, 5, 10, 11, 6, 7, 8, 9] rfl rfl (by decide) rfl rfl rfl d_Mi_number_13 (fun _ => wMi G ad sn fn ff on of (nI (0 + (dec v).length)) (wr hf 0 (dec v)) fm fs wd sz (nI M) tp ln vl) (fun _ => rfl) (fun _ H locs hp hw => ?_)
  rw [Nat.zero_add] at hw
  have hb8 : By (wr hf 0 (dec v)) := By_wr hbh dec_b8
  refine lv_aload_n hx hb d_Mi_number_16 rfl (lv_at hl 0 rfl) ?_
  refine lv_aload_n hx hb d_Mi_number_17 rfl (lv_at hl 0 rfl) ?_
  refine xget S hw fl_Mi_25 0 rfl rfl d_Mi_number_18 ?_
  refine xget S hw fl_Mi_71 6 rfl rfl d_Mi_number_21 ?_
  refine lv_aload_n hx hb d_Mi_number_24 rfl (lv_at hl 0 rfl) ?_
  refine xget S hw fl_Mi_25 0 rfl rfl d_Mi_number_25 ?_
  refine xget S hw fl_Mi_66 6 rfl rfl d_Mi_number_28 ?_
  refine zVi (As := [.ref (ad 7), .int (nI (dec v).length)]) (rest := []) S hw hl.1 vl_Mi_62 (c_Mi_addH l G ad sn fn ff on of (nI (dec v).length) (wr hf 0 (dec v)) fm fs wd sz tp ln vl M (dec v).length hM (by omega) hb8) 0 rfl rfl rfl ⟨rfl, rfl⟩ [0, 1, 2, 3, 4, 5, 6, 7, 8, 9, 10, 11] [] [0, 1, 2, 3, 4, 5, 6, 7, 8, 9, 10, 11] rfl rfl (by decide) rfl rfl rfl d_Mi_number_31 (fun _ => wMi G ad sn fn ff on of (nI (dec v).length) (wr hf 0 (dec v)) fm fs (if adOk M (dec v).length then wr wd (40 * M) (sg (wr hf 0 (dec v)) 0 (dec v).length) else wd) (if adOk M (dec v).length then upd sz M (nI (dec v).length) else sz) (nI (if adOk M (dec v).length then M + 1 else M)) tp ln vl) (fun _ => rfl) (fun r_31 _ H locs hp2 hw => ?_)
  rw [hok, sg_wr] at hw
  rw [hok] at hp2
  exact kret _ _ _ _ _ () hw hp2 rfl d_Mi_number_34
set_option maxHeartbeats 4000000 in
set_option maxRecDepth 100000 in
theorem c_Mi_madeAt (l : Launch) (G : gG) (ad : Nat → Nat) (sn : Int32) (fn : Int32) (ff : Nat → Int32) (of : Nat → Int32) (hn : Int32) (hf : Nat → Int32) (fm : Nat → Int32) (fs : Int32) (wd : Nat → Int32) (sz : Nat → Int32) (mn : Int32) (tp : Nat → Int32) (ln : Int32) (vl : Int64) (N : Nat) (hN : N ≤ 4096) (x : Int32) : MetI (σ := Unit) l y_Mi_madeAt (Cond.code y_Mi_madeAt b_Mi_madeAt 2 (some .int)) (rmL 0) 0 0 G [.ref (ad 0), .int x] (wMi G ad sn fn ff (nI N) of hn hf fm fs wd sz mn tp ln vl) X0 (fun r _ => r = madeR of N x) (fun _ => wMi G ad sn fn ff (nI N) of hn hf fm fs wd sz mn tp ln vl) := by
  refine MetI.mk2 (by decide) (Nat.le_of_ble_eq_true rfl) ?_
  intro p e s m args below meth c A ls Q S hw hX hl kret
  have hx := S.1
  have hb := S.2.1
  have hl : lv_has ls 2 [(0, .ref (ad 0)), (1, .int x)] := hl
  generalize hH0 : s.heap = H at hw ⊢
  generalize hL0 : ([] : List Loc) = locs at hw ⊢
  refine lv_iload_n hx hb d_Mi_madeAt_0 rfl (lv_at hl 1 rfl) ?_
  refine lv_if_lt (tgt := 31) hx hb d_Mi_madeAt_1 (by decide) (fun c1 => ?_) (fun c1 => ?_)
  · refine lv_iconst (v := (-1)) hx hb d_Mi_madeAt_31 (by decide) ?_
    exact kret _ _ _ _ _ () hw (by unfold madeR; rw [if_neg (fun q => Int32.not_lt.mpr q.1 c1)]) rfl d_Mi_madeAt_32
  · obtain ⟨j, hj, rfl⟩ := nI_of c1
    refine lv_iload_n hx hb d_Mi_madeAt_4 rfl (lv_at hl 1 rfl) ?_
    refine lv_aload_n hx hb d_Mi_madeAt_5 rfl (lv_at hl 0 rfl) ?_
    refine xget S hw fl_Mi_21 0 rfl rfl d_Mi_madeAt_6 ?_
    refine xget S hw fl_Mi_66 4 rfl rfl d_Mi_madeAt_9 ?_
    refine lv_icmp_ge (tgt := 31) hx hb d_Mi_madeAt_12 (by decide) (fun c2 => ?_) (fun c2 => ?_)
    · have c2 : N ≤ j := (nI_leI (a := N) (b := j) (by omega) (by omega)).mp c2
      refine lv_iconst (v := (-1)) hx hb d_Mi_madeAt_31 (by decide) ?_
      exact kret _ _ _ _ _ () hw (by unfold madeR; rw [if_neg (fun q => by have := (nI_ltI (a := j) (b := N) (by omega) (by omega)).mp q.2; omega)]) rfl d_Mi_madeAt_32
    · have c2 : ¬ N ≤ j := fun q => c2 ((nI_leI (a := N) (b := j) (by omega) (by omega)).mpr q)
      refine lv_aload_n hx hb d_Mi_madeAt_15 rfl (lv_at hl 0 rfl) ?_
      refine xget S hw fl_Mi_21 0 rfl rfl d_Mi_madeAt_16 ?_
      refine xget S hw fl_Mi_71 4 rfl rfl d_Mi_madeAt_19 ?_
      refine lv_iload_n hx hb d_Mi_madeAt_22 rfl (lv_at hl 1 rfl) ?_
      refine xbald S hw 5 rfl (j := j) (by omega) (by decide) d_Mi_madeAt_23 ?_
      refine lv_sipush (v := 255) hx hb d_Mi_madeAt_24 (by decide) ?_
      refine lv_iand hx hb d_Mi_madeAt_27 ?_
      refine lv_goto (tgt := 32) hx hb d_Mi_madeAt_28 (by decide) ?_
      exact kret _ _ _ _ _ () hw (by unfold madeR; rw [if_pos ⟨nI_pos' hj, nI_lt (by omega) (by omega)⟩, nI_clamp hj]) rfl d_Mi_madeAt_32
set_option maxHeartbeats 4000000 in
set_option maxRecDepth 100000 in
theorem c_Mi_at (l : Launch) (G : gG) (ad : Nat → Nat) (sn : Int32) (fn : Int32) (ff : Nat → Int32) (on : Int32) (of : Nat → Int32) (hn : Int32) (hf : Nat → Int32) (fm : Nat → Int32) (wd : Nat → Int32) (sz : Nat → Int32) (mn : Int32) (tp : Nat → Int32) (ln : Int32) (vl : Int64) (n : Nat) (hnn : n ≤ 400) (j : Nat) (hj : j ≤ 1000) : MetI (σ := Unit) l y_Mi_at (Cond.code y_Mi_at b_Mi_at 2 (some .int)) (rmL 0) 0 0 G [.ref (ad 0), .int (nI j)] (wMi G ad sn fn ff on of hn hf fm (nI n) wd sz mn tp ln vl) X0 (fun r _ => r = fcC fm n j) (fun _ => wMi G ad sn fn ff on of hn hf fm (nI n) wd sz mn tp ln vl) := by
  refine MetI.mk2 (by decide) (Nat.le_of_ble_eq_true rfl) ?_
  intro p e s m args below meth c A ls Q S hw hX hl kret
  have hx := S.1
  have hb := S.2.1
  have hl : lv_has ls 2 [(0, .ref (ad 0)), (1, .int (nI j))] := hl
  generalize hH0 : s.heap = H at hw ⊢
  generalize hL0 : ([] : List Loc) = locs at hw ⊢
  refine lv_iload_n hx hb d_Mi_at_0 rfl (lv_at hl 1 rfl) ?_
  refine lv_aload_n hx hb d_Mi_at_1 rfl (lv_at hl 0 rfl) ?_
  refine xget S hw fl_Mi_50 0 rfl rfl d_Mi_at_2 ?_
  refine lv_icmp_ge (tgt := 21) hx hb d_Mi_at_5 (by decide) (fun c1 => ?_) (fun c1 => ?_)
  · have c1 : n ≤ j := (nI_leI (a := n) (b := j) (by omega) (by omega)).mp c1
    refine lv_iconst (v := (-1)) hx hb d_Mi_at_21 (by decide) ?_
    exact kret _ _ _ _ _ () hw (by unfold fcC; rw [if_neg (by omega)]) rfl d_Mi_at_22
  · have c1 : ¬ n ≤ j := fun q => c1 ((nI_leI (a := n) (b := j) (by omega) (by omega)).mpr q)
    refine lv_aload_n hx hb d_Mi_at_8 rfl (lv_at hl 0 rfl) ?_
    refine xget S hw fl_Mi_28 0 rfl rfl d_Mi_at_9 ?_
    refine lv_iload_n hx hb d_Mi_at_12 rfl (lv_at hl 1 rfl) ?_
    refine xbald S hw 8 rfl (j := j) (by omega) (by decide) d_Mi_at_13 ?_
    refine lv_sipush (v := 255) hx hb d_Mi_at_14 (by decide) ?_
    refine lv_iand hx hb d_Mi_at_17 ?_
    refine lv_goto (tgt := 22) hx hb d_Mi_at_18 (by decide) ?_
    exact kret _ _ _ _ _ () hw (by unfold fcC; rw [if_pos (by omega)]) rfl d_Mi_at_22
set_option maxHeartbeats 4000000 in
set_option maxRecDepth 100000 in
theorem c_Mi_nothing (l : Launch) (G : gG) (ad : Nat → Nat) (sn : Int32) (fn : Int32) (ff : Nat → Int32) (on : Int32) (of : Nat → Int32) (hn : Int32) (hf : Nat → Int32) (fm : Nat → Int32) (fs : Int32) (wd : Nat → Int32) (sz : Nat → Int32) (mn : Int32) (tp : Nat → Int32) (ln : Int32) (vl : Int64) (x : Int32) : MetI (σ := Unit) l y_Mi_nothing (Cond.code y_Mi_nothing b_Mi_nothing 2 (some .int)) (rmL 0) 0 0 G [.ref (ad 0), .int x] (wMi G ad sn fn ff on of hn hf fm fs wd sz mn tp ln vl) X0 (fun r _ => r = x) (fun _ => wMi G ad sn fn ff (nI 0) of hn hf fm fs wd sz mn tp ln vl) := by
  refine MetI.mk2 (by decide) (Nat.le_of_ble_eq_true rfl) ?_
  intro p e s m args below meth c A ls Q S hw hX hl kret
  have hx := S.1
  have hb := S.2.1
  have hl : lv_has ls 2 [(0, .ref (ad 0)), (1, .int x)] := hl
  generalize hH0 : s.heap = H at hw ⊢
  generalize hL0 : ([] : List Loc) = locs at hw ⊢
  refine lv_aload_n hx hb d_Mi_nothing_0 rfl (lv_at hl 0 rfl) ?_
  refine xget S hw fl_Mi_21 0 rfl rfl d_Mi_nothing_1 ?_
  refine lv_iconst (v := 0) hx hb d_Mi_nothing_4 (by decide) ?_
  refine xput S hw fl_Mi_66 4 rfl rfl rfl (Nat.le_of_ble_eq_true rfl) (ws' := wMi G ad sn fn ff 0 of hn hf fm fs wd sz mn tp ln vl) rfl d_Mi_nothing_5 (fun H locs hw => ?_)
  refine lv_iload_n hx hb d_Mi_nothing_8 rfl (lv_at hl 1 rfl) ?_
  exact kret _ _ _ _ _ () hw rfl rfl d_Mi_nothing_9
set_option maxHeartbeats 4000000 in
set_option maxRecDepth 100000 in
theorem c_Mi_hexadecimal (l : Launch) (G : gG) (x : Int32) : MetI (σ := Unit) l y_Mi_hexadecimal (Cond.code y_Mi_hexadecimal b_Mi_hexadecimal 1 (some .int)) (rmL 0) 0 0 G [.int x] (([] : va_W)) X0 (fun r _ => r = hexd x) (fun _ => ([] : va_W)) := by
  refine MetI.mk2 (by decide) (Nat.le_of_ble_eq_true rfl) ?_
  intro p e s m args below meth c A ls Q S hw hX hl kret
  have hx := S.1
  have hb := S.2.1
  have hl : lv_has ls 1 [(0, .int x)] := hl
  generalize hH0 : s.heap = H at hw ⊢
  generalize hL0 : ([] : List Loc) = locs at hw ⊢
  refine lv_iload_n hx hb d_Mi_hexadecimal_0 rfl (lv_at hl 0 rfl) ?_
  refine lv_bipush (v := 48) hx hb d_Mi_hexadecimal_1 (by decide) ?_
  refine lv_icmp_lt (tgt := 19) hx hb d_Mi_hexadecimal_3 (by decide) (fun a0 => ?_) (fun a0 => ?_)
  · refine lv_iload_n hx hb d_Mi_hexadecimal_19 rfl (lv_at hl 0 rfl) ?_
    refine lv_bipush (v := 97) hx hb d_Mi_hexadecimal_20 (by decide) ?_
    refine lv_icmp_lt (tgt := 41) hx hb d_Mi_hexadecimal_22 (by decide) (fun a1 => ?_) (fun a1 => ?_)
    · refine lv_iload_n hx hb d_Mi_hexadecimal_41 rfl (lv_at hl 0 rfl) ?_
      refine lv_bipush (v := 65) hx hb d_Mi_hexadecimal_42 (by decide) ?_
      refine lv_icmp_lt (tgt := 63) hx hb d_Mi_hexadecimal_44 (by decide) (fun a2 => ?_) (fun a2 => ?_)
      · refine lv_iconst (v := (-1)) hx hb d_Mi_hexadecimal_63 (by decide) ?_
        exact kret _ _ _ _ _ () hw (by unfold hexd; rw [if_neg (fun q => Int32.not_lt.mpr q.1 a0), if_neg (fun q => Int32.not_lt.mpr q.1 a1), if_neg (fun q => Int32.not_lt.mpr q.1 a2)]) rfl d_Mi_hexadecimal_64
      · refine lv_iload_n hx hb d_Mi_hexadecimal_47 rfl (lv_at hl 0 rfl) ?_
        refine lv_bipush (v := 70) hx hb d_Mi_hexadecimal_48 (by decide) ?_
        refine lv_icmp_gt (tgt := 63) hx hb d_Mi_hexadecimal_50 (by decide) (fun b2 => ?_) (fun b2 => ?_)
        · refine lv_iconst (v := (-1)) hx hb d_Mi_hexadecimal_63 (by decide) ?_
          exact kret _ _ _ _ _ () hw (by unfold hexd; rw [if_neg (fun q => Int32.not_lt.mpr q.1 a0), if_neg (fun q => Int32.not_lt.mpr q.1 a1), if_neg (fun q => Int32.not_lt.mpr q.2 b2)]) rfl d_Mi_hexadecimal_64
        · refine lv_iload_n hx hb d_Mi_hexadecimal_53 rfl (lv_at hl 0 rfl) ?_
          refine lv_bipush (v := 65) hx hb d_Mi_hexadecimal_54 (by decide) ?_
          refine lv_isub hx hb d_Mi_hexadecimal_56 ?_
          refine lv_bipush (v := 10) hx hb d_Mi_hexadecimal_57 (by decide) ?_
          refine lv_iadd hx hb d_Mi_hexadecimal_59 ?_
          refine lv_goto (tgt := 64) hx hb d_Mi_hexadecimal_60 (by decide) ?_
          exact kret _ _ _ _ _ () hw (by unfold hexd; rw [if_neg (fun q => Int32.not_lt.mpr q.1 a0), if_neg (fun q => Int32.not_lt.mpr q.1 a1), if_pos ⟨Int32.not_lt.mp a2, Int32.not_lt.mp b2⟩]) rfl d_Mi_hexadecimal_64
    · refine lv_iload_n hx hb d_Mi_hexadecimal_25 rfl (lv_at hl 0 rfl) ?_
      refine lv_bipush (v := 102) hx hb d_Mi_hexadecimal_26 (by decide) ?_
      refine lv_icmp_gt (tgt := 41) hx hb d_Mi_hexadecimal_28 (by decide) (fun b1 => ?_) (fun b1 => ?_)
      · refine lv_iload_n hx hb d_Mi_hexadecimal_41 rfl (lv_at hl 0 rfl) ?_
        refine lv_bipush (v := 65) hx hb d_Mi_hexadecimal_42 (by decide) ?_
        refine lv_icmp_lt (tgt := 63) hx hb d_Mi_hexadecimal_44 (by decide) (fun a2 => ?_) (fun a2 => ?_)
        · refine lv_iconst (v := (-1)) hx hb d_Mi_hexadecimal_63 (by decide) ?_
          exact kret _ _ _ _ _ () hw (by unfold hexd; rw [if_neg (fun q => Int32.not_lt.mpr q.1 a0), if_neg (fun q => Int32.not_lt.mpr q.2 b1), if_neg (fun q => Int32.not_lt.mpr q.1 a2)]) rfl d_Mi_hexadecimal_64
        · refine lv_iload_n hx hb d_Mi_hexadecimal_47 rfl (lv_at hl 0 rfl) ?_
          refine lv_bipush (v := 70) hx hb d_Mi_hexadecimal_48 (by decide) ?_
          refine lv_icmp_gt (tgt := 63) hx hb d_Mi_hexadecimal_50 (by decide) (fun b2 => ?_) (fun b2 => ?_)
          · refine lv_iconst (v := (-1)) hx hb d_Mi_hexadecimal_63 (by decide) ?_
            exact kret _ _ _ _ _ () hw (by unfold hexd; rw [if_neg (fun q => Int32.not_lt.mpr q.1 a0), if_neg (fun q => Int32.not_lt.mpr q.2 b1), if_neg (fun q => Int32.not_lt.mpr q.2 b2)]) rfl d_Mi_hexadecimal_64
          · refine lv_iload_n hx hb d_Mi_hexadecimal_53 rfl (lv_at hl 0 rfl) ?_
            refine lv_bipush (v := 65) hx hb d_Mi_hexadecimal_54 (by decide) ?_
            refine lv_isub hx hb d_Mi_hexadecimal_56 ?_
            refine lv_bipush (v := 10) hx hb d_Mi_hexadecimal_57 (by decide) ?_
            refine lv_iadd hx hb d_Mi_hexadecimal_59 ?_
            refine lv_goto (tgt := 64) hx hb d_Mi_hexadecimal_60 (by decide) ?_
            exact kret _ _ _ _ _ () hw (by unfold hexd; rw [if_neg (fun q => Int32.not_lt.mpr q.1 a0), if_neg (fun q => Int32.not_lt.mpr q.2 b1), if_pos ⟨Int32.not_lt.mp a2, Int32.not_lt.mp b2⟩]) rfl d_Mi_hexadecimal_64
      · refine lv_iload_n hx hb d_Mi_hexadecimal_31 rfl (lv_at hl 0 rfl) ?_
        refine lv_bipush (v := 97) hx hb d_Mi_hexadecimal_32 (by decide) ?_
        refine lv_isub hx hb d_Mi_hexadecimal_34 ?_
        refine lv_bipush (v := 10) hx hb d_Mi_hexadecimal_35 (by decide) ?_
        refine lv_iadd hx hb d_Mi_hexadecimal_37 ?_
        refine lv_goto (tgt := 64) hx hb d_Mi_hexadecimal_38 (by decide) ?_
        exact kret _ _ _ _ _ () hw (by unfold hexd; rw [if_neg (fun q => Int32.not_lt.mpr q.1 a0), if_pos ⟨Int32.not_lt.mp a1, Int32.not_lt.mp b1⟩]) rfl d_Mi_hexadecimal_64
  · refine lv_iload_n hx hb d_Mi_hexadecimal_6 rfl (lv_at hl 0 rfl) ?_
    refine lv_bipush (v := 57) hx hb d_Mi_hexadecimal_7 (by decide) ?_
    refine lv_icmp_gt (tgt := 19) hx hb d_Mi_hexadecimal_9 (by decide) (fun b0 => ?_) (fun b0 => ?_)
    · refine lv_iload_n hx hb d_Mi_hexadecimal_19 rfl (lv_at hl 0 rfl) ?_
      refine lv_bipush (v := 97) hx hb d_Mi_hexadecimal_20 (by decide) ?_
      refine lv_icmp_lt (tgt := 41) hx hb d_Mi_hexadecimal_22 (by decide) (fun a1 => ?_) (fun a1 => ?_)
      · refine lv_iload_n hx hb d_Mi_hexadecimal_41 rfl (lv_at hl 0 rfl) ?_
        refine lv_bipush (v := 65) hx hb d_Mi_hexadecimal_42 (by decide) ?_
        refine lv_icmp_lt (tgt := 63) hx hb d_Mi_hexadecimal_44 (by decide) (fun a2 => ?_) (fun a2 => ?_)
        · refine lv_iconst (v := (-1)) hx hb d_Mi_hexadecimal_63 (by decide) ?_
          exact kret _ _ _ _ _ () hw (by unfold hexd; rw [if_neg (fun q => Int32.not_lt.mpr q.2 b0), if_neg (fun q => Int32.not_lt.mpr q.1 a1), if_neg (fun q => Int32.not_lt.mpr q.1 a2)]) rfl d_Mi_hexadecimal_64
        · refine lv_iload_n hx hb d_Mi_hexadecimal_47 rfl (lv_at hl 0 rfl) ?_
          refine lv_bipush (v := 70) hx hb d_Mi_hexadecimal_48 (by decide) ?_
          refine lv_icmp_gt (tgt := 63) hx hb d_Mi_hexadecimal_50 (by decide) (fun b2 => ?_) (fun b2 => ?_)
          · refine lv_iconst (v := (-1)) hx hb d_Mi_hexadecimal_63 (by decide) ?_
            exact kret _ _ _ _ _ () hw (by unfold hexd; rw [if_neg (fun q => Int32.not_lt.mpr q.2 b0), if_neg (fun q => Int32.not_lt.mpr q.1 a1), if_neg (fun q => Int32.not_lt.mpr q.2 b2)]) rfl d_Mi_hexadecimal_64
          · refine lv_iload_n hx hb d_Mi_hexadecimal_53 rfl (lv_at hl 0 rfl) ?_
            refine lv_bipush (v := 65) hx hb d_Mi_hexadecimal_54 (by decide) ?_
            refine lv_isub hx hb d_Mi_hexadecimal_56 ?_
            refine lv_bipush (v := 10) hx hb d_Mi_hexadecimal_57 (by decide) ?_
            refine lv_iadd hx hb d_Mi_hexadecimal_59 ?_
            refine lv_goto (tgt := 64) hx hb d_Mi_hexadecimal_60 (by decide) ?_
            exact kret _ _ _ _ _ () hw (by unfold hexd; rw [if_neg (fun q => Int32.not_lt.mpr q.2 b0), if_neg (fun q => Int32.not_lt.mpr q.1 a1), if_pos ⟨Int32.not_lt.mp a2, Int32.not_lt.mp b2⟩]) rfl d_Mi_hexadecimal_64
      · refine lv_iload_n hx hb d_Mi_hexadecimal_25 rfl (lv_at hl 0 rfl) ?_
        refine lv_bipush (v := 102) hx hb d_Mi_hexadecimal_26 (by decide) ?_
        refine lv_icmp_gt (tgt := 41) hx hb d_Mi_hexadecimal_28 (by decide) (fun b1 => ?_) (fun b1 => ?_)
        · refine lv_iload_n hx hb d_Mi_hexadecimal_41 rfl (lv_at hl 0 rfl) ?_
          refine lv_bipush (v := 65) hx hb d_Mi_hexadecimal_42 (by decide) ?_
          refine lv_icmp_lt (tgt := 63) hx hb d_Mi_hexadecimal_44 (by decide) (fun a2 => ?_) (fun a2 => ?_)
          · refine lv_iconst (v := (-1)) hx hb d_Mi_hexadecimal_63 (by decide) ?_
            exact kret _ _ _ _ _ () hw (by unfold hexd; rw [if_neg (fun q => Int32.not_lt.mpr q.2 b0), if_neg (fun q => Int32.not_lt.mpr q.2 b1), if_neg (fun q => Int32.not_lt.mpr q.1 a2)]) rfl d_Mi_hexadecimal_64
          · refine lv_iload_n hx hb d_Mi_hexadecimal_47 rfl (lv_at hl 0 rfl) ?_
            refine lv_bipush (v := 70) hx hb d_Mi_hexadecimal_48 (by decide) ?_
            refine lv_icmp_gt (tgt := 63) hx hb d_Mi_hexadecimal_50 (by decide) (fun b2 => ?_) (fun b2 => ?_)
            · refine lv_iconst (v := (-1)) hx hb d_Mi_hexadecimal_63 (by decide) ?_
              exact kret _ _ _ _ _ () hw (by unfold hexd; rw [if_neg (fun q => Int32.not_lt.mpr q.2 b0), if_neg (fun q => Int32.not_lt.mpr q.2 b1), if_neg (fun q => Int32.not_lt.mpr q.2 b2)]) rfl d_Mi_hexadecimal_64
            · refine lv_iload_n hx hb d_Mi_hexadecimal_53 rfl (lv_at hl 0 rfl) ?_
              refine lv_bipush (v := 65) hx hb d_Mi_hexadecimal_54 (by decide) ?_
              refine lv_isub hx hb d_Mi_hexadecimal_56 ?_
              refine lv_bipush (v := 10) hx hb d_Mi_hexadecimal_57 (by decide) ?_
              refine lv_iadd hx hb d_Mi_hexadecimal_59 ?_
              refine lv_goto (tgt := 64) hx hb d_Mi_hexadecimal_60 (by decide) ?_
              exact kret _ _ _ _ _ () hw (by unfold hexd; rw [if_neg (fun q => Int32.not_lt.mpr q.2 b0), if_neg (fun q => Int32.not_lt.mpr q.2 b1), if_pos ⟨Int32.not_lt.mp a2, Int32.not_lt.mp b2⟩]) rfl d_Mi_hexadecimal_64
        · refine lv_iload_n hx hb d_Mi_hexadecimal_31 rfl (lv_at hl 0 rfl) ?_
          refine lv_bipush (v := 97) hx hb d_Mi_hexadecimal_32 (by decide) ?_
          refine lv_isub hx hb d_Mi_hexadecimal_34 ?_
          refine lv_bipush (v := 10) hx hb d_Mi_hexadecimal_35 (by decide) ?_
          refine lv_iadd hx hb d_Mi_hexadecimal_37 ?_
          refine lv_goto (tgt := 64) hx hb d_Mi_hexadecimal_38 (by decide) ?_
          exact kret _ _ _ _ _ () hw (by unfold hexd; rw [if_neg (fun q => Int32.not_lt.mpr q.2 b0), if_pos ⟨Int32.not_lt.mp a1, Int32.not_lt.mp b1⟩]) rfl d_Mi_hexadecimal_64
    · refine lv_iload_n hx hb d_Mi_hexadecimal_12 rfl (lv_at hl 0 rfl) ?_
      refine lv_bipush (v := 48) hx hb d_Mi_hexadecimal_13 (by decide) ?_
      refine lv_isub hx hb d_Mi_hexadecimal_15 ?_
      refine lv_goto (tgt := 64) hx hb d_Mi_hexadecimal_16 (by decide) ?_
      exact kret _ _ _ _ _ () hw (by unfold hexd; rw [if_pos ⟨Int32.not_lt.mp a0, Int32.not_lt.mp b0⟩]) rfl d_Mi_hexadecimal_64
end
section
/-! ===== plain words for the parse of integers ===== -/
theorem byte_all {P : Int32 → Prop} (h : ∀ k, k < 256 → P (Int8.ofNat k).toInt32) {x : Int32} (hx : b8 x = x) : P x := by
  have e : x.toInt8 = Int8.ofNat x.toInt8.toBitVec.toNat := Int8.toBitVec_inj.mp (by show _ = BitVec.ofNat 8 _; simp)
  have h2 := h x.toInt8.toBitVec.toNat x.toInt8.toBitVec.isLt
  rw [← e] at h2
  rw [← hx]
  exact h2
theorem hexd_255 {x : Int32} (hx : b8 x = x) : hexd (x &&& 255) = hexd x := byte_all (P := fun x => hexd (x &&& 255) = hexd x) (by decide +kernel) hx
theorem pSg_le (w : Nat → Int32) (f n : Nat) : pSg w f n ≤ 1 ∧ pSg w f n ≤ n := by
  unfold pSg
  split <;> omega
theorem pI_hex {w : Nat → Int32} {f n p : Nat} {mi : Bool} (hp : p = pSg w f n) (hm : mi = pMi w f n) (h : p + 2 < n ∧ w (f + p) = 48 ∧ w (f + p + 1) = 120) : pI w f n = if n ≤ p + 18 then (phx w (n - (p + 2)) (f + p + 2) 0).map (fun v => if mi then -v else v) else none := by
  subst hp; subst hm
  unfold pI
  rw [if_pos h]
theorem pI_dec {w : Nat → Int32} {f n p : Nat} {mi : Bool} (hp : p = pSg w f n) (hm : mi = pMi w f n) (h : ¬ (p + 2 < n ∧ w (f + p) = 48 ∧ w (f + p + 1) = 120)) : pI w f n = if n = p then none else (pdc w (n - p) (f + p) 0).bind (fun v => if mi then some v else if v = -9223372036854775808 then none else some (-v)) := by
  subst hp; subst hm
  unfold pI
  rw [if_neg h]
theorem pMi_1 {w : Nat → Int32} {f n : Nat} (h : pSg w f n ≠ 1) : pMi w f n = false := by
  unfold pSg at h
  unfold pMi
  apply decide_eq_false
  intro q
  rw [if_pos ⟨q.1, Or.inl q.2⟩] at h
  exact h rfl
theorem pMi_2 {w : Nat → Int32} {f n : Nat} (h : pSg w f n = 1) : pMi w f n = decide (w f = 45) := by
  unfold pSg at h
  split at h
  · rename_i q
    unfold pMi
    simp [q.1]
  · cases h
end
section
set_option maxHeartbeats 4000000 in
set_option maxRecDepth 100000 in
theorem c_Mi_isInteger (l : Launch) (G : gG) (ad : Nat → Nat) (sn : Int32) (fn : Int32) (ff : Nat → Int32) (on : Int32) (of : Nat → Int32) (hn : Int32) (hf : Nat → Int32) (fm : Nat → Int32) (fs : Int32) (wd : Nat → Int32) (sz : Nat → Int32) (mn : Int32) (tp : Nat → Int32) (ln : Int32) (vl : Int64) (f n : Nat) (hfn : f + n ≤ 800) (hn40 : n ≤ 40) (hby : By wd) : MetI (σ := Int64) l y_Mi_isInteger (Cond.code y_Mi_isInteger b_Mi_isInteger 7 (some .boolean)) (rmL 1) 0 0 G [.ref (ad 0), .int (nI f), .int (nI n)] (wMi G ad sn fn ff on of hn hf fm fs wd sz mn tp ln vl) X0 (fun r u => (r = 1 ∧ pI wd f n = some u) ∨ (r = 0 ∧ pI wd f n = none)) (fun u => wMi G ad sn fn ff on of hn hf fm fs wd sz mn tp ln u) := by
  refine MetI.mk2 (by decide) (Nat.le_of_ble_eq_true rfl) ?_
  intro p e s m args below meth c A ls Q S hw hX hl kret
  have hx := S.1
  have hb := S.2.1
  have hl : lv_has ls 7 [(0, .ref (ad 0)), (1, .int (nI f)), (2, .int (nI n))] := hl
  generalize hH0 : s.heap = H at hw ⊢
  generalize hL0 : ([] : List Loc) = locs at hw ⊢
  obtain ⟨p1, hp⟩ : ∃ q, q = pSg wd f n := ⟨_, rfl⟩
  obtain ⟨mi, hmi⟩ : ∃ q, q = pMi wd f n := ⟨_, rfl⟩
  have hple := pSg_le wd f n
  rw [← hp] at hple
  have j175 : ∀ (_ : Unit), ¬ (p1 + 2 < n ∧ wd (f + p1) = 48 ∧ wd (f + p1 + 1) = 120) → ∀ (H : Heap) (locs : List Loc) (ls : Array Slot), gW G A s (wMi G ad sn fn ff on of hn hf fm fs wd sz mn tp ln 0) H locs → lv_has ls 7 [(4, .int (bI mi)), (3, .int (nI p1)), (0, .ref (ad 0)), (1, .int (nI f)), (2, .int (nI n))] → W p l e (rmL 1) s m args below meth c H locs 0 0 Q (F0 m 175 ls []) := by
    intro _ hc H locs ls hw hl
    have hpi := pI_dec hp hmi hc
    have lp : ∀ (d i : Nat) (v : Int64), i + d = n → p1 ≤ i → pdc wd (n - i) (f + i) v = pdc wd (n - p1) (f + p1) 0 → ∀ (H : Heap) (locs : List Loc) (ls : Array Slot), gW G A s (wMi G ad sn fn ff on of hn hf fm fs wd sz mn tp ln v) H locs → lv_has ls 7 [(5, .int (nI i)), (4, .int (bI mi)), (3, .int (nI p1)), (0, .ref (ad 0)), (1, .int (nI f)), (2, .int (nI n))] → W p l e (rmL 1) s m args below meth c H locs 0 0 Q (F0 m 178 ls []) := by
      intro d
      induction d with
      | zero =>
        intro i v hi hpi2 hv H locs ls hw hl
        obtain rfl : i = n := by omega
        rw [Nat.sub_self] at hv
        rw [← hv, show pdc wd 0 (f + i) v = some v from rfl, Option.bind_some] at hpi
        refine lv_iload hx hb d_Mi_isInteger_178 (lv_at hl 0 rfl) ?_
        refine lv_iload_n hx hb d_Mi_isInteger_180 rfl (lv_at hl 5 rfl) ?_
        refine lv_icmp_ge (tgt := 263) hx hb d_Mi_isInteger_181 (by decide) (fun _ => ?_) (fun q => absurd ((nI_leI (by omega) (by omega)).mpr (by omega)) q)
        refine lv_iload_n hx hb d_Mi_isInteger_263 rfl (lv_at hl 5 rfl) ?_
        refine lv_iload_n hx hb d_Mi_isInteger_264 rfl (lv_at hl 2 rfl) ?_
        refine lv_icmp_eq (tgt := 284) hx hb d_Mi_isInteger_265 (by decide) (fun ce => ?_) (fun ce => ?_)
        · have ce : i = p1 := (nI_eq (a := i) (b := p1) (by omega) (by omega)).mp ce
          refine lv_iconst (v := 0) hx hb d_Mi_isInteger_284 (by decide) ?_
          exact kret _ _ _ _ _ v hw (Or.inr ⟨rfl, by rw [hpi, if_pos ce]⟩) rfl d_Mi_isInteger_285
        · have ce : ¬ i = p1 := fun q => ce ((nI_eq (a := i) (b := p1) (by omega) (by omega)).mpr q)
          rw [if_neg ce] at hpi
          refine lv_iload hx hb d_Mi_isInteger_268 (lv_at hl 1 rfl) ?_
          refine lv_if_ne (tgt := 286) hx hb d_Mi_isInteger_270 (by decide) (fun cm => ?_) (fun cm => ?_)
          · have cm : mi = true := bI_t cm
            refine lv_iload hx hb d_Mi_isInteger_286 (lv_at hl 1 rfl) ?_
            refine lv_if_ne (tgt := 300) hx hb d_Mi_isInteger_288 (by decide) (fun _ => ?_) (fun q => absurd q (fun q => by rw [cm] at q; exact absurd q (by decide)))
            refine lv_iconst (v := 1) hx hb d_Mi_isInteger_300 (by decide) ?_
            exact kret _ _ _ _ _ v hw (Or.inl ⟨rfl, by rw [hpi, if_pos cm]⟩) rfl d_Mi_isInteger_301
          · have cm : mi = false := bI_z cm
            refine lv_aload_n hx hb d_Mi_isInteger_273 rfl (lv_at hl 3 rfl) ?_
            refine xget S hw fl_Mi_74 0 rfl rfl d_Mi_isInteger_274 ?_
            refine lv_ldc2 (v := (-9223372036854775808)) hx hb S.2.2.2.1 (S.2.2.2.2 _ k_249) d_Mi_isInteger_277 ?_
            refine xl_ne (tgt := 286) S d_Mi_isInteger_280 d_Mi_isInteger_281 (by decide) (fun cv => ?_) (fun cv => ?_)
            · refine lv_iload hx hb d_Mi_isInteger_286 (lv_at hl 1 rfl) ?_
              refine lv_if_ne (tgt := 300) hx hb d_Mi_isInteger_288 (by decide) (fun q => absurd (by rw [cm]; rfl) q) (fun _ => ?_)
              refine lv_aload_n hx hb d_Mi_isInteger_291 rfl (lv_at hl 3 rfl) ?_
              refine lv_aload_n hx hb d_Mi_isInteger_292 rfl (lv_at hl 3 rfl) ?_
              refine xget S hw fl_Mi_74 0 rfl rfl d_Mi_isInteger_293 ?_
              refine lv_lneg hx hb d_Mi_isInteger_296 ?_
              refine xput S hw fl_Mi_74 0 rfl rfl rfl (Nat.le_of_ble_eq_true rfl) (ws' := wMi G ad sn fn ff on of hn hf fm fs wd sz mn tp ln (-v)) rfl d_Mi_isInteger_297 (fun H locs hw => ?_)
              refine lv_iconst (v := 1) hx hb d_Mi_isInteger_300 (by decide) ?_
              exact kret _ _ _ _ _ (-v) hw (Or.inl ⟨rfl, by rw [hpi, cm, if_neg cv]; rfl⟩) rfl d_Mi_isInteger_301
            · refine lv_iconst (v := 0) hx hb d_Mi_isInteger_284 (by decide) ?_
              exact kret _ _ _ _ _ v hw (Or.inr ⟨rfl, by rw [hpi, cm, if_pos cv]; rfl⟩) rfl d_Mi_isInteger_285
      | succ d ih =>
        intro i v hi hpi2 hv H locs ls hw hl
        have hni : n - i = (n - (i + 1)) + 1 := by omega
        rw [hni] at hv
        have hbad : dbad (wd (f + i) - 48) v = true → pI wd f n = none := by
          intro q
          rw [hpi, if_neg (by omega), ← hv]
          show ((if dbad (wd (f + i) - 48) v = true then none else _ : Option Int64)).bind _ = none
          rw [if_pos q]
          rfl
        refine lv_iload hx hb d_Mi_isInteger_178 (lv_at hl 0 rfl) ?_
        refine lv_iload_n hx hb d_Mi_isInteger_180 rfl (lv_at hl 5 rfl) ?_
        refine lv_icmp_ge (tgt := 263) hx hb d_Mi_isInteger_181 (by decide) (fun q => absurd q (fun q => by have := (nI_leI (by omega) (by omega)).mp q; omega)) (fun _ => ?_)
        have j241 : ∀ (_ : Unit), dbad (wd (f + i) - 48) v = false → ∀ (H : Heap) (locs : List Loc) (ls : Array Slot), gW G A s (wMi G ad sn fn ff on of hn hf fm fs wd sz mn tp ln v) H locs → lv_has ls 7 [(6, .int (wd (f + i) - 48)), (5, .int (nI i)), (4, .int (bI mi)), (3, .int (nI p1)), (0, .ref (ad 0)), (1, .int (nI f)), (2, .int (nI n))] → W p l e (rmL 1) s m args below meth c H locs 0 0 Q (F0 m 241 ls []) := by
          intro _ hg H locs ls hw hl
          refine lv_aload_n hx hb d_Mi_isInteger_241 rfl (lv_at hl 4 rfl) ?_
          refine lv_ldc2 (v := 10) hx hb S.2.2.2.1 (S.2.2.2.2 _ k_248) d_Mi_isInteger_242 ?_
          refine lv_aload_n hx hb d_Mi_isInteger_245 rfl (lv_at hl 4 rfl) ?_
          refine xget S hw fl_Mi_74 0 rfl rfl d_Mi_isInteger_246 ?_
          refine lv_lmul hx hb d_Mi_isInteger_249 ?_
          refine lv_iload hx hb d_Mi_isInteger_250 (lv_at hl 0 rfl) ?_
          refine lv_i2l hx hb d_Mi_isInteger_252 rfl ?_
          refine lv_lsub hx hb d_Mi_isInteger_253 ?_
          refine tpl (y := d10 v (wd (f + i) - 48)) rfl ?_
          refine xput S hw fl_Mi_74 0 rfl rfl rfl (Nat.le_of_ble_eq_true rfl) (ws' := wMi G ad sn fn ff on of hn hf fm fs wd sz mn tp ln (d10 v (wd (f + i) - 48))) rfl d_Mi_isInteger_254 (fun H locs hw => ?_)
          refine lv_iinc (v := nI (i + 1)) (lv' := [(5, .int (nI (i + 1))), (6, .int (wd (f + i) - 48)), (4, .int (bI mi)), (3, .int (nI p1)), (0, .ref (ad 0)), (1, .int (nI f)), (2, .int (nI n))]) hx hb d_Mi_isInteger_257 hl (k := 1) rfl (nI_1 i) (by decide) rfl (fun ls hl => ?_)
          refine lv_goto (tgt := 178) hx hb d_Mi_isInteger_260 (by decide) ?_
          refine ih (i + 1) _ (by omega) (by omega) ?_ _ _ _ hw (lv_sub hl [0, 2, 3, 4, 5, 6] rfl)
          rw [← hv]
          show _ = (if dbad (wd (f + i) - 48) v = true then none else _ : Option Int64)
          rw [if_neg (by rw [hg]; decide)]
          rfl
        refine lv_aload_n hx hb d_Mi_isInteger_184 rfl (lv_at hl 3 rfl) ?_
        refine xget S hw fl_Mi_32 0 rfl rfl d_Mi_isInteger_185 ?_
        refine lv_iload_n hx hb d_Mi_isInteger_188 rfl (lv_at hl 4 rfl) ?_
        refine lv_iload hx hb d_Mi_isInteger_189 (lv_at hl 0 rfl) ?_
        refine lv_iadd hx hb d_Mi_isInteger_191 ?_
        refine tpi (y := nI (f + i)) (nI_add f i) ?_
        refine xbald S hw 9 rfl (j := (f + i)) (by omega) (by decide) d_Mi_isInteger_192 ?_
        refine lv_bipush (v := 48) hx hb d_Mi_isInteger_193 (by decide) ?_
        refine lv_isub hx hb d_Mi_isInteger_195 ?_
        refine lv_istore (lv' := [(6, .int ((wd (f + i)) - 48)), (5, .int (nI i)), (4, .int (bI mi)), (3, .int (nI p1)), (0, .ref (ad 0)), (1, .int (nI f)), (2, .int (nI n))]) hx hb d_Mi_isInteger_196 hl (by decide) rfl (fun ls hl => ?_)
        refine lv_iload hx hb d_Mi_isInteger_198 (lv_at hl 0 rfl) ?_
        refine lv_if_lt (tgt := 239) hx hb d_Mi_isInteger_200 (by decide) (fun b1 => ?_) (fun b1 => ?_)
        · refine lv_iconst (v := 0) hx hb d_Mi_isInteger_239 (by decide) ?_
          exact kret _ _ _ _ _ v hw (Or.inr ⟨rfl, hbad (by unfold dbad; simp [b1])⟩) rfl d_Mi_isInteger_240
        · refine lv_iload hx hb d_Mi_isInteger_203 (lv_at hl 0 rfl) ?_
          refine lv_bipush (v := 9) hx hb d_Mi_isInteger_205 (by decide) ?_
          refine lv_icmp_gt (tgt := 239) hx hb d_Mi_isInteger_207 (by decide) (fun b2 => ?_) (fun b2 => ?_)
          · refine lv_iconst (v := 0) hx hb d_Mi_isInteger_239 (by decide) ?_
            exact kret _ _ _ _ _ v hw (Or.inr ⟨rfl, hbad (by unfold dbad; simp [b2])⟩) rfl d_Mi_isInteger_240
          · refine lv_aload_n hx hb d_Mi_isInteger_210 rfl (lv_at hl 4 rfl) ?_
            refine xget S hw fl_Mi_74 0 rfl rfl d_Mi_isInteger_211 ?_
            refine lv_ldc2 (v := (-922337203685477580)) hx hb S.2.2.2.1 (S.2.2.2.2 _ k_247) d_Mi_isInteger_214 ?_
            refine xl_lt (tgt := 239) S d_Mi_isInteger_217 d_Mi_isInteger_218 (by decide) (fun b3 => ?_) (fun b3 => ?_)
            · refine lv_iconst (v := 0) hx hb d_Mi_isInteger_239 (by decide) ?_
              exact kret _ _ _ _ _ v hw (Or.inr ⟨rfl, hbad (by unfold dbad; simp [b3])⟩) rfl d_Mi_isInteger_240
            · refine lv_aload_n hx hb d_Mi_isInteger_221 rfl (lv_at hl 4 rfl) ?_
              refine xget S hw fl_Mi_74 0 rfl rfl d_Mi_isInteger_222 ?_
              refine lv_ldc2 (v := (-922337203685477580)) hx hb S.2.2.2.1 (S.2.2.2.2 _ k_247) d_Mi_isInteger_225 ?_
              refine xl_ne (tgt := 241) S d_Mi_isInteger_228 d_Mi_isInteger_229 (by decide) (fun b4 => ?_) (fun b4 => ?_)
              · exact j241 () (by unfold dbad; simp [b1, b2, b3, b4]) _ _ _ hw (lv_sub hl [0, 1, 2, 3, 4, 5, 6] rfl)
              · refine lv_iload hx hb d_Mi_isInteger_232 (lv_at hl 0 rfl) ?_
                refine lv_bipush (v := 8) hx hb d_Mi_isInteger_234 (by decide) ?_
                refine lv_icmp_le (tgt := 241) hx hb d_Mi_isInteger_236 (by decide) (fun b5 => ?_) (fun b5 => ?_)
                · exact j241 () (by unfold dbad; simp [b1, b2, b3, b4, Int32.not_lt.mpr b5]) _ _ _ hw (lv_sub hl [0, 1, 2, 3, 4, 5, 6] rfl)
                · refine lv_iconst (v := 0) hx hb d_Mi_isInteger_239 (by decide) ?_
                  exact kret _ _ _ _ _ v hw (Or.inr ⟨rfl, hbad (by unfold dbad; simp [b4, Int32.not_le.mp b5])⟩) rfl d_Mi_isInteger_240
    refine lv_iload_n hx hb d_Mi_isInteger_175 rfl (lv_at hl 1 rfl) ?_
    refine lv_istore (lv' := [(5, .int (nI p1)), (4, .int (bI mi)), (3, .int (nI p1)), (0, .ref (ad 0)), (1, .int (nI f)), (2, .int (nI n))]) hx hb d_Mi_isInteger_176 hl (by decide) rfl (fun ls hl => ?_)
    exact lp (n - p1) p1 0 (by omega) (by omega) rfl _ _ _ hw hl
  have j95 : ∀ (_ : Unit), (p1 + 2 < n ∧ wd (f + p1) = 48 ∧ wd (f + p1 + 1) = 120) → ∀ (H : Heap) (locs : List Loc) (ls : Array Slot), gW G A s (wMi G ad sn fn ff on of hn hf fm fs wd sz mn tp ln 0) H locs → lv_has ls 7 [(4, .int (bI mi)), (3, .int (nI p1)), (0, .ref (ad 0)), (1, .int (nI f)), (2, .int (nI n))] → W p l e (rmL 1) s m args below meth c H locs 0 0 Q (F0 m 95 ls []) := by
    intro _ hc H locs ls hw hl
    have hpi := pI_hex hp hmi hc
    have hc2 := hc.1
    have lp : ∀ (d i : Nat) (v : Int64), i + d = n → p1 + 2 ≤ i → (i = p1 + 2 ∨ n ≤ p1 + 18) → phx wd (n - i) (f + i) v = phx wd (n - (p1 + 2)) (f + p1 + 2) 0 → ∀ (H : Heap) (locs : List Loc) (ls : Array Slot), gW G A s (wMi G ad sn fn ff on of hn hf fm fs wd sz mn tp ln v) H locs → lv_has ls 7 [(5, .int (nI i)), (4, .int (bI mi)), (3, .int (nI p1)), (0, .ref (ad 0)), (1, .int (nI f)), (2, .int (nI n))] → W p l e (rmL 1) s m args below meth c H locs 0 0 Q (F0 m 100 ls []) := by
      intro d
      induction d with
      | zero =>
        intro i v hi hpi2 h18 hv H locs ls hw hl
        obtain rfl : i = n := by omega
        rw [Nat.sub_self] at hv
        rw [if_pos (by omega), ← hv, show phx wd 0 (f + i) v = some v from rfl, Option.map_some] at hpi
        refine lv_iload hx hb d_Mi_isInteger_100 (lv_at hl 0 rfl) ?_
        refine lv_iload_n hx hb d_Mi_isInteger_102 rfl (lv_at hl 5 rfl) ?_
        refine lv_icmp_ge (tgt := 159) hx hb d_Mi_isInteger_103 (by decide) (fun _ => ?_) (fun q => absurd ((nI_leI (by omega) (by omega)).mpr (by omega)) q)
        refine lv_iload hx hb d_Mi_isInteger_159 (lv_at hl 1 rfl) ?_
        refine lv_if_eq (tgt := 173) hx hb d_Mi_isInteger_161 (by decide) (fun cm => ?_) (fun cm => ?_)
        · have cm : mi = false := bI_z cm
          refine lv_iconst (v := 1) hx hb d_Mi_isInteger_173 (by decide) ?_
          exact kret _ _ _ _ _ v hw (Or.inl ⟨rfl, by rw [hpi, cm]; rfl⟩) rfl d_Mi_isInteger_174
        · have cm : mi = true := bI_t cm
          refine lv_aload_n hx hb d_Mi_isInteger_164 rfl (lv_at hl 3 rfl) ?_
          refine lv_aload_n hx hb d_Mi_isInteger_165 rfl (lv_at hl 3 rfl) ?_
          refine xget S hw fl_Mi_74 0 rfl rfl d_Mi_isInteger_166 ?_
          refine lv_lneg hx hb d_Mi_isInteger_169 ?_
          refine xput S hw fl_Mi_74 0 rfl rfl rfl (Nat.le_of_ble_eq_true rfl) (ws' := wMi G ad sn fn ff on of hn hf fm fs wd sz mn tp ln (-v)) rfl d_Mi_isInteger_170 (fun H locs hw => ?_)
          refine lv_iconst (v := 1) hx hb d_Mi_isInteger_173 (by decide) ?_
          exact kret _ _ _ _ _ (-v) hw (Or.inl ⟨rfl, by rw [hpi, cm]; rfl⟩) rfl d_Mi_isInteger_174
      | succ d ih =>
        intro i v hi hpi2 h18 hv H locs ls hw hl
        have hni : n - i = (n - (i + 1)) + 1 := by omega
        rw [hni] at hv
        have hbad : hexd (wd (f + i)) < 0 → pI wd f n = none := by
          intro q
          rw [hpi, ← hv]
          split
          · show Option.map _ (if hexd (wd (f + i)) < 0 then none else _ : Option Int64) = none
            rw [if_pos q]
            rfl
          · rfl
        refine lv_iload hx hb d_Mi_isInteger_100 (lv_at hl 0 rfl) ?_
        refine lv_iload_n hx hb d_Mi_isInteger_102 rfl (lv_at hl 5 rfl) ?_
        refine lv_icmp_ge (tgt := 159) hx hb d_Mi_isInteger_103 (by decide) (fun q => absurd q (fun q => by have := (nI_leI (by omega) (by omega)).mp q; omega)) (fun _ => ?_)
        refine lv_aload_n hx hb d_Mi_isInteger_106 rfl (lv_at hl 3 rfl) ?_
        refine xget S hw fl_Mi_32 0 rfl rfl d_Mi_isInteger_107 ?_
        refine lv_iload_n hx hb d_Mi_isInteger_110 rfl (lv_at hl 4 rfl) ?_
        refine lv_iload hx hb d_Mi_isInteger_111 (lv_at hl 0 rfl) ?_
        refine lv_iadd hx hb d_Mi_isInteger_113 ?_
        refine tpi (y := nI (f + i)) (nI_add f i) ?_
        refine xbald S hw 9 rfl (j := (f + i)) (by omega) (by decide) d_Mi_isInteger_114 ?_
        refine lv_sipush (v := 255) hx hb d_Mi_isInteger_115 (by decide) ?_
        refine lv_iand hx hb d_Mi_isInteger_118 ?_
        refine zSi (As := [.int ((wd (f + i)) &&& 255)]) (rest := []) S hw hl.1 sl_Mi_78 (c_Mi_hexadecimal l G (wd (f + i) &&& 255)) XB0 (fun _ _ _ => trivial) rfl ⟨rfl, rfl⟩ [] [0, 1, 2, 3, 4, 5, 6, 7, 8, 9, 10, 11] [0, 1, 2, 3, 4, 5, 6, 7, 8, 9, 10, 11] rfl rfl (by decide) rfl rfl rfl d_Mi_isInteger_119 (fun _ => wMi G ad sn fn ff on of hn hf fm fs wd sz mn tp ln v) (fun _ => rfl) (fun r_119 _ H locs hpc hw => ?_)
        rw [hexd_255 (hby _)] at hpc
        subst hpc
        refine lv_istore (lv' := [(6, .int (hexd (wd (f + i)))), (5, .int (nI i)), (4, .int (bI mi)), (3, .int (nI p1)), (0, .ref (ad 0)), (1, .int (nI f)), (2, .int (nI n))]) hx hb d_Mi_isInteger_122 hl (by decide) rfl (fun ls hl => ?_)
        refine lv_iload hx hb d_Mi_isInteger_124 (lv_at hl 0 rfl) ?_
        refine lv_if_lt (tgt := 137) hx hb d_Mi_isInteger_126 (by decide) (fun b1 => ?_) (fun b1 => ?_)
        · refine lv_iconst (v := 0) hx hb d_Mi_isInteger_137 (by decide) ?_
          exact kret _ _ _ _ _ v hw (Or.inr ⟨rfl, hbad b1⟩) rfl d_Mi_isInteger_138
        · refine lv_iload_n hx hb d_Mi_isInteger_129 rfl (lv_at hl 6 rfl) ?_
          refine lv_iload_n hx hb d_Mi_isInteger_130 rfl (lv_at hl 3 rfl) ?_
          refine lv_isub hx hb d_Mi_isInteger_131 ?_
          refine tpi (y := nI (n - p1)) (pk_sub (by omega)) ?_
          refine lv_bipush (v := 18) hx hb d_Mi_isInteger_132 (by decide) ?_
          refine lv_icmp_le (tgt := 139) hx hb d_Mi_isInteger_134 (by decide) (fun b2 => ?_) (fun b2 => ?_)
          · have b2 : (n - p1) ≤ 18 := (nI_leI (a := (n - p1)) (b := 18) (by omega) (by omega)).mp b2
            refine lv_aload_n hx hb d_Mi_isInteger_139 rfl (lv_at hl 4 rfl) ?_
            refine lv_aload_n hx hb d_Mi_isInteger_140 rfl (lv_at hl 4 rfl) ?_
            refine xget S hw fl_Mi_74 0 rfl rfl d_Mi_isInteger_141 ?_
            refine lv_iconst (v := 4) hx hb d_Mi_isInteger_144 (by decide) ?_
            refine lv_lshl hx hb d_Mi_isInteger_145 rfl ?_
            refine lv_iload hx hb d_Mi_isInteger_146 (lv_at hl 0 rfl) ?_
            refine lv_i2l hx hb d_Mi_isInteger_148 rfl ?_
            refine lv_lor hx hb d_Mi_isInteger_149 ?_
            refine tpl (y := hx64 v (hexd (wd (f + i)))) rfl ?_
            refine xput S hw fl_Mi_74 0 rfl rfl rfl (Nat.le_of_ble_eq_true rfl) (ws' := wMi G ad sn fn ff on of hn hf fm fs wd sz mn tp ln (hx64 v (hexd (wd (f + i))))) rfl d_Mi_isInteger_150 (fun H locs hw => ?_)
            refine lv_iinc (v := nI (i + 1)) (lv' := [(5, .int (nI (i + 1))), (6, .int (hexd (wd (f + i)))), (4, .int (bI mi)), (3, .int (nI p1)), (0, .ref (ad 0)), (1, .int (nI f)), (2, .int (nI n))]) hx hb d_Mi_isInteger_153 hl (k := 1) rfl (nI_1 i) (by decide) rfl (fun ls hl => ?_)
            refine lv_goto (tgt := 100) hx hb d_Mi_isInteger_156 (by decide) ?_
            refine ih (i + 1) _ (by omega) (by omega) (Or.inr (by omega)) ?_ _ _ _ hw (lv_sub hl [0, 2, 3, 4, 5, 6] rfl)
            rw [← hv]
            show _ = (if hexd (wd (f + i)) < 0 then none else _ : Option Int64)
            rw [if_neg b1]
            rfl
          · have b2 : ¬ (n - p1) ≤ 18 := fun q => b2 ((nI_leI (a := (n - p1)) (b := 18) (by omega) (by omega)).mpr q)
            refine lv_iconst (v := 0) hx hb d_Mi_isInteger_137 (by decide) ?_
            exact kret _ _ _ _ _ v hw (Or.inr ⟨rfl, by rw [hpi, if_neg (by omega)]⟩) rfl d_Mi_isInteger_138
    refine lv_iload_n hx hb d_Mi_isInteger_95 rfl (lv_at hl 1 rfl) ?_
    refine lv_iconst (v := 2) hx hb d_Mi_isInteger_96 (by decide) ?_
    refine lv_iadd hx hb d_Mi_isInteger_97 ?_
    refine tpi (y := nI (p1 + 2)) (nI_add p1 2) ?_
    refine lv_istore (lv' := [(5, .int (nI (p1 + 2))), (4, .int (bI mi)), (3, .int (nI p1)), (0, .ref (ad 0)), (1, .int (nI f)), (2, .int (nI n))]) hx hb d_Mi_isInteger_98 hl (by decide) rfl (fun ls hl => ?_)
    exact lp (n - (p1 + 2)) (p1 + 2) 0 (by omega) (by omega) (Or.inl rfl) rfl _ _ _ hw hl
  have j53 : ∀ (_ : Unit), ∀ (H : Heap) (locs : List Loc) (ls : Array Slot), gW G A s (wMi G ad sn fn ff on of hn hf fm fs wd sz mn tp ln vl) H locs → lv_has ls 7 [(3, .int (nI p1)), (0, .ref (ad 0)), (1, .int (nI f)), (2, .int (nI n))] → W p l e (rmL 1) s m args below meth c H locs 0 0 Q (F0 m 53 ls [.int (bI mi)]) := by
    intro _ H locs ls hw hl
    refine lv_istore (lv' := [(4, .int (bI mi)), (3, .int (nI p1)), (0, .ref (ad 0)), (1, .int (nI f)), (2, .int (nI n))]) hx hb d_Mi_isInteger_53 hl (by decide) rfl (fun ls hl => ?_)
    refine lv_aload_n hx hb d_Mi_isInteger_55 rfl (lv_at hl 2 rfl) ?_
    refine lv_lconst (v := 0) hx hb d_Mi_isInteger_56 (by decide) ?_
    refine xput S hw fl_Mi_74 0 rfl rfl rfl (Nat.le_of_ble_eq_true rfl) (ws' := wMi G ad sn fn ff on of hn hf fm fs wd sz mn tp ln 0) rfl d_Mi_isInteger_57 (fun H locs hw => ?_)
    refine lv_iload_n hx hb d_Mi_isInteger_60 rfl (lv_at hl 4 rfl) ?_
    refine lv_iload_n hx hb d_Mi_isInteger_61 rfl (lv_at hl 1 rfl) ?_
    refine lv_isub hx hb d_Mi_isInteger_62 ?_
    refine tpi (y := nI (n - p1)) (pk_sub (by omega)) ?_
    refine lv_iconst (v := 2) hx hb d_Mi_isInteger_63 (by decide) ?_
    refine lv_icmp_le (tgt := 175) hx hb d_Mi_isInteger_64 (by decide) (fun c1 => ?_) (fun c1 => ?_)
    · have c1 : (n - p1) ≤ 2 := (nI_leI (a := (n - p1)) (b := 2) (by omega) (by omega)).mp c1
      exact j175 () (fun q => by omega) _ _ _ hw hl
    · have c1 : ¬ (n - p1) ≤ 2 := fun q => c1 ((nI_leI (a := (n - p1)) (b := 2) (by omega) (by omega)).mpr q)
      refine lv_aload_n hx hb d_Mi_isInteger_67 rfl (lv_at hl 2 rfl) ?_
      refine xget S hw fl_Mi_32 0 rfl rfl d_Mi_isInteger_68 ?_
      refine lv_iload_n hx hb d_Mi_isInteger_71 rfl (lv_at hl 3 rfl) ?_
      refine lv_iload_n hx hb d_Mi_isInteger_72 rfl (lv_at hl 1 rfl) ?_
      refine lv_iadd hx hb d_Mi_isInteger_73 ?_
      refine tpi (y := nI (f + p1)) (nI_add f p1) ?_
      refine xbald S hw 9 rfl (j := (f + p1)) (by omega) (by decide) d_Mi_isInteger_74 ?_
      refine lv_bipush (v := 48) hx hb d_Mi_isInteger_75 (by decide) ?_
      refine lv_icmp_ne (tgt := 175) hx hb d_Mi_isInteger_77 (by decide) (fun c2 => ?_) (fun c2 => ?_)
      · exact j175 () (fun q => c2 q.2.1) _ _ _ hw hl
      · refine lv_aload_n hx hb d_Mi_isInteger_80 rfl (lv_at hl 2 rfl) ?_
        refine xget S hw fl_Mi_32 0 rfl rfl d_Mi_isInteger_81 ?_
        refine lv_iload_n hx hb d_Mi_isInteger_84 rfl (lv_at hl 3 rfl) ?_
        refine lv_iload_n hx hb d_Mi_isInteger_85 rfl (lv_at hl 1 rfl) ?_
        refine lv_iadd hx hb d_Mi_isInteger_86 ?_
        refine tpi (y := nI (f + p1)) (nI_add f p1) ?_
        refine lv_iconst (v := 1) hx hb d_Mi_isInteger_87 (by decide) ?_
        refine lv_iadd hx hb d_Mi_isInteger_88 ?_
        refine tpi (y := nI ((f + p1) + 1)) (nI_add (f + p1) 1) ?_
        refine xbald S hw 9 rfl (j := ((f + p1) + 1)) (by omega) (by decide) d_Mi_isInteger_89 ?_
        refine lv_bipush (v := 120) hx hb d_Mi_isInteger_90 (by decide) ?_
        refine lv_icmp_ne (tgt := 175) hx hb d_Mi_isInteger_92 (by decide) (fun c3 => ?_) (fun c3 => ?_)
        · exact j175 () (fun q => c3 q.2.2) _ _ _ hw hl
        · exact j95 () ⟨by omega, c2, c3⟩ _ _ _ hw hl
  have j31 : ∀ (_ : Unit), ∀ (H : Heap) (locs : List Loc) (ls : Array Slot), gW G A s (wMi G ad sn fn ff on of hn hf fm fs wd sz mn tp ln vl) H locs → lv_has ls 7 [(0, .ref (ad 0)), (1, .int (nI f)), (2, .int (nI n))] → W p l e (rmL 1) s m args below meth c H locs 0 0 Q (F0 m 31 ls [.int (nI p1)]) := by
    intro _ H locs ls hw hl
    refine lv_istore_n (lv' := [(3, .int (nI p1)), (0, .ref (ad 0)), (1, .int (nI f)), (2, .int (nI n))]) hx hb d_Mi_isInteger_31 rfl hl (by decide) rfl (fun ls hl => ?_)
    refine lv_iload_n hx hb d_Mi_isInteger_32 rfl (lv_at hl 0 rfl) ?_
    refine lv_iconst (v := 1) hx hb d_Mi_isInteger_33 (by decide) ?_
    refine lv_icmp_ne (tgt := 52) hx hb d_Mi_isInteger_34 (by decide) (fun c1 => ?_) (fun c1 => ?_)
    · have c1 : ¬ p1 = 1 := fun q => c1 ((nI_eq (a := p1) (b := 1) (by omega) (by omega)).mpr q)
      refine lv_iconst (v := 0) hx hb d_Mi_isInteger_52 (by decide) ?_
      refine W.eq (by rw [show (0 : Int32) = bI mi from by rw [hmi, pMi_1 (by rw [← hp]; exact c1)]; rfl]) (j53 () _ _ _ hw hl)
    · have c1 : p1 = 1 := (nI_eq (a := p1) (b := 1) (by omega) (by omega)).mp c1
      refine lv_aload_n hx hb d_Mi_isInteger_37 rfl (lv_at hl 1 rfl) ?_
      refine xget S hw fl_Mi_32 0 rfl rfl d_Mi_isInteger_38 ?_
      refine lv_iload_n hx hb d_Mi_isInteger_41 rfl (lv_at hl 2 rfl) ?_
      refine xbald S hw 9 rfl (j := f) (by omega) (by decide) d_Mi_isInteger_42 ?_
      refine lv_bipush (v := 45) hx hb d_Mi_isInteger_43 (by decide) ?_
      refine lv_icmp_ne (tgt := 52) hx hb d_Mi_isInteger_45 (by decide) (fun c2 => ?_) (fun c2 => ?_)
      · refine lv_iconst (v := 0) hx hb d_Mi_isInteger_52 (by decide) ?_
        refine W.eq (by rw [show (0 : Int32) = bI mi from by rw [hmi, pMi_2 (by rw [← hp]; exact c1), decide_eq_false c2]; rfl]) (j53 () _ _ _ hw hl)
      · refine lv_iconst (v := 1) hx hb d_Mi_isInteger_48 (by decide) ?_
        refine lv_goto (tgt := 53) hx hb d_Mi_isInteger_49 (by decide) ?_
        refine W.eq (by rw [show (1 : Int32) = bI mi from by rw [hmi, pMi_2 (by rw [← hp]; exact c1), decide_eq_true c2]; rfl]) (j53 () _ _ _ hw hl)
  refine lv_iload_n hx hb d_Mi_isInteger_0 rfl (lv_at hl 2 rfl) ?_
  refine lv_if_le (tgt := 30) hx hb d_Mi_isInteger_1 (by decide) (fun c1 => ?_) (fun c1 => ?_)
  · have c1 : n ≤ 0 := (nI_leI (a := n) (b := 0) (by omega) (by omega)).mp c1
    refine lv_iconst (v := 0) hx hb d_Mi_isInteger_30 (by decide) ?_
    refine W.eq (by rw [show (0 : Int32) = nI p1 from by rw [hp]; unfold pSg; rw [if_neg (fun q => by omega)]; rfl]) (j31 () _ _ _ hw hl)
  · have c1 : 0 < n := by
      apply Nat.lt_of_not_le
      intro q
      exact c1 ((nI_leI (a := n) (b := 0) (by omega) (by omega)).mpr q)
    refine lv_aload_n hx hb d_Mi_isInteger_4 rfl (lv_at hl 0 rfl) ?_
    refine xget S hw fl_Mi_32 0 rfl rfl d_Mi_isInteger_5 ?_
    refine lv_iload_n hx hb d_Mi_isInteger_8 rfl (lv_at hl 1 rfl) ?_
    refine xbald S hw 9 rfl (j := f) (by omega) (by decide) d_Mi_isInteger_9 ?_
    refine lv_bipush (v := 45) hx hb d_Mi_isInteger_10 (by decide) ?_
    refine lv_icmp_eq (tgt := 26) hx hb d_Mi_isInteger_12 (by decide) (fun c2 => ?_) (fun c2 => ?_)
    · refine lv_iconst (v := 1) hx hb d_Mi_isInteger_26 (by decide) ?_
      refine lv_goto (tgt := 31) hx hb d_Mi_isInteger_27 (by decide) ?_
      refine W.eq (by rw [show (1 : Int32) = nI p1 from by rw [hp]; unfold pSg; rw [if_pos ⟨c1, Or.inl c2⟩]; rfl]) (j31 () _ _ _ hw hl)
    · refine lv_aload_n hx hb d_Mi_isInteger_15 rfl (lv_at hl 0 rfl) ?_
      refine xget S hw fl_Mi_32 0 rfl rfl d_Mi_isInteger_16 ?_
      refine lv_iload_n hx hb d_Mi_isInteger_19 rfl (lv_at hl 1 rfl) ?_
      refine xbald S hw 9 rfl (j := f) (by omega) (by decide) d_Mi_isInteger_20 ?_
      refine lv_bipush (v := 43) hx hb d_Mi_isInteger_21 (by decide) ?_
      refine lv_icmp_ne (tgt := 30) hx hb d_Mi_isInteger_23 (by decide) (fun c3 => ?_) (fun c3 => ?_)
      · refine lv_iconst (v := 0) hx hb d_Mi_isInteger_30 (by decide) ?_
        refine W.eq (by rw [show (0 : Int32) = nI p1 from by rw [hp]; unfold pSg; rw [if_neg (fun q => q.2.elim c2 c3)]; rfl]) (j31 () _ _ _ hw hl)
      · refine lv_iconst (v := 1) hx hb d_Mi_isInteger_26 (by decide) ?_
        refine lv_goto (tgt := 31) hx hb d_Mi_isInteger_27 (by decide) ?_
        refine W.eq (by rw [show (1 : Int32) = nI p1 from by rw [hp]; unfold pSg; rw [if_pos ⟨c1, Or.inr c3⟩]; rfl]) (j31 () _ _ _ hw hl)
end
section
/-! ===== the one String constant, and what the JDK's methods ask ===== -/
def sBy : List Int32 := [100, 120, 88, 111, 99, 115, 37]
def Xs (adK adV : Nat → Nat) : (Nat → Prop) → State → Prop := fun A U =>
  vk_S 1 [7] [sBy] adK adV A U U.heap ∧ va_Z "java/lang/String" "COMPACT_STRINGS" "Z" (.int 1) A U U.heap ∧ vk_R "FormatMill" 106 "dxXocs%" (adK 0) U
theorem XBs {adK adV : Nat → Nat} : XB (Xs adK adV) := by
  intro A U g mk a h
  obtain ⟨h1, h2, h3⟩ := h
  exact ⟨vk_S.moved (u := U) (Vm.Alike.refl U.vm) h1, va_Z.moved (u := U) (Vm.Alike.refl U.vm) h2, vk_R.same (u := U) rfl h3⟩
theorem Xs_down {G : gG} {A : Nat → Prop} {s : State} {ws : va_W} {H : Heap} {locs : List Loc} {adK adV : Nat → Nat} (hX : Xs adK adV A s) (hw : gW G A s ws H locs) : ∀ U : State, U.heap = H → s.WarmedH U.vm → Xs adK adV (va_A [] H.size) U := by
  intro U hU hW
  obtain ⟨h1, h2, h3⟩ := hX
  obtain ⟨hK, hP, hD, hS, hA⟩ := hw
  have hn : ∀ q, va_A [] H.size q → A q := by
    intro q hq
    rcases hq with ⟨k, e, he⟩ | hq
    · simp at he
    · exact hA q (Nat.le_trans hS.1 hq)
  have g1 := ((h1.kept (H1 := H) hS.2.1).narrow hn).moved hW.alike
  have g2 := ((h2.kept (H1 := H) hS.2.1).narrow hn).moved hW.alike
  refine ⟨?_, ?_, h3.warm hW⟩
  · rw [hU]; exact g1
  · rw [hU]; exact g2
section JDK
variable {p : Program} {l : Launch} {e : Env} {R : Room} {s : State} {m : MethodId} {args : Array Value} {below : List Frame} {meth : Method} {c : Code} {H : Heap} {locs : List Loc} {cells slots : Nat} {Q : State → Prop}
variable {cc : ByteArray} {pc nL : Nat} {ls : Array Slot} {rest st0 : List Value} {own : String} {G : gG} {A : Nat → Prop} {ws : va_W} {σ : Type} {adK adV : Nat → Nat}
variable {y : MethodName} {bytes : ByteArray} {maxL index n : Nat} {ret : Option FieldType} {rm : Room} {As : List Value}
theorem sgC (S : CallFix p m c cc nL s args gt R_St) (hw : gW G A s ws H locs) (hX : Xs adK adV A s) (hdg : decode cc pc = .ok (.getstatic 38, 3))
    (kk : W p l e R s m args below meth c H locs cells slots Q (F0 m (pc + 3) ls (.int 1 :: rest))) : W p l e R s m args below meth c H locs cells slots Q (F0 m pc ls rest) :=
  va_gets S.1 S.2.1 hX.2.1 hw.2.2.2.1 S.2.2.2.1 (S.2.2.2.2 _ k_168) (fun _ h => h) hdg kk
theorem sgK (S : CallFix p m c cc nL s args gt R_St) (hw : gW G A s ws H locs) (hX : Xs adK adV A s) (hdg : decode cc pc = .ok (.getfield 15, 3))
    (kk : W p l e R s m args below meth c H locs cells slots Q (F0 m (pc + 3) ls (.int 0 :: rest))) : W p l e R s m args below meth c H locs cells slots Q (F0 m pc ls (.ref (adK 0) :: rest)) :=
  vk_getf S.1 S.2.1 (hX.1.1 0 (by decide)).2.1 hw.2.2.2.1 S.2.2.2.1 (S.2.2.2.2 _ k_433) (fun _ h => h) hdg kk
theorem sgV (S : CallFix p m c cc nL s args gt R_St) (hw : gW G A s ws H locs) (hX : Xs adK adV A s) (hdg : decode cc pc = .ok (.getfield 9, 3))
    (kk : W p l e R s m args below meth c H locs cells slots Q (F0 m (pc + 3) ls (.ref (adV 0) :: rest))) : W p l e R s m args below meth c H locs cells slots Q (F0 m pc ls (.ref (adK 0) :: rest)) :=
  vk_getf S.1 S.2.1 (hX.1.1 0 (by decide)).2.2.1 hw.2.2.2.1 S.2.2.2.1 (S.2.2.2.2 _ k_434) (fun _ h => h) hdg kk
theorem sgL (S : CallFix p m c cc nL s args gt own) (hw : gW G A s ws H locs) (hX : Xs adK adV A s) (hdg : decode cc pc = .ok (.arraylength, 1))
    (kk : W p l e R s m args below meth c H locs cells slots Q (F0 m (pc + 1) ls (.int 7 :: rest))) : W p l e R s m args below meth c H locs cells slots Q (F0 m pc ls (.ref (adV 0) :: rest)) :=
  va_tlen S.1 S.2.1 (hX.1.1 0 (by decide)).2.2.2 hw.2.2.2.1 rfl hdg kk
theorem sgB (S : CallFix p m c cc nL s args gt own) (hw : gW G A s ws H locs) (hX : Xs adK adV A s) {j : Nat} (hj : j < 7) (hdg : decode cc pc = .ok (.baload, 1))
    (kk : W p l e R s m args below meth c H locs cells slots Q (F0 m (pc + 1) ls (.int (sBy.getD j 0) :: rest))) : W p l e R s m args below meth c H locs cells slots Q (F0 m pc ls (.int (nI j) :: .ref (adV 0) :: rest)) :=
  va_tb S.1 S.2.1 (hX.1.1 0 (by decide)).2.2.2 hw.2.2.2.1 (vp_in_nI hj (by decide)) (v := .int (sBy.getD j 0)) (by rw [nI_clamp (by omega)]; rfl) hdg kk
theorem zVs {post : Int32 → Unit → Prop} (S : CallFix p m c cc nL s args gt own) (hw : gW G A s ws H locs) (hX : Xs adK adV A s) (hsz : ls.size = nL) (vl : VL own index y bytes maxL ret n) (hM : MetI (σ := Unit) l y (Cond.code y bytes maxL ret) rm 0 0 G (.ref (adK 0) :: As) [] (Xs adK adV) post (fun _ => [])) (hy : y.cls = "java/lang/String")
    (hR : (Nat.ble (rm.frames + 1) R.frames && Nat.ble (8 + (maxL + 11) + rm.locals) R.locals && Nat.ble cells R.cells && Nat.ble slots R.slots) = true) (hrm : rm.cells = 0 ∧ rm.slots = 0) (isR : List Nat) (hRl : isR.all (fun i => Nat.blt i ws.length) = true) (hnds : va_nd isR = true) (hpk : pick ws isR = ws)
    (hst : st0 = As.reverse ++ .ref (adK 0) :: rest) (hlen : As.length = n) (hrest : Nat.ble (rest.map fun v => v.category).sum 8 = true) (hdg : decode cc pc = .ok (.invokevirtual index, 3))
    (kk : ∀ (r : Int32) (H : Heap) (locs : List Loc), post r () → gW G A s ws H locs → W p l e R s m args below meth c H locs cells slots Q (F0 m (pc + 3) ls (.int r :: rest))) : W p l e R s m args below meth c H locs cells slots Q (F0 m pc ls st0) := by
  simp only [Bool.and_eq_true, Nat.ble_eq] at hR
  exact xcallVi' (wr := pick ws isR) (wn := fun _ => ws) S hw vl hM ⟨hR.1.1.1, hR.1.1.2⟩ hrm.1 hrm.2 [] isR isR rfl (pick_map hRl) rfl hnds (fun i _ => by simp) XBs (Xs_down hX hw) (by rw [hy]; exact vk_recv hX.1 (by decide) hw.2.2.2.1) hst hlen hsz (Nat.le_of_ble_eq_true hrest) hdg ⟨hR.1.2, hR.2⟩ (fun u => by
    show isR.map (fun i => (pick ws isR ++ [])[i]?) = ws.map some
    rw [List.append_nil, hpk, pick_map hRl, hpk]) hnds (fun r u H locs hp hw => kk r H locs hp hw)
end JDK
theorem kOk_iff (y : Int32) : kOk y = true ↔ ∃ j, j < 7 ∧ sBy.getD j 0 = y := by
  constructor
  · intro h
    simp only [kOk, Bool.or_eq_true, decide_eq_true_eq] at h
    rcases h with (((((h | h) | h) | h) | h) | h) | h
    · exact ⟨0, by decide, h.symm⟩
    · exact ⟨1, by decide, h.symm⟩
    · exact ⟨2, by decide, h.symm⟩
    · exact ⟨3, by decide, h.symm⟩
    · exact ⟨4, by decide, h.symm⟩
    · exact ⟨5, by decide, h.symm⟩
    · exact ⟨6, by decide, h.symm⟩
  · rintro ⟨j, hj, rfl⟩
    have : ∀ j, j < 7 → kOk (sBy.getD j 0) = true := by decide
    exact this j hj
end
section
set_option maxHeartbeats 4000000 in
set_option maxRecDepth 100000 in
theorem c_St_coder (l : Launch) (G : gG) (adK adV : Nat → Nat) : MetI (σ := Unit) l y_St_coder (Cond.code y_St_coder b_St_coder 1 (some .byte)) (rmL 0) 0 0 G [.ref (adK 0)] (([] : va_W)) (Xs adK adV) (fun r _ => r = 0) (fun _ => ([] : va_W)) := by
  refine MetI.mk2 (by decide) (Nat.le_of_ble_eq_true rfl) ?_
  intro p e s m args below meth c A ls Q S hw hX hl kret
  have hx := S.1
  have hb := S.2.1
  have hl : lv_has ls 1 [(0, .ref (adK 0))] := hl
  generalize hH0 : s.heap = H at hw ⊢
  generalize hL0 : ([] : List Loc) = locs at hw ⊢
  refine sgC S hw hX d_St_coder_0 ?_
  refine lv_if_eq (tgt := 13) hx hb d_St_coder_3 (by decide) (fun q => absurd q (by decide)) (fun _ => ?_)
  refine lv_aload_n hx hb d_St_coder_6 rfl (lv_at hl 0 rfl) ?_
  refine sgK S hw hX d_St_coder_7 ?_
  refine lv_goto (tgt := 14) hx hb d_St_coder_10 (by decide) ?_
  exact kret _ _ _ _ _ () hw rfl rfl d_St_coder_14
set_option maxHeartbeats 4000000 in
set_option maxRecDepth 100000 in
theorem c_St_isLatin1 (l : Launch) (G : gG) (adK adV : Nat → Nat) : MetI (σ := Unit) l y_St_isLatin1 (Cond.code y_St_isLatin1 b_St_isLatin1 1 (some .boolean)) (rmL 0) 0 0 G [.ref (adK 0)] (([] : va_W)) (Xs adK adV) (fun r _ => r = 1) (fun _ => ([] : va_W)) := by
  refine MetI.mk2 (by decide) (Nat.le_of_ble_eq_true rfl) ?_
  intro p e s m args below meth c A ls Q S hw hX hl kret
  have hx := S.1
  have hb := S.2.1
  have hl : lv_has ls 1 [(0, .ref (adK 0))] := hl
  generalize hH0 : s.heap = H at hw ⊢
  generalize hL0 : ([] : List Loc) = locs at hw ⊢
  refine sgC S hw hX d_St_isLatin1_0 ?_
  refine lv_if_eq (tgt := 17) hx hb d_St_isLatin1_3 (by decide) (fun q => absurd q (by decide)) (fun _ => ?_)
  refine lv_aload_n hx hb d_St_isLatin1_6 rfl (lv_at hl 0 rfl) ?_
  refine sgK S hw hX d_St_isLatin1_7 ?_
  refine lv_if_ne (tgt := 17) hx hb d_St_isLatin1_10 (by decide) (fun q => absurd (by decide) q) (fun _ => ?_)
  refine lv_iconst (v := 1) hx hb d_St_isLatin1_13 (by decide) ?_
  refine lv_goto (tgt := 18) hx hb d_St_isLatin1_14 (by decide) ?_
  exact kret _ _ _ _ _ () hw rfl rfl d_St_isLatin1_18
set_option maxHeartbeats 4000000 in
set_option maxRecDepth 100000 in
theorem c_St_length (l : Launch) (G : gG) (adK adV : Nat → Nat) : MetI (σ := Unit) l y_St_length (Cond.code y_St_length b_St_length 1 (some .int)) (rmL 1) 0 0 G [.ref (adK 0)] (([] : va_W)) (Xs adK adV) (fun r _ => r = 7) (fun _ => ([] : va_W)) := by
  refine MetI.mk2 (by decide) (Nat.le_of_ble_eq_true rfl) ?_
  intro p e s m args below meth c A ls Q S hw hX hl kret
  have hx := S.1
  have hb := S.2.1
  have hl : lv_has ls 1 [(0, .ref (adK 0))] := hl
  generalize hH0 : s.heap = H at hw ⊢
  generalize hL0 : ([] : List Loc) = locs at hw ⊢
  refine lv_aload_n hx hb d_St_length_0 rfl (lv_at hl 0 rfl) ?_
  refine sgV S hw hX d_St_length_1 ?_
  refine sgL S hw hX d_St_length_4 ?_
  refine lv_aload_n hx hb d_St_length_5 rfl (lv_at hl 0 rfl) ?_
  refine zVs (As := []) (rest := [.int 7]) S hw hX hl.1 vl_St_335 (c_St_coder l G adK adV) rfl rfl ⟨rfl, rfl⟩ [] rfl (by decide) rfl rfl rfl rfl d_St_length_6 (fun r_6 H locs hp hw => ?_)
  subst hp
  refine lv_ishr hx hb d_St_length_9 ?_
  refine tpi (y := 7) (by decide) ?_
  exact kret _ _ _ _ _ () hw rfl rfl d_St_length_10
set_option maxHeartbeats 4000000 in
set_option maxRecDepth 100000 in
theorem c_Sl_canEncode (l : Launch) (G : gG) (adK adV : Nat → Nat) (k : Nat) (hk : k < 256) : MetI (σ := Unit) l y_Sl_canEncode (Cond.code y_Sl_canEncode b_Sl_canEncode 1 (some .boolean)) (rmL 0) 0 0 G [.int (nI k)] (([] : va_W)) (Xs adK adV) (fun r _ => r = 1) (fun _ => ([] : va_W)) := by
  refine MetI.mk2 (by decide) (Nat.le_of_ble_eq_true rfl) ?_
  intro p e s m args below meth c A ls Q S hw hX hl kret
  have hx := S.1
  have hb := S.2.1
  have hl : lv_has ls 1 [(0, .int (nI k))] := hl
  generalize hH0 : s.heap = H at hw ⊢
  generalize hL0 : ([] : List Loc) = locs at hw ⊢
  refine lv_iload_n hx hb d_Sl_canEncode_0 rfl (lv_at hl 0 rfl) ?_
  refine lv_if_lt (tgt := 15) hx hb d_Sl_canEncode_1 (by decide) (fun q => absurd q (nI_pos (by omega))) (fun _ => ?_)
  refine lv_iload_n hx hb d_Sl_canEncode_4 rfl (lv_at hl 0 rfl) ?_
  refine lv_sipush (v := 255) hx hb d_Sl_canEncode_5 (by decide) ?_
  refine lv_icmp_gt (tgt := 15) hx hb d_Sl_canEncode_8 (by decide) (fun q => absurd q (fun q => by have := (nI_ltI (a := 255) (b := k) (by omega) (by omega)).mp q; omega)) (fun _ => ?_)
  refine lv_iconst (v := 1) hx hb d_Sl_canEncode_11 (by decide) ?_
  refine lv_goto (tgt := 16) hx hb d_Sl_canEncode_12 (by decide) ?_
  exact kret _ _ _ _ _ () hw rfl rfl d_Sl_canEncode_16
set_option maxHeartbeats 4000000 in
set_option maxRecDepth 100000 in
theorem c_Sl_indexOfChar (l : Launch) (G : gG) (adK adV : Nat → Nat) (x : Int32) : MetI (σ := Unit) l y_Sl_indexOfChar (Cond.code y_Sl_indexOfChar b_Sl_indexOfChar 6 (some .int)) (rmL 0) 0 0 G [.ref (adV 0), .int x, .int 0, .int 7] (([] : va_W)) (Xs adK adV) (fun r _ => (0 ≤ r ↔ kOk (b8 x) = true)) (fun _ => ([] : va_W)) := by
  refine MetI.mk2 (by decide) (Nat.le_of_ble_eq_true rfl) ?_
  intro p e s m args below meth c A ls Q S hw hX hl kret
  have hx := S.1
  have hb := S.2.1
  have hl : lv_has ls 6 [(0, .ref (adV 0)), (1, .int x), (2, .int 0), (3, .int 7)] := hl
  generalize hH0 : s.heap = H at hw ⊢
  generalize hL0 : ([] : List Loc) = locs at hw ⊢
  refine lv_iload_n hx hb d_Sl_indexOfChar_0 rfl (lv_at hl 1 rfl) ?_
  refine lv_i2b hx hb d_Sl_indexOfChar_1 rfl ?_
  refine lv_istore (lv' := [(4, .int (b8 x)), (0, .ref (adV 0)), (1, .int x), (2, .int 0), (3, .int 7)]) hx hb d_Sl_indexOfChar_2 hl (by decide) rfl (fun ls hl => ?_)
  refine lv_iload_n hx hb d_Sl_indexOfChar_4 rfl (lv_at hl 3 rfl) ?_
  refine lv_istore (lv' := [(5, .int 0), (4, .int (b8 x)), (0, .ref (adV 0)), (1, .int x), (2, .int 0), (3, .int 7)]) hx hb d_Sl_indexOfChar_5 hl (by decide) rfl (fun ls hl => ?_)
  have lp : ∀ (d i : Nat), i + d = 7 → (∀ j, j < i → ¬ sBy.getD j 0 = b8 x) → ∀ (H : Heap) (locs : List Loc) (ls : Array Slot), gW G A s (([] : va_W)) H locs → lv_has ls 6 [(5, .int (nI i)), (4, .int (b8 x)), (0, .ref (adV 0)), (1, .int x), (2, .int 0), (3, .int 7)] → W p l e (rmL 0) s m args below meth c H locs 0 0 Q (F0 m 7 ls []) := by
    intro d
    induction d with
    | zero =>
      intro i hi hno H locs ls hw hl
      obtain rfl : i = 7 := by omega
      refine lv_iload hx hb d_Sl_indexOfChar_7 (lv_at hl 0 rfl) ?_
      refine lv_iload_n hx hb d_Sl_indexOfChar_9 rfl (lv_at hl 5 rfl) ?_
      refine lv_icmp_ge (tgt := 31) hx hb d_Sl_indexOfChar_10 (by decide) (fun _ => ?_) (fun q => absurd (by decide) q)
      refine lv_iconst (v := (-1)) hx hb d_Sl_indexOfChar_31 (by decide) ?_
      exact kret _ _ _ _ _ () hw (⟨fun q => absurd q (by decide), fun q => by obtain ⟨j, h1, h2⟩ := (kOk_iff _).mp q; exact absurd h2 (hno j h1)⟩) rfl d_Sl_indexOfChar_32
    | succ d ih =>
      intro i hi hno H locs ls hw hl
      refine lv_iload hx hb d_Sl_indexOfChar_7 (lv_at hl 0 rfl) ?_
      refine lv_iload_n hx hb d_Sl_indexOfChar_9 rfl (lv_at hl 5 rfl) ?_
      refine lv_icmp_ge (tgt := 31) hx hb d_Sl_indexOfChar_10 (by decide) (fun q => absurd q (fun q => by have := (nI_leI (a := 7) (b := i) (by omega) (by omega)).mp q; omega)) (fun _ => ?_)
      refine lv_aload_n hx hb d_Sl_indexOfChar_13 rfl (lv_at hl 2 rfl) ?_
      refine lv_iload hx hb d_Sl_indexOfChar_14 (lv_at hl 0 rfl) ?_
      refine sgB S hw hX (j := i) (by omega) d_Sl_indexOfChar_16 ?_
      refine lv_iload hx hb d_Sl_indexOfChar_17 (lv_at hl 1 rfl) ?_
      refine lv_icmp_ne (tgt := 25) hx hb d_Sl_indexOfChar_19 (by decide) (fun c1 => ?_) (fun c1 => ?_)
      · refine lv_iinc (v := nI (i + 1)) (lv' := [(5, .int (nI (i + 1))), (4, .int (b8 x)), (0, .ref (adV 0)), (1, .int x), (2, .int 0), (3, .int 7)]) hx hb d_Sl_indexOfChar_25 hl (k := 0) rfl (nI_1 i) (by decide) rfl (fun ls hl => ?_)
        refine lv_goto (tgt := 7) hx hb d_Sl_indexOfChar_28 (by decide) ?_
        exact ih (i + 1) (by omega) (lt_s hno c1) _ _ _ hw (lv_sub hl [0, 1, 2, 3, 4, 5] rfl)
      · refine lv_iload hx hb d_Sl_indexOfChar_22 (lv_at hl 0 rfl) ?_
        exact kret _ _ _ _ _ () hw (⟨fun _ => (kOk_iff _).mpr ⟨i, by omega, c1⟩, fun _ => nI_pos' (by omega)⟩) rfl d_Sl_indexOfChar_24
  exact lp 7 0 (by decide) (fun j h => absurd h (Nat.not_lt_zero j)) _ _ _ hw hl
set_option maxHeartbeats 4000000 in
set_option maxRecDepth 100000 in
theorem c_Sl_indexOf (l : Launch) (G : gG) (adK adV : Nat → Nat) (k : Nat) (hk : k < 256) : MetI (σ := Unit) l y_Sl_indexOf (Cond.code y_Sl_indexOf b_Sl_indexOf 4 (some .int)) (rmL 1) 0 0 G [.ref (adV 0), .int (nI k), .int 0, .int 7] (([] : va_W)) (Xs adK adV) (fun r _ => (0 ≤ r ↔ kOk (b8 (nI k)) = true)) (fun _ => ([] : va_W)) := by
  refine MetI.mk2 (by decide) (Nat.le_of_ble_eq_true rfl) ?_
  intro p e s m args below meth c A ls Q S hw hX hl kret
  have hx := S.1
  have hb := S.2.1
  have hl : lv_has ls 4 [(0, .ref (adV 0)), (1, .int (nI k)), (2, .int 0), (3, .int 7)] := hl
  generalize hH0 : s.heap = H at hw ⊢
  generalize hL0 : ([] : List Loc) = locs at hw ⊢
  refine lv_iload_n hx hb d_Sl_indexOf_0 rfl (lv_at hl 1 rfl) ?_
  refine zSi (As := [.int (nI k)]) (rest := []) S hw hl.1 sl_Sl_88 (c_Sl_canEncode l G adK adV k hk) XBs (Xs_down hX hw) rfl ⟨rfl, rfl⟩ [] [] [] rfl rfl (by decide) rfl rfl rfl d_Sl_indexOf_1 (fun _ => ([] : va_W)) (fun _ => rfl) (fun r_1 _ H locs hp hw => ?_)
  subst hp
  refine lv_if_ne (tgt := 9) hx hb d_Sl_indexOf_4 (by decide) (fun _ => ?_) (fun q => absurd q (by decide))
  refine lv_iload_n hx hb d_Sl_indexOf_9 rfl (lv_at hl 2 rfl) ?_
  refine lv_iconst (v := 0) hx hb d_Sl_indexOf_10 (by decide) ?_
  refine xmax S hl.1 k_184 (Nat.le_of_ble_eq_true rfl) (Nat.le_of_ble_eq_true rfl) ⟨(Nat.le_of_ble_eq_true rfl), (Nat.le_of_ble_eq_true rfl)⟩ d_Sl_indexOf_11 ?_
  refine tpi (y := 0) (by decide) ?_
  refine lv_istore_n (lv' := [(2, .int 0), (0, .ref (adV 0)), (1, .int (nI k)), (3, .int 7)]) hx hb d_Sl_indexOf_14 rfl hl (by decide) rfl (fun ls hl => ?_)
  refine lv_iload_n hx hb d_Sl_indexOf_15 rfl (lv_at hl 3 rfl) ?_
  refine lv_aload_n hx hb d_Sl_indexOf_16 rfl (lv_at hl 1 rfl) ?_
  refine sgL S hw hX d_Sl_indexOf_17 ?_
  refine xmin S hl.1 k_187 (Nat.le_of_ble_eq_true rfl) (Nat.le_of_ble_eq_true rfl) ⟨(Nat.le_of_ble_eq_true rfl), (Nat.le_of_ble_eq_true rfl)⟩ d_Sl_indexOf_18 ?_
  refine tpi (y := 7) (by decide) ?_
  refine lv_istore_n (lv' := [(3, .int 7), (2, .int 0), (0, .ref (adV 0)), (1, .int (nI k))]) hx hb d_Sl_indexOf_21 rfl hl (by decide) rfl (fun ls hl => ?_)
  refine lv_iload_n hx hb d_Sl_indexOf_22 rfl (lv_at hl 1 rfl) ?_
  refine lv_iload_n hx hb d_Sl_indexOf_23 rfl (lv_at hl 0 rfl) ?_
  refine lv_icmp_lt (tgt := 29) hx hb d_Sl_indexOf_24 (by decide) (fun _ => ?_) (fun q => absurd (by decide) q)
  refine lv_aload_n hx hb d_Sl_indexOf_29 rfl (lv_at hl 2 rfl) ?_
  refine lv_iload_n hx hb d_Sl_indexOf_30 rfl (lv_at hl 3 rfl) ?_
  refine lv_iload_n hx hb d_Sl_indexOf_31 rfl (lv_at hl 1 rfl) ?_
  refine lv_iload_n hx hb d_Sl_indexOf_32 rfl (lv_at hl 0 rfl) ?_
  refine zSi (As := [.ref (adV 0), .int (nI k), .int 0, .int 7]) (rest := []) S hw hl.1 sl_Sl_95 (c_Sl_indexOfChar l G adK adV (nI k)) XBs (Xs_down hX hw) rfl ⟨rfl, rfl⟩ [] [] [] rfl rfl (by decide) rfl rfl rfl d_Sl_indexOf_33 (fun _ => ([] : va_W)) (fun _ => rfl) (fun r_33 _ H locs hp hw => ?_)
  exact kret _ _ _ _ _ () hw hp rfl d_Sl_indexOf_36
set_option maxHeartbeats 4000000 in
set_option maxRecDepth 100000 in
theorem c_St_indexOf2 (l : Launch) (G : gG) (adK adV : Nat → Nat) (k : Nat) (hk : k < 256) : MetI (σ := Unit) l y_St_indexOf2 (Cond.code y_St_indexOf2 b_St_indexOf2 3 (some .int)) (rmL 2) 0 0 G [.ref (adK 0), .int (nI k), .int 0] (([] : va_W)) (Xs adK adV) (fun r _ => (0 ≤ r ↔ kOk (b8 (nI k)) = true)) (fun _ => ([] : va_W)) := by
  refine MetI.mk2 (by decide) (Nat.le_of_ble_eq_true rfl) ?_
  intro p e s m args below meth c A ls Q S hw hX hl kret
  have hx := S.1
  have hb := S.2.1
  have hl : lv_has ls 3 [(0, .ref (adK 0)), (1, .int (nI k)), (2, .int 0)] := hl
  generalize hH0 : s.heap = H at hw ⊢
  generalize hL0 : ([] : List Loc) = locs at hw ⊢
  refine lv_aload_n hx hb d_St_indexOf2_0 rfl (lv_at hl 0 rfl) ?_
  refine zVs (As := []) (rest := []) S hw hX hl.1 vl_St_492 (c_St_isLatin1 l G adK adV) rfl rfl ⟨rfl, rfl⟩ [] rfl (by decide) rfl rfl rfl rfl d_St_indexOf2_1 (fun r_1 H locs hp hw => ?_)
  subst hp
  refine lv_if_eq (tgt := 23) hx hb d_St_indexOf2_4 (by decide) (fun q => absurd q (by decide)) (fun _ => ?_)
  refine lv_aload_n hx hb d_St_indexOf2_7 rfl (lv_at hl 0 rfl) ?_
  refine sgV S hw hX d_St_indexOf2_8 ?_
  refine lv_iload_n hx hb d_St_indexOf2_11 rfl (lv_at hl 1 rfl) ?_
  refine lv_iload_n hx hb d_St_indexOf2_12 rfl (lv_at hl 2 rfl) ?_
  refine lv_aload_n hx hb d_St_indexOf2_13 rfl (lv_at hl 0 rfl) ?_
  refine zVs (As := []) (rest := [.int 0, .int (nI k), .ref (adV 0)]) S hw hX hl.1 vl_St_505 (c_St_length l G adK adV) rfl rfl ⟨rfl, rfl⟩ [] rfl (by decide) rfl rfl rfl rfl d_St_indexOf2_14 (fun r_14 H locs hp hw => ?_)
  subst hp
  refine zSi (As := [.ref (adV 0), .int (nI k), .int 0, .int 7]) (rest := []) S hw hl.1 sl_St_637 (c_Sl_indexOf l G adK adV k hk) XBs (Xs_down hX hw) rfl ⟨rfl, rfl⟩ [] [] [] rfl rfl (by decide) rfl rfl rfl d_St_indexOf2_17 (fun _ => ([] : va_W)) (fun _ => rfl) (fun r_17 _ H locs hp hw => ?_)
  refine lv_goto (tgt := 36) hx hb d_St_indexOf2_20 (by decide) ?_
  exact kret _ _ _ _ _ () hw hp rfl d_St_indexOf2_36
set_option maxHeartbeats 4000000 in
set_option maxRecDepth 100000 in
theorem c_St_indexOf1 (l : Launch) (G : gG) (adK adV : Nat → Nat) (k : Nat) (hk : k < 256) : MetI (σ := Unit) l y_St_indexOf1 (Cond.code y_St_indexOf1 b_St_indexOf1 2 (some .int)) (rmL 3) 0 0 G [.ref (adK 0), .int (nI k)] (([] : va_W)) (Xs adK adV) (fun r _ => (0 ≤ r ↔ kOk (b8 (nI k)) = true)) (fun _ => ([] : va_W)) := by
  refine MetI.mk2 (by decide) (Nat.le_of_ble_eq_true rfl) ?_
  intro p e s m args below meth c A ls Q S hw hX hl kret
  have hx := S.1
  have hb := S.2.1
  have hl : lv_has ls 2 [(0, .ref (adK 0)), (1, .int (nI k))] := hl
  generalize hH0 : s.heap = H at hw ⊢
  generalize hL0 : ([] : List Loc) = locs at hw ⊢
  refine lv_aload_n hx hb d_St_indexOf1_0 rfl (lv_at hl 0 rfl) ?_
  refine lv_iload_n hx hb d_St_indexOf1_1 rfl (lv_at hl 1 rfl) ?_
  refine lv_iconst (v := 0) hx hb d_St_indexOf1_2 (by decide) ?_
  refine zVs (As := [.int (nI k), .int 0]) (rest := []) S hw hX hl.1 vl_St_633 (c_St_indexOf2 l G adK adV k hk) rfl rfl ⟨rfl, rfl⟩ [] rfl (by decide) rfl rfl rfl rfl d_St_indexOf1_3 (fun r_3 H locs hp hw => ?_)
  exact kret _ _ _ _ _ () hw hp rfl d_St_indexOf1_6
end
section
/-! ===== plain words for make ===== -/
def mkP (R : Int32 ⊕ List Int32) (r : Int32) (N : Nat) (f : Nat → Int32) : Prop := match R with
  | .inl e => r = e ∧ N = 0
  | .inr o => r = nI o.length ∧ N = o.length ∧ o.length ≤ 1024 ∧ ∀ j, j < o.length → f j = o.getD j 0
section MK
variable {t w z : Nat → Int32} {n many f i k i' k' : Nat} {o lt : List Int32} {er : Int32}
theorem mk_end (h : ¬ i < n) : mk t n w z many f i k o = .inr o := by
  cases f with
  | zero => rfl
  | succ f => rw [mk, if_neg h]
theorem mk_err (hi : i < n) (h : step t n w z many i k = .inl er) : mk t n w z many (f + 1) i k o = .inl er := by
  rw [mk, if_pos hi, h]
theorem mk_long (hi : i < n) (h : step t n w z many i k = .inr (lt, i', k')) (hl : 1024 < o.length + lt.length) : mk t n w z many (f + 1) i k o = .inl (-5) := by
  rw [mk, if_pos hi, h]
  exact if_pos hl
theorem mk_go (hi : i < n) (h : step t n w z many i k = .inr (lt, i', k')) (hl : ¬ 1024 < o.length + lt.length) : mk t n w z many (f + 1) i k o = mk t n w z many f i' k' (o ++ lt) := by
  rw [mk, if_pos hi, h]
  exact if_neg hl
variable {F : Fl4} {j1 j wd : Nat}
theorem step_lit (h : t i ≠ 37) : step t n w z many i k = .inr ([t i], i + 1, k) := by
  unfold step; rw [if_pos h]
theorem step_bad (h : t i = 37) (hF : plF t n i = (F, j1)) (hW : plW t n i = (wd, j)) (hk : kOk (fcA t n j) = false) : step t n w z many i k = .inl (-2) := by
  unfold step plK; rw [if_neg (fun q => q h), hW, if_pos hk]
theorem step_pct (h : t i = 37) (hF : plF t n i = (F, j1)) (hW : plW t n i = (wd, j)) (hk : fcA t n j = 37) : step t n w z many i k = .inr ([37], j + 1, k) := by
  unfold step plK; rw [if_neg (fun q => q h), hW]
  show (if kOk (fcA t n j) = false then _ else _) = _
  rw [hk, if_neg (by decide), if_pos rfl]
theorem step_few (h : t i = 37) (hF : plF t n i = (F, j1)) (hW : plW t n i = (wd, j)) (hk : kOk (fcA t n j) = true) (hp : fcA t n j ≠ 37) (hm : many ≤ k) : step t n w z many i k = .inl (-3) := by
  unfold step plK; rw [if_neg (fun q => q h), hW]
  show (if kOk (fcA t n j) = false then _ else if fcA t n j = 37 then _ else _) = _
  rw [if_neg (by rw [hk]; decide), if_neg hp, if_pos hm]
theorem step_s (h : t i = 37) (hF : plF t n i = (F, j1)) (hW : plW t n i = (wd, j)) (hp : fcA t n j = 115) (hm : ¬ many ≤ k) : step t n w z many i k = .inr (fldS [] (sg w (40 * k) (z k).toNatClampNeg) wd F.1 false, j + 1, k + 1) := by
  unfold step plK; rw [if_neg (fun q => q h), hW, hF]
  show (if kOk (fcA t n j) = false then _ else if fcA t n j = 37 then _ else if many ≤ k then _ else if fcA t n j = 115 then _ else _) = _
  rw [hp, if_neg (by decide), if_neg (by decide), if_neg hm, if_pos rfl]
theorem step_word (h : t i = 37) (hF : plF t n i = (F, j1)) (hW : plW t n i = (wd, j)) (hk : kOk (fcA t n j) = true) (hp : fcA t n j ≠ 37) (hm : ¬ many ≤ k) (hs : fcA t n j ≠ 115) (hi : pI w (40 * k) (z k).toNatClampNeg = none) : step t n w z many i k = .inl (-4) := by
  unfold step plK; rw [if_neg (fun q => q h), hW, hF]
  show (if kOk (fcA t n j) = false then _ else if fcA t n j = 37 then _ else if many ≤ k then _ else if fcA t n j = 115 then _ else _) = _
  rw [if_neg (by rw [hk]; decide), if_neg hp, if_neg hm, if_neg hs, hi]
theorem step_num (h : t i = 37) (hF : plF t n i = (F, j1)) (hW : plW t n i = (wd, j)) (hk : kOk (fcA t n j) = true) (hp : fcA t n j ≠ 37) (hm : ¬ many ≤ k) (hs : fcA t n j ≠ 115) {v : Int64} (hi : pI w (40 * k) (z k).toNatClampNeg = some v) : step t n w z many i k = .inr (fldS (sgnL (fcA t n j) v F.2.2.1 F.2.2.2) (bdy (fcA t n j) v) wd F.1 (F.2.1 && !F.1 && !decide (fcA t n j = 99)), j + 1, k + 1) := by
  unfold step plK; rw [if_neg (fun q => q h), hW, hF]
  show (if kOk (fcA t n j) = false then _ else if fcA t n j = 37 then _ else if many ≤ k then _ else if fcA t n j = 115 then _ else _) = _
  rw [if_neg (by rw [hk]; decide), if_neg hp, if_neg hm, if_neg hs, hi]
end MK
theorem fc_eq {t : Nat → Int32} (ht : By t) {n j K : Nat} (hK : K < 128) : fcC t n j = nI K ↔ fcA t n j = nI K := by
  unfold fcC fcA
  split
  · exact b8_255 (ht j) hK
  · exact Iff.rfl
theorem fl_last {t : Nat → Int32} {n j : Nat} (h : isFl (fcA t n j) = true) : j < n := by
  apply Classical.byContradiction
  intro q
  unfold fcA at h
  rw [if_neg q] at h
  exact absurd h (by decide)
theorem dg_all {x : Int32} (hx : b8 x = x) : (¬ (x &&& 255) < 48 → ¬ 57 < (x &&& 255) → x &&& 255 = x ∧ isDg x = true) ∧ ((x &&& 255) < 48 → isDg x = false) ∧ (57 < (x &&& 255) → isDg x = false) ∧ b8 (x &&& 255) = x :=
  byte_all (P := fun x => (¬ (x &&& 255) < 48 → ¬ 57 < (x &&& 255) → x &&& 255 = x ∧ isDg x = true) ∧ ((x &&& 255) < 48 → isDg x = false) ∧ (57 < (x &&& 255) → isDg x = false) ∧ b8 (x &&& 255) = x) (by decide +kernel) hx
theorem isDg_nat {x : Int32} (h : isDg x = true) : ∃ q, 48 ≤ q ∧ q ≤ 57 ∧ x = nI q := by
  unfold isDg at h
  rw [Bool.and_eq_true, decide_eq_true_eq, decide_eq_true_eq] at h
  obtain ⟨q, hq, rfl⟩ := nI_of2 (x := x) (M := 57) (n := 57) (by decide) (fun q => by
    have h1 := h.1
    rw [Int32.le_iff_toInt_le] at h1
    rw [Int32.lt_iff_toInt_lt] at q
    have h2 : (48 : Int32).toInt = 48 := rfl
    have h3 : (0 : Int32).toInt = 0 := rfl
    omega) h.2
  exact ⟨q, (nI_leI (a := 48) (b := q) (by decide) (by omega)).mp h.1, hq, rfl⟩
theorem dgA {t : Nat → Int32} (ht : By t) {n j : Nat} (h1 : ¬ fcC t n j < 48) (h2 : ¬ 57 < fcC t n j) : j < n ∧ isDg (fcA t n j) = true ∧ ∃ q, 48 ≤ q ∧ q ≤ 57 ∧ fcA t n j = nI q ∧ fcC t n j = nI q := by
  by_cases hj : j < n
  · unfold fcC at h1 h2 ⊢
    unfold fcA
    rw [if_pos hj] at h1 h2
    rw [if_pos hj, if_pos hj]
    obtain ⟨g1, g2⟩ := (dg_all (ht j)).1 h1 h2
    obtain ⟨q, a, b, e⟩ := isDg_nat g2
    exact ⟨hj, g2, q, a, b, e, g1.trans e⟩
  · unfold fcC at h1
    rw [if_neg hj] at h1
    exact absurd (by decide) h1
theorem dgB {t : Nat → Int32} (ht : By t) {n j : Nat} (h1 : fcC t n j < 48 ∨ 57 < fcC t n j) : isDg (fcA t n j) = false := by
  by_cases hj : j < n
  · unfold fcC at h1
    unfold fcA
    rw [if_pos hj] at h1
    rw [if_pos hj]
    rcases h1 with h | h
    · exact (dg_all (ht j)).2.1 h
    · exact (dg_all (ht j)).2.2.1 h
  · unfold fcA
    rw [if_neg hj]
    decide
theorem fcC_nat {t : Nat → Int32} (ht : By t) {n j : Nat} (hj : j < n) : ∃ q, q < 256 ∧ fcC t n j = nI q ∧ b8 (nI q) = fcA t n j := by
  unfold fcC fcA
  rw [if_pos hj, if_pos hj]
  have e := pk_and (t j) (m := 255) 8 (by decide)
  refine ⟨_, Nat.mod_lt _ (by decide), e, ?_⟩
  rw [← e]
  exact (dg_all (ht j)).2.2.2
theorem wstep_min {a w q : Nat} (h : a < 2 ^ 31) (ha : a = 10 * w + (q - 48)) (hq : q < 2 ^ 31) : (if nI a < 100000 then nI a else 100000) = nI (wstep w (nI q)) := by
  unfold wstep
  rw [nI_clamp hq, ← ha]
  show (if nI a < nI 100000 then nI a else nI 100000) = _
  by_cases hlt : a < 100000
  · rw [if_pos (show nI a < nI 100000 from nI_lt hlt (by decide)), Nat.min_eq_right (by omega)]
  · rw [if_neg (show ¬ nI a < nI 100000 from nI_nlt (by omega) h), Nat.min_eq_left (by omega)]
theorem min_2048 {w : Nat} (h : w ≤ 100000) : (if (2048 : Int32) < nI w then 2048 else nI w) = nI (min w 2048) := by
  show (if nI 2048 < nI w then nI 2048 else nI w) = _
  by_cases hlt : 2048 < w
  · rw [if_pos (show nI 2048 < nI w from nI_lt hlt (by omega)), Nat.min_eq_right (by omega)]
  · rw [if_neg (show ¬ nI 2048 < nI w from nI_nlt (by omega) (by omega)), Nat.min_eq_left (by omega)]
theorem wstep_le (w : Nat) (x : Int32) : wstep w x ≤ 100000 := Nat.min_le_left _ _
theorem fld_min1 {sgl body : List Int32} {w a : Nat} {left zz : Bool} (hz : zz = true → left = false) (h : a + (fldS sgl body (min w 2048) left zz).length ≤ 1024) : fldS sgl body w left zz = fldS sgl body (min w 2048) left zz := by
  rw [fldS_len hz] at h
  rw [Nat.min_eq_left (by omega)]
theorem fld_min2 {sgl body : List Int32} {w a : Nat} {left zz : Bool} (hz : zz = true → left = false) (h : 1024 < a + (fldS sgl body (min w 2048) left zz).length) : 1024 < a + (fldS sgl body w left zz).length := by
  rw [fldS_len hz] at h ⊢
  omega
theorem bdy_len (d : Int32) (v : Int64) : (bdy d v).length ≤ 22 := by
  unfold bdy
  have := dig_len (v := v)
  split
  · omega
  · split
    · simp
    · exact nd_len _ _
theorem sgnL_len (d : Int32) (v : Int64) (a b : Bool) : (sgnL d v a b).length ≤ 1 := by
  unfold sgnL
  (repeat' split) <;> simp
theorem dgx8_b8 {L : Nat} (hL : L = 65 ∨ L = 97) : ∀ d, d < 8 → b8 (dgx L d) = dgx L d := fun d h => dgx_b8 hL d (by omega)
theorem bdy_b8 (d : Int32) (v : Int64) : ∀ x ∈ bdy d v, b8 x = x := by
  unfold bdy
  split
  · exact dig_b8
  · split
    · intro x hx
      rw [List.mem_singleton.mp hx]
      exact b8_b8 _
    · have hL : (if d = 88 then 65 else 97) = 65 ∨ (if d = 88 then 65 else 97) = 97 := by split <;> simp
      split
      · exact nd_mem (by decide) (fun x => b8 x = x) (dgx8_b8 hL) 22 _
      · exact nd_mem (by decide) (fun x => b8 x = x) (dgx_b8 hL) 22 _
theorem sgnL_b8 (d : Int32) (v : Int64) (a b : Bool) : ∀ x ∈ sgnL d v a b, b8 x = x := by
  unfold sgnL
  intro x hx
  (repeat' split at hx) <;> first | (rw [List.mem_singleton.mp hx]; decide) | cases hx
theorem sgnL_no {d : Int32} (v : Int64) (a b : Bool) (h : d ≠ 100) : sgnL d v a b = [] := by
  unfold sgnL; rw [if_neg h]
end
section
theorem kOk_nat {y : Int32} (h : kOk y = true) : ∃ K, K < 128 ∧ y = nI K := by
  simp only [kOk, Bool.or_eq_true, decide_eq_true_eq] at h
  rcases h with (((((h | h) | h) | h) | h) | h) | h
  · exact ⟨100, by decide, h⟩
  · exact ⟨120, by decide, h⟩
  · exact ⟨88, by decide, h⟩
  · exact ⟨111, by decide, h⟩
  · exact ⟨99, by decide, h⟩
  · exact ⟨115, by decide, h⟩
  · exact ⟨37, by decide, h⟩
theorem wdA_end {t : Nat → Int32} {n f j w : Nat} (h : isDg (fcA t n j) = false) : wdA t n f j w = (w, j) := by
  cases f with
  | zero => rfl
  | succ f => rw [wdA, if_neg (by rw [h]; decide)]
theorem wdA_go {t : Nat → Int32} {n f j w : Nat} (h : isDg (fcA t n j) = true) : wdA t n (f + 1) j w = wdA t n f (j + 1) (wstep w (fcA t n j)) := by
  rw [wdA, if_pos h]
theorem flA_end {t : Nat → Int32} {n f j : Nat} {F : Fl4} (h : isFl (fcA t n j) = false) : flA t n f j F = (F, j) := by
  cases f with
  | zero => rfl
  | succ f => rw [flA, if_neg (by rw [h]; decide)]
theorem flA_go {t : Nat → Int32} {n f j : Nat} {F : Fl4} (h : isFl (fcA t n j) = true) : flA t n (f + 1) j F = flA t n f (j + 1) (fupd F (fcA t n j)) := by
  rw [flA, if_pos h]
theorem fcC_neg {t : Nat → Int32} {n j : Nat} (h : ¬ j < n) : fcC t n j = -1 ∧ fcA t n j = -1 := by
  unfold fcC fcA
  rw [if_neg h, if_neg h]
  exact ⟨rfl, rfl⟩
end
section
set_option maxHeartbeats 16000000 in
set_option maxRecDepth 100000 in
theorem c_Mi_make (l : Launch) (G : gG) (ad : Nat → Nat) (sn : Int32) (fn : Int32) (ff : Nat → Int32) (on : Int32) (of : Nat → Int32) (hn : Int32) (hf : Nat → Int32) (fm : Nat → Int32) (wd : Nat → Int32) (sz : Nat → Int32) (tp : Nat → Int32) (ln : Int32) (vl : Int64) (n M : Nat) (adK adV : Nat → Nat) (hnn : n ≤ 400) (hM : M ≤ 20) (hbf : By fm) (hbw : By wd) (hbg : By ff) (hsz : ∀ q, q < M → ∃ a, a ≤ 40 ∧ sz q = nI a) : MetI (σ := (Int32 × Int32 × (Nat → Int32) × Nat × (Nat → Int32) × Int64)) l y_Mi_make (Cond.code y_Mi_make b_Mi_make 10 (some .int)) (rmL 4) 0 0 G [.ref (ad 0)] (wMi G ad sn fn ff on of hn hf fm (nI n) wd sz (nI M) tp ln vl) (Xs adK adV) (fun r u => By u.2.2.1 ∧ mkP (mk fm n wd sz M n 0 0 []) r u.2.2.2.1 u.2.2.2.2.1) (fun u => wMi G ad u.1 u.2.1 u.2.2.1 (nI u.2.2.2.1) u.2.2.2.2.1 hn hf fm (nI n) wd sz (nI M) tp ln u.2.2.2.2.2) := by
  refine MetI.mk2 (by decide) (Nat.le_of_ble_eq_true rfl) ?_
  intro p e s m args below meth c A ls Q S hw hX hl kret
  have hx := S.1
  have hb := S.2.1
  have hl : lv_has ls 10 [(0, .ref (ad 0))] := hl
  generalize hH0 : s.heap = H at hw ⊢
  generalize hL0 : ([] : List Loc) = locs at hw ⊢
  obtain ⟨RS, hRS⟩ : ∃ q, q = mk fm n wd sz M n 0 0 [] := ⟨_, rfl⟩
  rw [← hRS] at kret
  refine lv_aload_n hx hb d_Mi_make_0 rfl (lv_at hl 0 rfl) ?_
  refine xget S hw fl_Mi_21 0 rfl rfl d_Mi_make_1 ?_
  refine lv_iconst (v := 0) hx hb d_Mi_make_4 (by decide) ?_
  refine xput S hw fl_Mi_66 4 rfl rfl rfl (Nat.le_of_ble_eq_true rfl) (ws' := wMi G ad sn fn ff 0 of hn hf fm (nI n) wd sz (nI M) tp ln vl) rfl d_Mi_make_5 (fun H locs hw => ?_)
  refine lv_iconst (v := 0) hx hb d_Mi_make_8 (by decide) ?_
  refine lv_istore_n (lv' := [(1, .int 0), (0, .ref (ad 0))]) hx hb d_Mi_make_9 rfl hl (by decide) rfl (fun ls hl => ?_)
  refine lv_iconst (v := 0) hx hb d_Mi_make_10 (by decide) ?_
  refine lv_istore_n (lv' := [(2, .int 0), (1, .int 0), (0, .ref (ad 0))]) hx hb d_Mi_make_11 rfl hl (by decide) rfl (fun ls hl => ?_)
  have lpM : ∀ (fu : Nat) (i k : Nat) (ol : List Int32) (s1 f1 : Int32) (g1 : Nat → Int32) (v1 : Int64), n ≤ i + fu → i ≤ n → k ≤ M → ol.length ≤ 1024 → mk fm n wd sz M fu i k ol = RS → By g1 → ∀ (H : Heap) (locs : List Loc) (ls : Array Slot), gW G A s (wMi G ad s1 f1 g1 (nI ol.length) (wr of 0 ol) hn hf fm (nI n) wd sz (nI M) tp ln v1) H locs → lv_has ls 10 [(2, .int (nI i)), (1, .int (nI k)), (0, .ref (ad 0))] → W p l e (rmL 4) s m args below meth c H locs 0 0 Q (F0 m 12 ls []) := by
    intro fu
    induction fu with
    | zero =>
      intro i k ol s1 f1 g1 v1 hfu hile hkM hol hres hbg1 H locs ls hw hl
      have hin : ¬ i < n := by omega
      refine lv_iload_n hx hb d_Mi_make_12 rfl (lv_at hl 0 rfl) ?_
      refine lv_aload_n hx hb d_Mi_make_13 rfl (lv_at hl 2 rfl) ?_
      refine xget S hw fl_Mi_50 0 rfl rfl d_Mi_make_14 ?_
      refine lv_icmp_ge (tgt := 504) hx hb d_Mi_make_17 (by decide) (fun c12 => ?_) (fun c12 => ?_)
      · have c12 : n ≤ i := (nI_leI (a := n) (b := i) (by omega) (by omega)).mp c12
        refine lv_aload_n hx hb d_Mi_make_504 rfl (lv_at hl 2 rfl) ?_
        refine xget S hw fl_Mi_21 0 rfl rfl d_Mi_make_505 ?_
        refine xget S hw fl_Mi_66 4 rfl rfl d_Mi_make_508 ?_
        exact kret _ _ _ _ _ (s1, f1, g1, ol.length, wr of 0 ol, v1) hw (⟨hbg1, by rw [← hres, mk_end hin]; exact ⟨rfl, rfl, hol, fun j hj => by show wr of 0 ol j = _; rw [wr_in (Nat.zero_le _) (by omega)]; rfl⟩⟩) rfl d_Mi_make_511
      · have c12 : ¬ n ≤ i := fun q_ => c12 ((nI_leI (a := n) (b := i) (by omega) (by omega)).mpr q_)
        omega
    | succ fu ihM =>
      intro i k ol s1 f1 g1 v1 hfu hile hkM hol hres hbg1 H locs ls hw hl
      refine lv_iload_n hx hb d_Mi_make_12 rfl (lv_at hl 0 rfl) ?_
      refine lv_aload_n hx hb d_Mi_make_13 rfl (lv_at hl 2 rfl) ?_
      refine xget S hw fl_Mi_50 0 rfl rfl d_Mi_make_14 ?_
      refine lv_icmp_ge (tgt := 504) hx hb d_Mi_make_17 (by decide) (fun c12 => ?_) (fun c12 => ?_)
      · have c12 : n ≤ i := (nI_leI (a := n) (b := i) (by omega) (by omega)).mp c12
        have hin : ¬ i < n := by omega
        refine lv_aload_n hx hb d_Mi_make_504 rfl (lv_at hl 2 rfl) ?_
        refine xget S hw fl_Mi_21 0 rfl rfl d_Mi_make_505 ?_
        refine xget S hw fl_Mi_66 4 rfl rfl d_Mi_make_508 ?_
        exact kret _ _ _ _ _ (s1, f1, g1, ol.length, wr of 0 ol, v1) hw (⟨hbg1, by rw [← hres, mk_end hin]; exact ⟨rfl, rfl, hol, fun j hj => by show wr of 0 ol j = _; rw [wr_in (Nat.zero_le _) (by omega)]; rfl⟩⟩) rfl d_Mi_make_511
      · have c12 : ¬ n ≤ i := fun q_ => c12 ((nI_leI (a := n) (b := i) (by omega) (by omega)).mpr q_)
        have hin : i < n := by omega
        have hfi2 : fcA fm n i = fm i := by unfold fcA; rw [if_pos hin]
        refine lv_aload_n hx hb d_Mi_make_20 rfl (lv_at hl 2 rfl) ?_
        refine lv_iload_n hx hb d_Mi_make_21 rfl (lv_at hl 0 rfl) ?_
        refine zVi (As := [.int (nI i)]) (rest := []) S hw hl.1 vl_Mi_90 (c_Mi_at l G ad s1 f1 g1 (nI ol.length) (wr of 0 ol) hn hf fm wd sz (nI M) tp ln v1 n hnn i (by omega)) 0 rfl rfl rfl ⟨rfl, rfl⟩ [0, 1, 2, 3, 4, 5, 6, 7, 8, 9, 10, 11] [] [0, 1, 2, 3, 4, 5, 6, 7, 8, 9, 10, 11] rfl rfl (by decide) rfl rfl rfl d_Mi_make_22 (fun _ => wMi G ad s1 f1 g1 (nI ol.length) (wr of 0 ol) hn hf fm (nI n) wd sz (nI M) tp ln v1) (fun _ => rfl) (fun r_22 _ H locs hp_22 hw => ?_)
        subst hp_22
        refine lv_bipush (v := 37) hx hb d_Mi_make_25 (by decide) ?_
        refine lv_icmp_eq (tgt := 62) hx hb d_Mi_make_27 (by decide) (fun c37 => ?_) (fun c37 => ?_)
        · have hpc : fm i = 37 := by rw [← hfi2]; exact (fc_eq hbf (K := 37) (by decide)).mp c37
          have j271 : ∀ (F : Fl4) (j1 w j : Nat), plF fm n i = (F, j1) → plW fm n i = (w, j) → i < j → j ≤ n → w ≤ 100000 → ∀ (H : Heap) (locs : List Loc) (ls : Array Slot), gW G A s (wMi G ad s1 f1 g1 (nI ol.length) (wr of 0 ol) hn hf fm (nI n) wd sz (nI M) tp ln v1) H locs → lv_has ls 10 [(8, .int (nI w)), (7, .int (nI j)), (6, .int (bI F.2.2.2)), (5, .int (bI F.2.2.1)), (4, .int (bI F.2.1)), (3, .int (bI F.1)), (2, .int (nI i)), (1, .int (nI k)), (0, .ref (ad 0))] → W p l e (rmL 4) s m args below meth c H locs 0 0 Q (F0 m 271 ls []) := by
            intro F j1 w j hF hW hij hjn hw1 H locs ls hw hl
            refine lv_aload_n hx hb d_Mi_make_271 rfl (lv_at hl 8 rfl) ?_
            refine lv_iload hx hb d_Mi_make_272 (lv_at hl 1 rfl) ?_
            refine zVi (As := [.int (nI j)]) (rest := []) S hw hl.1 vl_Mi_90 (c_Mi_at l G ad s1 f1 g1 (nI ol.length) (wr of 0 ol) hn hf fm wd sz (nI M) tp ln v1 n hnn j (by omega)) 0 rfl rfl rfl ⟨rfl, rfl⟩ [0, 1, 2, 3, 4, 5, 6, 7, 8, 9, 10, 11] [] [0, 1, 2, 3, 4, 5, 6, 7, 8, 9, 10, 11] rfl rfl (by decide) rfl rfl rfl d_Mi_make_274 (fun _ => wMi G ad s1 f1 g1 (nI ol.length) (wr of 0 ol) hn hf fm (nI n) wd sz (nI M) tp ln v1) (fun _ => rfl) (fun r_274 _ H locs hp_274 hw => ?_)
            subst hp_274
            refine lv_istore (lv' := [(9, .int (fcC fm n j)), (8, .int (nI w)), (7, .int (nI j)), (6, .int (bI F.2.2.2)), (5, .int (bI F.2.2.1)), (4, .int (bI F.2.1)), (3, .int (bI F.1)), (2, .int (nI i)), (1, .int (nI k)), (0, .ref (ad 0))]) hx hb d_Mi_make_277 hl (by decide) rfl (fun ls hl => ?_)
            refine lv_iload hx hb d_Mi_make_279 (lv_at hl 0 rfl) ?_
            refine lv_if_lt (tgt := 294) hx hb d_Mi_make_281 (by decide) (fun c9 => ?_) (fun c9 => ?_)
            · have hj : ¬ j < n := by
                intro hj
                obtain ⟨q, hq, hcq, -⟩ := fcC_nat hbf hj
                rw [hcq] at c9
                exact nI_pos (by omega) c9
              have hko : kOk (fcA fm n j) = false := by rw [(fcC_neg hj).2]; decide
              refine lv_aload_n hx hb d_Mi_make_294 rfl (lv_at hl 9 rfl) ?_
              refine lv_bipush (v := (-2)) hx hb d_Mi_make_295 (by decide) ?_
              refine zVi (As := [.int (-2)]) (rest := []) S hw hl.1 vl_Mi_96 (c_Mi_nothing l G ad s1 f1 g1 (nI ol.length) (wr of 0 ol) hn hf fm (nI n) wd sz (nI M) tp ln v1 (-2)) 0 rfl rfl rfl ⟨rfl, rfl⟩ [0, 1, 2, 3, 4, 5, 6, 7, 8, 9, 10, 11] [] [0, 1, 2, 3, 4, 5, 6, 7, 8, 9, 10, 11] rfl rfl (by decide) rfl rfl rfl d_Mi_make_297 (fun _ => wMi G ad s1 f1 g1 (nI 0) (wr of 0 ol) hn hf fm (nI n) wd sz (nI M) tp ln v1) (fun _ => rfl) (fun r_297 _ H locs hpn hw => ?_)
              subst hpn
              exact kret _ _ _ _ _ (s1, f1, g1, 0, wr of 0 ol, v1) hw (⟨hbg1, by rw [← hres, mk_err hin (step_bad hpc hF hW hko)]; exact ⟨rfl, rfl⟩⟩) rfl d_Mi_make_300
            · have hj : j < n := by
                apply Classical.byContradiction
                intro q
                rw [(fcC_neg q).1] at c9
                exact c9 (by decide)
              obtain ⟨q, hq, hcq, hbq⟩ := fcC_nat hbf hj
              rw [hcq] at hl
              refine va_ldcS hx hb S.2.2.2.1 hX.2.2 d_Mi_make_284 ?_
              refine lv_iload hx hb d_Mi_make_286 (lv_at hl 0 rfl) ?_
              refine zVs (As := [.int (nI q)]) (rest := []) S hw hX hl.1 vl_Mi_108 (c_St_indexOf1 l G adK adV q hq) rfl rfl ⟨rfl, rfl⟩ [0, 1, 2, 3, 4, 5, 6, 7, 8, 9, 10, 11] rfl (by decide) rfl rfl rfl rfl d_Mi_make_288 (fun r_288 H locs hpx hw => ?_)
              refine lv_if_ge (tgt := 301) hx hb d_Mi_make_291 (by decide) (fun cx => ?_) (fun cx => ?_)
              · have hko : kOk (fcA fm n j) = true := by rw [← hbq]; exact hpx.mp cx
                obtain ⟨K0, hK0, hKe⟩ := kOk_nat hko
                have hqe : ∀ K, K < 128 → (q = K ↔ fcA fm n j = nI K) := fun K hK => by
                  rw [← fc_eq hbf hK, hcq]
                  exact (nI_eq (by omega) (by omega)).symm
                have hqq : fcA fm n j = nI q := by rw [hKe, (hqe K0 hK0).mpr hKe]
                refine lv_iload hx hb d_Mi_make_301 (lv_at hl 2 rfl) ?_
                refine lv_istore_n (lv' := [(2, .int (nI j)), (9, .int (nI q)), (8, .int (nI w)), (7, .int (nI j)), (6, .int (bI F.2.2.2)), (5, .int (bI F.2.2.1)), (4, .int (bI F.2.1)), (3, .int (bI F.1)), (1, .int (nI k)), (0, .ref (ad 0))]) hx hb d_Mi_make_303 rfl hl (by decide) rfl (fun ls hl => ?_)
                refine lv_aload_n hx hb d_Mi_make_304 rfl (lv_at hl 9 rfl) ?_
                refine xget S hw fl_Mi_10 0 rfl rfl d_Mi_make_305 ?_
                refine xget S hw fl_Mi_113 1 rfl rfl d_Mi_make_308 ?_
                refine lv_iconst (v := 0) hx hb d_Mi_make_311 (by decide) ?_
                refine xput S hw fl_Mi_66 2 rfl rfl rfl (Nat.le_of_ble_eq_true rfl) (ws' := wMi G ad s1 0 g1 (nI ol.length) (wr of 0 ol) hn hf fm (nI n) wd sz (nI M) tp ln v1) rfl d_Mi_make_312 (fun H locs hw => ?_)
                refine lv_iload hx hb d_Mi_make_315 (lv_at hl 1 rfl) ?_
                refine lv_bipush (v := 37) hx hb d_Mi_make_317 (by decide) ?_
                have j478 : ∀ (k2 : Nat) (lt lt2 : List Int32) (s1 f1 : Int32) (g1 : Nat → Int32) (v1 : Int64), k2 ≤ M → step fm n wd sz M i k = .inr (lt, j + 1, k2) → (ol.length + lt2.length ≤ 1024 → lt = lt2) → (1024 < ol.length + lt2.length → 1024 < ol.length + lt.length) → lt2.length ≤ 2200 → By g1 → ∀ (H : Heap) (locs : List Loc) (ls : Array Slot), gW G A s (wMi G ad s1 f1 g1 (nI (ol.length + lt2.length)) (wr of 0 (ol ++ lt2)) hn hf fm (nI n) wd sz (nI M) tp ln v1) H locs → lv_has ls 10 [(2, .int (nI j)), (1, .int (nI k2)), (0, .ref (ad 0))] → W p l e (rmL 4) s m args below meth c H locs 0 0 Q (F0 m 478 ls []) := by
                  intro k2 lt lt2 s1 f1 g1 v1 hk2 hst h1 h2 h3 hbg1 H locs ls hw hl
                  refine lv_aload_n hx hb d_Mi_make_478 rfl (lv_at hl 2 rfl) ?_
                  refine xget S hw fl_Mi_21 0 rfl rfl d_Mi_make_479 ?_
                  refine xget S hw fl_Mi_66 4 rfl rfl d_Mi_make_482 ?_
                  refine lv_sipush (v := 1024) hx hb d_Mi_make_485 (by decide) ?_
                  refine lv_icmp_le (tgt := 498) hx hb d_Mi_make_488 (by decide) (fun c8 => ?_) (fun c8 => ?_)
                  · have c8 : (ol.length + lt2.length) ≤ 1024 := (nI_leI (a := (ol.length + lt2.length)) (b := 1024) (by omega) (by omega)).mp c8
                    have h1 := h1 c8
                    subst h1
                    refine lv_iinc (v := nI (j + 1)) (lv' := [(2, .int (nI (j + 1))), (1, .int (nI k2)), (0, .ref (ad 0))]) hx hb d_Mi_make_498 hl (k := 0) rfl (nI_1 j) (by decide) rfl (fun ls hl => ?_)
                    refine lv_goto (tgt := 12) hx hb d_Mi_make_501 (by decide) ?_
                    exact ihM (j + 1) k2 (ol ++ lt) s1 f1 g1 v1 (by omega) (by omega) hk2 (by rw [List.length_append]; exact c8) (by rw [← hres, mk_go hin hst (by omega)]) hbg1 _ _ _ (by rw [List.length_append]; exact hw) (lv_sub hl [0, 1, 2] rfl)
                  · have c8 : ¬ (ol.length + lt2.length) ≤ 1024 := fun q_ => c8 ((nI_leI (a := (ol.length + lt2.length)) (b := 1024) (by omega) (by omega)).mpr q_)
                    refine lv_aload_n hx hb d_Mi_make_491 rfl (lv_at hl 2 rfl) ?_
                    refine lv_bipush (v := (-5)) hx hb d_Mi_make_492 (by decide) ?_
                    refine zVi (As := [.int (-5)]) (rest := []) S hw hl.1 vl_Mi_96 (c_Mi_nothing l G ad s1 f1 g1 (nI (ol.length + lt2.length)) (wr of 0 (ol ++ lt2)) hn hf fm (nI n) wd sz (nI M) tp ln v1 (-5)) 0 rfl rfl rfl ⟨rfl, rfl⟩ [0, 1, 2, 3, 4, 5, 6, 7, 8, 9, 10, 11] [] [0, 1, 2, 3, 4, 5, 6, 7, 8, 9, 10, 11] rfl rfl (by decide) rfl rfl rfl d_Mi_make_494 (fun _ => wMi G ad s1 f1 g1 (nI 0) (wr of 0 (ol ++ lt2)) hn hf fm (nI n) wd sz (nI M) tp ln v1) (fun _ => rfl) (fun r_494 _ H locs hpn hw => ?_)
                    subst hpn
                    exact kret _ _ _ _ _ (s1, f1, g1, 0, wr of 0 (ol ++ lt2), v1) hw (⟨hbg1, by rw [← hres, mk_long hin hst (h2 (by omega))]; exact ⟨rfl, rfl⟩⟩) rfl d_Mi_make_497
                have j431 : ∀ (s1 : Int32) (g1 : Nat → Int32) (v1 : Int64) (sgl body : List Int32), By g1 → sg g1 0 (sgl.length + body.length) = sgl ++ body → (q ≠ 115 → q ≠ 99 → s1 = nI sgl.length) → sgl.length + body.length ≤ 100 → k + 1 ≤ M → step fm n wd sz M i k = .inr (fldS sgl body w F.1 (F.2.1 && !F.1 && !decide (q = 115) && !decide (q = 99)), j + 1, k + 1) → ∀ (H : Heap) (locs : List Loc) (ls : Array Slot), gW G A s (wMi G ad s1 (nI (sgl.length + body.length)) g1 (nI ol.length) (wr of 0 ol) hn hf fm (nI n) wd sz (nI M) tp ln v1) H locs → lv_has ls 10 [(2, .int (nI j)), (9, .int (nI q)), (8, .int (nI w)), (7, .int (nI j)), (6, .int (bI F.2.2.2)), (5, .int (bI F.2.2.1)), (4, .int (bI F.2.1)), (3, .int (bI F.1)), (1, .int (nI k)), (0, .ref (ad 0))] → W p l e (rmL 4) s m args below meth c H locs 0 0 Q (F0 m 431 ls []) := by
                  intro s1 g1 v1 sgl body hbg1 hsg hsn hln hkk hst H locs ls hw hl
                  obtain ⟨zz, hzz⟩ : ∃ b, b = (F.2.1 && !decide (q = 115) && !decide (q = 99)) := ⟨_, rfl⟩
                  have hze : (F.2.1 && !F.1 && !decide (q = 115) && !decide (q = 99)) = (zz && !F.1) := by rw [hzz]; cases F.1 <;> cases F.2.1 <;> simp
                  rw [hze] at hst
                  have hzl : (zz && !F.1) = true → F.1 = false := by cases F.1 <;> simp
                  have hsn2 : (zz && !F.1) = true → s1 = nI sgl.length := by
                    intro h
                    have h4 : zz = true := by
                      cases hz : zz
                      · rw [hz] at h; exact h
                      · rfl
                    rw [hzz] at h4
                    simp only [Bool.and_eq_true, Bool.not_eq_true', decide_eq_false_iff_not] at h4
                    exact hsn h4.1.2 h4.2
                  refine lv_iinc (v := nI (k + 1)) (lv' := [(1, .int (nI (k + 1))), (2, .int (nI j)), (9, .int (nI q)), (8, .int (nI w)), (7, .int (nI j)), (6, .int (bI F.2.2.2)), (5, .int (bI F.2.2.1)), (4, .int (bI F.2.1)), (3, .int (bI F.1)), (0, .ref (ad 0))]) hx hb d_Mi_make_431 hl (k := 8) rfl (nI_1 k) (by decide) rfl (fun ls hl => ?_)
                  refine lv_aload_n hx hb d_Mi_make_434 rfl (lv_at hl 9 rfl) ?_
                  refine xget S hw fl_Mi_10 0 rfl rfl d_Mi_make_435 ?_
                  refine lv_aload_n hx hb d_Mi_make_438 rfl (lv_at hl 9 rfl) ?_
                  refine xget S hw fl_Mi_21 0 rfl rfl d_Mi_make_439 ?_
                  refine lv_iload hx hb d_Mi_make_442 (lv_at hl 3 rfl) ?_
                  refine lv_sipush (v := 2048) hx hb d_Mi_make_444 (by decide) ?_
                  refine xmin S hl.1 k_152 (Nat.le_of_ble_eq_true rfl) (Nat.le_of_ble_eq_true rfl) ⟨(Nat.le_of_ble_eq_true rfl), (Nat.le_of_ble_eq_true rfl)⟩ d_Mi_make_447 ?_
                  refine tpi (y := nI (min w 2048)) (min_2048 hw1) ?_
                  refine lv_iload_n hx hb d_Mi_make_450 rfl (lv_at hl 8 rfl) ?_
                  refine lv_iload hx hb d_Mi_make_451 (lv_at hl 7 rfl) ?_
                  have j475 : ∀ (_ : Unit), ∀ (H : Heap) (locs : List Loc) (ls : Array Slot), gW G A s (wMi G ad s1 (nI (sgl.length + body.length)) g1 (nI ol.length) (wr of 0 ol) hn hf fm (nI n) wd sz (nI M) tp ln v1) H locs → lv_has ls 10 [(1, .int (nI (k + 1))), (2, .int (nI j)), (9, .int (nI q)), (8, .int (nI w)), (7, .int (nI j)), (6, .int (bI F.2.2.2)), (5, .int (bI F.2.2.1)), (4, .int (bI F.2.1)), (3, .int (bI F.1)), (0, .ref (ad 0))] → W p l e (rmL 4) s m args below meth c H locs 0 0 Q (F0 m 475 ls [.int (bI zz), .int (bI F.1), .int (nI (min w 2048)), .ref (ad 4), .ref (ad 1)]) := by
                    intro _ H locs ls hw hl
                    have hfl := fldS_len (sgl := sgl) (body := body) (w := min w 2048) hzl
                    refine zVv (As := [.ref (ad 4), .int (nI (min w 2048)), .int (bI F.1), .int (bI zz)]) (rest := []) S hw hl.1 vl_Mi_125 (c_Fo_put l G (ad 1) (ad 2) (ad 3) (ad 4) (ad 5) s1 g1 (wr of 0 ol) ol.length (min w 2048) F.1 zz sgl body hsg hbg1 hsn2 hol (Nat.min_le_right _ _) hln) 1 rfl rfl rfl ⟨rfl, rfl⟩ [1, 2, 3, 4, 5] [0, 6, 7, 8, 9, 10, 11] [0, 7, 8, 9, 10, 11, 1, 2, 3, 4, 5, 6] rfl rfl (by decide) rfl rfl rfl d_Mi_make_475 (fun _ => wMi G ad s1 (nI (sgl.length + body.length)) g1 (nI (ol.length + (fldS sgl body (min w 2048) F.1 (zz && !F.1)).length)) (wr (wr of 0 ol) ol.length (fldS sgl body (min w 2048) F.1 (zz && !F.1))) hn hf fm (nI n) wd sz (nI M) tp ln v1) (fun _ => rfl) (fun _ H locs hp hw => ?_)
                    rw [wr_app (Nat.zero_add _).symm] at hw
                    exact j478 (k + 1) _ (fldS sgl body (min w 2048) F.1 (zz && !F.1)) s1 _ g1 v1 hkk hst (fld_min1 hzl) (fld_min2 hzl) (by rw [hfl]; omega) hbg1 _ _ _ hw (lv_sub hl [1, 0, 9] rfl)
                  refine lv_if_eq (tgt := 474) hx hb d_Mi_make_453 (by decide) (fun z1 => ?_) (fun z1 => ?_)
                  · have z1 : F.2.1 = false := bI_z z1
                    refine lv_iconst (v := 0) hx hb d_Mi_make_474 (by decide) ?_
                    refine tpi (y := bI zz) (by rw [hzz, z1]; rfl) ?_
                    exact j475 () _ _ _ hw hl
                  · have z1 : F.2.1 = true := bI_t z1
                    refine lv_iload hx hb d_Mi_make_456 (lv_at hl 2 rfl) ?_
                    refine lv_bipush (v := 115) hx hb d_Mi_make_458 (by decide) ?_
                    refine lv_icmp_eq (tgt := 474) hx hb d_Mi_make_460 (by decide) (fun z2 => ?_) (fun z2 => ?_)
                    · have z2 : q = 115 := (nI_eq (a := q) (b := 115) (by omega) (by omega)).mp z2
                      refine lv_iconst (v := 0) hx hb d_Mi_make_474 (by decide) ?_
                      refine tpi (y := bI zz) (by rw [hzz, z1, decide_eq_true z2]; rfl) ?_
                      exact j475 () _ _ _ hw hl
                    · have z2 : ¬ q = 115 := fun q_ => z2 ((nI_eq (a := q) (b := 115) (by omega) (by omega)).mpr q_)
                      refine lv_iload hx hb d_Mi_make_463 (lv_at hl 2 rfl) ?_
                      refine lv_bipush (v := 99) hx hb d_Mi_make_465 (by decide) ?_
                      refine lv_icmp_eq (tgt := 474) hx hb d_Mi_make_467 (by decide) (fun z3 => ?_) (fun z3 => ?_)
                      · have z3 : q = 99 := (nI_eq (a := q) (b := 99) (by omega) (by omega)).mp z3
                        refine lv_iconst (v := 0) hx hb d_Mi_make_474 (by decide) ?_
                        refine tpi (y := bI zz) (by rw [hzz, z1, decide_eq_false z2, decide_eq_true z3]; rfl) ?_
                        exact j475 () _ _ _ hw hl
                      · have z3 : ¬ q = 99 := fun q_ => z3 ((nI_eq (a := q) (b := 99) (by omega) (by omega)).mpr q_)
                        refine lv_iconst (v := 1) hx hb d_Mi_make_470 (by decide) ?_
                        refine lv_goto (tgt := 475) hx hb d_Mi_make_471 (by decide) ?_
                        refine tpi (y := bI zz) (by rw [hzz, z1, decide_eq_false z2, decide_eq_false z3]; rfl) ?_
                        exact j475 () _ _ _ hw hl
                refine lv_icmp_ne (tgt := 334) hx hb d_Mi_make_319 (by decide) (fun k37 => ?_) (fun k37 => ?_)
                · have k37 : ¬ q = 37 := fun q_ => k37 ((nI_eq (a := q) (b := 37) (by omega) (by omega)).mpr q_)
                  have hp37 : fcA fm n j ≠ 37 := fun h => k37 ((hqe 37 (by decide)).mpr h)
                  refine lv_iload_n hx hb d_Mi_make_334 rfl (lv_at hl 8 rfl) ?_
                  refine lv_aload_n hx hb d_Mi_make_335 rfl (lv_at hl 9 rfl) ?_
                  refine xget S hw fl_Mi_59 0 rfl rfl d_Mi_make_336 ?_
                  refine lv_icmp_ne (tgt := 349) hx hb d_Mi_make_339 (by decide) (fun kM => ?_) (fun kM => ?_)
                  · have kM : ¬ k = M := fun q_ => kM ((nI_eq (a := k) (b := M) (by omega) (by omega)).mpr q_)
                    have hkM2 : ¬ M ≤ k := by omega
                    obtain ⟨a, ha40, hsa⟩ := hsz k (by omega)
                    have hcl : (sz k).toNatClampNeg = a := by rw [hsa, nI_clamp (by omega)]
                    refine lv_iload hx hb d_Mi_make_349 (lv_at hl 1 rfl) ?_
                    refine lv_bipush (v := 115) hx hb d_Mi_make_351 (by decide) ?_
                    refine lv_icmp_eq (tgt := 380) hx hb d_Mi_make_353 (by decide) (fun k115 => ?_) (fun k115 => ?_)
                    · have k115 : q = 115 := (nI_eq (a := q) (b := 115) (by omega) (by omega)).mp k115
                      have hk115 : fcA fm n j = 115 := (hqe 115 (by decide)).mp k115
                      have hst := step_s (w := wd) (z := sz) hpc hF hW hk115 hkM2
                      rw [hcl] at hst
                      refine lv_iload hx hb d_Mi_make_380 (lv_at hl 1 rfl) ?_
                      refine lv_bipush (v := 115) hx hb d_Mi_make_382 (by decide) ?_
                      refine lv_icmp_ne (tgt := 414) hx hb d_Mi_make_384 (by decide) (fun q_ => absurd (by rw [k115]; rfl) q_) (fun _ => ?_)
                      refine lv_aload_n hx hb d_Mi_make_387 rfl (lv_at hl 9 rfl) ?_
                      refine xget S hw fl_Mi_10 0 rfl rfl d_Mi_make_388 ?_
                      refine xget S hw fl_Mi_113 1 rfl rfl d_Mi_make_391 ?_
                      refine lv_aload_n hx hb d_Mi_make_394 rfl (lv_at hl 9 rfl) ?_
                      refine xget S hw fl_Mi_32 0 rfl rfl d_Mi_make_395 ?_
                      refine lv_bipush (v := 40) hx hb d_Mi_make_398 (by decide) ?_
                      refine lv_iload_n hx hb d_Mi_make_400 rfl (lv_at hl 8 rfl) ?_
                      refine lv_imul hx hb d_Mi_make_401 ?_
                      refine tpi (y := nI (40 * k)) (pk_mul 40 k) ?_
                      refine lv_aload_n hx hb d_Mi_make_402 rfl (lv_at hl 9 rfl) ?_
                      refine xget S hw fl_Mi_35 0 rfl rfl d_Mi_make_403 ?_
                      refine lv_iload_n hx hb d_Mi_make_406 rfl (lv_at hl 8 rfl) ?_
                      refine xiald S hw 10 rfl (j := k) (by omega) (by decide) d_Mi_make_407 ?_
                      refine tpi (y := nI a) hsa ?_
                      refine zVv (As := [.ref (ad 9), .int (nI (40 * k)), .int (nI a)]) (rest := []) S hw hl.1 vl_Mi_118 (c_Ro_add l G (ad 2) (ad 3) 2048 0 g1 (ad 9) 800 wd (40 * k) a (by omega) (by decide) (by omega) (by decide) hbw) 2 rfl rfl rfl ⟨rfl, rfl⟩ [2, 3, 9] [0, 1, 4, 5, 6, 7, 8, 10, 11] [0, 1, 9, 10, 2, 3, 4, 5, 6, 11, 7, 8] rfl rfl (by decide) rfl rfl rfl d_Mi_make_408 (fun _ => wMi G ad s1 (nI (0 + a)) (wr g1 0 (sg wd (40 * k) a)) (nI ol.length) (wr of 0 ol) hn hf fm (nI n) wd sz (nI M) tp ln v1) (fun _ => rfl) (fun _ H locs hp hw => ?_)
                      refine lv_goto (tgt := 431) hx hb d_Mi_make_411 (by decide) ?_
                      have hsgl : (sg wd (40 * k) a).length = a := sg_len
                      refine j431 s1 _ v1 [] (sg wd (40 * k) a) (By_wr hbg1 (sg_mem hbw)) ?_ (fun h => absurd k115 h) (by rw [hsgl]; simp; omega) (by omega) ?_ _ _ _ (by rw [hsgl]; exact hw) (lv_sub hl [0, 1, 2, 3, 4, 5, 6, 7, 8, 9] rfl)
                      · rw [List.nil_append, List.length_nil, Nat.zero_add]; exact sg_wr
                      · rw [hst, decide_eq_true k115]; simp
                    · have k115 : ¬ q = 115 := fun q_ => k115 ((nI_eq (a := q) (b := 115) (by omega) (by omega)).mpr q_)
                      have hk115 : fcA fm n j ≠ 115 := fun h => k115 ((hqe 115 (by decide)).mpr h)
                      refine lv_aload_n hx hb d_Mi_make_356 rfl (lv_at hl 9 rfl) ?_
                      refine lv_bipush (v := 40) hx hb d_Mi_make_357 (by decide) ?_
                      refine lv_iload_n hx hb d_Mi_make_359 rfl (lv_at hl 8 rfl) ?_
                      refine lv_imul hx hb d_Mi_make_360 ?_
                      refine tpi (y := nI (40 * k)) (pk_mul 40 k) ?_
                      refine lv_aload_n hx hb d_Mi_make_361 rfl (lv_at hl 9 rfl) ?_
                      refine xget S hw fl_Mi_35 0 rfl rfl d_Mi_make_362 ?_
                      refine lv_iload_n hx hb d_Mi_make_365 rfl (lv_at hl 8 rfl) ?_
                      refine xiald S hw 10 rfl (j := k) (by omega) (by decide) d_Mi_make_366 ?_
                      refine tpi (y := nI a) hsa ?_
                      refine zVi (As := [.int (nI (40 * k)), .int (nI a)]) (rest := []) S hw hl.1 vl_Mi_114 (c_Mi_isInteger l G ad s1 0 g1 (nI ol.length) (wr of 0 ol) hn hf fm (nI n) wd sz (nI M) tp ln v1 (40 * k) a (by omega) ha40 hbw) 0 rfl rfl rfl ⟨rfl, rfl⟩ [0, 1, 2, 3, 4, 5, 6, 7, 8, 9, 10, 11] [] [0, 1, 2, 3, 4, 5, 6, 7, 8, 9, 10, 11] rfl rfl (by decide) rfl rfl rfl d_Mi_make_367 (fun u => wMi G ad s1 0 g1 (nI ol.length) (wr of 0 ol) hn hf fm (nI n) wd sz (nI M) tp ln u) (fun _ => rfl) (fun r_367 v2 H locs hpi hw => ?_)
                      rcases hpi with ⟨rfl, hpi⟩ | ⟨rfl, hpi⟩
                      · have hw : gW G A s (wMi G ad s1 0 g1 (nI ol.length) (wr of 0 ol) hn hf fm (nI n) wd sz (nI M) tp ln v2) H locs := hw
                        have hst := step_num (w := wd) (z := sz) hpc hF hW hko hp37 hkM2 hk115 (by rw [hcl]; exact hpi)
                        rw [hqq] at hst
                        refine lv_if_ne (tgt := 380) hx hb d_Mi_make_370 (by decide) (fun _ => ?_) (fun q_ => absurd q_ (by decide))
                        refine lv_iload hx hb d_Mi_make_380 (lv_at hl 1 rfl) ?_
                        refine lv_bipush (v := 115) hx hb d_Mi_make_382 (by decide) ?_
                        refine lv_icmp_ne (tgt := 414) hx hb d_Mi_make_384 (by decide) (fun _ => ?_) (fun q_ => absurd q_ (fun h => k115 ((nI_eq (a := q) (b := 115) (by omega) (by omega)).mp h)))
                        refine lv_aload_n hx hb d_Mi_make_414 rfl (lv_at hl 9 rfl) ?_
                        refine xget S hw fl_Mi_10 0 rfl rfl d_Mi_make_415 ?_
                        refine lv_iload hx hb d_Mi_make_418 (lv_at hl 1 rfl) ?_
                        refine lv_aload_n hx hb d_Mi_make_420 rfl (lv_at hl 9 rfl) ?_
                        refine xget S hw fl_Mi_74 0 rfl rfl d_Mi_make_421 ?_
                        refine lv_iload hx hb d_Mi_make_424 (lv_at hl 5 rfl) ?_
                        refine lv_iload hx hb d_Mi_make_426 (lv_at hl 4 rfl) ?_
                        refine zVv (As := [.int (nI q), .long v2, .int (bI F.2.2.1), .int (bI F.2.2.2)]) (rest := []) S hw hl.1 vl_Mi_121 (c_Fo_digits l G (ad 1) (ad 2) (ad 3) s1 g1 (nI q) v2 F.2.2.1 F.2.2.2) 1 rfl rfl rfl ⟨rfl, rfl⟩ [1, 2, 3] [0, 4, 5, 6, 7, 8, 9, 10, 11] [0, 9, 10, 11, 1, 2, 3, 4, 5, 6, 7, 8] rfl rfl (by decide) rfl rfl rfl d_Mi_make_428 (fun _ => wMi G ad (nI (sgnL (nI q) v2 F.2.2.1 F.2.2.2).length) (nI (sgnL (nI q) v2 F.2.2.1 F.2.2.2 ++ bdy (nI q) v2).length) (wr g1 0 (sgnL (nI q) v2 F.2.2.1 F.2.2.2 ++ bdy (nI q) v2)) (nI ol.length) (wr of 0 ol) hn hf fm (nI n) wd sz (nI M) tp ln v2) (fun _ => rfl) (fun _ H locs hp hw => ?_)
                        have hbs : ∀ x ∈ sgnL (nI q) v2 F.2.2.1 F.2.2.2 ++ bdy (nI q) v2, b8 x = x := by
                          intro x hx
                          rcases List.mem_append.mp hx with h | h
                          · exact sgnL_b8 _ _ _ _ x h
                          · exact bdy_b8 _ _ x h
                        have hbl := bdy_len (nI q) v2
                        have hgl := sgnL_len (nI q) v2 F.2.2.1 F.2.2.2
                        refine j431 _ _ v2 (sgnL (nI q) v2 F.2.2.1 F.2.2.2) (bdy (nI q) v2) (By_wr hbg1 hbs) ?_ (fun _ _ => rfl) (by omega) (by omega) ?_ _ _ _ (by rw [← List.length_append]; exact hw) (lv_sub hl [0, 1, 2, 3, 4, 5, 6, 7, 8, 9] rfl)
                        · rw [← List.length_append]; exact sg_wr
                        · rw [hst, decide_eq_false k115, show decide ((nI q : Int32) = 99) = decide (q = 99) from decide_eq_decide.mpr (nI_eq (a := q) (b := 99) (by omega) (by omega))]; simp
                      · have hw : gW G A s (wMi G ad s1 0 g1 (nI ol.length) (wr of 0 ol) hn hf fm (nI n) wd sz (nI M) tp ln v2) H locs := hw
                        refine lv_if_ne (tgt := 380) hx hb d_Mi_make_370 (by decide) (fun q_ => absurd (by decide) q_) (fun _ => ?_)
                        refine lv_aload_n hx hb d_Mi_make_373 rfl (lv_at hl 9 rfl) ?_
                        refine lv_bipush (v := (-4)) hx hb d_Mi_make_374 (by decide) ?_
                        refine zVi (As := [.int (-4)]) (rest := []) S hw hl.1 vl_Mi_96 (c_Mi_nothing l G ad s1 0 g1 (nI ol.length) (wr of 0 ol) hn hf fm (nI n) wd sz (nI M) tp ln v2 (-4)) 0 rfl rfl rfl ⟨rfl, rfl⟩ [0, 1, 2, 3, 4, 5, 6, 7, 8, 9, 10, 11] [] [0, 1, 2, 3, 4, 5, 6, 7, 8, 9, 10, 11] rfl rfl (by decide) rfl rfl rfl d_Mi_make_376 (fun _ => wMi G ad s1 0 g1 (nI 0) (wr of 0 ol) hn hf fm (nI n) wd sz (nI M) tp ln v2) (fun _ => rfl) (fun r_376 _ H locs hpn hw => ?_)
                        subst hpn
                        exact kret _ _ _ _ _ (s1, 0, g1, 0, wr of 0 ol, v2) hw (⟨hbg1, by rw [← hres, mk_err hin (step_word (w := wd) (z := sz) hpc hF hW hko hp37 hkM2 hk115 (by rw [hcl]; exact hpi))]; exact ⟨rfl, rfl⟩⟩) rfl d_Mi_make_379
                  · have kM : k = M := (nI_eq (a := k) (b := M) (by omega) (by omega)).mp kM
                    refine lv_aload_n hx hb d_Mi_make_342 rfl (lv_at hl 9 rfl) ?_
                    refine lv_bipush (v := (-3)) hx hb d_Mi_make_343 (by decide) ?_
                    refine zVi (As := [.int (-3)]) (rest := []) S hw hl.1 vl_Mi_96 (c_Mi_nothing l G ad s1 0 g1 (nI ol.length) (wr of 0 ol) hn hf fm (nI n) wd sz (nI M) tp ln v1 (-3)) 0 rfl rfl rfl ⟨rfl, rfl⟩ [0, 1, 2, 3, 4, 5, 6, 7, 8, 9, 10, 11] [] [0, 1, 2, 3, 4, 5, 6, 7, 8, 9, 10, 11] rfl rfl (by decide) rfl rfl rfl d_Mi_make_345 (fun _ => wMi G ad s1 0 g1 (nI 0) (wr of 0 ol) hn hf fm (nI n) wd sz (nI M) tp ln v1) (fun _ => rfl) (fun r_345 _ H locs hpn hw => ?_)
                    subst hpn
                    exact kret _ _ _ _ _ (s1, 0, g1, 0, wr of 0 ol, v1) hw (⟨hbg1, by rw [← hres, mk_err hin (step_few (w := wd) (z := sz) hpc hF hW hko hp37 (by omega))]; exact ⟨rfl, rfl⟩⟩) rfl d_Mi_make_348
                · have k37 : q = 37 := (nI_eq (a := q) (b := 37) (by omega) (by omega)).mp k37
                  have hp37 : fcA fm n j = 37 := (hqe 37 (by decide)).mp k37
                  have hst := step_pct (w := wd) (z := sz) (many := M) (k := k) hpc hF hW hp37
                  refine lv_aload_n hx hb d_Mi_make_322 rfl (lv_at hl 9 rfl) ?_
                  refine xget S hw fl_Mi_21 0 rfl rfl d_Mi_make_323 ?_
                  refine lv_bipush (v := 37) hx hb d_Mi_make_326 (by decide) ?_
                  refine zVv (As := [.int 37]) (rest := []) S hw hl.1 vl_Mi_93 (c_Ro_one l G (ad 4) (ad 5) 4096 ol.length (wr of 0 ol) 37 (by omega) (by decide)) 4 rfl rfl rfl ⟨rfl, rfl⟩ [4, 5] [0, 1, 2, 3, 6, 7, 8, 9, 10, 11] [0, 1, 2, 3, 10, 11, 4, 5, 6, 7, 8, 9] rfl rfl (by decide) rfl rfl rfl d_Mi_make_328 (fun _ => wMi G ad s1 0 g1 (nI (ol.length + 1)) (wr (wr of 0 ol) ol.length [b8 37]) hn hf fm (nI n) wd sz (nI M) tp ln v1) (fun _ => rfl) (fun _ H locs hp hw => ?_)
                  refine lv_goto (tgt := 478) hx hb d_Mi_make_331 (by decide) ?_
                  rw [wr_app (Nat.zero_add _).symm] at hw
                  exact j478 k _ [37] s1 _ g1 v1 hkM hst (fun _ => rfl) (fun h => h) (by decide) hbg1 _ _ _ hw (lv_sub hl [0, 8, 9] rfl)
              · have hko : kOk (fcA fm n j) = false := by
                  cases hz : kOk (fcA fm n j)
                  · rfl
                  · rw [← hbq] at hz
                    exact absurd (hpx.mpr hz) cx
                refine lv_aload_n hx hb d_Mi_make_294 rfl (lv_at hl 9 rfl) ?_
                refine lv_bipush (v := (-2)) hx hb d_Mi_make_295 (by decide) ?_
                refine zVi (As := [.int (-2)]) (rest := []) S hw hl.1 vl_Mi_96 (c_Mi_nothing l G ad s1 f1 g1 (nI ol.length) (wr of 0 ol) hn hf fm (nI n) wd sz (nI M) tp ln v1 (-2)) 0 rfl rfl rfl ⟨rfl, rfl⟩ [0, 1, 2, 3, 4, 5, 6, 7, 8, 9, 10, 11] [] [0, 1, 2, 3, 4, 5, 6, 7, 8, 9, 10, 11] rfl rfl (by decide) rfl rfl rfl d_Mi_make_297 (fun _ => wMi G ad s1 f1 g1 (nI 0) (wr of 0 ol) hn hf fm (nI n) wd sz (nI M) tp ln v1) (fun _ => rfl) (fun r_297 _ H locs hpn hw => ?_)
                subst hpn
                exact kret _ _ _ _ _ (s1, f1, g1, 0, wr of 0 ol, v1) hw (⟨hbg1, by rw [← hres, mk_err hin (step_bad hpc hF hW hko)]; exact ⟨rfl, rfl⟩⟩) rfl d_Mi_make_300
          have lpW : ∀ (fw : Nat) (F : Fl4) (j1 w j : Nat), plF fm n i = (F, j1) → n ≤ j + fw → i < j → j ≤ n → w ≤ 100000 → wdA fm n fw j w = plW fm n i → ∀ (H : Heap) (locs : List Loc) (ls : Array Slot), gW G A s (wMi G ad s1 f1 g1 (nI ol.length) (wr of 0 ol) hn hf fm (nI n) wd sz (nI M) tp ln v1) H locs → lv_has ls 10 [(8, .int (nI w)), (7, .int (nI j)), (6, .int (bI F.2.2.2)), (5, .int (bI F.2.2.1)), (4, .int (bI F.2.1)), (3, .int (bI F.1)), (2, .int (nI i)), (1, .int (nI k)), (0, .ref (ad 0))] → W p l e (rmL 4) s m args below meth c H locs 0 0 Q (F0 m 221 ls []) := by
            intro fw
            induction fw with
            | zero =>
              intro F j1 w j hF hfw hij hjn hw1 hwa H locs ls hw hl
              refine lv_aload_n hx hb d_Mi_make_221 rfl (lv_at hl 8 rfl) ?_
              refine lv_iload hx hb d_Mi_make_222 (lv_at hl 1 rfl) ?_
              refine zVi (As := [.int (nI j)]) (rest := []) S hw hl.1 vl_Mi_90 (c_Mi_at l G ad s1 f1 g1 (nI ol.length) (wr of 0 ol) hn hf fm wd sz (nI M) tp ln v1 n hnn j (by omega)) 0 rfl rfl rfl ⟨rfl, rfl⟩ [0, 1, 2, 3, 4, 5, 6, 7, 8, 9, 10, 11] [] [0, 1, 2, 3, 4, 5, 6, 7, 8, 9, 10, 11] rfl rfl (by decide) rfl rfl rfl d_Mi_make_224 (fun _ => wMi G ad s1 f1 g1 (nI ol.length) (wr of 0 ol) hn hf fm (nI n) wd sz (nI M) tp ln v1) (fun _ => rfl) (fun r_224 _ H locs hp_224 hw => ?_)
              subst hp_224
              refine lv_bipush (v := 48) hx hb d_Mi_make_227 (by decide) ?_
              refine lv_icmp_lt (tgt := 271) hx hb d_Mi_make_229 (by decide) (fun d1 => ?_) (fun d1 => ?_)
              · exact j271 F j1 w j hF (by rw [← hwa, wdA_end (dgB hbf (Or.inl d1))]) hij hjn hw1 _ _ _ hw hl
              · refine lv_aload_n hx hb d_Mi_make_232 rfl (lv_at hl 8 rfl) ?_
                refine lv_iload hx hb d_Mi_make_233 (lv_at hl 1 rfl) ?_
                refine zVi (As := [.int (nI j)]) (rest := []) S hw hl.1 vl_Mi_90 (c_Mi_at l G ad s1 f1 g1 (nI ol.length) (wr of 0 ol) hn hf fm wd sz (nI M) tp ln v1 n hnn j (by omega)) 0 rfl rfl rfl ⟨rfl, rfl⟩ [0, 1, 2, 3, 4, 5, 6, 7, 8, 9, 10, 11] [] [0, 1, 2, 3, 4, 5, 6, 7, 8, 9, 10, 11] rfl rfl (by decide) rfl rfl rfl d_Mi_make_235 (fun _ => wMi G ad s1 f1 g1 (nI ol.length) (wr of 0 ol) hn hf fm (nI n) wd sz (nI M) tp ln v1) (fun _ => rfl) (fun r_235 _ H locs hp_235 hw => ?_)
                subst hp_235
                refine lv_bipush (v := 57) hx hb d_Mi_make_238 (by decide) ?_
                refine lv_icmp_gt (tgt := 271) hx hb d_Mi_make_240 (by decide) (fun d2 => ?_) (fun d2 => ?_)
                · exact j271 F j1 w j hF (by rw [← hwa, wdA_end (dgB hbf (Or.inr d2))]) hij hjn hw1 _ _ _ hw hl
                · obtain ⟨hj, hdg, q, hq1, hq2, hqa, hqc⟩ := dgA hbf d1 d2
                  omega
            | succ fw ihW =>
              intro F j1 w j hF hfw hij hjn hw1 hwa H locs ls hw hl
              refine lv_aload_n hx hb d_Mi_make_221 rfl (lv_at hl 8 rfl) ?_
              refine lv_iload hx hb d_Mi_make_222 (lv_at hl 1 rfl) ?_
              refine zVi (As := [.int (nI j)]) (rest := []) S hw hl.1 vl_Mi_90 (c_Mi_at l G ad s1 f1 g1 (nI ol.length) (wr of 0 ol) hn hf fm wd sz (nI M) tp ln v1 n hnn j (by omega)) 0 rfl rfl rfl ⟨rfl, rfl⟩ [0, 1, 2, 3, 4, 5, 6, 7, 8, 9, 10, 11] [] [0, 1, 2, 3, 4, 5, 6, 7, 8, 9, 10, 11] rfl rfl (by decide) rfl rfl rfl d_Mi_make_224 (fun _ => wMi G ad s1 f1 g1 (nI ol.length) (wr of 0 ol) hn hf fm (nI n) wd sz (nI M) tp ln v1) (fun _ => rfl) (fun r_224 _ H locs hp_224 hw => ?_)
              subst hp_224
              refine lv_bipush (v := 48) hx hb d_Mi_make_227 (by decide) ?_
              refine lv_icmp_lt (tgt := 271) hx hb d_Mi_make_229 (by decide) (fun d1 => ?_) (fun d1 => ?_)
              · exact j271 F j1 w j hF (by rw [← hwa, wdA_end (dgB hbf (Or.inl d1))]) hij hjn hw1 _ _ _ hw hl
              · refine lv_aload_n hx hb d_Mi_make_232 rfl (lv_at hl 8 rfl) ?_
                refine lv_iload hx hb d_Mi_make_233 (lv_at hl 1 rfl) ?_
                refine zVi (As := [.int (nI j)]) (rest := []) S hw hl.1 vl_Mi_90 (c_Mi_at l G ad s1 f1 g1 (nI ol.length) (wr of 0 ol) hn hf fm wd sz (nI M) tp ln v1 n hnn j (by omega)) 0 rfl rfl rfl ⟨rfl, rfl⟩ [0, 1, 2, 3, 4, 5, 6, 7, 8, 9, 10, 11] [] [0, 1, 2, 3, 4, 5, 6, 7, 8, 9, 10, 11] rfl rfl (by decide) rfl rfl rfl d_Mi_make_235 (fun _ => wMi G ad s1 f1 g1 (nI ol.length) (wr of 0 ol) hn hf fm (nI n) wd sz (nI M) tp ln v1) (fun _ => rfl) (fun r_235 _ H locs hp_235 hw => ?_)
                subst hp_235
                refine lv_bipush (v := 57) hx hb d_Mi_make_238 (by decide) ?_
                refine lv_icmp_gt (tgt := 271) hx hb d_Mi_make_240 (by decide) (fun d2 => ?_) (fun d2 => ?_)
                · exact j271 F j1 w j hF (by rw [← hwa, wdA_end (dgB hbf (Or.inr d2))]) hij hjn hw1 _ _ _ hw hl
                · obtain ⟨hj, hdg, q, hq1, hq2, hqa, hqc⟩ := dgA hbf d1 d2
                  refine lv_ldc (v := 100000) hx hb S.2.2.2.1 (S.2.2.2.2 _ k_151) d_Mi_make_243 ?_
                  refine lv_bipush (v := 10) hx hb d_Mi_make_245 (by decide) ?_
                  refine lv_iload hx hb d_Mi_make_247 (lv_at hl 0 rfl) ?_
                  refine lv_imul hx hb d_Mi_make_249 ?_
                  refine tpi (y := nI (10 * w)) (pk_mul 10 w) ?_
                  refine lv_aload_n hx hb d_Mi_make_250 rfl (lv_at hl 8 rfl) ?_
                  refine lv_iload hx hb d_Mi_make_251 (lv_at hl 1 rfl) ?_
                  refine zVi (As := [.int (nI j)]) (rest := [.int (nI (10 * w)), .int 100000]) S hw hl.1 vl_Mi_90 (c_Mi_at l G ad s1 f1 g1 (nI ol.length) (wr of 0 ol) hn hf fm wd sz (nI M) tp ln v1 n hnn j (by omega)) 0 rfl rfl rfl ⟨rfl, rfl⟩ [0, 1, 2, 3, 4, 5, 6, 7, 8, 9, 10, 11] [] [0, 1, 2, 3, 4, 5, 6, 7, 8, 9, 10, 11] rfl rfl (by decide) rfl rfl rfl d_Mi_make_253 (fun _ => wMi G ad s1 f1 g1 (nI ol.length) (wr of 0 ol) hn hf fm (nI n) wd sz (nI M) tp ln v1) (fun _ => rfl) (fun r_253 _ H locs hp_253 hw => ?_)
                  subst hp_253
                  refine tpi (y := nI q) hqc ?_
                  refine lv_iadd hx hb d_Mi_make_256 ?_
                  refine tpi (y := nI ((10 * w) + q)) (nI_add (10 * w) q) ?_
                  refine lv_bipush (v := 48) hx hb d_Mi_make_257 (by decide) ?_
                  refine lv_isub hx hb d_Mi_make_259 ?_
                  refine tpi (y := nI (10 * w + q - 48)) (pk_sub (a := 10 * w + q) (b := 48) (by omega)) ?_
                  refine xmin S hl.1 k_152 (Nat.le_of_ble_eq_true rfl) (Nat.le_of_ble_eq_true rfl) ⟨(Nat.le_of_ble_eq_true rfl), (Nat.le_of_ble_eq_true rfl)⟩ d_Mi_make_260 ?_
                  refine tpi (y := nI (wstep w (nI q))) (wstep_min (by omega) (by omega) (by omega)) ?_
                  refine lv_istore (lv' := [(8, .int (nI (wstep w (nI q)))), (7, .int (nI j)), (6, .int (bI F.2.2.2)), (5, .int (bI F.2.2.1)), (4, .int (bI F.2.1)), (3, .int (bI F.1)), (2, .int (nI i)), (1, .int (nI k)), (0, .ref (ad 0))]) hx hb d_Mi_make_263 hl (by decide) rfl (fun ls hl => ?_)
                  refine lv_iinc (v := nI (j + 1)) (lv' := [(7, .int (nI (j + 1))), (8, .int (nI (wstep w (nI q)))), (6, .int (bI F.2.2.2)), (5, .int (bI F.2.2.1)), (4, .int (bI F.2.1)), (3, .int (bI F.1)), (2, .int (nI i)), (1, .int (nI k)), (0, .ref (ad 0))]) hx hb d_Mi_make_265 hl (k := 1) rfl (nI_1 j) (by decide) rfl (fun ls hl => ?_)
                  refine lv_goto (tgt := 221) hx hb d_Mi_make_268 (by decide) ?_
                  refine ihW F j1 (wstep w (nI q)) (j + 1) hF (by omega) (by omega) (by omega) (wstep_le _ _) (by rw [← hwa, wdA_go hdg, hqa]) _ _ _ hw (lv_sub hl [1, 0, 2, 3, 4, 5, 6, 7, 8] rfl)
          have lpF : ∀ (ff2 : Nat) (F : Fl4) (j : Nat), n ≤ j + ff2 → i < j → j ≤ n → flA fm n ff2 j F = plF fm n i → ∀ (H : Heap) (locs : List Loc) (ls : Array Slot), gW G A s (wMi G ad s1 f1 g1 (nI ol.length) (wr of 0 ol) hn hf fm (nI n) wd sz (nI M) tp ln v1) H locs → lv_has ls 10 [(7, .int (nI j)), (6, .int (bI F.2.2.2)), (5, .int (bI F.2.2.1)), (4, .int (bI F.2.1)), (3, .int (bI F.1)), (2, .int (nI i)), (1, .int (nI k)), (0, .ref (ad 0))] → W p l e (rmL 4) s m args below meth c H locs 0 0 Q (F0 m 78 ls []) := by
            intro ff2
            induction ff2 with
            | zero =>
              intro F j hff hij hjn hfa H locs ls hw hl
              refine lv_aload_n hx hb d_Mi_make_78 rfl (lv_at hl 7 rfl) ?_
              refine lv_iload hx hb d_Mi_make_79 (lv_at hl 0 rfl) ?_
              refine zVi (As := [.int (nI j)]) (rest := []) S hw hl.1 vl_Mi_90 (c_Mi_at l G ad s1 f1 g1 (nI ol.length) (wr of 0 ol) hn hf fm wd sz (nI M) tp ln v1 n hnn j (by omega)) 0 rfl rfl rfl ⟨rfl, rfl⟩ [0, 1, 2, 3, 4, 5, 6, 7, 8, 9, 10, 11] [] [0, 1, 2, 3, 4, 5, 6, 7, 8, 9, 10, 11] rfl rfl (by decide) rfl rfl rfl d_Mi_make_81 (fun _ => wMi G ad s1 f1 g1 (nI ol.length) (wr of 0 ol) hn hf fm (nI n) wd sz (nI M) tp ln v1) (fun _ => rfl) (fun r_81 _ H locs hp_81 hw => ?_)
              subst hp_81
              refine lv_bipush (v := 45) hx hb d_Mi_make_84 (by decide) ?_
              refine lv_icmp_eq (tgt := 122) hx hb d_Mi_make_86 (by decide) (fun cf0 => ?_) (fun cf0 => ?_)
              · have cf0 : fcA fm n j = 45 := (fc_eq hbf (K := 45) (by decide)).mp cf0
                have := fl_last (t := fm) (n := n) (j := j) (by unfold isFl; simp [cf0])
                omega
              · have cf0 : ¬ fcA fm n j = 45 := fun q => cf0 ((fc_eq hbf (K := 45) (by decide)).mpr q)
                refine lv_aload_n hx hb d_Mi_make_89 rfl (lv_at hl 7 rfl) ?_
                refine lv_iload hx hb d_Mi_make_90 (lv_at hl 0 rfl) ?_
                refine zVi (As := [.int (nI j)]) (rest := []) S hw hl.1 vl_Mi_90 (c_Mi_at l G ad s1 f1 g1 (nI ol.length) (wr of 0 ol) hn hf fm wd sz (nI M) tp ln v1 n hnn j (by omega)) 0 rfl rfl rfl ⟨rfl, rfl⟩ [0, 1, 2, 3, 4, 5, 6, 7, 8, 9, 10, 11] [] [0, 1, 2, 3, 4, 5, 6, 7, 8, 9, 10, 11] rfl rfl (by decide) rfl rfl rfl d_Mi_make_92 (fun _ => wMi G ad s1 f1 g1 (nI ol.length) (wr of 0 ol) hn hf fm (nI n) wd sz (nI M) tp ln v1) (fun _ => rfl) (fun r_92 _ H locs hp_92 hw => ?_)
                subst hp_92
                refine lv_bipush (v := 48) hx hb d_Mi_make_95 (by decide) ?_
                refine lv_icmp_eq (tgt := 122) hx hb d_Mi_make_97 (by decide) (fun cf1 => ?_) (fun cf1 => ?_)
                · have cf1 : fcA fm n j = 48 := (fc_eq hbf (K := 48) (by decide)).mp cf1
                  have := fl_last (t := fm) (n := n) (j := j) (by unfold isFl; simp [cf1])
                  omega
                · have cf1 : ¬ fcA fm n j = 48 := fun q => cf1 ((fc_eq hbf (K := 48) (by decide)).mpr q)
                  refine lv_aload_n hx hb d_Mi_make_100 rfl (lv_at hl 7 rfl) ?_
                  refine lv_iload hx hb d_Mi_make_101 (lv_at hl 0 rfl) ?_
                  refine zVi (As := [.int (nI j)]) (rest := []) S hw hl.1 vl_Mi_90 (c_Mi_at l G ad s1 f1 g1 (nI ol.length) (wr of 0 ol) hn hf fm wd sz (nI M) tp ln v1 n hnn j (by omega)) 0 rfl rfl rfl ⟨rfl, rfl⟩ [0, 1, 2, 3, 4, 5, 6, 7, 8, 9, 10, 11] [] [0, 1, 2, 3, 4, 5, 6, 7, 8, 9, 10, 11] rfl rfl (by decide) rfl rfl rfl d_Mi_make_103 (fun _ => wMi G ad s1 f1 g1 (nI ol.length) (wr of 0 ol) hn hf fm (nI n) wd sz (nI M) tp ln v1) (fun _ => rfl) (fun r_103 _ H locs hp_103 hw => ?_)
                  subst hp_103
                  refine lv_bipush (v := 43) hx hb d_Mi_make_106 (by decide) ?_
                  refine lv_icmp_eq (tgt := 122) hx hb d_Mi_make_108 (by decide) (fun cf2 => ?_) (fun cf2 => ?_)
                  · have cf2 : fcA fm n j = 43 := (fc_eq hbf (K := 43) (by decide)).mp cf2
                    have := fl_last (t := fm) (n := n) (j := j) (by unfold isFl; simp [cf2])
                    omega
                  · have cf2 : ¬ fcA fm n j = 43 := fun q => cf2 ((fc_eq hbf (K := 43) (by decide)).mpr q)
                    refine lv_aload_n hx hb d_Mi_make_111 rfl (lv_at hl 7 rfl) ?_
                    refine lv_iload hx hb d_Mi_make_112 (lv_at hl 0 rfl) ?_
                    refine zVi (As := [.int (nI j)]) (rest := []) S hw hl.1 vl_Mi_90 (c_Mi_at l G ad s1 f1 g1 (nI ol.length) (wr of 0 ol) hn hf fm wd sz (nI M) tp ln v1 n hnn j (by omega)) 0 rfl rfl rfl ⟨rfl, rfl⟩ [0, 1, 2, 3, 4, 5, 6, 7, 8, 9, 10, 11] [] [0, 1, 2, 3, 4, 5, 6, 7, 8, 9, 10, 11] rfl rfl (by decide) rfl rfl rfl d_Mi_make_114 (fun _ => wMi G ad s1 f1 g1 (nI ol.length) (wr of 0 ol) hn hf fm (nI n) wd sz (nI M) tp ln v1) (fun _ => rfl) (fun r_114 _ H locs hp_114 hw => ?_)
                    subst hp_114
                    refine lv_bipush (v := 32) hx hb d_Mi_make_117 (by decide) ?_
                    refine lv_icmp_ne (tgt := 218) hx hb d_Mi_make_119 (by decide) (fun cf3 => ?_) (fun cf3 => ?_)
                    · have cf3 : ¬ fcA fm n j = 32 := fun q => cf3 ((fc_eq hbf (K := 32) (by decide)).mpr q)
                      have hnf : isFl (fcA fm n j) = false := by unfold isFl; simp [cf0, cf1, cf2, cf3]
                      refine lv_iconst (v := 0) hx hb d_Mi_make_218 (by decide) ?_
                      refine lv_istore (lv' := [(8, .int 0), (7, .int (nI j)), (6, .int (bI F.2.2.2)), (5, .int (bI F.2.2.1)), (4, .int (bI F.2.1)), (3, .int (bI F.1)), (2, .int (nI i)), (1, .int (nI k)), (0, .ref (ad 0))]) hx hb d_Mi_make_219 hl (by decide) rfl (fun ls hl => ?_)
                      refine lpW n F j 0 j (by rw [← hfa, flA_end hnf]) (by omega) hij hjn (by decide) (by unfold plW; rw [← hfa, flA_end hnf]) _ _ _ hw (lv_sub hl [0, 1, 2, 3, 4, 5, 6, 7, 8] rfl)
                    · have cf3 : fcA fm n j = 32 := (fc_eq hbf (K := 32) (by decide)).mp cf3
                      have := fl_last (t := fm) (n := n) (j := j) (by unfold isFl; simp [cf3])
                      omega
            | succ ff2 ihF =>
              intro F j hff hij hjn hfa H locs ls hw hl
              have j122 : ∀ (_ : Unit), isFl (fcA fm n j) = true → ∀ (H : Heap) (locs : List Loc) (ls : Array Slot), gW G A s (wMi G ad s1 f1 g1 (nI ol.length) (wr of 0 ol) hn hf fm (nI n) wd sz (nI M) tp ln v1) H locs → lv_has ls 10 [(7, .int (nI j)), (6, .int (bI F.2.2.2)), (5, .int (bI F.2.2.1)), (4, .int (bI F.2.1)), (3, .int (bI F.1)), (2, .int (nI i)), (1, .int (nI k)), (0, .ref (ad 0))] → W p l e (rmL 4) s m args below meth c H locs 0 0 Q (F0 m 122 ls []) := by
                intro _ hfl H locs ls hw hl
                have hjl := fl_last hfl
                have jj0 : ∀ (_ : Unit), ∀ (H : Heap) (locs : List Loc) (ls : Array Slot), gW G A s (wMi G ad s1 f1 g1 (nI ol.length) (wr of 0 ol) hn hf fm (nI n) wd sz (nI M) tp ln v1) H locs → lv_has ls 10 [(7, .int (nI j)), (6, .int (bI F.2.2.2)), (5, .int (bI F.2.2.1)), (4, .int (bI F.2.1)), (3, .int (bI F.1)), (2, .int (nI i)), (1, .int (nI k)), (0, .ref (ad 0))] → W p l e (rmL 4) s m args below meth c H locs 0 0 Q (F0 m 142 ls [.int (bI (F.1 || decide (fcA fm n j = 45)))]) := by
                  intro _ H locs ls hw hl
                  refine lv_istore_n (lv' := [(3, .int (bI (F.1 || decide (fcA fm n j = 45)))), (7, .int (nI j)), (6, .int (bI F.2.2.2)), (5, .int (bI F.2.2.1)), (4, .int (bI F.2.1)), (2, .int (nI i)), (1, .int (nI k)), (0, .ref (ad 0))]) hx hb d_Mi_make_142 rfl hl (by decide) rfl (fun ls hl => ?_)
                  have jj1 : ∀ (_ : Unit), ∀ (H : Heap) (locs : List Loc) (ls : Array Slot), gW G A s (wMi G ad s1 f1 g1 (nI ol.length) (wr of 0 ol) hn hf fm (nI n) wd sz (nI M) tp ln v1) H locs → lv_has ls 10 [(3, .int (bI (F.1 || decide (fcA fm n j = 45)))), (7, .int (nI j)), (6, .int (bI F.2.2.2)), (5, .int (bI F.2.2.1)), (4, .int (bI F.2.1)), (2, .int (nI i)), (1, .int (nI k)), (0, .ref (ad 0))] → W p l e (rmL 4) s m args below meth c H locs 0 0 Q (F0 m 164 ls [.int (bI (F.2.1 || decide (fcA fm n j = 48)))]) := by
                    intro _ H locs ls hw hl
                    refine lv_istore (lv' := [(4, .int (bI (F.2.1 || decide (fcA fm n j = 48)))), (3, .int (bI (F.1 || decide (fcA fm n j = 45)))), (7, .int (nI j)), (6, .int (bI F.2.2.2)), (5, .int (bI F.2.2.1)), (2, .int (nI i)), (1, .int (nI k)), (0, .ref (ad 0))]) hx hb d_Mi_make_164 hl (by decide) rfl (fun ls hl => ?_)
                    have jj2 : ∀ (_ : Unit), ∀ (H : Heap) (locs : List Loc) (ls : Array Slot), gW G A s (wMi G ad s1 f1 g1 (nI ol.length) (wr of 0 ol) hn hf fm (nI n) wd sz (nI M) tp ln v1) H locs → lv_has ls 10 [(4, .int (bI (F.2.1 || decide (fcA fm n j = 48)))), (3, .int (bI (F.1 || decide (fcA fm n j = 45)))), (7, .int (nI j)), (6, .int (bI F.2.2.2)), (5, .int (bI F.2.2.1)), (2, .int (nI i)), (1, .int (nI k)), (0, .ref (ad 0))] → W p l e (rmL 4) s m args below meth c H locs 0 0 Q (F0 m 187 ls [.int (bI (F.2.2.1 || decide (fcA fm n j = 43)))]) := by
                      intro _ H locs ls hw hl
                      refine lv_istore (lv' := [(5, .int (bI (F.2.2.1 || decide (fcA fm n j = 43)))), (4, .int (bI (F.2.1 || decide (fcA fm n j = 48)))), (3, .int (bI (F.1 || decide (fcA fm n j = 45)))), (7, .int (nI j)), (6, .int (bI F.2.2.2)), (2, .int (nI i)), (1, .int (nI k)), (0, .ref (ad 0))]) hx hb d_Mi_make_187 hl (by decide) rfl (fun ls hl => ?_)
                      have jj3 : ∀ (_ : Unit), ∀ (H : Heap) (locs : List Loc) (ls : Array Slot), gW G A s (wMi G ad s1 f1 g1 (nI ol.length) (wr of 0 ol) hn hf fm (nI n) wd sz (nI M) tp ln v1) H locs → lv_has ls 10 [(5, .int (bI (F.2.2.1 || decide (fcA fm n j = 43)))), (4, .int (bI (F.2.1 || decide (fcA fm n j = 48)))), (3, .int (bI (F.1 || decide (fcA fm n j = 45)))), (7, .int (nI j)), (6, .int (bI F.2.2.2)), (2, .int (nI i)), (1, .int (nI k)), (0, .ref (ad 0))] → W p l e (rmL 4) s m args below meth c H locs 0 0 Q (F0 m 210 ls [.int (bI (F.2.2.2 || decide (fcA fm n j = 32)))]) := by
                        intro _ H locs ls hw hl
                        refine lv_istore (lv' := [(6, .int (bI (F.2.2.2 || decide (fcA fm n j = 32)))), (5, .int (bI (F.2.2.1 || decide (fcA fm n j = 43)))), (4, .int (bI (F.2.1 || decide (fcA fm n j = 48)))), (3, .int (bI (F.1 || decide (fcA fm n j = 45)))), (7, .int (nI j)), (2, .int (nI i)), (1, .int (nI k)), (0, .ref (ad 0))]) hx hb d_Mi_make_210 hl (by decide) rfl (fun ls hl => ?_)
                        refine lv_iinc (v := nI (j + 1)) (lv' := [(7, .int (nI (j + 1))), (6, .int (bI (F.2.2.2 || decide (fcA fm n j = 32)))), (5, .int (bI (F.2.2.1 || decide (fcA fm n j = 43)))), (4, .int (bI (F.2.1 || decide (fcA fm n j = 48)))), (3, .int (bI (F.1 || decide (fcA fm n j = 45)))), (2, .int (nI i)), (1, .int (nI k)), (0, .ref (ad 0))]) hx hb d_Mi_make_212 hl (k := 4) rfl (nI_1 j) (by decide) rfl (fun ls hl => ?_)
                        refine lv_goto (tgt := 78) hx hb d_Mi_make_215 (by decide) ?_
                        refine ihF (fupd F (fcA fm n j)) (j + 1) (by omega) (by omega) (by omega) (by rw [← hfa, flA_go hfl]) _ _ _ hw (lv_sub hl [0, 1, 2, 3, 4, 5, 6, 7] rfl)
                      refine lv_iload hx hb d_Mi_make_189 (lv_at hl 4 rfl) ?_
                      refine lv_if_ne (tgt := 205) hx hb d_Mi_make_191 (by decide) (fun e3 => ?_) (fun e3 => ?_)
                      · have e3 : F.2.2.2 = true := bI_t e3
                        refine lv_iconst (v := 1) hx hb d_Mi_make_205 (by decide) ?_
                        refine lv_goto (tgt := 210) hx hb d_Mi_make_206 (by decide) ?_
                        refine tpi (y := bI (F.2.2.2 || decide (fcA fm n j = 32))) (by rw [e3]; rfl) ?_
                        exact jj3 () _ _ _ hw hl
                      · have e3 : F.2.2.2 = false := bI_z e3
                        refine lv_aload_n hx hb d_Mi_make_194 rfl (lv_at hl 7 rfl) ?_
                        refine lv_iload hx hb d_Mi_make_195 (lv_at hl 3 rfl) ?_
                        refine zVi (As := [.int (nI j)]) (rest := []) S hw hl.1 vl_Mi_90 (c_Mi_at l G ad s1 f1 g1 (nI ol.length) (wr of 0 ol) hn hf fm wd sz (nI M) tp ln v1 n hnn j (by omega)) 0 rfl rfl rfl ⟨rfl, rfl⟩ [0, 1, 2, 3, 4, 5, 6, 7, 8, 9, 10, 11] [] [0, 1, 2, 3, 4, 5, 6, 7, 8, 9, 10, 11] rfl rfl (by decide) rfl rfl rfl d_Mi_make_197 (fun _ => wMi G ad s1 f1 g1 (nI ol.length) (wr of 0 ol) hn hf fm (nI n) wd sz (nI M) tp ln v1) (fun _ => rfl) (fun r_197 _ H locs hp_197 hw => ?_)
                        subst hp_197
                        refine lv_bipush (v := 32) hx hb d_Mi_make_200 (by decide) ?_
                        refine lv_icmp_ne (tgt := 209) hx hb d_Mi_make_202 (by decide) (fun cg3 => ?_) (fun cg3 => ?_)
                        · have cg3 : ¬ fcA fm n j = 32 := fun q => cg3 ((fc_eq hbf (K := 32) (by decide)).mpr q)
                          refine lv_iconst (v := 0) hx hb d_Mi_make_209 (by decide) ?_
                          refine tpi (y := bI (F.2.2.2 || decide (fcA fm n j = 32))) (by rw [e3, decide_eq_false cg3]; rfl) ?_
                          exact jj3 () _ _ _ hw hl
                        · have cg3 : fcA fm n j = 32 := (fc_eq hbf (K := 32) (by decide)).mp cg3
                          refine lv_iconst (v := 1) hx hb d_Mi_make_205 (by decide) ?_
                          refine lv_goto (tgt := 210) hx hb d_Mi_make_206 (by decide) ?_
                          refine tpi (y := bI (F.2.2.2 || decide (fcA fm n j = 32))) (by rw [e3, decide_eq_true cg3]; rfl) ?_
                          exact jj3 () _ _ _ hw hl
                    refine lv_iload hx hb d_Mi_make_166 (lv_at hl 4 rfl) ?_
                    refine lv_if_ne (tgt := 182) hx hb d_Mi_make_168 (by decide) (fun e2 => ?_) (fun e2 => ?_)
                    · have e2 : F.2.2.1 = true := bI_t e2
                      refine lv_iconst (v := 1) hx hb d_Mi_make_182 (by decide) ?_
                      refine lv_goto (tgt := 187) hx hb d_Mi_make_183 (by decide) ?_
                      refine tpi (y := bI (F.2.2.1 || decide (fcA fm n j = 43))) (by rw [e2]; rfl) ?_
                      exact jj2 () _ _ _ hw hl
                    · have e2 : F.2.2.1 = false := bI_z e2
                      refine lv_aload_n hx hb d_Mi_make_171 rfl (lv_at hl 7 rfl) ?_
                      refine lv_iload hx hb d_Mi_make_172 (lv_at hl 2 rfl) ?_
                      refine zVi (As := [.int (nI j)]) (rest := []) S hw hl.1 vl_Mi_90 (c_Mi_at l G ad s1 f1 g1 (nI ol.length) (wr of 0 ol) hn hf fm wd sz (nI M) tp ln v1 n hnn j (by omega)) 0 rfl rfl rfl ⟨rfl, rfl⟩ [0, 1, 2, 3, 4, 5, 6, 7, 8, 9, 10, 11] [] [0, 1, 2, 3, 4, 5, 6, 7, 8, 9, 10, 11] rfl rfl (by decide) rfl rfl rfl d_Mi_make_174 (fun _ => wMi G ad s1 f1 g1 (nI ol.length) (wr of 0 ol) hn hf fm (nI n) wd sz (nI M) tp ln v1) (fun _ => rfl) (fun r_174 _ H locs hp_174 hw => ?_)
                      subst hp_174
                      refine lv_bipush (v := 43) hx hb d_Mi_make_177 (by decide) ?_
                      refine lv_icmp_ne (tgt := 186) hx hb d_Mi_make_179 (by decide) (fun cg2 => ?_) (fun cg2 => ?_)
                      · have cg2 : ¬ fcA fm n j = 43 := fun q => cg2 ((fc_eq hbf (K := 43) (by decide)).mpr q)
                        refine lv_iconst (v := 0) hx hb d_Mi_make_186 (by decide) ?_
                        refine tpi (y := bI (F.2.2.1 || decide (fcA fm n j = 43))) (by rw [e2, decide_eq_false cg2]; rfl) ?_
                        exact jj2 () _ _ _ hw hl
                      · have cg2 : fcA fm n j = 43 := (fc_eq hbf (K := 43) (by decide)).mp cg2
                        refine lv_iconst (v := 1) hx hb d_Mi_make_182 (by decide) ?_
                        refine lv_goto (tgt := 187) hx hb d_Mi_make_183 (by decide) ?_
                        refine tpi (y := bI (F.2.2.1 || decide (fcA fm n j = 43))) (by rw [e2, decide_eq_true cg2]; rfl) ?_
                        exact jj2 () _ _ _ hw hl
                  refine lv_iload hx hb d_Mi_make_143 (lv_at hl 4 rfl) ?_
                  refine lv_if_ne (tgt := 159) hx hb d_Mi_make_145 (by decide) (fun e1 => ?_) (fun e1 => ?_)
                  · have e1 : F.2.1 = true := bI_t e1
                    refine lv_iconst (v := 1) hx hb d_Mi_make_159 (by decide) ?_
                    refine lv_goto (tgt := 164) hx hb d_Mi_make_160 (by decide) ?_
                    refine tpi (y := bI (F.2.1 || decide (fcA fm n j = 48))) (by rw [e1]; rfl) ?_
                    exact jj1 () _ _ _ hw hl
                  · have e1 : F.2.1 = false := bI_z e1
                    refine lv_aload_n hx hb d_Mi_make_148 rfl (lv_at hl 7 rfl) ?_
                    refine lv_iload hx hb d_Mi_make_149 (lv_at hl 1 rfl) ?_
                    refine zVi (As := [.int (nI j)]) (rest := []) S hw hl.1 vl_Mi_90 (c_Mi_at l G ad s1 f1 g1 (nI ol.length) (wr of 0 ol) hn hf fm wd sz (nI M) tp ln v1 n hnn j (by omega)) 0 rfl rfl rfl ⟨rfl, rfl⟩ [0, 1, 2, 3, 4, 5, 6, 7, 8, 9, 10, 11] [] [0, 1, 2, 3, 4, 5, 6, 7, 8, 9, 10, 11] rfl rfl (by decide) rfl rfl rfl d_Mi_make_151 (fun _ => wMi G ad s1 f1 g1 (nI ol.length) (wr of 0 ol) hn hf fm (nI n) wd sz (nI M) tp ln v1) (fun _ => rfl) (fun r_151 _ H locs hp_151 hw => ?_)
                    subst hp_151
                    refine lv_bipush (v := 48) hx hb d_Mi_make_154 (by decide) ?_
                    refine lv_icmp_ne (tgt := 163) hx hb d_Mi_make_156 (by decide) (fun cg1 => ?_) (fun cg1 => ?_)
                    · have cg1 : ¬ fcA fm n j = 48 := fun q => cg1 ((fc_eq hbf (K := 48) (by decide)).mpr q)
                      refine lv_iconst (v := 0) hx hb d_Mi_make_163 (by decide) ?_
                      refine tpi (y := bI (F.2.1 || decide (fcA fm n j = 48))) (by rw [e1, decide_eq_false cg1]; rfl) ?_
                      exact jj1 () _ _ _ hw hl
                    · have cg1 : fcA fm n j = 48 := (fc_eq hbf (K := 48) (by decide)).mp cg1
                      refine lv_iconst (v := 1) hx hb d_Mi_make_159 (by decide) ?_
                      refine lv_goto (tgt := 164) hx hb d_Mi_make_160 (by decide) ?_
                      refine tpi (y := bI (F.2.1 || decide (fcA fm n j = 48))) (by rw [e1, decide_eq_true cg1]; rfl) ?_
                      exact jj1 () _ _ _ hw hl
                refine lv_iload_n hx hb d_Mi_make_122 rfl (lv_at hl 4 rfl) ?_
                refine lv_if_ne (tgt := 137) hx hb d_Mi_make_123 (by decide) (fun e0 => ?_) (fun e0 => ?_)
                · have e0 : F.1 = true := bI_t e0
                  refine lv_iconst (v := 1) hx hb d_Mi_make_137 (by decide) ?_
                  refine lv_goto (tgt := 142) hx hb d_Mi_make_138 (by decide) ?_
                  refine tpi (y := bI (F.1 || decide (fcA fm n j = 45))) (by rw [e0]; rfl) ?_
                  exact jj0 () _ _ _ hw hl
                · have e0 : F.1 = false := bI_z e0
                  refine lv_aload_n hx hb d_Mi_make_126 rfl (lv_at hl 7 rfl) ?_
                  refine lv_iload hx hb d_Mi_make_127 (lv_at hl 0 rfl) ?_
                  refine zVi (As := [.int (nI j)]) (rest := []) S hw hl.1 vl_Mi_90 (c_Mi_at l G ad s1 f1 g1 (nI ol.length) (wr of 0 ol) hn hf fm wd sz (nI M) tp ln v1 n hnn j (by omega)) 0 rfl rfl rfl ⟨rfl, rfl⟩ [0, 1, 2, 3, 4, 5, 6, 7, 8, 9, 10, 11] [] [0, 1, 2, 3, 4, 5, 6, 7, 8, 9, 10, 11] rfl rfl (by decide) rfl rfl rfl d_Mi_make_129 (fun _ => wMi G ad s1 f1 g1 (nI ol.length) (wr of 0 ol) hn hf fm (nI n) wd sz (nI M) tp ln v1) (fun _ => rfl) (fun r_129 _ H locs hp_129 hw => ?_)
                  subst hp_129
                  refine lv_bipush (v := 45) hx hb d_Mi_make_132 (by decide) ?_
                  refine lv_icmp_ne (tgt := 141) hx hb d_Mi_make_134 (by decide) (fun cg0 => ?_) (fun cg0 => ?_)
                  · have cg0 : ¬ fcA fm n j = 45 := fun q => cg0 ((fc_eq hbf (K := 45) (by decide)).mpr q)
                    refine lv_iconst (v := 0) hx hb d_Mi_make_141 (by decide) ?_
                    refine tpi (y := bI (F.1 || decide (fcA fm n j = 45))) (by rw [e0, decide_eq_false cg0]; rfl) ?_
                    exact jj0 () _ _ _ hw hl
                  · have cg0 : fcA fm n j = 45 := (fc_eq hbf (K := 45) (by decide)).mp cg0
                    refine lv_iconst (v := 1) hx hb d_Mi_make_137 (by decide) ?_
                    refine lv_goto (tgt := 142) hx hb d_Mi_make_138 (by decide) ?_
                    refine tpi (y := bI (F.1 || decide (fcA fm n j = 45))) (by rw [e0, decide_eq_true cg0]; rfl) ?_
                    exact jj0 () _ _ _ hw hl
              refine lv_aload_n hx hb d_Mi_make_78 rfl (lv_at hl 7 rfl) ?_
              refine lv_iload hx hb d_Mi_make_79 (lv_at hl 0 rfl) ?_
              refine zVi (As := [.int (nI j)]) (rest := []) S hw hl.1 vl_Mi_90 (c_Mi_at l G ad s1 f1 g1 (nI ol.length) (wr of 0 ol) hn hf fm wd sz (nI M) tp ln v1 n hnn j (by omega)) 0 rfl rfl rfl ⟨rfl, rfl⟩ [0, 1, 2, 3, 4, 5, 6, 7, 8, 9, 10, 11] [] [0, 1, 2, 3, 4, 5, 6, 7, 8, 9, 10, 11] rfl rfl (by decide) rfl rfl rfl d_Mi_make_81 (fun _ => wMi G ad s1 f1 g1 (nI ol.length) (wr of 0 ol) hn hf fm (nI n) wd sz (nI M) tp ln v1) (fun _ => rfl) (fun r_81 _ H locs hp_81 hw => ?_)
              subst hp_81
              refine lv_bipush (v := 45) hx hb d_Mi_make_84 (by decide) ?_
              refine lv_icmp_eq (tgt := 122) hx hb d_Mi_make_86 (by decide) (fun cf0 => ?_) (fun cf0 => ?_)
              · have cf0 : fcA fm n j = 45 := (fc_eq hbf (K := 45) (by decide)).mp cf0
                exact j122 () (by unfold isFl; simp [cf0]) _ _ _ hw hl
              · have cf0 : ¬ fcA fm n j = 45 := fun q => cf0 ((fc_eq hbf (K := 45) (by decide)).mpr q)
                refine lv_aload_n hx hb d_Mi_make_89 rfl (lv_at hl 7 rfl) ?_
                refine lv_iload hx hb d_Mi_make_90 (lv_at hl 0 rfl) ?_
                refine zVi (As := [.int (nI j)]) (rest := []) S hw hl.1 vl_Mi_90 (c_Mi_at l G ad s1 f1 g1 (nI ol.length) (wr of 0 ol) hn hf fm wd sz (nI M) tp ln v1 n hnn j (by omega)) 0 rfl rfl rfl ⟨rfl, rfl⟩ [0, 1, 2, 3, 4, 5, 6, 7, 8, 9, 10, 11] [] [0, 1, 2, 3, 4, 5, 6, 7, 8, 9, 10, 11] rfl rfl (by decide) rfl rfl rfl d_Mi_make_92 (fun _ => wMi G ad s1 f1 g1 (nI ol.length) (wr of 0 ol) hn hf fm (nI n) wd sz (nI M) tp ln v1) (fun _ => rfl) (fun r_92 _ H locs hp_92 hw => ?_)
                subst hp_92
                refine lv_bipush (v := 48) hx hb d_Mi_make_95 (by decide) ?_
                refine lv_icmp_eq (tgt := 122) hx hb d_Mi_make_97 (by decide) (fun cf1 => ?_) (fun cf1 => ?_)
                · have cf1 : fcA fm n j = 48 := (fc_eq hbf (K := 48) (by decide)).mp cf1
                  exact j122 () (by unfold isFl; simp [cf1]) _ _ _ hw hl
                · have cf1 : ¬ fcA fm n j = 48 := fun q => cf1 ((fc_eq hbf (K := 48) (by decide)).mpr q)
                  refine lv_aload_n hx hb d_Mi_make_100 rfl (lv_at hl 7 rfl) ?_
                  refine lv_iload hx hb d_Mi_make_101 (lv_at hl 0 rfl) ?_
                  refine zVi (As := [.int (nI j)]) (rest := []) S hw hl.1 vl_Mi_90 (c_Mi_at l G ad s1 f1 g1 (nI ol.length) (wr of 0 ol) hn hf fm wd sz (nI M) tp ln v1 n hnn j (by omega)) 0 rfl rfl rfl ⟨rfl, rfl⟩ [0, 1, 2, 3, 4, 5, 6, 7, 8, 9, 10, 11] [] [0, 1, 2, 3, 4, 5, 6, 7, 8, 9, 10, 11] rfl rfl (by decide) rfl rfl rfl d_Mi_make_103 (fun _ => wMi G ad s1 f1 g1 (nI ol.length) (wr of 0 ol) hn hf fm (nI n) wd sz (nI M) tp ln v1) (fun _ => rfl) (fun r_103 _ H locs hp_103 hw => ?_)
                  subst hp_103
                  refine lv_bipush (v := 43) hx hb d_Mi_make_106 (by decide) ?_
                  refine lv_icmp_eq (tgt := 122) hx hb d_Mi_make_108 (by decide) (fun cf2 => ?_) (fun cf2 => ?_)
                  · have cf2 : fcA fm n j = 43 := (fc_eq hbf (K := 43) (by decide)).mp cf2
                    exact j122 () (by unfold isFl; simp [cf2]) _ _ _ hw hl
                  · have cf2 : ¬ fcA fm n j = 43 := fun q => cf2 ((fc_eq hbf (K := 43) (by decide)).mpr q)
                    refine lv_aload_n hx hb d_Mi_make_111 rfl (lv_at hl 7 rfl) ?_
                    refine lv_iload hx hb d_Mi_make_112 (lv_at hl 0 rfl) ?_
                    refine zVi (As := [.int (nI j)]) (rest := []) S hw hl.1 vl_Mi_90 (c_Mi_at l G ad s1 f1 g1 (nI ol.length) (wr of 0 ol) hn hf fm wd sz (nI M) tp ln v1 n hnn j (by omega)) 0 rfl rfl rfl ⟨rfl, rfl⟩ [0, 1, 2, 3, 4, 5, 6, 7, 8, 9, 10, 11] [] [0, 1, 2, 3, 4, 5, 6, 7, 8, 9, 10, 11] rfl rfl (by decide) rfl rfl rfl d_Mi_make_114 (fun _ => wMi G ad s1 f1 g1 (nI ol.length) (wr of 0 ol) hn hf fm (nI n) wd sz (nI M) tp ln v1) (fun _ => rfl) (fun r_114 _ H locs hp_114 hw => ?_)
                    subst hp_114
                    refine lv_bipush (v := 32) hx hb d_Mi_make_117 (by decide) ?_
                    refine lv_icmp_ne (tgt := 218) hx hb d_Mi_make_119 (by decide) (fun cf3 => ?_) (fun cf3 => ?_)
                    · have cf3 : ¬ fcA fm n j = 32 := fun q => cf3 ((fc_eq hbf (K := 32) (by decide)).mpr q)
                      have hnf : isFl (fcA fm n j) = false := by unfold isFl; simp [cf0, cf1, cf2, cf3]
                      refine lv_iconst (v := 0) hx hb d_Mi_make_218 (by decide) ?_
                      refine lv_istore (lv' := [(8, .int 0), (7, .int (nI j)), (6, .int (bI F.2.2.2)), (5, .int (bI F.2.2.1)), (4, .int (bI F.2.1)), (3, .int (bI F.1)), (2, .int (nI i)), (1, .int (nI k)), (0, .ref (ad 0))]) hx hb d_Mi_make_219 hl (by decide) rfl (fun ls hl => ?_)
                      refine lpW n F j 0 j (by rw [← hfa, flA_end hnf]) (by omega) hij hjn (by decide) (by unfold plW; rw [← hfa, flA_end hnf]) _ _ _ hw (lv_sub hl [0, 1, 2, 3, 4, 5, 6, 7, 8] rfl)
                    · have cf3 : fcA fm n j = 32 := (fc_eq hbf (K := 32) (by decide)).mp cf3
                      exact j122 () (by unfold isFl; simp [cf3]) _ _ _ hw hl
          refine lv_iconst (v := 0) hx hb d_Mi_make_62 (by decide) ?_
          refine lv_istore_n (lv' := [(3, .int 0), (2, .int (nI i)), (1, .int (nI k)), (0, .ref (ad 0))]) hx hb d_Mi_make_63 rfl hl (by decide) rfl (fun ls hl => ?_)
          refine lv_iconst (v := 0) hx hb d_Mi_make_64 (by decide) ?_
          refine lv_istore (lv' := [(4, .int 0), (3, .int 0), (2, .int (nI i)), (1, .int (nI k)), (0, .ref (ad 0))]) hx hb d_Mi_make_65 hl (by decide) rfl (fun ls hl => ?_)
          refine lv_iconst (v := 0) hx hb d_Mi_make_67 (by decide) ?_
          refine lv_istore (lv' := [(5, .int 0), (4, .int 0), (3, .int 0), (2, .int (nI i)), (1, .int (nI k)), (0, .ref (ad 0))]) hx hb d_Mi_make_68 hl (by decide) rfl (fun ls hl => ?_)
          refine lv_iconst (v := 0) hx hb d_Mi_make_70 (by decide) ?_
          refine lv_istore (lv' := [(6, .int 0), (5, .int 0), (4, .int 0), (3, .int 0), (2, .int (nI i)), (1, .int (nI k)), (0, .ref (ad 0))]) hx hb d_Mi_make_71 hl (by decide) rfl (fun ls hl => ?_)
          refine lv_iload_n hx hb d_Mi_make_73 rfl (lv_at hl 4 rfl) ?_
          refine lv_iconst (v := 1) hx hb d_Mi_make_74 (by decide) ?_
          refine lv_iadd hx hb d_Mi_make_75 ?_
          refine tpi (y := nI (i + 1)) (nI_add i 1) ?_
          refine lv_istore (lv' := [(7, .int (nI (i + 1))), (6, .int 0), (5, .int 0), (4, .int 0), (3, .int 0), (2, .int (nI i)), (1, .int (nI k)), (0, .ref (ad 0))]) hx hb d_Mi_make_76 hl (by decide) rfl (fun ls hl => ?_)
          refine lpF n (false, false, false, false) (i + 1) (by omega) (by omega) (by omega) rfl _ _ _ hw (lv_sub hl [0, 1, 2, 3, 4, 5, 6, 7] rfl)
        · have hpc : fm i ≠ 37 := fun q => c37 ((fc_eq hbf (K := 37) (by decide)).mpr (by rw [hfi2]; exact q))
          have hst := step_lit (n := n) (w := wd) (z := sz) (many := M) (k := k) hpc
          have hb1 : b8 (fcC fm n i) = fm i := by unfold fcC; rw [if_pos hin]; exact (dg_all (hbf i)).2.2.2
          refine lv_aload_n hx hb d_Mi_make_30 rfl (lv_at hl 2 rfl) ?_
          refine xget S hw fl_Mi_21 0 rfl rfl d_Mi_make_31 ?_
          refine lv_aload_n hx hb d_Mi_make_34 rfl (lv_at hl 2 rfl) ?_
          refine lv_iload_n hx hb d_Mi_make_35 rfl (lv_at hl 0 rfl) ?_
          refine zVi (As := [.int (nI i)]) (rest := [.ref (ad 4)]) S hw hl.1 vl_Mi_90 (c_Mi_at l G ad s1 f1 g1 (nI ol.length) (wr of 0 ol) hn hf fm wd sz (nI M) tp ln v1 n hnn i (by omega)) 0 rfl rfl rfl ⟨rfl, rfl⟩ [0, 1, 2, 3, 4, 5, 6, 7, 8, 9, 10, 11] [] [0, 1, 2, 3, 4, 5, 6, 7, 8, 9, 10, 11] rfl rfl (by decide) rfl rfl rfl d_Mi_make_36 (fun _ => wMi G ad s1 f1 g1 (nI ol.length) (wr of 0 ol) hn hf fm (nI n) wd sz (nI M) tp ln v1) (fun _ => rfl) (fun r_36 _ H locs hp_36 hw => ?_)
          subst hp_36
          refine zVv (As := [.int (fcC fm n i)]) (rest := []) S hw hl.1 vl_Mi_93 (c_Ro_one l G (ad 4) (ad 5) 4096 ol.length (wr of 0 ol) (fcC fm n i) (by omega) (by decide)) 4 rfl rfl rfl ⟨rfl, rfl⟩ [4, 5] [0, 1, 2, 3, 6, 7, 8, 9, 10, 11] [0, 1, 2, 3, 10, 11, 4, 5, 6, 7, 8, 9] rfl rfl (by decide) rfl rfl rfl d_Mi_make_39 (fun _ => wMi G ad s1 f1 g1 (nI (ol.length + 1)) (wr (wr of 0 ol) ol.length [b8 (fcC fm n i)]) hn hf fm (nI n) wd sz (nI M) tp ln v1) (fun _ => rfl) (fun _ H locs hp hw => ?_)
          rw [wr_app (Nat.zero_add _).symm, hb1] at hw
          refine lv_aload_n hx hb d_Mi_make_42 rfl (lv_at hl 2 rfl) ?_
          refine xget S hw fl_Mi_21 0 rfl rfl d_Mi_make_43 ?_
          refine xget S hw fl_Mi_66 4 rfl rfl d_Mi_make_46 ?_
          refine lv_sipush (v := 1024) hx hb d_Mi_make_49 (by decide) ?_
          refine lv_icmp_le (tgt := 498) hx hb d_Mi_make_52 (by decide) (fun c52 => ?_) (fun c52 => ?_)
          · have c52 : (ol.length + 1) ≤ 1024 := (nI_leI (a := (ol.length + 1)) (b := 1024) (by omega) (by omega)).mp c52
            refine lv_iinc (v := nI (i + 1)) (lv' := [(2, .int (nI (i + 1))), (1, .int (nI k)), (0, .ref (ad 0))]) hx hb d_Mi_make_498 hl (k := 0) rfl (nI_1 i) (by decide) rfl (fun ls hl => ?_)
            refine lv_goto (tgt := 12) hx hb d_Mi_make_501 (by decide) ?_
            exact ihM (i + 1) k (ol ++ [fm i]) s1 f1 g1 v1 (by omega) (by omega) hkM (by rw [List.length_append]; exact c52) (by rw [← hres, mk_go hin hst (by show ¬ 1024 < ol.length + 1; omega)]) hbg1 _ _ _ (by rw [List.length_append]; exact hw) (lv_sub hl [0, 1, 2] rfl)
          · have c52 : ¬ (ol.length + 1) ≤ 1024 := fun q_ => c52 ((nI_leI (a := (ol.length + 1)) (b := 1024) (by omega) (by omega)).mpr q_)
            refine lv_aload_n hx hb d_Mi_make_55 rfl (lv_at hl 2 rfl) ?_
            refine lv_bipush (v := (-5)) hx hb d_Mi_make_56 (by decide) ?_
            refine zVi (As := [.int (-5)]) (rest := []) S hw hl.1 vl_Mi_96 (c_Mi_nothing l G ad s1 f1 g1 (nI (ol.length + 1)) (wr of 0 (ol ++ [fm i])) hn hf fm (nI n) wd sz (nI M) tp ln v1 (-5)) 0 rfl rfl rfl ⟨rfl, rfl⟩ [0, 1, 2, 3, 4, 5, 6, 7, 8, 9, 10, 11] [] [0, 1, 2, 3, 4, 5, 6, 7, 8, 9, 10, 11] rfl rfl (by decide) rfl rfl rfl d_Mi_make_58 (fun _ => wMi G ad s1 f1 g1 (nI 0) (wr of 0 (ol ++ [fm i])) hn hf fm (nI n) wd sz (nI M) tp ln v1) (fun _ => rfl) (fun r_58 _ H locs hpn hw => ?_)
            subst hpn
            exact kret _ _ _ _ _ (s1, f1, g1, 0, wr of 0 (ol ++ [fm i]), v1) hw (⟨hbg1, by rw [← hres, mk_long hin hst (show 1024 < ol.length + 1 by omega)]; exact ⟨rfl, rfl⟩⟩) rfl d_Mi_make_61
  exact lpM n 0 0 [] sn fn ff vl (by omega) (by omega) (by omega) (by decide) hRS.symm hbg _ _ _ (by rw [wr_nil]; exact hw) (lv_sub hl [0, 1, 2] rfl)
end
section
/-! ===== plain words for the model's small methods ===== -/
def lay4 (v : Int32) : List Int32 := [b8 (v >>> (24 &&& 31)), b8 (v >>> (16 &&& 31)), b8 (v >>> (8 &&& 31)), b8 (v >>> (0 &&& 31))]
theorem lay4_upd {f : Nat → Int32} {L : Nat} {v : Int32} : upd (upd (upd (upd f L (b8 (v >>> (24 &&& 31)))) (L + 1) (b8 (v >>> (16 &&& 31)))) (L + 1 + 1) (b8 (v >>> (8 &&& 31)))) (L + 1 + 1 + 1) (b8 (v >>> (0 &&& 31))) = wr f L (lay4 v) := by
  rw [wr_upd, wr_upd, wr_upd, wr_upd, wr_app, wr_app, wr_app] <;> rfl
theorem lay_fd {f : Nat → Int32} {L : Nat} {a b c d e : Int32} : wr (wr (wr (wr (wr f L (lay4 a)) (L + 4) (lay4 b)) (L + 4 + 4) (lay4 c)) (L + 4 + 4 + 4) (lay4 d)) (L + 4 + 4 + 4 + 4) (lay4 e) = wr f L (sg (fdAt a b c d e) 0 20) := by
  rw [wr_app, wr_app, wr_app, wr_app] <;> rfl
theorem sg_push {f : Nat → Int32} {q k : Nat} {x : Int32} (h : q + 1 + k ≤ 72) : sg (upd f q x) q (k + 1) = x :: sg f (q + 1) k := by
  rw [sg_cons, pk_us]
  congr 1
  exact sg_ext (fun i _ => pk_un (by omega))
/-- the digits from the last on: what is left and what is there -/
def ndInv (b : Nat) (dg : Nat → Int32) (R : List Int32) (f K : Nat) (em : List Int32) : Prop := nd b dg f K ++ em = R ∧ K < b ^ f ∧ 0 < f ∧ em.length + f ≤ 22
theorem ndInv_next {b : Nat} {dg : Nat → Int32} {R : List Int32} {f K : Nat} {em : List Int32} (hb : 2 ≤ b) (h : ndInv b dg R f K em) (hk : K / b ≠ 0) : ∃ f', f = f' + 1 ∧ ndInv b dg R f' (K / b) (dg (K % b) :: em) := by
  obtain ⟨h1, h2, h3, h4⟩ := h
  obtain ⟨f, rfl⟩ : ∃ g, f = g + 1 := ⟨f - 1, by omega⟩
  have hge : ¬ K < b := fun q => hk (Nat.div_eq_of_lt q)
  have h5 : K / b < b ^ f := by rw [Nat.div_lt_iff_lt_mul (by omega), ← Nat.pow_succ]; exact h2
  refine ⟨f, rfl, ?_, h5, ?_, by simp; omega⟩
  · rw [nd, if_neg hge] at h1
    rw [← h1]
    simp
  · cases f with
    | zero => simp at h5; omega
    | succ f => omega
theorem ndInv_last {b : Nat} {dg : Nat → Int32} {R : List Int32} {f K : Nat} {em : List Int32} (hb : 2 ≤ b) (h : ndInv b dg R f K em) (hk : K / b = 0) : dg (K % b) :: em = R := by
  obtain ⟨h1, h2, h3, h4⟩ := h
  obtain ⟨f, rfl⟩ : ∃ g, f = g + 1 := ⟨f - 1, by omega⟩
  have hlt : K < b := (Nat.div_eq_zero_iff_lt (by omega)).mp hk
  rw [nd, if_pos hlt] at h1
  rw [Nat.mod_eq_of_lt hlt, ← h1]
  rfl
theorem dig_inv (v : Int64) : ndInv 10 dg10 (dig v) 20 (absN v) [] := ⟨List.append_nil _, Nat.lt_of_le_of_lt (absN_le v) (by decide), by decide, by decide⟩
theorem bits_inv (v : Int64) (bb LL : Nat) (hbb : bb = 3 ∨ bb = 4) : ndInv (2 ^ bb) (dgx LL) (nd (2 ^ bb) (dgx LL) 22 (uL v)) 22 (uL v) [] :=
  ⟨List.append_nil _, Nat.lt_of_lt_of_le (uL_lt v) (by rcases hbb with rfl | rfl <;> decide), by decide, by decide⟩
theorem uL_mask (x : Int64) {bb : Nat} (hbb : bb = 3 ∨ bb = 4) : (x &&& ((1 <<< ((nI bb : Int32).toInt64 &&& 63)) - 1) : Int64).toInt32 = nI (uL x % 2 ^ bb) := by
  have key : ∀ (b : Nat) (mk : Int64), mk.toBitVec.toNat = 2 ^ b - 1 → b < 32 → (x &&& mk).toInt32 = nI (uL x % 2 ^ b) := by
    intro b mk hm hb
    apply Int32.toBitVec_inj.mp
    apply BitVec.eq_of_toNat_eq
    rw [l2i_tn]
    have e1 : uL (x &&& mk) = uL x % 2 ^ b := by
      show (x.toBitVec &&& mk.toBitVec).toNat = _
      rw [BitVec.toNat_and, hm, Nat.and_two_pow_sub_one_eq_mod]
      rfl
    have h2 : uL x % 2 ^ b < 2 ^ 32 := Nat.lt_of_lt_of_le (Nat.mod_lt _ (Nat.pow_pos (by decide))) (Nat.pow_le_pow_right (by decide) (by omega))
    rw [e1, pk_tn h2, Nat.mod_eq_of_lt h2]
  rcases hbb with rfl | rfl
  · exact key 3 _ (by decide) (by decide)
  · exact key 4 _ (by decide) (by decide)
theorem uL_zero {x : Int64} : x = 0 ↔ uL x = 0 := by
  constructor
  · rintro rfl; rfl
  · intro h
    apply Int64.toBitVec_inj.mp
    apply BitVec.eq_of_toNat_eq
    exact h
theorem rem_toInt32 {d : Nat} : (lN d).toInt32 = nI d := lN_i d
end
section
set_option maxHeartbeats 4000000 in
set_option maxRecDepth 100000 in
theorem c_Md_clear (l : Launch) (G : gG) (ad : Nat → Nat) (tp : Nat → Int32) (tx : Nat → Int32) (wd : Nat → Int32) (ou : Nat → Int32) (wz : Nat → Int32) (pi : Nat → Int32) (tk : Int32) (si : Int32) (mn : Int32) (md : Int32) (os : Int32) (at' : Int32) (wi : Int32) (ki : Int32) (le : Int32) (ze : Int32) (pl : Int32) (bl : Int32) (fr : Int32) (vl : Int64)  : MetV (σ := Unit) l y_Md_clear (Cond.code y_Md_clear b_Md_clear 1 none) (rmL 0) 0 0 G [.ref (ad 0)] (wMd G ad tp tx wd ou wz pi tk si mn md os at' wi ki le ze pl bl fr vl) X0 (fun _ => True) (fun _ => wMd G ad tp tx wd ou wz pi tk si (nI 0) md os at' wi ki le ze pl bl fr vl) := by
  refine MetV.mk2 (by decide) (Nat.le_of_ble_eq_true rfl) ?_
  intro p e s m args below meth c A ls Q S hw hX hl hnm kret
  have hx := S.1
  have hb := S.2.1
  have hl : lv_has ls 1 [(0, .ref (ad 0))] := hl
  generalize hH0 : s.heap = H at hw ⊢
  generalize hL0 : ([] : List Loc) = locs at hw ⊢
  refine lv_aload_n hx hb d_Md_clear_0 rfl (lv_at hl 0 rfl) ?_
  refine lv_iconst (v := 0) hx hb d_Md_clear_1 (by decide) ?_
  refine xput S hw fl_Md_40 0 rfl rfl rfl (Nat.le_of_ble_eq_true rfl) (ws' := wMd G ad tp tx wd ou wz pi tk si 0 md os at' wi ki le ze pl bl fr vl) rfl d_Md_clear_2 (fun H locs hw => ?_)
  exact kret _ _ _ _ () hw trivial d_Md_clear_5
set_option maxHeartbeats 4000000 in
set_option maxRecDepth 100000 in
theorem c_Md_end (l : Launch) (G : gG) (ad : Nat → Nat) (tp : Nat → Int32) (tx : Nat → Int32) (wd : Nat → Int32) (ou : Nat → Int32) (wz : Nat → Int32) (pi : Nat → Int32) (si : Int32) (mn : Int32) (md : Int32) (os : Int32) (at' : Int32) (wi : Int32) (ki : Int32) (le : Int32) (ze : Int32) (pl : Int32) (bl : Int32) (fr : Int32) (vl : Int64) (L : Nat) (x : Int32) : MetI (σ := Unit) l y_Md_end (Cond.code y_Md_end b_Md_end 2 (some .boolean)) (rmL 0) 0 0 G [.ref (ad 0), .int x] (wMd G ad tp tx wd ou wz pi (nI L) si mn md os at' wi ki le ze pl bl fr vl) X0 (fun r _ => r = bI (endR x L)) (fun _ => wMd G ad tp tx wd ou wz pi (nI (endL x L)) si mn md os at' wi ki le ze pl bl fr vl) := by
  refine MetI.mk2 (by decide) (Nat.le_of_ble_eq_true rfl) ?_
  intro p e s m args below meth c A ls Q S hw hX hl kret
  have hx := S.1
  have hb := S.2.1
  have hl : lv_has ls 2 [(0, .ref (ad 0)), (1, .int x)] := hl
  generalize hH0 : s.heap = H at hw ⊢
  generalize hL0 : ([] : List Loc) = locs at hw ⊢
  refine lv_iload_n hx hb d_Md_end_0 rfl (lv_at hl 1 rfl) ?_
  refine lv_if_lt (tgt := 12) hx hb d_Md_end_1 (by decide) (fun c1 => ?_) (fun c1 => ?_)
  · have hz : endR x L = false := by unfold endR; rw [decide_eq_false (Int32.not_le.mpr c1)]; rfl
    refine lv_iconst (v := 0) hx hb d_Md_end_12 (by decide) ?_
    have hw : gW G A s (wMd G ad tp tx wd ou wz pi (nI (endL x L)) si mn md os at' wi ki le ze pl bl fr vl) H locs := by unfold endL; rw [hz]; exact hw
    exact kret _ _ _ _ _ () hw (by rw [hz]; rfl) rfl d_Md_end_13
  · refine lv_iload_n hx hb d_Md_end_4 rfl (lv_at hl 1 rfl) ?_
    refine lv_aload_n hx hb d_Md_end_5 rfl (lv_at hl 0 rfl) ?_
    refine xget S hw fl_Md_29 0 rfl rfl d_Md_end_6 ?_
    refine lv_icmp_le (tgt := 14) hx hb d_Md_end_9 (by decide) (fun c2 => ?_) (fun c2 => ?_)
    · have hz : endR x L = true := by unfold endR; rw [decide_eq_true (Int32.not_lt.mp c1), decide_eq_true c2]; rfl
      refine lv_aload_n hx hb d_Md_end_14 rfl (lv_at hl 0 rfl) ?_
      refine lv_iload_n hx hb d_Md_end_15 rfl (lv_at hl 1 rfl) ?_
      refine xput S hw fl_Md_29 0 rfl rfl rfl (Nat.le_of_ble_eq_true rfl) (ws' := wMd G ad tp tx wd ou wz pi x si mn md os at' wi ki le ze pl bl fr vl) rfl d_Md_end_16 (fun H locs hw => ?_)
      refine lv_iconst (v := 1) hx hb d_Md_end_19 (by decide) ?_
      have hw : gW G A s (wMd G ad tp tx wd ou wz pi (nI (endL x L)) si mn md os at' wi ki le ze pl bl fr vl) H locs := by unfold endL; rw [hz, if_pos rfl, ← (nI_x (Int32.not_lt.mp c1)).1]; exact hw
      exact kret _ _ _ _ _ () hw (by rw [hz]; rfl) rfl d_Md_end_20
    · have hz : endR x L = false := by unfold endR; rw [decide_eq_false c2, Bool.and_false]
      refine lv_iconst (v := 0) hx hb d_Md_end_12 (by decide) ?_
      have hw : gW G A s (wMd G ad tp tx wd ou wz pi (nI (endL x L)) si mn md os at' wi ki le ze pl bl fr vl) H locs := by unfold endL; rw [hz]; exact hw
      exact kret _ _ _ _ _ () hw (by rw [hz]; rfl) rfl d_Md_end_13
set_option maxHeartbeats 4000000 in
set_option maxRecDepth 100000 in
theorem c_Md_lay (l : Launch) (G : gG) (ad : Nat → Nat) (tp : Nat → Int32) (tx : Nat → Int32) (wd : Nat → Int32) (ou : Nat → Int32) (wz : Nat → Int32) (pi : Nat → Int32) (si : Int32) (mn : Int32) (md : Int32) (os : Int32) (at' : Int32) (wi : Int32) (ki : Int32) (le : Int32) (ze : Int32) (pl : Int32) (bl : Int32) (fr : Int32) (vl : Int64) (L : Nat) (hL : L + 4 ≤ 400) (x : Int32) : MetV (σ := Unit) l y_Md_lay (Cond.code y_Md_lay b_Md_lay 3 none) (rmL 0) 0 0 G [.ref (ad 0), .int x] (wMd G ad tp tx wd ou wz pi (nI L) si mn md os at' wi ki le ze pl bl fr vl) X0 (fun _ => True) (fun _ => wMd G ad (wr tp L (lay4 x)) tx wd ou wz pi (nI (L + 4)) si mn md os at' wi ki le ze pl bl fr vl) := by
  refine MetV.mk2 (by decide) (Nat.le_of_ble_eq_true rfl) ?_
  intro p e s m args below meth c A ls Q S hw hX hl hnm kret
  have hx := S.1
  have hb := S.2.1
  have hl : lv_has ls 3 [(0, .ref (ad 0)), (1, .int x)] := hl
  generalize hH0 : s.heap = H at hw ⊢
  generalize hL0 : ([] : List Loc) = locs at hw ⊢
  refine lv_bipush (v := 24) hx hb d_Md_lay_0 (by decide) ?_
  refine lv_istore_n (lv' := [(2, .int 24), (0, .ref (ad 0)), (1, .int x)]) hx hb d_Md_lay_2 rfl hl (by decide) rfl (fun ls hl => ?_)
  refine lv_iload_n hx hb d_Md_lay_3 rfl (lv_at hl 0 rfl) ?_
  refine lv_if_lt (tgt := 36) hx hb d_Md_lay_4 (by decide) (fun q_ => absurd q_ (by decide)) (fun _ => ?_)
  refine lv_aload_n hx hb d_Md_lay_7 rfl (lv_at hl 1 rfl) ?_
  refine xget S hw fl_Md_7 0 rfl rfl d_Md_lay_8 ?_
  refine lv_aload_n hx hb d_Md_lay_11 rfl (lv_at hl 1 rfl) ?_
  refine xget S hw fl_Md_29 0 rfl rfl d_Md_lay_12 ?_
  refine lv_iload_n hx hb d_Md_lay_15 rfl (lv_at hl 2 rfl) ?_
  refine lv_iload_n hx hb d_Md_lay_16 rfl (lv_at hl 0 rfl) ?_
  refine lv_ishr hx hb d_Md_lay_17 ?_
  refine lv_i2b hx hb d_Md_lay_18 rfl ?_
  refine xbast S hw 1 rfl (j := L) (y := b8 (x >>> (24 &&& 31))) (by omega) (by decide) (b8_b8 _) (ws' := wMd G ad (upd tp L (b8 (x >>> (24 &&& 31)))) tx wd ou wz pi (nI L) si mn md os at' wi ki le ze pl bl fr vl) rfl d_Md_lay_19 (fun H locs hw => ?_)
  refine lv_aload_n hx hb d_Md_lay_20 rfl (lv_at hl 1 rfl) ?_
  refine lv_dup hx hb d_Md_lay_21 rfl ?_
  refine xget S hw fl_Md_29 0 rfl rfl d_Md_lay_22 ?_
  refine lv_iconst (v := 1) hx hb d_Md_lay_25 (by decide) ?_
  refine lv_iadd hx hb d_Md_lay_26 ?_
  refine tpi (y := nI (L + 1)) (nI_add L 1) ?_
  refine xput S hw fl_Md_29 0 rfl rfl rfl (Nat.le_of_ble_eq_true rfl) (ws' := wMd G ad (upd tp L (b8 (x >>> (24 &&& 31)))) tx wd ou wz pi (nI (L + 1)) si mn md os at' wi ki le ze pl bl fr vl) rfl d_Md_lay_27 (fun H locs hw => ?_)
  refine lv_iinc (v := 16) (lv' := [(2, .int 16), (0, .ref (ad 0)), (1, .int x)]) hx hb d_Md_lay_30 hl (k := 0) rfl (by decide) (by decide) rfl (fun ls hl => ?_)
  refine lv_goto (tgt := 3) hx hb d_Md_lay_33 (by decide) ?_
  refine lv_iload_n hx hb d_Md_lay_3 rfl (lv_at hl 0 rfl) ?_
  refine lv_if_lt (tgt := 36) hx hb d_Md_lay_4 (by decide) (fun q_ => absurd q_ (by decide)) (fun _ => ?_)
  refine lv_aload_n hx hb d_Md_lay_7 rfl (lv_at hl 1 rfl) ?_
  refine xget S hw fl_Md_7 0 rfl rfl d_Md_lay_8 ?_
  refine lv_aload_n hx hb d_Md_lay_11 rfl (lv_at hl 1 rfl) ?_
  refine xget S hw fl_Md_29 0 rfl rfl d_Md_lay_12 ?_
  refine lv_iload_n hx hb d_Md_lay_15 rfl (lv_at hl 2 rfl) ?_
  refine lv_iload_n hx hb d_Md_lay_16 rfl (lv_at hl 0 rfl) ?_
  refine lv_ishr hx hb d_Md_lay_17 ?_
  refine lv_i2b hx hb d_Md_lay_18 rfl ?_
  refine xbast S hw 1 rfl (j := (L + 1)) (y := b8 (x >>> (16 &&& 31))) (by omega) (by decide) (b8_b8 _) (ws' := wMd G ad (upd (upd tp L (b8 (x >>> (24 &&& 31)))) (L + 1) (b8 (x >>> (16 &&& 31)))) tx wd ou wz pi (nI (L + 1)) si mn md os at' wi ki le ze pl bl fr vl) rfl d_Md_lay_19 (fun H locs hw => ?_)
  refine lv_aload_n hx hb d_Md_lay_20 rfl (lv_at hl 1 rfl) ?_
  refine lv_dup hx hb d_Md_lay_21 rfl ?_
  refine xget S hw fl_Md_29 0 rfl rfl d_Md_lay_22 ?_
  refine lv_iconst (v := 1) hx hb d_Md_lay_25 (by decide) ?_
  refine lv_iadd hx hb d_Md_lay_26 ?_
  refine tpi (y := nI ((L + 1) + 1)) (nI_add (L + 1) 1) ?_
  refine xput S hw fl_Md_29 0 rfl rfl rfl (Nat.le_of_ble_eq_true rfl) (ws' := wMd G ad (upd (upd tp L (b8 (x >>> (24 &&& 31)))) (L + 1) (b8 (x >>> (16 &&& 31)))) tx wd ou wz pi (nI ((L + 1) + 1)) si mn md os at' wi ki le ze pl bl fr vl) rfl d_Md_lay_27 (fun H locs hw => ?_)
  refine lv_iinc (v := 8) (lv' := [(2, .int 8), (0, .ref (ad 0)), (1, .int x)]) hx hb d_Md_lay_30 hl (k := 0) rfl (by decide) (by decide) rfl (fun ls hl => ?_)
  refine lv_goto (tgt := 3) hx hb d_Md_lay_33 (by decide) ?_
  refine lv_iload_n hx hb d_Md_lay_3 rfl (lv_at hl 0 rfl) ?_
  refine lv_if_lt (tgt := 36) hx hb d_Md_lay_4 (by decide) (fun q_ => absurd q_ (by decide)) (fun _ => ?_)
  refine lv_aload_n hx hb d_Md_lay_7 rfl (lv_at hl 1 rfl) ?_
  refine xget S hw fl_Md_7 0 rfl rfl d_Md_lay_8 ?_
  refine lv_aload_n hx hb d_Md_lay_11 rfl (lv_at hl 1 rfl) ?_
  refine xget S hw fl_Md_29 0 rfl rfl d_Md_lay_12 ?_
  refine lv_iload_n hx hb d_Md_lay_15 rfl (lv_at hl 2 rfl) ?_
  refine lv_iload_n hx hb d_Md_lay_16 rfl (lv_at hl 0 rfl) ?_
  refine lv_ishr hx hb d_Md_lay_17 ?_
  refine lv_i2b hx hb d_Md_lay_18 rfl ?_
  refine xbast S hw 1 rfl (j := ((L + 1) + 1)) (y := b8 (x >>> (8 &&& 31))) (by omega) (by decide) (b8_b8 _) (ws' := wMd G ad (upd (upd (upd tp L (b8 (x >>> (24 &&& 31)))) (L + 1) (b8 (x >>> (16 &&& 31)))) ((L + 1) + 1) (b8 (x >>> (8 &&& 31)))) tx wd ou wz pi (nI ((L + 1) + 1)) si mn md os at' wi ki le ze pl bl fr vl) rfl d_Md_lay_19 (fun H locs hw => ?_)
  refine lv_aload_n hx hb d_Md_lay_20 rfl (lv_at hl 1 rfl) ?_
  refine lv_dup hx hb d_Md_lay_21 rfl ?_
  refine xget S hw fl_Md_29 0 rfl rfl d_Md_lay_22 ?_
  refine lv_iconst (v := 1) hx hb d_Md_lay_25 (by decide) ?_
  refine lv_iadd hx hb d_Md_lay_26 ?_
  refine tpi (y := nI (((L + 1) + 1) + 1)) (nI_add ((L + 1) + 1) 1) ?_
  refine xput S hw fl_Md_29 0 rfl rfl rfl (Nat.le_of_ble_eq_true rfl) (ws' := wMd G ad (upd (upd (upd tp L (b8 (x >>> (24 &&& 31)))) (L + 1) (b8 (x >>> (16 &&& 31)))) ((L + 1) + 1) (b8 (x >>> (8 &&& 31)))) tx wd ou wz pi (nI (((L + 1) + 1) + 1)) si mn md os at' wi ki le ze pl bl fr vl) rfl d_Md_lay_27 (fun H locs hw => ?_)
  refine lv_iinc (v := 0) (lv' := [(2, .int 0), (0, .ref (ad 0)), (1, .int x)]) hx hb d_Md_lay_30 hl (k := 0) rfl (by decide) (by decide) rfl (fun ls hl => ?_)
  refine lv_goto (tgt := 3) hx hb d_Md_lay_33 (by decide) ?_
  refine lv_iload_n hx hb d_Md_lay_3 rfl (lv_at hl 0 rfl) ?_
  refine lv_if_lt (tgt := 36) hx hb d_Md_lay_4 (by decide) (fun q_ => absurd q_ (by decide)) (fun _ => ?_)
  refine lv_aload_n hx hb d_Md_lay_7 rfl (lv_at hl 1 rfl) ?_
  refine xget S hw fl_Md_7 0 rfl rfl d_Md_lay_8 ?_
  refine lv_aload_n hx hb d_Md_lay_11 rfl (lv_at hl 1 rfl) ?_
  refine xget S hw fl_Md_29 0 rfl rfl d_Md_lay_12 ?_
  refine lv_iload_n hx hb d_Md_lay_15 rfl (lv_at hl 2 rfl) ?_
  refine lv_iload_n hx hb d_Md_lay_16 rfl (lv_at hl 0 rfl) ?_
  refine lv_ishr hx hb d_Md_lay_17 ?_
  refine lv_i2b hx hb d_Md_lay_18 rfl ?_
  refine xbast S hw 1 rfl (j := (((L + 1) + 1) + 1)) (y := b8 (x >>> (0 &&& 31))) (by omega) (by decide) (b8_b8 _) (ws' := wMd G ad (upd (upd (upd (upd tp L (b8 (x >>> (24 &&& 31)))) (L + 1) (b8 (x >>> (16 &&& 31)))) ((L + 1) + 1) (b8 (x >>> (8 &&& 31)))) (((L + 1) + 1) + 1) (b8 (x >>> (0 &&& 31)))) tx wd ou wz pi (nI (((L + 1) + 1) + 1)) si mn md os at' wi ki le ze pl bl fr vl) rfl d_Md_lay_19 (fun H locs hw => ?_)
  refine lv_aload_n hx hb d_Md_lay_20 rfl (lv_at hl 1 rfl) ?_
  refine lv_dup hx hb d_Md_lay_21 rfl ?_
  refine xget S hw fl_Md_29 0 rfl rfl d_Md_lay_22 ?_
  refine lv_iconst (v := 1) hx hb d_Md_lay_25 (by decide) ?_
  refine lv_iadd hx hb d_Md_lay_26 ?_
  refine tpi (y := nI ((((L + 1) + 1) + 1) + 1)) (nI_add (((L + 1) + 1) + 1) 1) ?_
  refine xput S hw fl_Md_29 0 rfl rfl rfl (Nat.le_of_ble_eq_true rfl) (ws' := wMd G ad (upd (upd (upd (upd tp L (b8 (x >>> (24 &&& 31)))) (L + 1) (b8 (x >>> (16 &&& 31)))) ((L + 1) + 1) (b8 (x >>> (8 &&& 31)))) (((L + 1) + 1) + 1) (b8 (x >>> (0 &&& 31)))) tx wd ou wz pi (nI ((((L + 1) + 1) + 1) + 1)) si mn md os at' wi ki le ze pl bl fr vl) rfl d_Md_lay_27 (fun H locs hw => ?_)
  refine lv_iinc (v := (-8)) (lv' := [(2, .int (-8)), (0, .ref (ad 0)), (1, .int x)]) hx hb d_Md_lay_30 hl (k := 0) rfl (by decide) (by decide) rfl (fun ls hl => ?_)
  refine lv_goto (tgt := 3) hx hb d_Md_lay_33 (by decide) ?_
  refine lv_iload_n hx hb d_Md_lay_3 rfl (lv_at hl 0 rfl) ?_
  refine lv_if_lt (tgt := 36) hx hb d_Md_lay_4 (by decide) (fun _ => ?_) (fun q_ => absurd (by decide) q_)
  rw [lay4_upd] at hw
  exact kret _ _ _ _ () hw trivial d_Md_lay_36
set_option maxHeartbeats 4000000 in
set_option maxRecDepth 100000 in
theorem c_Md_feed (l : Launch) (G : gG) (ad : Nat → Nat) (tp : Nat → Int32) (tx : Nat → Int32) (wd : Nat → Int32) (ou : Nat → Int32) (wz : Nat → Int32) (pi : Nat → Int32) (si : Int32) (mn : Int32) (md : Int32) (os : Int32) (at' : Int32) (wi : Int32) (ki : Int32) (le : Int32) (ze : Int32) (pl : Int32) (bl : Int32) (fr : Int32) (vl : Int64) (L : Nat) (hL : L ≤ 400) (x1 x2 x3 x4 x5 : Int32) : MetI (σ := Unit) l y_Md_feed (Cond.code y_Md_feed b_Md_feed 6 (some .boolean)) (rmL 1) 0 0 G [.ref (ad 0), .int x1, .int x2, .int x3, .int x4, .int x5] (wMd G ad tp tx wd ou wz pi (nI L) si mn md os at' wi ki le ze pl bl fr vl) X0 (fun r _ => r = if L + 20 ≤ 400 then 1 else 0) (fun _ => wMd G ad (if L + 20 ≤ 400 then wr tp L (sg (fdAt x1 x2 x3 x4 x5) 0 20) else tp) tx wd ou wz pi (nI (if L + 20 ≤ 400 then L + 20 else L)) si mn md os at' wi ki le ze pl bl fr vl) := by
  refine MetI.mk2 (by decide) (Nat.le_of_ble_eq_true rfl) ?_
  intro p e s m args below meth c A ls Q S hw hX hl kret
  have hx := S.1
  have hb := S.2.1
  have hl : lv_has ls 6 [(0, .ref (ad 0)), (1, .int x1), (2, .int x2), (3, .int x3), (4, .int x4), (5, .int x5)] := hl
  generalize hH0 : s.heap = H at hw ⊢
  generalize hL0 : ([] : List Loc) = locs at hw ⊢
  refine lv_aload_n hx hb d_Md_feed_0 rfl (lv_at hl 0 rfl) ?_
  refine xget S hw fl_Md_29 0 rfl rfl d_Md_feed_1 ?_
  refine lv_bipush (v := 20) hx hb d_Md_feed_4 (by decide) ?_
  refine lv_iadd hx hb d_Md_feed_6 ?_
  refine tpi (y := nI (L + 20)) (nI_add L 20) ?_
  refine lv_sipush (v := 400) hx hb d_Md_feed_7 (by decide) ?_
  refine lv_icmp_le (tgt := 15) hx hb d_Md_feed_10 (by decide) (fun c1 => ?_) (fun c1 => ?_)
  · have c1 : (L + 20) ≤ 400 := (nI_leI (a := (L + 20)) (b := 400) (by omega) (by omega)).mp c1
    rw [if_pos c1, if_pos c1, if_pos c1] at kret
    refine lv_aload_n hx hb d_Md_feed_15 rfl (lv_at hl 0 rfl) ?_
    refine lv_iload_n hx hb d_Md_feed_16 rfl (lv_at hl 1 rfl) ?_
    refine zVv (As := [.int x1]) (rest := []) S hw hl.1 vl_Md_33 (c_Md_lay l G ad tp tx wd ou wz pi si mn md os at' wi ki le ze pl bl fr vl (L) (by omega) x1) 0 rfl rfl rfl ⟨rfl, rfl⟩ [0, 1, 2, 3, 4, 5, 6] [] [0, 1, 2, 3, 4, 5, 6] rfl rfl (by decide) rfl rfl rfl d_Md_feed_17 (fun _ => wMd G ad (wr tp L (lay4 x1)) tx wd ou wz pi (nI (L + 4)) si mn md os at' wi ki le ze pl bl fr vl) (fun _ => rfl) (fun _ H locs hp hw => ?_)
    refine lv_aload_n hx hb d_Md_feed_20 rfl (lv_at hl 0 rfl) ?_
    refine lv_iload_n hx hb d_Md_feed_21 rfl (lv_at hl 2 rfl) ?_
    refine zVv (As := [.int x2]) (rest := []) S hw hl.1 vl_Md_33 (c_Md_lay l G ad (wr tp L (lay4 x1)) tx wd ou wz pi si mn md os at' wi ki le ze pl bl fr vl (L + 4) (by omega) x2) 0 rfl rfl rfl ⟨rfl, rfl⟩ [0, 1, 2, 3, 4, 5, 6] [] [0, 1, 2, 3, 4, 5, 6] rfl rfl (by decide) rfl rfl rfl d_Md_feed_22 (fun _ => wMd G ad (wr (wr tp L (lay4 x1)) (L + 4) (lay4 x2)) tx wd ou wz pi (nI (L + 4 + 4)) si mn md os at' wi ki le ze pl bl fr vl) (fun _ => rfl) (fun _ H locs hp hw => ?_)
    refine lv_aload_n hx hb d_Md_feed_25 rfl (lv_at hl 0 rfl) ?_
    refine lv_iload_n hx hb d_Md_feed_26 rfl (lv_at hl 3 rfl) ?_
    refine zVv (As := [.int x3]) (rest := []) S hw hl.1 vl_Md_33 (c_Md_lay l G ad (wr (wr tp L (lay4 x1)) (L + 4) (lay4 x2)) tx wd ou wz pi si mn md os at' wi ki le ze pl bl fr vl (L + 4 + 4) (by omega) x3) 0 rfl rfl rfl ⟨rfl, rfl⟩ [0, 1, 2, 3, 4, 5, 6] [] [0, 1, 2, 3, 4, 5, 6] rfl rfl (by decide) rfl rfl rfl d_Md_feed_27 (fun _ => wMd G ad (wr (wr (wr tp L (lay4 x1)) (L + 4) (lay4 x2)) (L + 4 + 4) (lay4 x3)) tx wd ou wz pi (nI (L + 4 + 4 + 4)) si mn md os at' wi ki le ze pl bl fr vl) (fun _ => rfl) (fun _ H locs hp hw => ?_)
    refine lv_aload_n hx hb d_Md_feed_30 rfl (lv_at hl 0 rfl) ?_
    refine lv_iload hx hb d_Md_feed_31 (lv_at hl 4 rfl) ?_
    refine zVv (As := [.int x4]) (rest := []) S hw hl.1 vl_Md_33 (c_Md_lay l G ad (wr (wr (wr tp L (lay4 x1)) (L + 4) (lay4 x2)) (L + 4 + 4) (lay4 x3)) tx wd ou wz pi si mn md os at' wi ki le ze pl bl fr vl (L + 4 + 4 + 4) (by omega) x4) 0 rfl rfl rfl ⟨rfl, rfl⟩ [0, 1, 2, 3, 4, 5, 6] [] [0, 1, 2, 3, 4, 5, 6] rfl rfl (by decide) rfl rfl rfl d_Md_feed_33 (fun _ => wMd G ad (wr (wr (wr (wr tp L (lay4 x1)) (L + 4) (lay4 x2)) (L + 4 + 4) (lay4 x3)) (L + 4 + 4 + 4) (lay4 x4)) tx wd ou wz pi (nI (L + 4 + 4 + 4 + 4)) si mn md os at' wi ki le ze pl bl fr vl) (fun _ => rfl) (fun _ H locs hp hw => ?_)
    refine lv_aload_n hx hb d_Md_feed_36 rfl (lv_at hl 0 rfl) ?_
    refine lv_iload hx hb d_Md_feed_37 (lv_at hl 5 rfl) ?_
    refine zVv (As := [.int x5]) (rest := []) S hw hl.1 vl_Md_33 (c_Md_lay l G ad (wr (wr (wr (wr tp L (lay4 x1)) (L + 4) (lay4 x2)) (L + 4 + 4) (lay4 x3)) (L + 4 + 4 + 4) (lay4 x4)) tx wd ou wz pi si mn md os at' wi ki le ze pl bl fr vl (L + 4 + 4 + 4 + 4) (by omega) x5) 0 rfl rfl rfl ⟨rfl, rfl⟩ [0, 1, 2, 3, 4, 5, 6] [] [0, 1, 2, 3, 4, 5, 6] rfl rfl (by decide) rfl rfl rfl d_Md_feed_39 (fun _ => wMd G ad (wr (wr (wr (wr (wr tp L (lay4 x1)) (L + 4) (lay4 x2)) (L + 4 + 4) (lay4 x3)) (L + 4 + 4 + 4) (lay4 x4)) (L + 4 + 4 + 4 + 4) (lay4 x5)) tx wd ou wz pi (nI (L + 4 + 4 + 4 + 4 + 4)) si mn md os at' wi ki le ze pl bl fr vl) (fun _ => rfl) (fun _ H locs hp hw => ?_)
    refine lv_iconst (v := 1) hx hb d_Md_feed_42 (by decide) ?_
    rw [lay_fd] at hw
    exact kret _ _ _ _ _ () hw rfl rfl d_Md_feed_43
  · have c1 : ¬ (L + 20) ≤ 400 := fun q_ => c1 ((nI_leI (a := (L + 20)) (b := 400) (by omega) (by omega)).mpr q_)
    rw [if_neg c1, if_neg c1, if_neg c1] at kret
    refine lv_iconst (v := 0) hx hb d_Md_feed_13 (by decide) ?_
    exact kret _ _ _ _ _ () hw rfl rfl d_Md_feed_14
set_option maxHeartbeats 4000000 in
set_option maxRecDepth 100000 in
theorem c_Md_format (l : Launch) (G : gG) (ad : Nat → Nat) (tp : Nat → Int32) (tx : Nat → Int32) (wd : Nat → Int32) (ou : Nat → Int32) (wz : Nat → Int32) (pi : Nat → Int32) (si : Int32) (mn : Int32) (md : Int32) (os : Int32) (at' : Int32) (wi : Int32) (ki : Int32) (le : Int32) (ze : Int32) (pl : Int32) (bl : Int32) (fr : Int32) (vl : Int64) (L : Nat) (hL : L ≤ 400) (hb8 : By tp) : MetI (σ := Unit) l y_Md_format (Cond.code y_Md_format b_Md_format 2 (some .int)) (rmL 0) 0 0 G [.ref (ad 0)] (wMd G ad tp tx wd ou wz pi (nI L) si mn md os at' wi ki le ze pl bl fr vl) X0 (fun r _ => r = nI L) (fun _ => wMd G ad tp (wr tx 0 (sg tp 0 L)) wd ou wz pi (nI 0) (nI L) mn md os at' wi ki le ze pl bl fr vl) := by
  refine MetI.mk2 (by decide) (Nat.le_of_ble_eq_true rfl) ?_
  intro p e s m args below meth c A ls Q S hw hX hl kret
  have hx := S.1
  have hb := S.2.1
  have hl : lv_has ls 2 [(0, .ref (ad 0))] := hl
  generalize hH0 : s.heap = H at hw ⊢
  generalize hL0 : ([] : List Loc) = locs at hw ⊢
  refine lv_aload_n hx hb d_Md_format_0 rfl (lv_at hl 0 rfl) ?_
  refine lv_aload_n hx hb d_Md_format_1 rfl (lv_at hl 0 rfl) ?_
  refine xget S hw fl_Md_29 0 rfl rfl d_Md_format_2 ?_
  refine xput S hw fl_Md_37 0 rfl rfl rfl (Nat.le_of_ble_eq_true rfl) (ws' := wMd G ad tp tx wd ou wz pi (nI L) (nI L) mn md os at' wi ki le ze pl bl fr vl) rfl d_Md_format_5 (fun H locs hw => ?_)
  refine lv_iconst (v := 0) hx hb d_Md_format_8 (by decide) ?_
  refine lv_istore_n (lv' := [(1, .int 0), (0, .ref (ad 0))]) hx hb d_Md_format_9 rfl hl (by decide) rfl (fun ls hl => ?_)
  have lp : ∀ (d i : Nat), i + d = L → ∀ (H : Heap) (locs : List Loc) (ls : Array Slot), gW G A s (wMd G ad tp (wr tx 0 (sg tp 0 i)) wd ou wz pi (nI L) (nI L) mn md os at' wi ki le ze pl bl fr vl) H locs → lv_has ls 2 [(1, .int (nI i)), (0, .ref (ad 0))] → W p l e (rmL 0) s m args below meth c H locs 0 0 Q (F0 m 10 ls []) := by
    intro d
    induction d with
    | zero =>
      intro i hi H locs ls hw hl
      refine lv_iload_n hx hb d_Md_format_10 rfl (lv_at hl 0 rfl) ?_
      refine lv_aload_n hx hb d_Md_format_11 rfl (lv_at hl 1 rfl) ?_
      refine xget S hw fl_Md_37 0 rfl rfl d_Md_format_12 ?_
      refine lv_icmp_ge (tgt := 36) hx hb d_Md_format_15 (by decide) (fun _ => ?_) (fun q_ => absurd ((nI_leI (by omega) (by omega)).mpr (by omega)) q_)
      obtain rfl : i = L := by omega
      refine lv_aload_n hx hb d_Md_format_36 rfl (lv_at hl 1 rfl) ?_
      refine lv_iconst (v := 0) hx hb d_Md_format_37 (by decide) ?_
      refine xput S hw fl_Md_29 0 rfl rfl rfl (Nat.le_of_ble_eq_true rfl) (ws' := wMd G ad tp (wr tx 0 (sg tp 0 i)) wd ou wz pi 0 (nI i) mn md os at' wi ki le ze pl bl fr vl) rfl d_Md_format_38 (fun H locs hw => ?_)
      refine lv_aload_n hx hb d_Md_format_41 rfl (lv_at hl 1 rfl) ?_
      refine xget S hw fl_Md_37 0 rfl rfl d_Md_format_42 ?_
      exact kret _ _ _ _ _ () hw rfl rfl d_Md_format_45
    | succ d ih =>
      intro i hi H locs ls hw hl
      refine lv_iload_n hx hb d_Md_format_10 rfl (lv_at hl 0 rfl) ?_
      refine lv_aload_n hx hb d_Md_format_11 rfl (lv_at hl 1 rfl) ?_
      refine xget S hw fl_Md_37 0 rfl rfl d_Md_format_12 ?_
      refine lv_icmp_ge (tgt := 36) hx hb d_Md_format_15 (by decide) (fun q_ => absurd q_ (fun h => by have := (nI_leI (by omega) (by omega)).mp h; omega)) (fun _ => ?_)
      refine lv_aload_n hx hb d_Md_format_18 rfl (lv_at hl 1 rfl) ?_
      refine xget S hw fl_Md_13 0 rfl rfl d_Md_format_19 ?_
      refine lv_iload_n hx hb d_Md_format_22 rfl (lv_at hl 0 rfl) ?_
      refine lv_aload_n hx hb d_Md_format_23 rfl (lv_at hl 1 rfl) ?_
      refine xget S hw fl_Md_7 0 rfl rfl d_Md_format_24 ?_
      refine lv_iload_n hx hb d_Md_format_27 rfl (lv_at hl 0 rfl) ?_
      refine xbald S hw 1 rfl (j := i) (by omega) (by decide) d_Md_format_28 ?_
      refine xbast S hw 2 rfl (j := i) (y := tp i) (by omega) (by decide) (hb8 i) (ws' := wMd G ad tp (upd (wr tx 0 (sg tp 0 i)) i (tp i)) wd ou wz pi (nI L) (nI L) mn md os at' wi ki le ze pl bl fr vl) rfl d_Md_format_29 (fun H locs hw => ?_)
      refine lv_iinc (v := nI (i + 1)) (lv' := [(1, .int (nI (i + 1))), (0, .ref (ad 0))]) hx hb d_Md_format_30 hl (k := 0) rfl (nI_1 i) (by decide) rfl (fun ls hl => ?_)
      refine lv_goto (tgt := 10) hx hb d_Md_format_33 (by decide) ?_
      have e1 : upd (wr tx 0 (sg tp 0 i)) i (tp i) = wr tx 0 (sg tp 0 (i + 1)) := by rw [wr_upd, wr_app (by rw [sg_len, Nat.zero_add]), sg_succ, Nat.zero_add]
      rw [e1] at hw
      exact ih (i + 1) (by omega) _ _ _ hw (lv_sub hl [0, 1] rfl)
  exact lp L 0 (by omega) _ _ _ (by rw [sg_zero, wr_nil]; exact hw) hl
set_option maxHeartbeats 4000000 in
set_option maxRecDepth 100000 in
theorem c_Md_argument (l : Launch) (G : gG) (ad : Nat → Nat) (tp : Nat → Int32) (tx : Nat → Int32) (wd : Nat → Int32) (ou : Nat → Int32) (wz : Nat → Int32) (pi : Nat → Int32) (si : Int32) (md : Int32) (os : Int32) (at' : Int32) (wi : Int32) (ki : Int32) (le : Int32) (ze : Int32) (pl : Int32) (bl : Int32) (fr : Int32) (vl : Int64) (M L : Nat) (hM : M ≤ 20) (hL : L ≤ 400) (hb8 : By tp) : MetI (σ := Unit) l y_Md_argument (Cond.code y_Md_argument b_Md_argument 3 (some .int)) (rmL 0) 0 0 G [.ref (ad 0)] (wMd G ad tp tx wd ou wz pi (nI L) si (nI M) md os at' wi ki le ze pl bl fr vl) X0 (fun r _ => r = if adOk M L then nI M else -1) (fun _ => wMd G ad tp tx (if adOk M L then wr wd (40 * M) (sg tp 0 L) else wd) ou (if adOk M L then upd wz M (nI L) else wz) pi (nI 0) si (nI (if adOk M L then M + 1 else M)) md os at' wi ki le ze pl bl fr vl) := by
  refine MetI.mk2 (by decide) (Nat.le_of_ble_eq_true rfl) ?_
  intro p e s m args below meth c A ls Q S hw hX hl kret
  have hx := S.1
  have hb := S.2.1
  have hl : lv_has ls 3 [(0, .ref (ad 0))] := hl
  generalize hH0 : s.heap = H at hw ⊢
  generalize hL0 : ([] : List Loc) = locs at hw ⊢
  refine lv_aload_n hx hb d_Md_argument_0 rfl (lv_at hl 0 rfl) ?_
  refine xget S hw fl_Md_29 0 rfl rfl d_Md_argument_1 ?_
  refine lv_istore_n (lv' := [(1, .int (nI L)), (0, .ref (ad 0))]) hx hb d_Md_argument_4 rfl hl (by decide) rfl (fun ls hl => ?_)
  refine lv_aload_n hx hb d_Md_argument_5 rfl (lv_at hl 1 rfl) ?_
  refine lv_iconst (v := 0) hx hb d_Md_argument_6 (by decide) ?_
  refine xput S hw fl_Md_29 0 rfl rfl rfl (Nat.le_of_ble_eq_true rfl) (ws' := wMd G ad tp tx wd ou wz pi 0 si (nI M) md os at' wi ki le ze pl bl fr vl) rfl d_Md_argument_7 (fun H locs hw => ?_)
  refine lv_iload_n hx hb d_Md_argument_10 rfl (lv_at hl 0 rfl) ?_
  refine lv_bipush (v := 40) hx hb d_Md_argument_11 (by decide) ?_
  refine lv_icmp_gt (tgt := 25) hx hb d_Md_argument_13 (by decide) (fun c1 => ?_) (fun c1 => ?_)
  · have c1 : 40 < L := (nI_ltI (a := 40) (b := L) (by omega) (by omega)).mp c1
    have hz : adOk M L = false := by unfold adOk; rw [decide_eq_false (show ¬ L ≤ 40 by omega), Bool.and_false]
    rw [hz] at kret
    refine lv_iconst (v := (-1)) hx hb d_Md_argument_25 (by decide) ?_
    exact kret _ _ _ _ _ () hw rfl rfl d_Md_argument_26
  · have c1 : ¬ 40 < L := fun q_ => c1 ((nI_ltI (a := 40) (b := L) (by omega) (by omega)).mpr q_)
    refine lv_aload_n hx hb d_Md_argument_16 rfl (lv_at hl 1 rfl) ?_
    refine xget S hw fl_Md_40 0 rfl rfl d_Md_argument_17 ?_
    refine lv_bipush (v := 20) hx hb d_Md_argument_20 (by decide) ?_
    refine lv_icmp_ne (tgt := 27) hx hb d_Md_argument_22 (by decide) (fun c2 => ?_) (fun c2 => ?_)
    · have c2 : ¬ M = 20 := fun q_ => c2 ((nI_eq (a := M) (b := 20) (by omega) (by omega)).mpr q_)
      have hz : adOk M L = true := by unfold adOk; rw [decide_eq_false c2, decide_eq_true (show L ≤ 40 by omega)]; rfl
      rw [hz] at kret
      refine lv_iconst (v := 0) hx hb d_Md_argument_27 (by decide) ?_
      refine lv_istore_n (lv' := [(2, .int 0), (1, .int (nI L)), (0, .ref (ad 0))]) hx hb d_Md_argument_28 rfl hl (by decide) rfl (fun ls hl => ?_)
      have lp : ∀ (d i : Nat), i + d = L → ∀ (H : Heap) (locs : List Loc) (ls : Array Slot), gW G A s (wMd G ad tp tx (wr wd (40 * M) (sg tp 0 i)) ou wz pi 0 si (nI M) md os at' wi ki le ze pl bl fr vl) H locs → lv_has ls 3 [(2, .int (nI i)), (1, .int (nI L)), (0, .ref (ad 0))] → W p l e (rmL 0) s m args below meth c H locs 0 0 Q (F0 m 29 ls []) := by
        intro d
        induction d with
        | zero =>
          intro i hi H locs ls hw hl
          refine lv_iload_n hx hb d_Md_argument_29 rfl (lv_at hl 0 rfl) ?_
          refine lv_iload_n hx hb d_Md_argument_30 rfl (lv_at hl 1 rfl) ?_
          refine lv_icmp_ge (tgt := 60) hx hb d_Md_argument_31 (by decide) (fun _ => ?_) (fun q_ => absurd ((nI_leI (by omega) (by omega)).mpr (by omega)) q_)
          obtain rfl : L = i := by omega
          refine lv_aload_n hx hb d_Md_argument_60 rfl (lv_at hl 2 rfl) ?_
          refine xget S hw fl_Md_22 0 rfl rfl d_Md_argument_61 ?_
          refine lv_aload_n hx hb d_Md_argument_64 rfl (lv_at hl 2 rfl) ?_
          refine xget S hw fl_Md_40 0 rfl rfl d_Md_argument_65 ?_
          refine lv_iload_n hx hb d_Md_argument_68 rfl (lv_at hl 1 rfl) ?_
          refine xiast S hw 5 rfl (j := M) (by omega) (by decide) (ws' := wMd G ad tp tx (wr wd (40 * M) (sg tp 0 L)) ou (upd wz M (nI L)) pi 0 si (nI M) md os at' wi ki le ze pl bl fr vl) rfl d_Md_argument_69 (fun H locs hw => ?_)
          refine lv_aload_n hx hb d_Md_argument_70 rfl (lv_at hl 2 rfl) ?_
          refine lv_dup hx hb d_Md_argument_71 rfl ?_
          refine xget S hw fl_Md_40 0 rfl rfl d_Md_argument_72 ?_
          refine lv_iconst (v := 1) hx hb d_Md_argument_75 (by decide) ?_
          refine lv_iadd hx hb d_Md_argument_76 ?_
          refine tpi (y := nI (M + 1)) (nI_add M 1) ?_
          refine xput S hw fl_Md_40 0 rfl rfl rfl (Nat.le_of_ble_eq_true rfl) (ws' := wMd G ad tp tx (wr wd (40 * M) (sg tp 0 L)) ou (upd wz M (nI L)) pi 0 si (nI (M + 1)) md os at' wi ki le ze pl bl fr vl) rfl d_Md_argument_77 (fun H locs hw => ?_)
          refine lv_aload_n hx hb d_Md_argument_80 rfl (lv_at hl 2 rfl) ?_
          refine xget S hw fl_Md_40 0 rfl rfl d_Md_argument_81 ?_
          refine lv_iconst (v := 1) hx hb d_Md_argument_84 (by decide) ?_
          refine lv_isub hx hb d_Md_argument_85 ?_
          refine tpi (y := nI M) (nI_pred M) ?_
          exact kret _ _ _ _ _ () hw rfl rfl d_Md_argument_86
        | succ d ih =>
          intro i hi H locs ls hw hl
          refine lv_iload_n hx hb d_Md_argument_29 rfl (lv_at hl 0 rfl) ?_
          refine lv_iload_n hx hb d_Md_argument_30 rfl (lv_at hl 1 rfl) ?_
          refine lv_icmp_ge (tgt := 60) hx hb d_Md_argument_31 (by decide) (fun q_ => absurd q_ (fun h => by have := (nI_leI (by omega) (by omega)).mp h; omega)) (fun _ => ?_)
          refine lv_aload_n hx hb d_Md_argument_34 rfl (lv_at hl 2 rfl) ?_
          refine xget S hw fl_Md_16 0 rfl rfl d_Md_argument_35 ?_
          refine lv_bipush (v := 40) hx hb d_Md_argument_38 (by decide) ?_
          refine lv_aload_n hx hb d_Md_argument_40 rfl (lv_at hl 2 rfl) ?_
          refine xget S hw fl_Md_40 0 rfl rfl d_Md_argument_41 ?_
          refine lv_imul hx hb d_Md_argument_44 ?_
          refine tpi (y := nI (40 * M)) (pk_mul 40 M) ?_
          refine lv_iload_n hx hb d_Md_argument_45 rfl (lv_at hl 0 rfl) ?_
          refine lv_iadd hx hb d_Md_argument_46 ?_
          refine tpi (y := nI ((40 * M) + i)) (nI_add (40 * M) i) ?_
          refine lv_aload_n hx hb d_Md_argument_47 rfl (lv_at hl 2 rfl) ?_
          refine xget S hw fl_Md_7 0 rfl rfl d_Md_argument_48 ?_
          refine lv_iload_n hx hb d_Md_argument_51 rfl (lv_at hl 0 rfl) ?_
          refine xbald S hw 1 rfl (j := i) (by omega) (by decide) d_Md_argument_52 ?_
          refine xbast S hw 3 rfl (j := ((40 * M) + i)) (y := tp i) (by omega) (by decide) (hb8 i) (ws' := wMd G ad tp tx (upd (wr wd (40 * M) (sg tp 0 i)) ((40 * M) + i) (tp i)) ou wz pi 0 si (nI M) md os at' wi ki le ze pl bl fr vl) rfl d_Md_argument_53 (fun H locs hw => ?_)
          refine lv_iinc (v := nI (i + 1)) (lv' := [(2, .int (nI (i + 1))), (1, .int (nI L)), (0, .ref (ad 0))]) hx hb d_Md_argument_54 hl (k := 0) rfl (nI_1 i) (by decide) rfl (fun ls hl => ?_)
          refine lv_goto (tgt := 29) hx hb d_Md_argument_57 (by decide) ?_
          have e1 : upd (wr wd (40 * M) (sg tp 0 i)) (40 * M + i) (tp i) = wr wd (40 * M) (sg tp 0 (i + 1)) := by rw [wr_upd, wr_app (by rw [sg_len]), sg_succ, Nat.zero_add]
          rw [e1] at hw
          exact ih (i + 1) (by omega) _ _ _ hw (lv_sub hl [0, 1, 2] rfl)
      exact lp L 0 (by omega) _ _ _ (by rw [sg_zero, wr_nil]; exact hw) hl
    · have c2 : M = 20 := (nI_eq (a := M) (b := 20) (by omega) (by omega)).mp c2
      have hz : adOk M L = false := by unfold adOk; rw [decide_eq_true c2]; rfl
      rw [hz] at kret
      refine lv_iconst (v := (-1)) hx hb d_Md_argument_25 (by decide) ?_
      exact kret _ _ _ _ _ () hw rfl rfl d_Md_argument_26
set_option maxHeartbeats 4000000 in
set_option maxRecDepth 100000 in
theorem c_Md_ahead (l : Launch) (G : gG) (ad : Nat → Nat) (tp : Nat → Int32) (tx : Nat → Int32) (wd : Nat → Int32) (ou : Nat → Int32) (wz : Nat → Int32) (pi : Nat → Int32) (tk : Int32) (si : Int32) (mn : Int32) (md : Int32) (os : Int32) (at' : Int32) (wi : Int32) (ki : Int32) (le : Int32) (ze : Int32) (pl : Int32) (bl : Int32) (vl : Int64) (q : Nat) (hq : q < 72) (x : Int32) : MetV (σ := Unit) l y_Md_ahead (Cond.code y_Md_ahead b_Md_ahead 2 none) (rmL 0) 0 0 G [.ref (ad 0), .int x] (wMd G ad tp tx wd ou wz pi tk si mn md os at' wi ki le ze pl bl (nI (q + 1)) vl) X0 (fun _ => True) (fun _ => wMd G ad tp tx wd ou wz (upd pi q (b8 x)) tk si mn md os at' wi ki le ze pl bl (nI q) vl) := by
  refine MetV.mk2 (by decide) (Nat.le_of_ble_eq_true rfl) ?_
  intro p e s m args below meth c A ls Q S hw hX hl hnm kret
  have hx := S.1
  have hb := S.2.1
  have hl : lv_has ls 2 [(0, .ref (ad 0)), (1, .int x)] := hl
  generalize hH0 : s.heap = H at hw ⊢
  generalize hL0 : ([] : List Loc) = locs at hw ⊢
  refine lv_aload_n hx hb d_Md_ahead_0 rfl (lv_at hl 0 rfl) ?_
  refine lv_dup hx hb d_Md_ahead_1 rfl ?_
  refine xget S hw fl_Md_47 0 rfl rfl d_Md_ahead_2 ?_
  refine lv_iconst (v := 1) hx hb d_Md_ahead_5 (by decide) ?_
  refine lv_isub hx hb d_Md_ahead_6 ?_
  refine tpi (y := nI q) (nI_pred q) ?_
  refine xput S hw fl_Md_47 0 rfl rfl rfl (Nat.le_of_ble_eq_true rfl) (ws' := wMd G ad tp tx wd ou wz pi tk si mn md os at' wi ki le ze pl bl (nI q) vl) rfl d_Md_ahead_7 (fun H locs hw => ?_)
  refine lv_aload_n hx hb d_Md_ahead_10 rfl (lv_at hl 0 rfl) ?_
  refine xget S hw fl_Md_26 0 rfl rfl d_Md_ahead_11 ?_
  refine lv_aload_n hx hb d_Md_ahead_14 rfl (lv_at hl 0 rfl) ?_
  refine xget S hw fl_Md_47 0 rfl rfl d_Md_ahead_15 ?_
  refine lv_iload_n hx hb d_Md_ahead_18 rfl (lv_at hl 1 rfl) ?_
  refine lv_i2b hx hb d_Md_ahead_19 rfl ?_
  refine xbast S hw 6 rfl (j := q) (y := b8 x) (by omega) (by decide) (b8_b8 _) (ws' := wMd G ad tp tx wd ou wz (upd pi q (b8 x)) tk si mn md os at' wi ki le ze pl bl (nI q) vl) rfl d_Md_ahead_20 (fun H locs hw => ?_)
  exact kret _ _ _ _ () hw trivial d_Md_ahead_21
set_option maxHeartbeats 4000000 in
set_option maxRecDepth 100000 in
theorem c_Md_madeAt (l : Launch) (G : gG) (ad : Nat → Nat) (tp : Nat → Int32) (tx : Nat → Int32) (wd : Nat → Int32) (ou : Nat → Int32) (wz : Nat → Int32) (pi : Nat → Int32) (tk : Int32) (si : Int32) (mn : Int32) (os : Int32) (at' : Int32) (wi : Int32) (ki : Int32) (le : Int32) (ze : Int32) (pl : Int32) (bl : Int32) (fr : Int32) (vl : Int64) (N : Nat) (hN : N ≤ 1024) (x : Int32) : MetI (σ := Unit) l y_Md_madeAt (Cond.code y_Md_madeAt b_Md_madeAt 2 (some .int)) (rmL 0) 0 0 G [.ref (ad 0), .int x] (wMd G ad tp tx wd ou wz pi tk si mn (nI N) os at' wi ki le ze pl bl fr vl) X0 (fun r _ => r = madeR ou N x) (fun _ => wMd G ad tp tx wd ou wz pi tk si mn (nI N) os at' wi ki le ze pl bl fr vl) := by
  refine MetI.mk2 (by decide) (Nat.le_of_ble_eq_true rfl) ?_
  intro p e s m args below meth c A ls Q S hw hX hl kret
  have hx := S.1
  have hb := S.2.1
  have hl : lv_has ls 2 [(0, .ref (ad 0)), (1, .int x)] := hl
  generalize hH0 : s.heap = H at hw ⊢
  generalize hL0 : ([] : List Loc) = locs at hw ⊢
  refine lv_iload_n hx hb d_Md_madeAt_0 rfl (lv_at hl 1 rfl) ?_
  refine lv_if_lt (tgt := 25) hx hb d_Md_madeAt_1 (by decide) (fun c1 => ?_) (fun c1 => ?_)
  · refine lv_iconst (v := (-1)) hx hb d_Md_madeAt_25 (by decide) ?_
    exact kret _ _ _ _ _ () hw (by unfold madeR; rw [if_neg (fun h => Int32.not_lt.mpr h.1 c1)]) rfl d_Md_madeAt_26
  · obtain ⟨j, hj, rfl⟩ := nI_of c1
    refine lv_iload_n hx hb d_Md_madeAt_4 rfl (lv_at hl 1 rfl) ?_
    refine lv_aload_n hx hb d_Md_madeAt_5 rfl (lv_at hl 0 rfl) ?_
    refine xget S hw fl_Md_126 0 rfl rfl d_Md_madeAt_6 ?_
    refine lv_icmp_ge (tgt := 25) hx hb d_Md_madeAt_9 (by decide) (fun c2 => ?_) (fun c2 => ?_)
    · have c2 : N ≤ j := (nI_leI (a := N) (b := j) (by omega) (by omega)).mp c2
      refine lv_iconst (v := (-1)) hx hb d_Md_madeAt_25 (by decide) ?_
      exact kret _ _ _ _ _ () hw (by unfold madeR; rw [if_neg (fun h => by have := (nI_ltI (a := j) (b := N) (by omega) (by omega)).mp h.2; omega)]) rfl d_Md_madeAt_26
    · have c2 : ¬ N ≤ j := fun q_ => c2 ((nI_leI (a := N) (b := j) (by omega) (by omega)).mpr q_)
      refine lv_aload_n hx hb d_Md_madeAt_12 rfl (lv_at hl 0 rfl) ?_
      refine xget S hw fl_Md_19 0 rfl rfl d_Md_madeAt_13 ?_
      refine lv_iload_n hx hb d_Md_madeAt_16 rfl (lv_at hl 1 rfl) ?_
      refine xbald S hw 4 rfl (j := j) (by omega) (by decide) d_Md_madeAt_17 ?_
      refine lv_sipush (v := 255) hx hb d_Md_madeAt_18 (by decide) ?_
      refine lv_iand hx hb d_Md_madeAt_21 ?_
      refine lv_goto (tgt := 26) hx hb d_Md_madeAt_22 (by decide) ?_
      exact kret _ _ _ _ _ () hw (by unfold madeR; rw [if_pos ⟨nI_pos' hj, nI_lt (by omega) (by omega)⟩, nI_clamp hj]) rfl d_Md_madeAt_26
set_option maxHeartbeats 4000000 in
set_option maxRecDepth 100000 in
theorem c_Md_put (l : Launch) (G : gG) (ad : Nat → Nat) (tp : Nat → Int32) (tx : Nat → Int32) (wd : Nat → Int32) (ou : Nat → Int32) (wz : Nat → Int32) (pi : Nat → Int32) (tk : Int32) (si : Int32) (mn : Int32) (md : Int32) (at' : Int32) (wi : Int32) (ki : Int32) (le : Int32) (ze : Int32) (pl : Int32) (bl : Int32) (fr : Int32) (vl : Int64) (N : Nat) (hN : N ≤ 1024) (x : Int32) : MetI (σ := Unit) l y_Md_put (Cond.code y_Md_put b_Md_put 2 (some .boolean)) (rmL 0) 0 0 G [.ref (ad 0), .int x] (wMd G ad tp tx wd ou wz pi tk si mn md (nI N) at' wi ki le ze pl bl fr vl) X0 (fun r _ => r = bI (decide (N < 1024))) (fun _ => wMd G ad tp tx wd (if N < 1024 then wr ou N [b8 x] else ou) wz pi tk si mn md (nI (if N < 1024 then N + 1 else N)) at' wi ki le ze pl bl fr vl) := by
  refine MetI.mk2 (by decide) (Nat.le_of_ble_eq_true rfl) ?_
  intro p e s m args below meth c A ls Q S hw hX hl kret
  have hx := S.1
  have hb := S.2.1
  have hl : lv_has ls 2 [(0, .ref (ad 0)), (1, .int x)] := hl
  generalize hH0 : s.heap = H at hw ⊢
  generalize hL0 : ([] : List Loc) = locs at hw ⊢
  refine lv_aload_n hx hb d_Md_put_0 rfl (lv_at hl 0 rfl) ?_
  refine xget S hw fl_Md_104 0 rfl rfl d_Md_put_1 ?_
  refine lv_sipush (v := 1024) hx hb d_Md_put_4 (by decide) ?_
  refine lv_icmp_ne (tgt := 12) hx hb d_Md_put_7 (by decide) (fun c1 => ?_) (fun c1 => ?_)
  · have c1 : ¬ N = 1024 := fun q_ => c1 ((nI_eq (a := N) (b := 1024) (by omega) (by omega)).mpr q_)
    have hlt : N < 1024 := by omega
    rw [if_pos hlt, if_pos hlt, decide_eq_true hlt] at kret
    refine lv_aload_n hx hb d_Md_put_12 rfl (lv_at hl 0 rfl) ?_
    refine xget S hw fl_Md_19 0 rfl rfl d_Md_put_13 ?_
    refine lv_aload_n hx hb d_Md_put_16 rfl (lv_at hl 0 rfl) ?_
    refine xget S hw fl_Md_104 0 rfl rfl d_Md_put_17 ?_
    refine lv_iload_n hx hb d_Md_put_20 rfl (lv_at hl 1 rfl) ?_
    refine lv_i2b hx hb d_Md_put_21 rfl ?_
    refine xbast S hw 4 rfl (j := N) (y := b8 x) (by omega) (by decide) (b8_b8 _) (ws' := wMd G ad tp tx wd (upd ou N (b8 x)) wz pi tk si mn md (nI N) at' wi ki le ze pl bl fr vl) rfl d_Md_put_22 (fun H locs hw => ?_)
    refine lv_aload_n hx hb d_Md_put_23 rfl (lv_at hl 0 rfl) ?_
    refine lv_dup hx hb d_Md_put_24 rfl ?_
    refine xget S hw fl_Md_104 0 rfl rfl d_Md_put_25 ?_
    refine lv_iconst (v := 1) hx hb d_Md_put_28 (by decide) ?_
    refine lv_iadd hx hb d_Md_put_29 ?_
    refine tpi (y := nI (N + 1)) (nI_add N 1) ?_
    refine xput S hw fl_Md_104 0 rfl rfl rfl (Nat.le_of_ble_eq_true rfl) (ws' := wMd G ad tp tx wd (upd ou N (b8 x)) wz pi tk si mn md (nI (N + 1)) at' wi ki le ze pl bl fr vl) rfl d_Md_put_30 (fun H locs hw => ?_)
    refine lv_iconst (v := 1) hx hb d_Md_put_33 (by decide) ?_
    rw [wr_upd] at hw
    exact kret _ _ _ _ _ () hw rfl rfl d_Md_put_34
  · have c1 : N = 1024 := (nI_eq (a := N) (b := 1024) (by omega) (by omega)).mp c1
    have hlt : ¬ N < 1024 := by omega
    rw [if_neg hlt, if_neg hlt, decide_eq_false hlt] at kret
    refine lv_iconst (v := 0) hx hb d_Md_put_10 (by decide) ?_
    exact kret _ _ _ _ _ () hw rfl rfl d_Md_put_11
set_option maxHeartbeats 4000000 in
set_option maxRecDepth 100000 in
theorem c_Md_puts (l : Launch) (G : gG) (ad : Nat → Nat) (tp : Nat → Int32) (tx : Nat → Int32) (wd : Nat → Int32) (ou : Nat → Int32) (wz : Nat → Int32) (pi : Nat → Int32) (tk : Int32) (si : Int32) (mn : Int32) (md : Int32) (at' : Int32) (wi : Int32) (ki : Int32) (le : Int32) (ze : Int32) (pl : Int32) (bl : Int32) (fr : Int32) (vl : Int64) (N : Nat) (hN : N ≤ 1024) (x : Int32) (hx8 : b8 x = x) (k : Nat) (hk : k ≤ 200000) : MetI (σ := Unit) l y_Md_puts (Cond.code y_Md_puts b_Md_puts 5 (some .boolean)) (rmL 1) 0 0 G [.ref (ad 0), .int x, .int (nI k)] (wMd G ad tp tx wd ou wz pi tk si mn md (nI N) at' wi ki le ze pl bl fr vl) X0 (fun r _ => r = bI (decide (N + k ≤ 1024))) (fun _ => wMd G ad tp tx wd (if N + k ≤ 1024 then wr ou N (List.replicate k x) else ou) wz pi tk si mn md (nI (if N + k ≤ 1024 then N + k else N)) at' wi ki le ze pl bl fr vl) := by
  refine MetI.mk2 (by decide) (Nat.le_of_ble_eq_true rfl) ?_
  intro p e s m args below meth c A ls Q S hw hX hl kret
  have hx := S.1
  have hb := S.2.1
  have hl : lv_has ls 5 [(0, .ref (ad 0)), (1, .int x), (2, .int (nI k))] := hl
  generalize hH0 : s.heap = H at hw ⊢
  generalize hL0 : ([] : List Loc) = locs at hw ⊢
  refine lv_aload_n hx hb d_Md_puts_0 rfl (lv_at hl 0 rfl) ?_
  refine xget S hw fl_Md_104 0 rfl rfl d_Md_puts_1 ?_
  refine lv_iload_n hx hb d_Md_puts_4 rfl (lv_at hl 2 rfl) ?_
  refine lv_iadd hx hb d_Md_puts_5 ?_
  refine tpi (y := nI (N + k)) (nI_add N k) ?_
  refine lv_sipush (v := 1024) hx hb d_Md_puts_6 (by decide) ?_
  refine lv_icmp_gt (tgt := 16) hx hb d_Md_puts_9 (by decide) (fun c1 => ?_) (fun c1 => ?_)
  · have c1 : 1024 < (N + k) := (nI_ltI (a := 1024) (b := (N + k)) (by omega) (by omega)).mp c1
    have hlt : ¬ N + k ≤ 1024 := by omega
    rw [if_neg hlt, if_neg hlt, decide_eq_false hlt] at kret
    refine lv_iconst (v := 0) hx hb d_Md_puts_16 (by decide) ?_
    refine lv_istore_n (lv' := [(3, .int 0), (0, .ref (ad 0)), (1, .int x), (2, .int (nI k))]) hx hb d_Md_puts_17 rfl hl (by decide) rfl (fun ls hl => ?_)
    refine lv_iconst (v := 0) hx hb d_Md_puts_18 (by decide) ?_
    refine lv_istore (lv' := [(4, .int 0), (3, .int 0), (0, .ref (ad 0)), (1, .int x), (2, .int (nI k))]) hx hb d_Md_puts_19 hl (by decide) rfl (fun ls hl => ?_)
    refine lv_iload hx hb d_Md_puts_21 (lv_at hl 0 rfl) ?_
    refine lv_iload_n hx hb d_Md_puts_23 rfl (lv_at hl 4 rfl) ?_
    refine lv_icmp_ge (tgt := 43) hx hb d_Md_puts_24 (by decide) (fun c2 => ?_) (fun c2 => ?_)
    · refine lv_iload_n hx hb d_Md_puts_43 rfl (lv_at hl 1 rfl) ?_
      exact kret _ _ _ _ _ () hw rfl rfl d_Md_puts_44
    · refine lv_iload_n hx hb d_Md_puts_27 rfl (lv_at hl 1 rfl) ?_
      refine lv_if_eq (tgt := 43) hx hb d_Md_puts_28 (by decide) (fun _ => ?_) (fun q_ => absurd rfl q_)
      refine lv_iload_n hx hb d_Md_puts_43 rfl (lv_at hl 1 rfl) ?_
      exact kret _ _ _ _ _ () hw rfl rfl d_Md_puts_44
  · have c1 : ¬ 1024 < (N + k) := fun q_ => c1 ((nI_ltI (a := 1024) (b := (N + k)) (by omega) (by omega)).mpr q_)
    have hlt : N + k ≤ 1024 := by omega
    rw [if_pos hlt, if_pos hlt, decide_eq_true hlt] at kret
    refine lv_iconst (v := 1) hx hb d_Md_puts_12 (by decide) ?_
    refine lv_goto (tgt := 17) hx hb d_Md_puts_13 (by decide) ?_
    refine lv_istore_n (lv' := [(3, .int 1), (0, .ref (ad 0)), (1, .int x), (2, .int (nI k))]) hx hb d_Md_puts_17 rfl hl (by decide) rfl (fun ls hl => ?_)
    refine lv_iconst (v := 0) hx hb d_Md_puts_18 (by decide) ?_
    refine lv_istore (lv' := [(4, .int 0), (3, .int 1), (0, .ref (ad 0)), (1, .int x), (2, .int (nI k))]) hx hb d_Md_puts_19 hl (by decide) rfl (fun ls hl => ?_)
    have lp : ∀ (d i : Nat), i + d = k → ∀ (H : Heap) (locs : List Loc) (ls : Array Slot), gW G A s (wMd G ad tp tx wd (wr ou N (List.replicate i x)) wz pi tk si mn md (nI (N + i)) at' wi ki le ze pl bl fr vl) H locs → lv_has ls 5 [(4, .int (nI i)), (3, .int 1), (0, .ref (ad 0)), (1, .int x), (2, .int (nI k))] → W p l e (rmL 1) s m args below meth c H locs 0 0 Q (F0 m 21 ls []) := by
      intro d
      induction d with
      | zero =>
        intro i hi H locs ls hw hl
        refine lv_iload hx hb d_Md_puts_21 (lv_at hl 0 rfl) ?_
        refine lv_iload_n hx hb d_Md_puts_23 rfl (lv_at hl 4 rfl) ?_
        refine lv_icmp_ge (tgt := 43) hx hb d_Md_puts_24 (by decide) (fun _ => ?_) (fun q_ => absurd ((nI_leI (by omega) (by omega)).mpr (by omega)) q_)
        obtain rfl : i = k := by omega
        refine lv_iload_n hx hb d_Md_puts_43 rfl (lv_at hl 1 rfl) ?_
        exact kret _ _ _ _ _ () hw rfl rfl d_Md_puts_44
      | succ d ih =>
        intro i hi H locs ls hw hl
        refine lv_iload hx hb d_Md_puts_21 (lv_at hl 0 rfl) ?_
        refine lv_iload_n hx hb d_Md_puts_23 rfl (lv_at hl 4 rfl) ?_
        refine lv_icmp_ge (tgt := 43) hx hb d_Md_puts_24 (by decide) (fun q_ => absurd q_ (fun h => by have := (nI_leI (by omega) (by omega)).mp h; omega)) (fun _ => ?_)
        refine lv_iload_n hx hb d_Md_puts_27 rfl (lv_at hl 1 rfl) ?_
        refine lv_if_eq (tgt := 43) hx hb d_Md_puts_28 (by decide) (fun q_ => absurd q_ (by decide)) (fun _ => ?_)
        refine lv_aload_n hx hb d_Md_puts_31 rfl (lv_at hl 2 rfl) ?_
        refine lv_iload_n hx hb d_Md_puts_32 rfl (lv_at hl 3 rfl) ?_
        refine zVi (As := [.int x]) (rest := []) S hw hl.1 vl_Md_107 (c_Md_put l G ad tp tx wd (wr ou N (List.replicate i x)) wz pi tk si mn md at' wi ki le ze pl bl fr vl (N + i) (by omega) x) 0 rfl rfl rfl ⟨rfl, rfl⟩ [0, 1, 2, 3, 4, 5, 6] [] [0, 1, 2, 3, 4, 5, 6] rfl rfl (by decide) rfl rfl rfl d_Md_puts_33 (fun _ => wMd G ad tp tx wd (if N + i < 1024 then wr (wr ou N (List.replicate i x)) (N + i) [b8 x] else wr ou N (List.replicate i x)) wz pi tk si mn md (nI (if N + i < 1024 then N + i + 1 else N + i)) at' wi ki le ze pl bl fr vl) (fun _ => rfl) (fun r_33 _ H locs hp hw => ?_)
        have h3 : N + i < 1024 := by omega
        rw [if_pos h3, if_pos h3, hx8, wr_app (by rw [List.length_replicate]), ← rep_snoc] at hw
        rw [decide_eq_true h3] at hp
        subst hp
        refine tpi (y := 1) rfl ?_
        refine lv_istore_n (lv' := [(3, .int 1), (4, .int (nI i)), (0, .ref (ad 0)), (1, .int x), (2, .int (nI k))]) hx hb d_Md_puts_36 rfl hl (by decide) rfl (fun ls hl => ?_)
        refine lv_iinc (v := nI (i + 1)) (lv' := [(4, .int (nI (i + 1))), (3, .int 1), (0, .ref (ad 0)), (1, .int x), (2, .int (nI k))]) hx hb d_Md_puts_37 hl (k := 1) rfl (nI_1 i) (by decide) rfl (fun ls hl => ?_)
        refine lv_goto (tgt := 21) hx hb d_Md_puts_40 (by decide) ?_
        exact ih (i + 1) (by omega) _ _ _ hw (lv_sub hl [0, 1, 2, 3, 4] rfl)
    exact lp k 0 (by omega) _ _ _ (by rw [List.replicate_zero, wr_nil]; exact hw) hl
set_option maxHeartbeats 4000000 in
set_option maxRecDepth 100000 in
theorem c_Md_hex (l : Launch) (G : gG) (x : Int32) : MetI (σ := Unit) l y_Md_hex (Cond.code y_Md_hex b_Md_hex 1 (some .int)) (rmL 0) 0 0 G [.int x] (([] : va_W)) X0 (fun r _ => r = hexd x) (fun _ => ([] : va_W)) := by
  refine MetI.mk2 (by decide) (Nat.le_of_ble_eq_true rfl) ?_
  intro p e s m args below meth c A ls Q S hw hX hl kret
  have hx := S.1
  have hb := S.2.1
  have hl : lv_has ls 1 [(0, .int x)] := hl
  generalize hH0 : s.heap = H at hw ⊢
  generalize hL0 : ([] : List Loc) = locs at hw ⊢
  refine lv_iload_n hx hb d_Md_hex_0 rfl (lv_at hl 0 rfl) ?_
  refine lv_bipush (v := 48) hx hb d_Md_hex_1 (by decide) ?_
  refine lv_icmp_lt (tgt := 17) hx hb d_Md_hex_3 (by decide) (fun a0 => ?_) (fun a0 => ?_)
  · refine lv_iload_n hx hb d_Md_hex_17 rfl (lv_at hl 0 rfl) ?_
    refine lv_bipush (v := 97) hx hb d_Md_hex_18 (by decide) ?_
    refine lv_icmp_lt (tgt := 37) hx hb d_Md_hex_20 (by decide) (fun a1 => ?_) (fun a1 => ?_)
    · refine lv_iload_n hx hb d_Md_hex_37 rfl (lv_at hl 0 rfl) ?_
      refine lv_bipush (v := 65) hx hb d_Md_hex_38 (by decide) ?_
      refine lv_icmp_lt (tgt := 59) hx hb d_Md_hex_40 (by decide) (fun a2 => ?_) (fun a2 => ?_)
      · refine lv_iconst (v := (-1)) hx hb d_Md_hex_59 (by decide) ?_
        exact kret _ _ _ _ _ () hw (by unfold hexd; rw [if_neg (fun q => Int32.not_lt.mpr q.1 a0), if_neg (fun q => Int32.not_lt.mpr q.1 a1), if_neg (fun q => Int32.not_lt.mpr q.1 a2)]) rfl d_Md_hex_60
      · refine lv_iload_n hx hb d_Md_hex_43 rfl (lv_at hl 0 rfl) ?_
        refine lv_bipush (v := 70) hx hb d_Md_hex_44 (by decide) ?_
        refine lv_icmp_gt (tgt := 59) hx hb d_Md_hex_46 (by decide) (fun b2 => ?_) (fun b2 => ?_)
        · refine lv_iconst (v := (-1)) hx hb d_Md_hex_59 (by decide) ?_
          exact kret _ _ _ _ _ () hw (by unfold hexd; rw [if_neg (fun q => Int32.not_lt.mpr q.1 a0), if_neg (fun q => Int32.not_lt.mpr q.1 a1), if_neg (fun q => Int32.not_lt.mpr q.2 b2)]) rfl d_Md_hex_60
        · refine lv_iload_n hx hb d_Md_hex_49 rfl (lv_at hl 0 rfl) ?_
          refine lv_bipush (v := 65) hx hb d_Md_hex_50 (by decide) ?_
          refine lv_isub hx hb d_Md_hex_52 ?_
          refine lv_bipush (v := 10) hx hb d_Md_hex_53 (by decide) ?_
          refine lv_iadd hx hb d_Md_hex_55 ?_
          refine lv_goto (tgt := 60) hx hb d_Md_hex_56 (by decide) ?_
          exact kret _ _ _ _ _ () hw (by unfold hexd; rw [if_neg (fun q => Int32.not_lt.mpr q.1 a0), if_neg (fun q => Int32.not_lt.mpr q.1 a1), if_pos ⟨Int32.not_lt.mp a2, Int32.not_lt.mp b2⟩]) rfl d_Md_hex_60
    · refine lv_iload_n hx hb d_Md_hex_23 rfl (lv_at hl 0 rfl) ?_
      refine lv_bipush (v := 102) hx hb d_Md_hex_24 (by decide) ?_
      refine lv_icmp_gt (tgt := 37) hx hb d_Md_hex_26 (by decide) (fun b1 => ?_) (fun b1 => ?_)
      · refine lv_iload_n hx hb d_Md_hex_37 rfl (lv_at hl 0 rfl) ?_
        refine lv_bipush (v := 65) hx hb d_Md_hex_38 (by decide) ?_
        refine lv_icmp_lt (tgt := 59) hx hb d_Md_hex_40 (by decide) (fun a2 => ?_) (fun a2 => ?_)
        · refine lv_iconst (v := (-1)) hx hb d_Md_hex_59 (by decide) ?_
          exact kret _ _ _ _ _ () hw (by unfold hexd; rw [if_neg (fun q => Int32.not_lt.mpr q.1 a0), if_neg (fun q => Int32.not_lt.mpr q.2 b1), if_neg (fun q => Int32.not_lt.mpr q.1 a2)]) rfl d_Md_hex_60
        · refine lv_iload_n hx hb d_Md_hex_43 rfl (lv_at hl 0 rfl) ?_
          refine lv_bipush (v := 70) hx hb d_Md_hex_44 (by decide) ?_
          refine lv_icmp_gt (tgt := 59) hx hb d_Md_hex_46 (by decide) (fun b2 => ?_) (fun b2 => ?_)
          · refine lv_iconst (v := (-1)) hx hb d_Md_hex_59 (by decide) ?_
            exact kret _ _ _ _ _ () hw (by unfold hexd; rw [if_neg (fun q => Int32.not_lt.mpr q.1 a0), if_neg (fun q => Int32.not_lt.mpr q.2 b1), if_neg (fun q => Int32.not_lt.mpr q.2 b2)]) rfl d_Md_hex_60
          · refine lv_iload_n hx hb d_Md_hex_49 rfl (lv_at hl 0 rfl) ?_
            refine lv_bipush (v := 65) hx hb d_Md_hex_50 (by decide) ?_
            refine lv_isub hx hb d_Md_hex_52 ?_
            refine lv_bipush (v := 10) hx hb d_Md_hex_53 (by decide) ?_
            refine lv_iadd hx hb d_Md_hex_55 ?_
            refine lv_goto (tgt := 60) hx hb d_Md_hex_56 (by decide) ?_
            exact kret _ _ _ _ _ () hw (by unfold hexd; rw [if_neg (fun q => Int32.not_lt.mpr q.1 a0), if_neg (fun q => Int32.not_lt.mpr q.2 b1), if_pos ⟨Int32.not_lt.mp a2, Int32.not_lt.mp b2⟩]) rfl d_Md_hex_60
      · refine lv_iload_n hx hb d_Md_hex_29 rfl (lv_at hl 0 rfl) ?_
        refine lv_bipush (v := 97) hx hb d_Md_hex_30 (by decide) ?_
        refine lv_isub hx hb d_Md_hex_32 ?_
        refine lv_bipush (v := 10) hx hb d_Md_hex_33 (by decide) ?_
        refine lv_iadd hx hb d_Md_hex_35 ?_
        exact kret _ _ _ _ _ () hw (by unfold hexd; rw [if_neg (fun q => Int32.not_lt.mpr q.1 a0), if_pos ⟨Int32.not_lt.mp a1, Int32.not_lt.mp b1⟩]) rfl d_Md_hex_36
  · refine lv_iload_n hx hb d_Md_hex_6 rfl (lv_at hl 0 rfl) ?_
    refine lv_bipush (v := 57) hx hb d_Md_hex_7 (by decide) ?_
    refine lv_icmp_gt (tgt := 17) hx hb d_Md_hex_9 (by decide) (fun b0 => ?_) (fun b0 => ?_)
    · refine lv_iload_n hx hb d_Md_hex_17 rfl (lv_at hl 0 rfl) ?_
      refine lv_bipush (v := 97) hx hb d_Md_hex_18 (by decide) ?_
      refine lv_icmp_lt (tgt := 37) hx hb d_Md_hex_20 (by decide) (fun a1 => ?_) (fun a1 => ?_)
      · refine lv_iload_n hx hb d_Md_hex_37 rfl (lv_at hl 0 rfl) ?_
        refine lv_bipush (v := 65) hx hb d_Md_hex_38 (by decide) ?_
        refine lv_icmp_lt (tgt := 59) hx hb d_Md_hex_40 (by decide) (fun a2 => ?_) (fun a2 => ?_)
        · refine lv_iconst (v := (-1)) hx hb d_Md_hex_59 (by decide) ?_
          exact kret _ _ _ _ _ () hw (by unfold hexd; rw [if_neg (fun q => Int32.not_lt.mpr q.2 b0), if_neg (fun q => Int32.not_lt.mpr q.1 a1), if_neg (fun q => Int32.not_lt.mpr q.1 a2)]) rfl d_Md_hex_60
        · refine lv_iload_n hx hb d_Md_hex_43 rfl (lv_at hl 0 rfl) ?_
          refine lv_bipush (v := 70) hx hb d_Md_hex_44 (by decide) ?_
          refine lv_icmp_gt (tgt := 59) hx hb d_Md_hex_46 (by decide) (fun b2 => ?_) (fun b2 => ?_)
          · refine lv_iconst (v := (-1)) hx hb d_Md_hex_59 (by decide) ?_
            exact kret _ _ _ _ _ () hw (by unfold hexd; rw [if_neg (fun q => Int32.not_lt.mpr q.2 b0), if_neg (fun q => Int32.not_lt.mpr q.1 a1), if_neg (fun q => Int32.not_lt.mpr q.2 b2)]) rfl d_Md_hex_60
          · refine lv_iload_n hx hb d_Md_hex_49 rfl (lv_at hl 0 rfl) ?_
            refine lv_bipush (v := 65) hx hb d_Md_hex_50 (by decide) ?_
            refine lv_isub hx hb d_Md_hex_52 ?_
            refine lv_bipush (v := 10) hx hb d_Md_hex_53 (by decide) ?_
            refine lv_iadd hx hb d_Md_hex_55 ?_
            refine lv_goto (tgt := 60) hx hb d_Md_hex_56 (by decide) ?_
            exact kret _ _ _ _ _ () hw (by unfold hexd; rw [if_neg (fun q => Int32.not_lt.mpr q.2 b0), if_neg (fun q => Int32.not_lt.mpr q.1 a1), if_pos ⟨Int32.not_lt.mp a2, Int32.not_lt.mp b2⟩]) rfl d_Md_hex_60
      · refine lv_iload_n hx hb d_Md_hex_23 rfl (lv_at hl 0 rfl) ?_
        refine lv_bipush (v := 102) hx hb d_Md_hex_24 (by decide) ?_
        refine lv_icmp_gt (tgt := 37) hx hb d_Md_hex_26 (by decide) (fun b1 => ?_) (fun b1 => ?_)
        · refine lv_iload_n hx hb d_Md_hex_37 rfl (lv_at hl 0 rfl) ?_
          refine lv_bipush (v := 65) hx hb d_Md_hex_38 (by decide) ?_
          refine lv_icmp_lt (tgt := 59) hx hb d_Md_hex_40 (by decide) (fun a2 => ?_) (fun a2 => ?_)
          · refine lv_iconst (v := (-1)) hx hb d_Md_hex_59 (by decide) ?_
            exact kret _ _ _ _ _ () hw (by unfold hexd; rw [if_neg (fun q => Int32.not_lt.mpr q.2 b0), if_neg (fun q => Int32.not_lt.mpr q.2 b1), if_neg (fun q => Int32.not_lt.mpr q.1 a2)]) rfl d_Md_hex_60
          · refine lv_iload_n hx hb d_Md_hex_43 rfl (lv_at hl 0 rfl) ?_
            refine lv_bipush (v := 70) hx hb d_Md_hex_44 (by decide) ?_
            refine lv_icmp_gt (tgt := 59) hx hb d_Md_hex_46 (by decide) (fun b2 => ?_) (fun b2 => ?_)
            · refine lv_iconst (v := (-1)) hx hb d_Md_hex_59 (by decide) ?_
              exact kret _ _ _ _ _ () hw (by unfold hexd; rw [if_neg (fun q => Int32.not_lt.mpr q.2 b0), if_neg (fun q => Int32.not_lt.mpr q.2 b1), if_neg (fun q => Int32.not_lt.mpr q.2 b2)]) rfl d_Md_hex_60
            · refine lv_iload_n hx hb d_Md_hex_49 rfl (lv_at hl 0 rfl) ?_
              refine lv_bipush (v := 65) hx hb d_Md_hex_50 (by decide) ?_
              refine lv_isub hx hb d_Md_hex_52 ?_
              refine lv_bipush (v := 10) hx hb d_Md_hex_53 (by decide) ?_
              refine lv_iadd hx hb d_Md_hex_55 ?_
              refine lv_goto (tgt := 60) hx hb d_Md_hex_56 (by decide) ?_
              exact kret _ _ _ _ _ () hw (by unfold hexd; rw [if_neg (fun q => Int32.not_lt.mpr q.2 b0), if_neg (fun q => Int32.not_lt.mpr q.2 b1), if_pos ⟨Int32.not_lt.mp a2, Int32.not_lt.mp b2⟩]) rfl d_Md_hex_60
        · refine lv_iload_n hx hb d_Md_hex_29 rfl (lv_at hl 0 rfl) ?_
          refine lv_bipush (v := 97) hx hb d_Md_hex_30 (by decide) ?_
          refine lv_isub hx hb d_Md_hex_32 ?_
          refine lv_bipush (v := 10) hx hb d_Md_hex_33 (by decide) ?_
          refine lv_iadd hx hb d_Md_hex_35 ?_
          exact kret _ _ _ _ _ () hw (by unfold hexd; rw [if_neg (fun q => Int32.not_lt.mpr q.2 b0), if_pos ⟨Int32.not_lt.mp a1, Int32.not_lt.mp b1⟩]) rfl d_Md_hex_36
    · refine lv_iload_n hx hb d_Md_hex_12 rfl (lv_at hl 0 rfl) ?_
      refine lv_bipush (v := 48) hx hb d_Md_hex_13 (by decide) ?_
      refine lv_isub hx hb d_Md_hex_15 ?_
      exact kret _ _ _ _ _ () hw (by unfold hexd; rw [if_pos ⟨Int32.not_lt.mp a0, Int32.not_lt.mp b0⟩]) rfl d_Md_hex_16
end
section
set_option maxHeartbeats 4000000 in
set_option maxRecDepth 100000 in
theorem c_Md_digits (l : Launch) (G : gG) (ad : Nat → Nat) (tp : Nat → Int32) (tx : Nat → Int32) (wd : Nat → Int32) (ou : Nat → Int32) (wz : Nat → Int32) (pi : Nat → Int32) (tk : Int32) (si : Int32) (mn : Int32) (md : Int32) (os : Int32) (at' : Int32) (wi : Int32) (ki : Int32) (le : Int32) (ze : Int32) (pl : Int32) (bl : Int32) (fr : Int32) (vl : Int64) (v : Int64) : MetV (σ := (Nat → Int32)) l y_Md_digits (Cond.code y_Md_digits b_Md_digits 7 none) (rmL 1) 0 0 G [.ref (ad 0), .long v] (wMd G ad tp tx wd ou wz pi tk si mn md os at' wi ki le ze pl bl fr vl) X0 (fun u => sg u (72 - (dig v).length) (dig v).length = dig v) (fun u => wMd G ad tp tx wd ou wz u tk si mn md os at' wi ki le ze pl bl (nI (72 - (dig v).length)) vl) := by
  refine MetV.mk2 (by decide) (Nat.le_of_ble_eq_true rfl) ?_
  intro p e s m args below meth c A ls Q S hw hX hl hnm kret
  have hx := S.1
  have hb := S.2.1
  have hl : lv_has ls 7 [(0, .ref (ad 0)), (1, .long v)] := hl
  generalize hH0 : s.heap = H at hw ⊢
  generalize hL0 : ([] : List Loc) = locs at hw ⊢
  refine lv_aload_n hx hb d_Md_digits_0 rfl (lv_at hl 0 rfl) ?_
  refine lv_bipush (v := 72) hx hb d_Md_digits_1 (by decide) ?_
  refine xput S hw fl_Md_47 0 rfl rfl rfl (Nat.le_of_ble_eq_true rfl) (ws' := wMd G ad tp tx wd ou wz pi tk si mn md os at' wi ki le ze pl bl 72 vl) rfl d_Md_digits_3 (fun H locs hw => ?_)
  refine lv_lload_n hx hb d_Md_digits_6 rfl (lv_at hl 1 rfl) ?_
  refine lv_lstore_n (lv' := [(3, .long v), (0, .ref (ad 0)), (1, .long v)]) hx hb d_Md_digits_7 rfl hl (by decide) rfl (fun ls hl => ?_)
  have lp : ∀ (f : Nat) (rs : Int64) (em : List Int32) (pi1 : Nat → Int32), ndInv 10 dg10 (dig v) f (absN rs) em → sg pi1 (72 - em.length) em.length = em → ∀ (H : Heap) (locs : List Loc) (ls : Array Slot), gW G A s (wMd G ad tp tx wd ou wz pi1 tk si mn md os at' wi ki le ze pl bl (nI (72 - em.length)) vl) H locs → lv_has ls 7 [(3, .long rs), (0, .ref (ad 0)), (1, .long v)] → W p l e (rmL 1) s m args below meth c H locs 0 0 Q (F0 m 8 ls []) := by
    intro f
    induction f with
    | zero => intro rs em pi1 hi; exact absurd hi.2.2.1 (by decide)
    | succ f ih =>
      intro rs em pi1 hi hsg H locs ls hw hl
      have hel : em.length + (f + 1) ≤ 22 := hi.2.2.2
      have hab := absN_rem10 rs
      have hlt : absN (rs - rs / 10 * 10) < 10 := by rw [hab]; exact Nat.mod_lt _ (by decide)
      refine lv_lload_n hx hb d_Md_digits_8 rfl (lv_at hl 0 rfl) ?_
      refine lv_ldc2 (v := 10) hx hb S.2.2.2.1 (S.2.2.2.2 _ k_369) d_Md_digits_9 ?_
      refine lv_lrem hx hb d_Md_digits_12 (by decide) ?_
      refine lv_lstore (lv' := [(5, .long (rs - rs / 10 * 10)), (3, .long rs), (0, .ref (ad 0)), (1, .long v)]) hx hb d_Md_digits_13 hl (by decide) rfl (fun ls hl => ?_)
      refine lv_aload_n hx hb d_Md_digits_15 rfl (lv_at hl 2 rfl) ?_
      refine lv_bipush (v := 48) hx hb d_Md_digits_16 (by decide) ?_
      refine lv_lload hx hb d_Md_digits_18 (lv_at hl 0 rfl) ?_
      refine lv_lconst (v := 0) hx hb d_Md_digits_20 (by decide) ?_
      have j33 : ∀ (dd : Int64), dd = lN (absN rs % 10) → ∀ (H : Heap) (locs : List Loc) (ls : Array Slot), gW G A s (wMd G ad tp tx wd ou wz pi1 tk si mn md os at' wi ki le ze pl bl (nI (72 - em.length)) vl) H locs → lv_has ls 7 [(5, .long (rs - rs / 10 * 10)), (3, .long rs), (0, .ref (ad 0)), (1, .long v)] → W p l e (rmL 1) s m args below meth c H locs 0 0 Q (F0 m 33 ls [.long dd, .int 48, .ref (ad 0)]) := by
        intro dd hdd H locs ls hw hl
        have hq : 72 - em.length = (71 - em.length) + 1 := by omega
        rw [hq] at hw
        refine lv_l2i hx hb d_Md_digits_33 rfl ?_
        refine tpi (y := nI (absN rs % 10)) (by rw [hdd, lN_i]) ?_
        refine lv_iadd hx hb d_Md_digits_34 ?_
        refine tpi (y := nI (48 + (absN rs % 10))) (nI_add 48 (absN rs % 10)) ?_
        refine zVv (As := [.int (nI (48 + (absN rs % 10)))]) (rest := []) S hw hl.1 vl_Md_53 (c_Md_ahead l G ad tp tx wd ou wz pi1 tk si mn md os at' wi ki le ze pl bl vl (71 - em.length) (by omega) (nI (48 + absN rs % 10))) 0 rfl rfl rfl ⟨rfl, rfl⟩ [0, 1, 2, 3, 4, 5, 6] [] [0, 1, 2, 3, 4, 5, 6] rfl rfl (by decide) rfl rfl rfl d_Md_digits_35 (fun _ => wMd G ad tp tx wd ou wz (upd pi1 (71 - em.length) (b8 (nI (48 + absN rs % 10)))) tk si mn md os at' wi ki le ze pl bl (nI (71 - em.length)) vl) (fun _ => rfl) (fun _ H locs hp hw => ?_)
        have hlen : (dg10 (absN rs % 10) :: em).length = em.length + 1 := rfl
        have hfr : 71 - em.length = 72 - (dg10 (absN rs % 10) :: em).length := by rw [hlen]; omega
        have hsg2 : sg (upd pi1 (71 - em.length) (b8 (nI (48 + absN rs % 10)))) (72 - (dg10 (absN rs % 10) :: em).length) (dg10 (absN rs % 10) :: em).length = dg10 (absN rs % 10) :: em := by
          rw [← hfr, hlen, dg10_b8 _ (Nat.mod_lt _ (by decide)), sg_push (by omega)]
          congr 1
          rw [← hq]
          exact hsg
        rw [show (nI (71 - em.length) : Int32) = nI (72 - (dg10 (absN rs % 10) :: em).length) from by rw [hfr]] at hw
        refine lv_lload_n hx hb d_Md_digits_38 rfl (lv_at hl 1 rfl) ?_
        refine lv_ldc2 (v := 10) hx hb S.2.2.2.1 (S.2.2.2.2 _ k_369) d_Md_digits_39 ?_
        refine lv_ldiv hx hb d_Md_digits_42 (by decide) ?_
        refine lv_lstore_n (lv' := [(3, .long (rs / 10)), (5, .long (rs - rs / 10 * 10)), (0, .ref (ad 0)), (1, .long v)]) hx hb d_Md_digits_43 rfl hl (by decide) rfl (fun ls hl => ?_)
        refine lv_lload_n hx hb d_Md_digits_44 rfl (lv_at hl 0 rfl) ?_
        refine lv_lconst (v := 0) hx hb d_Md_digits_45 (by decide) ?_
        refine xl_ne (tgt := 8) S d_Md_digits_46 d_Md_digits_47 (by decide) (fun cz => ?_) (fun cz => ?_)
        · have hdv : absN (rs / 10) = absN rs / 10 := absN_div rs (u := 10) (by decide) (by decide)
          obtain ⟨f', hf', hi'⟩ := ndInv_next (by decide) hi (by rw [← hdv]; exact fun h => cz (absN_zero.mpr h))
          obtain rfl : f = f' := by omega
          exact ih _ _ _ (by rw [hdv]; exact hi') hsg2 _ _ _ hw (lv_sub hl [0, 2, 3] rfl)
        · have hdv : absN (rs / 10) = absN rs / 10 := absN_div rs (u := 10) (by decide) (by decide)
          have he := ndInv_last (by decide) hi (by rw [← hdv]; exact absN_zero.mp cz)
          rw [he] at hsg2 hw
          exact kret _ _ _ _ _ hw hsg2 d_Md_digits_50
      refine xl_ge (tgt := 31) S d_Md_digits_21 d_Md_digits_22 (by decide) (fun cs => ?_) (fun cs => ?_)
      · refine lv_lload hx hb d_Md_digits_31 (lv_at hl 0 rfl) ?_
        exact j33 _ (by rw [← hab]; exact abs_lN3 hlt cs) _ _ _ hw (lv_sub hl [0, 1, 2, 3] rfl)
      · refine lv_lload hx hb d_Md_digits_25 (lv_at hl 0 rfl) ?_
        refine lv_lneg hx hb d_Md_digits_27 ?_
        refine lv_goto (tgt := 33) hx hb d_Md_digits_28 (by decide) ?_
        exact j33 _ (by rw [← hab]; exact abs_lN2 hlt cs) _ _ _ hw (lv_sub hl [0, 1, 2, 3] rfl)
  exact lp 20 v [] pi (dig_inv v) rfl _ _ _ hw hl
set_option maxHeartbeats 4000000 in
set_option maxRecDepth 100000 in
theorem c_Md_bits (l : Launch) (G : gG) (ad : Nat → Nat) (tp : Nat → Int32) (tx : Nat → Int32) (wd : Nat → Int32) (ou : Nat → Int32) (wz : Nat → Int32) (pi : Nat → Int32) (tk : Int32) (si : Int32) (mn : Int32) (md : Int32) (os : Int32) (at' : Int32) (wi : Int32) (ki : Int32) (le : Int32) (ze : Int32) (pl : Int32) (bl : Int32) (fr : Int32) (vl : Int64) (v : Int64) (bb LL : Nat) (hbb : bb = 3 ∨ bb = 4) (hLL : LL = 65 ∨ LL = 97) : MetV (σ := (Nat → Int32)) l y_Md_bits (Cond.code y_Md_bits b_Md_bits 8 none) (rmL 1) 0 0 G [.ref (ad 0), .long v, .int (nI bb), .int (nI LL)] (wMd G ad tp tx wd ou wz pi tk si mn md os at' wi ki le ze pl bl fr vl) X0 (fun u => sg u (72 - (nd (2 ^ bb) (dgx LL) 22 (uL v)).length) (nd (2 ^ bb) (dgx LL) 22 (uL v)).length = nd (2 ^ bb) (dgx LL) 22 (uL v)) (fun u => wMd G ad tp tx wd ou wz u tk si mn md os at' wi ki le ze pl bl (nI (72 - (nd (2 ^ bb) (dgx LL) 22 (uL v)).length)) vl) := by
  refine MetV.mk2 (by decide) (Nat.le_of_ble_eq_true rfl) ?_
  intro p e s m args below meth c A ls Q S hw hX hl hnm kret
  have hx := S.1
  have hb := S.2.1
  have hl : lv_has ls 8 [(0, .ref (ad 0)), (1, .long v), (3, .int (nI bb)), (4, .int (nI LL))] := hl
  generalize hH0 : s.heap = H at hw ⊢
  generalize hL0 : ([] : List Loc) = locs at hw ⊢
  have hb2 : 2 ≤ 2 ^ bb := by rcases hbb with rfl | rfl <;> decide
  have hb16 : 2 ^ bb ≤ 16 := by rcases hbb with rfl | rfl <;> decide
  refine lv_aload_n hx hb d_Md_bits_0 rfl (lv_at hl 0 rfl) ?_
  refine lv_bipush (v := 72) hx hb d_Md_bits_1 (by decide) ?_
  refine xput S hw fl_Md_47 0 rfl rfl rfl (Nat.le_of_ble_eq_true rfl) (ws' := wMd G ad tp tx wd ou wz pi tk si mn md os at' wi ki le ze pl bl 72 vl) rfl d_Md_bits_3 (fun H locs hw => ?_)
  refine lv_lload_n hx hb d_Md_bits_6 rfl (lv_at hl 1 rfl) ?_
  refine lv_lstore (lv' := [(5, .long v), (0, .ref (ad 0)), (1, .long v), (3, .int (nI bb)), (4, .int (nI LL))]) hx hb d_Md_bits_7 hl (by decide) rfl (fun ls hl => ?_)
  have lp : ∀ (f : Nat) (rs : Int64) (em : List Int32) (pi1 : Nat → Int32), ndInv (2 ^ bb) (dgx LL) (nd (2 ^ bb) (dgx LL) 22 (uL v)) f (uL rs) em → sg pi1 (72 - em.length) em.length = em → ∀ (H : Heap) (locs : List Loc) (ls : Array Slot), gW G A s (wMd G ad tp tx wd ou wz pi1 tk si mn md os at' wi ki le ze pl bl (nI (72 - em.length)) vl) H locs → lv_has ls 8 [(5, .long rs), (0, .ref (ad 0)), (1, .long v), (3, .int (nI bb)), (4, .int (nI LL))] → W p l e (rmL 1) s m args below meth c H locs 0 0 Q (F0 m 9 ls []) := by
    intro f
    induction f with
    | zero => intro rs em pi1 hi; exact absurd hi.2.2.1 (by decide)
    | succ f ih =>
      intro rs em pi1 hi hsg H locs ls hw hl
      have hel : em.length + (f + 1) ≤ 22 := hi.2.2.2
      obtain ⟨x, hxx⟩ : ∃ x, x = uL rs % 2 ^ bb := ⟨_, rfl⟩
      have hx16 : x < 16 := by rw [hxx]; exact Nat.lt_of_lt_of_le (Nat.mod_lt _ (by omega)) hb16
      refine lv_lload hx hb d_Md_bits_9 (lv_at hl 0 rfl) ?_
      refine lv_lconst (v := 1) hx hb d_Md_bits_11 (by decide) ?_
      refine lv_iload_n hx hb d_Md_bits_12 rfl (lv_at hl 3 rfl) ?_
      refine lv_lshl hx hb d_Md_bits_13 rfl ?_
      refine lv_lconst (v := 1) hx hb d_Md_bits_14 (by decide) ?_
      refine lv_lsub hx hb d_Md_bits_15 ?_
      refine lv_land hx hb d_Md_bits_16 ?_
      refine lv_l2i hx hb d_Md_bits_17 rfl ?_
      refine tpi (y := nI x) (by rw [hxx]; exact uL_mask rs hbb) ?_
      refine lv_istore (lv' := [(7, .int (nI x)), (5, .long rs), (0, .ref (ad 0)), (1, .long v), (3, .int (nI bb)), (4, .int (nI LL))]) hx hb d_Md_bits_18 hl (by decide) rfl (fun ls hl => ?_)
      refine lv_aload_n hx hb d_Md_bits_20 rfl (lv_at hl 2 rfl) ?_
      refine lv_iload hx hb d_Md_bits_21 (lv_at hl 0 rfl) ?_
      refine lv_bipush (v := 10) hx hb d_Md_bits_23 (by decide) ?_
      have j44 : ∀ (cc : Int32), cc = dgx LL x → ∀ (H : Heap) (locs : List Loc) (ls : Array Slot), gW G A s (wMd G ad tp tx wd ou wz pi1 tk si mn md os at' wi ki le ze pl bl (nI (72 - em.length)) vl) H locs → lv_has ls 8 [(7, .int (nI x)), (5, .long rs), (0, .ref (ad 0)), (1, .long v), (3, .int (nI bb)), (4, .int (nI LL))] → W p l e (rmL 1) s m args below meth c H locs 0 0 Q (F0 m 44 ls [.int cc, .ref (ad 0)]) := by
        intro cc hcc H locs ls hw hl
        have hq : 72 - em.length = (71 - em.length) + 1 := by omega
        rw [hq] at hw
        refine zVv (As := [.int cc]) (rest := []) S hw hl.1 vl_Md_53 (c_Md_ahead l G ad tp tx wd ou wz pi1 tk si mn md os at' wi ki le ze pl bl vl (71 - em.length) (by omega) cc) 0 rfl rfl rfl ⟨rfl, rfl⟩ [0, 1, 2, 3, 4, 5, 6] [] [0, 1, 2, 3, 4, 5, 6] rfl rfl (by decide) rfl rfl rfl d_Md_bits_44 (fun _ => wMd G ad tp tx wd ou wz (upd pi1 (71 - em.length) (b8 cc)) tk si mn md os at' wi ki le ze pl bl (nI (71 - em.length)) vl) (fun _ => rfl) (fun _ H locs hp hw => ?_)
        have hlen : (dgx LL (uL rs % 2 ^ bb) :: em).length = em.length + 1 := rfl
        have hfr : 71 - em.length = 72 - (dgx LL (uL rs % 2 ^ bb) :: em).length := by rw [hlen]; omega
        have hsg2 : sg (upd pi1 (71 - em.length) (b8 cc)) (72 - (dgx LL (uL rs % 2 ^ bb) :: em).length) (dgx LL (uL rs % 2 ^ bb) :: em).length = dgx LL (uL rs % 2 ^ bb) :: em := by
          rw [← hfr, hlen, hcc, dgx_b8 hLL x hx16, sg_push (by omega), hxx]
          congr 1
          rw [← hq]
          exact hsg
        rw [show (nI (71 - em.length) : Int32) = nI (72 - (dgx LL (uL rs % 2 ^ bb) :: em).length) from by rw [hfr]] at hw
        have hdv : uL (rs.toUInt64 >>> ((nI bb : Int32).toInt64.toUInt64 &&& Int64.toUInt64 63)).toInt64 = uL rs / 2 ^ bb := uL_sk rs (by rcases hbb with rfl | rfl <;> decide)
        refine lv_lload hx hb d_Md_bits_47 (lv_at hl 1 rfl) ?_
        refine lv_iload_n hx hb d_Md_bits_49 rfl (lv_at hl 4 rfl) ?_
        refine lv_lushr hx hb d_Md_bits_50 rfl ?_
        refine lv_lstore (lv' := [(5, .long ((rs.toUInt64 >>> ((nI bb : Int32).toInt64.toUInt64 &&& Int64.toUInt64 63)).toInt64)), (7, .int (nI x)), (0, .ref (ad 0)), (1, .long v), (3, .int (nI bb)), (4, .int (nI LL))]) hx hb d_Md_bits_51 hl (by decide) rfl (fun ls hl => ?_)
        refine lv_lload hx hb d_Md_bits_53 (lv_at hl 0 rfl) ?_
        refine lv_lconst (v := 0) hx hb d_Md_bits_55 (by decide) ?_
        refine xl_ne (tgt := 9) S d_Md_bits_56 d_Md_bits_57 (by decide) (fun cz => ?_) (fun cz => ?_)
        · obtain ⟨f', hf', hi'⟩ := ndInv_next hb2 hi (by rw [← hdv]; exact fun h => cz (uL_zero.mpr h))
          obtain rfl : f = f' := by omega
          exact ih _ _ _ (by rw [hdv]; exact hi') hsg2 _ _ _ hw (lv_sub hl [0, 2, 3, 4, 5] rfl)
        · have he := ndInv_last hb2 hi (by rw [← hdv]; exact uL_zero.mp cz)
          rw [he] at hsg2 hw
          exact kret _ _ _ _ _ hw hsg2 d_Md_bits_60
      refine lv_icmp_ge (tgt := 36) hx hb d_Md_bits_25 (by decide) (fun c10 => ?_) (fun c10 => ?_)
      · have c10 : 10 ≤ x := (nI_leI (a := 10) (b := x) (by omega) (by omega)).mp c10
        refine lv_iload hx hb d_Md_bits_36 (lv_at hl 5 rfl) ?_
        refine lv_iload hx hb d_Md_bits_38 (lv_at hl 0 rfl) ?_
        refine lv_iadd hx hb d_Md_bits_40 ?_
        refine tpi (y := nI (LL + x)) (nI_add LL x) ?_
        refine lv_bipush (v := 10) hx hb d_Md_bits_41 (by decide) ?_
        refine lv_isub hx hb d_Md_bits_43 ?_
        refine tpi (y := nI (LL + x - 10)) (pk_sub (a := LL + x) (b := 10) (by omega)) ?_
        exact j44 _ (by unfold dgx; rw [if_neg (by omega)]) _ _ _ hw hl
      · have c10 : ¬ 10 ≤ x := fun q_ => c10 ((nI_leI (a := 10) (b := x) (by omega) (by omega)).mpr q_)
        refine lv_bipush (v := 48) hx hb d_Md_bits_28 (by decide) ?_
        refine lv_iload hx hb d_Md_bits_30 (lv_at hl 0 rfl) ?_
        refine lv_iadd hx hb d_Md_bits_32 ?_
        refine tpi (y := nI (48 + x)) (nI_add 48 x) ?_
        refine lv_goto (tgt := 44) hx hb d_Md_bits_33 (by decide) ?_
        exact j44 _ (by unfold dgx; rw [if_pos (by omega)]) _ _ _ hw hl
  exact lp 22 v [] pi (bits_inv v bb LL hbb) rfl _ _ _ hw hl
set_option maxHeartbeats 4000000 in
set_option maxRecDepth 100000 in
theorem c_Md_decimal (l : Launch) (G : gG) (ad : Nat → Nat) (tp : Nat → Int32) (tx : Nat → Int32) (wd : Nat → Int32) (ou : Nat → Int32) (wz : Nat → Int32) (pi : Nat → Int32) (tk : Int32) (si : Int32) (mn : Int32) (md : Int32) (os : Int32) (at' : Int32) (wi : Int32) (ki : Int32) (le : Int32) (ze : Int32) (pl : Int32) (bl : Int32) (fr : Int32) (vl : Int64) (v : Int64) : MetV (σ := (Nat → Int32)) l y_Md_decimal (Cond.code y_Md_decimal b_Md_decimal 3 none) (rmL 2) 0 0 G [.ref (ad 0), .long v] (wMd G ad tp tx wd ou wz pi tk si mn md os at' wi ki le ze pl bl fr vl) X0 (fun u => sg u (72 - (dec v).length) (dec v).length = dec v) (fun u => wMd G ad tp tx wd ou wz u tk si mn md os at' wi ki le ze pl bl (nI (72 - (dec v).length)) vl) := by
  refine MetV.mk2 (by decide) (Nat.le_of_ble_eq_true rfl) ?_
  intro p e s m args below meth c A ls Q S hw hX hl hnm kret
  have hx := S.1
  have hb := S.2.1
  have hl : lv_has ls 3 [(0, .ref (ad 0)), (1, .long v)] := hl
  generalize hH0 : s.heap = H at hw ⊢
  generalize hL0 : ([] : List Loc) = locs at hw ⊢
  have hdl := dig_len (v := v)
  refine lv_aload_n hx hb d_Md_decimal_0 rfl (lv_at hl 0 rfl) ?_
  refine lv_lload_n hx hb d_Md_decimal_1 rfl (lv_at hl 1 rfl) ?_
  refine zVv (As := [.long v]) (rest := []) S hw hl.1 vl_Md_50 (c_Md_digits l G ad tp tx wd ou wz pi tk si mn md os at' wi ki le ze pl bl fr vl v) 0 rfl rfl rfl ⟨rfl, rfl⟩ [0, 1, 2, 3, 4, 5, 6] [] [0, 1, 2, 3, 4, 5, 6] rfl rfl (by decide) rfl rfl rfl d_Md_decimal_2 (fun u => wMd G ad tp tx wd ou wz u tk si mn md os at' wi ki le ze pl bl (nI (72 - (dig v).length)) vl) (fun _ => rfl) (fun pi1 H locs hsg hw => ?_)
  have hw : gW G A s (wMd G ad tp tx wd ou wz pi1 tk si mn md os at' wi ki le ze pl bl (nI (72 - (dig v).length)) vl) H locs := hw
  refine lv_lload_n hx hb d_Md_decimal_5 rfl (lv_at hl 1 rfl) ?_
  refine lv_lconst (v := 0) hx hb d_Md_decimal_6 (by decide) ?_
  refine xl_ge (tgt := 17) S d_Md_decimal_7 d_Md_decimal_8 (by decide) (fun cv => ?_) (fun cv => ?_)
  · have he : dec v = dig v := by unfold dec; rw [if_neg (Int64.not_lt.mpr cv)]; rfl
    rw [he] at kret
    exact kret _ _ _ _ pi1 hw hsg d_Md_decimal_17
  · have he : dec v = 45 :: dig v := by unfold dec; rw [if_pos (Int64.not_le.mp cv)]; rfl
    have hlen : (45 :: dig v).length = (dig v).length + 1 := rfl
    have hq : 72 - (dig v).length = (71 - (dig v).length) + 1 := by omega
    have hfr : 71 - (dig v).length = 72 - (45 :: dig v).length := by rw [hlen]; omega
    rw [hq] at hw
    refine lv_aload_n hx hb d_Md_decimal_11 rfl (lv_at hl 0 rfl) ?_
    refine lv_bipush (v := 45) hx hb d_Md_decimal_12 (by decide) ?_
    refine zVv (As := [.int 45]) (rest := []) S hw hl.1 vl_Md_53 (c_Md_ahead l G ad tp tx wd ou wz pi1 tk si mn md os at' wi ki le ze pl bl vl (71 - (dig v).length) (by omega) 45) 0 rfl rfl rfl ⟨rfl, rfl⟩ [0, 1, 2, 3, 4, 5, 6] [] [0, 1, 2, 3, 4, 5, 6] rfl rfl (by decide) rfl rfl rfl d_Md_decimal_14 (fun _ => wMd G ad tp tx wd ou wz (upd pi1 (71 - (dig v).length) (b8 45)) tk si mn md os at' wi ki le ze pl bl (nI (71 - (dig v).length)) vl) (fun _ => rfl) (fun _ H locs hp hw => ?_)
    rw [he] at kret
    rw [hfr] at hw
    have hsg2 : sg (upd pi1 (72 - (45 :: dig v).length) (b8 45)) (72 - (45 :: dig v).length) (45 :: dig v).length = 45 :: dig v := by
      rw [hlen, show b8 45 = (45 : Int32) from by decide, sg_push (by omega)]
      congr 1
      rw [show 72 - ((dig v).length + 1) + 1 = 72 - (dig v).length by omega]
      exact hsg
    exact kret _ _ _ _ _ hw hsg2 d_Md_decimal_17
set_option maxHeartbeats 4000000 in
set_option maxRecDepth 100000 in
theorem c_Md_number (l : Launch) (G : gG) (ad : Nat → Nat) (tp : Nat → Int32) (tx : Nat → Int32) (wd : Nat → Int32) (ou : Nat → Int32) (wz : Nat → Int32) (pi : Nat → Int32) (tk : Int32) (si : Int32) (md : Int32) (os : Int32) (at' : Int32) (wi : Int32) (ki : Int32) (le : Int32) (ze : Int32) (pl : Int32) (bl : Int32) (fr : Int32) (vl : Int64) (M : Nat) (hM : M ≤ 20) (v : Int64) : MetI (σ := ((Nat → Int32) × Int32)) l y_Md_number (Cond.code y_Md_number b_Md_number 5 (some .int)) (rmL 3) 0 0 G [.ref (ad 0), .long v] (wMd G ad tp tx wd ou wz pi tk si (nI M) md os at' wi ki le ze pl bl fr vl) X0 (fun r _ => r = if adOk M 0 then nI M else -1) (fun u => wMd G ad tp tx (if adOk M 0 then wr wd (40 * M) (dec v) else wd) ou (if adOk M 0 then upd wz M (nI (dec v).length) else wz) u.1 tk si (nI (if adOk M 0 then M + 1 else M)) md os at' wi ki le ze pl bl u.2 vl) := by
  refine MetI.mk2 (by decide) (Nat.le_of_ble_eq_true rfl) ?_
  intro p e s m args below meth c A ls Q S hw hX hl kret
  have hx := S.1
  have hb := S.2.1
  have hl : lv_has ls 5 [(0, .ref (ad 0)), (1, .long v)] := hl
  generalize hH0 : s.heap = H at hw ⊢
  generalize hL0 : ([] : List Loc) = locs at hw ⊢
  have hdl := dec_len (v := v)
  refine lv_aload_n hx hb d_Md_number_0 rfl (lv_at hl 0 rfl) ?_
  refine xget S hw fl_Md_40 0 rfl rfl d_Md_number_1 ?_
  refine lv_bipush (v := 20) hx hb d_Md_number_4 (by decide) ?_
  refine lv_icmp_ne (tgt := 11) hx hb d_Md_number_6 (by decide) (fun c1 => ?_) (fun c1 => ?_)
  · have c1 : ¬ M = 20 := fun q_ => c1 ((nI_eq (a := M) (b := 20) (by omega) (by omega)).mpr q_)
    have hz : adOk M 0 = true := by unfold adOk; rw [decide_eq_false c1]; rfl
    rw [hz] at kret
    refine lv_aload_n hx hb d_Md_number_11 rfl (lv_at hl 0 rfl) ?_
    refine lv_lload_n hx hb d_Md_number_12 rfl (lv_at hl 1 rfl) ?_
    refine zVv (As := [.long v]) (rest := []) S hw hl.1 vl_Md_43 (c_Md_decimal l G ad tp tx wd ou wz pi tk si (nI M) md os at' wi ki le ze pl bl fr vl v) 0 rfl rfl rfl ⟨rfl, rfl⟩ [0, 1, 2, 3, 4, 5, 6] [] [0, 1, 2, 3, 4, 5, 6] rfl rfl (by decide) rfl rfl rfl d_Md_number_13 (fun u => wMd G ad tp tx wd ou wz u tk si (nI M) md os at' wi ki le ze pl bl (nI (72 - (dec v).length)) vl) (fun _ => rfl) (fun pi1 H locs hsg hw => ?_)
    have hw : gW G A s (wMd G ad tp tx wd ou wz pi1 tk si (nI M) md os at' wi ki le ze pl bl (nI (72 - (dec v).length)) vl) H locs := hw
    refine lv_bipush (v := 72) hx hb d_Md_number_16 (by decide) ?_
    refine lv_aload_n hx hb d_Md_number_18 rfl (lv_at hl 0 rfl) ?_
    refine xget S hw fl_Md_47 0 rfl rfl d_Md_number_19 ?_
    refine lv_isub hx hb d_Md_number_22 ?_
    refine tpi (y := nI (dec v).length) (by rw [show (72 : Int32) = nI 72 from rfl, pk_sub (by omega)]; congr 1; omega) ?_
    refine lv_istore_n (lv' := [(3, .int (nI (dec v).length)), (0, .ref (ad 0)), (1, .long v)]) hx hb d_Md_number_23 rfl hl (by decide) rfl (fun ls hl => ?_)
    refine lv_iconst (v := 0) hx hb d_Md_number_24 (by decide) ?_
    refine lv_istore (lv' := [(4, .int 0), (3, .int (nI (dec v).length)), (0, .ref (ad 0)), (1, .long v)]) hx hb d_Md_number_25 hl (by decide) rfl (fun ls hl => ?_)
    have lp : ∀ (d i : Nat), i + d = (dec v).length → ∀ (H : Heap) (locs : List Loc) (ls : Array Slot), gW G A s (wMd G ad tp tx (wr wd (40 * M) (sg pi1 (72 - (dec v).length) i)) ou wz pi1 tk si (nI M) md os at' wi ki le ze pl bl (nI (72 - (dec v).length)) vl) H locs → lv_has ls 5 [(4, .int (nI i)), (3, .int (nI (dec v).length)), (0, .ref (ad 0)), (1, .long v)] → W p l e (rmL 3) s m args below meth c H locs 0 0 Q (F0 m 27 ls []) := by
      intro d
      induction d with
      | zero =>
        intro i hi H locs ls hw hl
        obtain rfl : i = (dec v).length := by omega
        rw [hsg] at hw
        refine lv_iload hx hb d_Md_number_27 (lv_at hl 0 rfl) ?_
        refine lv_iload_n hx hb d_Md_number_29 rfl (lv_at hl 1 rfl) ?_
        refine lv_icmp_ge (tgt := 66) hx hb d_Md_number_30 (by decide) (fun _ => ?_) (fun q_ => absurd ((nI_leI (by omega) (by omega)).mpr (by omega)) q_)
        refine lv_aload_n hx hb d_Md_number_66 rfl (lv_at hl 2 rfl) ?_
        refine xget S hw fl_Md_22 0 rfl rfl d_Md_number_67 ?_
        refine lv_aload_n hx hb d_Md_number_70 rfl (lv_at hl 2 rfl) ?_
        refine xget S hw fl_Md_40 0 rfl rfl d_Md_number_71 ?_
        refine lv_iload_n hx hb d_Md_number_74 rfl (lv_at hl 1 rfl) ?_
        refine xiast S hw 5 rfl (j := M) (by omega) (by decide) (ws' := wMd G ad tp tx (wr wd (40 * M) (dec v)) ou (upd wz M (nI (dec v).length)) pi1 tk si (nI M) md os at' wi ki le ze pl bl (nI (72 - (dec v).length)) vl) rfl d_Md_number_75 (fun H locs hw => ?_)
        refine lv_aload_n hx hb d_Md_number_76 rfl (lv_at hl 2 rfl) ?_
        refine lv_dup hx hb d_Md_number_77 rfl ?_
        refine xget S hw fl_Md_40 0 rfl rfl d_Md_number_78 ?_
        refine lv_iconst (v := 1) hx hb d_Md_number_81 (by decide) ?_
        refine lv_iadd hx hb d_Md_number_82 ?_
        refine tpi (y := nI (M + 1)) (nI_add M 1) ?_
        refine xput S hw fl_Md_40 0 rfl rfl rfl (Nat.le_of_ble_eq_true rfl) (ws' := wMd G ad tp tx (wr wd (40 * M) (dec v)) ou (upd wz M (nI (dec v).length)) pi1 tk si (nI (M + 1)) md os at' wi ki le ze pl bl (nI (72 - (dec v).length)) vl) rfl d_Md_number_83 (fun H locs hw => ?_)
        refine lv_aload_n hx hb d_Md_number_86 rfl (lv_at hl 2 rfl) ?_
        refine xget S hw fl_Md_40 0 rfl rfl d_Md_number_87 ?_
        refine lv_iconst (v := 1) hx hb d_Md_number_90 (by decide) ?_
        refine lv_isub hx hb d_Md_number_91 ?_
        refine tpi (y := nI M) (nI_pred M) ?_
        exact kret _ _ _ _ _ (pi1, nI (72 - (dec v).length)) hw rfl rfl d_Md_number_92
      | succ d ih =>
        intro i hi H locs ls hw hl
        have hpb : b8 (pi1 (72 - (dec v).length + i)) = pi1 (72 - (dec v).length + i) := by
          have h1 := sg_get (f := pi1) (p := 72 - (dec v).length) (n := (dec v).length) (i := i) (by omega)
          rw [hsg] at h1
          rw [← h1, List.getD_eq_getElem?_getD, List.getElem?_eq_getElem (show i < (dec v).length by omega)]
          exact dec_b8 _ (List.getElem_mem _)
        refine lv_iload hx hb d_Md_number_27 (lv_at hl 0 rfl) ?_
        refine lv_iload_n hx hb d_Md_number_29 rfl (lv_at hl 1 rfl) ?_
        refine lv_icmp_ge (tgt := 66) hx hb d_Md_number_30 (by decide) (fun q_ => absurd q_ (fun h => by have := (nI_leI (by omega) (by omega)).mp h; omega)) (fun _ => ?_)
        refine lv_aload_n hx hb d_Md_number_33 rfl (lv_at hl 2 rfl) ?_
        refine xget S hw fl_Md_16 0 rfl rfl d_Md_number_34 ?_
        refine lv_bipush (v := 40) hx hb d_Md_number_37 (by decide) ?_
        refine lv_aload_n hx hb d_Md_number_39 rfl (lv_at hl 2 rfl) ?_
        refine xget S hw fl_Md_40 0 rfl rfl d_Md_number_40 ?_
        refine lv_imul hx hb d_Md_number_43 ?_
        refine tpi (y := nI (40 * M)) (pk_mul 40 M) ?_
        refine lv_iload hx hb d_Md_number_44 (lv_at hl 0 rfl) ?_
        refine lv_iadd hx hb d_Md_number_46 ?_
        refine tpi (y := nI ((40 * M) + i)) (nI_add (40 * M) i) ?_
        refine lv_aload_n hx hb d_Md_number_47 rfl (lv_at hl 2 rfl) ?_
        refine xget S hw fl_Md_26 0 rfl rfl d_Md_number_48 ?_
        refine lv_aload_n hx hb d_Md_number_51 rfl (lv_at hl 2 rfl) ?_
        refine xget S hw fl_Md_47 0 rfl rfl d_Md_number_52 ?_
        refine lv_iload hx hb d_Md_number_55 (lv_at hl 0 rfl) ?_
        refine lv_iadd hx hb d_Md_number_57 ?_
        refine tpi (y := nI ((72 - (dec v).length) + i)) (nI_add (72 - (dec v).length) i) ?_
        refine xbald S hw 6 rfl (j := ((72 - (dec v).length) + i)) (by omega) (by decide) d_Md_number_58 ?_
        refine xbast S hw 3 rfl (j := ((40 * M) + i)) (y := pi1 (72 - (dec v).length + i)) (by omega) (by decide) hpb (ws' := wMd G ad tp tx (upd (wr wd (40 * M) (sg pi1 (72 - (dec v).length) i)) ((40 * M) + i) (pi1 (72 - (dec v).length + i))) ou wz pi1 tk si (nI M) md os at' wi ki le ze pl bl (nI (72 - (dec v).length)) vl) rfl d_Md_number_59 (fun H locs hw => ?_)
        refine lv_iinc (v := nI (i + 1)) (lv' := [(4, .int (nI (i + 1))), (3, .int (nI (dec v).length)), (0, .ref (ad 0)), (1, .long v)]) hx hb d_Md_number_60 hl (k := 0) rfl (nI_1 i) (by decide) rfl (fun ls hl => ?_)
        refine lv_goto (tgt := 27) hx hb d_Md_number_63 (by decide) ?_
        have e1 : upd (wr wd (40 * M) (sg pi1 (72 - (dec v).length) i)) (40 * M + i) (pi1 (72 - (dec v).length + i)) = wr wd (40 * M) (sg pi1 (72 - (dec v).length) (i + 1)) := by rw [wr_upd, wr_app (by rw [sg_len]), sg_succ]
        rw [e1] at hw
        exact ih (i + 1) (by omega) _ _ _ hw (lv_sub hl [0, 1, 2, 3] rfl)
    exact lp (dec v).length 0 (by omega) _ _ _ (by rw [sg_zero, wr_nil]; exact hw) hl
  · have c1 : M = 20 := (nI_eq (a := M) (b := 20) (by omega) (by omega)).mp c1
    have hz : adOk M 0 = false := by unfold adOk; rw [decide_eq_true c1]; rfl
    rw [hz] at kret
    refine lv_iconst (v := (-1)) hx hb d_Md_number_9 (by decide) ?_
    exact kret _ _ _ _ _ (pi, fr) hw rfl rfl d_Md_number_10
end
section
/-! ===== plain words for the model's parses ===== -/
theorem dec_facts {d : Int32} {v : Int64} (h1 : ¬ d < 0) (h2 : ¬ 9 < d) (h3 : ¬ v < -922337203685477580) (hv : v ≤ 0) : (10 * v < -9223372036854775808 + d.toInt64 ↔ (v = -922337203685477580 ∧ 8 < d)) ∧ (¬ (v = -922337203685477580 ∧ 8 < d) → d10 v d ≤ 0) := by
  have e0 : (0 : Int32).toInt = 0 := rfl
  have e9 : (9 : Int32).toInt = 9 := rfl
  have e8 : (8 : Int32).toInt = 8 := rfl
  have f0 : (0 : Int64).toInt = 0 := rfl
  have f10 : (10 : Int64).toInt = 10 := rfl
  have fa : (-922337203685477580 : Int64).toInt = -922337203685477580 := rfl
  have fm : (-9223372036854775808 : Int64).toInt = -9223372036854775808 := rfl
  rw [Int32.lt_iff_toInt_lt, e0] at h1
  rw [Int32.lt_iff_toInt_lt, e9] at h2
  rw [Int64.lt_iff_toInt_lt, fa] at h3
  rw [Int64.le_iff_toInt_le, f0] at hv
  have ed : d.toInt64.toInt = d.toInt := Int32.toInt_toInt64 d
  have g1 : (10 * v).toInt = 10 * v.toInt := by
    rw [Int64.toInt_mul, f10]
    exact Int.bmod_eq_of_le (by omega) (by omega)
  have g2 : (-9223372036854775808 + d.toInt64).toInt = -9223372036854775808 + d.toInt := by
    rw [Int64.toInt_add, fm, ed]
    exact Int.bmod_eq_of_le (by omega) (by omega)
  refine ⟨?_, ?_⟩
  · rw [Int64.lt_iff_toInt_lt, g1, g2, ← Int64.toInt_inj, fa, Int32.lt_iff_toInt_lt, e8]
    omega
  · intro hn
    rw [← Int64.toInt_inj, fa, Int32.lt_iff_toInt_lt, e8] at hn
    unfold d10
    rw [Int64.le_iff_toInt_le, f0, Int64.toInt_sub, g1, ed, Int.bmod_eq_of_le (by omega) (by omega)]
    omega
theorem hexd_neg (x : Int32) : hexd x < 0 ↔ hexd x = -1 := by
  unfold hexd
  have e0 : (0 : Int32).toInt = 0 := rfl
  split
  · rename_i h
    have h1 := h.1; have h2 := h.2
    obtain ⟨q, hq, rfl⟩ := nI_of2 (x := x) (M := 57) (n := 57) (by decide) (fun z => by
      rw [Int32.lt_iff_toInt_lt] at z; rw [Int32.le_iff_toInt_le, show (48 : Int32).toInt = 48 from rfl] at h1; omega) h2
    have h3 : 48 ≤ q := (nI_leI (a := 48) (b := q) (by decide) (by omega)).mp h1
    rw [show nI q - 48 = nI (q - 48) from pk_sub (b := 48) h3]
    constructor
    · intro z; exact absurd z (nI_pos (by omega))
    · intro z; exact absurd (show nI (q - 48) < 0 by rw [z]; decide) (nI_pos (by omega))
  · split
    · rename_i h
      have h1 := h.1; have h2 := h.2
      obtain ⟨q, hq, rfl⟩ := nI_of2 (x := x) (M := 102) (n := 102) (by decide) (fun z => by
        rw [Int32.lt_iff_toInt_lt] at z; rw [Int32.le_iff_toInt_le, show (97 : Int32).toInt = 97 from rfl] at h1; omega) h2
      have h3 : 97 ≤ q := (nI_leI (a := 97) (b := q) (by decide) (by omega)).mp h1
      rw [show nI q - 97 + 10 = nI (q - 97 + 10) from by rw [show nI q - 97 = nI (q - 97) from pk_sub (b := 97) h3]; exact nI_add _ 10]
      constructor
      · intro z; exact absurd z (nI_pos (by omega))
      · intro z; exact absurd (show nI (q - 97 + 10) < 0 by rw [z]; decide) (nI_pos (by omega))
    · split
      · rename_i h
        have h1 := h.1; have h2 := h.2
        obtain ⟨q, hq, rfl⟩ := nI_of2 (x := x) (M := 70) (n := 70) (by decide) (fun z => by
          rw [Int32.lt_iff_toInt_lt] at z; rw [Int32.le_iff_toInt_le, show (65 : Int32).toInt = 65 from rfl] at h1; omega) h2
        have h3 : 65 ≤ q := (nI_leI (a := 65) (b := q) (by decide) (by omega)).mp h1
        rw [show nI q - 65 + 10 = nI (q - 65 + 10) from by rw [show nI q - 65 = nI (q - 65) from pk_sub (b := 65) h3]; exact nI_add _ 10]
        constructor
        · intro z; exact absurd z (nI_pos (by omega))
        · intro z; exact absurd (show nI (q - 65 + 10) < 0 by rw [z]; decide) (nI_pos (by omega))
      · decide
theorem pI_0x {w : Nat → Int32} {f n p : Nat} {mi : Bool} (hp : p = pSg w f n) (hm : mi = pMi w f n) (hn : n = p + 2) (h0 : w (f + p) = 48) (h1 : w (f + p + 1) = 120) : pI w f n = none := by
  rw [pI_dec hp hm (by omega), if_neg (by omega), show n - p = 2 by omega]
  have e : pdc w 2 (f + p) 0 = none := by
    show (if dbad (w (f + p) - 48) 0 = true then none else pdc w 1 (f + p + 1) (d10 0 (w (f + p) - 48))) = none
    rw [h0]
    rw [if_neg (by decide)]
    show (if dbad (w (f + p + 1) - 48) _ = true then none else _) = none
    rw [h1]
    exact if_pos (by decide)
  rw [e]
  rfl
abbrev sMn (mi : Bool) (v : Int64) : Int64 := if mi then -v else v
abbrev bMn (mi : Bool) (v : Int64) : Option Int64 := if mi then some v else if v = -9223372036854775808 then none else some (-v)
def rHx (w : Nat → Int32) (b e : Nat) : Option Int64 := if b < e ∧ e - b ≤ 16 then phx w (e - b) b 0 else none
def rDc (w : Nat → Int32) (b e : Nat) : Option Int64 := if b < e then pdc w (e - b) b 0 else none
theorem pI_viaH {w : Nat → Int32} {f n p : Nat} {mi : Bool} (hp : p = pSg w f n) (hm : mi = pMi w f n) (h : p + 1 < n ∧ w (f + p) = 48 ∧ w (f + p + 1) = 120) : pI w f n = (rHx w (f + p + 2) (f + n)).map (sMn mi) := by
  by_cases h2 : p + 2 < n
  · rw [pI_hex hp hm ⟨h2, h.2⟩]
    unfold rHx
    rw [show f + n - (f + p + 2) = n - (p + 2) by omega]
    by_cases h3 : n ≤ p + 18
    · rw [if_pos h3, if_pos ⟨by omega, by omega⟩]
    · rw [if_neg h3, if_neg (by omega)]
      rfl
  · rw [pI_0x hp hm (by omega) h.2.1 h.2.2]
    unfold rHx
    rw [if_neg (by omega)]
    rfl
theorem pI_viaD {w : Nat → Int32} {f n p : Nat} {mi : Bool} (hp : p = pSg w f n) (hm : mi = pMi w f n) (h : ¬ (p + 1 < n ∧ w (f + p) = 48 ∧ w (f + p + 1) = 120)) : pI w f n = (rDc w (f + p) (f + n)).bind (bMn mi) := by
  have hple := pSg_le w f n
  rw [← hp] at hple
  rw [pI_dec hp hm (fun q => h ⟨by omega, q.2⟩)]
  unfold rDc
  rw [show f + n - (f + p) = n - p by omega]
  by_cases h3 : n = p
  · rw [if_pos h3, if_neg (by omega)]
    rfl
  · rw [if_neg h3, if_pos (by omega)]
theorem fupd_no {F : Fl4} {c : Int32} (h : isFl c = false) : fupd F c = F := by
  unfold isFl at h
  simp only [Bool.or_eq_false_iff] at h
  unfold fupd
  rw [h.1.1.1, h.1.1.2, h.1.2, h.2]
  simp
end
section
set_option maxHeartbeats 4000000 in
set_option maxRecDepth 100000 in
theorem c_Md_isHex (l : Launch) (G : gG) (ad : Nat → Nat) (tp : Nat → Int32) (tx : Nat → Int32) (wd : Nat → Int32) (ou : Nat → Int32) (wz : Nat → Int32) (pi : Nat → Int32) (tk : Int32) (si : Int32) (mn : Int32) (md : Int32) (os : Int32) (at' : Int32) (wi : Int32) (ki : Int32) (le : Int32) (ze : Int32) (pl : Int32) (bl : Int32) (fr : Int32) (vl : Int64) (b0 e0 : Nat) (mi : Bool) (hbe : b0 ≤ e0) (he : e0 ≤ 800) : MetI (σ := Int64) l y_Md_isHex (Cond.code y_Md_isHex b_Md_isHex 9 (some .boolean)) (rmL 1) 0 0 G [.ref (ad 0), .int (nI b0), .int (nI e0), .int (bI mi)] (wMd G ad tp tx wd ou wz pi tk si mn md os at' wi ki le ze pl bl fr vl) X0 (fun r u => (r = 1 ∧ (rHx wd b0 e0).map (sMn mi) = some u) ∨ (r = 0 ∧ rHx wd b0 e0 = none)) (fun u => wMd G ad tp tx wd ou wz pi tk si mn md os at' wi ki le ze pl bl fr u) := by
  refine MetI.mk2 (by decide) (Nat.le_of_ble_eq_true rfl) ?_
  intro p e s m args below meth c A ls Q S hw hX hl kret
  have hx := S.1
  have hb := S.2.1
  have hl : lv_has ls 9 [(0, .ref (ad 0)), (1, .int (nI b0)), (2, .int (nI e0)), (3, .int (bI mi))] := hl
  generalize hH0 : s.heap = H at hw ⊢
  generalize hL0 : ([] : List Loc) = locs at hw ⊢
  obtain ⟨RX, hRX⟩ : ∃ q, q = rHx wd b0 e0 := ⟨_, rfl⟩
  rw [← hRX] at kret
  unfold rHx at hRX
  refine lv_lconst (v := 0) hx hb d_Md_isHex_0 (by decide) ?_
  refine lv_lstore (lv' := [(4, .long 0), (0, .ref (ad 0)), (1, .int (nI b0)), (2, .int (nI e0)), (3, .int (bI mi))]) hx hb d_Md_isHex_1 hl (by decide) rfl (fun ls hl => ?_)
  have j78 : ∀ (gd : Bool) (v : Int64), (gd = true → RX = some v) → (gd = false → RX = none) → ∀ (H : Heap) (locs : List Loc) (ls : Array Slot), gW G A s (wMd G ad tp tx wd ou wz pi tk si mn md os at' wi ki le ze pl bl fr vl) H locs → lv_has ls 9 [(6, .int (bI gd)), (4, .long v), (0, .ref (ad 0)), (1, .int (nI b0)), (2, .int (nI e0)), (3, .int (bI mi))] → W p l e (rmL 1) s m args below meth c H locs 0 0 Q (F0 m 78 ls []) := by
    intro gd v hg1 hg2 H locs ls hw hl
    refine lv_aload_n hx hb d_Md_isHex_78 rfl (lv_at hl 2 rfl) ?_
    refine lv_iload_n hx hb d_Md_isHex_79 rfl (lv_at hl 5 rfl) ?_
    refine lv_if_eq (tgt := 89) hx hb d_Md_isHex_80 (by decide) (fun cm => ?_) (fun cm => ?_)
    · have cm : mi = false := bI_z cm
      refine lv_lload hx hb d_Md_isHex_89 (lv_at hl 1 rfl) ?_
      refine xput S hw fl_Md_62 0 rfl rfl rfl (Nat.le_of_ble_eq_true rfl) (ws' := wMd G ad tp tx wd ou wz pi tk si mn md os at' wi ki le ze pl bl fr v) rfl d_Md_isHex_91 (fun H locs hw => ?_)
      refine lv_iload hx hb d_Md_isHex_94 (lv_at hl 0 rfl) ?_
      cases gd
      · exact kret _ _ _ _ _ v hw (Or.inr ⟨rfl, hg2 rfl⟩) rfl d_Md_isHex_96
      · exact kret _ _ _ _ _ v hw (Or.inl ⟨rfl, by rw [hg1 rfl, cm]; rfl⟩) rfl d_Md_isHex_96
    · have cm : mi = true := bI_t cm
      refine lv_lload hx hb d_Md_isHex_83 (lv_at hl 1 rfl) ?_
      refine lv_lneg hx hb d_Md_isHex_85 ?_
      refine lv_goto (tgt := 91) hx hb d_Md_isHex_86 (by decide) ?_
      refine xput S hw fl_Md_62 0 rfl rfl rfl (Nat.le_of_ble_eq_true rfl) (ws' := wMd G ad tp tx wd ou wz pi tk si mn md os at' wi ki le ze pl bl fr (-v)) rfl d_Md_isHex_91 (fun H locs hw => ?_)
      refine lv_iload hx hb d_Md_isHex_94 (lv_at hl 0 rfl) ?_
      cases gd
      · exact kret _ _ _ _ _ (-v) hw (Or.inr ⟨rfl, hg2 rfl⟩) rfl d_Md_isHex_96
      · exact kret _ _ _ _ _ (-v) hw (Or.inl ⟨rfl, by rw [hg1 rfl, cm]; rfl⟩) rfl d_Md_isHex_96
  have lp : ∀ (d k : Nat) (gd : Bool) (v : Int64), k + d = e0 → (gd = true → phx wd (e0 - k) k v = RX) → (gd = false → RX = none) → ∀ (H : Heap) (locs : List Loc) (ls : Array Slot), gW G A s (wMd G ad tp tx wd ou wz pi tk si mn md os at' wi ki le ze pl bl fr vl) H locs → lv_has ls 9 [(7, .int (nI k)), (6, .int (bI gd)), (4, .long v), (0, .ref (ad 0)), (1, .int (nI b0)), (2, .int (nI e0)), (3, .int (bI mi))] → W p l e (rmL 1) s m args below meth c H locs 0 0 Q (F0 m 26 ls []) := by
    intro d
    induction d with
    | zero =>
      intro k gd v hk hg1 hg2 H locs ls hw hl
      refine lv_iload hx hb d_Md_isHex_26 (lv_at hl 0 rfl) ?_
      refine lv_iload_n hx hb d_Md_isHex_28 rfl (lv_at hl 5 rfl) ?_
      refine lv_icmp_ge (tgt := 78) hx hb d_Md_isHex_29 (by decide) (fun _ => ?_) (fun q_ => absurd ((nI_leI (by omega) (by omega)).mpr (by omega)) q_)
      exact j78 gd v (fun h => by rw [← hg1 h, show e0 - k = 0 by omega]; rfl) hg2 _ _ _ hw (lv_sub hl [1, 2, 3, 4, 5, 6] rfl)
    | succ d ih =>
      intro k gd v hk hg1 hg2 H locs ls hw hl
      refine lv_iload hx hb d_Md_isHex_26 (lv_at hl 0 rfl) ?_
      refine lv_iload_n hx hb d_Md_isHex_28 rfl (lv_at hl 5 rfl) ?_
      refine lv_icmp_ge (tgt := 78) hx hb d_Md_isHex_29 (by decide) (fun q_ => absurd q_ (fun h => by have := (nI_leI (by omega) (by omega)).mp h; omega)) (fun _ => ?_)
      refine lv_iload hx hb d_Md_isHex_32 (lv_at hl 1 rfl) ?_
      refine lv_if_eq (tgt := 78) hx hb d_Md_isHex_34 (by decide) (fun cg => ?_) (fun cg => ?_)
      · have cg : gd = false := bI_z cg
        exact j78 gd v (fun h => by rw [cg] at h; cases h) hg2 _ _ _ hw (lv_sub hl [1, 2, 3, 4, 5, 6] rfl)
      · have cg : gd = true := bI_t cg
        have hg1 := hg1 cg
        rw [show e0 - k = (e0 - (k + 1)) + 1 by omega] at hg1
        refine lv_aload_n hx hb d_Md_isHex_37 rfl (lv_at hl 3 rfl) ?_
        refine xget S hw fl_Md_16 0 rfl rfl d_Md_isHex_38 ?_
        refine lv_iload hx hb d_Md_isHex_41 (lv_at hl 0 rfl) ?_
        refine xbald S hw 3 rfl (j := k) (by omega) (by decide) d_Md_isHex_43 ?_
        refine zSi (As := [.int (wd k)]) (rest := []) S hw hl.1 sl_Md_58 (c_Md_hex l G (wd k)) XB0 (fun _ _ _ => trivial) rfl ⟨rfl, rfl⟩ [] [0, 1, 2, 3, 4, 5, 6] [0, 1, 2, 3, 4, 5, 6] rfl rfl (by decide) rfl rfl rfl d_Md_isHex_44 (fun _ => wMd G ad tp tx wd ou wz pi tk si mn md os at' wi ki le ze pl bl fr vl) (fun _ => rfl) (fun r_44 _ H locs hpx hw => ?_)
        subst hpx
        refine lv_istore (lv' := [(8, .int (hexd (wd k))), (7, .int (nI k)), (6, .int (bI gd)), (4, .long v), (0, .ref (ad 0)), (1, .int (nI b0)), (2, .int (nI e0)), (3, .int (bI mi))]) hx hb d_Md_isHex_47 hl (by decide) rfl (fun ls hl => ?_)
        refine lv_iload hx hb d_Md_isHex_49 (lv_at hl 0 rfl) ?_
        refine lv_iconst (v := (-1)) hx hb d_Md_isHex_51 (by decide) ?_
        have j60 : ∀ (g2 : Bool), g2 = decide (hexd (wd k) ≠ -1) → ∀ (H : Heap) (locs : List Loc) (ls : Array Slot), gW G A s (wMd G ad tp tx wd ou wz pi tk si mn md os at' wi ki le ze pl bl fr vl) H locs → lv_has ls 9 [(8, .int (hexd (wd k))), (7, .int (nI k)), (6, .int (bI gd)), (4, .long v), (0, .ref (ad 0)), (1, .int (nI b0)), (2, .int (nI e0)), (3, .int (bI mi))] → W p l e (rmL 1) s m args below meth c H locs 0 0 Q (F0 m 60 ls [.int (bI g2)]) := by
          intro g2 hg H locs ls hw hl
          refine lv_istore (lv' := [(6, .int (bI g2)), (8, .int (hexd (wd k))), (7, .int (nI k)), (4, .long v), (0, .ref (ad 0)), (1, .int (nI b0)), (2, .int (nI e0)), (3, .int (bI mi))]) hx hb d_Md_isHex_60 hl (by decide) rfl (fun ls hl => ?_)
          refine lv_lload hx hb d_Md_isHex_62 (lv_at hl 3 rfl) ?_
          refine lv_iconst (v := 4) hx hb d_Md_isHex_64 (by decide) ?_
          refine lv_lshl hx hb d_Md_isHex_65 rfl ?_
          refine lv_iload hx hb d_Md_isHex_66 (lv_at hl 1 rfl) ?_
          refine lv_i2l hx hb d_Md_isHex_68 rfl ?_
          refine lv_lor hx hb d_Md_isHex_69 ?_
          refine tpl (y := hx64 v (hexd (wd k))) rfl ?_
          refine lv_lstore (lv' := [(4, .long (hx64 v (hexd (wd k)))), (6, .int (bI g2)), (8, .int (hexd (wd k))), (7, .int (nI k)), (0, .ref (ad 0)), (1, .int (nI b0)), (2, .int (nI e0)), (3, .int (bI mi))]) hx hb d_Md_isHex_70 hl (by decide) rfl (fun ls hl => ?_)
          refine lv_iinc (v := nI (k + 1)) (lv' := [(7, .int (nI (k + 1))), (4, .long (hx64 v (hexd (wd k)))), (6, .int (bI g2)), (8, .int (hexd (wd k))), (0, .ref (ad 0)), (1, .int (nI b0)), (2, .int (nI e0)), (3, .int (bI mi))]) hx hb d_Md_isHex_72 hl (k := 3) rfl (nI_1 k) (by decide) rfl (fun ls hl => ?_)
          refine lv_goto (tgt := 26) hx hb d_Md_isHex_75 (by decide) ?_
          refine ih (k + 1) g2 _ (by omega) ?_ ?_ _ _ _ hw (lv_sub hl [0, 2, 1, 4, 5, 6, 7] rfl)
          · intro h
            rw [hg, decide_eq_true_eq] at h
            rw [← hg1]
            show _ = (if hexd (wd k) < 0 then none else _ : Option Int64)
            rw [if_neg (fun z => h ((hexd_neg _).mp z))]
          · intro h
            rw [hg, decide_eq_false_iff_not] at h
            rw [← hg1]
            show (if hexd (wd k) < 0 then none else _ : Option Int64) = none
            rw [if_pos ((hexd_neg _).mpr (Classical.not_not.mp h))]
        refine lv_icmp_eq (tgt := 59) hx hb d_Md_isHex_52 (by decide) (fun cd => ?_) (fun cd => ?_)
        · refine lv_iconst (v := 0) hx hb d_Md_isHex_59 (by decide) ?_
          refine tpi (y := bI false) rfl ?_
          exact j60 false (by rw [cd]; decide) _ _ _ hw hl
        · refine lv_iconst (v := 1) hx hb d_Md_isHex_55 (by decide) ?_
          refine lv_goto (tgt := 60) hx hb d_Md_isHex_56 (by decide) ?_
          refine tpi (y := bI true) rfl ?_
          exact j60 true (by rw [decide_eq_true cd]) _ _ _ hw hl
  have j21 : ∀ (gd : Bool), gd = decide (b0 < e0 ∧ e0 - b0 ≤ 16) → ∀ (H : Heap) (locs : List Loc) (ls : Array Slot), gW G A s (wMd G ad tp tx wd ou wz pi tk si mn md os at' wi ki le ze pl bl fr vl) H locs → lv_has ls 9 [(4, .long 0), (0, .ref (ad 0)), (1, .int (nI b0)), (2, .int (nI e0)), (3, .int (bI mi))] → W p l e (rmL 1) s m args below meth c H locs 0 0 Q (F0 m 21 ls [.int (bI gd)]) := by
    intro gd hg H locs ls hw hl
    refine lv_istore (lv' := [(6, .int (bI gd)), (4, .long 0), (0, .ref (ad 0)), (1, .int (nI b0)), (2, .int (nI e0)), (3, .int (bI mi))]) hx hb d_Md_isHex_21 hl (by decide) rfl (fun ls hl => ?_)
    refine lv_iload_n hx hb d_Md_isHex_23 rfl (lv_at hl 3 rfl) ?_
    refine lv_istore (lv' := [(7, .int (nI b0)), (6, .int (bI gd)), (4, .long 0), (0, .ref (ad 0)), (1, .int (nI b0)), (2, .int (nI e0)), (3, .int (bI mi))]) hx hb d_Md_isHex_24 hl (by decide) rfl (fun ls hl => ?_)
    refine lp (e0 - b0) b0 gd 0 (by omega) ?_ ?_ _ _ _ hw (lv_sub hl [0, 1, 2, 3, 4, 5, 6] rfl)
    · intro h
      rw [hg, decide_eq_true_eq] at h
      rw [hRX, if_pos h]
    · intro h
      rw [hg, decide_eq_false_iff_not] at h
      rw [hRX, if_neg h]
  refine lv_iload_n hx hb d_Md_isHex_3 rfl (lv_at hl 2 rfl) ?_
  refine lv_iload_n hx hb d_Md_isHex_4 rfl (lv_at hl 3 rfl) ?_
  refine lv_icmp_ge (tgt := 20) hx hb d_Md_isHex_5 (by decide) (fun c1 => ?_) (fun c1 => ?_)
  · have c1 : e0 ≤ b0 := (nI_leI (a := e0) (b := b0) (by omega) (by omega)).mp c1
    refine lv_iconst (v := 0) hx hb d_Md_isHex_20 (by decide) ?_
    refine tpi (y := bI false) rfl ?_
    exact j21 false (by rw [decide_eq_false (by omega)]) _ _ _ hw hl
  · have c1 : ¬ e0 ≤ b0 := fun q_ => c1 ((nI_leI (a := e0) (b := b0) (by omega) (by omega)).mpr q_)
    refine lv_iload_n hx hb d_Md_isHex_8 rfl (lv_at hl 3 rfl) ?_
    refine lv_iload_n hx hb d_Md_isHex_9 rfl (lv_at hl 2 rfl) ?_
    refine lv_isub hx hb d_Md_isHex_10 ?_
    refine tpi (y := nI (e0 - b0)) (pk_sub hbe) ?_
    refine lv_bipush (v := 16) hx hb d_Md_isHex_11 (by decide) ?_
    refine lv_icmp_gt (tgt := 20) hx hb d_Md_isHex_13 (by decide) (fun c2 => ?_) (fun c2 => ?_)
    · have c2 : 16 < (e0 - b0) := (nI_ltI (a := 16) (b := (e0 - b0)) (by omega) (by omega)).mp c2
      refine lv_iconst (v := 0) hx hb d_Md_isHex_20 (by decide) ?_
      refine tpi (y := bI false) rfl ?_
      exact j21 false (by rw [decide_eq_false (by omega)]) _ _ _ hw hl
    · have c2 : ¬ 16 < (e0 - b0) := fun q_ => c2 ((nI_ltI (a := 16) (b := (e0 - b0)) (by omega) (by omega)).mpr q_)
      refine lv_iconst (v := 1) hx hb d_Md_isHex_16 (by decide) ?_
      refine lv_goto (tgt := 21) hx hb d_Md_isHex_17 (by decide) ?_
      refine tpi (y := bI true) rfl ?_
      exact j21 true (by rw [decide_eq_true (by omega)]) _ _ _ hw hl
set_option maxHeartbeats 4000000 in
set_option maxRecDepth 100000 in
theorem c_Md_isDecimal (l : Launch) (G : gG) (ad : Nat → Nat) (tp : Nat → Int32) (tx : Nat → Int32) (wd : Nat → Int32) (ou : Nat → Int32) (wz : Nat → Int32) (pi : Nat → Int32) (tk : Int32) (si : Int32) (mn : Int32) (md : Int32) (os : Int32) (at' : Int32) (wi : Int32) (ki : Int32) (le : Int32) (ze : Int32) (pl : Int32) (bl : Int32) (fr : Int32) (vl : Int64) (b0 e0 : Nat) (mi : Bool) (hbe : b0 ≤ e0) (he : e0 ≤ 800) : MetI (σ := Int64) l y_Md_isDecimal (Cond.code y_Md_isDecimal b_Md_isDecimal 9 (some .boolean)) (rmL 0) 0 0 G [.ref (ad 0), .int (nI b0), .int (nI e0), .int (bI mi)] (wMd G ad tp tx wd ou wz pi tk si mn md os at' wi ki le ze pl bl fr vl) X0 (fun r u => (r = 1 ∧ (rDc wd b0 e0).bind (bMn mi) = some u) ∨ (r = 0 ∧ (rDc wd b0 e0).bind (bMn mi) = none)) (fun u => wMd G ad tp tx wd ou wz pi tk si mn md os at' wi ki le ze pl bl fr u) := by
  refine MetI.mk2 (by decide) (Nat.le_of_ble_eq_true rfl) ?_
  intro p e s m args below meth c A ls Q S hw hX hl kret
  have hx := S.1
  have hb := S.2.1
  have hl : lv_has ls 9 [(0, .ref (ad 0)), (1, .int (nI b0)), (2, .int (nI e0)), (3, .int (bI mi))] := hl
  generalize hH0 : s.heap = H at hw ⊢
  generalize hL0 : ([] : List Loc) = locs at hw ⊢
  obtain ⟨RD, hRD⟩ : ∃ q, q = rDc wd b0 e0 := ⟨_, rfl⟩
  rw [← hRD] at kret
  unfold rDc at hRD
  refine lv_lconst (v := 0) hx hb d_Md_isDecimal_0 (by decide) ?_
  refine lv_lstore (lv' := [(4, .long 0), (0, .ref (ad 0)), (1, .int (nI b0)), (2, .int (nI e0)), (3, .int (bI mi))]) hx hb d_Md_isDecimal_1 hl (by decide) rfl (fun ls hl => ?_)
  have j136 : ∀ (gd : Bool) (v : Int64), (gd = true → RD.bind (bMn mi) = some (if mi then v else -v)) → (gd = false → RD.bind (bMn mi) = none) → ∀ (H : Heap) (locs : List Loc) (ls : Array Slot), gW G A s (wMd G ad tp tx wd ou wz pi tk si mn md os at' wi ki le ze pl bl fr vl) H locs → lv_has ls 9 [(4, .long v), (0, .ref (ad 0)), (1, .int (nI b0)), (2, .int (nI e0)), (3, .int (bI mi))] → W p l e (rmL 0) s m args below meth c H locs 0 0 Q (F0 m 136 ls [.int (bI gd)]) := by
    intro gd v hg1 hg2 H locs ls hw hl
    refine lv_istore (lv' := [(6, .int (bI gd)), (4, .long v), (0, .ref (ad 0)), (1, .int (nI b0)), (2, .int (nI e0)), (3, .int (bI mi))]) hx hb d_Md_isDecimal_136 hl (by decide) rfl (fun ls hl => ?_)
    refine lv_aload_n hx hb d_Md_isDecimal_138 rfl (lv_at hl 2 rfl) ?_
    refine lv_iload_n hx hb d_Md_isDecimal_139 rfl (lv_at hl 5 rfl) ?_
    refine lv_if_eq (tgt := 148) hx hb d_Md_isDecimal_140 (by decide) (fun cm => ?_) (fun cm => ?_)
    · have cm : mi = false := bI_z cm
      refine lv_lload hx hb d_Md_isDecimal_148 (lv_at hl 1 rfl) ?_
      refine lv_lneg hx hb d_Md_isDecimal_150 ?_
      refine xput S hw fl_Md_62 0 rfl rfl rfl (Nat.le_of_ble_eq_true rfl) (ws' := wMd G ad tp tx wd ou wz pi tk si mn md os at' wi ki le ze pl bl fr (-v)) rfl d_Md_isDecimal_151 (fun H locs hw => ?_)
      refine lv_iload hx hb d_Md_isDecimal_154 (lv_at hl 0 rfl) ?_
      cases gd
      · exact kret _ _ _ _ _ (-v) hw (Or.inr ⟨rfl, hg2 rfl⟩) rfl d_Md_isDecimal_156
      · exact kret _ _ _ _ _ (-v) hw (Or.inl ⟨rfl, by rw [hg1 rfl, cm]; rfl⟩) rfl d_Md_isDecimal_156
    · have cm : mi = true := bI_t cm
      refine lv_lload hx hb d_Md_isDecimal_143 (lv_at hl 1 rfl) ?_
      refine lv_goto (tgt := 151) hx hb d_Md_isDecimal_145 (by decide) ?_
      refine xput S hw fl_Md_62 0 rfl rfl rfl (Nat.le_of_ble_eq_true rfl) (ws' := wMd G ad tp tx wd ou wz pi tk si mn md os at' wi ki le ze pl bl fr v) rfl d_Md_isDecimal_151 (fun H locs hw => ?_)
      refine lv_iload hx hb d_Md_isDecimal_154 (lv_at hl 0 rfl) ?_
      cases gd
      · exact kret _ _ _ _ _ v hw (Or.inr ⟨rfl, hg2 rfl⟩) rfl d_Md_isDecimal_156
      · exact kret _ _ _ _ _ v hw (Or.inl ⟨rfl, by rw [hg1 rfl, cm]; rfl⟩) rfl d_Md_isDecimal_156
  have j113 : ∀ (gd : Bool) (v : Int64), (gd = true → RD = some v) → (gd = false → RD = none) → ∀ (H : Heap) (locs : List Loc) (ls : Array Slot), gW G A s (wMd G ad tp tx wd ou wz pi tk si mn md os at' wi ki le ze pl bl fr vl) H locs → lv_has ls 9 [(6, .int (bI gd)), (4, .long v), (0, .ref (ad 0)), (1, .int (nI b0)), (2, .int (nI e0)), (3, .int (bI mi))] → W p l e (rmL 0) s m args below meth c H locs 0 0 Q (F0 m 113 ls []) := by
    intro gd v hg1 hg2 H locs ls hw hl
    refine lv_iload hx hb d_Md_isDecimal_113 (lv_at hl 0 rfl) ?_
    refine lv_if_eq (tgt := 135) hx hb d_Md_isDecimal_115 (by decide) (fun cg => ?_) (fun cg => ?_)
    · have cg : gd = false := bI_z cg
      refine lv_iconst (v := 0) hx hb d_Md_isDecimal_135 (by decide) ?_
      refine tpi (y := bI false) rfl ?_
      exact j136 false v (fun h => by cases h) (fun _ => by rw [hg2 cg]; rfl) _ _ _ hw (lv_sub hl [1, 2, 3, 4, 5] rfl)
    · have cg : gd = true := bI_t cg
      have hg1 := hg1 cg
      refine lv_iload_n hx hb d_Md_isDecimal_118 rfl (lv_at hl 5 rfl) ?_
      refine lv_if_ne (tgt := 131) hx hb d_Md_isDecimal_119 (by decide) (fun cm => ?_) (fun cm => ?_)
      · have cm : mi = true := bI_t cm
        refine lv_iconst (v := 1) hx hb d_Md_isDecimal_131 (by decide) ?_
        refine lv_goto (tgt := 136) hx hb d_Md_isDecimal_132 (by decide) ?_
        refine tpi (y := bI true) rfl ?_
        exact j136 true v (fun _ => by rw [hg1, cm]; rfl) (fun h => by cases h) _ _ _ hw (lv_sub hl [1, 2, 3, 4, 5] rfl)
      · have cm : mi = false := bI_z cm
        refine lv_lload hx hb d_Md_isDecimal_122 (lv_at hl 1 rfl) ?_
        refine lv_ldc2 (v := (-9223372036854775808)) hx hb S.2.2.2.1 (S.2.2.2.2 _ k_423) d_Md_isDecimal_124 ?_
        refine xl_eq (tgt := 135) S d_Md_isDecimal_127 d_Md_isDecimal_128 (by decide) (fun cv => ?_) (fun cv => ?_)
        · refine lv_iconst (v := 0) hx hb d_Md_isDecimal_135 (by decide) ?_
          refine tpi (y := bI false) rfl ?_
          exact j136 false v (fun h => by cases h) (fun _ => by rw [hg1, cm, cv]; rfl) _ _ _ hw (lv_sub hl [1, 2, 3, 4, 5] rfl)
        · refine lv_iconst (v := 1) hx hb d_Md_isDecimal_131 (by decide) ?_
          refine lv_goto (tgt := 136) hx hb d_Md_isDecimal_132 (by decide) ?_
          refine tpi (y := bI true) rfl ?_
          exact j136 true v (fun _ => by rw [hg1, cm]; show bMn false v = _; unfold bMn; rw [if_neg (by decide), if_neg cv]; rfl) (fun h => by cases h) _ _ _ hw (lv_sub hl [1, 2, 3, 4, 5] rfl)
  have lp : ∀ (d k : Nat) (gd : Bool) (v : Int64), k + d = e0 → v ≤ 0 → (gd = true → pdc wd (e0 - k) k v = RD) → (gd = false → RD = none) → ∀ (H : Heap) (locs : List Loc) (ls : Array Slot), gW G A s (wMd G ad tp tx wd ou wz pi tk si mn md os at' wi ki le ze pl bl fr vl) H locs → lv_has ls 9 [(7, .int (nI k)), (6, .int (bI gd)), (4, .long v), (0, .ref (ad 0)), (1, .int (nI b0)), (2, .int (nI e0)), (3, .int (bI mi))] → W p l e (rmL 0) s m args below meth c H locs 0 0 Q (F0 m 18 ls []) := by
    intro d
    induction d with
    | zero =>
      intro k gd v hk hv0 hg1 hg2 H locs ls hw hl
      refine lv_iload hx hb d_Md_isDecimal_18 (lv_at hl 0 rfl) ?_
      refine lv_iload_n hx hb d_Md_isDecimal_20 rfl (lv_at hl 5 rfl) ?_
      refine lv_icmp_ge (tgt := 113) hx hb d_Md_isDecimal_21 (by decide) (fun _ => ?_) (fun q_ => absurd ((nI_leI (by omega) (by omega)).mpr (by omega)) q_)
      exact j113 gd v (fun h => by rw [← hg1 h, show e0 - k = 0 by omega]; rfl) hg2 _ _ _ hw (lv_sub hl [1, 2, 3, 4, 5, 6] rfl)
    | succ d ih =>
      intro k gd v hk hv0 hg1 hg2 H locs ls hw hl
      refine lv_iload hx hb d_Md_isDecimal_18 (lv_at hl 0 rfl) ?_
      refine lv_iload_n hx hb d_Md_isDecimal_20 rfl (lv_at hl 5 rfl) ?_
      refine lv_icmp_ge (tgt := 113) hx hb d_Md_isDecimal_21 (by decide) (fun q_ => absurd q_ (fun h => by have := (nI_leI (by omega) (by omega)).mp h; omega)) (fun _ => ?_)
      refine lv_iload hx hb d_Md_isDecimal_24 (lv_at hl 1 rfl) ?_
      refine lv_if_eq (tgt := 113) hx hb d_Md_isDecimal_26 (by decide) (fun cg => ?_) (fun cg => ?_)
      · have cg : gd = false := bI_z cg
        exact j113 gd v (fun h => by rw [cg] at h; cases h) hg2 _ _ _ hw (lv_sub hl [1, 2, 3, 4, 5, 6] rfl)
      · have cg : gd = true := bI_t cg
        have hg1 := hg1 cg
        rw [show e0 - k = (e0 - (k + 1)) + 1 by omega] at hg1
        obtain ⟨dd, hdd⟩ : ∃ q, q = wd k - 48 := ⟨_, rfl⟩
        refine lv_aload_n hx hb d_Md_isDecimal_29 rfl (lv_at hl 3 rfl) ?_
        refine xget S hw fl_Md_16 0 rfl rfl d_Md_isDecimal_30 ?_
        refine lv_iload hx hb d_Md_isDecimal_33 (lv_at hl 0 rfl) ?_
        refine xbald S hw 3 rfl (j := k) (by omega) (by decide) d_Md_isDecimal_35 ?_
        refine lv_bipush (v := 48) hx hb d_Md_isDecimal_36 (by decide) ?_
        refine lv_isub hx hb d_Md_isDecimal_38 ?_
        refine tpi (y := dd) hdd.symm ?_
        refine lv_istore (lv' := [(8, .int dd), (7, .int (nI k)), (6, .int (bI gd)), (4, .long v), (0, .ref (ad 0)), (1, .int (nI b0)), (2, .int (nI e0)), (3, .int (bI mi))]) hx hb d_Md_isDecimal_39 hl (by decide) rfl (fun ls hl => ?_)
        have j84 : ∀ (g2 : Bool), g2 = !dbad dd v → (g2 = true → d10 v dd ≤ 0) → ∀ (H : Heap) (locs : List Loc) (ls : Array Slot), gW G A s (wMd G ad tp tx wd ou wz pi tk si mn md os at' wi ki le ze pl bl fr vl) H locs → lv_has ls 9 [(8, .int dd), (7, .int (nI k)), (6, .int (bI gd)), (4, .long v), (0, .ref (ad 0)), (1, .int (nI b0)), (2, .int (nI e0)), (3, .int (bI mi))] → W p l e (rmL 0) s m args below meth c H locs 0 0 Q (F0 m 84 ls [.int (bI g2)]) := by
          intro g2 hg hle H locs ls hw hl
          refine lv_istore (lv' := [(6, .int (bI g2)), (8, .int dd), (7, .int (nI k)), (4, .long v), (0, .ref (ad 0)), (1, .int (nI b0)), (2, .int (nI e0)), (3, .int (bI mi))]) hx hb d_Md_isDecimal_84 hl (by decide) rfl (fun ls hl => ?_)
          refine lv_iload hx hb d_Md_isDecimal_86 (lv_at hl 0 rfl) ?_
          refine lv_if_eq (tgt := 104) hx hb d_Md_isDecimal_88 (by decide) (fun c2 => ?_) (fun c2 => ?_)
          · have c2 : g2 = false := bI_z c2
            refine lv_lconst (v := 0) hx hb d_Md_isDecimal_104 (by decide) ?_
            refine lv_lstore (lv' := [(4, .long 0), (6, .int (bI g2)), (8, .int dd), (7, .int (nI k)), (0, .ref (ad 0)), (1, .int (nI b0)), (2, .int (nI e0)), (3, .int (bI mi))]) hx hb d_Md_isDecimal_105 hl (by decide) rfl (fun ls hl => ?_)
            refine lv_iinc (v := nI (k + 1)) (lv' := [(7, .int (nI (k + 1))), (4, .long 0), (6, .int (bI g2)), (8, .int dd), (0, .ref (ad 0)), (1, .int (nI b0)), (2, .int (nI e0)), (3, .int (bI mi))]) hx hb d_Md_isDecimal_107 hl (k := 3) rfl (nI_1 k) (by decide) rfl (fun ls hl => ?_)
            refine lv_goto (tgt := 18) hx hb d_Md_isDecimal_110 (by decide) ?_
            refine ih (k + 1) g2 0 (by omega) (by decide) (fun h => by rw [c2] at h; cases h) (fun _ => ?_) _ _ _ hw (lv_sub hl [0, 2, 1, 4, 5, 6, 7] rfl)
            rw [c2] at hg
            have hb3 : dbad (wd k - 48) v = true := by rw [← hdd]; cases hq : dbad dd v; rw [hq] at hg; cases hg; rfl
            rw [← hg1]
            show (if dbad (wd k - 48) v = true then none else _ : Option Int64) = none
            rw [if_pos hb3]
          · have c2 : g2 = true := bI_t c2
            refine lv_ldc2 (v := 10) hx hb S.2.2.2.1 (S.2.2.2.2 _ k_369) d_Md_isDecimal_91 ?_
            refine lv_lload hx hb d_Md_isDecimal_94 (lv_at hl 3 rfl) ?_
            refine lv_lmul hx hb d_Md_isDecimal_96 ?_
            refine lv_iload hx hb d_Md_isDecimal_97 (lv_at hl 1 rfl) ?_
            refine lv_i2l hx hb d_Md_isDecimal_99 rfl ?_
            refine lv_lsub hx hb d_Md_isDecimal_100 ?_
            refine tpl (y := d10 v dd) rfl ?_
            refine lv_goto (tgt := 105) hx hb d_Md_isDecimal_101 (by decide) ?_
            refine lv_lstore (lv' := [(4, .long (d10 v dd)), (6, .int (bI g2)), (8, .int dd), (7, .int (nI k)), (0, .ref (ad 0)), (1, .int (nI b0)), (2, .int (nI e0)), (3, .int (bI mi))]) hx hb d_Md_isDecimal_105 hl (by decide) rfl (fun ls hl => ?_)
            refine lv_iinc (v := nI (k + 1)) (lv' := [(7, .int (nI (k + 1))), (4, .long (d10 v dd)), (6, .int (bI g2)), (8, .int dd), (0, .ref (ad 0)), (1, .int (nI b0)), (2, .int (nI e0)), (3, .int (bI mi))]) hx hb d_Md_isDecimal_107 hl (k := 3) rfl (nI_1 k) (by decide) rfl (fun ls hl => ?_)
            refine lv_goto (tgt := 18) hx hb d_Md_isDecimal_110 (by decide) ?_
            refine ih (k + 1) g2 _ (by omega) (hle c2) (fun _ => ?_) (fun h => by rw [c2] at h; cases h) _ _ _ hw (lv_sub hl [0, 2, 1, 4, 5, 6, 7] rfl)
            rw [c2] at hg
            have hb3 : dbad (wd k - 48) v = false := by rw [← hdd]; cases hq : dbad dd v; rfl; rw [hq] at hg; cases hg
            rw [← hg1, hdd]
            show _ = (if dbad (wd k - 48) v = true then none else _ : Option Int64)
            rw [if_neg (by rw [hb3]; decide)]
        refine lv_iload hx hb d_Md_isDecimal_41 (lv_at hl 0 rfl) ?_
        refine lv_if_lt (tgt := 83) hx hb d_Md_isDecimal_43 (by decide) (fun b1 => ?_) (fun b1 => ?_)
        · refine lv_iconst (v := 0) hx hb d_Md_isDecimal_83 (by decide) ?_
          refine tpi (y := bI false) rfl ?_
          exact j84 false (by unfold dbad; simp [b1]) (fun h => by cases h) _ _ _ hw hl
        · refine lv_iload hx hb d_Md_isDecimal_46 (lv_at hl 0 rfl) ?_
          refine lv_bipush (v := 9) hx hb d_Md_isDecimal_48 (by decide) ?_
          refine lv_icmp_gt (tgt := 83) hx hb d_Md_isDecimal_50 (by decide) (fun b2 => ?_) (fun b2 => ?_)
          · refine lv_iconst (v := 0) hx hb d_Md_isDecimal_83 (by decide) ?_
            refine tpi (y := bI false) rfl ?_
            exact j84 false (by unfold dbad; simp [b2]) (fun h => by cases h) _ _ _ hw hl
          · refine lv_lload hx hb d_Md_isDecimal_53 (lv_at hl 3 rfl) ?_
            refine lv_ldc2 (v := (-922337203685477580)) hx hb S.2.2.2.1 (S.2.2.2.2 _ k_422) d_Md_isDecimal_55 ?_
            refine xl_lt (tgt := 83) S d_Md_isDecimal_58 d_Md_isDecimal_59 (by decide) (fun b3 => ?_) (fun b3 => ?_)
            · refine lv_iconst (v := 0) hx hb d_Md_isDecimal_83 (by decide) ?_
              refine tpi (y := bI false) rfl ?_
              exact j84 false (by unfold dbad; simp [b3]) (fun h => by cases h) _ _ _ hw hl
            · have hdf := dec_facts b1 b2 b3 hv0
              refine lv_ldc2 (v := 10) hx hb S.2.2.2.1 (S.2.2.2.2 _ k_369) d_Md_isDecimal_62 ?_
              refine lv_lload hx hb d_Md_isDecimal_65 (lv_at hl 3 rfl) ?_
              refine lv_lmul hx hb d_Md_isDecimal_67 ?_
              refine lv_ldc2 (v := (-9223372036854775808)) hx hb S.2.2.2.1 (S.2.2.2.2 _ k_423) d_Md_isDecimal_68 ?_
              refine lv_iload hx hb d_Md_isDecimal_71 (lv_at hl 0 rfl) ?_
              refine lv_i2l hx hb d_Md_isDecimal_73 rfl ?_
              refine lv_ladd hx hb d_Md_isDecimal_74 ?_
              refine xl_lt (tgt := 83) S d_Md_isDecimal_75 d_Md_isDecimal_76 (by decide) (fun b4 => ?_) (fun b4 => ?_)
              · have b5 := hdf.1.mp b4
                refine lv_iconst (v := 0) hx hb d_Md_isDecimal_83 (by decide) ?_
                refine tpi (y := bI false) rfl ?_
                exact j84 false (by unfold dbad; simp [b5.1, b5.2]) (fun h => by cases h) _ _ _ hw hl
              · have b5 : ¬ (v = -922337203685477580 ∧ 8 < dd) := fun z => b4 (hdf.1.mpr z)
                refine lv_iconst (v := 1) hx hb d_Md_isDecimal_79 (by decide) ?_
                refine lv_goto (tgt := 84) hx hb d_Md_isDecimal_80 (by decide) ?_
                refine tpi (y := bI true) rfl ?_
                refine j84 true ?_ (fun _ => hdf.2 b5) _ _ _ hw hl
                unfold dbad
                rw [decide_eq_false b1, decide_eq_false b2, decide_eq_false b3]
                by_cases z1 : v = -922337203685477580
                · rw [decide_eq_false (fun z => b5 ⟨z1, z⟩)]; simp
                · rw [decide_eq_false z1]; simp
  have j13 : ∀ (gd : Bool), gd = decide (b0 < e0) → ∀ (H : Heap) (locs : List Loc) (ls : Array Slot), gW G A s (wMd G ad tp tx wd ou wz pi tk si mn md os at' wi ki le ze pl bl fr vl) H locs → lv_has ls 9 [(4, .long 0), (0, .ref (ad 0)), (1, .int (nI b0)), (2, .int (nI e0)), (3, .int (bI mi))] → W p l e (rmL 0) s m args below meth c H locs 0 0 Q (F0 m 13 ls [.int (bI gd)]) := by
    intro gd hg H locs ls hw hl
    refine lv_istore (lv' := [(6, .int (bI gd)), (4, .long 0), (0, .ref (ad 0)), (1, .int (nI b0)), (2, .int (nI e0)), (3, .int (bI mi))]) hx hb d_Md_isDecimal_13 hl (by decide) rfl (fun ls hl => ?_)
    refine lv_iload_n hx hb d_Md_isDecimal_15 rfl (lv_at hl 3 rfl) ?_
    refine lv_istore (lv' := [(7, .int (nI b0)), (6, .int (bI gd)), (4, .long 0), (0, .ref (ad 0)), (1, .int (nI b0)), (2, .int (nI e0)), (3, .int (bI mi))]) hx hb d_Md_isDecimal_16 hl (by decide) rfl (fun ls hl => ?_)
    refine lp (e0 - b0) b0 gd 0 (by omega) (by decide) ?_ ?_ _ _ _ hw (lv_sub hl [0, 1, 2, 3, 4, 5, 6] rfl)
    · intro h
      rw [hg, decide_eq_true_eq] at h
      rw [hRD, if_pos h]
    · intro h
      rw [hg, decide_eq_false_iff_not] at h
      rw [hRD, if_neg h]
  refine lv_iload_n hx hb d_Md_isDecimal_3 rfl (lv_at hl 2 rfl) ?_
  refine lv_iload_n hx hb d_Md_isDecimal_4 rfl (lv_at hl 3 rfl) ?_
  refine lv_icmp_ge (tgt := 12) hx hb d_Md_isDecimal_5 (by decide) (fun c1 => ?_) (fun c1 => ?_)
  · have c1 : e0 ≤ b0 := (nI_leI (a := e0) (b := b0) (by omega) (by omega)).mp c1
    refine lv_iconst (v := 0) hx hb d_Md_isDecimal_12 (by decide) ?_
    refine tpi (y := bI false) rfl ?_
    exact j13 false (by rw [decide_eq_false (by omega)]) _ _ _ hw hl
  · have c1 : ¬ e0 ≤ b0 := fun q_ => c1 ((nI_leI (a := e0) (b := b0) (by omega) (by omega)).mpr q_)
    refine lv_iconst (v := 1) hx hb d_Md_isDecimal_8 (by decide) ?_
    refine lv_goto (tgt := 13) hx hb d_Md_isDecimal_9 (by decide) ?_
    refine tpi (y := bI true) rfl ?_
    exact j13 true (by rw [decide_eq_true (by omega)]) _ _ _ hw hl
set_option maxHeartbeats 4000000 in
set_option maxRecDepth 100000 in
theorem c_Md_isInteger (l : Launch) (G : gG) (ad : Nat → Nat) (tp : Nat → Int32) (tx : Nat → Int32) (wd : Nat → Int32) (ou : Nat → Int32) (wz : Nat → Int32) (pi : Nat → Int32) (tk : Int32) (si : Int32) (mn : Int32) (md : Int32) (os : Int32) (at' : Int32) (wi : Int32) (ki : Int32) (le : Int32) (ze : Int32) (pl : Int32) (bl : Int32) (fr : Int32) (vl : Int64) (a la : Nat) (ha : a < 20) (hla : la ≤ 40) (hwz : wz a = nI la) : MetI (σ := Int64) l y_Md_isInteger (Cond.code y_Md_isInteger b_Md_isInteger 7 (some .boolean)) (rmL 2) 0 0 G [.ref (ad 0), .int (nI a)] (wMd G ad tp tx wd ou wz pi tk si mn md os at' wi ki le ze pl bl fr vl) X0 (fun r u => (r = 1 ∧ pI wd (40 * a) la = some u) ∨ (r = 0 ∧ pI wd (40 * a) la = none)) (fun u => wMd G ad tp tx wd ou wz pi tk si mn md os at' wi ki le ze pl bl fr u) := by
  refine MetI.mk2 (by decide) (Nat.le_of_ble_eq_true rfl) ?_
  intro p e s m args below meth c A ls Q S hw hX hl kret
  have hx := S.1
  have hb := S.2.1
  have hl : lv_has ls 7 [(0, .ref (ad 0)), (1, .int (nI a))] := hl
  generalize hH0 : s.heap = H at hw ⊢
  generalize hL0 : ([] : List Loc) = locs at hw ⊢
  obtain ⟨p1, hp⟩ : ∃ q, q = pSg wd (40 * a) la := ⟨_, rfl⟩
  obtain ⟨mi, hmi⟩ : ∃ q, q = pMi wd (40 * a) la := ⟨_, rfl⟩
  have hple := pSg_le wd (40 * a) la
  rw [← hp] at hple
  refine lv_bipush (v := 40) hx hb d_Md_isInteger_0 (by decide) ?_
  refine lv_iload_n hx hb d_Md_isInteger_2 rfl (lv_at hl 1 rfl) ?_
  refine lv_imul hx hb d_Md_isInteger_3 ?_
  refine tpi (y := nI (40 * a)) (pk_mul 40 a) ?_
  refine lv_istore_n (lv' := [(2, .int (nI (40 * a))), (0, .ref (ad 0)), (1, .int (nI a))]) hx hb d_Md_isInteger_4 rfl hl (by decide) rfl (fun ls hl => ?_)
  refine lv_iload_n hx hb d_Md_isInteger_5 rfl (lv_at hl 0 rfl) ?_
  refine lv_aload_n hx hb d_Md_isInteger_6 rfl (lv_at hl 1 rfl) ?_
  refine xget S hw fl_Md_22 0 rfl rfl d_Md_isInteger_7 ?_
  refine lv_iload_n hx hb d_Md_isInteger_10 rfl (lv_at hl 2 rfl) ?_
  refine xiald S hw 5 rfl (j := a) (by omega) (by decide) d_Md_isInteger_11 ?_
  refine tpi (y := nI la) hwz ?_
  refine lv_iadd hx hb d_Md_isInteger_12 ?_
  refine tpi (y := nI ((40 * a) + la)) (nI_add (40 * a) la) ?_
  refine lv_istore_n (lv' := [(3, .int (nI ((40 * a) + la))), (2, .int (nI (40 * a))), (0, .ref (ad 0)), (1, .int (nI a))]) hx hb d_Md_isInteger_13 rfl hl (by decide) rfl (fun ls hl => ?_)
  have j106 : ∀ (hx1 : Bool), hx1 = decide (p1 + 1 < la ∧ wd (40 * a + p1) = 48 ∧ wd (40 * a + p1 + 1) = 120) → ∀ (H : Heap) (locs : List Loc) (ls : Array Slot), gW G A s (wMd G ad tp tx wd ou wz pi tk si mn md os at' wi ki le ze pl bl fr vl) H locs → lv_has ls 7 [(5, .int (nI (40 * a + p1))), (4, .int (bI mi)), (3, .int (nI (40 * a + la))), (2, .int (nI (40 * a))), (0, .ref (ad 0)), (1, .int (nI a))] → W p l e (rmL 2) s m args below meth c H locs 0 0 Q (F0 m 106 ls [.int (bI hx1)]) := by
    intro hx1 hh H locs ls hw hl
    refine lv_istore (lv' := [(6, .int (bI hx1)), (5, .int (nI (40 * a + p1))), (4, .int (bI mi)), (3, .int (nI (40 * a + la))), (2, .int (nI (40 * a))), (0, .ref (ad 0)), (1, .int (nI a))]) hx hb d_Md_isInteger_106 hl (by decide) rfl (fun ls hl => ?_)
    refine lv_iload hx hb d_Md_isInteger_108 (lv_at hl 0 rfl) ?_
    refine lv_if_eq (tgt := 127) hx hb d_Md_isInteger_110 (by decide) (fun ch => ?_) (fun ch => ?_)
    · have ch : hx1 = false := bI_z ch
      rw [ch] at hh
      have hpi := pI_viaD hp hmi (of_decide_eq_false hh.symm)
      refine lv_aload_n hx hb d_Md_isInteger_127 rfl (lv_at hl 5 rfl) ?_
      refine lv_iload hx hb d_Md_isInteger_128 (lv_at hl 1 rfl) ?_
      refine lv_iload_n hx hb d_Md_isInteger_130 rfl (lv_at hl 3 rfl) ?_
      refine lv_iload hx hb d_Md_isInteger_131 (lv_at hl 2 rfl) ?_
      refine zVi (As := [.int (nI (40 * a + p1)), .int (nI (40 * a + la)), .int (bI mi)]) (rest := []) S hw hl.1 vl_Md_74 (c_Md_isDecimal l G ad tp tx wd ou wz pi tk si mn md os at' wi ki le ze pl bl fr vl (40 * a + p1) (40 * a + la) mi (by omega) (by omega)) 0 rfl rfl rfl ⟨rfl, rfl⟩ [0, 1, 2, 3, 4, 5, 6] [] [0, 1, 2, 3, 4, 5, 6] rfl rfl (by decide) rfl rfl rfl d_Md_isInteger_133 (fun u => wMd G ad tp tx wd ou wz pi tk si mn md os at' wi ki le ze pl bl fr u) (fun _ => rfl) (fun r_133 u2 H locs hpc hw => ?_)
      rw [← hpi] at hpc
      have hnar : narrow .boolean (.int r_133) = .int r_133 := by rcases hpc with h | h <;> (rw [h.1]; rfl)
      exact kret _ _ _ _ _ u2 hw hpc hnar d_Md_isInteger_136
    · have ch : hx1 = true := bI_t ch
      rw [ch] at hh
      have hhc := of_decide_eq_true hh.symm
      have hpi := pI_viaH hp hmi hhc
      refine lv_aload_n hx hb d_Md_isInteger_113 rfl (lv_at hl 5 rfl) ?_
      refine lv_iload hx hb d_Md_isInteger_114 (lv_at hl 1 rfl) ?_
      refine lv_iconst (v := 2) hx hb d_Md_isInteger_116 (by decide) ?_
      refine lv_iadd hx hb d_Md_isInteger_117 ?_
      refine tpi (y := nI ((40 * a + p1) + 2)) (nI_add (40 * a + p1) 2) ?_
      refine lv_iload_n hx hb d_Md_isInteger_118 rfl (lv_at hl 3 rfl) ?_
      refine lv_iload hx hb d_Md_isInteger_119 (lv_at hl 2 rfl) ?_
      refine zVi (As := [.int (nI ((40 * a + p1) + 2)), .int (nI (40 * a + la)), .int (bI mi)]) (rest := []) S hw hl.1 vl_Md_70 (c_Md_isHex l G ad tp tx wd ou wz pi tk si mn md os at' wi ki le ze pl bl fr vl (40 * a + p1 + 2) (40 * a + la) mi (by omega) (by omega)) 0 rfl rfl rfl ⟨rfl, rfl⟩ [0, 1, 2, 3, 4, 5, 6] [] [0, 1, 2, 3, 4, 5, 6] rfl rfl (by decide) rfl rfl rfl d_Md_isInteger_121 (fun u => wMd G ad tp tx wd ou wz pi tk si mn md os at' wi ki le ze pl bl fr u) (fun _ => rfl) (fun r_121 u2 H locs hpc hw => ?_)
      have hpc2 : (r_121 = 1 ∧ pI wd (40 * a) la = some u2) ∨ (r_121 = 0 ∧ pI wd (40 * a) la = none) := by
        rw [hpi]
        rcases hpc with h | h
        · exact Or.inl h
        · exact Or.inr ⟨h.1, by rw [h.2]; rfl⟩
      have hnar : narrow .boolean (.int r_121) = .int r_121 := by rcases hpc with h | h <;> (rw [h.1]; rfl)
      refine lv_goto (tgt := 136) hx hb d_Md_isInteger_124 (by decide) ?_
      exact kret _ _ _ _ _ u2 hw hpc2 hnar d_Md_isInteger_136
  have j65 : ∀ (_ : Unit), ∀ (H : Heap) (locs : List Loc) (ls : Array Slot), gW G A s (wMd G ad tp tx wd ou wz pi tk si mn md os at' wi ki le ze pl bl fr vl) H locs → lv_has ls 7 [(4, .int (bI mi)), (3, .int (nI (40 * a + la))), (2, .int (nI (40 * a))), (0, .ref (ad 0)), (1, .int (nI a))] → W p l e (rmL 2) s m args below meth c H locs 0 0 Q (F0 m 65 ls [.int (nI (40 * a + p1))]) := by
    intro _ H locs ls hw hl
    refine lv_istore (lv' := [(5, .int (nI (40 * a + p1))), (4, .int (bI mi)), (3, .int (nI (40 * a + la))), (2, .int (nI (40 * a))), (0, .ref (ad 0)), (1, .int (nI a))]) hx hb d_Md_isInteger_65 hl (by decide) rfl (fun ls hl => ?_)
    refine lv_iload hx hb d_Md_isInteger_67 (lv_at hl 0 rfl) ?_
    refine lv_iconst (v := 1) hx hb d_Md_isInteger_69 (by decide) ?_
    refine lv_iadd hx hb d_Md_isInteger_70 ?_
    refine tpi (y := nI ((40 * a + p1) + 1)) (nI_add (40 * a + p1) 1) ?_
    refine lv_iload_n hx hb d_Md_isInteger_71 rfl (lv_at hl 2 rfl) ?_
    refine lv_icmp_ge (tgt := 105) hx hb d_Md_isInteger_72 (by decide) (fun c1 => ?_) (fun c1 => ?_)
    · have c1 : (40 * a + la) ≤ ((40 * a + p1) + 1) := (nI_leI (a := (40 * a + la)) (b := ((40 * a + p1) + 1)) (by omega) (by omega)).mp c1
      refine lv_iconst (v := 0) hx hb d_Md_isInteger_105 (by decide) ?_
      refine tpi (y := bI false) rfl ?_
      exact j106 false (by rw [decide_eq_false (fun h => by omega)]) _ _ _ hw hl
    · have c1 : ¬ (40 * a + la) ≤ ((40 * a + p1) + 1) := fun q_ => c1 ((nI_leI (a := (40 * a + la)) (b := ((40 * a + p1) + 1)) (by omega) (by omega)).mpr q_)
      refine lv_aload_n hx hb d_Md_isInteger_75 rfl (lv_at hl 4 rfl) ?_
      refine xget S hw fl_Md_16 0 rfl rfl d_Md_isInteger_76 ?_
      refine lv_iload hx hb d_Md_isInteger_79 (lv_at hl 0 rfl) ?_
      refine xbald S hw 3 rfl (j := (40 * a + p1)) (by omega) (by decide) d_Md_isInteger_81 ?_
      refine lv_bipush (v := 48) hx hb d_Md_isInteger_82 (by decide) ?_
      refine lv_icmp_ne (tgt := 105) hx hb d_Md_isInteger_84 (by decide) (fun c2 => ?_) (fun c2 => ?_)
      · refine lv_iconst (v := 0) hx hb d_Md_isInteger_105 (by decide) ?_
        refine tpi (y := bI false) rfl ?_
        exact j106 false (by rw [decide_eq_false (fun h => c2 h.2.1)]) _ _ _ hw hl
      · refine lv_aload_n hx hb d_Md_isInteger_87 rfl (lv_at hl 4 rfl) ?_
        refine xget S hw fl_Md_16 0 rfl rfl d_Md_isInteger_88 ?_
        refine lv_iload hx hb d_Md_isInteger_91 (lv_at hl 0 rfl) ?_
        refine lv_iconst (v := 1) hx hb d_Md_isInteger_93 (by decide) ?_
        refine lv_iadd hx hb d_Md_isInteger_94 ?_
        refine tpi (y := nI ((40 * a + p1) + 1)) (nI_add (40 * a + p1) 1) ?_
        refine xbald S hw 3 rfl (j := ((40 * a + p1) + 1)) (by omega) (by decide) d_Md_isInteger_95 ?_
        refine lv_bipush (v := 120) hx hb d_Md_isInteger_96 (by decide) ?_
        refine lv_icmp_ne (tgt := 105) hx hb d_Md_isInteger_98 (by decide) (fun c3 => ?_) (fun c3 => ?_)
        · refine lv_iconst (v := 0) hx hb d_Md_isInteger_105 (by decide) ?_
          refine tpi (y := bI false) rfl ?_
          exact j106 false (by rw [decide_eq_false (fun h => c3 h.2.2)]) _ _ _ hw hl
        · refine lv_iconst (v := 1) hx hb d_Md_isInteger_101 (by decide) ?_
          refine lv_goto (tgt := 106) hx hb d_Md_isInteger_102 (by decide) ?_
          refine tpi (y := bI true) rfl ?_
          exact j106 true (by rw [decide_eq_true ⟨by omega, c2, c3⟩]) _ _ _ hw hl
  have j35 : ∀ (_ : Unit), ∀ (H : Heap) (locs : List Loc) (ls : Array Slot), gW G A s (wMd G ad tp tx wd ou wz pi tk si mn md os at' wi ki le ze pl bl fr vl) H locs → lv_has ls 7 [(3, .int (nI (40 * a + la))), (2, .int (nI (40 * a))), (0, .ref (ad 0)), (1, .int (nI a))] → W p l e (rmL 2) s m args below meth c H locs 0 0 Q (F0 m 35 ls [.int (bI mi)]) := by
    intro _ H locs ls hw hl
    refine lv_istore (lv' := [(4, .int (bI mi)), (3, .int (nI (40 * a + la))), (2, .int (nI (40 * a))), (0, .ref (ad 0)), (1, .int (nI a))]) hx hb d_Md_isInteger_35 hl (by decide) rfl (fun ls hl => ?_)
    refine lv_iload_n hx hb d_Md_isInteger_37 rfl (lv_at hl 2 rfl) ?_
    refine lv_iload_n hx hb d_Md_isInteger_38 rfl (lv_at hl 1 rfl) ?_
    refine lv_icmp_ge (tgt := 64) hx hb d_Md_isInteger_39 (by decide) (fun c1 => ?_) (fun c1 => ?_)
    · have c1 : (40 * a + la) ≤ (40 * a) := (nI_leI (a := (40 * a + la)) (b := (40 * a)) (by omega) (by omega)).mp c1
      refine lv_iload_n hx hb d_Md_isInteger_64 rfl (lv_at hl 2 rfl) ?_
      refine tpi (y := nI (40 * a + p1)) (by rw [show p1 = 0 from by rw [hp]; unfold pSg; rw [if_neg (fun h => by omega)]]; rfl) ?_
      exact j65 () _ _ _ hw hl
    · have c1 : ¬ (40 * a + la) ≤ (40 * a) := fun q_ => c1 ((nI_leI (a := (40 * a + la)) (b := (40 * a)) (by omega) (by omega)).mpr q_)
      refine lv_iload hx hb d_Md_isInteger_42 (lv_at hl 0 rfl) ?_
      refine lv_if_ne (tgt := 58) hx hb d_Md_isInteger_44 (by decide) (fun c2 => ?_) (fun c2 => ?_)
      · have c2 : mi = true := bI_t c2
        have c4 : wd (40 * a) = 45 := by rw [hmi] at c2; unfold pMi at c2; exact (of_decide_eq_true c2).2
        refine lv_iload_n hx hb d_Md_isInteger_58 rfl (lv_at hl 2 rfl) ?_
        refine lv_iconst (v := 1) hx hb d_Md_isInteger_59 (by decide) ?_
        refine lv_iadd hx hb d_Md_isInteger_60 ?_
        refine tpi (y := nI ((40 * a) + 1)) (nI_add (40 * a) 1) ?_
        refine lv_goto (tgt := 65) hx hb d_Md_isInteger_61 (by decide) ?_
        refine tpi (y := nI (40 * a + p1)) (by rw [show p1 = 1 from by rw [hp]; unfold pSg; rw [if_pos ⟨by omega, Or.inl c4⟩]]) ?_
        exact j65 () _ _ _ hw hl
      · have c2 : mi = false := bI_z c2
        have c4 : ¬ wd (40 * a) = 45 := fun z => by rw [hmi] at c2; unfold pMi at c2; exact of_decide_eq_false c2 ⟨by omega, z⟩
        refine lv_aload_n hx hb d_Md_isInteger_47 rfl (lv_at hl 3 rfl) ?_
        refine xget S hw fl_Md_16 0 rfl rfl d_Md_isInteger_48 ?_
        refine lv_iload_n hx hb d_Md_isInteger_51 rfl (lv_at hl 2 rfl) ?_
        refine xbald S hw 3 rfl (j := (40 * a)) (by omega) (by decide) d_Md_isInteger_52 ?_
        refine lv_bipush (v := 43) hx hb d_Md_isInteger_53 (by decide) ?_
        refine lv_icmp_ne (tgt := 64) hx hb d_Md_isInteger_55 (by decide) (fun c3 => ?_) (fun c3 => ?_)
        · refine lv_iload_n hx hb d_Md_isInteger_64 rfl (lv_at hl 2 rfl) ?_
          refine tpi (y := nI (40 * a + p1)) (by rw [show p1 = 0 from by rw [hp]; unfold pSg; rw [if_neg (fun h => h.2.elim c4 c3)]]; rfl) ?_
          exact j65 () _ _ _ hw hl
        · refine lv_iload_n hx hb d_Md_isInteger_58 rfl (lv_at hl 2 rfl) ?_
          refine lv_iconst (v := 1) hx hb d_Md_isInteger_59 (by decide) ?_
          refine lv_iadd hx hb d_Md_isInteger_60 ?_
          refine tpi (y := nI ((40 * a) + 1)) (nI_add (40 * a) 1) ?_
          refine lv_goto (tgt := 65) hx hb d_Md_isInteger_61 (by decide) ?_
          refine tpi (y := nI (40 * a + p1)) (by rw [show p1 = 1 from by rw [hp]; unfold pSg; rw [if_pos ⟨by omega, Or.inr c3⟩]]) ?_
          exact j65 () _ _ _ hw hl
  refine lv_iload_n hx hb d_Md_isInteger_14 rfl (lv_at hl 1 rfl) ?_
  refine lv_iload_n hx hb d_Md_isInteger_15 rfl (lv_at hl 0 rfl) ?_
  refine lv_icmp_ge (tgt := 34) hx hb d_Md_isInteger_16 (by decide) (fun c1 => ?_) (fun c1 => ?_)
  · have c1 : ((40 * a) + la) ≤ (40 * a) := (nI_leI (a := ((40 * a) + la)) (b := (40 * a)) (by omega) (by omega)).mp c1
    refine lv_iconst (v := 0) hx hb d_Md_isInteger_34 (by decide) ?_
    refine tpi (y := bI mi) (by rw [show mi = false from by rw [hmi]; unfold pMi; rw [decide_eq_false (fun h => by omega)]]; rfl) ?_
    exact j35 () _ _ _ hw hl
  · have c1 : ¬ ((40 * a) + la) ≤ (40 * a) := fun q_ => c1 ((nI_leI (a := ((40 * a) + la)) (b := (40 * a)) (by omega) (by omega)).mpr q_)
    refine lv_aload_n hx hb d_Md_isInteger_19 rfl (lv_at hl 2 rfl) ?_
    refine xget S hw fl_Md_16 0 rfl rfl d_Md_isInteger_20 ?_
    refine lv_iload_n hx hb d_Md_isInteger_23 rfl (lv_at hl 1 rfl) ?_
    refine xbald S hw 3 rfl (j := (40 * a)) (by omega) (by decide) d_Md_isInteger_24 ?_
    refine lv_bipush (v := 45) hx hb d_Md_isInteger_25 (by decide) ?_
    refine lv_icmp_ne (tgt := 34) hx hb d_Md_isInteger_27 (by decide) (fun c2 => ?_) (fun c2 => ?_)
    · refine lv_iconst (v := 0) hx hb d_Md_isInteger_34 (by decide) ?_
      refine tpi (y := bI mi) (by rw [show mi = false from by rw [hmi]; unfold pMi; rw [decide_eq_false (fun h => c2 h.2)]]; rfl) ?_
      exact j35 () _ _ _ hw hl
    · refine lv_iconst (v := 1) hx hb d_Md_isInteger_30 (by decide) ?_
      refine lv_goto (tgt := 35) hx hb d_Md_isInteger_31 (by decide) ?_
      refine tpi (y := bI mi) (by rw [show mi = true from by rw [hmi]; unfold pMi; rw [decide_eq_true ⟨by omega, c2⟩]]; rfl) ?_
      exact j35 () _ _ _ hw hl
end
section
set_option maxHeartbeats 4000000 in
set_option maxRecDepth 100000 in
theorem c_Md_flag (l : Launch) (G : gG) (ad : Nat → Nat) (tp : Nat → Int32) (tx : Nat → Int32) (wd : Nat → Int32) (ou : Nat → Int32) (wz : Nat → Int32) (pi : Nat → Int32) (tk : Int32) (mn : Int32) (md : Int32) (os : Int32) (wi : Int32) (ki : Int32) (fr : Int32) (vl : Int64) (n j : Nat) (F : Fl4) (hnn : n ≤ 400) (hj : j ≤ 1000) : MetI (σ := Unit) l y_Md_flag (Cond.code y_Md_flag b_Md_flag 2 (some .boolean)) (rmL 0) 0 0 G [.ref (ad 0)] (wMd G ad tp tx wd ou wz pi tk (nI n) mn md os (nI j) wi ki (bI F.1) (bI F.2.1) (bI F.2.2.1) (bI F.2.2.2) fr vl) X0 (fun r _ => r = bI (isFl (fcA tx n j))) (fun _ => wMd G ad tp tx wd ou wz pi tk (nI n) mn md os (nI j) wi ki (bI (fupd F (fcA tx n j)).1) (bI (fupd F (fcA tx n j)).2.1) (bI (fupd F (fcA tx n j)).2.2.1) (bI (fupd F (fcA tx n j)).2.2.2) fr vl) := by
  refine MetI.mk2 (by decide) (Nat.le_of_ble_eq_true rfl) ?_
  intro p e s m args below meth c A ls Q S hw hX hl kret
  have hx := S.1
  have hb := S.2.1
  have hl : lv_has ls 2 [(0, .ref (ad 0))] := hl
  generalize hH0 : s.heap = H at hw ⊢
  generalize hL0 : ([] : List Loc) = locs at hw ⊢
  obtain ⟨ch, hch⟩ : ∃ q, q = fcA tx n j := ⟨_, rfl⟩
  rw [← hch] at kret
  have j24 : ∀ (_ : Unit), ∀ (H : Heap) (locs : List Loc) (ls : Array Slot), gW G A s (wMd G ad tp tx wd ou wz pi tk (nI n) mn md os (nI j) wi ki (bI F.1) (bI F.2.1) (bI F.2.2.1) (bI F.2.2.2) fr vl) H locs → lv_has ls 2 [(0, .ref (ad 0))] → W p l e (rmL 0) s m args below meth c H locs 0 0 Q (F0 m 24 ls [.int ch]) := by
    intro _ H locs ls hw hl
    refine lv_istore_n (lv' := [(1, .int ch), (0, .ref (ad 0))]) hx hb d_Md_flag_24 rfl hl (by decide) rfl (fun ls hl => ?_)
    have jj0 : ∀ (_ : Unit), ∀ (H : Heap) (locs : List Loc) (ls : Array Slot), gW G A s (wMd G ad tp tx wd ou wz pi tk (nI n) mn md os (nI j) wi ki (bI F.1) (bI F.2.1) (bI F.2.2.1) (bI F.2.2.2) fr vl) H locs → lv_has ls 2 [(1, .int ch), (0, .ref (ad 0))] → W p l e (rmL 0) s m args below meth c H locs 0 0 Q (F0 m 44 ls [.int (bI (F.1 || decide (ch = 45))), .ref (ad 0)]) := by
      intro _ H locs ls hw hl
      refine xput S hw fl_Md_80 0 rfl (bI_n _) (bI_f _) (Nat.le_of_ble_eq_true rfl) (ws' := wMd G ad tp tx wd ou wz pi tk (nI n) mn md os (nI j) wi ki (bI (F.1 || decide (ch = 45))) (bI F.2.1) (bI F.2.2.1) (bI F.2.2.2) fr vl) rfl d_Md_flag_44 (fun H locs hw => ?_)
      have jj1 : ∀ (_ : Unit), ∀ (H : Heap) (locs : List Loc) (ls : Array Slot), gW G A s (wMd G ad tp tx wd ou wz pi tk (nI n) mn md os (nI j) wi ki (bI (F.1 || decide (ch = 45))) (bI F.2.1) (bI F.2.2.1) (bI F.2.2.2) fr vl) H locs → lv_has ls 2 [(1, .int ch), (0, .ref (ad 0))] → W p l e (rmL 0) s m args below meth c H locs 0 0 Q (F0 m 66 ls [.int (bI (F.2.1 || decide (ch = 48))), .ref (ad 0)]) := by
        intro _ H locs ls hw hl
        refine xput S hw fl_Md_84 0 rfl (bI_n _) (bI_f _) (Nat.le_of_ble_eq_true rfl) (ws' := wMd G ad tp tx wd ou wz pi tk (nI n) mn md os (nI j) wi ki (bI (F.1 || decide (ch = 45))) (bI (F.2.1 || decide (ch = 48))) (bI F.2.2.1) (bI F.2.2.2) fr vl) rfl d_Md_flag_66 (fun H locs hw => ?_)
        have jj2 : ∀ (_ : Unit), ∀ (H : Heap) (locs : List Loc) (ls : Array Slot), gW G A s (wMd G ad tp tx wd ou wz pi tk (nI n) mn md os (nI j) wi ki (bI (F.1 || decide (ch = 45))) (bI (F.2.1 || decide (ch = 48))) (bI F.2.2.1) (bI F.2.2.2) fr vl) H locs → lv_has ls 2 [(1, .int ch), (0, .ref (ad 0))] → W p l e (rmL 0) s m args below meth c H locs 0 0 Q (F0 m 88 ls [.int (bI (F.2.2.1 || decide (ch = 43))), .ref (ad 0)]) := by
          intro _ H locs ls hw hl
          refine xput S hw fl_Md_87 0 rfl (bI_n _) (bI_f _) (Nat.le_of_ble_eq_true rfl) (ws' := wMd G ad tp tx wd ou wz pi tk (nI n) mn md os (nI j) wi ki (bI (F.1 || decide (ch = 45))) (bI (F.2.1 || decide (ch = 48))) (bI (F.2.2.1 || decide (ch = 43))) (bI F.2.2.2) fr vl) rfl d_Md_flag_88 (fun H locs hw => ?_)
          have jj3 : ∀ (_ : Unit), ∀ (H : Heap) (locs : List Loc) (ls : Array Slot), gW G A s (wMd G ad tp tx wd ou wz pi tk (nI n) mn md os (nI j) wi ki (bI (F.1 || decide (ch = 45))) (bI (F.2.1 || decide (ch = 48))) (bI (F.2.2.1 || decide (ch = 43))) (bI F.2.2.2) fr vl) H locs → lv_has ls 2 [(1, .int ch), (0, .ref (ad 0))] → W p l e (rmL 0) s m args below meth c H locs 0 0 Q (F0 m 110 ls [.int (bI (F.2.2.2 || decide (ch = 32))), .ref (ad 0)]) := by
            intro _ H locs ls hw hl
            refine xput S hw fl_Md_90 0 rfl (bI_n _) (bI_f _) (Nat.le_of_ble_eq_true rfl) (ws' := wMd G ad tp tx wd ou wz pi tk (nI n) mn md os (nI j) wi ki (bI (F.1 || decide (ch = 45))) (bI (F.2.1 || decide (ch = 48))) (bI (F.2.2.1 || decide (ch = 43))) (bI (F.2.2.2 || decide (ch = 32))) fr vl) rfl d_Md_flag_110 (fun H locs hw => ?_)
            refine lv_iload_n hx hb d_Md_flag_113 rfl (lv_at hl 0 rfl) ?_
            refine lv_bipush (v := 45) hx hb d_Md_flag_114 (by decide) ?_
            refine lv_icmp_eq (tgt := 137) hx hb d_Md_flag_116 (by decide) (fun f0 => ?_) (fun f0 => ?_)
            · refine lv_iconst (v := 1) hx hb d_Md_flag_137 (by decide) ?_
              refine lv_goto (tgt := 142) hx hb d_Md_flag_138 (by decide) ?_
              exact kret _ _ _ _ _ () hw (by unfold isFl; simp [f0, bI]) rfl d_Md_flag_142
            · refine lv_iload_n hx hb d_Md_flag_119 rfl (lv_at hl 0 rfl) ?_
              refine lv_bipush (v := 48) hx hb d_Md_flag_120 (by decide) ?_
              refine lv_icmp_eq (tgt := 137) hx hb d_Md_flag_122 (by decide) (fun f1 => ?_) (fun f1 => ?_)
              · refine lv_iconst (v := 1) hx hb d_Md_flag_137 (by decide) ?_
                refine lv_goto (tgt := 142) hx hb d_Md_flag_138 (by decide) ?_
                exact kret _ _ _ _ _ () hw (by unfold isFl; simp [f1, bI]) rfl d_Md_flag_142
              · refine lv_iload_n hx hb d_Md_flag_125 rfl (lv_at hl 0 rfl) ?_
                refine lv_bipush (v := 43) hx hb d_Md_flag_126 (by decide) ?_
                refine lv_icmp_eq (tgt := 137) hx hb d_Md_flag_128 (by decide) (fun f2 => ?_) (fun f2 => ?_)
                · refine lv_iconst (v := 1) hx hb d_Md_flag_137 (by decide) ?_
                  refine lv_goto (tgt := 142) hx hb d_Md_flag_138 (by decide) ?_
                  exact kret _ _ _ _ _ () hw (by unfold isFl; simp [f2, bI]) rfl d_Md_flag_142
                · refine lv_iload_n hx hb d_Md_flag_131 rfl (lv_at hl 0 rfl) ?_
                  refine lv_bipush (v := 32) hx hb d_Md_flag_132 (by decide) ?_
                  refine lv_icmp_ne (tgt := 141) hx hb d_Md_flag_134 (by decide) (fun f3 => ?_) (fun f3 => ?_)
                  · refine lv_iconst (v := 0) hx hb d_Md_flag_141 (by decide) ?_
                    exact kret _ _ _ _ _ () hw (by unfold isFl; simp [f0, f1, f2, f3, bI]) rfl d_Md_flag_142
                  · refine lv_iconst (v := 1) hx hb d_Md_flag_137 (by decide) ?_
                    refine lv_goto (tgt := 142) hx hb d_Md_flag_138 (by decide) ?_
                    exact kret _ _ _ _ _ () hw (by unfold isFl; simp [f3, bI]) rfl d_Md_flag_142
          refine lv_aload_n hx hb d_Md_flag_91 rfl (lv_at hl 1 rfl) ?_
          refine lv_aload_n hx hb d_Md_flag_92 rfl (lv_at hl 1 rfl) ?_
          refine xget S hw fl_Md_90 0 rfl rfl d_Md_flag_93 ?_
          refine lv_if_ne (tgt := 105) hx hb d_Md_flag_96 (by decide) (fun e3 => ?_) (fun e3 => ?_)
          · have e3 : F.2.2.2 = true := bI_t e3
            refine lv_iconst (v := 1) hx hb d_Md_flag_105 (by decide) ?_
            refine lv_goto (tgt := 110) hx hb d_Md_flag_106 (by decide) ?_
            refine tpi (y := bI (F.2.2.2 || decide (ch = 32))) (by rw [e3]; rfl) ?_
            exact jj3 () _ _ _ hw hl
          · have e3 : F.2.2.2 = false := bI_z e3
            refine lv_iload_n hx hb d_Md_flag_99 rfl (lv_at hl 0 rfl) ?_
            refine lv_bipush (v := 32) hx hb d_Md_flag_100 (by decide) ?_
            refine lv_icmp_ne (tgt := 109) hx hb d_Md_flag_102 (by decide) (fun g3 => ?_) (fun g3 => ?_)
            · refine lv_iconst (v := 0) hx hb d_Md_flag_109 (by decide) ?_
              refine tpi (y := bI (F.2.2.2 || decide (ch = 32))) (by rw [e3, decide_eq_false g3]; rfl) ?_
              exact jj3 () _ _ _ hw hl
            · refine lv_iconst (v := 1) hx hb d_Md_flag_105 (by decide) ?_
              refine lv_goto (tgt := 110) hx hb d_Md_flag_106 (by decide) ?_
              refine tpi (y := bI (F.2.2.2 || decide (ch = 32))) (by rw [e3, decide_eq_true g3]; rfl) ?_
              exact jj3 () _ _ _ hw hl
        refine lv_aload_n hx hb d_Md_flag_69 rfl (lv_at hl 1 rfl) ?_
        refine lv_aload_n hx hb d_Md_flag_70 rfl (lv_at hl 1 rfl) ?_
        refine xget S hw fl_Md_87 0 rfl rfl d_Md_flag_71 ?_
        refine lv_if_ne (tgt := 83) hx hb d_Md_flag_74 (by decide) (fun e2 => ?_) (fun e2 => ?_)
        · have e2 : F.2.2.1 = true := bI_t e2
          refine lv_iconst (v := 1) hx hb d_Md_flag_83 (by decide) ?_
          refine lv_goto (tgt := 88) hx hb d_Md_flag_84 (by decide) ?_
          refine tpi (y := bI (F.2.2.1 || decide (ch = 43))) (by rw [e2]; rfl) ?_
          exact jj2 () _ _ _ hw hl
        · have e2 : F.2.2.1 = false := bI_z e2
          refine lv_iload_n hx hb d_Md_flag_77 rfl (lv_at hl 0 rfl) ?_
          refine lv_bipush (v := 43) hx hb d_Md_flag_78 (by decide) ?_
          refine lv_icmp_ne (tgt := 87) hx hb d_Md_flag_80 (by decide) (fun g2 => ?_) (fun g2 => ?_)
          · refine lv_iconst (v := 0) hx hb d_Md_flag_87 (by decide) ?_
            refine tpi (y := bI (F.2.2.1 || decide (ch = 43))) (by rw [e2, decide_eq_false g2]; rfl) ?_
            exact jj2 () _ _ _ hw hl
          · refine lv_iconst (v := 1) hx hb d_Md_flag_83 (by decide) ?_
            refine lv_goto (tgt := 88) hx hb d_Md_flag_84 (by decide) ?_
            refine tpi (y := bI (F.2.2.1 || decide (ch = 43))) (by rw [e2, decide_eq_true g2]; rfl) ?_
            exact jj2 () _ _ _ hw hl
      refine lv_aload_n hx hb d_Md_flag_47 rfl (lv_at hl 1 rfl) ?_
      refine lv_aload_n hx hb d_Md_flag_48 rfl (lv_at hl 1 rfl) ?_
      refine xget S hw fl_Md_84 0 rfl rfl d_Md_flag_49 ?_
      refine lv_if_ne (tgt := 61) hx hb d_Md_flag_52 (by decide) (fun e1 => ?_) (fun e1 => ?_)
      · have e1 : F.2.1 = true := bI_t e1
        refine lv_iconst (v := 1) hx hb d_Md_flag_61 (by decide) ?_
        refine lv_goto (tgt := 66) hx hb d_Md_flag_62 (by decide) ?_
        refine tpi (y := bI (F.2.1 || decide (ch = 48))) (by rw [e1]; rfl) ?_
        exact jj1 () _ _ _ hw hl
      · have e1 : F.2.1 = false := bI_z e1
        refine lv_iload_n hx hb d_Md_flag_55 rfl (lv_at hl 0 rfl) ?_
        refine lv_bipush (v := 48) hx hb d_Md_flag_56 (by decide) ?_
        refine lv_icmp_ne (tgt := 65) hx hb d_Md_flag_58 (by decide) (fun g1 => ?_) (fun g1 => ?_)
        · refine lv_iconst (v := 0) hx hb d_Md_flag_65 (by decide) ?_
          refine tpi (y := bI (F.2.1 || decide (ch = 48))) (by rw [e1, decide_eq_false g1]; rfl) ?_
          exact jj1 () _ _ _ hw hl
        · refine lv_iconst (v := 1) hx hb d_Md_flag_61 (by decide) ?_
          refine lv_goto (tgt := 66) hx hb d_Md_flag_62 (by decide) ?_
          refine tpi (y := bI (F.2.1 || decide (ch = 48))) (by rw [e1, decide_eq_true g1]; rfl) ?_
          exact jj1 () _ _ _ hw hl
    refine lv_aload_n hx hb d_Md_flag_25 rfl (lv_at hl 1 rfl) ?_
    refine lv_aload_n hx hb d_Md_flag_26 rfl (lv_at hl 1 rfl) ?_
    refine xget S hw fl_Md_80 0 rfl rfl d_Md_flag_27 ?_
    refine lv_if_ne (tgt := 39) hx hb d_Md_flag_30 (by decide) (fun e0 => ?_) (fun e0 => ?_)
    · have e0 : F.1 = true := bI_t e0
      refine lv_iconst (v := 1) hx hb d_Md_flag_39 (by decide) ?_
      refine lv_goto (tgt := 44) hx hb d_Md_flag_40 (by decide) ?_
      refine tpi (y := bI (F.1 || decide (ch = 45))) (by rw [e0]; rfl) ?_
      exact jj0 () _ _ _ hw hl
    · have e0 : F.1 = false := bI_z e0
      refine lv_iload_n hx hb d_Md_flag_33 rfl (lv_at hl 0 rfl) ?_
      refine lv_bipush (v := 45) hx hb d_Md_flag_34 (by decide) ?_
      refine lv_icmp_ne (tgt := 43) hx hb d_Md_flag_36 (by decide) (fun g0 => ?_) (fun g0 => ?_)
      · refine lv_iconst (v := 0) hx hb d_Md_flag_43 (by decide) ?_
        refine tpi (y := bI (F.1 || decide (ch = 45))) (by rw [e0, decide_eq_false g0]; rfl) ?_
        exact jj0 () _ _ _ hw hl
      · refine lv_iconst (v := 1) hx hb d_Md_flag_39 (by decide) ?_
        refine lv_goto (tgt := 44) hx hb d_Md_flag_40 (by decide) ?_
        refine tpi (y := bI (F.1 || decide (ch = 45))) (by rw [e0, decide_eq_true g0]; rfl) ?_
        exact jj0 () _ _ _ hw hl
  refine lv_aload_n hx hb d_Md_flag_0 rfl (lv_at hl 0 rfl) ?_
  refine xget S hw fl_Md_77 0 rfl rfl d_Md_flag_1 ?_
  refine lv_aload_n hx hb d_Md_flag_4 rfl (lv_at hl 0 rfl) ?_
  refine xget S hw fl_Md_37 0 rfl rfl d_Md_flag_5 ?_
  refine lv_icmp_ge (tgt := 23) hx hb d_Md_flag_8 (by decide) (fun c1 => ?_) (fun c1 => ?_)
  · have c1 : n ≤ j := (nI_leI (a := n) (b := j) (by omega) (by omega)).mp c1
    refine lv_iconst (v := (-1)) hx hb d_Md_flag_23 (by decide) ?_
    refine tpi (y := ch) (by rw [hch]; unfold fcA; rw [if_neg (by omega)]) ?_
    exact j24 () _ _ _ hw hl
  · have c1 : ¬ n ≤ j := fun q_ => c1 ((nI_leI (a := n) (b := j) (by omega) (by omega)).mpr q_)
    refine lv_aload_n hx hb d_Md_flag_11 rfl (lv_at hl 0 rfl) ?_
    refine xget S hw fl_Md_13 0 rfl rfl d_Md_flag_12 ?_
    refine lv_aload_n hx hb d_Md_flag_15 rfl (lv_at hl 0 rfl) ?_
    refine xget S hw fl_Md_77 0 rfl rfl d_Md_flag_16 ?_
    refine xbald S hw 2 rfl (j := j) (by omega) (by decide) d_Md_flag_19 ?_
    refine lv_goto (tgt := 24) hx hb d_Md_flag_20 (by decide) ?_
    refine tpi (y := ch) (by rw [hch]; unfold fcA; rw [if_pos (by omega)]) ?_
    exact j24 () _ _ _ hw hl
set_option maxHeartbeats 4000000 in
set_option maxRecDepth 100000 in
theorem c_Md_readPlace (l : Launch) (G : gG) (ad : Nat → Nat) (tp : Nat → Int32) (tx : Nat → Int32) (wd : Nat → Int32) (ou : Nat → Int32) (wz : Nat → Int32) (pi : Nat → Int32) (tk : Int32) (mn : Int32) (md : Int32) (os : Int32) (wi : Int32) (ki : Int32) (le : Int32) (ze : Int32) (pl : Int32) (bl : Int32) (fr : Int32) (vl : Int64) (n i : Nat) (hnn : n ≤ 400) (hi : i < n) : MetI (σ := Unit) l y_Md_readPlace (Cond.code y_Md_readPlace b_Md_readPlace 1 (some .boolean)) (rmL 1) 0 0 G [.ref (ad 0)] (wMd G ad tp tx wd ou wz pi tk (nI n) mn md os (nI (i + 1)) wi ki le ze pl bl fr vl) X0 (fun r _ => r = bI (kOk (plK tx n i))) (fun _ => wMd G ad tp tx wd ou wz pi tk (nI n) mn md os (nI ((plW tx n i).2 + 1)) (nI (plW tx n i).1) (if (plW tx n i).2 < n then tx (plW tx n i).2 else 0) (bI (plF tx n i).1.1) (bI (plF tx n i).1.2.1) (bI (plF tx n i).1.2.2.1) (bI (plF tx n i).1.2.2.2) fr vl) := by
  refine MetI.mk2 (by decide) (Nat.le_of_ble_eq_true rfl) ?_
  intro p e s m args below meth c A ls Q S hw hX hl kret
  have hx := S.1
  have hb := S.2.1
  have hl : lv_has ls 1 [(0, .ref (ad 0))] := hl
  generalize hH0 : s.heap = H at hw ⊢
  generalize hL0 : ([] : List Loc) = locs at hw ⊢
  refine lv_aload_n hx hb d_Md_readPlace_0 rfl (lv_at hl 0 rfl) ?_
  refine lv_iconst (v := 0) hx hb d_Md_readPlace_1 (by decide) ?_
  refine xput S hw fl_Md_80 0 rfl rfl rfl (Nat.le_of_ble_eq_true rfl) (ws' := wMd G ad tp tx wd ou wz pi tk (nI n) mn md os (nI (i + 1)) wi ki 0 ze pl bl fr vl) rfl d_Md_readPlace_2 (fun H locs hw => ?_)
  refine lv_aload_n hx hb d_Md_readPlace_5 rfl (lv_at hl 0 rfl) ?_
  refine lv_iconst (v := 0) hx hb d_Md_readPlace_6 (by decide) ?_
  refine xput S hw fl_Md_84 0 rfl rfl rfl (Nat.le_of_ble_eq_true rfl) (ws' := wMd G ad tp tx wd ou wz pi tk (nI n) mn md os (nI (i + 1)) wi ki 0 0 pl bl fr vl) rfl d_Md_readPlace_7 (fun H locs hw => ?_)
  refine lv_aload_n hx hb d_Md_readPlace_10 rfl (lv_at hl 0 rfl) ?_
  refine lv_iconst (v := 0) hx hb d_Md_readPlace_11 (by decide) ?_
  refine xput S hw fl_Md_87 0 rfl rfl rfl (Nat.le_of_ble_eq_true rfl) (ws' := wMd G ad tp tx wd ou wz pi tk (nI n) mn md os (nI (i + 1)) wi ki 0 0 0 bl fr vl) rfl d_Md_readPlace_12 (fun H locs hw => ?_)
  refine lv_aload_n hx hb d_Md_readPlace_15 rfl (lv_at hl 0 rfl) ?_
  refine lv_iconst (v := 0) hx hb d_Md_readPlace_16 (by decide) ?_
  refine xput S hw fl_Md_90 0 rfl rfl rfl (Nat.le_of_ble_eq_true rfl) (ws' := wMd G ad tp tx wd ou wz pi tk (nI n) mn md os (nI (i + 1)) wi ki 0 0 0 0 fr vl) rfl d_Md_readPlace_17 (fun H locs hw => ?_)
  refine lv_aload_n hx hb d_Md_readPlace_20 rfl (lv_at hl 0 rfl) ?_
  refine lv_iconst (v := 0) hx hb d_Md_readPlace_21 (by decide) ?_
  refine xput S hw fl_Md_93 0 rfl rfl rfl (Nat.le_of_ble_eq_true rfl) (ws' := wMd G ad tp tx wd ou wz pi tk (nI n) mn md os (nI (i + 1)) 0 ki 0 0 0 0 fr vl) rfl d_Md_readPlace_22 (fun H locs hw => ?_)
  have j168 : ∀ (F : Fl4) (j1 w j : Nat) (kd : Int32), plF tx n i = (F, j1) → plW tx n i = (w, j) → j ≤ n → kd = (if j < n then tx j else 0) → ∀ (H : Heap) (locs : List Loc) (ls : Array Slot), gW G A s (wMd G ad tp tx wd ou wz pi tk (nI n) mn md os (nI j) (nI w) ki (bI F.1) (bI F.2.1) (bI F.2.2.1) (bI F.2.2.2) fr vl) H locs → lv_has ls 1 [(0, .ref (ad 0))] → W p l e (rmL 1) s m args below meth c H locs 0 0 Q (F0 m 168 ls [.int kd, .ref (ad 0)]) := by
    intro F j1 w j kd hF hW hjn hkd H locs ls hw hl
    have hko : kOk (plK tx n i) = kOk kd := by
      unfold plK
      rw [hW, hkd]
      show kOk (fcA tx n j) = _
      unfold fcA
      split
      · rfl
      · decide
    rw [hko, hF, hW] at kret
    dsimp only at kret
    rw [← hkd] at kret
    refine xput S hw fl_Md_101 0 rfl rfl rfl (Nat.le_of_ble_eq_true rfl) (ws' := wMd G ad tp tx wd ou wz pi tk (nI n) mn md os (nI j) (nI w) kd (bI F.1) (bI F.2.1) (bI F.2.2.1) (bI F.2.2.2) fr vl) rfl d_Md_readPlace_168 (fun H locs hw => ?_)
    refine lv_aload_n hx hb d_Md_readPlace_171 rfl (lv_at hl 0 rfl) ?_
    refine lv_dup hx hb d_Md_readPlace_172 rfl ?_
    refine xget S hw fl_Md_77 0 rfl rfl d_Md_readPlace_173 ?_
    refine lv_iconst (v := 1) hx hb d_Md_readPlace_176 (by decide) ?_
    refine lv_iadd hx hb d_Md_readPlace_177 ?_
    refine tpi (y := nI (j + 1)) (nI_add j 1) ?_
    refine xput S hw fl_Md_77 0 rfl rfl rfl (Nat.le_of_ble_eq_true rfl) (ws' := wMd G ad tp tx wd ou wz pi tk (nI n) mn md os (nI (j + 1)) (nI w) kd (bI F.1) (bI F.2.1) (bI F.2.2.1) (bI F.2.2.2) fr vl) rfl d_Md_readPlace_178 (fun H locs hw => ?_)
    refine lv_aload_n hx hb d_Md_readPlace_181 rfl (lv_at hl 0 rfl) ?_
    refine xget S hw fl_Md_101 0 rfl rfl d_Md_readPlace_182 ?_
    refine lv_bipush (v := 100) hx hb d_Md_readPlace_185 (by decide) ?_
    refine lv_icmp_eq (tgt := 244) hx hb d_Md_readPlace_187 (by decide) (fun f0 => ?_) (fun f0 => ?_)
    · refine lv_iconst (v := 1) hx hb d_Md_readPlace_244 (by decide) ?_
      refine lv_goto (tgt := 249) hx hb d_Md_readPlace_245 (by decide) ?_
      exact kret _ _ _ _ _ () hw (by rw [show kOk kd = true from by unfold kOk; simp [f0]]; rfl) rfl d_Md_readPlace_249
    · refine lv_aload_n hx hb d_Md_readPlace_190 rfl (lv_at hl 0 rfl) ?_
      refine xget S hw fl_Md_101 0 rfl rfl d_Md_readPlace_191 ?_
      refine lv_bipush (v := 120) hx hb d_Md_readPlace_194 (by decide) ?_
      refine lv_icmp_eq (tgt := 244) hx hb d_Md_readPlace_196 (by decide) (fun f1 => ?_) (fun f1 => ?_)
      · refine lv_iconst (v := 1) hx hb d_Md_readPlace_244 (by decide) ?_
        refine lv_goto (tgt := 249) hx hb d_Md_readPlace_245 (by decide) ?_
        exact kret _ _ _ _ _ () hw (by rw [show kOk kd = true from by unfold kOk; simp [f1]]; rfl) rfl d_Md_readPlace_249
      · refine lv_aload_n hx hb d_Md_readPlace_199 rfl (lv_at hl 0 rfl) ?_
        refine xget S hw fl_Md_101 0 rfl rfl d_Md_readPlace_200 ?_
        refine lv_bipush (v := 88) hx hb d_Md_readPlace_203 (by decide) ?_
        refine lv_icmp_eq (tgt := 244) hx hb d_Md_readPlace_205 (by decide) (fun f2 => ?_) (fun f2 => ?_)
        · refine lv_iconst (v := 1) hx hb d_Md_readPlace_244 (by decide) ?_
          refine lv_goto (tgt := 249) hx hb d_Md_readPlace_245 (by decide) ?_
          exact kret _ _ _ _ _ () hw (by rw [show kOk kd = true from by unfold kOk; simp [f2]]; rfl) rfl d_Md_readPlace_249
        · refine lv_aload_n hx hb d_Md_readPlace_208 rfl (lv_at hl 0 rfl) ?_
          refine xget S hw fl_Md_101 0 rfl rfl d_Md_readPlace_209 ?_
          refine lv_bipush (v := 111) hx hb d_Md_readPlace_212 (by decide) ?_
          refine lv_icmp_eq (tgt := 244) hx hb d_Md_readPlace_214 (by decide) (fun f3 => ?_) (fun f3 => ?_)
          · refine lv_iconst (v := 1) hx hb d_Md_readPlace_244 (by decide) ?_
            refine lv_goto (tgt := 249) hx hb d_Md_readPlace_245 (by decide) ?_
            exact kret _ _ _ _ _ () hw (by rw [show kOk kd = true from by unfold kOk; simp [f3]]; rfl) rfl d_Md_readPlace_249
          · refine lv_aload_n hx hb d_Md_readPlace_217 rfl (lv_at hl 0 rfl) ?_
            refine xget S hw fl_Md_101 0 rfl rfl d_Md_readPlace_218 ?_
            refine lv_bipush (v := 99) hx hb d_Md_readPlace_221 (by decide) ?_
            refine lv_icmp_eq (tgt := 244) hx hb d_Md_readPlace_223 (by decide) (fun f4 => ?_) (fun f4 => ?_)
            · refine lv_iconst (v := 1) hx hb d_Md_readPlace_244 (by decide) ?_
              refine lv_goto (tgt := 249) hx hb d_Md_readPlace_245 (by decide) ?_
              exact kret _ _ _ _ _ () hw (by rw [show kOk kd = true from by unfold kOk; simp [f4]]; rfl) rfl d_Md_readPlace_249
            · refine lv_aload_n hx hb d_Md_readPlace_226 rfl (lv_at hl 0 rfl) ?_
              refine xget S hw fl_Md_101 0 rfl rfl d_Md_readPlace_227 ?_
              refine lv_bipush (v := 115) hx hb d_Md_readPlace_230 (by decide) ?_
              refine lv_icmp_eq (tgt := 244) hx hb d_Md_readPlace_232 (by decide) (fun f5 => ?_) (fun f5 => ?_)
              · refine lv_iconst (v := 1) hx hb d_Md_readPlace_244 (by decide) ?_
                refine lv_goto (tgt := 249) hx hb d_Md_readPlace_245 (by decide) ?_
                exact kret _ _ _ _ _ () hw (by rw [show kOk kd = true from by unfold kOk; simp [f5]]; rfl) rfl d_Md_readPlace_249
              · refine lv_aload_n hx hb d_Md_readPlace_235 rfl (lv_at hl 0 rfl) ?_
                refine xget S hw fl_Md_101 0 rfl rfl d_Md_readPlace_236 ?_
                refine lv_bipush (v := 37) hx hb d_Md_readPlace_239 (by decide) ?_
                refine lv_icmp_ne (tgt := 248) hx hb d_Md_readPlace_241 (by decide) (fun f6 => ?_) (fun f6 => ?_)
                · refine lv_iconst (v := 0) hx hb d_Md_readPlace_248 (by decide) ?_
                  exact kret _ _ _ _ _ () hw (by rw [show kOk kd = false from by unfold kOk; simp [f0, f1, f2, f3, f4, f5, f6]]; rfl) rfl d_Md_readPlace_249
                · refine lv_iconst (v := 1) hx hb d_Md_readPlace_244 (by decide) ?_
                  refine lv_goto (tgt := 249) hx hb d_Md_readPlace_245 (by decide) ?_
                  exact kret _ _ _ _ _ () hw (by rw [show kOk kd = true from by unfold kOk; simp [f6]]; rfl) rfl d_Md_readPlace_249
  have j143 : ∀ (F : Fl4) (j1 w j : Nat), plF tx n i = (F, j1) → plW tx n i = (w, j) → j ≤ n → ∀ (H : Heap) (locs : List Loc) (ls : Array Slot), gW G A s (wMd G ad tp tx wd ou wz pi tk (nI n) mn md os (nI j) (nI w) ki (bI F.1) (bI F.2.1) (bI F.2.2.1) (bI F.2.2.2) fr vl) H locs → lv_has ls 1 [(0, .ref (ad 0))] → W p l e (rmL 1) s m args below meth c H locs 0 0 Q (F0 m 143 ls []) := by
    intro F j1 w j hF hW hjn H locs ls hw hl
    refine lv_aload_n hx hb d_Md_readPlace_143 rfl (lv_at hl 0 rfl) ?_
    refine lv_aload_n hx hb d_Md_readPlace_144 rfl (lv_at hl 0 rfl) ?_
    refine xget S hw fl_Md_77 0 rfl rfl d_Md_readPlace_145 ?_
    refine lv_aload_n hx hb d_Md_readPlace_148 rfl (lv_at hl 0 rfl) ?_
    refine xget S hw fl_Md_37 0 rfl rfl d_Md_readPlace_149 ?_
    refine lv_icmp_ge (tgt := 167) hx hb d_Md_readPlace_152 (by decide) (fun c1 => ?_) (fun c1 => ?_)
    · have c1 : n ≤ j := (nI_leI (a := n) (b := j) (by omega) (by omega)).mp c1
      refine lv_iconst (v := 0) hx hb d_Md_readPlace_167 (by decide) ?_
      exact j168 F j1 w j 0 hF hW hjn (by rw [if_neg (by omega)]) _ _ _ hw hl
    · have c1 : ¬ n ≤ j := fun q_ => c1 ((nI_leI (a := n) (b := j) (by omega) (by omega)).mpr q_)
      refine lv_aload_n hx hb d_Md_readPlace_155 rfl (lv_at hl 0 rfl) ?_
      refine xget S hw fl_Md_13 0 rfl rfl d_Md_readPlace_156 ?_
      refine lv_aload_n hx hb d_Md_readPlace_159 rfl (lv_at hl 0 rfl) ?_
      refine xget S hw fl_Md_77 0 rfl rfl d_Md_readPlace_160 ?_
      refine xbald S hw 2 rfl (j := j) (by omega) (by decide) d_Md_readPlace_163 ?_
      refine lv_goto (tgt := 168) hx hb d_Md_readPlace_164 (by decide) ?_
      exact j168 F j1 w j (tx j) hF hW hjn (by rw [if_pos (by omega)]) _ _ _ hw hl
  have lpW : ∀ (fw : Nat) (F : Fl4) (j1 w j : Nat), plF tx n i = (F, j1) → n ≤ j + fw → j ≤ n → w ≤ 100000 → wdA tx n fw j w = plW tx n i → ∀ (H : Heap) (locs : List Loc) (ls : Array Slot), gW G A s (wMd G ad tp tx wd ou wz pi tk (nI n) mn md os (nI j) (nI w) ki (bI F.1) (bI F.2.1) (bI F.2.2.1) (bI F.2.2.2) fr vl) H locs → lv_has ls 1 [(0, .ref (ad 0))] → W p l e (rmL 1) s m args below meth c H locs 0 0 Q (F0 m 45 ls []) := by
    intro fw
    induction fw with
    | zero =>
      intro F j1 w j hF hfw hjn hw1 hwa H locs ls hw hl
      refine lv_aload_n hx hb d_Md_readPlace_45 rfl (lv_at hl 0 rfl) ?_
      refine xget S hw fl_Md_77 0 rfl rfl d_Md_readPlace_46 ?_
      refine lv_aload_n hx hb d_Md_readPlace_49 rfl (lv_at hl 0 rfl) ?_
      refine xget S hw fl_Md_37 0 rfl rfl d_Md_readPlace_50 ?_
      refine lv_icmp_ge (tgt := 143) hx hb d_Md_readPlace_53 (by decide) (fun c1 => ?_) (fun c1 => ?_)
      · have c1 : n ≤ j := (nI_leI (a := n) (b := j) (by omega) (by omega)).mp c1
        exact j143 F j1 w j hF (by rw [← hwa, wdA_end (by unfold fcA; rw [if_neg (by omega)]; decide)]) hjn _ _ _ hw hl
      · have c1 : ¬ n ≤ j := fun q_ => c1 ((nI_leI (a := n) (b := j) (by omega) (by omega)).mpr q_)
        omega
    | succ fw ihW =>
      intro F j1 w j hF hfw hjn hw1 hwa H locs ls hw hl
      refine lv_aload_n hx hb d_Md_readPlace_45 rfl (lv_at hl 0 rfl) ?_
      refine xget S hw fl_Md_77 0 rfl rfl d_Md_readPlace_46 ?_
      refine lv_aload_n hx hb d_Md_readPlace_49 rfl (lv_at hl 0 rfl) ?_
      refine xget S hw fl_Md_37 0 rfl rfl d_Md_readPlace_50 ?_
      refine lv_icmp_ge (tgt := 143) hx hb d_Md_readPlace_53 (by decide) (fun c1 => ?_) (fun c1 => ?_)
      · have c1 : n ≤ j := (nI_leI (a := n) (b := j) (by omega) (by omega)).mp c1
        exact j143 F j1 w j hF (by rw [← hwa, wdA_end (by unfold fcA; rw [if_neg (by omega)]; decide)]) hjn _ _ _ hw hl
      · have c1 : ¬ n ≤ j := fun q_ => c1 ((nI_leI (a := n) (b := j) (by omega) (by omega)).mpr q_)
        have hfj : fcA tx n j = tx j := by unfold fcA; rw [if_pos (by omega)]
        refine lv_aload_n hx hb d_Md_readPlace_56 rfl (lv_at hl 0 rfl) ?_
        refine xget S hw fl_Md_13 0 rfl rfl d_Md_readPlace_57 ?_
        refine lv_aload_n hx hb d_Md_readPlace_60 rfl (lv_at hl 0 rfl) ?_
        refine xget S hw fl_Md_77 0 rfl rfl d_Md_readPlace_61 ?_
        refine xbald S hw 2 rfl (j := j) (by omega) (by decide) d_Md_readPlace_64 ?_
        refine lv_bipush (v := 48) hx hb d_Md_readPlace_65 (by decide) ?_
        refine lv_icmp_lt (tgt := 143) hx hb d_Md_readPlace_67 (by decide) (fun c2 => ?_) (fun c2 => ?_)
        · exact j143 F j1 w j hF (by rw [← hwa, wdA_end (by rw [hfj]; unfold isDg; rw [decide_eq_false (Int32.not_le.mpr c2)]; rfl)]) hjn _ _ _ hw hl
        · refine lv_aload_n hx hb d_Md_readPlace_70 rfl (lv_at hl 0 rfl) ?_
          refine xget S hw fl_Md_13 0 rfl rfl d_Md_readPlace_71 ?_
          refine lv_aload_n hx hb d_Md_readPlace_74 rfl (lv_at hl 0 rfl) ?_
          refine xget S hw fl_Md_77 0 rfl rfl d_Md_readPlace_75 ?_
          refine xbald S hw 2 rfl (j := j) (by omega) (by decide) d_Md_readPlace_78 ?_
          refine lv_bipush (v := 57) hx hb d_Md_readPlace_79 (by decide) ?_
          refine lv_icmp_gt (tgt := 143) hx hb d_Md_readPlace_81 (by decide) (fun c3 => ?_) (fun c3 => ?_)
          · exact j143 F j1 w j hF (by rw [← hwa, wdA_end (by rw [hfj]; unfold isDg; rw [decide_eq_false (Int32.not_le.mpr c3), Bool.and_false])]) hjn _ _ _ hw hl
          · have hdg : isDg (fcA tx n j) = true := by rw [hfj]; unfold isDg; rw [decide_eq_true (Int32.not_lt.mp c2), decide_eq_true (Int32.not_lt.mp c3)]; rfl
            obtain ⟨q, hq1, hq2, hqa⟩ := isDg_nat hdg
            have hqt : tx j = nI q := by rw [← hfj]; exact hqa
            refine lv_aload_n hx hb d_Md_readPlace_84 rfl (lv_at hl 0 rfl) ?_
            refine lv_bipush (v := 10) hx hb d_Md_readPlace_85 (by decide) ?_
            refine lv_aload_n hx hb d_Md_readPlace_87 rfl (lv_at hl 0 rfl) ?_
            refine xget S hw fl_Md_93 0 rfl rfl d_Md_readPlace_88 ?_
            refine lv_imul hx hb d_Md_readPlace_91 ?_
            refine tpi (y := nI (10 * w)) (pk_mul 10 w) ?_
            refine lv_aload_n hx hb d_Md_readPlace_92 rfl (lv_at hl 0 rfl) ?_
            refine xget S hw fl_Md_13 0 rfl rfl d_Md_readPlace_93 ?_
            refine lv_aload_n hx hb d_Md_readPlace_96 rfl (lv_at hl 0 rfl) ?_
            refine xget S hw fl_Md_77 0 rfl rfl d_Md_readPlace_97 ?_
            refine xbald S hw 2 rfl (j := j) (by omega) (by decide) d_Md_readPlace_100 ?_
            refine tpi (y := nI q) hqt ?_
            refine lv_iadd hx hb d_Md_readPlace_101 ?_
            refine tpi (y := nI ((10 * w) + q)) (nI_add (10 * w) q) ?_
            refine lv_bipush (v := 48) hx hb d_Md_readPlace_102 (by decide) ?_
            refine lv_isub hx hb d_Md_readPlace_104 ?_
            refine tpi (y := nI (10 * w + q - 48)) (pk_sub (a := 10 * w + q) (b := 48) (by omega)) ?_
            refine xput S hw fl_Md_93 0 rfl rfl rfl (Nat.le_of_ble_eq_true rfl) (ws' := wMd G ad tp tx wd ou wz pi tk (nI n) mn md os (nI j) (nI (10 * w + q - 48)) ki (bI F.1) (bI F.2.1) (bI F.2.2.1) (bI F.2.2.2) fr vl) rfl d_Md_readPlace_105 (fun H locs hw => ?_)
            refine lv_aload_n hx hb d_Md_readPlace_108 rfl (lv_at hl 0 rfl) ?_
            refine lv_aload_n hx hb d_Md_readPlace_109 rfl (lv_at hl 0 rfl) ?_
            refine xget S hw fl_Md_93 0 rfl rfl d_Md_readPlace_110 ?_
            refine lv_ldc (v := 100000) hx hb S.2.2.2.1 (S.2.2.2.2 _ k_394) d_Md_readPlace_113 ?_
            have j127 : ∀ (_ : Unit), ∀ (H : Heap) (locs : List Loc) (ls : Array Slot), gW G A s (wMd G ad tp tx wd ou wz pi tk (nI n) mn md os (nI j) (nI (10 * w + q - 48)) ki (bI F.1) (bI F.2.1) (bI F.2.2.1) (bI F.2.2.2) fr vl) H locs → lv_has ls 1 [(0, .ref (ad 0))] → W p l e (rmL 1) s m args below meth c H locs 0 0 Q (F0 m 127 ls [.int (nI (wstep w (nI q))), .ref (ad 0)]) := by
              intro _ H locs ls hw hl
              refine xput S hw fl_Md_93 0 rfl rfl rfl (Nat.le_of_ble_eq_true rfl) (ws' := wMd G ad tp tx wd ou wz pi tk (nI n) mn md os (nI j) (nI (wstep w (nI q))) ki (bI F.1) (bI F.2.1) (bI F.2.2.1) (bI F.2.2.2) fr vl) rfl d_Md_readPlace_127 (fun H locs hw => ?_)
              refine lv_aload_n hx hb d_Md_readPlace_130 rfl (lv_at hl 0 rfl) ?_
              refine lv_dup hx hb d_Md_readPlace_131 rfl ?_
              refine xget S hw fl_Md_77 0 rfl rfl d_Md_readPlace_132 ?_
              refine lv_iconst (v := 1) hx hb d_Md_readPlace_135 (by decide) ?_
              refine lv_iadd hx hb d_Md_readPlace_136 ?_
              refine tpi (y := nI (j + 1)) (nI_add j 1) ?_
              refine xput S hw fl_Md_77 0 rfl rfl rfl (Nat.le_of_ble_eq_true rfl) (ws' := wMd G ad tp tx wd ou wz pi tk (nI n) mn md os (nI (j + 1)) (nI (wstep w (nI q))) ki (bI F.1) (bI F.2.1) (bI F.2.2.1) (bI F.2.2.2) fr vl) rfl d_Md_readPlace_137 (fun H locs hw => ?_)
              refine lv_goto (tgt := 45) hx hb d_Md_readPlace_140 (by decide) ?_
              refine ihW F j1 (wstep w (nI q)) (j + 1) hF (by omega) (by omega) (wstep_le _ _) (by rw [← hwa, wdA_go hdg, hqa]) _ _ _ hw hl
            refine lv_icmp_le (tgt := 123) hx hb d_Md_readPlace_115 (by decide) (fun c4 => ?_) (fun c4 => ?_)
            · have c4 : (10 * w + q - 48) ≤ 100000 := (nI_leI (a := (10 * w + q - 48)) (b := 100000) (by omega) (by omega)).mp c4
              refine lv_aload_n hx hb d_Md_readPlace_123 rfl (lv_at hl 0 rfl) ?_
              refine xget S hw fl_Md_93 0 rfl rfl d_Md_readPlace_124 ?_
              refine tpi (y := nI (wstep w (nI q))) (by unfold wstep; rw [nI_clamp (by omega), Nat.min_eq_right (by omega)]; congr 1; omega) ?_
              exact j127 () _ _ _ hw hl
            · have c4 : ¬ (10 * w + q - 48) ≤ 100000 := fun q_ => c4 ((nI_leI (a := (10 * w + q - 48)) (b := 100000) (by omega) (by omega)).mpr q_)
              refine lv_ldc (v := 100000) hx hb S.2.2.2.1 (S.2.2.2.2 _ k_394) d_Md_readPlace_118 ?_
              refine lv_goto (tgt := 127) hx hb d_Md_readPlace_120 (by decide) ?_
              refine tpi (y := nI (wstep w (nI q))) (by unfold wstep; rw [nI_clamp (by omega), Nat.min_eq_left (by omega)]; rfl) ?_
              exact j127 () _ _ _ hw hl
  have lpF : ∀ (ff : Nat) (F : Fl4) (j : Nat), n ≤ j + ff → j ≤ n → flA tx n ff j F = plF tx n i → ∀ (H : Heap) (locs : List Loc) (ls : Array Slot), gW G A s (wMd G ad tp tx wd ou wz pi tk (nI n) mn md os (nI j) 0 ki (bI F.1) (bI F.2.1) (bI F.2.2.1) (bI F.2.2.2) fr vl) H locs → lv_has ls 1 [(0, .ref (ad 0))] → W p l e (rmL 1) s m args below meth c H locs 0 0 Q (F0 m 25 ls []) := by
    intro ff
    induction ff with
    | zero =>
      intro F j hff hjn hfa H locs ls hw hl
      refine lv_aload_n hx hb d_Md_readPlace_25 rfl (lv_at hl 0 rfl) ?_
      refine zVi (As := []) (rest := []) S hw hl.1 vl_Md_96 (c_Md_flag l G ad tp tx wd ou wz pi tk mn md os 0 ki fr vl n j F hnn (by omega)) 0 rfl rfl rfl ⟨rfl, rfl⟩ [0, 1, 2, 3, 4, 5, 6] [] [0, 1, 2, 3, 4, 5, 6] rfl rfl (by decide) rfl rfl rfl d_Md_readPlace_26 (fun _ => wMd G ad tp tx wd ou wz pi tk (nI n) mn md os (nI j) 0 ki (bI (fupd F (fcA tx n j)).1) (bI (fupd F (fcA tx n j)).2.1) (bI (fupd F (fcA tx n j)).2.2.1) (bI (fupd F (fcA tx n j)).2.2.2) fr vl) (fun _ => rfl) (fun r_26 _ H locs hpf hw => ?_)
      subst hpf
      refine lv_if_eq (tgt := 45) hx hb d_Md_readPlace_29 (by decide) (fun cf => ?_) (fun cf => ?_)
      · have cf : (isFl (fcA tx n j)) = false := bI_z cf
        rw [fupd_no cf] at hw
        exact lpW n F j 0 j (by rw [← hfa, flA_end cf]) (by omega) hjn (by decide) (by unfold plW; rw [← hfa, flA_end cf]) _ _ _ hw hl
      · have cf : (isFl (fcA tx n j)) = true := bI_t cf
        have hjl := fl_last cf
        omega
    | succ ff ihF =>
      intro F j hff hjn hfa H locs ls hw hl
      refine lv_aload_n hx hb d_Md_readPlace_25 rfl (lv_at hl 0 rfl) ?_
      refine zVi (As := []) (rest := []) S hw hl.1 vl_Md_96 (c_Md_flag l G ad tp tx wd ou wz pi tk mn md os 0 ki fr vl n j F hnn (by omega)) 0 rfl rfl rfl ⟨rfl, rfl⟩ [0, 1, 2, 3, 4, 5, 6] [] [0, 1, 2, 3, 4, 5, 6] rfl rfl (by decide) rfl rfl rfl d_Md_readPlace_26 (fun _ => wMd G ad tp tx wd ou wz pi tk (nI n) mn md os (nI j) 0 ki (bI (fupd F (fcA tx n j)).1) (bI (fupd F (fcA tx n j)).2.1) (bI (fupd F (fcA tx n j)).2.2.1) (bI (fupd F (fcA tx n j)).2.2.2) fr vl) (fun _ => rfl) (fun r_26 _ H locs hpf hw => ?_)
      subst hpf
      refine lv_if_eq (tgt := 45) hx hb d_Md_readPlace_29 (by decide) (fun cf => ?_) (fun cf => ?_)
      · have cf : (isFl (fcA tx n j)) = false := bI_z cf
        rw [fupd_no cf] at hw
        exact lpW n F j 0 j (by rw [← hfa, flA_end cf]) (by omega) hjn (by decide) (by unfold plW; rw [← hfa, flA_end cf]) _ _ _ hw hl
      · have cf : (isFl (fcA tx n j)) = true := bI_t cf
        have hjl := fl_last cf
        refine lv_aload_n hx hb d_Md_readPlace_32 rfl (lv_at hl 0 rfl) ?_
        refine lv_dup hx hb d_Md_readPlace_33 rfl ?_
        refine xget S hw fl_Md_77 0 rfl rfl d_Md_readPlace_34 ?_
        refine lv_iconst (v := 1) hx hb d_Md_readPlace_37 (by decide) ?_
        refine lv_iadd hx hb d_Md_readPlace_38 ?_
        refine tpi (y := nI (j + 1)) (nI_add j 1) ?_
        refine xput S hw fl_Md_77 0 rfl rfl rfl (Nat.le_of_ble_eq_true rfl) (ws' := wMd G ad tp tx wd ou wz pi tk (nI n) mn md os (nI (j + 1)) 0 ki (bI (fupd F (fcA tx n j)).1) (bI (fupd F (fcA tx n j)).2.1) (bI (fupd F (fcA tx n j)).2.2.1) (bI (fupd F (fcA tx n j)).2.2.2) fr vl) rfl d_Md_readPlace_39 (fun H locs hw => ?_)
        refine lv_goto (tgt := 25) hx hb d_Md_readPlace_42 (by decide) ?_
        exact ihF (fupd F (fcA tx n j)) (j + 1) (by omega) (by omega) (by rw [← hfa, flA_go cf]) _ _ _ hw hl
  exact lpF n (false, false, false, false) (i + 1) (by omega) (by omega) rfl _ _ _ hw hl
end
section
/-! ===== plain words for the model's filling ===== -/
def flR (w z : Nat → Int32) (many k wd : Nat) (kd : Int32) (lf zf pf bf : Bool) : Int32 ⊕ List Int32 :=
  if many ≤ k then .inl (-3)
  else if kd = 115 then .inr (fldS [] (sg w (40 * k) (z k).toNatClampNeg) wd lf false)
  else match pI w (40 * k) (z k).toNatClampNeg with
    | none => .inl (-4)
    | some v => .inr (fldS (sgnL kd v pf bf) (bdy kd v) wd lf (zf && !lf && !decide (kd = 99)))
def flP (R : Int32 ⊕ List Int32) (N : Nat) (ou : Nat → Int32) (r : Int32) (ou2 : Nat → Int32) (N2 : Nat) : Prop := match R with
  | .inl e => r = e
  | .inr lt => (r = 0 ∧ N + lt.length ≤ 1024 ∧ ou2 = wr ou N lt ∧ N2 = N + lt.length) ∨ (r = -5 ∧ 1024 < N + lt.length)
theorem flA_ge (t : Nat → Int32) (n : Nat) : ∀ (f j : Nat) (F : Fl4), j ≤ (flA t n f j F).2 := by
  intro f
  induction f with
  | zero => intro j F; exact Nat.le_refl _
  | succ f ih =>
    intro j F
    rw [flA]
    split
    · exact Nat.le_trans (by omega) (ih (j + 1) _)
    · exact Nat.le_refl _
theorem wdA_ge (t : Nat → Int32) (n : Nat) : ∀ (f j w : Nat), j ≤ (wdA t n f j w).2 := by
  intro f
  induction f with
  | zero => intro j F; exact Nat.le_refl _
  | succ f ih =>
    intro j w
    rw [wdA]
    split
    · exact Nat.le_trans (by omega) (ih (j + 1) _)
    · exact Nat.le_refl _
theorem wdA_le (t : Nat → Int32) (n : Nat) : ∀ (f j w : Nat), w ≤ 100000 → (wdA t n f j w).1 ≤ 100000 := by
  intro f
  induction f with
  | zero => intro j w h; exact h
  | succ f ih =>
    intro j w h
    rw [wdA]
    split
    · exact ih _ _ (wstep_le _ _)
    · exact h
theorem plW_gt (t : Nat → Int32) (n i : Nat) : i < (plW t n i).2 :=
  Nat.lt_of_lt_of_le (Nat.lt_succ_self i) (Nat.le_trans (flA_ge t n n (i + 1) _) (wdA_ge t n n _ 0))
theorem plW_le (t : Nat → Int32) (n i : Nat) : (plW t n i).1 ≤ 100000 := wdA_le t n n _ 0 (by decide)
theorem plK_lt {t : Nat → Int32} {n i : Nat} (h : kOk (plK t n i) = true) : (plW t n i).2 < n := by
  apply Classical.byContradiction
  intro q
  unfold plK fcA at h
  rw [if_neg q] at h
  exact absurd h (by decide)
theorem plK_if {t : Nat → Int32} {n i : Nat} (h : kOk (plK t n i) = true) : (if (plW t n i).2 < n then t (plW t n i).2 else 0) = plK t n i := by
  have h2 := plK_lt h
  unfold plK fcA
  rw [if_pos h2, if_pos h2]
theorem step_flR {t w z : Nat → Int32} {n many i k : Nat} (h : t i = 37) (hk : kOk (plK t n i) = true) (hp : plK t n i ≠ 37) :
    step t n w z many i k = (match flR w z many k (plW t n i).1 (plK t n i) (plF t n i).1.1 (plF t n i).1.2.1 (plF t n i).1.2.2.1 (plF t n i).1.2.2.2 with
      | .inl e => .inl e
      | .inr lt => .inr (lt, (plW t n i).2 + 1, k + 1)) := by
  unfold step flR
  rw [if_neg (fun q => q h), if_neg (by rw [hk]; decide), if_neg hp]
  by_cases hm : many ≤ k
  · rw [if_pos hm, if_pos hm]
  · rw [if_neg hm, if_neg hm]
    by_cases hs : plK t n i = 115
    · rw [if_pos hs, if_pos hs]
    · rw [if_neg hs, if_neg hs]
      cases pI w (40 * k) (z k).toNatClampNeg <;> rfl
theorem step_pct2 {t w z : Nat → Int32} {n many i k : Nat} (h : t i = 37) (hp : plK t n i = 37) : step t n w z many i k = .inr ([37], (plW t n i).2 + 1, k) := by
  unfold step
  rw [if_neg (fun q => q h), if_neg (by rw [hp]; decide), if_pos hp]
theorem step_bad2 {t w z : Nat → Int32} {n many i k : Nat} (h : t i = 37) (hk : kOk (plK t n i) = false) : step t n w z many i k = .inl (-2) := by
  unfold step
  rw [if_neg (fun q => q h), if_pos hk]
end
section
set_option maxHeartbeats 8000000 in
set_option maxRecDepth 100000 in
theorem c_Md_fillW (l : Launch) (G : gG) (ad : Nat → Nat) (tp : Nat → Int32) (tx : Nat → Int32) (wd : Nat → Int32) (ou : Nat → Int32) (wz : Nat → Int32) (pi : Nat → Int32) (tk : Int32) (si : Int32) (mn : Int32) (md : Int32) (at' : Int32) (pl : Int32) (bl : Int32) (fr : Int32) (vl : Int64) (N B k w : Nat) (sv kd : Int32) (lf zf : Bool) (sgl : List Int32) (hs : (sv = 0 ∧ sgl = []) ∨ (sv ≠ 0 ∧ sgl = [sv] ∧ b8 sv = sv)) (hN : N ≤ 1024) (hBk : B + k ≤ 800) (hw1 : w ≤ 100000) (hrow : ∀ i, i < k → b8 (wd (B + i)) = wd (B + i)) : MetI (σ := ((Nat → Int32) × Nat)) l y_Md_fill (Cond.code y_Md_fill b_Md_fill 10 (some .boolean)) (rmL 2) 0 0 G [.ref (ad 0), .ref (ad 3), .int (nI B), .int (nI k), .int sv] (wMd G ad tp tx wd ou wz pi tk si mn md (nI N) at' (nI w) kd (bI lf) (bI zf) pl bl fr vl) X0 (fun r u => u.2 ≤ 1024 ∧ ((r = 1 ∧ N + (fldS sgl (sg wd B k) w lf (zf && !lf && !decide (kd = 99) && !decide (kd = 115))).length ≤ 1024 ∧ u.1 = wr ou N (fldS sgl (sg wd B k) w lf (zf && !lf && !decide (kd = 99) && !decide (kd = 115))) ∧ u.2 = N + (fldS sgl (sg wd B k) w lf (zf && !lf && !decide (kd = 99) && !decide (kd = 115))).length) ∨ (r = 0 ∧ 1024 < N + (fldS sgl (sg wd B k) w lf (zf && !lf && !decide (kd = 99) && !decide (kd = 115))).length))) (fun u => wMd G ad tp tx wd u.1 wz pi tk si mn md (nI u.2) at' (nI w) kd (bI lf) (bI zf) pl bl fr vl) := by
  refine MetI.mk2 (by decide) (Nat.le_of_ble_eq_true rfl) ?_
  intro p e s m args below meth c A ls Q S hw hX hl kret
  have hx := S.1
  have hb := S.2.1
  have hl : lv_has ls 10 [(0, .ref (ad 0)), (1, .ref (ad 3)), (2, .int (nI B)), (3, .int (nI k)), (4, .int sv)] := hl
  generalize hH0 : s.heap = H at hw ⊢
  generalize hL0 : ([] : List Loc) = locs at hw ⊢
  obtain ⟨z, hz⟩ : ∃ q, q = (zf && !lf && !decide (kd = 99) && !decide (kd = 115)) := ⟨_, rfl⟩
  have hzl : z = true → lf = false := by rw [hz]; cases lf <;> simp
  obtain ⟨FL, hFL⟩ : ∃ q, q = fldS sgl (sg wd B k) w lf z := ⟨_, rfl⟩
  rw [← hz, ← hFL] at kret
  have hlen := fldS_len (sgl := sgl) (body := sg wd B k) (w := w) hzl
  rw [← hFL, sg_len] at hlen
  unfold fldS at hFL
  rw [sg_len] at hFL
  obtain ⟨al, hal⟩ : ∃ q, q = sgl.length + k := ⟨_, rfl⟩
  rw [← hal] at hFL hlen
  obtain ⟨e1, he1⟩ : ∃ q, q = (if (lf || z) = true then [] else pad w al 32) := ⟨_, rfl⟩
  obtain ⟨ez, hez⟩ : ∃ q, q = (if z = true then pad w al 48 else []) := ⟨_, rfl⟩
  obtain ⟨el, hel⟩ : ∃ q, q = (if lf = true then pad w al 32 else []) := ⟨_, rfl⟩
  rw [← he1, ← hez, ← hel] at hFL
  have htot : e1.length + sgl.length + ez.length + k + el.length = FL.length := by rw [hFL]; simp only [List.length_append, sg_len]
  have hp32 : (pad w al 32).length = w - al := by simp [pad]
  have hp48 : (pad w al 48).length = w - al := by simp [pad]
  have hsl : sgl.length ≤ 1 := hs.elim (fun h => by rw [h.2]; simp) (fun h => by rw [h.2.1]; simp)
  have j179 : ∀ (gd : Bool) (ou2 : Nat → Int32) (N2 : Nat), N2 ≤ 1024 → (gd = true → ou2 = wr ou N (e1 ++ sgl ++ ez ++ sg wd B k) ∧ N2 = N + (e1 ++ sgl ++ ez ++ sg wd B k).length) → (gd = false → 1024 < N + FL.length) → ∀ (H : Heap) (locs : List Loc) (ls : Array Slot), gW G A s (wMd G ad tp tx wd ou2 wz pi tk si mn md (nI N2) at' (nI w) kd (bI lf) (bI zf) pl bl fr vl) H locs → lv_has ls 10 [(8, .int (bI gd)), (7, .int (bI z)), (6, .int (nI (w - al))), (5, .int (nI al)), (0, .ref (ad 0)), (1, .ref (ad 3)), (2, .int (nI B)), (3, .int (nI k)), (4, .int sv)] → W p l e (rmL 2) s m args below meth c H locs 0 0 Q (F0 m 179 ls []) := by
    intro gd ou2 N2 hN2 hg1 hg2 H locs ls hw hl
    refine lv_iload hx hb d_Md_fill_179 (lv_at hl 0 rfl) ?_
    refine lv_if_eq (tgt := 206) hx hb d_Md_fill_181 (by decide) (fun cg => ?_) (fun cg => ?_)
    · have cg : gd = false := bI_z cg
      refine lv_iconst (v := 0) hx hb d_Md_fill_206 (by decide) ?_
      exact kret _ _ _ _ _ (ou2, N2) hw (⟨hN2, Or.inr ⟨rfl, hg2 cg⟩⟩) rfl d_Md_fill_207
    · have cg : gd = true := bI_t cg
      obtain ⟨ho, hn2⟩ := hg1 cg
      have hE3 : (e1 ++ sgl ++ ez ++ sg wd B k).length = e1.length + sgl.length + ez.length + k := by simp only [List.length_append, sg_len]
      refine lv_aload_n hx hb d_Md_fill_184 rfl (lv_at hl 4 rfl) ?_
      refine xget S hw fl_Md_80 0 rfl rfl d_Md_fill_185 ?_
      refine lv_if_eq (tgt := 202) hx hb d_Md_fill_188 (by decide) (fun cl => ?_) (fun cl => ?_)
      · have cl : lf = false := bI_z cl
        have hel0 : el = [] := by rw [hel, cl]; rfl
        rw [hel0, List.append_nil] at hFL
        refine lv_iconst (v := 1) hx hb d_Md_fill_202 (by decide) ?_
        refine lv_goto (tgt := 207) hx hb d_Md_fill_203 (by decide) ?_
        exact kret _ _ _ _ _ (ou2, N2) hw (⟨hN2, Or.inl ⟨rfl, by rw [hFL]; omega, by rw [ho, hFL], by rw [hn2, hFL]⟩⟩) rfl d_Md_fill_207
      · have cl : lf = true := bI_t cl
        have hel0 : el = pad w al 32 := by rw [hel, cl]; rfl
        have hell : el.length = w - al := by rw [hel0]; exact hp32
        refine lv_aload_n hx hb d_Md_fill_191 rfl (lv_at hl 4 rfl) ?_
        refine lv_bipush (v := 32) hx hb d_Md_fill_192 (by decide) ?_
        refine lv_iload hx hb d_Md_fill_194 (lv_at hl 2 rfl) ?_
        refine zVi (As := [.int 32, .int (nI (w - al))]) (rest := []) S hw hl.1 vl_Md_111 (c_Md_puts l G ad tp tx wd ou2 wz pi tk si mn md at' (nI w) kd (bI lf) (bI zf) pl bl fr vl N2 hN2 32 (by decide) (w - al) (by omega)) 0 rfl rfl rfl ⟨rfl, rfl⟩ [0, 1, 2, 3, 4, 5, 6] [] [0, 1, 2, 3, 4, 5, 6] rfl rfl (by decide) rfl rfl rfl d_Md_fill_196 (fun _ => wMd G ad tp tx wd (if N2 + (w - al) ≤ 1024 then wr ou2 N2 (List.replicate (w - al) 32) else ou2) wz pi tk si mn md (nI (if N2 + (w - al) ≤ 1024 then N2 + (w - al) else N2)) at' (nI w) kd (bI lf) (bI zf) pl bl fr vl) (fun _ => rfl) (fun r_196 _ H locs hpp hw => ?_)
        subst hpp
        refine lv_if_eq (tgt := 206) hx hb d_Md_fill_199 (by decide) (fun cp => ?_) (fun cp => ?_)
        · have cp : (decide (N2 + (w - al) ≤ 1024)) = false := bI_z cp
          have cp := of_decide_eq_false cp
          rw [if_neg cp, if_neg cp] at hw
          refine lv_iconst (v := 0) hx hb d_Md_fill_206 (by decide) ?_
          exact kret _ _ _ _ _ (ou2, N2) hw (⟨hN2, Or.inr ⟨rfl, by omega⟩⟩) rfl d_Md_fill_207
        · have cp : (decide (N2 + (w - al) ≤ 1024)) = true := bI_t cp
          have cp := of_decide_eq_true cp
          rw [if_pos cp, if_pos cp, ho, wr_app hn2, show List.replicate (w - al) 32 = el from by rw [hel0]; rfl, ← hFL] at hw
          refine lv_iconst (v := 1) hx hb d_Md_fill_202 (by decide) ?_
          refine lv_goto (tgt := 207) hx hb d_Md_fill_203 (by decide) ?_
          exact kret _ _ _ _ _ (wr ou N FL, N2 + (w - al)) hw (⟨by show N2 + (w - al) ≤ 1024; omega, Or.inl ⟨rfl, by omega, rfl, by show N2 + (w - al) = _; omega⟩⟩) rfl d_Md_fill_207
  have lp : ∀ (d i : Nat) (gd : Bool) (ou2 : Nat → Int32) (N2 : Nat), i + d = k → N2 ≤ 1024 → (gd = true → ou2 = wr ou N (e1 ++ sgl ++ ez ++ sg wd B i) ∧ N2 = N + (e1 ++ sgl ++ ez ++ sg wd B i).length) → (gd = false → 1024 < N + FL.length) → ∀ (H : Heap) (locs : List Loc) (ls : Array Slot), gW G A s (wMd G ad tp tx wd ou2 wz pi tk si mn md (nI N2) at' (nI w) kd (bI lf) (bI zf) pl bl fr vl) H locs → lv_has ls 10 [(9, .int (nI i)), (8, .int (bI gd)), (7, .int (bI z)), (6, .int (nI (w - al))), (5, .int (nI al)), (0, .ref (ad 0)), (1, .ref (ad 3)), (2, .int (nI B)), (3, .int (nI k)), (4, .int sv)] → W p l e (rmL 2) s m args below meth c H locs 0 0 Q (F0 m 150 ls []) := by
    intro d
    induction d with
    | zero =>
      intro i gd ou2 N2 hi hN2 hg1 hg2 H locs ls hw hl
      refine lv_iload hx hb d_Md_fill_150 (lv_at hl 0 rfl) ?_
      refine lv_iload_n hx hb d_Md_fill_152 rfl (lv_at hl 8 rfl) ?_
      refine lv_icmp_ge (tgt := 179) hx hb d_Md_fill_153 (by decide) (fun _ => ?_) (fun q_ => absurd ((nI_leI (by omega) (by omega)).mpr (by omega)) q_)
      have hik : i = k := by omega
      rw [hik] at hg1
      exact j179 gd ou2 N2 hN2 hg1 hg2 _ _ _ hw (lv_sub hl [1, 2, 3, 4, 5, 6, 7, 8, 9] rfl)
    | succ d ih =>
      intro i gd ou2 N2 hi hN2 hg1 hg2 H locs ls hw hl
      refine lv_iload hx hb d_Md_fill_150 (lv_at hl 0 rfl) ?_
      refine lv_iload_n hx hb d_Md_fill_152 rfl (lv_at hl 8 rfl) ?_
      refine lv_icmp_ge (tgt := 179) hx hb d_Md_fill_153 (by decide) (fun q_ => absurd q_ (fun h => by have := (nI_leI (by omega) (by omega)).mp h; omega)) (fun _ => ?_)
      refine lv_iload hx hb d_Md_fill_156 (lv_at hl 1 rfl) ?_
      refine lv_if_eq (tgt := 179) hx hb d_Md_fill_158 (by decide) (fun cg => ?_) (fun cg => ?_)
      · have cg : gd = false := bI_z cg
        exact j179 gd ou2 N2 hN2 (fun h => by rw [cg] at h; cases h) hg2 _ _ _ hw (lv_sub hl [1, 2, 3, 4, 5, 6, 7, 8, 9] rfl)
      · have cg : gd = true := bI_t cg
        obtain ⟨ho, hn2⟩ := hg1 cg
        have hE3 : (e1 ++ sgl ++ ez ++ sg wd B i).length = e1.length + sgl.length + ez.length + i := by simp only [List.length_append, sg_len]
        refine lv_aload_n hx hb d_Md_fill_161 rfl (lv_at hl 5 rfl) ?_
        refine lv_aload_n hx hb d_Md_fill_162 rfl (lv_at hl 6 rfl) ?_
        refine lv_iload_n hx hb d_Md_fill_163 rfl (lv_at hl 7 rfl) ?_
        refine lv_iload hx hb d_Md_fill_164 (lv_at hl 0 rfl) ?_
        refine lv_iadd hx hb d_Md_fill_166 ?_
        refine tpi (y := nI (B + i)) (nI_add B i) ?_
        refine xbald S hw 3 rfl (j := (B + i)) (by omega) (by decide) d_Md_fill_167 ?_
        refine zVi (As := [.int (wd (B + i))]) (rest := []) S hw hl.1 vl_Md_107 (c_Md_put l G ad tp tx wd ou2 wz pi tk si mn md at' (nI w) kd (bI lf) (bI zf) pl bl fr vl N2 hN2 (wd (B + i))) 0 rfl rfl rfl ⟨rfl, rfl⟩ [0, 1, 2, 3, 4, 5, 6] [] [0, 1, 2, 3, 4, 5, 6] rfl rfl (by decide) rfl rfl rfl d_Md_fill_168 (fun _ => wMd G ad tp tx wd (if N2 < 1024 then wr ou2 N2 [b8 (wd (B + i))] else ou2) wz pi tk si mn md (nI (if N2 < 1024 then N2 + 1 else N2)) at' (nI w) kd (bI lf) (bI zf) pl bl fr vl) (fun _ => rfl) (fun r_168 _ H locs hpp hw => ?_)
        subst hpp
        refine lv_istore (lv' := [(8, .int (bI (decide (N2 < 1024)))), (9, .int (nI i)), (7, .int (bI z)), (6, .int (nI (w - al))), (5, .int (nI al)), (0, .ref (ad 0)), (1, .ref (ad 3)), (2, .int (nI B)), (3, .int (nI k)), (4, .int sv)]) hx hb d_Md_fill_171 hl (by decide) rfl (fun ls hl => ?_)
        refine lv_iinc (v := nI (i + 1)) (lv' := [(9, .int (nI (i + 1))), (8, .int (bI (decide (N2 < 1024)))), (7, .int (bI z)), (6, .int (nI (w - al))), (5, .int (nI al)), (0, .ref (ad 0)), (1, .ref (ad 3)), (2, .int (nI B)), (3, .int (nI k)), (4, .int sv)]) hx hb d_Md_fill_173 hl (k := 1) rfl (nI_1 i) (by decide) rfl (fun ls hl => ?_)
        refine lv_goto (tgt := 150) hx hb d_Md_fill_176 (by decide) ?_
        by_cases hlt : N2 < 1024
        · rw [if_pos hlt, if_pos hlt, ho, hrow i (by omega), wr_app hn2, List.append_assoc, ← sg_succ] at hw
          exact ih (i + 1) _ _ _ (by omega) (by omega) (fun _ => ⟨rfl, by rw [sg_succ, ← List.append_assoc, List.length_append (as := e1 ++ sgl ++ ez ++ sg wd B i)]; show N2 + 1 = _ + (_ + 1); omega⟩) (fun h => absurd hlt (of_decide_eq_false h)) _ _ _ hw (lv_sub hl [0, 1, 2, 3, 4, 5, 6, 7, 8, 9] rfl)
        · rw [if_neg hlt, if_neg hlt] at hw
          exact ih (i + 1) _ _ _ (by omega) hN2 (fun h => absurd (of_decide_eq_true h) hlt) (fun _ => by omega) _ _ _ hw (lv_sub hl [0, 1, 2, 3, 4, 5, 6, 7, 8, 9] rfl)
  have j145 : ∀ (g0 : Int32) (gd : Bool) (ou2 : Nat → Int32) (N2 : Nat), N2 ≤ 1024 → (gd = true → ou2 = wr ou N (e1 ++ sgl ++ ez) ∧ N2 = N + (e1 ++ sgl ++ ez).length) → (gd = false → 1024 < N + FL.length) → ∀ (H : Heap) (locs : List Loc) (ls : Array Slot), gW G A s (wMd G ad tp tx wd ou2 wz pi tk si mn md (nI N2) at' (nI w) kd (bI lf) (bI zf) pl bl fr vl) H locs → lv_has ls 10 [(8, .int g0), (7, .int (bI z)), (6, .int (nI (w - al))), (5, .int (nI al)), (0, .ref (ad 0)), (1, .ref (ad 3)), (2, .int (nI B)), (3, .int (nI k)), (4, .int sv)] → W p l e (rmL 2) s m args below meth c H locs 0 0 Q (F0 m 145 ls [.int (bI gd)]) := by
    intro g0 gd ou2 N2 hN2 hg1 hg2 H locs ls hw hl
    refine lv_istore (lv' := [(8, .int (bI gd)), (7, .int (bI z)), (6, .int (nI (w - al))), (5, .int (nI al)), (0, .ref (ad 0)), (1, .ref (ad 3)), (2, .int (nI B)), (3, .int (nI k)), (4, .int sv)]) hx hb d_Md_fill_145 hl (by decide) rfl (fun ls hl => ?_)
    refine lv_iconst (v := 0) hx hb d_Md_fill_147 (by decide) ?_
    refine lv_istore (lv' := [(9, .int 0), (8, .int (bI gd)), (7, .int (bI z)), (6, .int (nI (w - al))), (5, .int (nI al)), (0, .ref (ad 0)), (1, .ref (ad 3)), (2, .int (nI B)), (3, .int (nI k)), (4, .int sv)]) hx hb d_Md_fill_148 hl (by decide) rfl (fun ls hl => ?_)
    exact lp k 0 gd ou2 N2 (by omega) hN2 (by rw [sg_zero, List.append_nil]; exact hg1) hg2 _ _ _ hw (lv_sub hl [0, 1, 2, 3, 4, 5, 6, 7, 8, 9] rfl)
  have j124 : ∀ (g0 : Int32) (ou2 : Nat → Int32) (N2 : Nat), N2 ≤ 1024 → ou2 = wr ou N (e1 ++ sgl) → N2 = N + (e1 ++ sgl).length → ∀ (H : Heap) (locs : List Loc) (ls : Array Slot), gW G A s (wMd G ad tp tx wd ou2 wz pi tk si mn md (nI N2) at' (nI w) kd (bI lf) (bI zf) pl bl fr vl) H locs → lv_has ls 10 [(8, .int g0), (7, .int (bI z)), (6, .int (nI (w - al))), (5, .int (nI al)), (0, .ref (ad 0)), (1, .ref (ad 3)), (2, .int (nI B)), (3, .int (nI k)), (4, .int sv)] → W p l e (rmL 2) s m args below meth c H locs 0 0 Q (F0 m 124 ls []) := by
    intro g0 ou2 N2 hN2 ho hn2 H locs ls hw hl
    have hEA : (e1 ++ sgl).length = e1.length + sgl.length := List.length_append
    refine lv_iload hx hb d_Md_fill_124 (lv_at hl 1 rfl) ?_
    refine lv_if_eq (tgt := 140) hx hb d_Md_fill_126 (by decide) (fun cz => ?_) (fun cz => ?_)
    · have cz : z = false := bI_z cz
      have hez0 : ez = [] := by rw [hez, cz]; rfl
      refine lv_iconst (v := 1) hx hb d_Md_fill_140 (by decide) ?_
      refine lv_goto (tgt := 145) hx hb d_Md_fill_141 (by decide) ?_
      refine tpi (y := bI true) rfl ?_
      exact j145 g0 true ou2 N2 hN2 (fun _ => by rw [hez0, List.append_nil]; exact ⟨ho, hn2⟩) (fun h => by cases h) _ _ _ hw hl
    · have cz : z = true := bI_t cz
      have hez0 : ez = pad w al 48 := by rw [hez, cz]; rfl
      have hezl : ez.length = w - al := by rw [hez0]; exact hp48
      refine lv_aload_n hx hb d_Md_fill_129 rfl (lv_at hl 4 rfl) ?_
      refine lv_bipush (v := 48) hx hb d_Md_fill_130 (by decide) ?_
      refine lv_iload hx hb d_Md_fill_132 (lv_at hl 2 rfl) ?_
      refine zVi (As := [.int 48, .int (nI (w - al))]) (rest := []) S hw hl.1 vl_Md_111 (c_Md_puts l G ad tp tx wd ou2 wz pi tk si mn md at' (nI w) kd (bI lf) (bI zf) pl bl fr vl N2 hN2 48 (by decide) (w - al) (by omega)) 0 rfl rfl rfl ⟨rfl, rfl⟩ [0, 1, 2, 3, 4, 5, 6] [] [0, 1, 2, 3, 4, 5, 6] rfl rfl (by decide) rfl rfl rfl d_Md_fill_134 (fun _ => wMd G ad tp tx wd (if N2 + (w - al) ≤ 1024 then wr ou2 N2 (List.replicate (w - al) 48) else ou2) wz pi tk si mn md (nI (if N2 + (w - al) ≤ 1024 then N2 + (w - al) else N2)) at' (nI w) kd (bI lf) (bI zf) pl bl fr vl) (fun _ => rfl) (fun r_134 _ H locs hpp hw => ?_)
      subst hpp
      refine lv_if_eq (tgt := 144) hx hb d_Md_fill_137 (by decide) (fun cp => ?_) (fun cp => ?_)
      · have cp : (decide (N2 + (w - al) ≤ 1024)) = false := bI_z cp
        have cp := of_decide_eq_false cp
        rw [if_neg cp, if_neg cp] at hw
        refine lv_iconst (v := 0) hx hb d_Md_fill_144 (by decide) ?_
        refine tpi (y := bI false) rfl ?_
        exact j145 g0 false ou2 N2 hN2 (fun h => by cases h) (fun _ => by omega) _ _ _ hw hl
      · have cp : (decide (N2 + (w - al) ≤ 1024)) = true := bI_t cp
        have cp := of_decide_eq_true cp
        rw [if_pos cp, if_pos cp, ho, wr_app hn2, show List.replicate (w - al) 48 = ez from by rw [hez0]; rfl] at hw
        refine lv_iconst (v := 1) hx hb d_Md_fill_140 (by decide) ?_
        refine lv_goto (tgt := 145) hx hb d_Md_fill_141 (by decide) ?_
        refine tpi (y := bI true) rfl ?_
        exact j145 g0 true _ (N2 + (w - al)) cp (fun _ => ⟨rfl, by rw [List.length_append (as := e1 ++ sgl)]; omega⟩) (fun h => by cases h) _ _ _ hw hl
  have j103 : ∀ (gd : Bool) (ou2 : Nat → Int32) (N2 : Nat), N2 ≤ 1024 → (gd = true → ou2 = wr ou N (e1) ∧ N2 = N + (e1).length) → (gd = false → 1024 < N + FL.length) → ∀ (H : Heap) (locs : List Loc) (ls : Array Slot), gW G A s (wMd G ad tp tx wd ou2 wz pi tk si mn md (nI N2) at' (nI w) kd (bI lf) (bI zf) pl bl fr vl) H locs → lv_has ls 10 [(7, .int (bI z)), (6, .int (nI (w - al))), (5, .int (nI al)), (0, .ref (ad 0)), (1, .ref (ad 3)), (2, .int (nI B)), (3, .int (nI k)), (4, .int sv)] → W p l e (rmL 2) s m args below meth c H locs 0 0 Q (F0 m 103 ls [.int (bI gd)]) := by
    intro gd ou2 N2 hN2 hg1 hg2 H locs ls hw hl
    refine lv_istore (lv' := [(8, .int (bI gd)), (7, .int (bI z)), (6, .int (nI (w - al))), (5, .int (nI al)), (0, .ref (ad 0)), (1, .ref (ad 3)), (2, .int (nI B)), (3, .int (nI k)), (4, .int sv)]) hx hb d_Md_fill_103 hl (by decide) rfl (fun ls hl => ?_)
    refine lv_iload hx hb d_Md_fill_105 (lv_at hl 0 rfl) ?_
    refine lv_if_eq (tgt := 144) hx hb d_Md_fill_107 (by decide) (fun cg => ?_) (fun cg => ?_)
    · have cg : gd = false := bI_z cg
      refine lv_iconst (v := 0) hx hb d_Md_fill_144 (by decide) ?_
      refine tpi (y := bI false) rfl ?_
      exact j145 _ false ou2 N2 hN2 (fun h => by cases h) (fun _ => hg2 cg) _ _ _ hw hl
    · have cg : gd = true := bI_t cg
      obtain ⟨ho, hn2⟩ := hg1 cg
      refine lv_iload hx hb d_Md_fill_110 (lv_at hl 8 rfl) ?_
      refine lv_if_eq (tgt := 124) hx hb d_Md_fill_112 (by decide) (fun cs => ?_) (fun cs => ?_)
      · have hs0 : sgl = [] := hs.elim (fun h => h.2) (fun h => absurd cs h.1)
        exact j124 _ ou2 N2 hN2 (by rw [hs0, List.append_nil]; exact ho) (by rw [hs0, List.append_nil]; exact hn2) _ _ _ hw hl
      · have hs0 : sgl = [sv] ∧ b8 sv = sv := hs.elim (fun h => absurd h.1 cs) (fun h => h.2)
        have hs1 : sgl.length = 1 := by rw [hs0.1]; rfl
        refine lv_aload_n hx hb d_Md_fill_115 rfl (lv_at hl 4 rfl) ?_
        refine lv_iload hx hb d_Md_fill_116 (lv_at hl 8 rfl) ?_
        refine zVi (As := [.int sv]) (rest := []) S hw hl.1 vl_Md_107 (c_Md_put l G ad tp tx wd ou2 wz pi tk si mn md at' (nI w) kd (bI lf) (bI zf) pl bl fr vl N2 hN2 sv) 0 rfl rfl rfl ⟨rfl, rfl⟩ [0, 1, 2, 3, 4, 5, 6] [] [0, 1, 2, 3, 4, 5, 6] rfl rfl (by decide) rfl rfl rfl d_Md_fill_118 (fun _ => wMd G ad tp tx wd (if N2 < 1024 then wr ou2 N2 [b8 sv] else ou2) wz pi tk si mn md (nI (if N2 < 1024 then N2 + 1 else N2)) at' (nI w) kd (bI lf) (bI zf) pl bl fr vl) (fun _ => rfl) (fun r_118 _ H locs hpp hw => ?_)
        subst hpp
        refine lv_if_eq (tgt := 144) hx hb d_Md_fill_121 (by decide) (fun cp => ?_) (fun cp => ?_)
        · have cp : (decide (N2 < 1024)) = false := bI_z cp
          have cp := of_decide_eq_false cp
          rw [if_neg cp, if_neg cp] at hw
          refine lv_iconst (v := 0) hx hb d_Md_fill_144 (by decide) ?_
          refine tpi (y := bI false) rfl ?_
          exact j145 _ false ou2 N2 hN2 (fun h => by cases h) (fun _ => by omega) _ _ _ hw hl
        · have cp : (decide (N2 < 1024)) = true := bI_t cp
          have cp := of_decide_eq_true cp
          rw [if_pos cp, if_pos cp, ho, hs0.2, wr_app hn2, ← hs0.1] at hw
          exact j124 _ _ (N2 + 1) (by omega) rfl (by rw [List.length_append]; omega) _ _ _ hw hl
  have j73 : ∀ (_ : Unit), ∀ (H : Heap) (locs : List Loc) (ls : Array Slot), gW G A s (wMd G ad tp tx wd ou wz pi tk si mn md (nI N) at' (nI w) kd (bI lf) (bI zf) pl bl fr vl) H locs → lv_has ls 10 [(6, .int (nI (w - al))), (5, .int (nI al)), (0, .ref (ad 0)), (1, .ref (ad 3)), (2, .int (nI B)), (3, .int (nI k)), (4, .int sv)] → W p l e (rmL 2) s m args below meth c H locs 0 0 Q (F0 m 73 ls [.int (bI z)]) := by
    intro _ H locs ls hw hl
    refine lv_istore (lv' := [(7, .int (bI z)), (6, .int (nI (w - al))), (5, .int (nI al)), (0, .ref (ad 0)), (1, .ref (ad 3)), (2, .int (nI B)), (3, .int (nI k)), (4, .int sv)]) hx hb d_Md_fill_73 hl (by decide) rfl (fun ls hl => ?_)
    refine lv_aload_n hx hb d_Md_fill_75 rfl (lv_at hl 3 rfl) ?_
    refine xget S hw fl_Md_80 0 rfl rfl d_Md_fill_76 ?_
    refine lv_if_ne (tgt := 98) hx hb d_Md_fill_79 (by decide) (fun cl => ?_) (fun cl => ?_)
    · have cl : lf = true := bI_t cl
      have he10 : e1 = [] := by rw [he1, cl]; rfl
      refine lv_iconst (v := 1) hx hb d_Md_fill_98 (by decide) ?_
      refine lv_goto (tgt := 103) hx hb d_Md_fill_99 (by decide) ?_
      refine tpi (y := bI true) rfl ?_
      exact j103 true ou N hN (fun _ => by rw [he10, wr_nil]; exact ⟨rfl, rfl⟩) (fun h => by cases h) _ _ _ hw hl
    · have cl : lf = false := bI_z cl
      refine lv_iload hx hb d_Md_fill_82 (lv_at hl 0 rfl) ?_
      refine lv_if_ne (tgt := 98) hx hb d_Md_fill_84 (by decide) (fun cz => ?_) (fun cz => ?_)
      · have cz : z = true := bI_t cz
        have he10 : e1 = [] := by rw [he1, cl, cz]; rfl
        refine lv_iconst (v := 1) hx hb d_Md_fill_98 (by decide) ?_
        refine lv_goto (tgt := 103) hx hb d_Md_fill_99 (by decide) ?_
        refine tpi (y := bI true) rfl ?_
        exact j103 true ou N hN (fun _ => by rw [he10, wr_nil]; exact ⟨rfl, rfl⟩) (fun h => by cases h) _ _ _ hw hl
      · have cz : z = false := bI_z cz
        have he10 : e1 = pad w al 32 := by rw [he1, cl, cz]; rfl
        have he1l : e1.length = w - al := by rw [he10]; exact hp32
        refine lv_aload_n hx hb d_Md_fill_87 rfl (lv_at hl 3 rfl) ?_
        refine lv_bipush (v := 32) hx hb d_Md_fill_88 (by decide) ?_
        refine lv_iload hx hb d_Md_fill_90 (lv_at hl 1 rfl) ?_
        refine zVi (As := [.int 32, .int (nI (w - al))]) (rest := []) S hw hl.1 vl_Md_111 (c_Md_puts l G ad tp tx wd ou wz pi tk si mn md at' (nI w) kd (bI lf) (bI zf) pl bl fr vl N hN 32 (by decide) (w - al) (by omega)) 0 rfl rfl rfl ⟨rfl, rfl⟩ [0, 1, 2, 3, 4, 5, 6] [] [0, 1, 2, 3, 4, 5, 6] rfl rfl (by decide) rfl rfl rfl d_Md_fill_92 (fun _ => wMd G ad tp tx wd (if N + (w - al) ≤ 1024 then wr ou N (List.replicate (w - al) 32) else ou) wz pi tk si mn md (nI (if N + (w - al) ≤ 1024 then N + (w - al) else N)) at' (nI w) kd (bI lf) (bI zf) pl bl fr vl) (fun _ => rfl) (fun r_92 _ H locs hpp hw => ?_)
        subst hpp
        refine lv_if_eq (tgt := 102) hx hb d_Md_fill_95 (by decide) (fun cp => ?_) (fun cp => ?_)
        · have cp : (decide (N + (w - al) ≤ 1024)) = false := bI_z cp
          have cp := of_decide_eq_false cp
          rw [if_neg cp, if_neg cp] at hw
          refine lv_iconst (v := 0) hx hb d_Md_fill_102 (by decide) ?_
          refine tpi (y := bI false) rfl ?_
          exact j103 false ou N hN (fun h => by cases h) (fun _ => by omega) _ _ _ hw hl
        · have cp : (decide (N + (w - al) ≤ 1024)) = true := bI_t cp
          have cp := of_decide_eq_true cp
          rw [if_pos cp, if_pos cp, show List.replicate (w - al) 32 = e1 from by rw [he10]; rfl] at hw
          refine lv_iconst (v := 1) hx hb d_Md_fill_98 (by decide) ?_
          refine lv_goto (tgt := 103) hx hb d_Md_fill_99 (by decide) ?_
          refine tpi (y := bI true) rfl ?_
          exact j103 true _ (N + (w - al)) cp (fun _ => ⟨rfl, by omega⟩) (fun h => by cases h) _ _ _ hw hl
  have j34 : ∀ (_ : Unit), ∀ (H : Heap) (locs : List Loc) (ls : Array Slot), gW G A s (wMd G ad tp tx wd ou wz pi tk si mn md (nI N) at' (nI w) kd (bI lf) (bI zf) pl bl fr vl) H locs → lv_has ls 10 [(5, .int (nI al)), (0, .ref (ad 0)), (1, .ref (ad 3)), (2, .int (nI B)), (3, .int (nI k)), (4, .int sv)] → W p l e (rmL 2) s m args below meth c H locs 0 0 Q (F0 m 34 ls [.int (nI (w - al))]) := by
    intro _ H locs ls hw hl
    refine lv_istore (lv' := [(6, .int (nI (w - al))), (5, .int (nI al)), (0, .ref (ad 0)), (1, .ref (ad 3)), (2, .int (nI B)), (3, .int (nI k)), (4, .int sv)]) hx hb d_Md_fill_34 hl (by decide) rfl (fun ls hl => ?_)
    refine lv_aload_n hx hb d_Md_fill_36 rfl (lv_at hl 2 rfl) ?_
    refine xget S hw fl_Md_84 0 rfl rfl d_Md_fill_37 ?_
    refine lv_if_eq (tgt := 72) hx hb d_Md_fill_40 (by decide) (fun x1 => ?_) (fun x1 => ?_)
    · have x1 : zf = false := bI_z x1
      refine lv_iconst (v := 0) hx hb d_Md_fill_72 (by decide) ?_
      refine tpi (y := bI z) (by rw [show z = false from by rw [hz, x1]; rfl]; rfl) ?_
      exact j73 () _ _ _ hw hl
    · have x1 : zf = true := bI_t x1
      refine lv_aload_n hx hb d_Md_fill_43 rfl (lv_at hl 2 rfl) ?_
      refine xget S hw fl_Md_80 0 rfl rfl d_Md_fill_44 ?_
      refine lv_if_ne (tgt := 72) hx hb d_Md_fill_47 (by decide) (fun x2 => ?_) (fun x2 => ?_)
      · have x2 : lf = true := bI_t x2
        refine lv_iconst (v := 0) hx hb d_Md_fill_72 (by decide) ?_
        refine tpi (y := bI z) (by rw [show z = false from by rw [hz, x1, x2]; rfl]; rfl) ?_
        exact j73 () _ _ _ hw hl
      · have x2 : lf = false := bI_z x2
        refine lv_aload_n hx hb d_Md_fill_50 rfl (lv_at hl 2 rfl) ?_
        refine xget S hw fl_Md_101 0 rfl rfl d_Md_fill_51 ?_
        refine lv_bipush (v := 99) hx hb d_Md_fill_54 (by decide) ?_
        refine lv_icmp_eq (tgt := 72) hx hb d_Md_fill_56 (by decide) (fun x3 => ?_) (fun x3 => ?_)
        · refine lv_iconst (v := 0) hx hb d_Md_fill_72 (by decide) ?_
          refine tpi (y := bI z) (by rw [show z = false from by rw [hz, x1, x2, decide_eq_true x3]; rfl]; rfl) ?_
          exact j73 () _ _ _ hw hl
        · refine lv_aload_n hx hb d_Md_fill_59 rfl (lv_at hl 2 rfl) ?_
          refine xget S hw fl_Md_101 0 rfl rfl d_Md_fill_60 ?_
          refine lv_bipush (v := 115) hx hb d_Md_fill_63 (by decide) ?_
          refine lv_icmp_eq (tgt := 72) hx hb d_Md_fill_65 (by decide) (fun x4 => ?_) (fun x4 => ?_)
          · refine lv_iconst (v := 0) hx hb d_Md_fill_72 (by decide) ?_
            refine tpi (y := bI z) (by rw [show z = false from by rw [hz, x1, x2, decide_eq_false x3, decide_eq_true x4]; rfl]; rfl) ?_
            exact j73 () _ _ _ hw hl
          · refine lv_iconst (v := 1) hx hb d_Md_fill_68 (by decide) ?_
            refine lv_goto (tgt := 73) hx hb d_Md_fill_69 (by decide) ?_
            refine tpi (y := bI z) (by rw [show z = true from by rw [hz, x1, x2, decide_eq_false x3, decide_eq_false x4]; rfl]; rfl) ?_
            exact j73 () _ _ _ hw hl
  have j12 : ∀ (_ : Unit), ∀ (H : Heap) (locs : List Loc) (ls : Array Slot), gW G A s (wMd G ad tp tx wd ou wz pi tk si mn md (nI N) at' (nI w) kd (bI lf) (bI zf) pl bl fr vl) H locs → lv_has ls 10 [(0, .ref (ad 0)), (1, .ref (ad 3)), (2, .int (nI B)), (3, .int (nI k)), (4, .int sv)] → W p l e (rmL 2) s m args below meth c H locs 0 0 Q (F0 m 12 ls [.int (nI al)]) := by
    intro _ H locs ls hw hl
    refine lv_istore (lv' := [(5, .int (nI al)), (0, .ref (ad 0)), (1, .ref (ad 3)), (2, .int (nI B)), (3, .int (nI k)), (4, .int sv)]) hx hb d_Md_fill_12 hl (by decide) rfl (fun ls hl => ?_)
    refine lv_aload_n hx hb d_Md_fill_14 rfl (lv_at hl 1 rfl) ?_
    refine xget S hw fl_Md_93 0 rfl rfl d_Md_fill_15 ?_
    refine lv_iload hx hb d_Md_fill_18 (lv_at hl 0 rfl) ?_
    refine lv_icmp_le (tgt := 33) hx hb d_Md_fill_20 (by decide) (fun c1 => ?_) (fun c1 => ?_)
    · have c1 : w ≤ al := (nI_leI (a := w) (b := al) (by omega) (by omega)).mp c1
      refine lv_iconst (v := 0) hx hb d_Md_fill_33 (by decide) ?_
      refine tpi (y := nI (w - al)) (by rw [show w - al = 0 by omega]; rfl) ?_
      exact j34 () _ _ _ hw hl
    · have c1 : ¬ w ≤ al := fun q_ => c1 ((nI_leI (a := w) (b := al) (by omega) (by omega)).mpr q_)
      refine lv_aload_n hx hb d_Md_fill_23 rfl (lv_at hl 1 rfl) ?_
      refine xget S hw fl_Md_93 0 rfl rfl d_Md_fill_24 ?_
      refine lv_iload hx hb d_Md_fill_27 (lv_at hl 0 rfl) ?_
      refine lv_isub hx hb d_Md_fill_29 ?_
      refine tpi (y := nI (w - al)) (pk_sub (by omega)) ?_
      refine lv_goto (tgt := 34) hx hb d_Md_fill_30 (by decide) ?_
      exact j34 () _ _ _ hw hl
  refine lv_iload hx hb d_Md_fill_0 (lv_at hl 4 rfl) ?_
  refine lv_if_ne (tgt := 9) hx hb d_Md_fill_2 (by decide) (fun c0 => ?_) (fun c0 => ?_)
  · have hs1 : sgl.length = 1 := hs.elim (fun h => absurd h.1 c0) (fun h => by rw [h.2.1]; rfl)
    refine lv_iload_n hx hb d_Md_fill_9 rfl (lv_at hl 3 rfl) ?_
    refine lv_iconst (v := 1) hx hb d_Md_fill_10 (by decide) ?_
    refine lv_iadd hx hb d_Md_fill_11 ?_
    refine tpi (y := nI (k + 1)) (nI_add k 1) ?_
    refine tpi (y := nI al) (by rw [hal, hs1, Nat.add_comm]) ?_
    exact j12 () _ _ _ hw hl
  · have hs1 : sgl.length = 0 := hs.elim (fun h => by rw [h.2]; rfl) (fun h => absurd c0 h.1)
    refine lv_iload_n hx hb d_Md_fill_5 rfl (lv_at hl 3 rfl) ?_
    refine lv_goto (tgt := 12) hx hb d_Md_fill_6 (by decide) ?_
    refine tpi (y := nI al) (by rw [hal, hs1, Nat.zero_add]) ?_
    exact j12 () _ _ _ hw hl
set_option maxHeartbeats 8000000 in
set_option maxRecDepth 100000 in
theorem c_Md_fillP (l : Launch) (G : gG) (ad : Nat → Nat) (tp : Nat → Int32) (tx : Nat → Int32) (wd : Nat → Int32) (ou : Nat → Int32) (wz : Nat → Int32) (pi : Nat → Int32) (tk : Int32) (si : Int32) (mn : Int32) (md : Int32) (at' : Int32) (pl : Int32) (bl : Int32) (fr : Int32) (vl : Int64) (N B k w : Nat) (sv kd : Int32) (lf zf : Bool) (sgl : List Int32) (hs : (sv = 0 ∧ sgl = []) ∨ (sv ≠ 0 ∧ sgl = [sv] ∧ b8 sv = sv)) (hN : N ≤ 1024) (hBk : B + k ≤ 72) (hw1 : w ≤ 100000) (hrow : ∀ i, i < k → b8 (pi (B + i)) = pi (B + i)) : MetI (σ := ((Nat → Int32) × Nat)) l y_Md_fill (Cond.code y_Md_fill b_Md_fill 10 (some .boolean)) (rmL 2) 0 0 G [.ref (ad 0), .ref (ad 6), .int (nI B), .int (nI k), .int sv] (wMd G ad tp tx wd ou wz pi tk si mn md (nI N) at' (nI w) kd (bI lf) (bI zf) pl bl fr vl) X0 (fun r u => u.2 ≤ 1024 ∧ ((r = 1 ∧ N + (fldS sgl (sg pi B k) w lf (zf && !lf && !decide (kd = 99) && !decide (kd = 115))).length ≤ 1024 ∧ u.1 = wr ou N (fldS sgl (sg pi B k) w lf (zf && !lf && !decide (kd = 99) && !decide (kd = 115))) ∧ u.2 = N + (fldS sgl (sg pi B k) w lf (zf && !lf && !decide (kd = 99) && !decide (kd = 115))).length) ∨ (r = 0 ∧ 1024 < N + (fldS sgl (sg pi B k) w lf (zf && !lf && !decide (kd = 99) && !decide (kd = 115))).length))) (fun u => wMd G ad tp tx wd u.1 wz pi tk si mn md (nI u.2) at' (nI w) kd (bI lf) (bI zf) pl bl fr vl) := by
  refine MetI.mk2 (by decide) (Nat.le_of_ble_eq_true rfl) ?_
  intro p e s m args below meth c A ls Q S hw hX hl kret
  have hx := S.1
  have hb := S.2.1
  have hl : lv_has ls 10 [(0, .ref (ad 0)), (1, .ref (ad 6)), (2, .int (nI B)), (3, .int (nI k)), (4, .int sv)] := hl
  generalize hH0 : s.heap = H at hw ⊢
  generalize hL0 : ([] : List Loc) = locs at hw ⊢
  obtain ⟨z, hz⟩ : ∃ q, q = (zf && !lf && !decide (kd = 99) && !decide (kd = 115)) := ⟨_, rfl⟩
  have hzl : z = true → lf = false := by rw [hz]; cases lf <;> simp
  obtain ⟨FL, hFL⟩ : ∃ q, q = fldS sgl (sg pi B k) w lf z := ⟨_, rfl⟩
  rw [← hz, ← hFL] at kret
  have hlen := fldS_len (sgl := sgl) (body := sg pi B k) (w := w) hzl
  rw [← hFL, sg_len] at hlen
  unfold fldS at hFL
  rw [sg_len] at hFL
  obtain ⟨al, hal⟩ : ∃ q, q = sgl.length + k := ⟨_, rfl⟩
  rw [← hal] at hFL hlen
  obtain ⟨e1, he1⟩ : ∃ q, q = (if (lf || z) = true then [] else pad w al 32) := ⟨_, rfl⟩
  obtain ⟨ez, hez⟩ : ∃ q, q = (if z = true then pad w al 48 else []) := ⟨_, rfl⟩
  obtain ⟨el, hel⟩ : ∃ q, q = (if lf = true then pad w al 32 else []) := ⟨_, rfl⟩
  rw [← he1, ← hez, ← hel] at hFL
  have htot : e1.length + sgl.length + ez.length + k + el.length = FL.length := by rw [hFL]; simp only [List.length_append, sg_len]
  have hp32 : (pad w al 32).length = w - al := by simp [pad]
  have hp48 : (pad w al 48).length = w - al := by simp [pad]
  have hsl : sgl.length ≤ 1 := hs.elim (fun h => by rw [h.2]; simp) (fun h => by rw [h.2.1]; simp)
  have j179 : ∀ (gd : Bool) (ou2 : Nat → Int32) (N2 : Nat), N2 ≤ 1024 → (gd = true → ou2 = wr ou N (e1 ++ sgl ++ ez ++ sg pi B k) ∧ N2 = N + (e1 ++ sgl ++ ez ++ sg pi B k).length) → (gd = false → 1024 < N + FL.length) → ∀ (H : Heap) (locs : List Loc) (ls : Array Slot), gW G A s (wMd G ad tp tx wd ou2 wz pi tk si mn md (nI N2) at' (nI w) kd (bI lf) (bI zf) pl bl fr vl) H locs → lv_has ls 10 [(8, .int (bI gd)), (7, .int (bI z)), (6, .int (nI (w - al))), (5, .int (nI al)), (0, .ref (ad 0)), (1, .ref (ad 6)), (2, .int (nI B)), (3, .int (nI k)), (4, .int sv)] → W p l e (rmL 2) s m args below meth c H locs 0 0 Q (F0 m 179 ls []) := by
    intro gd ou2 N2 hN2 hg1 hg2 H locs ls hw hl
    refine lv_iload hx hb d_Md_fill_179 (lv_at hl 0 rfl) ?_
    refine lv_if_eq (tgt := 206) hx hb d_Md_fill_181 (by decide) (fun cg => ?_) (fun cg => ?_)
    · have cg : gd = false := bI_z cg
      refine lv_iconst (v := 0) hx hb d_Md_fill_206 (by decide) ?_
      exact kret _ _ _ _ _ (ou2, N2) hw (⟨hN2, Or.inr ⟨rfl, hg2 cg⟩⟩) rfl d_Md_fill_207
    · have cg : gd = true := bI_t cg
      obtain ⟨ho, hn2⟩ := hg1 cg
      have hE3 : (e1 ++ sgl ++ ez ++ sg pi B k).length = e1.length + sgl.length + ez.length + k := by simp only [List.length_append, sg_len]
      refine lv_aload_n hx hb d_Md_fill_184 rfl (lv_at hl 4 rfl) ?_
      refine xget S hw fl_Md_80 0 rfl rfl d_Md_fill_185 ?_
      refine lv_if_eq (tgt := 202) hx hb d_Md_fill_188 (by decide) (fun cl => ?_) (fun cl => ?_)
      · have cl : lf = false := bI_z cl
        have hel0 : el = [] := by rw [hel, cl]; rfl
        rw [hel0, List.append_nil] at hFL
        refine lv_iconst (v := 1) hx hb d_Md_fill_202 (by decide) ?_
        refine lv_goto (tgt := 207) hx hb d_Md_fill_203 (by decide) ?_
        exact kret _ _ _ _ _ (ou2, N2) hw (⟨hN2, Or.inl ⟨rfl, by rw [hFL]; omega, by rw [ho, hFL], by rw [hn2, hFL]⟩⟩) rfl d_Md_fill_207
      · have cl : lf = true := bI_t cl
        have hel0 : el = pad w al 32 := by rw [hel, cl]; rfl
        have hell : el.length = w - al := by rw [hel0]; exact hp32
        refine lv_aload_n hx hb d_Md_fill_191 rfl (lv_at hl 4 rfl) ?_
        refine lv_bipush (v := 32) hx hb d_Md_fill_192 (by decide) ?_
        refine lv_iload hx hb d_Md_fill_194 (lv_at hl 2 rfl) ?_
        refine zVi (As := [.int 32, .int (nI (w - al))]) (rest := []) S hw hl.1 vl_Md_111 (c_Md_puts l G ad tp tx wd ou2 wz pi tk si mn md at' (nI w) kd (bI lf) (bI zf) pl bl fr vl N2 hN2 32 (by decide) (w - al) (by omega)) 0 rfl rfl rfl ⟨rfl, rfl⟩ [0, 1, 2, 3, 4, 5, 6] [] [0, 1, 2, 3, 4, 5, 6] rfl rfl (by decide) rfl rfl rfl d_Md_fill_196 (fun _ => wMd G ad tp tx wd (if N2 + (w - al) ≤ 1024 then wr ou2 N2 (List.replicate (w - al) 32) else ou2) wz pi tk si mn md (nI (if N2 + (w - al) ≤ 1024 then N2 + (w - al) else N2)) at' (nI w) kd (bI lf) (bI zf) pl bl fr vl) (fun _ => rfl) (fun r_196 _ H locs hpp hw => ?_)
        subst hpp
        refine lv_if_eq (tgt := 206) hx hb d_Md_fill_199 (by decide) (fun cp => ?_) (fun cp => ?_)
        · have cp : (decide (N2 + (w - al) ≤ 1024)) = false := bI_z cp
          have cp := of_decide_eq_false cp
          rw [if_neg cp, if_neg cp] at hw
          refine lv_iconst (v := 0) hx hb d_Md_fill_206 (by decide) ?_
          exact kret _ _ _ _ _ (ou2, N2) hw (⟨hN2, Or.inr ⟨rfl, by omega⟩⟩) rfl d_Md_fill_207
        · have cp : (decide (N2 + (w - al) ≤ 1024)) = true := bI_t cp
          have cp := of_decide_eq_true cp
          rw [if_pos cp, if_pos cp, ho, wr_app hn2, show List.replicate (w - al) 32 = el from by rw [hel0]; rfl, ← hFL] at hw
          refine lv_iconst (v := 1) hx hb d_Md_fill_202 (by decide) ?_
          refine lv_goto (tgt := 207) hx hb d_Md_fill_203 (by decide) ?_
          exact kret _ _ _ _ _ (wr ou N FL, N2 + (w - al)) hw (⟨by show N2 + (w - al) ≤ 1024; omega, Or.inl ⟨rfl, by omega, rfl, by show N2 + (w - al) = _; omega⟩⟩) rfl d_Md_fill_207
  have lp : ∀ (d i : Nat) (gd : Bool) (ou2 : Nat → Int32) (N2 : Nat), i + d = k → N2 ≤ 1024 → (gd = true → ou2 = wr ou N (e1 ++ sgl ++ ez ++ sg pi B i) ∧ N2 = N + (e1 ++ sgl ++ ez ++ sg pi B i).length) → (gd = false → 1024 < N + FL.length) → ∀ (H : Heap) (locs : List Loc) (ls : Array Slot), gW G A s (wMd G ad tp tx wd ou2 wz pi tk si mn md (nI N2) at' (nI w) kd (bI lf) (bI zf) pl bl fr vl) H locs → lv_has ls 10 [(9, .int (nI i)), (8, .int (bI gd)), (7, .int (bI z)), (6, .int (nI (w - al))), (5, .int (nI al)), (0, .ref (ad 0)), (1, .ref (ad 6)), (2, .int (nI B)), (3, .int (nI k)), (4, .int sv)] → W p l e (rmL 2) s m args below meth c H locs 0 0 Q (F0 m 150 ls []) := by
    intro d
    induction d with
    | zero =>
      intro i gd ou2 N2 hi hN2 hg1 hg2 H locs ls hw hl
      refine lv_iload hx hb d_Md_fill_150 (lv_at hl 0 rfl) ?_
      refine lv_iload_n hx hb d_Md_fill_152 rfl (lv_at hl 8 rfl) ?_
      refine lv_icmp_ge (tgt := 179) hx hb d_Md_fill_153 (by decide) (fun _ => ?_) (fun q_ => absurd ((nI_leI (by omega) (by omega)).mpr (by omega)) q_)
      have hik : i = k := by omega
      rw [hik] at hg1
      exact j179 gd ou2 N2 hN2 hg1 hg2 _ _ _ hw (lv_sub hl [1, 2, 3, 4, 5, 6, 7, 8, 9] rfl)
    | succ d ih =>
      intro i gd ou2 N2 hi hN2 hg1 hg2 H locs ls hw hl
      refine lv_iload hx hb d_Md_fill_150 (lv_at hl 0 rfl) ?_
      refine lv_iload_n hx hb d_Md_fill_152 rfl (lv_at hl 8 rfl) ?_
      refine lv_icmp_ge (tgt := 179) hx hb d_Md_fill_153 (by decide) (fun q_ => absurd q_ (fun h => by have := (nI_leI (by omega) (by omega)).mp h; omega)) (fun _ => ?_)
      refine lv_iload hx hb d_Md_fill_156 (lv_at hl 1 rfl) ?_
      refine lv_if_eq (tgt := 179) hx hb d_Md_fill_158 (by decide) (fun cg => ?_) (fun cg => ?_)
      · have cg : gd = false := bI_z cg
        exact j179 gd ou2 N2 hN2 (fun h => by rw [cg] at h; cases h) hg2 _ _ _ hw (lv_sub hl [1, 2, 3, 4, 5, 6, 7, 8, 9] rfl)
      · have cg : gd = true := bI_t cg
        obtain ⟨ho, hn2⟩ := hg1 cg
        have hE3 : (e1 ++ sgl ++ ez ++ sg pi B i).length = e1.length + sgl.length + ez.length + i := by simp only [List.length_append, sg_len]
        refine lv_aload_n hx hb d_Md_fill_161 rfl (lv_at hl 5 rfl) ?_
        refine lv_aload_n hx hb d_Md_fill_162 rfl (lv_at hl 6 rfl) ?_
        refine lv_iload_n hx hb d_Md_fill_163 rfl (lv_at hl 7 rfl) ?_
        refine lv_iload hx hb d_Md_fill_164 (lv_at hl 0 rfl) ?_
        refine lv_iadd hx hb d_Md_fill_166 ?_
        refine tpi (y := nI (B + i)) (nI_add B i) ?_
        refine xbald S hw 6 rfl (j := (B + i)) (by omega) (by decide) d_Md_fill_167 ?_
        refine zVi (As := [.int (pi (B + i))]) (rest := []) S hw hl.1 vl_Md_107 (c_Md_put l G ad tp tx wd ou2 wz pi tk si mn md at' (nI w) kd (bI lf) (bI zf) pl bl fr vl N2 hN2 (pi (B + i))) 0 rfl rfl rfl ⟨rfl, rfl⟩ [0, 1, 2, 3, 4, 5, 6] [] [0, 1, 2, 3, 4, 5, 6] rfl rfl (by decide) rfl rfl rfl d_Md_fill_168 (fun _ => wMd G ad tp tx wd (if N2 < 1024 then wr ou2 N2 [b8 (pi (B + i))] else ou2) wz pi tk si mn md (nI (if N2 < 1024 then N2 + 1 else N2)) at' (nI w) kd (bI lf) (bI zf) pl bl fr vl) (fun _ => rfl) (fun r_168 _ H locs hpp hw => ?_)
        subst hpp
        refine lv_istore (lv' := [(8, .int (bI (decide (N2 < 1024)))), (9, .int (nI i)), (7, .int (bI z)), (6, .int (nI (w - al))), (5, .int (nI al)), (0, .ref (ad 0)), (1, .ref (ad 6)), (2, .int (nI B)), (3, .int (nI k)), (4, .int sv)]) hx hb d_Md_fill_171 hl (by decide) rfl (fun ls hl => ?_)
        refine lv_iinc (v := nI (i + 1)) (lv' := [(9, .int (nI (i + 1))), (8, .int (bI (decide (N2 < 1024)))), (7, .int (bI z)), (6, .int (nI (w - al))), (5, .int (nI al)), (0, .ref (ad 0)), (1, .ref (ad 6)), (2, .int (nI B)), (3, .int (nI k)), (4, .int sv)]) hx hb d_Md_fill_173 hl (k := 1) rfl (nI_1 i) (by decide) rfl (fun ls hl => ?_)
        refine lv_goto (tgt := 150) hx hb d_Md_fill_176 (by decide) ?_
        by_cases hlt : N2 < 1024
        · rw [if_pos hlt, if_pos hlt, ho, hrow i (by omega), wr_app hn2, List.append_assoc, ← sg_succ] at hw
          exact ih (i + 1) _ _ _ (by omega) (by omega) (fun _ => ⟨rfl, by rw [sg_succ, ← List.append_assoc, List.length_append (as := e1 ++ sgl ++ ez ++ sg pi B i)]; show N2 + 1 = _ + (_ + 1); omega⟩) (fun h => absurd hlt (of_decide_eq_false h)) _ _ _ hw (lv_sub hl [0, 1, 2, 3, 4, 5, 6, 7, 8, 9] rfl)
        · rw [if_neg hlt, if_neg hlt] at hw
          exact ih (i + 1) _ _ _ (by omega) hN2 (fun h => absurd (of_decide_eq_true h) hlt) (fun _ => by omega) _ _ _ hw (lv_sub hl [0, 1, 2, 3, 4, 5, 6, 7, 8, 9] rfl)
  have j145 : ∀ (g0 : Int32) (gd : Bool) (ou2 : Nat → Int32) (N2 : Nat), N2 ≤ 1024 → (gd = true → ou2 = wr ou N (e1 ++ sgl ++ ez) ∧ N2 = N + (e1 ++ sgl ++ ez).length) → (gd = false → 1024 < N + FL.length) → ∀ (H : Heap) (locs : List Loc) (ls : Array Slot), gW G A s (wMd G ad tp tx wd ou2 wz pi tk si mn md (nI N2) at' (nI w) kd (bI lf) (bI zf) pl bl fr vl) H locs → lv_has ls 10 [(8, .int g0), (7, .int (bI z)), (6, .int (nI (w - al))), (5, .int (nI al)), (0, .ref (ad 0)), (1, .ref (ad 6)), (2, .int (nI B)), (3, .int (nI k)), (4, .int sv)] → W p l e (rmL 2) s m args below meth c H locs 0 0 Q (F0 m 145 ls [.int (bI gd)]) := by
    intro g0 gd ou2 N2 hN2 hg1 hg2 H locs ls hw hl
    refine lv_istore (lv' := [(8, .int (bI gd)), (7, .int (bI z)), (6, .int (nI (w - al))), (5, .int (nI al)), (0, .ref (ad 0)), (1, .ref (ad 6)), (2, .int (nI B)), (3, .int (nI k)), (4, .int sv)]) hx hb d_Md_fill_145 hl (by decide) rfl (fun ls hl => ?_)
    refine lv_iconst (v := 0) hx hb d_Md_fill_147 (by decide) ?_
    refine lv_istore (lv' := [(9, .int 0), (8, .int (bI gd)), (7, .int (bI z)), (6, .int (nI (w - al))), (5, .int (nI al)), (0, .ref (ad 0)), (1, .ref (ad 6)), (2, .int (nI B)), (3, .int (nI k)), (4, .int sv)]) hx hb d_Md_fill_148 hl (by decide) rfl (fun ls hl => ?_)
    exact lp k 0 gd ou2 N2 (by omega) hN2 (by rw [sg_zero, List.append_nil]; exact hg1) hg2 _ _ _ hw (lv_sub hl [0, 1, 2, 3, 4, 5, 6, 7, 8, 9] rfl)
  have j124 : ∀ (g0 : Int32) (ou2 : Nat → Int32) (N2 : Nat), N2 ≤ 1024 → ou2 = wr ou N (e1 ++ sgl) → N2 = N + (e1 ++ sgl).length → ∀ (H : Heap) (locs : List Loc) (ls : Array Slot), gW G A s (wMd G ad tp tx wd ou2 wz pi tk si mn md (nI N2) at' (nI w) kd (bI lf) (bI zf) pl bl fr vl) H locs → lv_has ls 10 [(8, .int g0), (7, .int (bI z)), (6, .int (nI (w - al))), (5, .int (nI al)), (0, .ref (ad 0)), (1, .ref (ad 6)), (2, .int (nI B)), (3, .int (nI k)), (4, .int sv)] → W p l e (rmL 2) s m args below meth c H locs 0 0 Q (F0 m 124 ls []) := by
    intro g0 ou2 N2 hN2 ho hn2 H locs ls hw hl
    have hEA : (e1 ++ sgl).length = e1.length + sgl.length := List.length_append
    refine lv_iload hx hb d_Md_fill_124 (lv_at hl 1 rfl) ?_
    refine lv_if_eq (tgt := 140) hx hb d_Md_fill_126 (by decide) (fun cz => ?_) (fun cz => ?_)
    · have cz : z = false := bI_z cz
      have hez0 : ez = [] := by rw [hez, cz]; rfl
      refine lv_iconst (v := 1) hx hb d_Md_fill_140 (by decide) ?_
      refine lv_goto (tgt := 145) hx hb d_Md_fill_141 (by decide) ?_
      refine tpi (y := bI true) rfl ?_
      exact j145 g0 true ou2 N2 hN2 (fun _ => by rw [hez0, List.append_nil]; exact ⟨ho, hn2⟩) (fun h => by cases h) _ _ _ hw hl
    · have cz : z = true := bI_t cz
      have hez0 : ez = pad w al 48 := by rw [hez, cz]; rfl
      have hezl : ez.length = w - al := by rw [hez0]; exact hp48
      refine lv_aload_n hx hb d_Md_fill_129 rfl (lv_at hl 4 rfl) ?_
      refine lv_bipush (v := 48) hx hb d_Md_fill_130 (by decide) ?_
      refine lv_iload hx hb d_Md_fill_132 (lv_at hl 2 rfl) ?_
      refine zVi (As := [.int 48, .int (nI (w - al))]) (rest := []) S hw hl.1 vl_Md_111 (c_Md_puts l G ad tp tx wd ou2 wz pi tk si mn md at' (nI w) kd (bI lf) (bI zf) pl bl fr vl N2 hN2 48 (by decide) (w - al) (by omega)) 0 rfl rfl rfl ⟨rfl, rfl⟩ [0, 1, 2, 3, 4, 5, 6] [] [0, 1, 2, 3, 4, 5, 6] rfl rfl (by decide) rfl rfl rfl d_Md_fill_134 (fun _ => wMd G ad tp tx wd (if N2 + (w - al) ≤ 1024 then wr ou2 N2 (List.replicate (w - al) 48) else ou2) wz pi tk si mn md (nI (if N2 + (w - al) ≤ 1024 then N2 + (w - al) else N2)) at' (nI w) kd (bI lf) (bI zf) pl bl fr vl) (fun _ => rfl) (fun r_134 _ H locs hpp hw => ?_)
      subst hpp
      refine lv_if_eq (tgt := 144) hx hb d_Md_fill_137 (by decide) (fun cp => ?_) (fun cp => ?_)
      · have cp : (decide (N2 + (w - al) ≤ 1024)) = false := bI_z cp
        have cp := of_decide_eq_false cp
        rw [if_neg cp, if_neg cp] at hw
        refine lv_iconst (v := 0) hx hb d_Md_fill_144 (by decide) ?_
        refine tpi (y := bI false) rfl ?_
        exact j145 g0 false ou2 N2 hN2 (fun h => by cases h) (fun _ => by omega) _ _ _ hw hl
      · have cp : (decide (N2 + (w - al) ≤ 1024)) = true := bI_t cp
        have cp := of_decide_eq_true cp
        rw [if_pos cp, if_pos cp, ho, wr_app hn2, show List.replicate (w - al) 48 = ez from by rw [hez0]; rfl] at hw
        refine lv_iconst (v := 1) hx hb d_Md_fill_140 (by decide) ?_
        refine lv_goto (tgt := 145) hx hb d_Md_fill_141 (by decide) ?_
        refine tpi (y := bI true) rfl ?_
        exact j145 g0 true _ (N2 + (w - al)) cp (fun _ => ⟨rfl, by rw [List.length_append (as := e1 ++ sgl)]; omega⟩) (fun h => by cases h) _ _ _ hw hl
  have j103 : ∀ (gd : Bool) (ou2 : Nat → Int32) (N2 : Nat), N2 ≤ 1024 → (gd = true → ou2 = wr ou N (e1) ∧ N2 = N + (e1).length) → (gd = false → 1024 < N + FL.length) → ∀ (H : Heap) (locs : List Loc) (ls : Array Slot), gW G A s (wMd G ad tp tx wd ou2 wz pi tk si mn md (nI N2) at' (nI w) kd (bI lf) (bI zf) pl bl fr vl) H locs → lv_has ls 10 [(7, .int (bI z)), (6, .int (nI (w - al))), (5, .int (nI al)), (0, .ref (ad 0)), (1, .ref (ad 6)), (2, .int (nI B)), (3, .int (nI k)), (4, .int sv)] → W p l e (rmL 2) s m args below meth c H locs 0 0 Q (F0 m 103 ls [.int (bI gd)]) := by
    intro gd ou2 N2 hN2 hg1 hg2 H locs ls hw hl
    refine lv_istore (lv' := [(8, .int (bI gd)), (7, .int (bI z)), (6, .int (nI (w - al))), (5, .int (nI al)), (0, .ref (ad 0)), (1, .ref (ad 6)), (2, .int (nI B)), (3, .int (nI k)), (4, .int sv)]) hx hb d_Md_fill_103 hl (by decide) rfl (fun ls hl => ?_)
    refine lv_iload hx hb d_Md_fill_105 (lv_at hl 0 rfl) ?_
    refine lv_if_eq (tgt := 144) hx hb d_Md_fill_107 (by decide) (fun cg => ?_) (fun cg => ?_)
    · have cg : gd = false := bI_z cg
      refine lv_iconst (v := 0) hx hb d_Md_fill_144 (by decide) ?_
      refine tpi (y := bI false) rfl ?_
      exact j145 _ false ou2 N2 hN2 (fun h => by cases h) (fun _ => hg2 cg) _ _ _ hw hl
    · have cg : gd = true := bI_t cg
      obtain ⟨ho, hn2⟩ := hg1 cg
      refine lv_iload hx hb d_Md_fill_110 (lv_at hl 8 rfl) ?_
      refine lv_if_eq (tgt := 124) hx hb d_Md_fill_112 (by decide) (fun cs => ?_) (fun cs => ?_)
      · have hs0 : sgl = [] := hs.elim (fun h => h.2) (fun h => absurd cs h.1)
        exact j124 _ ou2 N2 hN2 (by rw [hs0, List.append_nil]; exact ho) (by rw [hs0, List.append_nil]; exact hn2) _ _ _ hw hl
      · have hs0 : sgl = [sv] ∧ b8 sv = sv := hs.elim (fun h => absurd h.1 cs) (fun h => h.2)
        have hs1 : sgl.length = 1 := by rw [hs0.1]; rfl
        refine lv_aload_n hx hb d_Md_fill_115 rfl (lv_at hl 4 rfl) ?_
        refine lv_iload hx hb d_Md_fill_116 (lv_at hl 8 rfl) ?_
        refine zVi (As := [.int sv]) (rest := []) S hw hl.1 vl_Md_107 (c_Md_put l G ad tp tx wd ou2 wz pi tk si mn md at' (nI w) kd (bI lf) (bI zf) pl bl fr vl N2 hN2 sv) 0 rfl rfl rfl ⟨rfl, rfl⟩ [0, 1, 2, 3, 4, 5, 6] [] [0, 1, 2, 3, 4, 5, 6] rfl rfl (by decide) rfl rfl rfl d_Md_fill_118 (fun _ => wMd G ad tp tx wd (if N2 < 1024 then wr ou2 N2 [b8 sv] else ou2) wz pi tk si mn md (nI (if N2 < 1024 then N2 + 1 else N2)) at' (nI w) kd (bI lf) (bI zf) pl bl fr vl) (fun _ => rfl) (fun r_118 _ H locs hpp hw => ?_)
        subst hpp
        refine lv_if_eq (tgt := 144) hx hb d_Md_fill_121 (by decide) (fun cp => ?_) (fun cp => ?_)
        · have cp : (decide (N2 < 1024)) = false := bI_z cp
          have cp := of_decide_eq_false cp
          rw [if_neg cp, if_neg cp] at hw
          refine lv_iconst (v := 0) hx hb d_Md_fill_144 (by decide) ?_
          refine tpi (y := bI false) rfl ?_
          exact j145 _ false ou2 N2 hN2 (fun h => by cases h) (fun _ => by omega) _ _ _ hw hl
        · have cp : (decide (N2 < 1024)) = true := bI_t cp
          have cp := of_decide_eq_true cp
          rw [if_pos cp, if_pos cp, ho, hs0.2, wr_app hn2, ← hs0.1] at hw
          exact j124 _ _ (N2 + 1) (by omega) rfl (by rw [List.length_append]; omega) _ _ _ hw hl
  have j73 : ∀ (_ : Unit), ∀ (H : Heap) (locs : List Loc) (ls : Array Slot), gW G A s (wMd G ad tp tx wd ou wz pi tk si mn md (nI N) at' (nI w) kd (bI lf) (bI zf) pl bl fr vl) H locs → lv_has ls 10 [(6, .int (nI (w - al))), (5, .int (nI al)), (0, .ref (ad 0)), (1, .ref (ad 6)), (2, .int (nI B)), (3, .int (nI k)), (4, .int sv)] → W p l e (rmL 2) s m args below meth c H locs 0 0 Q (F0 m 73 ls [.int (bI z)]) := by
    intro _ H locs ls hw hl
    refine lv_istore (lv' := [(7, .int (bI z)), (6, .int (nI (w - al))), (5, .int (nI al)), (0, .ref (ad 0)), (1, .ref (ad 6)), (2, .int (nI B)), (3, .int (nI k)), (4, .int sv)]) hx hb d_Md_fill_73 hl (by decide) rfl (fun ls hl => ?_)
    refine lv_aload_n hx hb d_Md_fill_75 rfl (lv_at hl 3 rfl) ?_
    refine xget S hw fl_Md_80 0 rfl rfl d_Md_fill_76 ?_
    refine lv_if_ne (tgt := 98) hx hb d_Md_fill_79 (by decide) (fun cl => ?_) (fun cl => ?_)
    · have cl : lf = true := bI_t cl
      have he10 : e1 = [] := by rw [he1, cl]; rfl
      refine lv_iconst (v := 1) hx hb d_Md_fill_98 (by decide) ?_
      refine lv_goto (tgt := 103) hx hb d_Md_fill_99 (by decide) ?_
      refine tpi (y := bI true) rfl ?_
      exact j103 true ou N hN (fun _ => by rw [he10, wr_nil]; exact ⟨rfl, rfl⟩) (fun h => by cases h) _ _ _ hw hl
    · have cl : lf = false := bI_z cl
      refine lv_iload hx hb d_Md_fill_82 (lv_at hl 0 rfl) ?_
      refine lv_if_ne (tgt := 98) hx hb d_Md_fill_84 (by decide) (fun cz => ?_) (fun cz => ?_)
      · have cz : z = true := bI_t cz
        have he10 : e1 = [] := by rw [he1, cl, cz]; rfl
        refine lv_iconst (v := 1) hx hb d_Md_fill_98 (by decide) ?_
        refine lv_goto (tgt := 103) hx hb d_Md_fill_99 (by decide) ?_
        refine tpi (y := bI true) rfl ?_
        exact j103 true ou N hN (fun _ => by rw [he10, wr_nil]; exact ⟨rfl, rfl⟩) (fun h => by cases h) _ _ _ hw hl
      · have cz : z = false := bI_z cz
        have he10 : e1 = pad w al 32 := by rw [he1, cl, cz]; rfl
        have he1l : e1.length = w - al := by rw [he10]; exact hp32
        refine lv_aload_n hx hb d_Md_fill_87 rfl (lv_at hl 3 rfl) ?_
        refine lv_bipush (v := 32) hx hb d_Md_fill_88 (by decide) ?_
        refine lv_iload hx hb d_Md_fill_90 (lv_at hl 1 rfl) ?_
        refine zVi (As := [.int 32, .int (nI (w - al))]) (rest := []) S hw hl.1 vl_Md_111 (c_Md_puts l G ad tp tx wd ou wz pi tk si mn md at' (nI w) kd (bI lf) (bI zf) pl bl fr vl N hN 32 (by decide) (w - al) (by omega)) 0 rfl rfl rfl ⟨rfl, rfl⟩ [0, 1, 2, 3, 4, 5, 6] [] [0, 1, 2, 3, 4, 5, 6] rfl rfl (by decide) rfl rfl rfl d_Md_fill_92 (fun _ => wMd G ad tp tx wd (if N + (w - al) ≤ 1024 then wr ou N (List.replicate (w - al) 32) else ou) wz pi tk si mn md (nI (if N + (w - al) ≤ 1024 then N + (w - al) else N)) at' (nI w) kd (bI lf) (bI zf) pl bl fr vl) (fun _ => rfl) (fun r_92 _ H locs hpp hw => ?_)
        subst hpp
        refine lv_if_eq (tgt := 102) hx hb d_Md_fill_95 (by decide) (fun cp => ?_) (fun cp => ?_)
        · have cp : (decide (N + (w - al) ≤ 1024)) = false := bI_z cp
          have cp := of_decide_eq_false cp
          rw [if_neg cp, if_neg cp] at hw
          refine lv_iconst (v := 0) hx hb d_Md_fill_102 (by decide) ?_
          refine tpi (y := bI false) rfl ?_
          exact j103 false ou N hN (fun h => by cases h) (fun _ => by omega) _ _ _ hw hl
        · have cp : (decide (N + (w - al) ≤ 1024)) = true := bI_t cp
          have cp := of_decide_eq_true cp
          rw [if_pos cp, if_pos cp, show List.replicate (w - al) 32 = e1 from by rw [he10]; rfl] at hw
          refine lv_iconst (v := 1) hx hb d_Md_fill_98 (by decide) ?_
          refine lv_goto (tgt := 103) hx hb d_Md_fill_99 (by decide) ?_
          refine tpi (y := bI true) rfl ?_
          exact j103 true _ (N + (w - al)) cp (fun _ => ⟨rfl, by omega⟩) (fun h => by cases h) _ _ _ hw hl
  have j34 : ∀ (_ : Unit), ∀ (H : Heap) (locs : List Loc) (ls : Array Slot), gW G A s (wMd G ad tp tx wd ou wz pi tk si mn md (nI N) at' (nI w) kd (bI lf) (bI zf) pl bl fr vl) H locs → lv_has ls 10 [(5, .int (nI al)), (0, .ref (ad 0)), (1, .ref (ad 6)), (2, .int (nI B)), (3, .int (nI k)), (4, .int sv)] → W p l e (rmL 2) s m args below meth c H locs 0 0 Q (F0 m 34 ls [.int (nI (w - al))]) := by
    intro _ H locs ls hw hl
    refine lv_istore (lv' := [(6, .int (nI (w - al))), (5, .int (nI al)), (0, .ref (ad 0)), (1, .ref (ad 6)), (2, .int (nI B)), (3, .int (nI k)), (4, .int sv)]) hx hb d_Md_fill_34 hl (by decide) rfl (fun ls hl => ?_)
    refine lv_aload_n hx hb d_Md_fill_36 rfl (lv_at hl 2 rfl) ?_
    refine xget S hw fl_Md_84 0 rfl rfl d_Md_fill_37 ?_
    refine lv_if_eq (tgt := 72) hx hb d_Md_fill_40 (by decide) (fun x1 => ?_) (fun x1 => ?_)
    · have x1 : zf = false := bI_z x1
      refine lv_iconst (v := 0) hx hb d_Md_fill_72 (by decide) ?_
      refine tpi (y := bI z) (by rw [show z = false from by rw [hz, x1]; rfl]; rfl) ?_
      exact j73 () _ _ _ hw hl
    · have x1 : zf = true := bI_t x1
      refine lv_aload_n hx hb d_Md_fill_43 rfl (lv_at hl 2 rfl) ?_
      refine xget S hw fl_Md_80 0 rfl rfl d_Md_fill_44 ?_
      refine lv_if_ne (tgt := 72) hx hb d_Md_fill_47 (by decide) (fun x2 => ?_) (fun x2 => ?_)
      · have x2 : lf = true := bI_t x2
        refine lv_iconst (v := 0) hx hb d_Md_fill_72 (by decide) ?_
        refine tpi (y := bI z) (by rw [show z = false from by rw [hz, x1, x2]; rfl]; rfl) ?_
        exact j73 () _ _ _ hw hl
      · have x2 : lf = false := bI_z x2
        refine lv_aload_n hx hb d_Md_fill_50 rfl (lv_at hl 2 rfl) ?_
        refine xget S hw fl_Md_101 0 rfl rfl d_Md_fill_51 ?_
        refine lv_bipush (v := 99) hx hb d_Md_fill_54 (by decide) ?_
        refine lv_icmp_eq (tgt := 72) hx hb d_Md_fill_56 (by decide) (fun x3 => ?_) (fun x3 => ?_)
        · refine lv_iconst (v := 0) hx hb d_Md_fill_72 (by decide) ?_
          refine tpi (y := bI z) (by rw [show z = false from by rw [hz, x1, x2, decide_eq_true x3]; rfl]; rfl) ?_
          exact j73 () _ _ _ hw hl
        · refine lv_aload_n hx hb d_Md_fill_59 rfl (lv_at hl 2 rfl) ?_
          refine xget S hw fl_Md_101 0 rfl rfl d_Md_fill_60 ?_
          refine lv_bipush (v := 115) hx hb d_Md_fill_63 (by decide) ?_
          refine lv_icmp_eq (tgt := 72) hx hb d_Md_fill_65 (by decide) (fun x4 => ?_) (fun x4 => ?_)
          · refine lv_iconst (v := 0) hx hb d_Md_fill_72 (by decide) ?_
            refine tpi (y := bI z) (by rw [show z = false from by rw [hz, x1, x2, decide_eq_false x3, decide_eq_true x4]; rfl]; rfl) ?_
            exact j73 () _ _ _ hw hl
          · refine lv_iconst (v := 1) hx hb d_Md_fill_68 (by decide) ?_
            refine lv_goto (tgt := 73) hx hb d_Md_fill_69 (by decide) ?_
            refine tpi (y := bI z) (by rw [show z = true from by rw [hz, x1, x2, decide_eq_false x3, decide_eq_false x4]; rfl]; rfl) ?_
            exact j73 () _ _ _ hw hl
  have j12 : ∀ (_ : Unit), ∀ (H : Heap) (locs : List Loc) (ls : Array Slot), gW G A s (wMd G ad tp tx wd ou wz pi tk si mn md (nI N) at' (nI w) kd (bI lf) (bI zf) pl bl fr vl) H locs → lv_has ls 10 [(0, .ref (ad 0)), (1, .ref (ad 6)), (2, .int (nI B)), (3, .int (nI k)), (4, .int sv)] → W p l e (rmL 2) s m args below meth c H locs 0 0 Q (F0 m 12 ls [.int (nI al)]) := by
    intro _ H locs ls hw hl
    refine lv_istore (lv' := [(5, .int (nI al)), (0, .ref (ad 0)), (1, .ref (ad 6)), (2, .int (nI B)), (3, .int (nI k)), (4, .int sv)]) hx hb d_Md_fill_12 hl (by decide) rfl (fun ls hl => ?_)
    refine lv_aload_n hx hb d_Md_fill_14 rfl (lv_at hl 1 rfl) ?_
    refine xget S hw fl_Md_93 0 rfl rfl d_Md_fill_15 ?_
    refine lv_iload hx hb d_Md_fill_18 (lv_at hl 0 rfl) ?_
    refine lv_icmp_le (tgt := 33) hx hb d_Md_fill_20 (by decide) (fun c1 => ?_) (fun c1 => ?_)
    · have c1 : w ≤ al := (nI_leI (a := w) (b := al) (by omega) (by omega)).mp c1
      refine lv_iconst (v := 0) hx hb d_Md_fill_33 (by decide) ?_
      refine tpi (y := nI (w - al)) (by rw [show w - al = 0 by omega]; rfl) ?_
      exact j34 () _ _ _ hw hl
    · have c1 : ¬ w ≤ al := fun q_ => c1 ((nI_leI (a := w) (b := al) (by omega) (by omega)).mpr q_)
      refine lv_aload_n hx hb d_Md_fill_23 rfl (lv_at hl 1 rfl) ?_
      refine xget S hw fl_Md_93 0 rfl rfl d_Md_fill_24 ?_
      refine lv_iload hx hb d_Md_fill_27 (lv_at hl 0 rfl) ?_
      refine lv_isub hx hb d_Md_fill_29 ?_
      refine tpi (y := nI (w - al)) (pk_sub (by omega)) ?_
      refine lv_goto (tgt := 34) hx hb d_Md_fill_30 (by decide) ?_
      exact j34 () _ _ _ hw hl
  refine lv_iload hx hb d_Md_fill_0 (lv_at hl 4 rfl) ?_
  refine lv_if_ne (tgt := 9) hx hb d_Md_fill_2 (by decide) (fun c0 => ?_) (fun c0 => ?_)
  · have hs1 : sgl.length = 1 := hs.elim (fun h => absurd h.1 c0) (fun h => by rw [h.2.1]; rfl)
    refine lv_iload_n hx hb d_Md_fill_9 rfl (lv_at hl 3 rfl) ?_
    refine lv_iconst (v := 1) hx hb d_Md_fill_10 (by decide) ?_
    refine lv_iadd hx hb d_Md_fill_11 ?_
    refine tpi (y := nI (k + 1)) (nI_add k 1) ?_
    refine tpi (y := nI al) (by rw [hal, hs1, Nat.add_comm]) ?_
    exact j12 () _ _ _ hw hl
  · have hs1 : sgl.length = 0 := hs.elim (fun h => by rw [h.2]; rfl) (fun h => absurd c0 h.1)
    refine lv_iload_n hx hb d_Md_fill_5 rfl (lv_at hl 3 rfl) ?_
    refine lv_goto (tgt := 12) hx hb d_Md_fill_6 (by decide) ?_
    refine tpi (y := nI al) (by rw [hal, hs1, Nat.zero_add]) ?_
    exact j12 () _ _ _ hw hl
end
section
set_option maxHeartbeats 8000000 in
set_option maxRecDepth 100000 in
theorem c_Md_filled (l : Launch) (G : gG) (ad : Nat → Nat) (tp : Nat → Int32) (tx : Nat → Int32) (wd : Nat → Int32) (ou : Nat → Int32) (wz : Nat → Int32) (pi : Nat → Int32) (tk : Int32) (si : Int32) (md : Int32) (at' : Int32) (fr : Int32) (vl : Int64) (N M a w : Nat) (kd : Int32) (lf zf pf bf : Bool) (hN : N ≤ 1024) (hM : M ≤ 20) (ha : a ≤ 1000) (hw1 : w ≤ 100000) (hbw : By wd) (hsz : ∀ q, q < M → ∃ b, b ≤ 40 ∧ wz q = nI b) : MetI (σ := ((Nat → Int32) × Nat × (Nat → Int32) × Int32 × Int64)) l y_Md_filled (Cond.code y_Md_filled b_Md_filled 3 (some .int)) (rmL 3) 0 0 G [.ref (ad 0), .int (nI a)] (wMd G ad tp tx wd ou wz pi tk si (nI M) md (nI N) at' (nI w) kd (bI lf) (bI zf) (bI pf) (bI bf) fr vl) X0 (fun r u => u.2.1 ≤ 1024 ∧ flP (flR wd wz M a w kd lf zf pf bf) N ou r u.1 u.2.1) (fun u => wMd G ad tp tx wd u.1 wz u.2.2.1 tk si (nI M) md (nI u.2.1) at' (nI w) kd (bI lf) (bI zf) (bI pf) (bI bf) u.2.2.2.1 u.2.2.2.2) := by
  refine MetI.mk2 (by decide) (Nat.le_of_ble_eq_true rfl) ?_
  intro p e s m args below meth c A ls Q S hw hX hl kret
  have hx := S.1
  have hb := S.2.1
  have hl : lv_has ls 3 [(0, .ref (ad 0)), (1, .int (nI a))] := hl
  generalize hH0 : s.heap = H at hw ⊢
  generalize hL0 : ([] : List Loc) = locs at hw ⊢
  obtain ⟨RR, hRR⟩ : ∃ q, q = flR wd wz M a w kd lf zf pf bf := ⟨_, rfl⟩
  rw [← hRR] at kret
  unfold flR at hRR
  refine lv_iload_n hx hb d_Md_filled_0 rfl (lv_at hl 1 rfl) ?_
  refine lv_aload_n hx hb d_Md_filled_1 rfl (lv_at hl 0 rfl) ?_
  refine xget S hw fl_Md_40 0 rfl rfl d_Md_filled_2 ?_
  refine lv_icmp_lt (tgt := 11) hx hb d_Md_filled_5 (by decide) (fun cM => ?_) (fun cM => ?_)
  · have cM : a < M := (nI_ltI (a := a) (b := M) (by omega) (by omega)).mp cM
    rw [if_neg (by omega)] at hRR
    obtain ⟨la, hla, hwz⟩ := hsz a cM
    have hcl : (wz a).toNatClampNeg = la := by rw [hwz, nI_clamp (by omega)]
    rw [hcl] at hRR
    refine lv_aload_n hx hb d_Md_filled_11 rfl (lv_at hl 0 rfl) ?_
    refine xget S hw fl_Md_101 0 rfl rfl d_Md_filled_12 ?_
    refine lv_bipush (v := 115) hx hb d_Md_filled_15 (by decide) ?_
    refine lv_icmp_ne (tgt := 49) hx hb d_Md_filled_17 (by decide) (fun c115 => ?_) (fun c115 => ?_)
    · rw [if_neg c115] at hRR
      refine lv_aload_n hx hb d_Md_filled_49 rfl (lv_at hl 0 rfl) ?_
      refine lv_iload_n hx hb d_Md_filled_50 rfl (lv_at hl 1 rfl) ?_
      refine zVi (As := [.int (nI a)]) (rest := []) S hw hl.1 vl_Md_119 (c_Md_isInteger l G ad tp tx wd ou wz pi tk si (nI M) md (nI N) at' (nI w) kd (bI lf) (bI zf) (bI pf) (bI bf) fr vl a la (by omega) hla hwz) 0 rfl rfl rfl ⟨rfl, rfl⟩ [0, 1, 2, 3, 4, 5, 6] [] [0, 1, 2, 3, 4, 5, 6] rfl rfl (by decide) rfl rfl rfl d_Md_filled_51 (fun u => wMd G ad tp tx wd ou wz pi tk si (nI M) md (nI N) at' (nI w) kd (bI lf) (bI zf) (bI pf) (bI bf) fr u) (fun _ => rfl) (fun r_51 v H locs hpi hw => ?_)
      rcases hpi with ⟨rfl, hpi⟩ | ⟨rfl, hpi⟩
      · have hw : gW G A s (wMd G ad tp tx wd ou wz pi tk si (nI M) md (nI N) at' (nI w) kd (bI lf) (bI zf) (bI pf) (bI bf) fr v) H locs := hw
        rw [hpi] at hRR
        dsimp only at hRR
        refine lv_if_ne (tgt := 60) hx hb d_Md_filled_54 (by decide) (fun _ => ?_) (fun q_ => absurd q_ (by decide))
        have j187 : ∀ (sv : Int32) (pi1 : Nat → Int32), sg pi1 (72 - (bdy kd v).length) (bdy kd v).length = bdy kd v → ((sv = 0 ∧ sgnL kd v pf bf = []) ∨ (sv ≠ 0 ∧ sgnL kd v pf bf = [sv] ∧ b8 sv = sv)) → ∀ (H : Heap) (locs : List Loc) (ls : Array Slot), gW G A s (wMd G ad tp tx wd ou wz pi1 tk si (nI M) md (nI N) at' (nI w) kd (bI lf) (bI zf) (bI pf) (bI bf) (nI (72 - (bdy kd v).length)) v) H locs → lv_has ls 3 [(2, .int sv), (0, .ref (ad 0)), (1, .int (nI a))] → W p l e (rmL 3) s m args below meth c H locs 0 0 Q (F0 m 187 ls []) := by
          intro sv pi1 hsg hs H locs ls hw hl
          have hbl := bdy_len kd v
          have hrow : ∀ i, i < (bdy kd v).length → b8 (pi1 (72 - (bdy kd v).length + i)) = pi1 (72 - (bdy kd v).length + i) := by
            intro i hi
            have h1 := sg_get (f := pi1) (p := 72 - (bdy kd v).length) (n := (bdy kd v).length) (i := i) hi
            rw [hsg] at h1
            rw [← h1, List.getD_eq_getElem?_getD, List.getElem?_eq_getElem hi]
            exact bdy_b8 _ _ _ (List.getElem_mem _)
          have hzz : (zf && !lf && !decide (kd = 99) && !decide (kd = 115)) = (zf && !lf && !decide (kd = 99)) := by rw [decide_eq_false c115]; simp
          refine lv_aload_n hx hb d_Md_filled_187 rfl (lv_at hl 1 rfl) ?_
          refine lv_aload_n hx hb d_Md_filled_188 rfl (lv_at hl 1 rfl) ?_
          refine xget S hw fl_Md_26 0 rfl rfl d_Md_filled_189 ?_
          refine lv_aload_n hx hb d_Md_filled_192 rfl (lv_at hl 1 rfl) ?_
          refine xget S hw fl_Md_47 0 rfl rfl d_Md_filled_193 ?_
          refine lv_bipush (v := 72) hx hb d_Md_filled_196 (by decide) ?_
          refine lv_aload_n hx hb d_Md_filled_198 rfl (lv_at hl 1 rfl) ?_
          refine xget S hw fl_Md_47 0 rfl rfl d_Md_filled_199 ?_
          refine lv_isub hx hb d_Md_filled_202 ?_
          refine tpi (y := nI (bdy kd v).length) (by rw [show (72 : Int32) = nI 72 from rfl, pk_sub (by omega)]; congr 1; omega) ?_
          refine lv_iload_n hx hb d_Md_filled_203 rfl (lv_at hl 0 rfl) ?_
          refine zVi (As := [.ref (ad 6), .int (nI (72 - (bdy kd v).length)), .int (nI (bdy kd v).length), .int sv]) (rest := []) S hw hl.1 vl_Md_115 (c_Md_fillP l G ad tp tx wd ou wz pi1 tk si (nI M) md at' (bI pf) (bI bf) (nI (72 - (bdy kd v).length)) v N (72 - (bdy kd v).length) (bdy kd v).length w sv kd lf zf (sgnL kd v pf bf) hs hN (by omega) hw1 hrow) 0 rfl rfl rfl ⟨rfl, rfl⟩ [0, 1, 2, 3, 4, 5, 6] [] [0, 1, 2, 3, 4, 5, 6] rfl rfl (by decide) rfl rfl rfl d_Md_filled_204 (fun u => wMd G ad tp tx wd u.1 wz pi1 tk si (nI M) md (nI u.2) at' (nI w) kd (bI lf) (bI zf) (bI pf) (bI bf) (nI (72 - (bdy kd v).length)) v) (fun _ => rfl) (fun r_204 u2 H locs hpf hw => ?_)
          rw [hsg, hzz] at hpf
          obtain ⟨hu2, hpf⟩ := hpf
          rcases hpf with ⟨rfl, h1, h2, h3⟩ | ⟨rfl, h1⟩
          · have hw : gW G A s (wMd G ad tp tx wd u2.1 wz pi1 tk si (nI M) md (nI u2.2) at' (nI w) kd (bI lf) (bI zf) (bI pf) (bI bf) (nI (72 - (bdy kd v).length)) v) H locs := hw
            refine lv_if_eq (tgt := 214) hx hb d_Md_filled_207 (by decide) (fun q_ => absurd q_ (by decide)) (fun _ => ?_)
            refine lv_iconst (v := 0) hx hb d_Md_filled_210 (by decide) ?_
            refine lv_goto (tgt := 216) hx hb d_Md_filled_211 (by decide) ?_
            exact kret _ _ _ _ _ (u2.1, u2.2, pi1, nI (72 - (bdy kd v).length), v) hw (⟨hu2, by rw [hRR]; exact Or.inl ⟨rfl, h1, h2, h3⟩⟩) rfl d_Md_filled_216
          · have hw : gW G A s (wMd G ad tp tx wd u2.1 wz pi1 tk si (nI M) md (nI u2.2) at' (nI w) kd (bI lf) (bI zf) (bI pf) (bI bf) (nI (72 - (bdy kd v).length)) v) H locs := hw
            refine lv_if_eq (tgt := 214) hx hb d_Md_filled_207 (by decide) (fun _ => ?_) (fun q_ => absurd (by decide) q_)
            refine lv_bipush (v := (-5)) hx hb d_Md_filled_214 (by decide) ?_
            exact kret _ _ _ _ _ (u2.1, u2.2, pi1, nI (72 - (bdy kd v).length), v) hw (⟨hu2, by rw [hRR]; exact Or.inr ⟨rfl, h1⟩⟩) rfl d_Md_filled_216
        refine lv_iconst (v := 0) hx hb d_Md_filled_60 (by decide) ?_
        refine lv_istore_n (lv' := [(2, .int 0), (0, .ref (ad 0)), (1, .int (nI a))]) hx hb d_Md_filled_61 rfl hl (by decide) rfl (fun ls hl => ?_)
        refine lv_aload_n hx hb d_Md_filled_62 rfl (lv_at hl 1 rfl) ?_
        refine xget S hw fl_Md_101 0 rfl rfl d_Md_filled_63 ?_
        refine lv_bipush (v := 100) hx hb d_Md_filled_66 (by decide) ?_
        refine lv_icmp_ne (tgt := 122) hx hb d_Md_filled_68 (by decide) (fun c100 => ?_) (fun c100 => ?_)
        · have hsn : sgnL kd v pf bf = [] := sgnL_no v pf bf c100
          refine lv_aload_n hx hb d_Md_filled_122 rfl (lv_at hl 1 rfl) ?_
          refine xget S hw fl_Md_101 0 rfl rfl d_Md_filled_123 ?_
          refine lv_bipush (v := 99) hx hb d_Md_filled_126 (by decide) ?_
          refine lv_icmp_ne (tgt := 149) hx hb d_Md_filled_128 (by decide) (fun c99 => ?_) (fun c99 => ?_)
          · have hbd : bdy kd v = nd (if kd = 111 then 8 else 16) (dgx (if kd = 88 then 65 else 97)) 22 (uL v) := by unfold bdy; rw [if_neg c100, if_neg c99]
            refine lv_aload_n hx hb d_Md_filled_149 rfl (lv_at hl 1 rfl) ?_
            refine lv_aload_n hx hb d_Md_filled_150 rfl (lv_at hl 1 rfl) ?_
            refine xget S hw fl_Md_62 0 rfl rfl d_Md_filled_151 ?_
            refine lv_aload_n hx hb d_Md_filled_154 rfl (lv_at hl 1 rfl) ?_
            refine xget S hw fl_Md_101 0 rfl rfl d_Md_filled_155 ?_
            refine lv_bipush (v := 111) hx hb d_Md_filled_158 (by decide) ?_
            refine lv_icmp_ne (tgt := 167) hx hb d_Md_filled_160 (by decide) (fun c111 => ?_) (fun c111 => ?_)
            · refine lv_iconst (v := 4) hx hb d_Md_filled_167 (by decide) ?_
              refine lv_aload_n hx hb d_Md_filled_168 rfl (lv_at hl 1 rfl) ?_
              refine xget S hw fl_Md_101 0 rfl rfl d_Md_filled_169 ?_
              refine lv_bipush (v := 88) hx hb d_Md_filled_172 (by decide) ?_
              refine lv_icmp_ne (tgt := 182) hx hb d_Md_filled_174 (by decide) (fun c88 => ?_) (fun c88 => ?_)
              · refine lv_bipush (v := 97) hx hb d_Md_filled_182 (by decide) ?_
                refine zVv (As := [.long v, .int 4, .int 97]) (rest := []) S hw hl.1 vl_Md_122 (c_Md_bits l G ad tp tx wd ou wz pi tk si (nI M) md (nI N) at' (nI w) kd (bI lf) (bI zf) (bI pf) (bI bf) fr v v 4 97 (by decide) (by decide)) 0 rfl rfl rfl ⟨rfl, rfl⟩ [0, 1, 2, 3, 4, 5, 6] [] [0, 1, 2, 3, 4, 5, 6] rfl rfl (by decide) rfl rfl rfl d_Md_filled_184 (fun u => wMd G ad tp tx wd ou wz u tk si (nI M) md (nI N) at' (nI w) kd (bI lf) (bI zf) (bI pf) (bI bf) (nI (72 - (nd (2 ^ 4) (dgx 97) 22 (uL v)).length)) v) (fun _ => rfl) (fun pi1 H locs hsg hw => ?_)
                have hbe : bdy kd v = nd (2 ^ 4) (dgx 97) 22 (uL v) := by rw [hbd, if_neg c111, if_neg c88]
                rw [← hbe] at hsg
                have hw : gW G A s (wMd G ad tp tx wd ou wz pi1 tk si (nI M) md (nI N) at' (nI w) kd (bI lf) (bI zf) (bI pf) (bI bf) (nI (72 - (bdy kd v).length)) v) H locs := by rw [hbe]; exact hw
                exact j187 0 pi1 hsg (Or.inl ⟨rfl, hsn⟩) _ _ _ hw hl
              · refine lv_bipush (v := 65) hx hb d_Md_filled_177 (by decide) ?_
                refine lv_goto (tgt := 184) hx hb d_Md_filled_179 (by decide) ?_
                refine zVv (As := [.long v, .int 4, .int 65]) (rest := []) S hw hl.1 vl_Md_122 (c_Md_bits l G ad tp tx wd ou wz pi tk si (nI M) md (nI N) at' (nI w) kd (bI lf) (bI zf) (bI pf) (bI bf) fr v v 4 65 (by decide) (by decide)) 0 rfl rfl rfl ⟨rfl, rfl⟩ [0, 1, 2, 3, 4, 5, 6] [] [0, 1, 2, 3, 4, 5, 6] rfl rfl (by decide) rfl rfl rfl d_Md_filled_184 (fun u => wMd G ad tp tx wd ou wz u tk si (nI M) md (nI N) at' (nI w) kd (bI lf) (bI zf) (bI pf) (bI bf) (nI (72 - (nd (2 ^ 4) (dgx 65) 22 (uL v)).length)) v) (fun _ => rfl) (fun pi1 H locs hsg hw => ?_)
                have hbe : bdy kd v = nd (2 ^ 4) (dgx 65) 22 (uL v) := by rw [hbd, if_neg c111, if_pos c88]
                rw [← hbe] at hsg
                have hw : gW G A s (wMd G ad tp tx wd ou wz pi1 tk si (nI M) md (nI N) at' (nI w) kd (bI lf) (bI zf) (bI pf) (bI bf) (nI (72 - (bdy kd v).length)) v) H locs := by rw [hbe]; exact hw
                exact j187 0 pi1 hsg (Or.inl ⟨rfl, hsn⟩) _ _ _ hw hl
            · refine lv_iconst (v := 3) hx hb d_Md_filled_163 (by decide) ?_
              refine lv_goto (tgt := 168) hx hb d_Md_filled_164 (by decide) ?_
              refine lv_aload_n hx hb d_Md_filled_168 rfl (lv_at hl 1 rfl) ?_
              refine xget S hw fl_Md_101 0 rfl rfl d_Md_filled_169 ?_
              refine lv_bipush (v := 88) hx hb d_Md_filled_172 (by decide) ?_
              refine lv_icmp_ne (tgt := 182) hx hb d_Md_filled_174 (by decide) (fun c88 => ?_) (fun c88 => ?_)
              · refine lv_bipush (v := 97) hx hb d_Md_filled_182 (by decide) ?_
                refine zVv (As := [.long v, .int 3, .int 97]) (rest := []) S hw hl.1 vl_Md_122 (c_Md_bits l G ad tp tx wd ou wz pi tk si (nI M) md (nI N) at' (nI w) kd (bI lf) (bI zf) (bI pf) (bI bf) fr v v 3 97 (by decide) (by decide)) 0 rfl rfl rfl ⟨rfl, rfl⟩ [0, 1, 2, 3, 4, 5, 6] [] [0, 1, 2, 3, 4, 5, 6] rfl rfl (by decide) rfl rfl rfl d_Md_filled_184 (fun u => wMd G ad tp tx wd ou wz u tk si (nI M) md (nI N) at' (nI w) kd (bI lf) (bI zf) (bI pf) (bI bf) (nI (72 - (nd (2 ^ 3) (dgx 97) 22 (uL v)).length)) v) (fun _ => rfl) (fun pi1 H locs hsg hw => ?_)
                have hbe : bdy kd v = nd (2 ^ 3) (dgx 97) 22 (uL v) := by rw [hbd, if_pos c111, if_neg c88]
                rw [← hbe] at hsg
                have hw : gW G A s (wMd G ad tp tx wd ou wz pi1 tk si (nI M) md (nI N) at' (nI w) kd (bI lf) (bI zf) (bI pf) (bI bf) (nI (72 - (bdy kd v).length)) v) H locs := by rw [hbe]; exact hw
                exact j187 0 pi1 hsg (Or.inl ⟨rfl, hsn⟩) _ _ _ hw hl
              · refine lv_bipush (v := 65) hx hb d_Md_filled_177 (by decide) ?_
                refine lv_goto (tgt := 184) hx hb d_Md_filled_179 (by decide) ?_
                refine zVv (As := [.long v, .int 3, .int 65]) (rest := []) S hw hl.1 vl_Md_122 (c_Md_bits l G ad tp tx wd ou wz pi tk si (nI M) md (nI N) at' (nI w) kd (bI lf) (bI zf) (bI pf) (bI bf) fr v v 3 65 (by decide) (by decide)) 0 rfl rfl rfl ⟨rfl, rfl⟩ [0, 1, 2, 3, 4, 5, 6] [] [0, 1, 2, 3, 4, 5, 6] rfl rfl (by decide) rfl rfl rfl d_Md_filled_184 (fun u => wMd G ad tp tx wd ou wz u tk si (nI M) md (nI N) at' (nI w) kd (bI lf) (bI zf) (bI pf) (bI bf) (nI (72 - (nd (2 ^ 3) (dgx 65) 22 (uL v)).length)) v) (fun _ => rfl) (fun pi1 H locs hsg hw => ?_)
                have hbe : bdy kd v = nd (2 ^ 3) (dgx 65) 22 (uL v) := by rw [hbd, if_pos c111, if_pos c88]
                rw [← hbe] at hsg
                have hw : gW G A s (wMd G ad tp tx wd ou wz pi1 tk si (nI M) md (nI N) at' (nI w) kd (bI lf) (bI zf) (bI pf) (bI bf) (nI (72 - (bdy kd v).length)) v) H locs := by rw [hbe]; exact hw
                exact j187 0 pi1 hsg (Or.inl ⟨rfl, hsn⟩) _ _ _ hw hl
          · have hbd : bdy kd v = [b8 v.toInt32] := by unfold bdy; rw [if_neg c100, if_pos c99]
            refine lv_aload_n hx hb d_Md_filled_131 rfl (lv_at hl 1 rfl) ?_
            refine lv_bipush (v := 72) hx hb d_Md_filled_132 (by decide) ?_
            refine xput S hw fl_Md_47 0 rfl rfl rfl (Nat.le_of_ble_eq_true rfl) (ws' := wMd G ad tp tx wd ou wz pi tk si (nI M) md (nI N) at' (nI w) kd (bI lf) (bI zf) (bI pf) (bI bf) 72 v) rfl d_Md_filled_134 (fun H locs hw => ?_)
            refine lv_aload_n hx hb d_Md_filled_137 rfl (lv_at hl 1 rfl) ?_
            refine lv_aload_n hx hb d_Md_filled_138 rfl (lv_at hl 1 rfl) ?_
            refine xget S hw fl_Md_62 0 rfl rfl d_Md_filled_139 ?_
            refine lv_l2i hx hb d_Md_filled_142 rfl ?_
            refine zVv (As := [.int ((v : Int64).toInt32)]) (rest := []) S hw hl.1 vl_Md_53 (c_Md_ahead l G ad tp tx wd ou wz pi tk si (nI M) md (nI N) at' (nI w) kd (bI lf) (bI zf) (bI pf) (bI bf) v 71 (by decide) v.toInt32) 0 rfl rfl rfl ⟨rfl, rfl⟩ [0, 1, 2, 3, 4, 5, 6] [] [0, 1, 2, 3, 4, 5, 6] rfl rfl (by decide) rfl rfl rfl d_Md_filled_143 (fun _ => wMd G ad tp tx wd ou wz (upd pi 71 (b8 v.toInt32)) tk si (nI M) md (nI N) at' (nI w) kd (bI lf) (bI zf) (bI pf) (bI bf) (nI 71) v) (fun _ => rfl) (fun _ H locs hp hw => ?_)
            refine lv_goto (tgt := 187) hx hb d_Md_filled_146 (by decide) ?_
            have hsg : sg (upd pi 71 (b8 v.toInt32)) (72 - (bdy kd v).length) (bdy kd v).length = bdy kd v := by rw [hbd]; show sg _ 71 (0 + 1) = _; rw [sg_push (by decide)]; rfl
            have hw : gW G A s (wMd G ad tp tx wd ou wz (upd pi 71 (b8 v.toInt32)) tk si (nI M) md (nI N) at' (nI w) kd (bI lf) (bI zf) (bI pf) (bI bf) (nI (72 - (bdy kd v).length)) v) H locs := by rw [hbd]; exact hw
            exact j187 0 _ hsg (Or.inl ⟨rfl, hsn⟩) _ _ _ hw hl
        · have hbd : bdy kd v = dig v := by unfold bdy; rw [if_pos c100]
          have hsn : sgnL kd v pf bf = (if v < 0 then [45] else if pf then [43] else if bf then [32] else []) := by unfold sgnL; rw [if_pos c100]
          refine lv_aload_n hx hb d_Md_filled_71 rfl (lv_at hl 1 rfl) ?_
          refine lv_aload_n hx hb d_Md_filled_72 rfl (lv_at hl 1 rfl) ?_
          refine xget S hw fl_Md_62 0 rfl rfl d_Md_filled_73 ?_
          refine zVv (As := [.long v]) (rest := []) S hw hl.1 vl_Md_50 (c_Md_digits l G ad tp tx wd ou wz pi tk si (nI M) md (nI N) at' (nI w) kd (bI lf) (bI zf) (bI pf) (bI bf) fr v v) 0 rfl rfl rfl ⟨rfl, rfl⟩ [0, 1, 2, 3, 4, 5, 6] [] [0, 1, 2, 3, 4, 5, 6] rfl rfl (by decide) rfl rfl rfl d_Md_filled_76 (fun u => wMd G ad tp tx wd ou wz u tk si (nI M) md (nI N) at' (nI w) kd (bI lf) (bI zf) (bI pf) (bI bf) (nI (72 - (dig v).length)) v) (fun _ => rfl) (fun pi1 H locs hsg hw => ?_)
          rw [← hbd] at hsg
          have hw : gW G A s (wMd G ad tp tx wd ou wz pi1 tk si (nI M) md (nI N) at' (nI w) kd (bI lf) (bI zf) (bI pf) (bI bf) (nI (72 - (bdy kd v).length)) v) H locs := by rw [hbd]; exact hw
          refine lv_aload_n hx hb d_Md_filled_79 rfl (lv_at hl 1 rfl) ?_
          refine xget S hw fl_Md_62 0 rfl rfl d_Md_filled_80 ?_
          refine lv_lconst (v := 0) hx hb d_Md_filled_83 (by decide) ?_
          refine xl_ge (tgt := 93) S d_Md_filled_84 d_Md_filled_85 (by decide) (fun cv => ?_) (fun cv => ?_)
          · refine lv_aload_n hx hb d_Md_filled_93 rfl (lv_at hl 1 rfl) ?_
            refine xget S hw fl_Md_87 0 rfl rfl d_Md_filled_94 ?_
            refine lv_if_eq (tgt := 105) hx hb d_Md_filled_97 (by decide) (fun cp => ?_) (fun cp => ?_)
            · have cp : pf = false := bI_z cp
              refine lv_aload_n hx hb d_Md_filled_105 rfl (lv_at hl 1 rfl) ?_
              refine xget S hw fl_Md_90 0 rfl rfl d_Md_filled_106 ?_
              refine lv_if_eq (tgt := 117) hx hb d_Md_filled_109 (by decide) (fun cb => ?_) (fun cb => ?_)
              · have cb : bf = false := bI_z cb
                refine lv_iconst (v := 0) hx hb d_Md_filled_117 (by decide) ?_
                refine lv_istore_n (lv' := [(2, .int 0), (0, .ref (ad 0)), (1, .int (nI a))]) hx hb d_Md_filled_118 rfl hl (by decide) rfl (fun ls hl => ?_)
                refine lv_goto (tgt := 187) hx hb d_Md_filled_119 (by decide) ?_
                exact j187 0 pi1 hsg (Or.inl ⟨rfl, by rw [hsn, if_neg (Int64.not_lt.mpr cv), cp, cb]; rfl⟩) _ _ _ hw (lv_sub hl [0, 1, 2] rfl)
              · have cb : bf = true := bI_t cb
                refine lv_bipush (v := 32) hx hb d_Md_filled_112 (by decide) ?_
                refine lv_goto (tgt := 118) hx hb d_Md_filled_114 (by decide) ?_
                refine lv_istore_n (lv' := [(2, .int 32), (0, .ref (ad 0)), (1, .int (nI a))]) hx hb d_Md_filled_118 rfl hl (by decide) rfl (fun ls hl => ?_)
                refine lv_goto (tgt := 187) hx hb d_Md_filled_119 (by decide) ?_
                exact j187 32 pi1 hsg (Or.inr ⟨by decide, by rw [hsn, if_neg (Int64.not_lt.mpr cv), cp, cb]; rfl, by decide⟩) _ _ _ hw (lv_sub hl [0, 1, 2] rfl)
            · have cp : pf = true := bI_t cp
              refine lv_bipush (v := 43) hx hb d_Md_filled_100 (by decide) ?_
              refine lv_goto (tgt := 118) hx hb d_Md_filled_102 (by decide) ?_
              refine lv_istore_n (lv' := [(2, .int 43), (0, .ref (ad 0)), (1, .int (nI a))]) hx hb d_Md_filled_118 rfl hl (by decide) rfl (fun ls hl => ?_)
              refine lv_goto (tgt := 187) hx hb d_Md_filled_119 (by decide) ?_
              exact j187 43 pi1 hsg (Or.inr ⟨by decide, by rw [hsn, if_neg (Int64.not_lt.mpr cv), cp]; rfl, by decide⟩) _ _ _ hw (lv_sub hl [0, 1, 2] rfl)
          · refine lv_bipush (v := 45) hx hb d_Md_filled_88 (by decide) ?_
            refine lv_goto (tgt := 118) hx hb d_Md_filled_90 (by decide) ?_
            refine lv_istore_n (lv' := [(2, .int 45), (0, .ref (ad 0)), (1, .int (nI a))]) hx hb d_Md_filled_118 rfl hl (by decide) rfl (fun ls hl => ?_)
            refine lv_goto (tgt := 187) hx hb d_Md_filled_119 (by decide) ?_
            exact j187 45 pi1 hsg (Or.inr ⟨by decide, by rw [hsn, if_pos (Int64.not_le.mp cv)], by decide⟩) _ _ _ hw (lv_sub hl [0, 1, 2] rfl)
      · have hw : gW G A s (wMd G ad tp tx wd ou wz pi tk si (nI M) md (nI N) at' (nI w) kd (bI lf) (bI zf) (bI pf) (bI bf) fr v) H locs := hw
        rw [hpi] at hRR
        dsimp only at hRR
        refine lv_if_ne (tgt := 60) hx hb d_Md_filled_54 (by decide) (fun q_ => absurd (by decide) q_) (fun _ => ?_)
        refine lv_bipush (v := (-4)) hx hb d_Md_filled_57 (by decide) ?_
        exact kret _ _ _ _ _ (ou, N, pi, fr, v) hw (⟨hN, by rw [hRR]; exact rfl⟩) rfl d_Md_filled_59
    · rw [if_pos c115] at hRR
      have hzz : (zf && !lf && !decide (kd = 99) && !decide (kd = 115)) = false := by rw [decide_eq_true c115]; simp
      refine lv_aload_n hx hb d_Md_filled_20 rfl (lv_at hl 0 rfl) ?_
      refine lv_aload_n hx hb d_Md_filled_21 rfl (lv_at hl 0 rfl) ?_
      refine xget S hw fl_Md_16 0 rfl rfl d_Md_filled_22 ?_
      refine lv_bipush (v := 40) hx hb d_Md_filled_25 (by decide) ?_
      refine lv_iload_n hx hb d_Md_filled_27 rfl (lv_at hl 1 rfl) ?_
      refine lv_imul hx hb d_Md_filled_28 ?_
      refine tpi (y := nI (40 * a)) (pk_mul 40 a) ?_
      refine lv_aload_n hx hb d_Md_filled_29 rfl (lv_at hl 0 rfl) ?_
      refine xget S hw fl_Md_22 0 rfl rfl d_Md_filled_30 ?_
      refine lv_iload_n hx hb d_Md_filled_33 rfl (lv_at hl 1 rfl) ?_
      refine xiald S hw 5 rfl (j := a) (by omega) (by decide) d_Md_filled_34 ?_
      refine tpi (y := nI la) hwz ?_
      refine lv_iconst (v := 0) hx hb d_Md_filled_35 (by decide) ?_
      refine zVi (As := [.ref (ad 3), .int (nI (40 * a)), .int (nI la), .int 0]) (rest := []) S hw hl.1 vl_Md_115 (c_Md_fillW l G ad tp tx wd ou wz pi tk si (nI M) md at' (bI pf) (bI bf) fr vl N (40 * a) la w 0 kd lf zf [] (Or.inl ⟨rfl, rfl⟩) hN (by omega) hw1 (fun i _ => hbw _)) 0 rfl rfl rfl ⟨rfl, rfl⟩ [0, 1, 2, 3, 4, 5, 6] [] [0, 1, 2, 3, 4, 5, 6] rfl rfl (by decide) rfl rfl rfl d_Md_filled_36 (fun u => wMd G ad tp tx wd u.1 wz pi tk si (nI M) md (nI u.2) at' (nI w) kd (bI lf) (bI zf) (bI pf) (bI bf) fr vl) (fun _ => rfl) (fun r_36 u2 H locs hpf hw => ?_)
      rw [hzz] at hpf
      obtain ⟨hu2, hpf⟩ := hpf
      rcases hpf with ⟨rfl, h1, h2, h3⟩ | ⟨rfl, h1⟩
      · have hw : gW G A s (wMd G ad tp tx wd u2.1 wz pi tk si (nI M) md (nI u2.2) at' (nI w) kd (bI lf) (bI zf) (bI pf) (bI bf) fr vl) H locs := hw
        refine lv_if_eq (tgt := 46) hx hb d_Md_filled_39 (by decide) (fun q_ => absurd q_ (by decide)) (fun _ => ?_)
        refine lv_iconst (v := 0) hx hb d_Md_filled_42 (by decide) ?_
        refine lv_goto (tgt := 48) hx hb d_Md_filled_43 (by decide) ?_
        exact kret _ _ _ _ _ (u2.1, u2.2, pi, fr, vl) hw (⟨hu2, by rw [hRR]; exact Or.inl ⟨rfl, h1, h2, h3⟩⟩) rfl d_Md_filled_48
      · have hw : gW G A s (wMd G ad tp tx wd u2.1 wz pi tk si (nI M) md (nI u2.2) at' (nI w) kd (bI lf) (bI zf) (bI pf) (bI bf) fr vl) H locs := hw
        refine lv_if_eq (tgt := 46) hx hb d_Md_filled_39 (by decide) (fun _ => ?_) (fun q_ => absurd (by decide) q_)
        refine lv_bipush (v := (-5)) hx hb d_Md_filled_46 (by decide) ?_
        exact kret _ _ _ _ _ (u2.1, u2.2, pi, fr, vl) hw (⟨hu2, by rw [hRR]; exact Or.inr ⟨rfl, h1⟩⟩) rfl d_Md_filled_48
  · have cM : ¬ a < M := fun q_ => cM ((nI_ltI (a := a) (b := M) (by omega) (by omega)).mpr q_)
    rw [if_pos (by omega)] at hRR
    refine lv_bipush (v := (-3)) hx hb d_Md_filled_8 (by decide) ?_
    exact kret _ _ _ _ _ (ou, N, pi, fr, vl) hw (⟨hN, by rw [hRR]; exact rfl⟩) rfl d_Md_filled_10
end
section
theorem flA_n (t : Nat → Int32) (n : Nat) : ∀ (f j : Nat) (F : Fl4), j ≤ n → (flA t n f j F).2 ≤ n := by
  intro f
  induction f with
  | zero => intro j F h; exact h
  | succ f ih =>
    intro j F h
    rw [flA]
    split
    · rename_i q
      exact ih _ _ (fl_last q)
    · exact h
theorem dg_last {t : Nat → Int32} {n j : Nat} (h : isDg (fcA t n j) = true) : j < n := by
  apply Classical.byContradiction
  intro q
  unfold fcA at h
  rw [if_neg q] at h
  exact absurd h (by decide)
theorem wdA_n (t : Nat → Int32) (n : Nat) : ∀ (f j w : Nat), j ≤ n → (wdA t n f j w).2 ≤ n := by
  intro f
  induction f with
  | zero => intro j F h; exact h
  | succ f ih =>
    intro j w h
    rw [wdA]
    split
    · rename_i q
      exact ih _ _ (dg_last q)
    · exact h
theorem plW_n (t : Nat → Int32) {n i : Nat} (_ : i ≤ n) (h : i + 1 ≤ n) : (plW t n i).2 ≤ n := wdA_n t n n _ 0 (flA_n t n n (i + 1) _ h)
end
section
set_option maxHeartbeats 16000000 in
set_option maxRecDepth 100000 in
theorem c_Md_make (l : Launch) (G : gG) (ad : Nat → Nat) (tp : Nat → Int32) (tx : Nat → Int32) (wd : Nat → Int32) (ou : Nat → Int32) (wz : Nat → Int32) (pi : Nat → Int32) (tk : Int32) (md : Int32) (os : Int32) (at' : Int32) (wi : Int32) (ki : Int32) (le : Int32) (ze : Int32) (pl : Int32) (bl : Int32) (fr : Int32) (vl : Int64) (n M : Nat) (hnn : n ≤ 400) (hM : M ≤ 20) (hbt : By tx) (hbw : By wd) (hsz : ∀ q, q < M → ∃ b, b ≤ 40 ∧ wz q = nI b) : MetI (σ := ((Nat → Int32) × Nat × Int32 × Int32 × Int32 × Int32 × Int32 × Int32 × Int32 × Int32 × (Nat → Int32) × Int32 × Int64)) l y_Md_make (Cond.code y_Md_make b_Md_make 4 (some .int)) (rmL 4) 0 0 G [.ref (ad 0)] (wMd G ad tp tx wd ou wz pi tk (nI n) (nI M) md os at' wi ki le ze pl bl fr vl) X0 (fun r u => mkP (mk tx n wd wz M n 0 0 []) r u.2.1 u.1) (fun u => wMd G ad tp tx wd u.1 wz u.2.2.2.2.2.2.2.2.2.2.1 tk (nI n) (nI M) (nI u.2.1) u.2.2.1 u.2.2.2.1 u.2.2.2.2.1 u.2.2.2.2.2.1 u.2.2.2.2.2.2.1 u.2.2.2.2.2.2.2.1 u.2.2.2.2.2.2.2.2.1 u.2.2.2.2.2.2.2.2.2.1 u.2.2.2.2.2.2.2.2.2.2.2.1 u.2.2.2.2.2.2.2.2.2.2.2.2) := by
  refine MetI.mk2 (by decide) (Nat.le_of_ble_eq_true rfl) ?_
  intro p e s m args below meth c A ls Q S hw hX hl kret
  have hx := S.1
  have hb := S.2.1
  have hl : lv_has ls 4 [(0, .ref (ad 0))] := hl
  generalize hH0 : s.heap = H at hw ⊢
  generalize hL0 : ([] : List Loc) = locs at hw ⊢
  obtain ⟨RS, hRS⟩ : ∃ q, q = mk tx n wd wz M n 0 0 [] := ⟨_, rfl⟩
  rw [← hRS] at kret
  refine lv_aload_n hx hb d_Md_make_0 rfl (lv_at hl 0 rfl) ?_
  refine lv_iconst (v := 0) hx hb d_Md_make_1 (by decide) ?_
  refine xput S hw fl_Md_126 0 rfl rfl rfl (Nat.le_of_ble_eq_true rfl) (ws' := wMd G ad tp tx wd ou wz pi tk (nI n) (nI M) 0 os at' wi ki le ze pl bl fr vl) rfl d_Md_make_2 (fun H locs hw => ?_)
  refine lv_aload_n hx hb d_Md_make_5 rfl (lv_at hl 0 rfl) ?_
  refine lv_iconst (v := 0) hx hb d_Md_make_6 (by decide) ?_
  refine xput S hw fl_Md_104 0 rfl rfl rfl (Nat.le_of_ble_eq_true rfl) (ws' := wMd G ad tp tx wd ou wz pi tk (nI n) (nI M) 0 0 at' wi ki le ze pl bl fr vl) rfl d_Md_make_7 (fun H locs hw => ?_)
  refine lv_aload_n hx hb d_Md_make_10 rfl (lv_at hl 0 rfl) ?_
  refine lv_iconst (v := 0) hx hb d_Md_make_11 (by decide) ?_
  refine xput S hw fl_Md_77 0 rfl rfl rfl (Nat.le_of_ble_eq_true rfl) (ws' := wMd G ad tp tx wd ou wz pi tk (nI n) (nI M) 0 0 0 wi ki le ze pl bl fr vl) rfl d_Md_make_12 (fun H locs hw => ?_)
  refine lv_iconst (v := 0) hx hb d_Md_make_15 (by decide) ?_
  refine lv_istore_n (lv' := [(1, .int 0), (0, .ref (ad 0))]) hx hb d_Md_make_16 rfl hl (by decide) rfl (fun ls hl => ?_)
  refine lv_iconst (v := 0) hx hb d_Md_make_17 (by decide) ?_
  refine lv_istore_n (lv' := [(2, .int 0), (1, .int 0), (0, .ref (ad 0))]) hx hb d_Md_make_18 rfl hl (by decide) rfl (fun ls hl => ?_)
  have jE : ∀ (er k2 os2 : Int32) (i : Nat) (ou2 : Nat → Int32) (wi2 : Int32) (ki2 : Int32) (le2 : Int32) (ze2 : Int32) (pl2 : Int32) (bl2 : Int32) (pi2 : Nat → Int32) (fr2 : Int32) (vl2 : Int64), er ≠ 0 → i ≤ 1000 → RS = .inl er → ∀ (H : Heap) (locs : List Loc) (ls : Array Slot), gW G A s (wMd G ad tp tx wd ou2 wz pi2 tk (nI n) (nI M) 0 os2 (nI i) wi2 ki2 le2 ze2 pl2 bl2 fr2 vl2) H locs → lv_has ls 4 [(2, .int er), (1, .int k2), (0, .ref (ad 0))] → W p l e (rmL 4) s m args below meth c H locs 0 0 Q (F0 m 19 ls []) := by
    intro er k2 os2 i ou2 wi2 ki2 le2 ze2 pl2 bl2 pi2 fr2 vl2 her hi hres H locs ls hw hl
    refine lv_aload_n hx hb d_Md_make_19 rfl (lv_at hl 2 rfl) ?_
    refine xget S hw fl_Md_77 0 rfl rfl d_Md_make_20 ?_
    refine lv_aload_n hx hb d_Md_make_23 rfl (lv_at hl 2 rfl) ?_
    refine xget S hw fl_Md_37 0 rfl rfl d_Md_make_24 ?_
    refine lv_icmp_ge (tgt := 131) hx hb d_Md_make_27 (by decide) (fun c1 => ?_) (fun c1 => ?_)
    · refine lv_aload_n hx hb d_Md_make_131 rfl (lv_at hl 2 rfl) ?_
      refine lv_iload_n hx hb d_Md_make_132 rfl (lv_at hl 0 rfl) ?_
      refine lv_if_ne (tgt := 143) hx hb d_Md_make_133 (by decide) (fun _ => ?_) (fun q_ => absurd q_ her)
      refine lv_iconst (v := 0) hx hb d_Md_make_143 (by decide) ?_
      refine xput S hw fl_Md_126 0 rfl rfl rfl (Nat.le_of_ble_eq_true rfl) (ws' := wMd G ad tp tx wd ou2 wz pi2 tk (nI n) (nI M) 0 os2 (nI i) wi2 ki2 le2 ze2 pl2 bl2 fr2 vl2) rfl d_Md_make_144 (fun H locs hw => ?_)
      refine lv_iload_n hx hb d_Md_make_147 rfl (lv_at hl 0 rfl) ?_
      refine lv_if_ne (tgt := 158) hx hb d_Md_make_148 (by decide) (fun _ => ?_) (fun q_ => absurd q_ her)
      refine lv_iload_n hx hb d_Md_make_158 rfl (lv_at hl 0 rfl) ?_
      exact kret _ _ _ _ _ (ou2, 0, os2, nI i, wi2, ki2, le2, ze2, pl2, bl2, pi2, fr2, vl2) hw (by rw [hres]; exact ⟨rfl, rfl⟩) rfl d_Md_make_159
    · refine lv_iload_n hx hb d_Md_make_30 rfl (lv_at hl 0 rfl) ?_
      refine lv_if_ne (tgt := 131) hx hb d_Md_make_31 (by decide) (fun _ => ?_) (fun q_ => absurd q_ her)
      refine lv_aload_n hx hb d_Md_make_131 rfl (lv_at hl 2 rfl) ?_
      refine lv_iload_n hx hb d_Md_make_132 rfl (lv_at hl 0 rfl) ?_
      refine lv_if_ne (tgt := 143) hx hb d_Md_make_133 (by decide) (fun _ => ?_) (fun q_ => absurd q_ her)
      refine lv_iconst (v := 0) hx hb d_Md_make_143 (by decide) ?_
      refine xput S hw fl_Md_126 0 rfl rfl rfl (Nat.le_of_ble_eq_true rfl) (ws' := wMd G ad tp tx wd ou2 wz pi2 tk (nI n) (nI M) 0 os2 (nI i) wi2 ki2 le2 ze2 pl2 bl2 fr2 vl2) rfl d_Md_make_144 (fun H locs hw => ?_)
      refine lv_iload_n hx hb d_Md_make_147 rfl (lv_at hl 0 rfl) ?_
      refine lv_if_ne (tgt := 158) hx hb d_Md_make_148 (by decide) (fun _ => ?_) (fun q_ => absurd q_ her)
      refine lv_iload_n hx hb d_Md_make_158 rfl (lv_at hl 0 rfl) ?_
      exact kret _ _ _ _ _ (ou2, 0, os2, nI i, wi2, ki2, le2, ze2, pl2, bl2, pi2, fr2, vl2) hw (by rw [hres]; exact ⟨rfl, rfl⟩) rfl d_Md_make_159
  have lpM : ∀ (fu i k : Nat) (ol : List Int32) (wi2 : Int32) (ki2 : Int32) (le2 : Int32) (ze2 : Int32) (pl2 : Int32) (bl2 : Int32) (pi2 : Nat → Int32) (fr2 : Int32) (vl2 : Int64), n ≤ i + fu → i ≤ n → k ≤ 1000 - fu → fu ≤ 1000 → ol.length ≤ 1024 → mk tx n wd wz M fu i k ol = RS → ∀ (H : Heap) (locs : List Loc) (ls : Array Slot), gW G A s (wMd G ad tp tx wd (wr ou 0 ol) wz pi2 tk (nI n) (nI M) 0 (nI ol.length) (nI i) wi2 ki2 le2 ze2 pl2 bl2 fr2 vl2) H locs → lv_has ls 4 [(2, .int 0), (1, .int (nI k)), (0, .ref (ad 0))] → W p l e (rmL 4) s m args below meth c H locs 0 0 Q (F0 m 19 ls []) := by
    intro fu
    induction fu with
    | zero =>
      intro i k ol wi2 ki2 le2 ze2 pl2 bl2 pi2 fr2 vl2 hfu hile hk hfu2 hol hres H locs ls hw hl
      refine lv_aload_n hx hb d_Md_make_19 rfl (lv_at hl 2 rfl) ?_
      refine xget S hw fl_Md_77 0 rfl rfl d_Md_make_20 ?_
      refine lv_aload_n hx hb d_Md_make_23 rfl (lv_at hl 2 rfl) ?_
      refine xget S hw fl_Md_37 0 rfl rfl d_Md_make_24 ?_
      refine lv_icmp_ge (tgt := 131) hx hb d_Md_make_27 (by decide) (fun c12 => ?_) (fun c12 => ?_)
      · have c12 : n ≤ i := (nI_leI (a := n) (b := i) (by omega) (by omega)).mp c12
        have hin : ¬ i < n := by omega
        refine lv_aload_n hx hb d_Md_make_131 rfl (lv_at hl 2 rfl) ?_
        refine lv_iload_n hx hb d_Md_make_132 rfl (lv_at hl 0 rfl) ?_
        refine lv_if_ne (tgt := 143) hx hb d_Md_make_133 (by decide) (fun q_ => absurd (by decide) q_) (fun _ => ?_)
        refine lv_aload_n hx hb d_Md_make_136 rfl (lv_at hl 2 rfl) ?_
        refine xget S hw fl_Md_104 0 rfl rfl d_Md_make_137 ?_
        refine lv_goto (tgt := 144) hx hb d_Md_make_140 (by decide) ?_
        refine xput S hw fl_Md_126 0 rfl rfl rfl (Nat.le_of_ble_eq_true rfl) (ws' := wMd G ad tp tx wd (wr ou 0 ol) wz pi2 tk (nI n) (nI M) (nI ol.length) (nI ol.length) (nI i) wi2 ki2 le2 ze2 pl2 bl2 fr2 vl2) rfl d_Md_make_144 (fun H locs hw => ?_)
        refine lv_iload_n hx hb d_Md_make_147 rfl (lv_at hl 0 rfl) ?_
        refine lv_if_ne (tgt := 158) hx hb d_Md_make_148 (by decide) (fun q_ => absurd (by decide) q_) (fun _ => ?_)
        refine lv_aload_n hx hb d_Md_make_151 rfl (lv_at hl 2 rfl) ?_
        refine xget S hw fl_Md_104 0 rfl rfl d_Md_make_152 ?_
        refine lv_goto (tgt := 159) hx hb d_Md_make_155 (by decide) ?_
        exact kret _ _ _ _ _ (wr ou 0 ol, ol.length, nI ol.length, nI i, wi2, ki2, le2, ze2, pl2, bl2, pi2, fr2, vl2) hw (by rw [← hres, mk_end hin]; exact ⟨rfl, rfl, hol, fun j hj => by show wr ou 0 ol j = _; rw [wr_in (Nat.zero_le _) (by omega)]; rfl⟩) rfl d_Md_make_159
      · have c12 : ¬ n ≤ i := fun q_ => c12 ((nI_leI (a := n) (b := i) (by omega) (by omega)).mpr q_)
        omega
    | succ fu ihM =>
      intro i k ol wi2 ki2 le2 ze2 pl2 bl2 pi2 fr2 vl2 hfu hile hk hfu2 hol hres H locs ls hw hl
      refine lv_aload_n hx hb d_Md_make_19 rfl (lv_at hl 2 rfl) ?_
      refine xget S hw fl_Md_77 0 rfl rfl d_Md_make_20 ?_
      refine lv_aload_n hx hb d_Md_make_23 rfl (lv_at hl 2 rfl) ?_
      refine xget S hw fl_Md_37 0 rfl rfl d_Md_make_24 ?_
      refine lv_icmp_ge (tgt := 131) hx hb d_Md_make_27 (by decide) (fun c12 => ?_) (fun c12 => ?_)
      · have c12 : n ≤ i := (nI_leI (a := n) (b := i) (by omega) (by omega)).mp c12
        have hin : ¬ i < n := by omega
        refine lv_aload_n hx hb d_Md_make_131 rfl (lv_at hl 2 rfl) ?_
        refine lv_iload_n hx hb d_Md_make_132 rfl (lv_at hl 0 rfl) ?_
        refine lv_if_ne (tgt := 143) hx hb d_Md_make_133 (by decide) (fun q_ => absurd (by decide) q_) (fun _ => ?_)
        refine lv_aload_n hx hb d_Md_make_136 rfl (lv_at hl 2 rfl) ?_
        refine xget S hw fl_Md_104 0 rfl rfl d_Md_make_137 ?_
        refine lv_goto (tgt := 144) hx hb d_Md_make_140 (by decide) ?_
        refine xput S hw fl_Md_126 0 rfl rfl rfl (Nat.le_of_ble_eq_true rfl) (ws' := wMd G ad tp tx wd (wr ou 0 ol) wz pi2 tk (nI n) (nI M) (nI ol.length) (nI ol.length) (nI i) wi2 ki2 le2 ze2 pl2 bl2 fr2 vl2) rfl d_Md_make_144 (fun H locs hw => ?_)
        refine lv_iload_n hx hb d_Md_make_147 rfl (lv_at hl 0 rfl) ?_
        refine lv_if_ne (tgt := 158) hx hb d_Md_make_148 (by decide) (fun q_ => absurd (by decide) q_) (fun _ => ?_)
        refine lv_aload_n hx hb d_Md_make_151 rfl (lv_at hl 2 rfl) ?_
        refine xget S hw fl_Md_104 0 rfl rfl d_Md_make_152 ?_
        refine lv_goto (tgt := 159) hx hb d_Md_make_155 (by decide) ?_
        exact kret _ _ _ _ _ (wr ou 0 ol, ol.length, nI ol.length, nI i, wi2, ki2, le2, ze2, pl2, bl2, pi2, fr2, vl2) hw (by rw [← hres, mk_end hin]; exact ⟨rfl, rfl, hol, fun j hj => by show wr ou 0 ol j = _; rw [wr_in (Nat.zero_le _) (by omega)]; rfl⟩) rfl d_Md_make_159
      · have c12 : ¬ n ≤ i := fun q_ => c12 ((nI_leI (a := n) (b := i) (by omega) (by omega)).mpr q_)
        have hin : i < n := by omega
        refine lv_iload_n hx hb d_Md_make_30 rfl (lv_at hl 0 rfl) ?_
        refine lv_if_ne (tgt := 131) hx hb d_Md_make_31 (by decide) (fun q_ => absurd (by decide) q_) (fun _ => ?_)
        refine lv_aload_n hx hb d_Md_make_34 rfl (lv_at hl 2 rfl) ?_
        refine xget S hw fl_Md_13 0 rfl rfl d_Md_make_35 ?_
        refine lv_aload_n hx hb d_Md_make_38 rfl (lv_at hl 2 rfl) ?_
        refine xget S hw fl_Md_77 0 rfl rfl d_Md_make_39 ?_
        refine xbald S hw 2 rfl (j := i) (by omega) (by decide) d_Md_make_42 ?_
        refine lv_istore_n (lv' := [(3, .int (tx i)), (2, .int 0), (1, .int (nI k)), (0, .ref (ad 0))]) hx hb d_Md_make_43 rfl hl (by decide) rfl (fun ls hl => ?_)
        refine lv_aload_n hx hb d_Md_make_44 rfl (lv_at hl 3 rfl) ?_
        refine lv_dup hx hb d_Md_make_45 rfl ?_
        refine xget S hw fl_Md_77 0 rfl rfl d_Md_make_46 ?_
        refine lv_iconst (v := 1) hx hb d_Md_make_49 (by decide) ?_
        refine lv_iadd hx hb d_Md_make_50 ?_
        refine tpi (y := nI (i + 1)) (nI_add i 1) ?_
        refine xput S hw fl_Md_77 0 rfl rfl rfl (Nat.le_of_ble_eq_true rfl) (ws' := wMd G ad tp tx wd (wr ou 0 ol) wz pi2 tk (nI n) (nI M) 0 (nI ol.length) (nI (i + 1)) wi2 ki2 le2 ze2 pl2 bl2 fr2 vl2) rfl d_Md_make_51 (fun H locs hw => ?_)
        refine lv_iload_n hx hb d_Md_make_54 rfl (lv_at hl 0 rfl) ?_
        refine lv_bipush (v := 37) hx hb d_Md_make_55 (by decide) ?_
        refine lv_icmp_eq (tgt := 78) hx hb d_Md_make_57 (by decide) (fun c37 => ?_) (fun c37 => ?_)
        · have hgt := plW_gt tx n i
          have hwl := plW_le tx n i
          refine lv_aload_n hx hb d_Md_make_78 rfl (lv_at hl 3 rfl) ?_
          refine zVi (As := []) (rest := []) S hw hl.1 vl_Md_129 (c_Md_readPlace l G ad tp tx wd (wr ou 0 ol) wz pi2 tk (nI M) 0 (nI ol.length) wi2 ki2 le2 ze2 pl2 bl2 fr2 vl2 n i hnn hin) 0 rfl rfl rfl ⟨rfl, rfl⟩ [0, 1, 2, 3, 4, 5, 6] [] [0, 1, 2, 3, 4, 5, 6] rfl rfl (by decide) rfl rfl rfl d_Md_make_79 (fun _ => wMd G ad tp tx wd (wr ou 0 ol) wz pi2 tk (nI n) (nI M) 0 (nI ol.length) (nI ((plW tx n i).2 + 1)) (nI (plW tx n i).1) (if (plW tx n i).2 < n then tx (plW tx n i).2 else 0) (bI (plF tx n i).1.1) (bI (plF tx n i).1.2.1) (bI (plF tx n i).1.2.2.1) (bI (plF tx n i).1.2.2.2) fr2 vl2) (fun _ => rfl) (fun r_79 _ H locs hpr hw => ?_)
          subst hpr
          refine lv_if_ne (tgt := 91) hx hb d_Md_make_82 (by decide) (fun ck => ?_) (fun ck => ?_)
          · have ck : (kOk (plK tx n i)) = true := bI_t ck
            have hlt2 := plK_lt ck
            rw [plK_if ck] at hw
            refine lv_aload_n hx hb d_Md_make_91 rfl (lv_at hl 3 rfl) ?_
            refine xget S hw fl_Md_101 0 rfl rfl d_Md_make_92 ?_
            refine lv_bipush (v := 37) hx hb d_Md_make_95 (by decide) ?_
            refine lv_icmp_ne (tgt := 119) hx hb d_Md_make_97 (by decide) (fun cq => ?_) (fun cq => ?_)
            · have hst0 := step_flR (w := wd) (z := wz) (many := M) (k := k) c37 ck cq
              refine lv_aload_n hx hb d_Md_make_119 rfl (lv_at hl 3 rfl) ?_
              refine lv_iload_n hx hb d_Md_make_120 rfl (lv_at hl 2 rfl) ?_
              refine zVi (As := [.int (nI k)]) (rest := []) S hw hl.1 vl_Md_132 (c_Md_filled l G ad tp tx wd (wr ou 0 ol) wz pi2 tk (nI n) 0 (nI ((plW tx n i).2 + 1)) fr2 vl2 ol.length M k (plW tx n i).1 (plK tx n i) (plF tx n i).1.1 (plF tx n i).1.2.1 (plF tx n i).1.2.2.1 (plF tx n i).1.2.2.2 hol hM (by omega) hwl hbw hsz) 0 rfl rfl rfl ⟨rfl, rfl⟩ [0, 1, 2, 3, 4, 5, 6] [] [0, 1, 2, 3, 4, 5, 6] rfl rfl (by decide) rfl rfl rfl d_Md_make_121 (fun u => wMd G ad tp tx wd u.1 wz u.2.2.1 tk (nI n) (nI M) 0 (nI u.2.1) (nI ((plW tx n i).2 + 1)) (nI (plW tx n i).1) (plK tx n i) (bI (plF tx n i).1.1) (bI (plF tx n i).1.2.1) (bI (plF tx n i).1.2.2.1) (bI (plF tx n i).1.2.2.2) u.2.2.2.1 u.2.2.2.2) (fun _ => rfl) (fun r_121 u2 H locs hpf hw => ?_)
              have hw : gW G A s (wMd G ad tp tx wd u2.1 wz u2.2.2.1 tk (nI n) (nI M) 0 (nI u2.2.1) (nI ((plW tx n i).2 + 1)) (nI (plW tx n i).1) (plK tx n i) (bI (plF tx n i).1.1) (bI (plF tx n i).1.2.1) (bI (plF tx n i).1.2.2.1) (bI (plF tx n i).1.2.2.2) u2.2.2.2.1 u2.2.2.2.2) H locs := hw
              obtain ⟨hu2, hpf⟩ := hpf
              refine lv_istore_n (lv' := [(2, .int r_121), (3, .int (tx i)), (1, .int (nI k)), (0, .ref (ad 0))]) hx hb d_Md_make_124 rfl hl (by decide) rfl (fun ls hl => ?_)
              refine lv_iinc (v := nI (k + 1)) (lv' := [(1, .int (nI (k + 1))), (2, .int r_121), (3, .int (tx i)), (0, .ref (ad 0))]) hx hb d_Md_make_125 hl (k := 2) rfl (nI_1 k) (by decide) rfl (fun ls hl => ?_)
              refine lv_goto (tgt := 19) hx hb d_Md_make_128 (by decide) ?_
              cases hfr : flR wd wz M k (plW tx n i).1 (plK tx n i) (plF tx n i).1.1 (plF tx n i).1.2.1 (plF tx n i).1.2.2.1 (plF tx n i).1.2.2.2 with
              | inl er =>
                rw [hfr] at hpf hst0
                have hpf : r_121 = er := hpf
                have her : er ≠ 0 := by
                  unfold flR at hfr
                  split at hfr
                  · cases hfr; decide
                  · split at hfr
                    · cases hfr
                    · split at hfr <;> cases hfr; decide
                exact jE r_121 _ _ ((plW tx n i).2 + 1) _ _ _ _ _ _ _ _ _ _ (by rw [hpf]; exact her) (by omega) (by rw [← hres, hpf, mk_err hin hst0]) _ _ _ hw (lv_sub hl [1, 0, 3] rfl)
              | inr lt =>
                rw [hfr] at hpf hst0
                rcases hpf with ⟨h0, h1, h2, h3⟩ | ⟨h0, h1⟩
                · subst h0
                  rw [h2, h3, wr_app (Nat.zero_add _).symm, ← List.length_append] at hw
                  exact ihM ((plW tx n i).2 + 1) (k + 1) (ol ++ lt) _ _ _ _ _ _ _ _ _ (by omega) (by omega) (by omega) (by omega) (by rw [List.length_append]; exact h1) (by rw [← hres, mk_go hin hst0 (by omega)]) _ _ _ hw (lv_sub hl [1, 0, 3] rfl)
                · exact jE r_121 _ _ ((plW tx n i).2 + 1) _ _ _ _ _ _ _ _ _ _ (by rw [h0]; decide) (by omega) (by rw [← hres, h0, mk_long hin hst0 h1]) _ _ _ hw (lv_sub hl [1, 0, 3] rfl)
            · have hst := step_pct2 (w := wd) (z := wz) (many := M) (k := k) c37 cq
              have hx8 : b8 (37 : Int32) = 37 := by decide
              refine lv_aload_n hx hb d_Md_make_100 rfl (lv_at hl 3 rfl) ?_
              refine lv_bipush (v := 37) hx hb d_Md_make_101 (by decide) ?_
              refine zVi (As := [.int 37]) (rest := []) S hw hl.1 vl_Md_107 (c_Md_put l G ad tp tx wd (wr ou 0 ol) wz pi2 tk (nI n) (nI M) 0 (nI ((plW tx n i).2 + 1)) (nI (plW tx n i).1) (plK tx n i) (bI (plF tx n i).1.1) (bI (plF tx n i).1.2.1) (bI (plF tx n i).1.2.2.1) (bI (plF tx n i).1.2.2.2) fr2 vl2 ol.length hol (37)) 0 rfl rfl rfl ⟨rfl, rfl⟩ [0, 1, 2, 3, 4, 5, 6] [] [0, 1, 2, 3, 4, 5, 6] rfl rfl (by decide) rfl rfl rfl d_Md_make_103 (fun _ => wMd G ad tp tx wd (if ol.length < 1024 then wr (wr ou 0 ol) ol.length [b8 (37)] else wr ou 0 ol) wz pi2 tk (nI n) (nI M) 0 (nI (if ol.length < 1024 then ol.length + 1 else ol.length)) (nI ((plW tx n i).2 + 1)) (nI (plW tx n i).1) (plK tx n i) (bI (plF tx n i).1.1) (bI (plF tx n i).1.2.1) (bI (plF tx n i).1.2.2.1) (bI (plF tx n i).1.2.2.2) fr2 vl2) (fun _ => rfl) (fun r_103 _ H locs hpp hw => ?_)
              subst hpp
              have hlt : ([37] : List Int32).length = 1 := rfl
              refine lv_if_eq (tgt := 113) hx hb d_Md_make_106 (by decide) (fun cp => ?_) (fun cp => ?_)
              · have cp : (decide (ol.length < 1024)) = false := bI_z cp
                have cp := of_decide_eq_false cp
                rw [if_neg cp, if_neg cp] at hw
                refine lv_bipush (v := (-5)) hx hb d_Md_make_113 (by decide) ?_
                refine lv_istore_n (lv' := [(2, .int (-5)), (3, .int (tx i)), (1, .int (nI k)), (0, .ref (ad 0))]) hx hb d_Md_make_115 rfl hl (by decide) rfl (fun ls hl => ?_)
                refine lv_goto (tgt := 128) hx hb d_Md_make_116 (by decide) ?_
                refine lv_goto (tgt := 19) hx hb d_Md_make_128 (by decide) ?_
                exact jE (-5) _ _ ((plW tx n i).2 + 1) _ _ _ _ _ _ _ _ _ _ (by decide) (by omega) (by rw [← hres, mk_long hin hst (by omega)]) _ _ _ hw (lv_sub hl [0, 2, 3] rfl)
              · have cp : (decide (ol.length < 1024)) = true := bI_t cp
                have cp := of_decide_eq_true cp
                rw [if_pos cp, if_pos cp, hx8, wr_app (Nat.zero_add _).symm] at hw
                refine lv_iconst (v := 0) hx hb d_Md_make_109 (by decide) ?_
                refine lv_goto (tgt := 115) hx hb d_Md_make_110 (by decide) ?_
                refine lv_istore_n (lv' := [(2, .int 0), (3, .int (tx i)), (1, .int (nI k)), (0, .ref (ad 0))]) hx hb d_Md_make_115 rfl hl (by decide) rfl (fun ls hl => ?_)
                refine lv_goto (tgt := 128) hx hb d_Md_make_116 (by decide) ?_
                refine lv_goto (tgt := 19) hx hb d_Md_make_128 (by decide) ?_
                exact ihM ((plW tx n i).2 + 1) (k) (ol ++ [37]) _ _ _ _ _ _ _ _ _ (by omega) (by omega) (by omega) (by omega) (by rw [List.length_append]; omega) (by rw [← hres, mk_go hin hst (by omega)]) _ _ _ (by rw [List.length_append]; exact hw) (lv_sub hl [0, 2, 3] rfl)
          · have ck : (kOk (plK tx n i)) = false := bI_z ck
            have hst := step_bad2 (w := wd) (z := wz) (many := M) (k := k) c37 ck
            have hle3 : (plW tx n i).2 ≤ n := plW_n tx (Nat.le_of_lt hin) (Nat.succ_le_of_lt hin)
            refine lv_bipush (v := (-2)) hx hb d_Md_make_85 (by decide) ?_
            refine lv_istore_n (lv' := [(2, .int (-2)), (3, .int (tx i)), (1, .int (nI k)), (0, .ref (ad 0))]) hx hb d_Md_make_87 rfl hl (by decide) rfl (fun ls hl => ?_)
            refine lv_goto (tgt := 128) hx hb d_Md_make_88 (by decide) ?_
            refine lv_goto (tgt := 19) hx hb d_Md_make_128 (by decide) ?_
            exact jE (-2) _ _ ((plW tx n i).2 + 1) _ _ _ _ _ _ _ _ _ _ (by decide) (by omega) (by rw [← hres, mk_err hin hst]) _ _ _ hw (lv_sub hl [0, 2, 3] rfl)
        · have hst := step_lit (n := n) (w := wd) (z := wz) (many := M) (k := k) c37
          have hx8 : b8 (tx i) = tx i := hbt i
          refine lv_aload_n hx hb d_Md_make_60 rfl (lv_at hl 3 rfl) ?_
          refine lv_iload_n hx hb d_Md_make_61 rfl (lv_at hl 0 rfl) ?_
          refine zVi (As := [.int (tx i)]) (rest := []) S hw hl.1 vl_Md_107 (c_Md_put l G ad tp tx wd (wr ou 0 ol) wz pi2 tk (nI n) (nI M) 0 (nI (i + 1)) wi2 ki2 le2 ze2 pl2 bl2 fr2 vl2 ol.length hol (tx i)) 0 rfl rfl rfl ⟨rfl, rfl⟩ [0, 1, 2, 3, 4, 5, 6] [] [0, 1, 2, 3, 4, 5, 6] rfl rfl (by decide) rfl rfl rfl d_Md_make_62 (fun _ => wMd G ad tp tx wd (if ol.length < 1024 then wr (wr ou 0 ol) ol.length [b8 (tx i)] else wr ou 0 ol) wz pi2 tk (nI n) (nI M) 0 (nI (if ol.length < 1024 then ol.length + 1 else ol.length)) (nI (i + 1)) wi2 ki2 le2 ze2 pl2 bl2 fr2 vl2) (fun _ => rfl) (fun r_62 _ H locs hpp hw => ?_)
          subst hpp
          have hlt : ([tx i] : List Int32).length = 1 := rfl
          refine lv_if_eq (tgt := 72) hx hb d_Md_make_65 (by decide) (fun cp => ?_) (fun cp => ?_)
          · have cp : (decide (ol.length < 1024)) = false := bI_z cp
            have cp := of_decide_eq_false cp
            rw [if_neg cp, if_neg cp] at hw
            refine lv_bipush (v := (-5)) hx hb d_Md_make_72 (by decide) ?_
            refine lv_istore_n (lv' := [(2, .int (-5)), (3, .int (tx i)), (1, .int (nI k)), (0, .ref (ad 0))]) hx hb d_Md_make_74 rfl hl (by decide) rfl (fun ls hl => ?_)
            refine lv_goto (tgt := 128) hx hb d_Md_make_75 (by decide) ?_
            refine lv_goto (tgt := 19) hx hb d_Md_make_128 (by decide) ?_
            exact jE (-5) _ _ (i + 1) _ _ _ _ _ _ _ _ _ _ (by decide) (by omega) (by rw [← hres, mk_long hin hst (by omega)]) _ _ _ hw (lv_sub hl [0, 2, 3] rfl)
          · have cp : (decide (ol.length < 1024)) = true := bI_t cp
            have cp := of_decide_eq_true cp
            rw [if_pos cp, if_pos cp, hx8, wr_app (Nat.zero_add _).symm] at hw
            refine lv_iconst (v := 0) hx hb d_Md_make_68 (by decide) ?_
            refine lv_goto (tgt := 74) hx hb d_Md_make_69 (by decide) ?_
            refine lv_istore_n (lv' := [(2, .int 0), (3, .int (tx i)), (1, .int (nI k)), (0, .ref (ad 0))]) hx hb d_Md_make_74 rfl hl (by decide) rfl (fun ls hl => ?_)
            refine lv_goto (tgt := 128) hx hb d_Md_make_75 (by decide) ?_
            refine lv_goto (tgt := 19) hx hb d_Md_make_128 (by decide) ?_
            exact ihM (i + 1) (k) (ol ++ [tx i]) _ _ _ _ _ _ _ _ _ (by omega) (by omega) (by omega) (by omega) (by rw [List.length_append]; omega) (by rw [← hres, mk_go hin hst (by omega)]) _ _ _ (by rw [List.length_append]; exact hw) (lv_sub hl [0, 2, 3] rfl)
  exact lpM n 0 0 [] _ _ _ _ _ _ _ _ _ (by omega) (by omega) (by omega) (by omega) (by decide) hRS.symm _ _ _ (by rw [wr_nil]; exact hw) (lv_sub hl [0, 1, 2] rfl)
end
section
/-! ===== calls of constructors that ask more; a private constructor of a nest mate ===== -/
def Xn : (Nat → Prop) → State → Prop := fun _ U => va_Nw (.methodLinkNest R_Mi 9 y_Fo_init R_Mi) U
theorem XBn : XB Xn := fun _ _ _ _ _ h => va_Nw.same rfl rfl h
section ZI
variable {p : Program} {l : Launch} {e : Env} {R : Room} {s : State} {m : MethodId} {args : Array Value} {below : List Frame} {meth : Method} {c : Code} {H : Heap} {locs : List Loc} {cells slots : Nat} {Q : State → Prop}
variable {cc : ByteArray} {pc nL : Nat} {ls : Array Slot} {rest st0 : List Value} {own : String} {G : gG} {A : Nat → Prop} {ws wc : va_W} {σ : Type}
variable {y : MethodName} {bytes : ByteArray} {maxL index n mc ms : Nat} {ret : Option FieldType} {rm : Room} {As : List Value} {b : Nat} {X : (Nat → Prop) → State → Prop} {w' wn : σ → va_W}
/-- a nest mate's private constructor -/
theorem zINv {post : σ → Prop} {host : String} (S : CallFix p m c cc nL s args gt own) (hw : gW G A s ws H locs) (hsz : ls.size = nL) (hnw : va_Nw (.methodLinkNest own index y host) s) (hin : Cond.instanceMethod y ∈ gt) (hini : Cond.initialized y.cls ∈ gt) (hco : Cond.code y bytes maxL none ∈ gt) (hnm : y.name = "<init>") (hd : y.cls ≠ "java/lang/invoke/MethodHandle" ∧ y.cls ≠ "java/lang/invoke/VarHandle" ∧ (parseMethodDescriptor y.desc).map (fun d => d.parameters.length) = some n) (hM : MetV l y (Cond.code y bytes maxL none) rm mc ms G (.ref b :: As) wc X0 post w')
    (hR : (Nat.ble (rm.frames + 1) R.frames && Nat.ble (8 + (maxL + 11) + rm.locals) R.locals && Nat.ble (cells + mc) R.cells && Nat.ble (slots + ms) R.slots) = true) (hrm : rm.cells = mc ∧ rm.slots = ms) (isC isR isN : List Nat) (hC : isC.map (fun i => ws[i]?) = wc.map some) (hRl : isR.all (fun i => Nat.blt i ws.length) = true) (hnds : (va_nd isC && va_nd isR && va_nd isN && isR.all (fun i => decide (i ∉ isC))) = true)
    (hst : st0 = As.reverse ++ .ref b :: rest) (hlen : As.length = n) (hrest : Nat.ble (rest.map fun v => v.category).sum 8 = true) (hdg : decode cc pc = .ok (.invokespecial index, 3))
    (wn : σ → va_W) (hN : ∀ u, isN.map (fun i => (pick ws isR ++ w' u)[i]?) = (wn u).map some)
    (kk : ∀ (u : σ) (H : Heap) (locs : List Loc), post u → gW G A s (wn u) H locs → W p l e R s m args below meth c H locs (cells + mc) (slots + ms) Q (F0 m (pc + 3) ls rest)) : W p l e R s m args below meth c H locs cells slots Q (F0 m pc ls st0) := by
  simp only [Bool.and_eq_true, Nat.ble_eq] at hR
  simp only [Bool.and_eq_true, List.all_eq_true, decide_eq_true_eq] at hnds
  have hp := xpre hw isC hnds.1.1.1 hC XB0 (fun _ _ _ => trivial) (.ref b :: As)
  have ht := S.2.2.2.2
  exact xaftV (va_runIN (g := F0 m pc ls st0) (rest := rest) S (hM H.size) ⟨va_cnB n ht (gi_gt hco) rfl hrm.1 hrm.2 hnw (ht _ hini) hd ⟨hR.1.1.1, hR.1.1.2⟩, hnm, ht _ hin⟩ hp rfl hlen hsz hst (lv_room (Nat.le_of_ble_eq_true hrest)) hdg ⟨hR.1.2, hR.2⟩) hw isC isR isN hC (pick_map hRl) hnds.1.1.2 hnds.2 hN hnds.1.2 kk
/-- a constructor that asks X -/
theorem zIX {post : σ → Prop} (S : CallFix p m c cc nL s args gt own) (hw : gW G A s ws H locs) (hsz : ls.size = nL) (il : IL own index y bytes maxL n) (hM : MetV l y (Cond.code y bytes maxL none) rm mc ms G (.ref b :: As) wc X post w') (hXB : XB X) (hX : ∀ U : State, U.heap = H → s.WarmedH U.vm → X (va_A wc H.size) U)
    (hR : (Nat.ble (rm.frames + 1) R.frames && Nat.ble (8 + (maxL + 11) + rm.locals) R.locals && Nat.ble (cells + mc) R.cells && Nat.ble (slots + ms) R.slots) = true) (hrm : rm.cells = mc ∧ rm.slots = ms) (isC isR isN : List Nat) (hC : isC.map (fun i => ws[i]?) = wc.map some) (hRl : isR.all (fun i => Nat.blt i ws.length) = true) (hnds : (va_nd isC && va_nd isR && va_nd isN && isR.all (fun i => decide (i ∉ isC))) = true)
    (hst : st0 = As.reverse ++ .ref b :: rest) (hlen : As.length = n) (hrest : Nat.ble (rest.map fun v => v.category).sum 8 = true) (hdg : decode cc pc = .ok (.invokespecial index, 3))
    (wn : σ → va_W) (hN : ∀ u, isN.map (fun i => (pick ws isR ++ w' u)[i]?) = (wn u).map some)
    (kk : ∀ (u : σ) (H : Heap) (locs : List Loc), post u → gW G A s (wn u) H locs → W p l e R s m args below meth c H locs (cells + mc) (slots + ms) Q (F0 m (pc + 3) ls rest)) : W p l e R s m args below meth c H locs cells slots Q (F0 m pc ls st0) := by
  simp only [Bool.and_eq_true, Nat.ble_eq] at hR
  simp only [Bool.and_eq_true, List.all_eq_true, decide_eq_true_eq] at hnds
  have hp := xpre hw isC hnds.1.1.1 hC hXB hX (.ref b :: As)
  obtain ⟨h1, h2, h3, h4, h5, h6⟩ := il
  have ht := S.2.2.2.2
  exact xaftV (va_runI (g := F0 m pc ls st0) (rest := rest) S (hM H.size) ⟨callB_of n ht (gi_gt h4) rfl hrm.1 hrm.2 (ht _ h3) (ht _ h1) h6 ⟨hR.1.1.1, hR.1.1.2⟩, h5, ht _ h2⟩ hp rfl hlen hsz hst (lv_room (Nat.le_of_ble_eq_true hrest)) hdg ⟨hR.1.2, hR.2⟩) hw isC isR isN hC (pick_map hRl) hnds.1.1.2 hnds.2 hN hnds.1.2 kk
/-- a virtual call of a world's own object that asks X -/
theorem zVX {post : Int32 → σ → Prop} {ci : Nat} {fs : List Value} (S : CallFix p m c cc nL s args gt own) (hw : gW G A s ws H locs) (hsz : ls.size = nL) (vl : VL own index y bytes maxL ret n) (hM : MetI l y (Cond.code y bytes maxL ret) rm 0 0 G (.ref b :: As) wc X post w') (hXB : XB X) (hX : ∀ U : State, U.heap = H → s.WarmedH U.vm → X (va_A wc H.size) U) (q0 : Nat) (he : ws[q0]? = some (b, .inr (ci, fs))) (hc : (classes[ci]?).map (·.1) = some y.cls)
    (hR : (Nat.ble (rm.frames + 1) R.frames && Nat.ble (8 + (maxL + 11) + rm.locals) R.locals && Nat.ble cells R.cells && Nat.ble slots R.slots) = true) (hrm : rm.cells = 0 ∧ rm.slots = 0) (isC isR isN : List Nat) (hC : isC.map (fun i => ws[i]?) = wc.map some) (hRl : isR.all (fun i => Nat.blt i ws.length) = true) (hnds : (va_nd isC && va_nd isR && va_nd isN && isR.all (fun i => decide (i ∉ isC))) = true)
    (hst : st0 = As.reverse ++ .ref b :: rest) (hlen : As.length = n) (hrest : Nat.ble (rest.map fun v => v.category).sum 8 = true) (hdg : decode cc pc = .ok (.invokevirtual index, 3))
    (wn : σ → va_W) (hN : ∀ u, isN.map (fun i => (pick ws isR ++ w' u)[i]?) = (wn u).map some)
    (kk : ∀ (r : Int32) (u : σ) (H : Heap) (locs : List Loc), post r u → gW G A s (wn u) H locs → W p l e R s m args below meth c H locs cells slots Q (F0 m (pc + 3) ls (.int r :: rest))) : W p l e R s m args below meth c H locs cells slots Q (F0 m pc ls st0) := by
  simp only [Bool.and_eq_true, Nat.ble_eq] at hR
  simp only [Bool.and_eq_true, List.all_eq_true, decide_eq_true_eq] at hnds
  exact xcallVi' S hw vl hM ⟨hR.1.1.1, hR.1.1.2⟩ hrm.1 hrm.2 isC isR isN hC (pick_map hRl) hnds.1.1.1 hnds.1.1.2 hnds.2 hXB hX (xrecv hw he hc) hst hlen hsz (Nat.le_of_ble_eq_true hrest) hdg ⟨hR.1.2, hR.2⟩ hN hnds.1.2 kk
end ZI
theorem Xs_down2 {G : gG} {A : Nat → Prop} {s : State} {ws wc : va_W} {H : Heap} {locs : List Loc} {adK adV : Nat → Nat} (hX : Xs adK adV A s) (hw : gW G A s ws H locs) (isC : List Nat) (hC : isC.map (fun i => ws[i]?) = wc.map some) : ∀ U : State, U.heap = H → s.WarmedH U.vm → Xs adK adV (va_A wc H.size) U := by
  intro U hU hW
  obtain ⟨h1, h2, h3⟩ := hX
  obtain ⟨hK, hP, hD, hS, hA⟩ := hw
  have hn := va_free (wc := wc) hD hS hA isC hC
  have g1 := ((h1.kept (H1 := H) hS.2.1).narrow hn).moved hW.alike
  have g2 := ((h2.kept (H1 := H) hS.2.1).narrow hn).moved hW.alike
  refine ⟨?_, ?_, h3.warm hW⟩
  · rw [hU]; exact g1
  · rw [hU]; exact g2
theorem Xn_down {s : State} {H : Heap} {wc : va_W} {A : Nat → Prop} (hX : Xn A s) : ∀ U : State, U.heap = H → s.WarmedH U.vm → Xn (va_A wc H.size) U := fun U _ hW => va_Nw.warmM hW hX
abbrev rmC (f c sl lo : Nat) : Room := { frames := f, cells := c, slots := sl, locals := lo }
end
section
set_option maxHeartbeats 4000000 in
set_option maxRecDepth 100000 in
theorem c_Ro_init (l : Launch) (G : gG) (r cap : Nat) (hc : cap ≤ 5000) : MetV (σ := Nat) l y_Ro_init (Cond.code y_Ro_init b_Ro_init 2 none) (rmC 1 1 cap 40) 1 cap G [.ref r, .int (nI cap)] ([(r, .inr (0, [.null, .int 0]))]) X0 (fun _ => True) (fun u => wRo G r u cap 0 (fun _ => 0)) := by
  refine MetV.mk2 (by decide) (Nat.le_of_ble_eq_true rfl) ?_
  intro p e s m args below meth c A ls Q S hw hX hl hnm kret
  have hx := S.1
  have hb := S.2.1
  have hl : lv_has ls 2 [(0, .ref r), (1, .int (nI cap))] := hl
  generalize hH0 : s.heap = H at hw ⊢
  generalize hL0 : ([] : List Loc) = locs at hw ⊢
  refine lv_aload_n hx hb d_Ro_init_0 rfl (lv_at hl 0 rfl) ?_
  refine xobj S hl.1 k_31 d_Ro_init_1 (Nat.le_of_ble_eq_true rfl) (Nat.le_of_ble_eq_true rfl) ?_
  refine lv_aload_n hx hb d_Ro_init_4 rfl (lv_at hl 0 rfl) ?_
  refine lv_iload_n hx hb d_Ro_init_5 rfl (lv_at hl 1 rfl) ?_
  refine xnewB S hw (n := cap) (by omega) (Nat.le_of_ble_eq_true rfl) (by show 0 + cap ≤ cap; omega) d_Ro_init_6 (fun q H hw => ?_)
  have hw : gW G A s ([(r, .inr (0, [.null, .int 0])), aB G q cap (fun _ => 0)]) H locs := hw
  refine xput S hw fl_Ro_7 0 rfl rfl rfl (Nat.le_of_ble_eq_true rfl) (ws' := [(r, .inr (0, [.ref q, .int 0])), aB G q cap (fun _ => 0)]) rfl d_Ro_init_8 (fun H locs hw => ?_)
  refine W.widen (k := 1) (n := cap) (by omega) (by omega) ?_
  exact kret _ _ _ _ q hw trivial d_Ro_init_11
set_option maxHeartbeats 4000000 in
set_option maxRecDepth 100000 in
theorem c_Fo_init (l : Launch) (G : gG) (h : Nat) : MetV (σ := (Nat × Nat)) l y_Fo_init (Cond.code y_Fo_init b_Fo_init 1 none) (rmC 2 2 2050 100) 2 2050 G [.ref h] ([(h, .inr (1, [.null, .int 0]))]) X0 (fun _ => True) (fun u => wFo G h u.1 u.2 0 0 (fun _ => 0)) := by
  refine MetV.mk2 (by decide) (Nat.le_of_ble_eq_true rfl) ?_
  intro p e s m args below meth c A ls Q S hw hX hl hnm kret
  have hx := S.1
  have hb := S.2.1
  have hl : lv_has ls 1 [(0, .ref h)] := hl
  generalize hH0 : s.heap = H at hw ⊢
  generalize hL0 : ([] : List Loc) = locs at hw ⊢
  refine lv_aload_n hx hb d_Fo_init_0 rfl (lv_at hl 0 rfl) ?_
  refine xobj S hl.1 k_25 d_Fo_init_1 (Nat.le_of_ble_eq_true rfl) (Nat.le_of_ble_eq_true rfl) ?_
  refine lv_aload_n hx hb d_Fo_init_4 rfl (lv_at hl 0 rfl) ?_
  refine xnew (ci := 0) (fs := [.null, .int 0]) S hw rfl i_Ro t_Ro_ok k_26 k_27 k_3 (by intro j hj; rcases (show j = 0 ∨ j = 1 by omega) with rfl | rfl <;> rfl) (Nat.le_of_ble_eq_true rfl) (Nat.le_of_ble_eq_true rfl) d_Fo_init_5 (fun q H hw => ?_)
  have hw : gW G A s ([(h, .inr (1, [.null, .int 0])), (q, .inr (0, [.null, .int 0]))]) H locs := hw
  refine W.widen (k := 1) (n := 2) (Nat.le_of_ble_eq_true rfl) (Nat.le_of_ble_eq_true rfl) ?_
  refine lv_dup hx hb d_Fo_init_8 rfl ?_
  refine lv_sipush (v := 2048) hx hb d_Fo_init_9 (by decide) ?_
  refine zIv S hw hl.1 il_Fo_11 (c_Ro_init l G q 2048 (by decide)) rfl ⟨rfl, rfl⟩ [1] [0] [0, 1, 2] rfl rfl (by decide) (As := [.int 2048]) (rest := [.ref q, .ref h]) rfl rfl rfl d_Fo_init_12 (fun u => [(h, .inr (1, [.null, .int 0])), (q, .inr (0, [.ref u, .int 0])), aB G u 2048 (fun _ => 0)]) (fun _ => rfl) (fun qa H locs hp hw => ?_)
  have hw : gW G A s ([(h, .inr (1, [.null, .int 0])), (q, .inr (0, [.ref qa, .int 0])), aB G qa 2048 (fun _ => 0)]) H locs := hw
  refine W.widen (k := 2) (n := 2050) (Nat.le_of_ble_eq_true rfl) (Nat.le_of_ble_eq_true rfl) ?_
  refine xputF S hw hnm fl_Fo_14 rfl 0 rfl rfl rfl (Nat.le_of_ble_eq_true rfl) (ws' := [(h, .inr (1, [.ref q, .int 0])), (q, .inr (0, [.ref qa, .int 0])), aB G qa 2048 (fun _ => 0)]) rfl d_Fo_init_15 (fun H locs hw => ?_)
  exact kret _ _ _ _ (q, qa) hw trivial d_Fo_init_18
set_option maxHeartbeats 4000000 in
set_option maxRecDepth 100000 in
theorem c_Mi_init (l : Launch) (G : gG) (h : Nat) : MetV (σ := (Nat → Nat)) l y_Mi_init (Cond.code y_Mi_init b_Mi_init 1 none) (rmC 4 11 7836 160) 11 7836 G [.ref h] ([(h, .inr (2, [.null, .null, .null, .null, .int 0, .null, .null, .int 0, .null, .int 0, .long 0]))]) Xn (fun u => u 0 = h) (fun u => wMi G u 0 0 (fun _ => 0) 0 (fun _ => 0) 0 (fun _ => 0) (fun _ => 0) 0 (fun _ => 0) (fun _ => 0) 0 (fun _ => 0) 0 0) := by
  refine MetV.mk2 (by decide) (Nat.le_of_ble_eq_true rfl) ?_
  intro p e s m args below meth c A ls Q S hw hX hl hnm kret
  have hx := S.1
  have hb := S.2.1
  have hl : lv_has ls 1 [(0, .ref h)] := hl
  generalize hH0 : s.heap = H at hw ⊢
  generalize hL0 : ([] : List Loc) = locs at hw ⊢
  refine lv_aload_n hx hb d_Mi_init_0 rfl (lv_at hl 0 rfl) ?_
  refine xobj S hl.1 k_17 d_Mi_init_1 (Nat.le_of_ble_eq_true rfl) (Nat.le_of_ble_eq_true rfl) ?_
  refine lv_aload_n hx hb d_Mi_init_4 rfl (lv_at hl 0 rfl) ?_
  refine xnew (ci := 1) (fs := [.null, .int 0]) S hw rfl i_Fo t_Fo_ok k_20 k_21 k_2 (by intro j hj; rcases (show j = 0 ∨ j = 1 by omega) with rfl | rfl <;> rfl) (Nat.le_of_ble_eq_true rfl) (Nat.le_of_ble_eq_true rfl) d_Mi_init_5 (fun q1 H hw => ?_)
  have hw : gW G A s ([(h, .inr (2, [.null, .null, .null, .null, .int 0, .null, .null, .int 0, .null, .int 0, .long 0])), (q1, .inr (1, [.null, .int 0]))]) H locs := hw
  refine W.widen (k := 1) (n := 2) (Nat.le_of_ble_eq_true rfl) (Nat.le_of_ble_eq_true rfl) ?_
  refine lv_dup hx hb d_Mi_init_8 rfl ?_
  refine zINv S hw hl.1 hX k_23 k_2 k_24 rfl ⟨by decide +kernel, by decide +kernel, by decide +kernel⟩ (c_Fo_init l G q1) rfl ⟨rfl, rfl⟩ [1] [0] [0, 1, 2, 3] rfl rfl (by decide) (As := []) (rest := [.ref q1, .ref h]) rfl rfl rfl d_Mi_init_9 (fun u => [(h, .inr (2, [.null, .null, .null, .null, .int 0, .null, .null, .int 0, .null, .int 0, .long 0])), (q1, .inr (1, [.ref u.1, .int 0])), (u.1, .inr (0, [.ref u.2, .int 0])), aB G u.2 2048 (fun _ => 0)]) (fun _ => rfl) (fun u1 H locs hp hw => ?_)
  have hw : gW G A s ([(h, .inr (2, [.null, .null, .null, .null, .int 0, .null, .null, .int 0, .null, .int 0, .long 0])), (q1, .inr (1, [.ref u1.1, .int 0])), (u1.1, .inr (0, [.ref u1.2, .int 0])), aB G u1.2 2048 (fun _ => 0)]) H locs := hw
  refine W.widen (k := 3) (n := 2052) (Nat.le_of_ble_eq_true rfl) (Nat.le_of_ble_eq_true rfl) ?_
  obtain ⟨q2, q3⟩ := u1
  have hw : gW G A s ([(h, .inr (2, [.null, .null, .null, .null, .int 0, .null, .null, .int 0, .null, .int 0, .long 0])), (q1, .inr (1, [.ref q2, .int 0])), (q2, .inr (0, [.ref q3, .int 0])), aB G q3 2048 (fun _ => 0)]) H locs := hw
  refine xputF S hw hnm fl_Mi_10 rfl 0 rfl rfl rfl (Nat.le_of_ble_eq_true rfl) (ws' := [(h, .inr (2, [.ref q1, .null, .null, .null, .int 0, .null, .null, .int 0, .null, .int 0, .long 0])), (q1, .inr (1, [.ref q2, .int 0])), (q2, .inr (0, [.ref q3, .int 0])), aB G q3 2048 (fun _ => 0)]) rfl d_Mi_init_12 (fun H locs hw => ?_)
  refine lv_aload_n hx hb d_Mi_init_15 rfl (lv_at hl 0 rfl) ?_
  refine xnew (ci := 0) (fs := [.null, .int 0]) S hw rfl i_Ro t_Ro_ok k_52 k_27 k_3 (by intro j hj; rcases (show j = 0 ∨ j = 1 by omega) with rfl | rfl <;> rfl) (Nat.le_of_ble_eq_true rfl) (Nat.le_of_ble_eq_true rfl) d_Mi_init_16 (fun q4 H hw => ?_)
  have hw : gW G A s ([(h, .inr (2, [.ref q1, .null, .null, .null, .int 0, .null, .null, .int 0, .null, .int 0, .long 0])), (q1, .inr (1, [.ref q2, .int 0])), (q2, .inr (0, [.ref q3, .int 0])), aB G q3 2048 (fun _ => 0), (q4, .inr (0, [.null, .int 0]))]) H locs := hw
  refine W.widen (k := 4) (n := 2054) (Nat.le_of_ble_eq_true rfl) (Nat.le_of_ble_eq_true rfl) ?_
  refine lv_dup hx hb d_Mi_init_19 rfl ?_
  refine lv_sipush (v := 4096) hx hb d_Mi_init_20 (by decide) ?_
  refine zIv S hw hl.1 il_Mi_18 (c_Ro_init l G q4 4096 (by decide)) rfl ⟨rfl, rfl⟩ [4] [0, 1, 2, 3] [0, 1, 2, 3, 4, 5] rfl rfl (by decide) (As := [.int 4096]) (rest := [.ref q4, .ref h]) rfl rfl rfl d_Mi_init_23 (fun u => [(h, .inr (2, [.ref q1, .null, .null, .null, .int 0, .null, .null, .int 0, .null, .int 0, .long 0])), (q1, .inr (1, [.ref q2, .int 0])), (q2, .inr (0, [.ref q3, .int 0])), aB G q3 2048 (fun _ => 0), (q4, .inr (0, [.ref u, .int 0])), aB G u 4096 (fun _ => 0)]) (fun _ => rfl) (fun q5 H locs hp hw => ?_)
  have hw : gW G A s ([(h, .inr (2, [.ref q1, .null, .null, .null, .int 0, .null, .null, .int 0, .null, .int 0, .long 0])), (q1, .inr (1, [.ref q2, .int 0])), (q2, .inr (0, [.ref q3, .int 0])), aB G q3 2048 (fun _ => 0), (q4, .inr (0, [.ref q5, .int 0])), aB G q5 4096 (fun _ => 0)]) H locs := hw
  refine W.widen (k := 5) (n := 6150) (Nat.le_of_ble_eq_true rfl) (Nat.le_of_ble_eq_true rfl) ?_
  refine xputF S hw hnm fl_Mi_21 rfl 0 rfl rfl rfl (Nat.le_of_ble_eq_true rfl) (ws' := [(h, .inr (2, [.ref q1, .ref q4, .null, .null, .int 0, .null, .null, .int 0, .null, .int 0, .long 0])), (q1, .inr (1, [.ref q2, .int 0])), (q2, .inr (0, [.ref q3, .int 0])), aB G q3 2048 (fun _ => 0), (q4, .inr (0, [.ref q5, .int 0])), aB G q5 4096 (fun _ => 0)]) rfl d_Mi_init_26 (fun H locs hw => ?_)
  refine lv_aload_n hx hb d_Mi_init_29 rfl (lv_at hl 0 rfl) ?_
  refine xnew (ci := 0) (fs := [.null, .int 0]) S hw rfl i_Ro t_Ro_ok k_52 k_27 k_3 (by intro j hj; rcases (show j = 0 ∨ j = 1 by omega) with rfl | rfl <;> rfl) (Nat.le_of_ble_eq_true rfl) (Nat.le_of_ble_eq_true rfl) d_Mi_init_30 (fun q6 H hw => ?_)
  have hw : gW G A s ([(h, .inr (2, [.ref q1, .ref q4, .null, .null, .int 0, .null, .null, .int 0, .null, .int 0, .long 0])), (q1, .inr (1, [.ref q2, .int 0])), (q2, .inr (0, [.ref q3, .int 0])), aB G q3 2048 (fun _ => 0), (q4, .inr (0, [.ref q5, .int 0])), aB G q5 4096 (fun _ => 0), (q6, .inr (0, [.null, .int 0]))]) H locs := hw
  refine W.widen (k := 6) (n := 6152) (Nat.le_of_ble_eq_true rfl) (Nat.le_of_ble_eq_true rfl) ?_
  refine lv_dup hx hb d_Mi_init_33 rfl ?_
  refine lv_bipush (v := 64) hx hb d_Mi_init_34 (by decide) ?_
  refine zIv S hw hl.1 il_Mi_18 (c_Ro_init l G q6 64 (by decide)) rfl ⟨rfl, rfl⟩ [6] [0, 1, 2, 3, 4, 5] [0, 1, 2, 3, 4, 5, 6, 7] rfl rfl (by decide) (As := [.int 64]) (rest := [.ref q6, .ref h]) rfl rfl rfl d_Mi_init_36 (fun u => [(h, .inr (2, [.ref q1, .ref q4, .null, .null, .int 0, .null, .null, .int 0, .null, .int 0, .long 0])), (q1, .inr (1, [.ref q2, .int 0])), (q2, .inr (0, [.ref q3, .int 0])), aB G q3 2048 (fun _ => 0), (q4, .inr (0, [.ref q5, .int 0])), aB G q5 4096 (fun _ => 0), (q6, .inr (0, [.ref u, .int 0])), aB G u 64 (fun _ => 0)]) (fun _ => rfl) (fun q7 H locs hp hw => ?_)
  have hw : gW G A s ([(h, .inr (2, [.ref q1, .ref q4, .null, .null, .int 0, .null, .null, .int 0, .null, .int 0, .long 0])), (q1, .inr (1, [.ref q2, .int 0])), (q2, .inr (0, [.ref q3, .int 0])), aB G q3 2048 (fun _ => 0), (q4, .inr (0, [.ref q5, .int 0])), aB G q5 4096 (fun _ => 0), (q6, .inr (0, [.ref q7, .int 0])), aB G q7 64 (fun _ => 0)]) H locs := hw
  refine W.widen (k := 7) (n := 6216) (Nat.le_of_ble_eq_true rfl) (Nat.le_of_ble_eq_true rfl) ?_
  refine xputF S hw hnm fl_Mi_25 rfl 0 rfl rfl rfl (Nat.le_of_ble_eq_true rfl) (ws' := [(h, .inr (2, [.ref q1, .ref q4, .ref q6, .null, .int 0, .null, .null, .int 0, .null, .int 0, .long 0])), (q1, .inr (1, [.ref q2, .int 0])), (q2, .inr (0, [.ref q3, .int 0])), aB G q3 2048 (fun _ => 0), (q4, .inr (0, [.ref q5, .int 0])), aB G q5 4096 (fun _ => 0), (q6, .inr (0, [.ref q7, .int 0])), aB G q7 64 (fun _ => 0)]) rfl d_Mi_init_39 (fun H locs hw => ?_)
  refine lv_aload_n hx hb d_Mi_init_42 rfl (lv_at hl 0 rfl) ?_
  refine lv_sipush (v := 400) hx hb d_Mi_init_43 (by decide) ?_
  refine tpi (y := nI 400) rfl ?_
  refine xnewB S hw (n := 400) (by omega) (Nat.le_of_ble_eq_true rfl) (Nat.le_of_ble_eq_true rfl) d_Mi_init_46 (fun q8 H hw => ?_)
  have hw : gW G A s ([(h, .inr (2, [.ref q1, .ref q4, .ref q6, .null, .int 0, .null, .null, .int 0, .null, .int 0, .long 0])), (q1, .inr (1, [.ref q2, .int 0])), (q2, .inr (0, [.ref q3, .int 0])), aB G q3 2048 (fun _ => 0), (q4, .inr (0, [.ref q5, .int 0])), aB G q5 4096 (fun _ => 0), (q6, .inr (0, [.ref q7, .int 0])), aB G q7 64 (fun _ => 0), aB G q8 400 (fun _ => 0)]) H locs := hw
  refine W.widen (k := 8) (n := 6616) (Nat.le_of_ble_eq_true rfl) (Nat.le_of_ble_eq_true rfl) ?_
  refine xputF S hw hnm fl_Mi_28 rfl 0 rfl rfl rfl (Nat.le_of_ble_eq_true rfl) (ws' := [(h, .inr (2, [.ref q1, .ref q4, .ref q6, .ref q8, .int 0, .null, .null, .int 0, .null, .int 0, .long 0])), (q1, .inr (1, [.ref q2, .int 0])), (q2, .inr (0, [.ref q3, .int 0])), aB G q3 2048 (fun _ => 0), (q4, .inr (0, [.ref q5, .int 0])), aB G q5 4096 (fun _ => 0), (q6, .inr (0, [.ref q7, .int 0])), aB G q7 64 (fun _ => 0), aB G q8 400 (fun _ => 0)]) rfl d_Mi_init_48 (fun H locs hw => ?_)
  refine lv_aload_n hx hb d_Mi_init_51 rfl (lv_at hl 0 rfl) ?_
  refine lv_sipush (v := 800) hx hb d_Mi_init_52 (by decide) ?_
  refine tpi (y := nI 800) rfl ?_
  refine xnewB S hw (n := 800) (by omega) (Nat.le_of_ble_eq_true rfl) (Nat.le_of_ble_eq_true rfl) d_Mi_init_55 (fun q9 H hw => ?_)
  have hw : gW G A s ([(h, .inr (2, [.ref q1, .ref q4, .ref q6, .ref q8, .int 0, .null, .null, .int 0, .null, .int 0, .long 0])), (q1, .inr (1, [.ref q2, .int 0])), (q2, .inr (0, [.ref q3, .int 0])), aB G q3 2048 (fun _ => 0), (q4, .inr (0, [.ref q5, .int 0])), aB G q5 4096 (fun _ => 0), (q6, .inr (0, [.ref q7, .int 0])), aB G q7 64 (fun _ => 0), aB G q8 400 (fun _ => 0), aB G q9 800 (fun _ => 0)]) H locs := hw
  refine W.widen (k := 9) (n := 7416) (Nat.le_of_ble_eq_true rfl) (Nat.le_of_ble_eq_true rfl) ?_
  refine xputF S hw hnm fl_Mi_32 rfl 0 rfl rfl rfl (Nat.le_of_ble_eq_true rfl) (ws' := [(h, .inr (2, [.ref q1, .ref q4, .ref q6, .ref q8, .int 0, .ref q9, .null, .int 0, .null, .int 0, .long 0])), (q1, .inr (1, [.ref q2, .int 0])), (q2, .inr (0, [.ref q3, .int 0])), aB G q3 2048 (fun _ => 0), (q4, .inr (0, [.ref q5, .int 0])), aB G q5 4096 (fun _ => 0), (q6, .inr (0, [.ref q7, .int 0])), aB G q7 64 (fun _ => 0), aB G q8 400 (fun _ => 0), aB G q9 800 (fun _ => 0)]) rfl d_Mi_init_57 (fun H locs hw => ?_)
  refine lv_aload_n hx hb d_Mi_init_60 rfl (lv_at hl 0 rfl) ?_
  refine lv_bipush (v := 20) hx hb d_Mi_init_61 (by decide) ?_
  refine tpi (y := nI 20) rfl ?_
  refine xnewI S hw (n := 20) (by omega) (Nat.le_of_ble_eq_true rfl) (Nat.le_of_ble_eq_true rfl) d_Mi_init_63 (fun q10 H hw => ?_)
  have hw : gW G A s ([(h, .inr (2, [.ref q1, .ref q4, .ref q6, .ref q8, .int 0, .ref q9, .null, .int 0, .null, .int 0, .long 0])), (q1, .inr (1, [.ref q2, .int 0])), (q2, .inr (0, [.ref q3, .int 0])), aB G q3 2048 (fun _ => 0), (q4, .inr (0, [.ref q5, .int 0])), aB G q5 4096 (fun _ => 0), (q6, .inr (0, [.ref q7, .int 0])), aB G q7 64 (fun _ => 0), aB G q8 400 (fun _ => 0), aB G q9 800 (fun _ => 0), aI G q10 20 (fun _ => 0)]) H locs := hw
  refine W.widen (k := 10) (n := 7436) (Nat.le_of_ble_eq_true rfl) (Nat.le_of_ble_eq_true rfl) ?_
  refine xputF S hw hnm fl_Mi_35 rfl 0 rfl rfl rfl (Nat.le_of_ble_eq_true rfl) (ws' := [(h, .inr (2, [.ref q1, .ref q4, .ref q6, .ref q8, .int 0, .ref q9, .ref q10, .int 0, .null, .int 0, .long 0])), (q1, .inr (1, [.ref q2, .int 0])), (q2, .inr (0, [.ref q3, .int 0])), aB G q3 2048 (fun _ => 0), (q4, .inr (0, [.ref q5, .int 0])), aB G q5 4096 (fun _ => 0), (q6, .inr (0, [.ref q7, .int 0])), aB G q7 64 (fun _ => 0), aB G q8 400 (fun _ => 0), aB G q9 800 (fun _ => 0), aI G q10 20 (fun _ => 0)]) rfl d_Mi_init_65 (fun H locs hw => ?_)
  refine lv_aload_n hx hb d_Mi_init_68 rfl (lv_at hl 0 rfl) ?_
  refine lv_sipush (v := 400) hx hb d_Mi_init_69 (by decide) ?_
  refine tpi (y := nI 400) rfl ?_
  refine xnewB S hw (n := 400) (by omega) (Nat.le_of_ble_eq_true rfl) (Nat.le_of_ble_eq_true rfl) d_Mi_init_72 (fun q11 H hw => ?_)
  have hw : gW G A s ([(h, .inr (2, [.ref q1, .ref q4, .ref q6, .ref q8, .int 0, .ref q9, .ref q10, .int 0, .null, .int 0, .long 0])), (q1, .inr (1, [.ref q2, .int 0])), (q2, .inr (0, [.ref q3, .int 0])), aB G q3 2048 (fun _ => 0), (q4, .inr (0, [.ref q5, .int 0])), aB G q5 4096 (fun _ => 0), (q6, .inr (0, [.ref q7, .int 0])), aB G q7 64 (fun _ => 0), aB G q8 400 (fun _ => 0), aB G q9 800 (fun _ => 0), aI G q10 20 (fun _ => 0), aB G q11 400 (fun _ => 0)]) H locs := hw
  refine W.widen (k := 11) (n := 7836) (Nat.le_of_ble_eq_true rfl) (Nat.le_of_ble_eq_true rfl) ?_
  refine xputF S hw hnm fl_Mi_39 rfl 0 rfl rfl rfl (Nat.le_of_ble_eq_true rfl) (ws' := [(h, .inr (2, [.ref q1, .ref q4, .ref q6, .ref q8, .int 0, .ref q9, .ref q10, .int 0, .ref q11, .int 0, .long 0])), (q1, .inr (1, [.ref q2, .int 0])), (q2, .inr (0, [.ref q3, .int 0])), aB G q3 2048 (fun _ => 0), (q4, .inr (0, [.ref q5, .int 0])), aB G q5 4096 (fun _ => 0), (q6, .inr (0, [.ref q7, .int 0])), aB G q7 64 (fun _ => 0), aB G q8 400 (fun _ => 0), aB G q9 800 (fun _ => 0), aI G q10 20 (fun _ => 0), aB G q11 400 (fun _ => 0)]) rfl d_Mi_init_74 (fun H locs hw => ?_)
  exact kret _ _ _ _ (fun k => [h, q1, q2, q3, q4, q5, q6, q7, q8, q9, q10, q11].getD k 0) hw rfl d_Mi_init_77
set_option maxHeartbeats 4000000 in
set_option maxRecDepth 100000 in
theorem c_Md_init (l : Launch) (G : gG) (h : Nat) : MetV (σ := (Nat → Nat)) l y_Md_init (Cond.code y_Md_init b_Md_init 1 none) (rmC 2 6 2716 80) 6 2716 G [.ref h] ([(h, .inr (3, [.null, .null, .null, .null, .int 0, .int 0, .int 0, .int 0, .int 0, .null, .int 0, .int 0, .int 0, .int 0, .int 0, .int 0, .int 0, .null, .int 0, .long 0]))]) X0 (fun u => u 0 = h) (fun u => wMd G u (fun _ => 0) (fun _ => 0) (fun _ => 0) (fun _ => 0) (fun _ => 0) (fun _ => 0) 0 0 0 0 0 0 0 0 0 0 0 0 0 0) := by
  refine MetV.mk2 (by decide) (Nat.le_of_ble_eq_true rfl) ?_
  intro p e s m args below meth c A ls Q S hw hX hl hnm kret
  have hx := S.1
  have hb := S.2.1
  have hl : lv_has ls 1 [(0, .ref h)] := hl
  generalize hH0 : s.heap = H at hw ⊢
  generalize hL0 : ([] : List Loc) = locs at hw ⊢
  refine lv_aload_n hx hb d_Md_init_0 rfl (lv_at hl 0 rfl) ?_
  refine xobj S hl.1 k_275 d_Md_init_1 (Nat.le_of_ble_eq_true rfl) (Nat.le_of_ble_eq_true rfl) ?_
  refine lv_aload_n hx hb d_Md_init_4 rfl (lv_at hl 0 rfl) ?_
  refine lv_sipush (v := 400) hx hb d_Md_init_5 (by decide) ?_
  refine tpi (y := nI 400) rfl ?_
  refine xnewB S hw (n := 400) (by omega) (Nat.le_of_ble_eq_true rfl) (Nat.le_of_ble_eq_true rfl) d_Md_init_8 (fun q1 H hw => ?_)
  have hw : gW G A s ([(h, .inr (3, [.null, .null, .null, .null, .int 0, .int 0, .int 0, .int 0, .int 0, .null, .int 0, .int 0, .int 0, .int 0, .int 0, .int 0, .int 0, .null, .int 0, .long 0])), aB G q1 400 (fun _ => 0)]) H locs := hw
  refine W.widen (k := 1) (n := 400) (Nat.le_of_ble_eq_true rfl) (Nat.le_of_ble_eq_true rfl) ?_
  refine xputF S hw hnm fl_Md_7 rfl 0 rfl rfl rfl (Nat.le_of_ble_eq_true rfl) (ws' := [(h, .inr (3, [.ref q1, .null, .null, .null, .int 0, .int 0, .int 0, .int 0, .int 0, .null, .int 0, .int 0, .int 0, .int 0, .int 0, .int 0, .int 0, .null, .int 0, .long 0])), aB G q1 400 (fun _ => 0)]) rfl d_Md_init_10 (fun H locs hw => ?_)
  refine lv_aload_n hx hb d_Md_init_13 rfl (lv_at hl 0 rfl) ?_
  refine lv_sipush (v := 400) hx hb d_Md_init_14 (by decide) ?_
  refine tpi (y := nI 400) rfl ?_
  refine xnewB S hw (n := 400) (by omega) (Nat.le_of_ble_eq_true rfl) (Nat.le_of_ble_eq_true rfl) d_Md_init_17 (fun q2 H hw => ?_)
  have hw : gW G A s ([(h, .inr (3, [.ref q1, .null, .null, .null, .int 0, .int 0, .int 0, .int 0, .int 0, .null, .int 0, .int 0, .int 0, .int 0, .int 0, .int 0, .int 0, .null, .int 0, .long 0])), aB G q1 400 (fun _ => 0), aB G q2 400 (fun _ => 0)]) H locs := hw
  refine W.widen (k := 2) (n := 800) (Nat.le_of_ble_eq_true rfl) (Nat.le_of_ble_eq_true rfl) ?_
  refine xputF S hw hnm fl_Md_13 rfl 0 rfl rfl rfl (Nat.le_of_ble_eq_true rfl) (ws' := [(h, .inr (3, [.ref q1, .ref q2, .null, .null, .int 0, .int 0, .int 0, .int 0, .int 0, .null, .int 0, .int 0, .int 0, .int 0, .int 0, .int 0, .int 0, .null, .int 0, .long 0])), aB G q1 400 (fun _ => 0), aB G q2 400 (fun _ => 0)]) rfl d_Md_init_19 (fun H locs hw => ?_)
  refine lv_aload_n hx hb d_Md_init_22 rfl (lv_at hl 0 rfl) ?_
  refine lv_sipush (v := 800) hx hb d_Md_init_23 (by decide) ?_
  refine tpi (y := nI 800) rfl ?_
  refine xnewB S hw (n := 800) (by omega) (Nat.le_of_ble_eq_true rfl) (Nat.le_of_ble_eq_true rfl) d_Md_init_26 (fun q3 H hw => ?_)
  have hw : gW G A s ([(h, .inr (3, [.ref q1, .ref q2, .null, .null, .int 0, .int 0, .int 0, .int 0, .int 0, .null, .int 0, .int 0, .int 0, .int 0, .int 0, .int 0, .int 0, .null, .int 0, .long 0])), aB G q1 400 (fun _ => 0), aB G q2 400 (fun _ => 0), aB G q3 800 (fun _ => 0)]) H locs := hw
  refine W.widen (k := 3) (n := 1600) (Nat.le_of_ble_eq_true rfl) (Nat.le_of_ble_eq_true rfl) ?_
  refine xputF S hw hnm fl_Md_16 rfl 0 rfl rfl rfl (Nat.le_of_ble_eq_true rfl) (ws' := [(h, .inr (3, [.ref q1, .ref q2, .ref q3, .null, .int 0, .int 0, .int 0, .int 0, .int 0, .null, .int 0, .int 0, .int 0, .int 0, .int 0, .int 0, .int 0, .null, .int 0, .long 0])), aB G q1 400 (fun _ => 0), aB G q2 400 (fun _ => 0), aB G q3 800 (fun _ => 0)]) rfl d_Md_init_28 (fun H locs hw => ?_)
  refine lv_aload_n hx hb d_Md_init_31 rfl (lv_at hl 0 rfl) ?_
  refine lv_sipush (v := 1024) hx hb d_Md_init_32 (by decide) ?_
  refine tpi (y := nI 1024) rfl ?_
  refine xnewB S hw (n := 1024) (by omega) (Nat.le_of_ble_eq_true rfl) (Nat.le_of_ble_eq_true rfl) d_Md_init_35 (fun q4 H hw => ?_)
  have hw : gW G A s ([(h, .inr (3, [.ref q1, .ref q2, .ref q3, .null, .int 0, .int 0, .int 0, .int 0, .int 0, .null, .int 0, .int 0, .int 0, .int 0, .int 0, .int 0, .int 0, .null, .int 0, .long 0])), aB G q1 400 (fun _ => 0), aB G q2 400 (fun _ => 0), aB G q3 800 (fun _ => 0), aB G q4 1024 (fun _ => 0)]) H locs := hw
  refine W.widen (k := 4) (n := 2624) (Nat.le_of_ble_eq_true rfl) (Nat.le_of_ble_eq_true rfl) ?_
  refine xputF S hw hnm fl_Md_19 rfl 0 rfl rfl rfl (Nat.le_of_ble_eq_true rfl) (ws' := [(h, .inr (3, [.ref q1, .ref q2, .ref q3, .ref q4, .int 0, .int 0, .int 0, .int 0, .int 0, .null, .int 0, .int 0, .int 0, .int 0, .int 0, .int 0, .int 0, .null, .int 0, .long 0])), aB G q1 400 (fun _ => 0), aB G q2 400 (fun _ => 0), aB G q3 800 (fun _ => 0), aB G q4 1024 (fun _ => 0)]) rfl d_Md_init_37 (fun H locs hw => ?_)
  refine lv_aload_n hx hb d_Md_init_40 rfl (lv_at hl 0 rfl) ?_
  refine lv_bipush (v := 20) hx hb d_Md_init_41 (by decide) ?_
  refine tpi (y := nI 20) rfl ?_
  refine xnewI S hw (n := 20) (by omega) (Nat.le_of_ble_eq_true rfl) (Nat.le_of_ble_eq_true rfl) d_Md_init_43 (fun q5 H hw => ?_)
  have hw : gW G A s ([(h, .inr (3, [.ref q1, .ref q2, .ref q3, .ref q4, .int 0, .int 0, .int 0, .int 0, .int 0, .null, .int 0, .int 0, .int 0, .int 0, .int 0, .int 0, .int 0, .null, .int 0, .long 0])), aB G q1 400 (fun _ => 0), aB G q2 400 (fun _ => 0), aB G q3 800 (fun _ => 0), aB G q4 1024 (fun _ => 0), aI G q5 20 (fun _ => 0)]) H locs := hw
  refine W.widen (k := 5) (n := 2644) (Nat.le_of_ble_eq_true rfl) (Nat.le_of_ble_eq_true rfl) ?_
  refine xputF S hw hnm fl_Md_22 rfl 0 rfl rfl rfl (Nat.le_of_ble_eq_true rfl) (ws' := [(h, .inr (3, [.ref q1, .ref q2, .ref q3, .ref q4, .int 0, .int 0, .int 0, .int 0, .int 0, .ref q5, .int 0, .int 0, .int 0, .int 0, .int 0, .int 0, .int 0, .null, .int 0, .long 0])), aB G q1 400 (fun _ => 0), aB G q2 400 (fun _ => 0), aB G q3 800 (fun _ => 0), aB G q4 1024 (fun _ => 0), aI G q5 20 (fun _ => 0)]) rfl d_Md_init_45 (fun H locs hw => ?_)
  refine lv_aload_n hx hb d_Md_init_48 rfl (lv_at hl 0 rfl) ?_
  refine lv_bipush (v := 72) hx hb d_Md_init_49 (by decide) ?_
  refine tpi (y := nI 72) rfl ?_
  refine xnewB S hw (n := 72) (by omega) (Nat.le_of_ble_eq_true rfl) (Nat.le_of_ble_eq_true rfl) d_Md_init_51 (fun q6 H hw => ?_)
  have hw : gW G A s ([(h, .inr (3, [.ref q1, .ref q2, .ref q3, .ref q4, .int 0, .int 0, .int 0, .int 0, .int 0, .ref q5, .int 0, .int 0, .int 0, .int 0, .int 0, .int 0, .int 0, .null, .int 0, .long 0])), aB G q1 400 (fun _ => 0), aB G q2 400 (fun _ => 0), aB G q3 800 (fun _ => 0), aB G q4 1024 (fun _ => 0), aI G q5 20 (fun _ => 0), aB G q6 72 (fun _ => 0)]) H locs := hw
  refine W.widen (k := 6) (n := 2716) (Nat.le_of_ble_eq_true rfl) (Nat.le_of_ble_eq_true rfl) ?_
  refine xputF S hw hnm fl_Md_26 rfl 0 rfl rfl rfl (Nat.le_of_ble_eq_true rfl) (ws' := [(h, .inr (3, [.ref q1, .ref q2, .ref q3, .ref q4, .int 0, .int 0, .int 0, .int 0, .int 0, .ref q5, .int 0, .int 0, .int 0, .int 0, .int 0, .int 0, .int 0, .ref q6, .int 0, .long 0])), aB G q1 400 (fun _ => 0), aB G q2 400 (fun _ => 0), aB G q3 800 (fun _ => 0), aB G q4 1024 (fun _ => 0), aI G q5 20 (fun _ => 0), aB G q6 72 (fun _ => 0)]) rfl d_Md_init_53 (fun H locs hw => ?_)
  exact kret _ _ _ _ (fun k => [h, q1, q2, q3, q4, q5, q6].getD k 0) hw rfl d_Md_init_56
end
section
/-! ===== plain words for the law ===== -/
def lInv (ff of hf fm wd sz tp ou : Nat → Int32) (N n M T : Nat) : Prop := T ≤ 400 ∧ n ≤ 400 ∧ M ≤ 20 ∧ N ≤ 1024 ∧ By tp ∧ By fm ∧ By wd ∧ By ff ∧ By hf ∧ (∀ q, q < M → ∃ a, a ≤ 40 ∧ sz q = nI a) ∧ (∀ j, j < N → of j = ou j)
theorem mkP_agree {R : Int32 ⊕ List Int32} {r1 r2 : Int32} {N1 N2 : Nat} {f1 f2 : Nat → Int32} (h1 : mkP R r1 N1 f1) (h2 : mkP R r2 N2 f2) : r1 = r2 ∧ N1 = N2 ∧ N1 ≤ 1024 ∧ ∀ j, j < N1 → f1 j = f2 j := by
  cases R with
  | inl e =>
    obtain ⟨a1, a2⟩ := h1
    obtain ⟨b1, b2⟩ := h2
    exact ⟨a1.trans b1.symm, a2.trans b2.symm, by omega, fun j hj => by omega⟩
  | inr o =>
    obtain ⟨a1, a2, a3, a4⟩ := h1
    obtain ⟨b1, b2, b3, b4⟩ := h2
    exact ⟨a1.trans b1.symm, a2.trans b2.symm, by omega, fun j hj => (a4 j (by omega)).trans (b4 j (by omega)).symm⟩
section LI
variable {ff of hf fm wd sz tp ou : Nat → Int32} {N n M T : Nat}
theorem lInv_feed (x1 x2 x3 x4 x5 : Int32) (h : lInv ff of hf fm wd sz tp ou N n M T) : lInv ff of hf fm wd sz (if T + 20 ≤ 400 then wr tp T (sg (fdAt x1 x2 x3 x4 x5) 0 20) else tp) ou N n M (if T + 20 ≤ 400 then T + 20 else T) := by
  obtain ⟨a1, a2, a3, a4, a5, a6⟩ := h
  refine ⟨by split <;> omega, a2, a3, a4, ?_, a6⟩
  split
  · exact By_wr a5 (sg_mem (fdAt_b8 x1 x2 x3 x4 x5))
  · exact a5
theorem endL_le (x : Int32) (T : Nat) (hT : T ≤ 400) : endL x T ≤ T := by
  unfold endL
  split
  · rename_i h
    unfold endR at h
    rw [Bool.and_eq_true, decide_eq_true_eq, decide_eq_true_eq] at h
    have h2 := nI_x h.1
    have h3 := h.2
    rw [h2.1] at h3
    exact (nI_leI h2.2 (by omega)).mp h3
  · exact Nat.le_refl _
theorem lInv_end (x : Int32) (h : lInv ff of hf fm wd sz tp ou N n M T) : lInv ff of hf fm wd sz tp ou N n M (endL x T) := by
  obtain ⟨a1, a2⟩ := h
  exact ⟨Nat.le_trans (endL_le x T a1) a1, a2⟩
theorem lInv_format (h : lInv ff of hf fm wd sz tp ou N n M T) : lInv ff of hf (wr fm 0 (sg tp 0 T)) wd sz tp ou N T M 0 := by
  obtain ⟨a1, a2, a3, a4, a5, a6, a7⟩ := h
  exact ⟨by omega, a1, a3, a4, a5, By_wr a6 (sg_mem a5), a7⟩
theorem lInv_add (k : Nat) (lt : List Int32) (hlt : ∀ x ∈ lt, b8 x = x) (h : lInv ff of hf fm wd sz tp ou N n M T) (ok : Bool) (hok : ok = true → M ≠ 20 ∧ k ≤ 40) : lInv ff of hf fm (if ok then wr wd (40 * M) lt else wd) (if ok then upd sz M (nI k) else sz) tp ou N n (if ok then M + 1 else M) T := by
  obtain ⟨a1, a2, a3, a4, a5, a6, a7, a8, a9, a10, a11⟩ := h
  cases ok with
  | false => exact ⟨a1, a2, a3, a4, a5, a6, a7, a8, a9, a10, a11⟩
  | true =>
    obtain ⟨h1, h2⟩ := hok rfl
    refine ⟨a1, a2, ?_, a4, a5, a6, By_wr a7 hlt, a8, a9, ?_, a11⟩
    · show M + 1 ≤ 20; omega
    · intro q hq
      have hq : q < M + 1 := hq
      show ∃ a, a ≤ 40 ∧ upd sz M (nI k) q = nI a
      by_cases hqM : q = M
      · subst hqM
        exact ⟨k, h2, pk_us⟩
      · rw [pk_un hqM]
        exact a10 q (by omega)
theorem lInv_T (h : lInv ff of hf fm wd sz tp ou N n M T) : lInv ff of hf fm wd sz tp ou N n M 0 := ⟨by omega, h.2⟩
theorem lInv_hf {hf' : Nat → Int32} (hb : By hf') (h : lInv ff of hf fm wd sz tp ou N n M T) : lInv ff of hf' fm wd sz tp ou N n M T := by
  obtain ⟨a1, a2, a3, a4, a5, a6, a7, a8, a9, a10, a11⟩ := h
  exact ⟨a1, a2, a3, a4, a5, a6, a7, a8, hb, a10, a11⟩
theorem lInv_clear (h : lInv ff of hf fm wd sz tp ou N n M T) : lInv ff of hf fm wd sz tp ou N n 0 T := by
  obtain ⟨a1, a2, a3, a4, a5, a6, a7, a8, a9, a10, a11⟩ := h
  exact ⟨a1, a2, by omega, a4, a5, a6, a7, a8, a9, fun q hq => by omega, a11⟩
theorem lInv_make {ff' of' ou' : Nat → Int32} {N' : Nat} (hb : By ff') (hN : N' ≤ 1024) (ha : ∀ j, j < N' → of' j = ou' j) (h : lInv ff of hf fm wd sz tp ou N n M T) : lInv ff' of' hf fm wd sz tp ou' N' n M T := by
  obtain ⟨a1, a2, a3, a4, a5, a6, a7, a8, a9, a10, a11⟩ := h
  exact ⟨a1, a2, a3, hN, a5, a6, a7, hb, a9, a10, ha⟩
theorem madeR_eq (x : Int32) (h : lInv ff of hf fm wd sz tp ou N n M T) : madeR of N x = madeR ou N x := by
  obtain ⟨a1, a2, a3, a4, a5, a6, a7, a8, a9, a10, a11⟩ := h
  unfold madeR
  split
  · rename_i q
    have h2 := nI_x q.1
    have h3 := q.2
    rw [h2.1] at h3
    rw [a11 _ ((nI_ltI h2.2 (by omega)).mp h3)]
  · rfl
theorem adOk_t {k : Nat} (h : adOk M k = true) : M ≠ 20 ∧ k ≤ 40 := by
  unfold adOk at h
  simpa using h
end LI
theorem lim_iff {i L : Nat} (hi : i ≤ 1000) (hL : L ≤ 384) : nI L - 6 < nI i ↔ L < i + 6 := by
  rw [Int32.lt_iff_toInt_lt, show (6 : Int32) = nI 6 from rfl, pk_sub_toInt (by omega) (by decide), nI_toInt (by omega)]
  omega
section XS
variable {p : Program} {l : Launch} {e : Env} {R : Room} {s : State} {m : MethodId} {args : Array Value} {below : List Frame} {meth : Method} {c : Code} {H : Heap} {locs : List Loc} {cells slots : Nat} {Q : State → Prop}
variable {cc : ByteArray} {pc nL : Nat} {ls : Array Slot} {rest : List Value} {own : String} {G : gG} {ws : va_W}
theorem xsld (S : CallFix p m c cc nL s args gt own) (hw : gW G (fun q => s.heap.size ≤ q) s ws H locs) {b L : Nat} {xs : Nat → Int32} (hX : va_X b L xs s s.heap) (hbl : b < s.heap.size) {j : Nat} (hj : j < L) (hL : L ≤ 384) (hdg : decode cc pc = .ok (.iaload, 1))
    (kk : W p l e R s m args below meth c H locs cells slots Q (F0 m (pc + 1) ls (.int (xs j) :: rest))) : W p l e R s m args below meth c H locs cells slots Q (F0 m pc ls (.int (nI j) :: .ref b :: rest)) :=
  va_sld S.1 S.2.1 hX hbl (Nat.not_le.mpr hbl) hw.2.2.2.1 (vp_in_nI hj (by omega)) hdg (by rw [nI_clamp (by omega)]; exact kk)
theorem xslen (S : CallFix p m c cc nL s args gt own) (hw : gW G (fun q => s.heap.size ≤ q) s ws H locs) {b L : Nat} {xs : Nat → Int32} (hX : va_X b L xs s s.heap) (hbl : b < s.heap.size) (hdg : decode cc pc = .ok (.arraylength, 1))
    (kk : W p l e R s m args below meth c H locs cells slots Q (F0 m (pc + 1) ls (.int (nI L) :: rest))) : W p l e R s m args below meth c H locs cells slots Q (F0 m pc ls (.ref b :: rest)) :=
  va_slen S.1 S.2.1 hX hbl (Nat.not_le.mpr hbl) hw.2.2.2.1 hdg kk
end XS
end
section
/-! THE CLAIM OUT OF ONE WALK OF THE LAW'S BODY. Your part is whole_start (and what it stands on); all else here is the same for every law, but numbers. -/
def R_law : String := "FormatMillLaw"
def lw_P (b : Addr) (xs : List Int32) (args : Array Value) (s : State) : Prop := args = #[.ref b] ∧ s.IntsAt b xs ∧ xs.length ≤ 384 ∧ (Jvm.Cond.and given_1 narrow_1).before args s = true
def lw_Q (_ : Array Value) (s : State) (o : Outcome) (t : State) : Prop := o = .returned (some (.int 1)) ∧ Framed s o t [] 600000 7302250
def lw_Z (below : List Frame) (a : Array Value) (s : State) : State → Prop := fun t => ∃ o, t.status = .running ∧ Ended t below o ∧ lw_Q a s o t
/-- the law's own end, with 1 on the stack, nothing written that was there before, its room as the claim has it -/
theorem lw_ret {p : Program} {l : Launch} {e : Env} {s : State} {m : MethodId} {below : List Frame} {meth : Method} {c : Code} {b : Nat} (hx : p.tables.exec = Jvm.exec) (hb : c.code = code) (hr : meth.sig.returnType = ret) (hlocks : meth.locks = false) {pc : Nat} {H : Heap} {ls : Array Slot} (hdg : decode code pc = .ok (.ireturn, 1)) : W p l e room_1 s m #[Value.ref b] below meth c H [] 600000 7302250 (lw_Z below #[Value.ref b] s) (F0 m pc ls [.int 1]) := by
  intro T hT X
  obtain ⟨fs, hret, hrun, hended, hW, hframe⟩ := X.leave (v := some (.int 1)) (hlocks := hlocks) (fun h => by rw [hr] at h; cases h)
  have hmeth' : T.vm.method? m = some meth := X.method'
  refine ⟨T.setFrames fs, ?_, .returned (some (.int 1)), hrun, hended, rfl, ⟨_, rfl⟩, hW, hframe⟩
  jvm_step X.here [X.here.top, hx, hb, hdg, hmeth', hr, ret, narrow_b1]
  (try refine ⟨rfl, ?_⟩); (try refine ⟨rfl, ?_⟩)
  first | (intro acts; rw [hret _ acts rfl rfl rfl]) | rw [hret _ _ rfl rfl rfl]
  exact Steps.refl _
/-- what holds at the law's entry: the machine, the code, the tables' words (any of lw_tbl by 'hts w (by decide +kernel)'), the script of L ints xs at the cell b, what the Statement gives of the start (any of its parts by flat_of_before) -/
def lw_At (p : Program) (s : State) (m : MethodId) (meth : Method) (c : Code) (b L : Nat) (xs : Nat → Int32) : Prop :=
  p.tables.exec = Jvm.exec ∧ c.code = code ∧ meth.sig.returnType = ret ∧ c.maxLocals = 4 ∧ s.vm.findClass R_law = some m.cls ∧ (∀ w ∈ lw_tbl, w.before #[Value.ref b] s = true) ∧ va_X b L xs s s.heap ∧ b < s.heap.size ∧ meth.locks = false ∧ (Jvm.Cond.and given_1 narrow_1).before #[Value.ref b] s = true
end
section
set_option maxHeartbeats 16000000 in
set_option maxRecDepth 100000 in
/-- THE LAW'S LOOP -/
theorem law_loop {p : Program} {l : Launch} {e : Env} {s : State} {m : MethodId} {below : List Frame} {meth : Method} {c : Code} {b L : Nat} {xs : Nat → Int32} (hL : L ≤ 384) (C0 : lw_At p s m meth c b L xs) (G : gG) (adK adV : Nat → Nat) (hXs : Xs adK adV (fun q => s.heap.size ≤ q) s) :
    ∀ (fu i : Nat) (a1 : Nat → Nat) (a2 : Nat → Nat) (sn : Int32) (fn : Int32) (ff : Nat → Int32) (of : Nat → Int32) (hn : Int32) (hf : Nat → Int32) (fm : Nat → Int32) (wd : Nat → Int32) (sz : Nat → Int32) (tp : Nat → Int32) (vl : Int64) (ou : Nat → Int32) (pi : Nat → Int32) (os : Int32) (at' : Int32) (wi : Int32) (ki : Int32) (le : Int32) (ze : Int32) (pl : Int32) (bl : Int32) (fr : Int32) (vm : Int64) (N : Nat) (n : Nat) (M : Nat) (T : Nat), L + 6 ≤ i + 6 * fu → i ≤ 384 → lInv ff of hf fm wd sz tp ou N n M T → ∀ (H : Heap) (locs : List Loc) (ls : Array Slot), gW G (fun q => s.heap.size ≤ q) s (wMi G a1 sn fn ff (nI N) of hn hf fm (nI n) wd sz (nI M) tp (nI T) vl ++ wMd G a2 tp fm wd ou sz pi (nI T) (nI n) (nI M) (nI N) os at' wi ki le ze pl bl fr vm) H locs → lv_has ls 4 [(3, .int (nI i)), (2, .ref (a2 0)), (1, .ref (a1 0)), (0, .ref b)] → W p l e room_1 s m #[Value.ref b] below meth c H locs 19 10583 (lw_Z below #[Value.ref b] s) (F0 m 18 ls []) := by
  obtain ⟨hx, hb, hr, hml, hown, hts, hXv, hbl, hlocks, hgv⟩ := C0
  have S : CallFix p m c b_La_law 4 s #[Value.ref b] gt R_La := ⟨hx, hb, hml, hown, fun w hw => hts w (gt_tbl hw)⟩
  intro fu
  induction fu with
  | zero =>
    intro i a1 a2 sn fn ff of hn hf fm wd sz tp vl ou pi os at' wi ki le ze pl bl fr vm N n M T hfu hi hI H locs ls hw hl
    refine lv_iload_n hx hb d_La_law_18 rfl (lv_at hl 0 rfl) ?_
    refine lv_aload_n hx hb d_La_law_19 rfl (lv_at hl 3 rfl) ?_
    refine xslen S hw hXv hbl d_La_law_20 ?_
    refine lv_bipush (v := 6) hx hb d_La_law_21 (by decide) ?_
    refine lv_isub hx hb d_La_law_23 ?_
    refine lv_icmp_gt (tgt := 298) hx hb d_La_law_24 (by decide) (fun _ => ?_) (fun q_ => absurd ((lim_iff (by omega) hL).mpr (by omega)) q_)
    refine lv_iconst (v := 1) hx hb d_La_law_298 (by decide) ?_
    refine va_forget (fun q hq => hw.2.2.2.1.2.2 q hq) ?_
    refine W.widen (k := 600000) (n := 7302250) (by decide) (by decide) ?_
    exact lw_ret hx hb hr hlocks d_La_law_299
  | succ fu ih =>
    intro i a1 a2 sn fn ff of hn hf fm wd sz tp vl ou pi os at' wi ki le ze pl bl fr vm N n M T hfu hi hI H locs ls hw hl
    have hI2 := hI
    obtain ⟨h1, h2, h3, h4, h5, h6, h7, h8, h9, h10, h11⟩ := hI2
    refine lv_iload_n hx hb d_La_law_18 rfl (lv_at hl 0 rfl) ?_
    refine lv_aload_n hx hb d_La_law_19 rfl (lv_at hl 3 rfl) ?_
    refine xslen S hw hXv hbl d_La_law_20 ?_
    refine lv_bipush (v := 6) hx hb d_La_law_21 (by decide) ?_
    refine lv_isub hx hb d_La_law_23 ?_
    refine lv_icmp_gt (tgt := 298) hx hb d_La_law_24 (by decide) (fun cL => ?_) (fun cL => ?_)
    · refine lv_iconst (v := 1) hx hb d_La_law_298 (by decide) ?_
      refine va_forget (fun q hq => hw.2.2.2.1.2.2 q hq) ?_
      refine W.widen (k := 600000) (n := 7302250) (by decide) (by decide) ?_
      exact lw_ret hx hb hr hlocks d_La_law_299
    · have hil : i + 6 ≤ L := by
        apply Nat.le_of_not_lt
        intro h
        exact cL ((lim_iff (by omega) hL).mpr h)
      obtain ⟨sk, hsk, hsw⟩ := pk_andE (xs i) (m := 7) 3 (by decide)
      refine lv_aload_n hx hb d_La_law_27 rfl (lv_at hl 3 rfl) ?_
      refine lv_iload_n hx hb d_La_law_28 rfl (lv_at hl 0 rfl) ?_
      refine xsld S hw hXv hbl (j := i) (by omega) hL d_La_law_29 ?_
      refine lv_bipush (v := 7) hx hb d_La_law_30 (by decide) ?_
      refine lv_iand hx hb d_La_law_32 ?_
      refine tpi (y := nI sk) hsw ?_
      rcases (show sk = 0 ∨ sk = 1 ∨ sk = 2 ∨ sk = 3 ∨ sk = 4 ∨ sk = 5 ∨ sk = 6 ∨ sk = 7 by omega) with rfl | rfl | rfl | rfl | rfl | rfl | rfl | rfl
      · refine lv_tableIn (off := 47) (tgt := 80) hx hb d_La_law_33 (by decide) (by decide) rfl (by decide) ?_
        refine lv_aload_n hx hb d_La_law_80 rfl (lv_at hl 2 rfl) ?_
        refine lv_aload_n hx hb d_La_law_81 rfl (lv_at hl 3 rfl) ?_
        refine lv_iload_n hx hb d_La_law_82 rfl (lv_at hl 0 rfl) ?_
        refine lv_iconst (v := 1) hx hb d_La_law_83 (by decide) ?_
        refine lv_iadd hx hb d_La_law_84 ?_
        refine tpi (y := nI (i + 1)) (nI_add i 1) ?_
        refine xsld S hw hXv hbl (j := (i + 1)) (by omega) hL d_La_law_85 ?_
        refine lv_aload_n hx hb d_La_law_86 rfl (lv_at hl 3 rfl) ?_
        refine lv_iload_n hx hb d_La_law_87 rfl (lv_at hl 0 rfl) ?_
        refine lv_iconst (v := 2) hx hb d_La_law_88 (by decide) ?_
        refine lv_iadd hx hb d_La_law_89 ?_
        refine tpi (y := nI (i + 2)) (nI_add i 2) ?_
        refine xsld S hw hXv hbl (j := (i + 2)) (by omega) hL d_La_law_90 ?_
        refine lv_aload_n hx hb d_La_law_91 rfl (lv_at hl 3 rfl) ?_
        refine lv_iload_n hx hb d_La_law_92 rfl (lv_at hl 0 rfl) ?_
        refine lv_iconst (v := 3) hx hb d_La_law_93 (by decide) ?_
        refine lv_iadd hx hb d_La_law_94 ?_
        refine tpi (y := nI (i + 3)) (nI_add i 3) ?_
        refine xsld S hw hXv hbl (j := (i + 3)) (by omega) hL d_La_law_95 ?_
        refine lv_aload_n hx hb d_La_law_96 rfl (lv_at hl 3 rfl) ?_
        refine lv_iload_n hx hb d_La_law_97 rfl (lv_at hl 0 rfl) ?_
        refine lv_iconst (v := 4) hx hb d_La_law_98 (by decide) ?_
        refine lv_iadd hx hb d_La_law_99 ?_
        refine tpi (y := nI (i + 4)) (nI_add i 4) ?_
        refine xsld S hw hXv hbl (j := (i + 4)) (by omega) hL d_La_law_100 ?_
        refine lv_aload_n hx hb d_La_law_101 rfl (lv_at hl 3 rfl) ?_
        refine lv_iload_n hx hb d_La_law_102 rfl (lv_at hl 0 rfl) ?_
        refine lv_iconst (v := 5) hx hb d_La_law_103 (by decide) ?_
        refine lv_iadd hx hb d_La_law_104 ?_
        refine tpi (y := nI (i + 5)) (nI_add i 5) ?_
        refine xsld S hw hXv hbl (j := (i + 5)) (by omega) hL d_La_law_105 ?_
        refine zVi (As := [.int (xs (i + 1)), .int (xs (i + 2)), .int (xs (i + 3)), .int (xs (i + 4)), .int (xs (i + 5))]) (rest := []) S hw hl.1 vl_La_13 (c_Mi_feed l G a1 sn fn ff (nI N) of hn hf fm (nI n) wd sz (nI M) tp vl T h1 (xs (i + 1)) (xs (i + 2)) (xs (i + 3)) (xs (i + 4)) (xs (i + 5))) 0 rfl rfl rfl ⟨rfl, rfl⟩ [0, 1, 2, 3, 4, 5, 6, 7, 8, 9, 10, 11] [12, 13, 14, 15, 16, 17, 18] [7, 8, 9, 10, 11, 12, 13, 14, 15, 16, 17, 18, 0, 1, 2, 3, 4, 5, 6] rfl rfl (by decide) rfl rfl rfl d_La_law_106 (fun u => wMi G a1 sn fn ff (nI N) of hn hf fm (nI n) wd sz (nI M) (if T + 20 ≤ 400 then wr tp T (sg (fdAt (xs (i + 1)) (xs (i + 2)) (xs (i + 3)) (xs (i + 4)) (xs (i + 5))) 0 20) else tp) (nI (if T + 20 ≤ 400 then T + 20 else T)) vl ++ wMd G a2 tp fm wd ou sz pi (nI T) (nI n) (nI M) (nI N) os at' wi ki le ze pl bl fr vm) (fun _ => rfl) (fun r1 _ H locs hr1 hw => ?_)
        refine lv_aload_n hx hb d_La_law_109 rfl (lv_at hl 1 rfl) ?_
        refine lv_aload_n hx hb d_La_law_110 rfl (lv_at hl 3 rfl) ?_
        refine lv_iload_n hx hb d_La_law_111 rfl (lv_at hl 0 rfl) ?_
        refine lv_iconst (v := 1) hx hb d_La_law_112 (by decide) ?_
        refine lv_iadd hx hb d_La_law_113 ?_
        refine tpi (y := nI (i + 1)) (nI_add i 1) ?_
        refine xsld S hw hXv hbl (j := (i + 1)) (by omega) hL d_La_law_114 ?_
        refine lv_aload_n hx hb d_La_law_115 rfl (lv_at hl 3 rfl) ?_
        refine lv_iload_n hx hb d_La_law_116 rfl (lv_at hl 0 rfl) ?_
        refine lv_iconst (v := 2) hx hb d_La_law_117 (by decide) ?_
        refine lv_iadd hx hb d_La_law_118 ?_
        refine tpi (y := nI (i + 2)) (nI_add i 2) ?_
        refine xsld S hw hXv hbl (j := (i + 2)) (by omega) hL d_La_law_119 ?_
        refine lv_aload_n hx hb d_La_law_120 rfl (lv_at hl 3 rfl) ?_
        refine lv_iload_n hx hb d_La_law_121 rfl (lv_at hl 0 rfl) ?_
        refine lv_iconst (v := 3) hx hb d_La_law_122 (by decide) ?_
        refine lv_iadd hx hb d_La_law_123 ?_
        refine tpi (y := nI (i + 3)) (nI_add i 3) ?_
        refine xsld S hw hXv hbl (j := (i + 3)) (by omega) hL d_La_law_124 ?_
        refine lv_aload_n hx hb d_La_law_125 rfl (lv_at hl 3 rfl) ?_
        refine lv_iload_n hx hb d_La_law_126 rfl (lv_at hl 0 rfl) ?_
        refine lv_iconst (v := 4) hx hb d_La_law_127 (by decide) ?_
        refine lv_iadd hx hb d_La_law_128 ?_
        refine tpi (y := nI (i + 4)) (nI_add i 4) ?_
        refine xsld S hw hXv hbl (j := (i + 4)) (by omega) hL d_La_law_129 ?_
        refine lv_aload_n hx hb d_La_law_130 rfl (lv_at hl 3 rfl) ?_
        refine lv_iload_n hx hb d_La_law_131 rfl (lv_at hl 0 rfl) ?_
        refine lv_iconst (v := 5) hx hb d_La_law_132 (by decide) ?_
        refine lv_iadd hx hb d_La_law_133 ?_
        refine tpi (y := nI (i + 5)) (nI_add i 5) ?_
        refine xsld S hw hXv hbl (j := (i + 5)) (by omega) hL d_La_law_134 ?_
        refine zVi (As := [.int (xs (i + 1)), .int (xs (i + 2)), .int (xs (i + 3)), .int (xs (i + 4)), .int (xs (i + 5))]) (rest := [.int r1]) S hw hl.1 vl_La_17 (c_Md_feed l G a2 tp fm wd ou sz pi (nI n) (nI M) (nI N) os at' wi ki le ze pl bl fr vm T h1 (xs (i + 1)) (xs (i + 2)) (xs (i + 3)) (xs (i + 4)) (xs (i + 5))) 12 rfl rfl rfl ⟨rfl, rfl⟩ [12, 13, 14, 15, 16, 17, 18] [0, 1, 2, 3, 4, 5, 6, 7, 8, 9, 10, 11] [0, 1, 2, 3, 4, 5, 6, 7, 8, 9, 10, 11, 12, 13, 14, 15, 16, 17, 18] rfl rfl (by decide) rfl rfl rfl d_La_law_135 (fun u => wMi G a1 sn fn ff (nI N) of hn hf fm (nI n) wd sz (nI M) (if T + 20 ≤ 400 then wr tp T (sg (fdAt (xs (i + 1)) (xs (i + 2)) (xs (i + 3)) (xs (i + 4)) (xs (i + 5))) 0 20) else tp) (nI (if T + 20 ≤ 400 then T + 20 else T)) vl ++ wMd G a2 (if T + 20 ≤ 400 then wr tp T (sg (fdAt (xs (i + 1)) (xs (i + 2)) (xs (i + 3)) (xs (i + 4)) (xs (i + 5))) 0 20) else tp) fm wd ou sz pi (nI (if T + 20 ≤ 400 then T + 20 else T)) (nI n) (nI M) (nI N) os at' wi ki le ze pl bl fr vm) (fun _ => rfl) (fun r2 _ H locs hr2 hw => ?_)
        refine lv_icmp_eq (tgt := 292) hx hb d_La_law_138 (by decide) (fun _ => ?_) (fun q_ => absurd (by rw [hr1, hr2]) q_)
        refine lv_iinc (v := nI (i + 6)) (lv' := [(3, .int (nI (i + 6))), (2, .ref (a2 0)), (1, .ref (a1 0)), (0, .ref b)]) hx hb d_La_law_292 hl (k := 0) rfl (nI_add i 6) (by decide) rfl (fun ls hl => ?_)
        refine lv_goto (tgt := 18) hx hb d_La_law_295 (by decide) ?_
        exact ih (i + 6) _ _ _ _ _ _ _ _ _ _ _ _ _ _ _ _ _ _ _ _ _ _ _ _ _ _ _ _ _ (by omega) (by omega) (lInv_feed (xs (i + 1)) (xs (i + 2)) (xs (i + 3)) (xs (i + 4)) (xs (i + 5)) hI) _ _ _ hw (lv_sub hl [0, 1, 2, 3] rfl)
      · refine lv_tableIn (off := 110) (tgt := 143) hx hb d_La_law_33 (by decide) (by decide) rfl (by decide) ?_
        refine lv_aload_n hx hb d_La_law_143 rfl (lv_at hl 2 rfl) ?_
        refine lv_aload_n hx hb d_La_law_144 rfl (lv_at hl 3 rfl) ?_
        refine lv_iload_n hx hb d_La_law_145 rfl (lv_at hl 0 rfl) ?_
        refine lv_iconst (v := 1) hx hb d_La_law_146 (by decide) ?_
        refine lv_iadd hx hb d_La_law_147 ?_
        refine tpi (y := nI (i + 1)) (nI_add i 1) ?_
        refine xsld S hw hXv hbl (j := (i + 1)) (by omega) hL d_La_law_148 ?_
        refine zVi (As := [.int (xs (i + 1))]) (rest := []) S hw hl.1 vl_La_18 (c_Mi_end l G a1 sn fn ff (nI N) of hn hf fm (nI n) wd sz (nI M) tp vl T (xs (i + 1))) 0 rfl rfl rfl ⟨rfl, rfl⟩ [0, 1, 2, 3, 4, 5, 6, 7, 8, 9, 10, 11] [12, 13, 14, 15, 16, 17, 18] [7, 8, 9, 10, 11, 12, 13, 14, 15, 16, 17, 18, 0, 1, 2, 3, 4, 5, 6] rfl rfl (by decide) rfl rfl rfl d_La_law_149 (fun u => wMi G a1 sn fn ff (nI N) of hn hf fm (nI n) wd sz (nI M) tp (nI (endL (xs (i + 1)) T)) vl ++ wMd G a2 tp fm wd ou sz pi (nI T) (nI n) (nI M) (nI N) os at' wi ki le ze pl bl fr vm) (fun _ => rfl) (fun r1 _ H locs hr1 hw => ?_)
        refine lv_aload_n hx hb d_La_law_152 rfl (lv_at hl 1 rfl) ?_
        refine lv_aload_n hx hb d_La_law_153 rfl (lv_at hl 3 rfl) ?_
        refine lv_iload_n hx hb d_La_law_154 rfl (lv_at hl 0 rfl) ?_
        refine lv_iconst (v := 1) hx hb d_La_law_155 (by decide) ?_
        refine lv_iadd hx hb d_La_law_156 ?_
        refine tpi (y := nI (i + 1)) (nI_add i 1) ?_
        refine xsld S hw hXv hbl (j := (i + 1)) (by omega) hL d_La_law_157 ?_
        refine zVi (As := [.int (xs (i + 1))]) (rest := [.int r1]) S hw hl.1 vl_La_22 (c_Md_end l G a2 tp fm wd ou sz pi (nI n) (nI M) (nI N) os at' wi ki le ze pl bl fr vm T (xs (i + 1))) 12 rfl rfl rfl ⟨rfl, rfl⟩ [12, 13, 14, 15, 16, 17, 18] [0, 1, 2, 3, 4, 5, 6, 7, 8, 9, 10, 11] [0, 1, 2, 3, 4, 5, 6, 7, 8, 9, 10, 11, 12, 13, 14, 15, 16, 17, 18] rfl rfl (by decide) rfl rfl rfl d_La_law_158 (fun u => wMi G a1 sn fn ff (nI N) of hn hf fm (nI n) wd sz (nI M) tp (nI (endL (xs (i + 1)) T)) vl ++ wMd G a2 tp fm wd ou sz pi (nI (endL (xs (i + 1)) T)) (nI n) (nI M) (nI N) os at' wi ki le ze pl bl fr vm) (fun _ => rfl) (fun r2 _ H locs hr2 hw => ?_)
        refine lv_icmp_eq (tgt := 292) hx hb d_La_law_161 (by decide) (fun _ => ?_) (fun q_ => absurd (by rw [hr1, hr2]) q_)
        refine lv_iinc (v := nI (i + 6)) (lv' := [(3, .int (nI (i + 6))), (2, .ref (a2 0)), (1, .ref (a1 0)), (0, .ref b)]) hx hb d_La_law_292 hl (k := 0) rfl (nI_add i 6) (by decide) rfl (fun ls hl => ?_)
        refine lv_goto (tgt := 18) hx hb d_La_law_295 (by decide) ?_
        exact ih (i + 6) _ _ _ _ _ _ _ _ _ _ _ _ _ _ _ _ _ _ _ _ _ _ _ _ _ _ _ _ _ (by omega) (by omega) (lInv_end (xs (i + 1)) hI) _ _ _ hw (lv_sub hl [0, 1, 2, 3] rfl)
      · refine lv_tableIn (off := 133) (tgt := 166) hx hb d_La_law_33 (by decide) (by decide) rfl (by decide) ?_
        refine lv_aload_n hx hb d_La_law_166 rfl (lv_at hl 2 rfl) ?_
        refine zVi (As := []) (rest := []) S hw hl.1 vl_La_23 (c_Mi_format l G a1 sn fn ff (nI N) of hn hf fm (nI n) wd sz (nI M) tp vl T h1 h5) 0 rfl rfl rfl ⟨rfl, rfl⟩ [0, 1, 2, 3, 4, 5, 6, 7, 8, 9, 10, 11] [12, 13, 14, 15, 16, 17, 18] [7, 8, 9, 10, 11, 12, 13, 14, 15, 16, 17, 18, 0, 1, 2, 3, 4, 5, 6] rfl rfl (by decide) rfl rfl rfl d_La_law_167 (fun u => wMi G a1 sn fn ff (nI N) of hn hf (wr fm 0 (sg tp 0 T)) (nI T) wd sz (nI M) tp (nI 0) vl ++ wMd G a2 tp fm wd ou sz pi (nI T) (nI n) (nI M) (nI N) os at' wi ki le ze pl bl fr vm) (fun _ => rfl) (fun r1 _ H locs hr1 hw => ?_)
        refine lv_aload_n hx hb d_La_law_170 rfl (lv_at hl 1 rfl) ?_
        refine zVi (As := []) (rest := [.int r1]) S hw hl.1 vl_La_27 (c_Md_format l G a2 tp fm wd ou sz pi (nI n) (nI M) (nI N) os at' wi ki le ze pl bl fr vm T h1 h5) 12 rfl rfl rfl ⟨rfl, rfl⟩ [12, 13, 14, 15, 16, 17, 18] [0, 1, 2, 3, 4, 5, 6, 7, 8, 9, 10, 11] [0, 1, 2, 3, 4, 5, 6, 7, 8, 9, 10, 11, 12, 13, 14, 15, 16, 17, 18] rfl rfl (by decide) rfl rfl rfl d_La_law_171 (fun u => wMi G a1 sn fn ff (nI N) of hn hf (wr fm 0 (sg tp 0 T)) (nI T) wd sz (nI M) tp (nI 0) vl ++ wMd G a2 tp (wr fm 0 (sg tp 0 T)) wd ou sz pi (nI 0) (nI T) (nI M) (nI N) os at' wi ki le ze pl bl fr vm) (fun _ => rfl) (fun r2 _ H locs hr2 hw => ?_)
        refine lv_icmp_eq (tgt := 292) hx hb d_La_law_174 (by decide) (fun _ => ?_) (fun q_ => absurd (by rw [hr1, hr2]) q_)
        refine lv_iinc (v := nI (i + 6)) (lv' := [(3, .int (nI (i + 6))), (2, .ref (a2 0)), (1, .ref (a1 0)), (0, .ref b)]) hx hb d_La_law_292 hl (k := 0) rfl (nI_add i 6) (by decide) rfl (fun ls hl => ?_)
        refine lv_goto (tgt := 18) hx hb d_La_law_295 (by decide) ?_
        exact ih (i + 6) _ _ _ _ _ _ _ _ _ _ _ _ _ _ _ _ _ _ _ _ _ _ _ _ _ _ _ _ _ (by omega) (by omega) (lInv_format hI) _ _ _ hw (lv_sub hl [0, 1, 2, 3] rfl)
      · refine lv_tableIn (off := 146) (tgt := 179) hx hb d_La_law_33 (by decide) (by decide) rfl (by decide) ?_
        refine lv_aload_n hx hb d_La_law_179 rfl (lv_at hl 2 rfl) ?_
        refine zVi (As := []) (rest := []) S hw hl.1 vl_La_28 (c_Mi_argument l G a1 sn fn ff (nI N) of hn hf fm (nI n) wd sz tp vl M T h3 h1 h5) 0 rfl rfl rfl ⟨rfl, rfl⟩ [0, 1, 2, 3, 4, 5, 6, 7, 8, 9, 10, 11] [12, 13, 14, 15, 16, 17, 18] [7, 8, 9, 10, 11, 12, 13, 14, 15, 16, 17, 18, 0, 1, 2, 3, 4, 5, 6] rfl rfl (by decide) rfl rfl rfl d_La_law_180 (fun u => wMi G a1 sn fn ff (nI N) of hn hf fm (nI n) (if adOk M T then wr wd (40 * M) (sg tp 0 T) else wd) (if adOk M T then upd sz M (nI T) else sz) (nI (if adOk M T then M + 1 else M)) tp (nI 0) vl ++ wMd G a2 tp fm wd ou sz pi (nI T) (nI n) (nI M) (nI N) os at' wi ki le ze pl bl fr vm) (fun _ => rfl) (fun r1 _ H locs hr1 hw => ?_)
        refine lv_aload_n hx hb d_La_law_183 rfl (lv_at hl 1 rfl) ?_
        refine zVi (As := []) (rest := [.int r1]) S hw hl.1 vl_La_31 (c_Md_argument l G a2 tp fm wd ou sz pi (nI n) (nI N) os at' wi ki le ze pl bl fr vm M T h3 h1 h5) 12 rfl rfl rfl ⟨rfl, rfl⟩ [12, 13, 14, 15, 16, 17, 18] [0, 1, 2, 3, 4, 5, 6, 7, 8, 9, 10, 11] [0, 1, 2, 3, 4, 5, 6, 7, 8, 9, 10, 11, 12, 13, 14, 15, 16, 17, 18] rfl rfl (by decide) rfl rfl rfl d_La_law_184 (fun u => wMi G a1 sn fn ff (nI N) of hn hf fm (nI n) (if adOk M T then wr wd (40 * M) (sg tp 0 T) else wd) (if adOk M T then upd sz M (nI T) else sz) (nI (if adOk M T then M + 1 else M)) tp (nI 0) vl ++ wMd G a2 tp fm (if adOk M T then wr wd (40 * M) (sg tp 0 T) else wd) ou (if adOk M T then upd sz M (nI T) else sz) pi (nI 0) (nI n) (nI (if adOk M T then M + 1 else M)) (nI N) os at' wi ki le ze pl bl fr vm) (fun _ => rfl) (fun r2 _ H locs hr2 hw => ?_)
        refine lv_icmp_eq (tgt := 292) hx hb d_La_law_187 (by decide) (fun _ => ?_) (fun q_ => absurd (by rw [hr1, hr2]) q_)
        refine lv_iinc (v := nI (i + 6)) (lv' := [(3, .int (nI (i + 6))), (2, .ref (a2 0)), (1, .ref (a1 0)), (0, .ref b)]) hx hb d_La_law_292 hl (k := 0) rfl (nI_add i 6) (by decide) rfl (fun ls hl => ?_)
        refine lv_goto (tgt := 18) hx hb d_La_law_295 (by decide) ?_
        exact ih (i + 6) _ _ _ _ _ _ _ _ _ _ _ _ _ _ _ _ _ _ _ _ _ _ _ _ _ _ _ _ _ (by omega) (by omega) (lInv_T (lInv_add T (sg tp 0 T) (sg_mem h5) hI (adOk M T) adOk_t)) _ _ _ hw (lv_sub hl [0, 1, 2, 3] rfl)
      · refine lv_tableIn (off := 159) (tgt := 192) hx hb d_La_law_33 (by decide) (by decide) rfl (by decide) ?_
        refine lv_aload_n hx hb d_La_law_192 rfl (lv_at hl 2 rfl) ?_
        refine lv_aload_n hx hb d_La_law_193 rfl (lv_at hl 3 rfl) ?_
        refine lv_iload_n hx hb d_La_law_194 rfl (lv_at hl 0 rfl) ?_
        refine lv_iconst (v := 1) hx hb d_La_law_195 (by decide) ?_
        refine lv_iadd hx hb d_La_law_196 ?_
        refine tpi (y := nI (i + 1)) (nI_add i 1) ?_
        refine xsld S hw hXv hbl (j := (i + 1)) (by omega) hL d_La_law_197 ?_
        refine lv_i2l hx hb d_La_law_198 rfl ?_
        refine lv_bipush (v := 32) hx hb d_La_law_199 (by decide) ?_
        refine lv_lshl hx hb d_La_law_201 rfl ?_
        refine lv_aload_n hx hb d_La_law_202 rfl (lv_at hl 3 rfl) ?_
        refine lv_iload_n hx hb d_La_law_203 rfl (lv_at hl 0 rfl) ?_
        refine lv_iconst (v := 2) hx hb d_La_law_204 (by decide) ?_
        refine lv_iadd hx hb d_La_law_205 ?_
        refine tpi (y := nI (i + 2)) (nI_add i 2) ?_
        refine xsld S hw hXv hbl (j := (i + 2)) (by omega) hL d_La_law_206 ?_
        refine lv_i2l hx hb d_La_law_207 rfl ?_
        refine lv_ldc2 (v := 4294967295) hx hb S.2.2.2.1 (S.2.2.2.2 _ k_432) d_La_law_208 ?_
        refine lv_land hx hb d_La_law_211 ?_
        refine lv_lor hx hb d_La_law_212 ?_
        obtain ⟨v, hv⟩ : ∃ q : Int64, q = (((xs (i + 1) : Int32).toInt64) <<< ((32 : Int32).toInt64 &&& 63)) ||| (((xs (i + 2) : Int32).toInt64) &&& 4294967295) := ⟨_, rfl⟩
        refine tpl (y := v) hv.symm ?_
        refine zVi (As := [.long v]) (rest := []) S hw hl.1 vl_La_34 (c_Mi_number l G a1 sn fn ff (nI N) of hn hf fm (nI n) wd sz tp (nI T) vl M h3 h9 v) 0 rfl rfl rfl ⟨rfl, rfl⟩ [0, 1, 2, 3, 4, 5, 6, 7, 8, 9, 10, 11] [12, 13, 14, 15, 16, 17, 18] [7, 8, 9, 10, 11, 12, 13, 14, 15, 16, 17, 18, 0, 1, 2, 3, 4, 5, 6] rfl rfl (by decide) rfl rfl rfl d_La_law_213 (fun u => wMi G a1 sn fn ff (nI N) of (nI (dec v).length) (wr hf 0 (dec v)) fm (nI n) (if adOk M 0 then wr wd (40 * M) (dec v) else wd) (if adOk M 0 then upd sz M (nI (dec v).length) else sz) (nI (if adOk M 0 then M + 1 else M)) tp (nI T) vl ++ wMd G a2 tp fm wd ou sz pi (nI T) (nI n) (nI M) (nI N) os at' wi ki le ze pl bl fr vm) (fun _ => rfl) (fun r1 _ H locs hr1 hw => ?_)
        refine lv_aload_n hx hb d_La_law_216 rfl (lv_at hl 1 rfl) ?_
        refine lv_aload_n hx hb d_La_law_217 rfl (lv_at hl 3 rfl) ?_
        refine lv_iload_n hx hb d_La_law_218 rfl (lv_at hl 0 rfl) ?_
        refine lv_iconst (v := 1) hx hb d_La_law_219 (by decide) ?_
        refine lv_iadd hx hb d_La_law_220 ?_
        refine tpi (y := nI (i + 1)) (nI_add i 1) ?_
        refine xsld S hw hXv hbl (j := (i + 1)) (by omega) hL d_La_law_221 ?_
        refine lv_i2l hx hb d_La_law_222 rfl ?_
        refine lv_bipush (v := 32) hx hb d_La_law_223 (by decide) ?_
        refine lv_lshl hx hb d_La_law_225 rfl ?_
        refine lv_aload_n hx hb d_La_law_226 rfl (lv_at hl 3 rfl) ?_
        refine lv_iload_n hx hb d_La_law_227 rfl (lv_at hl 0 rfl) ?_
        refine lv_iconst (v := 2) hx hb d_La_law_228 (by decide) ?_
        refine lv_iadd hx hb d_La_law_229 ?_
        refine tpi (y := nI (i + 2)) (nI_add i 2) ?_
        refine xsld S hw hXv hbl (j := (i + 2)) (by omega) hL d_La_law_230 ?_
        refine lv_i2l hx hb d_La_law_231 rfl ?_
        refine lv_ldc2 (v := 4294967295) hx hb S.2.2.2.1 (S.2.2.2.2 _ k_432) d_La_law_232 ?_
        refine lv_land hx hb d_La_law_235 ?_
        refine lv_lor hx hb d_La_law_236 ?_
        refine tpl (y := v) hv.symm ?_
        refine zVi (As := [.long v]) (rest := [.int r1]) S hw hl.1 vl_La_38 (c_Md_number l G a2 tp fm wd ou sz pi (nI T) (nI n) (nI N) os at' wi ki le ze pl bl fr vm M h3 v) 12 rfl rfl rfl ⟨rfl, rfl⟩ [12, 13, 14, 15, 16, 17, 18] [0, 1, 2, 3, 4, 5, 6, 7, 8, 9, 10, 11] [0, 1, 2, 3, 4, 5, 6, 7, 8, 9, 10, 11, 12, 13, 14, 15, 16, 17, 18] rfl rfl (by decide) rfl rfl rfl d_La_law_237 (fun u => wMi G a1 sn fn ff (nI N) of (nI (dec v).length) (wr hf 0 (dec v)) fm (nI n) (if adOk M 0 then wr wd (40 * M) (dec v) else wd) (if adOk M 0 then upd sz M (nI (dec v).length) else sz) (nI (if adOk M 0 then M + 1 else M)) tp (nI T) vl ++ wMd G a2 tp fm (if adOk M 0 then wr wd (40 * M) (dec v) else wd) ou (if adOk M 0 then upd sz M (nI (dec v).length) else sz) u.1 (nI T) (nI n) (nI (if adOk M 0 then M + 1 else M)) (nI N) os at' wi ki le ze pl bl u.2 vm) (fun _ => rfl) (fun r2 u2 H locs hr2 hw => ?_)
        have hw : gW G (fun q => s.heap.size ≤ q) s (wMi G a1 sn fn ff (nI N) of (nI (dec v).length) (wr hf 0 (dec v)) fm (nI n) (if adOk M 0 then wr wd (40 * M) (dec v) else wd) (if adOk M 0 then upd sz M (nI (dec v).length) else sz) (nI (if adOk M 0 then M + 1 else M)) tp (nI T) vl ++ wMd G a2 tp fm (if adOk M 0 then wr wd (40 * M) (dec v) else wd) ou (if adOk M 0 then upd sz M (nI (dec v).length) else sz) u2.1 (nI T) (nI n) (nI (if adOk M 0 then M + 1 else M)) (nI N) os at' wi ki le ze pl bl u2.2 vm) H locs := hw
        refine lv_icmp_eq (tgt := 292) hx hb d_La_law_240 (by decide) (fun _ => ?_) (fun q_ => absurd (by rw [hr1, hr2]) q_)
        have hdl := dec_len (v := v)
        refine lv_iinc (v := nI (i + 6)) (lv' := [(3, .int (nI (i + 6))), (2, .ref (a2 0)), (1, .ref (a1 0)), (0, .ref b)]) hx hb d_La_law_292 hl (k := 0) rfl (nI_add i 6) (by decide) rfl (fun ls hl => ?_)
        refine lv_goto (tgt := 18) hx hb d_La_law_295 (by decide) ?_
        exact ih (i + 6) _ _ _ _ _ _ _ _ _ _ _ _ _ _ _ _ _ _ _ _ _ _ _ _ _ _ _ _ _ (by omega) (by omega) (lInv_hf (By_wr h9 dec_b8) (lInv_add (dec v).length (dec v) dec_b8 hI (adOk M 0) (fun h => ⟨(adOk_t h).1, by omega⟩))) _ _ _ hw (lv_sub hl [0, 1, 2, 3] rfl)
      · refine lv_tableIn (off := 212) (tgt := 245) hx hb d_La_law_33 (by decide) (by decide) rfl (by decide) ?_
        refine lv_aload_n hx hb d_La_law_245 rfl (lv_at hl 2 rfl) ?_
        refine zVv (As := []) (rest := []) S hw hl.1 vl_La_39 (c_Mi_clear l G a1 sn fn ff (nI N) of hn hf fm (nI n) wd sz (nI M) tp (nI T) vl) 0 rfl rfl rfl ⟨rfl, rfl⟩ [0, 1, 2, 3, 4, 5, 6, 7, 8, 9, 10, 11] [12, 13, 14, 15, 16, 17, 18] [7, 8, 9, 10, 11, 12, 13, 14, 15, 16, 17, 18, 0, 1, 2, 3, 4, 5, 6] rfl rfl (by decide) rfl rfl rfl d_La_law_246 (fun u => wMi G a1 sn fn ff (nI N) of hn hf fm (nI n) wd sz (nI 0) tp (nI T) vl ++ wMd G a2 tp fm wd ou sz pi (nI T) (nI n) (nI M) (nI N) os at' wi ki le ze pl bl fr vm) (fun _ => rfl) (fun _ H locs hr1 hw => ?_)
        refine lv_aload_n hx hb d_La_law_249 rfl (lv_at hl 1 rfl) ?_
        refine zVv (As := []) (rest := []) S hw hl.1 vl_La_42 (c_Md_clear l G a2 tp fm wd ou sz pi (nI T) (nI n) (nI M) (nI N) os at' wi ki le ze pl bl fr vm) 12 rfl rfl rfl ⟨rfl, rfl⟩ [12, 13, 14, 15, 16, 17, 18] [0, 1, 2, 3, 4, 5, 6, 7, 8, 9, 10, 11] [0, 1, 2, 3, 4, 5, 6, 7, 8, 9, 10, 11, 12, 13, 14, 15, 16, 17, 18] rfl rfl (by decide) rfl rfl rfl d_La_law_250 (fun u => wMi G a1 sn fn ff (nI N) of hn hf fm (nI n) wd sz (nI 0) tp (nI T) vl ++ wMd G a2 tp fm wd ou sz pi (nI T) (nI n) (nI 0) (nI N) os at' wi ki le ze pl bl fr vm) (fun _ => rfl) (fun _ H locs hr2 hw => ?_)
        refine lv_goto (tgt := 292) hx hb d_La_law_253 (by decide) ?_
        refine lv_iinc (v := nI (i + 6)) (lv' := [(3, .int (nI (i + 6))), (2, .ref (a2 0)), (1, .ref (a1 0)), (0, .ref b)]) hx hb d_La_law_292 hl (k := 0) rfl (nI_add i 6) (by decide) rfl (fun ls hl => ?_)
        refine lv_goto (tgt := 18) hx hb d_La_law_295 (by decide) ?_
        exact ih (i + 6) _ _ _ _ _ _ _ _ _ _ _ _ _ _ _ _ _ _ _ _ _ _ _ _ _ _ _ _ _ (by omega) (by omega) (lInv_clear hI) _ _ _ hw (lv_sub hl [0, 1, 2, 3] rfl)
      · refine lv_tableIn (off := 223) (tgt := 256) hx hb d_La_law_33 (by decide) (by decide) rfl (by decide) ?_
        refine lv_aload_n hx hb d_La_law_256 rfl (lv_at hl 2 rfl) ?_
        refine zVX (As := []) (rest := []) S hw hl.1 vl_La_43 (c_Mi_make l G a1 sn fn ff (nI N) of hn hf fm wd sz tp (nI T) vl n M adK adV h2 h3 h6 h7 h8 h10) XBs (Xs_down2 hXs hw [0, 1, 2, 3, 4, 5, 6, 7, 8, 9, 10, 11] rfl) 0 rfl rfl rfl ⟨rfl, rfl⟩ [0, 1, 2, 3, 4, 5, 6, 7, 8, 9, 10, 11] [12, 13, 14, 15, 16, 17, 18] [7, 8, 9, 10, 11, 12, 13, 14, 15, 16, 17, 18, 0, 1, 2, 3, 4, 5, 6] rfl rfl (by decide) rfl rfl rfl d_La_law_257 (fun u => wMi G a1 u.1 u.2.1 u.2.2.1 (nI u.2.2.2.1) u.2.2.2.2.1 hn hf fm (nI n) wd sz (nI M) tp (nI T) u.2.2.2.2.2 ++ wMd G a2 tp fm wd ou sz pi (nI T) (nI n) (nI M) (nI N) os at' wi ki le ze pl bl fr vm) (fun _ => rfl) (fun r1 u1 H locs hr1 hw => ?_)
        have hw : gW G (fun q => s.heap.size ≤ q) s (wMi G a1 u1.1 u1.2.1 u1.2.2.1 (nI u1.2.2.2.1) u1.2.2.2.2.1 hn hf fm (nI n) wd sz (nI M) tp (nI T) u1.2.2.2.2.2 ++ wMd G a2 tp fm wd ou sz pi (nI T) (nI n) (nI M) (nI N) os at' wi ki le ze pl bl fr vm) H locs := hw
        refine lv_aload_n hx hb d_La_law_260 rfl (lv_at hl 1 rfl) ?_
        refine zVi (As := []) (rest := [.int r1]) S hw hl.1 vl_La_46 (c_Md_make l G a2 tp fm wd ou sz pi (nI T) (nI N) os at' wi ki le ze pl bl fr vm n M h2 h3 h6 h7 h10) 12 rfl rfl rfl ⟨rfl, rfl⟩ [12, 13, 14, 15, 16, 17, 18] [0, 1, 2, 3, 4, 5, 6, 7, 8, 9, 10, 11] [0, 1, 2, 3, 4, 5, 6, 7, 8, 9, 10, 11, 12, 13, 14, 15, 16, 17, 18] rfl rfl (by decide) rfl rfl rfl d_La_law_261 (fun u => wMi G a1 u1.1 u1.2.1 u1.2.2.1 (nI u1.2.2.2.1) u1.2.2.2.2.1 hn hf fm (nI n) wd sz (nI M) tp (nI T) u1.2.2.2.2.2 ++ wMd G a2 tp fm wd u.1 sz u.2.2.2.2.2.2.2.2.2.2.1 (nI T) (nI n) (nI M) (nI u.2.1) u.2.2.1 u.2.2.2.1 u.2.2.2.2.1 u.2.2.2.2.2.1 u.2.2.2.2.2.2.1 u.2.2.2.2.2.2.2.1 u.2.2.2.2.2.2.2.2.1 u.2.2.2.2.2.2.2.2.2.1 u.2.2.2.2.2.2.2.2.2.2.2.1 u.2.2.2.2.2.2.2.2.2.2.2.2) (fun _ => rfl) (fun r2 u2 H locs hr2 hw => ?_)
        have hw : gW G (fun q => s.heap.size ≤ q) s (wMi G a1 u1.1 u1.2.1 u1.2.2.1 (nI u1.2.2.2.1) u1.2.2.2.2.1 hn hf fm (nI n) wd sz (nI M) tp (nI T) u1.2.2.2.2.2 ++ wMd G a2 tp fm wd u2.1 sz u2.2.2.2.2.2.2.2.2.2.2.1 (nI T) (nI n) (nI M) (nI u2.2.1) u2.2.2.1 u2.2.2.2.1 u2.2.2.2.2.1 u2.2.2.2.2.2.1 u2.2.2.2.2.2.2.1 u2.2.2.2.2.2.2.2.1 u2.2.2.2.2.2.2.2.2.1 u2.2.2.2.2.2.2.2.2.2.1 u2.2.2.2.2.2.2.2.2.2.2.2.1 u2.2.2.2.2.2.2.2.2.2.2.2.2) H locs := hw
        obtain ⟨g1, g2, g3, g4⟩ := mkP_agree hr1.2 hr2
        refine lv_icmp_eq (tgt := 292) hx hb d_La_law_264 (by decide) (fun _ => ?_) (fun q_ => absurd g1 q_)
        rw [← g2] at hw
        refine lv_iinc (v := nI (i + 6)) (lv' := [(3, .int (nI (i + 6))), (2, .ref (a2 0)), (1, .ref (a1 0)), (0, .ref b)]) hx hb d_La_law_292 hl (k := 0) rfl (nI_add i 6) (by decide) rfl (fun ls hl => ?_)
        refine lv_goto (tgt := 18) hx hb d_La_law_295 (by decide) ?_
        exact ih (i + 6) _ _ _ _ _ _ _ _ _ _ _ _ _ _ _ _ _ _ _ _ _ _ _ _ _ _ _ _ _ (by omega) (by omega) (lInv_make hr1.1 g3 g4 hI) _ _ _ hw (lv_sub hl [0, 1, 2, 3] rfl)
      · refine lv_tableIn (off := 236) (tgt := 269) hx hb d_La_law_33 (by decide) (by decide) rfl (by decide) ?_
        refine lv_aload_n hx hb d_La_law_269 rfl (lv_at hl 2 rfl) ?_
        refine lv_aload_n hx hb d_La_law_270 rfl (lv_at hl 3 rfl) ?_
        refine lv_iload_n hx hb d_La_law_271 rfl (lv_at hl 0 rfl) ?_
        refine lv_iconst (v := 1) hx hb d_La_law_272 (by decide) ?_
        refine lv_iadd hx hb d_La_law_273 ?_
        refine tpi (y := nI (i + 1)) (nI_add i 1) ?_
        refine xsld S hw hXv hbl (j := (i + 1)) (by omega) hL d_La_law_274 ?_
        refine zVi (As := [.int (xs (i + 1))]) (rest := []) S hw hl.1 vl_La_47 (c_Mi_madeAt l G a1 sn fn ff of hn hf fm (nI n) wd sz (nI M) tp (nI T) vl N (by omega) (xs (i + 1))) 0 rfl rfl rfl ⟨rfl, rfl⟩ [0, 1, 2, 3, 4, 5, 6, 7, 8, 9, 10, 11] [12, 13, 14, 15, 16, 17, 18] [7, 8, 9, 10, 11, 12, 13, 14, 15, 16, 17, 18, 0, 1, 2, 3, 4, 5, 6] rfl rfl (by decide) rfl rfl rfl d_La_law_275 (fun u => wMi G a1 sn fn ff (nI N) of hn hf fm (nI n) wd sz (nI M) tp (nI T) vl ++ wMd G a2 tp fm wd ou sz pi (nI T) (nI n) (nI M) (nI N) os at' wi ki le ze pl bl fr vm) (fun _ => rfl) (fun r1 _ H locs hr1 hw => ?_)
        refine lv_aload_n hx hb d_La_law_278 rfl (lv_at hl 1 rfl) ?_
        refine lv_aload_n hx hb d_La_law_279 rfl (lv_at hl 3 rfl) ?_
        refine lv_iload_n hx hb d_La_law_280 rfl (lv_at hl 0 rfl) ?_
        refine lv_iconst (v := 1) hx hb d_La_law_281 (by decide) ?_
        refine lv_iadd hx hb d_La_law_282 ?_
        refine tpi (y := nI (i + 1)) (nI_add i 1) ?_
        refine xsld S hw hXv hbl (j := (i + 1)) (by omega) hL d_La_law_283 ?_
        refine zVi (As := [.int (xs (i + 1))]) (rest := [.int r1]) S hw hl.1 vl_La_51 (c_Md_madeAt l G a2 tp fm wd ou sz pi (nI T) (nI n) (nI M) os at' wi ki le ze pl bl fr vm N h4 (xs (i + 1))) 12 rfl rfl rfl ⟨rfl, rfl⟩ [12, 13, 14, 15, 16, 17, 18] [0, 1, 2, 3, 4, 5, 6, 7, 8, 9, 10, 11] [0, 1, 2, 3, 4, 5, 6, 7, 8, 9, 10, 11, 12, 13, 14, 15, 16, 17, 18] rfl rfl (by decide) rfl rfl rfl d_La_law_284 (fun u => wMi G a1 sn fn ff (nI N) of hn hf fm (nI n) wd sz (nI M) tp (nI T) vl ++ wMd G a2 tp fm wd ou sz pi (nI T) (nI n) (nI M) (nI N) os at' wi ki le ze pl bl fr vm) (fun _ => rfl) (fun r2 _ H locs hr2 hw => ?_)
        refine lv_icmp_eq (tgt := 292) hx hb d_La_law_287 (by decide) (fun _ => ?_) (fun q_ => absurd (by rw [hr1, hr2]; exact madeR_eq _ hI) q_)
        refine lv_iinc (v := nI (i + 6)) (lv' := [(3, .int (nI (i + 6))), (2, .ref (a2 0)), (1, .ref (a1 0)), (0, .ref b)]) hx hb d_La_law_292 hl (k := 0) rfl (nI_add i 6) (by decide) rfl (fun ls hl => ?_)
        refine lv_goto (tgt := 18) hx hb d_La_law_295 (by decide) ?_
        exact ih (i + 6) _ _ _ _ _ _ _ _ _ _ _ _ _ _ _ _ _ _ _ _ _ _ _ _ _ _ _ _ _ (by omega) (by omega) hI _ _ _ hw (lv_sub hl [0, 1, 2, 3] rfl)
end
section
theorem arr_known {ws : List Cond} {s : State} {args : Array Value} {ty : FieldType} (h : (Cond.arrayClass ty).before args s = true) : ∃ cA : ClassId, ArrOfT s cA ty ∧ s.vm.findClass ("[" ++ ty.toString) = some cA := by
  obtain ⟨cA, kA, comp, h1, h2, h3⟩ := Cond.arrayClass_spec h
  exact ⟨cA, fun n z => ⟨fun k h => (by cases h), kA, h2, comp, h3⟩, h1⟩
/-- the String constant at the law's start -/
theorem str_start {b : Nat} {s : State} (hts : ∀ w ∈ lw_tbl, w.before #[Value.ref b] s = true) (hgv : (Jvm.Cond.and given_1 narrow_1).before #[Value.ref b] s = true) : ∃ adK adV : Nat → Nat, Xs adK adV (fun q => s.heap.size ≤ q) s := by
  have hs := flat_of_before _ hgv
  have hA : ∀ a : Nat, a < s.heap.size → ¬ (fun q : Nat => s.heap.size ≤ q) a := fun a h => Nat.not_le.mpr h
  obtain ⟨adK, adV, hS, hK⟩ := vk_Sof (args := #[Value.ref b]) (s := s) (N := 1) (tm := fun _ => .string "FormatMill" 106) (len := [7]) (byt := [sBy]) (A := fun q : Nat => s.heap.size ≤ q)
    (fun i hi => by rw [show i = 0 by omega]; decide)
    (fun i _ => hs _ (by decide +kernel))
    (fun i _ => hs _ (by decide +kernel))
    (fun i _ => hs _ (by decide +kernel))
    (fun i hi => by rw [show i = 0 by omega]; exact hs _ (by decide +kernel))
    (fun i hi j hj => by
      rw [show i = 0 by omega] at hj ⊢
      have hj : j < 7 := hj
      rcases (show j = 0 ∨ j = 1 ∨ j = 2 ∨ j = 3 ∨ j = 4 ∨ j = 5 ∨ j = 6 by omega) with rfl | rfl | rfl | rfl | rfl | rfl | rfl <;> exact hs _ (by decide +kernel))
    (fun i j hi hj hne => absurd (show i = j by omega) hne)
    hA
  refine ⟨adK, adV, hS, ?_, ?_⟩
  · exact va_Zof (hts (.laysStatic "java/lang/String" "COMPACT_STRINGS" "Z") (by decide +kernel)) (hts (.initialized "java/lang/String") (by decide +kernel)) (va_eqi (hs _ (by decide +kernel))) hA
  · have hst := hK 0 (by decide)
    have h1 := hts (.stringRef "FormatMill" 106 "dxXocs%") (by decide +kernel)
    refine vk_R.of (A := #[]) ?_ ?_
    · exact h1
    · rw [← hst]; rfl
set_option maxHeartbeats 16000000 in
set_option maxRecDepth 100000 in
/-- THE LAW, from its entry -/
theorem whole_start {p : Program} {e : Env} {s : State} {m : MethodId} {below : List Frame} {meth : Method} {c : Code} (l : Launch) {b L : Nat} {xs : Nat → Int32} (hL : L ≤ 384) (C0 : lw_At p s m meth c b L xs) : W p l e room_1 s m #[Value.ref b] below meth c s.heap [] 0 0 (lw_Z below #[Value.ref b] s) (entryFrame m ([Value.ref b] : List Value).toArray 4) := by
  obtain ⟨hx, hb, hr, hml, hown, hts, hXv, hbl, hlocks, hgv⟩ := id C0
  have S : CallFix p m c b_La_law 4 s #[Value.ref b] gt R_La := ⟨hx, hb, hml, hown, fun w hw => hts w (gt_tbl hw)⟩
  have htg : ∀ w ∈ gt, w.before #[Value.ref b] s = true := S.2.2.2.2
  obtain ⟨adK, adV, hXs⟩ := str_start hts hgv
  have hXn : Xn (fun _ => True) s := va_Nw.of (A := #[Value.ref b]) rfl (hts (.methodLinkNest R_Mi 9 y_Fo_init R_Mi) (List.mem_of_getElem? (i := 41) (by decide +kernel)))
  obtain ⟨c0, i0, hK0⟩ := u_known (C := R_Ro) (T := F_Ro) (N := 2) (n := 2) htg i_Ro (htg _ k_27)
  obtain ⟨c1, i1, hK1⟩ := u_known (C := R_Fo) (T := F_Fo) (N := 2) (n := 2) htg i_Fo (htg _ k_21)
  obtain ⟨c2, i2, hK2⟩ := u_known (C := R_Mi) (T := F_Mi) (N := 11) (n := 11) htg i_Mi (htg _ k_13)
  obtain ⟨c3, i3, hK3⟩ := u_known (C := R_Md) (T := F_Md) (N := 20) (n := 20) htg i_Md (htg _ k_271)
  obtain ⟨cB, hB1, hB2⟩ := arr_known (ws := gt) (htg _ k_43)
  obtain ⟨cI, hI1, hI2⟩ := arr_known (ws := gt) (htg _ k_88)
  obtain ⟨G, hKG⟩ : ∃ G : gG, gK G s := by
    refine ⟨(fun k => if k = 0 then c0 else if k = 1 then c1 else if k = 2 then c2 else c3, fun k => if k = 0 then i0 else if k = 1 then i1 else if k = 2 then i2 else i3, cB, cI), ?_, ?_⟩
    · intro k q hq
      match k, hq with
      | 0, hq => cases hq; exact hK0
      | 1, hq => cases hq; exact hK1
      | 2, hq => cases hq; exact hK2
      | 3, hq => cases hq; exact hK3
      | k + 4, hq => simp [classes] at hq
    · intro k q hq
      match k, hq with
      | 0, hq => cases hq; exact ⟨hB1, hB2⟩
      | 1, hq => cases hq; exact ⟨hI1, hI2⟩
      | k + 2, hq => simp at hq
  have hw : gW G (fun q => s.heap.size ≤ q) s [] s.heap [] := ⟨hKG, fun k q h => by simp at h, ⟨fun i j p q h => by simp at h, fun k q h => by simp at h⟩, va_S.rf, fun _ h => h⟩
  have hl := lv_entry ([.ref b]) (n := 4) (Nat.le_of_ble_eq_true rfl)
  rw [lg_entry_eq]
  generalize (lg_sl ([.ref b]) ++ List.replicate (4 - (lg_sl ([.ref b])).length) Slot.unset).toArray = ls at hl ⊢
  have hl : lv_has ls 4 [(0, .ref b)] := hl
  refine xnew (ci := 2) (fs := [.null, .null, .null, .null, .int 0, .null, .null, .int 0, .null, .int 0, .long 0]) S hw rfl i_Mi t_Mi_ok k_12 k_13 k_1 (by intro j hj; rcases (show j = 0 ∨ j = 1 ∨ j = 2 ∨ j = 3 ∨ j = 4 ∨ j = 5 ∨ j = 6 ∨ j = 7 ∨ j = 8 ∨ j = 9 ∨ j = 10 by omega) with rfl | rfl | rfl | rfl | rfl | rfl | rfl | rfl | rfl | rfl | rfl <;> rfl) (Nat.le_of_ble_eq_true rfl) (Nat.le_of_ble_eq_true rfl) d_La_law_0 (fun q0 H hw => ?_)
  have hw : gW G (fun q => s.heap.size ≤ q) s [(q0, .inr (2, [.null, .null, .null, .null, .int 0, .null, .null, .int 0, .null, .int 0, .long 0]))] H [] := hw
  refine W.widen (k := 1) (n := 11) (Nat.le_of_ble_eq_true rfl) (Nat.le_of_ble_eq_true rfl) ?_
  refine lv_dup hx hb d_La_law_3 rfl ?_
  refine zIX S hw hl.1 il_La_9 (c_Mi_init l G q0) XBn (Xn_down (A := fun _ => True) hXn) rfl ⟨rfl, rfl⟩ [0] [] [0, 1, 2, 3, 4, 5, 6, 7, 8, 9, 10, 11] rfl rfl (by decide) (As := []) (rest := [.ref q0]) rfl rfl rfl d_La_law_4 (fun u => wMi G u 0 0 (fun _ => 0) 0 (fun _ => 0) 0 (fun _ => 0) (fun _ => 0) 0 (fun _ => 0) (fun _ => 0) 0 (fun _ => 0) 0 0) (fun _ => rfl) (fun a1 H locs ha1 hw => ?_)
  have hw : gW G (fun q => s.heap.size ≤ q) s (wMi G a1 0 0 (fun _ => 0) 0 (fun _ => 0) 0 (fun _ => 0) (fun _ => 0) 0 (fun _ => 0) (fun _ => 0) 0 (fun _ => 0) 0 0) H locs := hw
  rw [← ha1]
  refine W.widen (k := 12) (n := 7847) (Nat.le_of_ble_eq_true rfl) (Nat.le_of_ble_eq_true rfl) ?_
  refine lv_astore_n (lv' := [(1, .ref (a1 0)), (0, .ref b)]) hx hb d_La_law_7 rfl hl (by decide) rfl (fun ls hl => ?_)
  refine xnew (ci := 3) (fs := [.null, .null, .null, .null, .int 0, .int 0, .int 0, .int 0, .int 0, .null, .int 0, .int 0, .int 0, .int 0, .int 0, .int 0, .int 0, .null, .int 0, .long 0]) S hw rfl i_Md t_Md_ok k_270 k_271 k_4 (by intro j hj; rcases (show j = 0 ∨ j = 1 ∨ j = 2 ∨ j = 3 ∨ j = 4 ∨ j = 5 ∨ j = 6 ∨ j = 7 ∨ j = 8 ∨ j = 9 ∨ j = 10 ∨ j = 11 ∨ j = 12 ∨ j = 13 ∨ j = 14 ∨ j = 15 ∨ j = 16 ∨ j = 17 ∨ j = 18 ∨ j = 19 by omega) with rfl | rfl | rfl | rfl | rfl | rfl | rfl | rfl | rfl | rfl | rfl | rfl | rfl | rfl | rfl | rfl | rfl | rfl | rfl | rfl <;> rfl) (Nat.le_of_ble_eq_true rfl) (Nat.le_of_ble_eq_true rfl) d_La_law_8 (fun q1 H hw => ?_)
  have hw : gW G (fun q => s.heap.size ≤ q) s (wMi G a1 0 0 (fun _ => 0) 0 (fun _ => 0) 0 (fun _ => 0) (fun _ => 0) 0 (fun _ => 0) (fun _ => 0) 0 (fun _ => 0) 0 0 ++ [(q1, .inr (3, [.null, .null, .null, .null, .int 0, .int 0, .int 0, .int 0, .int 0, .null, .int 0, .int 0, .int 0, .int 0, .int 0, .int 0, .int 0, .null, .int 0, .long 0]))]) H locs := hw
  refine W.widen (k := 13) (n := 7867) (Nat.le_of_ble_eq_true rfl) (Nat.le_of_ble_eq_true rfl) ?_
  refine lv_dup hx hb d_La_law_11 rfl ?_
  refine zIv S hw hl.1 il_La_12 (c_Md_init l G q1) rfl ⟨rfl, rfl⟩ [12] [0, 1, 2, 3, 4, 5, 6, 7, 8, 9, 10, 11] [0, 1, 2, 3, 4, 5, 6, 7, 8, 9, 10, 11, 12, 13, 14, 15, 16, 17, 18] rfl rfl (by decide) (As := []) (rest := [.ref q1]) rfl rfl rfl d_La_law_12 (fun u => wMi G a1 0 0 (fun _ => 0) 0 (fun _ => 0) 0 (fun _ => 0) (fun _ => 0) 0 (fun _ => 0) (fun _ => 0) 0 (fun _ => 0) 0 0 ++ wMd G u (fun _ => 0) (fun _ => 0) (fun _ => 0) (fun _ => 0) (fun _ => 0) (fun _ => 0) 0 0 0 0 0 0 0 0 0 0 0 0 0 0) (fun _ => rfl) (fun a2 H locs ha2 hw => ?_)
  have hw : gW G (fun q => s.heap.size ≤ q) s (wMi G a1 0 0 (fun _ => 0) 0 (fun _ => 0) 0 (fun _ => 0) (fun _ => 0) 0 (fun _ => 0) (fun _ => 0) 0 (fun _ => 0) 0 0 ++ wMd G a2 (fun _ => 0) (fun _ => 0) (fun _ => 0) (fun _ => 0) (fun _ => 0) (fun _ => 0) 0 0 0 0 0 0 0 0 0 0 0 0 0 0) H locs := hw
  rw [← ha2]
  refine W.widen (k := 19) (n := 10583) (Nat.le_of_ble_eq_true rfl) (Nat.le_of_ble_eq_true rfl) ?_
  refine lv_astore_n (lv' := [(2, .ref (a2 0)), (1, .ref (a1 0)), (0, .ref b)]) hx hb d_La_law_15 rfl hl (by decide) rfl (fun ls hl => ?_)
  refine lv_iconst (v := 0) hx hb d_La_law_16 (by decide) ?_
  refine lv_istore_n (lv' := [(3, .int 0), (2, .ref (a2 0)), (1, .ref (a1 0)), (0, .ref b)]) hx hb d_La_law_17 rfl hl (by decide) rfl (fun ls hl => ?_)
  exact law_loop hL C0 G adK adV hXs 65 0 a1 a2 0 0 (fun _ => 0) (fun _ => 0) 0 (fun _ => 0) (fun _ => 0) (fun _ => 0) (fun _ => 0) (fun _ => 0) 0 (fun _ => 0) (fun _ => 0) 0 0 0 0 0 0 0 0 0 0 0 0 0 0 (by omega) (by omega) ⟨by decide, by decide, by decide, by decide, By0, By0, By0, By0, By0, fun q hq => absurd hq (Nat.not_lt_zero _), fun j hj => rfl⟩ _ _ _ hw hl
end
section
set_option maxHeartbeats 4000000 in
theorem lw_walk (l : Launch) (b : Addr) (xs : List Int32) : MetFree l x (headSpec (Jvm.Cond.code x code maxLocals ret :: tables_1) room_1) (lw_P b xs) (fun _ _ _ _ _ => True) lw_Q := by
  refine MetFree.of_bodyS (code := code) (maxLocals := maxLocals) (ret := ret) (by decide) ?_ ?_
  · intro args s m h hn
    obtain ⟨meth, c, h1, h2, h3, h4, h5, h6, -, -⟩ := Cond.code_spec hn (atoms_spec (ws := Jvm.Cond.code x code maxLocals ret :: tables_1) h _ List.mem_cons_self)
    exact ⟨meth, c, h1, h2, h3, h4, h5, h6⟩
  · intro p e s m args below meth c s₁ B hml0 hP _
    obtain ⟨rfl, hx, hbd, hgv⟩ := hP
    obtain ⟨scr, harrAt, hlist, hof, hsmall⟩ := hx
    obtain ⟨hcb, hkn, -, -⟩ := State.arrayAt?_spec harrAt
    have hown : s.vm.findClass R_law = some m.cls := findClass_of_methodNamed B.named
    have hts0 : ∀ c ∈ (Jvm.Cond.code x code maxLocals ret :: tables_1), c.before #[Value.ref b] s = true := atoms_spec (ws := Jvm.Cond.code x code maxLocals ret :: tables_1) B.pre
    have hts : ∀ w ∈ lw_tbl, w.before #[Value.ref b] s = true := k2_hts_sels lw_privs (fun w hw => hts0 w (List.mem_cons_of_mem _ hw)) lw_privs_ok
    have hml : c.maxLocals = 4 := B.maxLocals_eq (hts0 _ List.mem_cons_self)
    have X₀ : Stand p l e room_1 s m #[Value.ref b] below meth c s₁ [] 0 0 := Stand.of_body B
    have hh0 : s₁.heap = s.heap := by rw [B.state]; rfl
    have hsz : scr.slots.size = xs.length := by rw [← Array.length_toList, hlist, List.length_map]
    have hval : ∀ j : Nat, j < xs.length → scr.slots[j]? = some (.int (xs.getD j 0)) := fun j hj => by
      rw [← Array.getElem?_toList, hlist]
      simp [hj]
    have hbl : b < s.heap.size := (Array.getElem?_eq_some_iff.mp hcb).1
    have hX : va_X b xs.length (fun j => xs.getD j 0) s s.heap := ⟨scr, hcb, hof, hkn, hsz, hval⟩
    have K : W p l e room_1 s m #[Value.ref b] below meth c s₁.heap [] 0 0 (lw_Z below #[Value.ref b] s) (entryFrame m ([Value.ref b] : List Value).toArray 4) := by
      rw [hh0]
      exact whole_start l hbd ⟨B.exec, B.bytes, B.returns, hml, hown, hts, hX, hbl, B.notSynchronized, hgv⟩
    obtain ⟨t, a1, o, b1, b2, b3⟩ := K s₁ rfl X₀
    exact ⟨t, o, a1, b1, b2, b3⟩
theorem lw_pre_spec {args : Array Value} {s : State} (h : (Jvm.Cond.and given_1 narrow_1).before args s = true) (hr : rest_1_c.before args s = true) : ∃ (b : Addr) (xs : List Int32), lw_P b xs args s := by
  have hs := flat_of_before _ h
  have hq := flat_of_before _ hr
  have hc : (Cond.count 1).before args s = true := hs _ (by decide +kernel)
  have harr : (Cond.arrayOf (.arg 0) .int).before args s = true := hs _ (by decide +kernel)
  have hle : (Cond.le (.length (.arg 0)) (.int 384)).before args s = true := hs _ (by decide +kernel)
  have hlen : (Cond.isInt (.length (.arg 0))).before args s = true := hq _ (by decide +kernel)
  have hall : (Cond.all (.arg 0) (.isInt (.elem (.arg 0) (.index 0)))).before args s = true := hq _ (by decide +kernel)
  obtain ⟨b, xs, hb, hx⟩ := State.ints_of_pre rfl harr hlen hall
  have hsm : xs.length < 2 ^ 31 := hx.choose_spec.2.2.2
  have hev : (Term.length (.arg 0)).eval args s none [] s = some (.int xs.length.toInt32) := hx.length_eval hb
  have hv := Cond.le_ints hev (show (Term.int 384).eval args s none [] s = some (.int 384) from rfl)
  have hd : xs.length.toInt32 ≤ 384 := by
    simpa [Cond.before, Cond.holds, hv] using hle
  have hN : xs.length ≤ 384 := (Int32.ofNat_le_ofNat hsm (by decide)).mp (show Int32.ofNat xs.length ≤ Int32.ofNat 384 from hd)
  exact ⟨b, xs, Cond.one_arg hc (show args[0]? = some (.ref b) from hb), hx, hN, h⟩
theorem lw_comes (l : Launch) : Comes l x (Jvm.Cond.code x code maxLocals ret :: tables_1) room_1 (fun tb e args s => Calls_1 tb e args s ∧ rest_1 tb e args s ∧ Pre_1 tb e args s)
    (fun _ _ args s o t => lw_Q args s o t) := by
  intro p e ha hc hk s m args below hf hfit hheap happ hpre
  obtain ⟨b, xs, hP⟩ := lw_pre_spec hpre.2.2 hpre.2.1
  obtain ⟨k, o, h1, h2, h3, hQ⟩ := lw_walk l b xs p e ha hc hk s m args below hf ((Spec.applies_iff_loose hf).mp happ).1 hP trivial
  exact ⟨k, o, h1, h2, h3, hQ⟩
theorem lw_frame {s t : State} {o : Outcome} {args : Array Value} (h : Framed s o t [] 600000 7302250) :
    Framed s o t (fieldLocs frame_1_writes args s ++ arrayLocs frame_1_arrays args s ++ staticLocs frame_1_statics s) 600000 7302250 := h
theorem lw_limb (L : Cond) (hL : ∀ (args : Array Value) (s t : State), L.after args s (.returned (some (.int 1))) t = true) :
    ArmFor flags0 classFile x code maxLocals ret World_1 tables_1 room_1 Calls_1 rest_1 Pre_1
      (fun tb e a s o t => postC L tb e a s o t ∧ Framed s o t (fieldLocs frame_1_writes a s ++ arrayLocs frame_1_arrays a s ++ staticLocs frame_1_statics s) 600000 7302250) := by
  intro l _ _ _ p e ha hc hk s m args below hf hfit hheap happ hpre
  obtain ⟨k, o, h1, h2, h3, rfl, hF⟩ := lw_comes l p e ha hc hk s m args below hf hfit hheap happ hpre
  exact ⟨k, _, h1, h2, h3, hL args s _, lw_frame hF⟩
theorem i_vc : Claimed_1_1 ∧ Claimed_1_2 := ⟨lw_limb limb_1_1 (fun args s t => by simp [limb_1_1, Cond.after, Cond.holds, Cond.value]), lw_limb limb_1_2 (fun args s t => Cond.after_iff.mpr (by
  first | (rw [show limb_1_2 = Cond.eq .result (.int 1) from rfl, Cond.eq_ints (x := 1) (y := 1) rfl rfl]; simp; done) | (simp [limb_1_2, Cond.value, Term.eval]; done)))⟩
end
