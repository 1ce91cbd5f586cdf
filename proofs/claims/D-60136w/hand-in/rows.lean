section
-- ===== PART A: goes FIRST, ahead of the names: the tables' words, and 'selects' of the private methods out of them =====
/-- a private method of a class that the tables say can be made, by its rows of tables_1 -/
def lw_okq (q : MethodName × Nat) : Prop := (q.1.cls ≠ "java/lang/invoke/MethodHandle" ∧ q.1.cls ≠ "java/lang/invoke/VarHandle") ∧ Cond.instantiable q.1.cls q.2 ∈ tables_1 ∧ Cond.privateMethod q.1 ∈ tables_1 ∧ Cond.instanceMethod q.1 ∈ tables_1
theorem lw_p0 : lw_okq (⟨"PairExpressions", "refused", "(I)I"⟩, 20) := ⟨⟨by decide +kernel, by decide +kernel⟩, List.mem_of_getElem? (i := 4) (by decide +kernel), List.mem_of_getElem? (i := 83) (by decide +kernel), List.mem_of_getElem? (i := 84) (by decide +kernel)⟩
theorem lw_p1 : lw_okq (⟨"PairExpressions", "link", "(II)V"⟩, 20) := ⟨⟨by decide +kernel, by decide +kernel⟩, List.mem_of_getElem? (i := 4) (by decide +kernel), List.mem_of_getElem? (i := 87) (by decide +kernel), List.mem_of_getElem? (i := 88) (by decide +kernel)⟩
theorem lw_p2 : lw_okq (⟨"PairExpressions", "bad", "(II)Z"⟩, 20) := ⟨⟨by decide +kernel, by decide +kernel⟩, List.mem_of_getElem? (i := 4) (by decide +kernel), List.mem_of_getElem? (i := 124) (by decide +kernel), List.mem_of_getElem? (i := 125) (by decide +kernel)⟩
theorem lw_p3 : lw_okq (⟨"PairExpressions", "prepare", "()V"⟩, 20) := ⟨⟨by decide +kernel, by decide +kernel⟩, List.mem_of_getElem? (i := 4) (by decide +kernel), List.mem_of_getElem? (i := 128) (by decide +kernel), List.mem_of_getElem? (i := 129) (by decide +kernel)⟩
theorem lw_p4 : lw_okq (⟨"PairExpressions", "imagesOf", "(I)I"⟩, 20) := ⟨⟨by decide +kernel, by decide +kernel⟩, List.mem_of_getElem? (i := 4) (by decide +kernel), List.mem_of_getElem? (i := 132) (by decide +kernel), List.mem_of_getElem? (i := 133) (by decide +kernel)⟩
theorem lw_p5 : lw_okq (⟨"PairExpressions", "letterOf", "(II)I"⟩, 20) := ⟨⟨by decide +kernel, by decide +kernel⟩, List.mem_of_getElem? (i := 4) (by decide +kernel), List.mem_of_getElem? (i := 136) (by decide +kernel), List.mem_of_getElem? (i := 137) (by decide +kernel)⟩
theorem lw_p6 : lw_okq (⟨"PairExpressions", "reached", "(IIII)I"⟩, 20) := ⟨⟨by decide +kernel, by decide +kernel⟩, List.mem_of_getElem? (i := 4) (by decide +kernel), List.mem_of_getElem? (i := 140) (by decide +kernel), List.mem_of_getElem? (i := 141) (by decide +kernel)⟩
theorem lw_p7 : lw_okq (⟨"PairExpressions", "behind", "(I)I"⟩, 20) := ⟨⟨by decide +kernel, by decide +kernel⟩, List.mem_of_getElem? (i := 4) (by decide +kernel), List.mem_of_getElem? (i := 144) (by decide +kernel), List.mem_of_getElem? (i := 145) (by decide +kernel)⟩
theorem lw_p8 : lw_okq (⟨"PairExpressions", "wordOf", "(II)I"⟩, 20) := ⟨⟨by decide +kernel, by decide +kernel⟩, List.mem_of_getElem? (i := 4) (by decide +kernel), List.mem_of_getElem? (i := 148) (by decide +kernel), List.mem_of_getElem? (i := 149) (by decide +kernel)⟩
theorem lw_p9 : lw_okq (⟨"PairExpressions", "sizeOf", "(I)I"⟩, 20) := ⟨⟨by decide +kernel, by decide +kernel⟩, List.mem_of_getElem? (i := 4) (by decide +kernel), List.mem_of_getElem? (i := 156) (by decide +kernel), List.mem_of_getElem? (i := 157) (by decide +kernel)⟩
theorem lw_p10 : lw_okq (⟨"PairExpressions", "having", "(I)I"⟩, 20) := ⟨⟨by decide +kernel, by decide +kernel⟩, List.mem_of_getElem? (i := 4) (by decide +kernel), List.mem_of_getElem? (i := 176) (by decide +kernel), List.mem_of_getElem? (i := 177) (by decide +kernel)⟩
theorem lw_p11 : lw_okq (⟨"PairExpressionsModel", "clear", "(I)V"⟩, 4) := ⟨⟨by decide +kernel, by decide +kernel⟩, List.mem_of_getElem? (i := 192) (by decide +kernel), List.mem_of_getElem? (i := 215) (by decide +kernel), List.mem_of_getElem? (i := 216) (by decide +kernel)⟩
theorem lw_p12 : lw_okq (⟨"PairExpressionsModel", "put", "(III)V"⟩, 4) := ⟨⟨by decide +kernel, by decide +kernel⟩, List.mem_of_getElem? (i := 192) (by decide +kernel), List.mem_of_getElem? (i := 219) (by decide +kernel), List.mem_of_getElem? (i := 220) (by decide +kernel)⟩
theorem lw_p13 : lw_okq (⟨"PairExpressionsModel", "testPair", "()I"⟩, 4) := ⟨⟨by decide +kernel, by decide +kernel⟩, List.mem_of_getElem? (i := 192) (by decide +kernel), List.mem_of_getElem? (i := 227) (by decide +kernel), List.mem_of_getElem? (i := 228) (by decide +kernel)⟩
theorem lw_p14 : lw_okq (⟨"PairExpressionsModel", "cuts", "(IIII)Z"⟩, 4) := ⟨⟨by decide +kernel, by decide +kernel⟩, List.mem_of_getElem? (i := 192) (by decide +kernel), List.mem_of_getElem? (i := 231) (by decide +kernel), List.mem_of_getElem? (i := 232) (by decide +kernel)⟩
theorem lw_p15 : lw_okq (⟨"PairExpressionsModel", "lenOf", "(I)I"⟩, 4) := ⟨⟨by decide +kernel, by decide +kernel⟩, List.mem_of_getElem? (i := 192) (by decide +kernel), List.mem_of_getElem? (i := 235) (by decide +kernel), List.mem_of_getElem? (i := 236) (by decide +kernel)⟩
def lw_privs_1 : List (MethodName × Nat) := [(⟨"PairExpressions", "refused", "(I)I"⟩, 20), (⟨"PairExpressions", "link", "(II)V"⟩, 20), (⟨"PairExpressions", "bad", "(II)Z"⟩, 20), (⟨"PairExpressions", "prepare", "()V"⟩, 20), (⟨"PairExpressions", "imagesOf", "(I)I"⟩, 20), (⟨"PairExpressions", "letterOf", "(II)I"⟩, 20), (⟨"PairExpressions", "reached", "(IIII)I"⟩, 20), (⟨"PairExpressions", "behind", "(I)I"⟩, 20), (⟨"PairExpressions", "wordOf", "(II)I"⟩, 20), (⟨"PairExpressions", "sizeOf", "(I)I"⟩, 20), (⟨"PairExpressions", "having", "(I)I"⟩, 20), (⟨"PairExpressionsModel", "clear", "(I)V"⟩, 4), (⟨"PairExpressionsModel", "put", "(III)V"⟩, 4), (⟨"PairExpressionsModel", "testPair", "()I"⟩, 4), (⟨"PairExpressionsModel", "cuts", "(IIII)Z"⟩, 4), (⟨"PairExpressionsModel", "lenOf", "(I)I"⟩, 4)]
theorem lw_r1 : ∀ q ∈ lw_privs_1, lw_okq q := List.forall_mem_cons.mpr ⟨lw_p0, List.forall_mem_cons.mpr ⟨lw_p1, List.forall_mem_cons.mpr ⟨lw_p2, List.forall_mem_cons.mpr ⟨lw_p3, List.forall_mem_cons.mpr ⟨lw_p4, List.forall_mem_cons.mpr ⟨lw_p5, List.forall_mem_cons.mpr ⟨lw_p6, List.forall_mem_cons.mpr ⟨lw_p7, List.forall_mem_cons.mpr ⟨lw_p8, List.forall_mem_cons.mpr ⟨lw_p9, List.forall_mem_cons.mpr ⟨lw_p10, List.forall_mem_cons.mpr ⟨lw_p11, List.forall_mem_cons.mpr ⟨lw_p12, List.forall_mem_cons.mpr ⟨lw_p13, List.forall_mem_cons.mpr ⟨lw_p14, List.forall_mem_cons.mpr ⟨lw_p15, fun _ h => absurd h List.not_mem_nil⟩⟩⟩⟩⟩⟩⟩⟩⟩⟩⟩⟩⟩⟩⟩⟩
theorem lw_p16 : lw_okq (⟨"PairExpressionsModel", "cutsAt", "(IIIII)Z"⟩, 4) := ⟨⟨by decide +kernel, by decide +kernel⟩, List.mem_of_getElem? (i := 192) (by decide +kernel), List.mem_of_getElem? (i := 239) (by decide +kernel), List.mem_of_getElem? (i := 240) (by decide +kernel)⟩
theorem lw_p17 : lw_okq (⟨"PairExpressionsModel", "head", "(II)I"⟩, 4) := ⟨⟨by decide +kernel, by decide +kernel⟩, List.mem_of_getElem? (i := 192) (by decide +kernel), List.mem_of_getElem? (i := 243) (by decide +kernel), List.mem_of_getElem? (i := 244) (by decide +kernel)⟩
theorem lw_p18 : lw_okq (⟨"PairExpressionsModel", "tail", "(II)I"⟩, 4) := ⟨⟨by decide +kernel, by decide +kernel⟩, List.mem_of_getElem? (i := 192) (by decide +kernel), List.mem_of_getElem? (i := 247) (by decide +kernel), List.mem_of_getElem? (i := 248) (by decide +kernel)⟩
theorem lw_p19 : lw_okq (⟨"PairExpressionsModel", "has", "(III)Z"⟩, 4) := ⟨⟨by decide +kernel, by decide +kernel⟩, List.mem_of_getElem? (i := 192) (by decide +kernel), List.mem_of_getElem? (i := 251) (by decide +kernel), List.mem_of_getElem? (i := 252) (by decide +kernel)⟩
theorem lw_p20 : lw_okq (⟨"PairExpressionsModel", "copy", "(II)V"⟩, 4) := ⟨⟨by decide +kernel, by decide +kernel⟩, List.mem_of_getElem? (i := 192) (by decide +kernel), List.mem_of_getElem? (i := 255) (by decide +kernel), List.mem_of_getElem? (i := 256) (by decide +kernel)⟩
theorem lw_p21 : lw_okq (⟨"PairExpressionsModel", "testOne", "()I"⟩, 4) := ⟨⟨by decide +kernel, by decide +kernel⟩, List.mem_of_getElem? (i := 192) (by decide +kernel), List.mem_of_getElem? (i := 267) (by decide +kernel), List.mem_of_getElem? (i := 268) (by decide +kernel)⟩
theorem lw_p22 : lw_okq (⟨"PairExpressionsModel", "isWord", "(II)Z"⟩, 4) := ⟨⟨by decide +kernel, by decide +kernel⟩, List.mem_of_getElem? (i := 192) (by decide +kernel), List.mem_of_getElem? (i := 296) (by decide +kernel), List.mem_of_getElem? (i := 297) (by decide +kernel)⟩
theorem lw_p23 : lw_okq (⟨"PairExpressionsModel", "imagesOf", "(I)I"⟩, 4) := ⟨⟨by decide +kernel, by decide +kernel⟩, List.mem_of_getElem? (i := 192) (by decide +kernel), List.mem_of_getElem? (i := 304) (by decide +kernel), List.mem_of_getElem? (i := 305) (by decide +kernel)⟩
theorem lw_p24 : lw_okq (⟨"PairExpressionsModel", "leads", "(II)Z"⟩, 4) := ⟨⟨by decide +kernel, by decide +kernel⟩, List.mem_of_getElem? (i := 192) (by decide +kernel), List.mem_of_getElem? (i := 336) (by decide +kernel), List.mem_of_getElem? (i := 337) (by decide +kernel)⟩
def lw_privs_2 : List (MethodName × Nat) := [(⟨"PairExpressionsModel", "cutsAt", "(IIIII)Z"⟩, 4), (⟨"PairExpressionsModel", "head", "(II)I"⟩, 4), (⟨"PairExpressionsModel", "tail", "(II)I"⟩, 4), (⟨"PairExpressionsModel", "has", "(III)Z"⟩, 4), (⟨"PairExpressionsModel", "copy", "(II)V"⟩, 4), (⟨"PairExpressionsModel", "testOne", "()I"⟩, 4), (⟨"PairExpressionsModel", "isWord", "(II)Z"⟩, 4), (⟨"PairExpressionsModel", "imagesOf", "(I)I"⟩, 4), (⟨"PairExpressionsModel", "leads", "(II)Z"⟩, 4)]
theorem lw_r2 : ∀ q ∈ lw_privs_2, lw_okq q := List.forall_mem_cons.mpr ⟨lw_p16, List.forall_mem_cons.mpr ⟨lw_p17, List.forall_mem_cons.mpr ⟨lw_p18, List.forall_mem_cons.mpr ⟨lw_p19, List.forall_mem_cons.mpr ⟨lw_p20, List.forall_mem_cons.mpr ⟨lw_p21, List.forall_mem_cons.mpr ⟨lw_p22, List.forall_mem_cons.mpr ⟨lw_p23, List.forall_mem_cons.mpr ⟨lw_p24, fun _ h => absurd h List.not_mem_nil⟩⟩⟩⟩⟩⟩⟩⟩⟩
def lw_privs : List (MethodName × Nat) := lw_privs_1 ++ (lw_privs_2)
def lw_tbl : List Cond := k2_sels lw_privs ++ tables_1
theorem lw_privs_ok : ∀ q ∈ lw_privs, lw_okq q := by
  show ∀ q ∈ lw_privs_1 ++ (lw_privs_2), lw_okq q
  exact List.forall_mem_append.mpr ⟨lw_r1, lw_r2⟩
end
section
def R_X : String := "PairExpressions"
def F_X : u_T := fun k => match k with
  | 0 => ("PairExpressions", "height", "I", false)
  | 1 => ("PairExpressions", "made", "I", false)
  | 2 => ("PairExpressions", "calls", "I", false)
  | 3 => ("PairExpressions", "places", "I", false)
  | 4 => ("PairExpressions", "low", "[I", true)
  | 5 => ("PairExpressions", "first", "[I", true)
  | 6 => ("PairExpressions", "last", "[I", true)
  | 7 => ("PairExpressions", "empty", "[Z", true)
  | 8 => ("PairExpressions", "leftOf", "[I", true)
  | 9 => ("PairExpressions", "rightOf", "[I", true)
  | 10 => ("PairExpressions", "follow", "[I", true)
  | 11 => ("PairExpressions", "useFirst", "I", false)
  | 12 => ("PairExpressions", "useLast", "I", false)
  | 13 => ("PairExpressions", "useEmpty", "Z", false)
  | 14 => ("PairExpressions", "useFollow", "[I", true)
  | 15 => ("PairExpressions", "fits", "[I", true)
  | 16 => ("PairExpressions", "ready", "Z", false)
  | 17 => ("PairExpressions", "row", "[I", true)
  | 18 => ("PairExpressions", "reach", "[I", true)
  | _ => ("PairExpressions", "lengthOf", "[I", true)
def t_X : Nat → FieldType := fun k => match k with
  | 0 => .int
  | 1 => .int
  | 2 => .int
  | 3 => .int
  | 4 => .array .int
  | 5 => .array .int
  | 6 => .array .int
  | 7 => .array .boolean
  | 8 => .array .int
  | 9 => .array .int
  | 10 => .array .int
  | 11 => .int
  | 12 => .int
  | 13 => .boolean
  | 14 => .array .int
  | 15 => .array .int
  | 16 => .boolean
  | 17 => .array .int
  | 18 => .array .int
  | _ => .array .int
abbrev u_X : List Cond := u_ws R_X F_X 20
def R_M : String := "PairExpressionsModel"
def F_M : u_T := fun k => match k with
  | 0 => ("PairExpressionsModel", "sets", "[I", true)
  | 1 => ("PairExpressionsModel", "depth", "I", false)
  | 2 => ("PairExpressionsModel", "steps", "I", false)
  | _ => ("PairExpressionsModel", "pushed", "I", false)
def t_M : Nat → FieldType := fun k => match k with
  | 0 => .array .int
  | 1 => .int
  | 2 => .int
  | _ => .int
abbrev u_M : List Cond := u_ws R_M F_M 4
abbrev b_X_init : ByteArray := prog_1_method_1_code
def y_X_init : MethodName := ⟨R_X, "<init>", "()V"⟩
abbrev b_X_pair : ByteArray := prog_1_method_2_code
def y_X_pair : MethodName := ⟨R_X, "pair", "(II)I"⟩
abbrev b_X_refused : ByteArray := prog_1_method_3_code
def y_X_refused : MethodName := ⟨R_X, "refused", "(I)I"⟩
abbrev b_X_link : ByteArray := prog_1_method_4_code
def y_X_link : MethodName := ⟨R_X, "link", "(II)V"⟩
abbrev b_X_cat : ByteArray := prog_1_method_5_code
def y_X_cat : MethodName := ⟨R_X, "cat", "()I"⟩
abbrev b_X_alt : ByteArray := prog_1_method_6_code
def y_X_alt : MethodName := ⟨R_X, "alt", "()I"⟩
abbrev b_X_star : ByteArray := prog_1_method_7_code
def y_X_star : MethodName := ⟨R_X, "star", "()I"⟩
abbrev b_X_turn : ByteArray := prog_1_method_8_code
def y_X_turn : MethodName := ⟨R_X, "turn", "()I"⟩
abbrev b_X_steps : ByteArray := prog_1_method_9_code
def y_X_steps : MethodName := ⟨R_X, "steps", "()I"⟩
abbrev b_X_depth : ByteArray := prog_1_method_10_code
def y_X_depth : MethodName := ⟨R_X, "depth", "()I"⟩
abbrev b_X_discard : ByteArray := prog_1_method_11_code
def y_X_discard : MethodName := ⟨R_X, "discard", "()V"⟩
abbrev b_X_define : ByteArray := prog_1_method_12_code
def y_X_define : MethodName := ⟨R_X, "define", "()I"⟩
abbrev b_X_behind : ByteArray := prog_1_method_13_code
def y_X_behind : MethodName := ⟨R_X, "behind", "(I)I"⟩
abbrev b_X_reached : ByteArray := prog_1_method_14_code
def y_X_reached : MethodName := ⟨R_X, "reached", "(IIII)I"⟩
abbrev b_X_letterOf : ByteArray := prog_1_method_15_code
def y_X_letterOf : MethodName := ⟨R_X, "letterOf", "(II)I"⟩
abbrev b_X_imagesOf : ByteArray := prog_1_method_16_code
def y_X_imagesOf : MethodName := ⟨R_X, "imagesOf", "(I)I"⟩
abbrev b_X_prepare : ByteArray := prog_1_method_17_code
def y_X_prepare : MethodName := ⟨R_X, "prepare", "()V"⟩
abbrev b_X_bad : ByteArray := prog_1_method_18_code
def y_X_bad : MethodName := ⟨R_X, "bad", "(II)Z"⟩
abbrev b_X_wordOf : ByteArray := prog_1_method_19_code
def y_X_wordOf : MethodName := ⟨R_X, "wordOf", "(II)I"⟩
abbrev b_X_sizeOf : ByteArray := prog_1_method_20_code
def y_X_sizeOf : MethodName := ⟨R_X, "sizeOf", "(I)I"⟩
abbrev b_X_related : ByteArray := prog_1_method_21_code
def y_X_related : MethodName := ⟨R_X, "related", "(IIII)Z"⟩
abbrev b_X_images : ByteArray := prog_1_method_22_code
def y_X_images : MethodName := ⟨R_X, "images", "(II)I"⟩
abbrev b_X_image : ByteArray := prog_1_method_23_code
def y_X_image : MethodName := ⟨R_X, "image", "(III)I"⟩
abbrev b_X_sources : ByteArray := prog_1_method_24_code
def y_X_sources : MethodName := ⟨R_X, "sources", "(II)I"⟩
abbrev b_X_pairs : ByteArray := prog_1_method_25_code
def y_X_pairs : MethodName := ⟨R_X, "pairs", "()I"⟩
abbrev b_X_having : ByteArray := prog_1_method_26_code
def y_X_having : MethodName := ⟨R_X, "having", "(I)I"⟩
abbrev b_X_domain : ByteArray := prog_1_method_27_code
def y_X_domain : MethodName := ⟨R_X, "domain", "()I"⟩
abbrev b_X_manyValued : ByteArray := prog_1_method_28_code
def y_X_manyValued : MethodName := ⟨R_X, "manyValued", "()I"⟩
abbrev b_X_fixed : ByteArray := prog_1_method_29_code
def y_X_fixed : MethodName := ⟨R_X, "fixed", "()I"⟩
abbrev b_X_twoSteps : ByteArray := prog_1_method_30_code
def y_X_twoSteps : MethodName := ⟨R_X, "twoSteps", "()I"⟩
abbrev b_M_init : ByteArray := prog_3_method_1_code
def y_M_init : MethodName := ⟨R_M, "<init>", "()V"⟩
abbrev b_M_lenOf : ByteArray := prog_3_method_2_code
def y_M_lenOf : MethodName := ⟨R_M, "lenOf", "(I)I"⟩
abbrev b_M_head : ByteArray := prog_3_method_3_code
def y_M_head : MethodName := ⟨R_M, "head", "(II)I"⟩
abbrev b_M_tail : ByteArray := prog_3_method_4_code
def y_M_tail : MethodName := ⟨R_M, "tail", "(II)I"⟩
abbrev b_M_has : ByteArray := prog_3_method_5_code
def y_M_has : MethodName := ⟨R_M, "has", "(III)Z"⟩
abbrev b_M_clear : ByteArray := prog_3_method_6_code
def y_M_clear : MethodName := ⟨R_M, "clear", "(I)V"⟩
abbrev b_M_copy : ByteArray := prog_3_method_7_code
def y_M_copy : MethodName := ⟨R_M, "copy", "(II)V"⟩
abbrev b_M_put : ByteArray := prog_3_method_8_code
def y_M_put : MethodName := ⟨R_M, "put", "(III)V"⟩
abbrev b_M_pair : ByteArray := prog_3_method_9_code
def y_M_pair : MethodName := ⟨R_M, "pair", "(II)I"⟩
abbrev b_M_cutsAt : ByteArray := prog_3_method_10_code
def y_M_cutsAt : MethodName := ⟨R_M, "cutsAt", "(IIIII)Z"⟩
abbrev b_M_cuts : ByteArray := prog_3_method_11_code
def y_M_cuts : MethodName := ⟨R_M, "cuts", "(IIII)Z"⟩
abbrev b_M_testPair : ByteArray := prog_3_method_12_code
def y_M_testPair : MethodName := ⟨R_M, "testPair", "()I"⟩
abbrev b_M_cat : ByteArray := prog_3_method_13_code
def y_M_cat : MethodName := ⟨R_M, "cat", "()I"⟩
abbrev b_M_alt : ByteArray := prog_3_method_14_code
def y_M_alt : MethodName := ⟨R_M, "alt", "()I"⟩
abbrev b_M_testOne : ByteArray := prog_3_method_15_code
def y_M_testOne : MethodName := ⟨R_M, "testOne", "()I"⟩
abbrev b_M_star : ByteArray := prog_3_method_16_code
def y_M_star : MethodName := ⟨R_M, "star", "()I"⟩
abbrev b_M_turn : ByteArray := prog_3_method_17_code
def y_M_turn : MethodName := ⟨R_M, "turn", "()I"⟩
abbrev b_M_steps : ByteArray := prog_3_method_18_code
def y_M_steps : MethodName := ⟨R_M, "steps", "()I"⟩
abbrev b_M_depth : ByteArray := prog_3_method_19_code
def y_M_depth : MethodName := ⟨R_M, "depth", "()I"⟩
abbrev b_M_discard : ByteArray := prog_3_method_20_code
def y_M_discard : MethodName := ⟨R_M, "discard", "()V"⟩
abbrev b_M_define : ByteArray := prog_3_method_21_code
def y_M_define : MethodName := ⟨R_M, "define", "()I"⟩
abbrev b_M_isWord : ByteArray := prog_3_method_22_code
def y_M_isWord : MethodName := ⟨R_M, "isWord", "(II)Z"⟩
abbrev b_M_related : ByteArray := prog_3_method_23_code
def y_M_related : MethodName := ⟨R_M, "related", "(IIII)Z"⟩
abbrev b_M_imagesOf : ByteArray := prog_3_method_24_code
def y_M_imagesOf : MethodName := ⟨R_M, "imagesOf", "(I)I"⟩
abbrev b_M_images : ByteArray := prog_3_method_25_code
def y_M_images : MethodName := ⟨R_M, "images", "(II)I"⟩
abbrev b_M_image : ByteArray := prog_3_method_26_code
def y_M_image : MethodName := ⟨R_M, "image", "(III)I"⟩
abbrev b_M_sources : ByteArray := prog_3_method_27_code
def y_M_sources : MethodName := ⟨R_M, "sources", "(II)I"⟩
abbrev b_M_pairs : ByteArray := prog_3_method_28_code
def y_M_pairs : MethodName := ⟨R_M, "pairs", "()I"⟩
abbrev b_M_domain : ByteArray := prog_3_method_29_code
def y_M_domain : MethodName := ⟨R_M, "domain", "()I"⟩
abbrev b_M_manyValued : ByteArray := prog_3_method_30_code
def y_M_manyValued : MethodName := ⟨R_M, "manyValued", "()I"⟩
abbrev b_M_fixed : ByteArray := prog_3_method_31_code
def y_M_fixed : MethodName := ⟨R_M, "fixed", "()I"⟩
abbrev b_M_leads : ByteArray := prog_3_method_32_code
def y_M_leads : MethodName := ⟨R_M, "leads", "(II)Z"⟩
abbrev b_M_twoSteps : ByteArray := prog_3_method_33_code
def y_M_twoSteps : MethodName := ⟨R_M, "twoSteps", "()I"⟩
abbrev classes : List vw_C := [(R_X, F_X, 20), (R_M, F_M, 4)]
def wX : List Cond := [.initialized R_X,
  .methodLink R_X 1 objectInit,
  .instanceMethod objectInit,
  .code objectInit ⟨#[0xb1]⟩ 1 none,
  .arrayClass .int,
  .arrayClass .boolean,
  .fieldLink R_X 7 R_X "low" "[I",
  .fieldLink R_X 13 R_X "first" "[I",
  .fieldLink R_X 16 R_X "last" "[I",
  .fieldLink R_X 19 R_X "empty" "[Z",
  .fieldLink R_X 23 R_X "leftOf" "[I",
  .fieldLink R_X 26 R_X "rightOf" "[I",
  .fieldLink R_X 29 R_X "follow" "[I",
  .fieldLink R_X 32 R_X "useFollow" "[I",
  .fieldLink R_X 35 R_X "fits" "[I",
  .fieldLink R_X 38 R_X "row" "[I",
  .fieldLink R_X 41 R_X "reach" "[I",
  .fieldLink R_X 44 R_X "lengthOf" "[I",
  .fieldLink R_X 47 R_X "made" "I",
  .fieldLink R_X 51 R_X "height" "I",
  .fieldLink R_X 54 R_X "calls" "I",
  .fieldLink R_X 57 R_X "places" "I",
  .fieldLink R_X 68 R_X "useFirst" "I",
  .fieldLink R_X 71 R_X "useLast" "I",
  .fieldLink R_X 74 R_X "useEmpty" "Z",
  .fieldLink R_X 81 R_X "ready" "Z",
  .lays R_X R_X "height" "I",
  .lays R_X R_X "made" "I",
  .lays R_X R_X "calls" "I",
  .lays R_X R_X "places" "I",
  .laysFinal R_X R_X "low" "[I",
  .laysFinal R_X R_X "first" "[I",
  .laysFinal R_X R_X "last" "[I",
  .laysFinal R_X R_X "empty" "[Z",
  .laysFinal R_X R_X "leftOf" "[I",
  .laysFinal R_X R_X "rightOf" "[I",
  .laysFinal R_X R_X "follow" "[I",
  .lays R_X R_X "useFirst" "I",
  .lays R_X R_X "useLast" "I",
  .lays R_X R_X "useEmpty" "Z",
  .laysFinal R_X R_X "useFollow" "[I",
  .laysFinal R_X R_X "fits" "[I",
  .lays R_X R_X "ready" "Z",
  .laysFinal R_X R_X "row" "[I",
  .laysFinal R_X R_X "reach" "[I",
  .laysFinal R_X R_X "lengthOf" "[I",
  .methodLink R_X 98 y_X_bad,
  .instanceMethod y_X_bad,
  .selects R_X y_X_bad y_X_bad,
  .code y_X_bad b_X_bad 3 (some .boolean),
  .methodLink R_X 84 y_X_behind,
  .instanceMethod y_X_behind,
  .selects R_X y_X_behind y_X_behind,
  .code y_X_behind b_X_behind 4 (some .int),
  .methodLink R_X 78 y_X_discard,
  .instanceMethod y_X_discard,
  .selects R_X y_X_discard y_X_discard,
  .code y_X_discard b_X_discard 1 none,
  .methodLink R_X 111 y_X_having,
  .instanceMethod y_X_having,
  .selects R_X y_X_having y_X_having,
  .code y_X_having b_X_having 5 (some .int),
  .methodLink R_X 95 y_X_imagesOf,
  .instanceMethod y_X_imagesOf,
  .selects R_X y_X_imagesOf y_X_imagesOf,
  .code y_X_imagesOf b_X_imagesOf 9 (some .int),
  .methodLink R_X 87 y_X_letterOf,
  .instanceMethod y_X_letterOf,
  .selects R_X y_X_letterOf y_X_letterOf,
  .code y_X_letterOf b_X_letterOf 4 (some .int),
  .methodLink R_X 64 y_X_link,
  .instanceMethod y_X_link,
  .selects R_X y_X_link y_X_link,
  .code y_X_link b_X_link 4 none,
  .methodLink R_X 102 y_X_prepare,
  .instanceMethod y_X_prepare,
  .selects R_X y_X_prepare y_X_prepare,
  .code y_X_prepare b_X_prepare 2 none,
  .methodLink R_X 91 y_X_reached,
  .instanceMethod y_X_reached,
  .selects R_X y_X_reached y_X_reached,
  .code y_X_reached b_X_reached 9 (some .int),
  .methodLink R_X 60 y_X_refused,
  .instanceMethod y_X_refused,
  .selects R_X y_X_refused y_X_refused,
  .code y_X_refused b_X_refused 2 (some .int),
  .methodLink R_X 108 y_X_sizeOf,
  .instanceMethod y_X_sizeOf,
  .selects R_X y_X_sizeOf y_X_sizeOf,
  .code y_X_sizeOf b_X_sizeOf 4 (some .int),
  .methodLink R_X 105 y_X_wordOf,
  .instanceMethod y_X_wordOf,
  .selects R_X y_X_wordOf y_X_wordOf,
  .code y_X_wordOf b_X_wordOf 3 (some .int)]
theorem n_X : ∀ a, a < 20 → ∀ b, b < 20 → a ≠ b → (F_X a).2.1 ≠ (F_X b).2.1 := by decide +kernel
theorem t_X_ok : ∀ k, k < 20 → parseFieldDescriptor (F_X k).2.2.1 = some (t_X k) := by decide +kernel
theorem i_X : ∀ w ∈ u_X, w ∈ wX := by decide +kernel
theorem kX_init : (.initialized R_X : Cond) ∈ wX := List.mem_of_getElem? (i := 0) rfl
theorem kX_ml_1 : (.methodLink R_X 1 objectInit : Cond) ∈ wX := List.mem_of_getElem? (i := 1) rfl
theorem kX_imo : (.instanceMethod objectInit : Cond) ∈ wX := List.mem_of_getElem? (i := 2) rfl
theorem kX_codeo : (.code objectInit ⟨#[0xb1]⟩ 1 none : Cond) ∈ wX := List.mem_of_getElem? (i := 3) rfl
theorem kX_ac_I : (.arrayClass .int : Cond) ∈ wX := List.mem_of_getElem? (i := 4) rfl
theorem kX_ac_Z : (.arrayClass .boolean : Cond) ∈ wX := List.mem_of_getElem? (i := 5) rfl
theorem kX_fl_low : (.fieldLink R_X 7 R_X "low" "[I" : Cond) ∈ wX := List.mem_of_getElem? (i := 6) rfl
theorem kX_fl_first : (.fieldLink R_X 13 R_X "first" "[I" : Cond) ∈ wX := List.mem_of_getElem? (i := 7) rfl
theorem kX_fl_last : (.fieldLink R_X 16 R_X "last" "[I" : Cond) ∈ wX := List.mem_of_getElem? (i := 8) rfl
theorem kX_fl_empty : (.fieldLink R_X 19 R_X "empty" "[Z" : Cond) ∈ wX := List.mem_of_getElem? (i := 9) rfl
theorem kX_fl_leftOf : (.fieldLink R_X 23 R_X "leftOf" "[I" : Cond) ∈ wX := List.mem_of_getElem? (i := 10) rfl
theorem kX_fl_rightOf : (.fieldLink R_X 26 R_X "rightOf" "[I" : Cond) ∈ wX := List.mem_of_getElem? (i := 11) rfl
theorem kX_fl_follow : (.fieldLink R_X 29 R_X "follow" "[I" : Cond) ∈ wX := List.mem_of_getElem? (i := 12) rfl
theorem kX_fl_useFollow : (.fieldLink R_X 32 R_X "useFollow" "[I" : Cond) ∈ wX := List.mem_of_getElem? (i := 13) rfl
theorem kX_fl_fits : (.fieldLink R_X 35 R_X "fits" "[I" : Cond) ∈ wX := List.mem_of_getElem? (i := 14) rfl
theorem kX_fl_row : (.fieldLink R_X 38 R_X "row" "[I" : Cond) ∈ wX := List.mem_of_getElem? (i := 15) rfl
theorem kX_fl_reach : (.fieldLink R_X 41 R_X "reach" "[I" : Cond) ∈ wX := List.mem_of_getElem? (i := 16) rfl
theorem kX_fl_lengthOf : (.fieldLink R_X 44 R_X "lengthOf" "[I" : Cond) ∈ wX := List.mem_of_getElem? (i := 17) rfl
theorem kX_fl_made : (.fieldLink R_X 47 R_X "made" "I" : Cond) ∈ wX := List.mem_of_getElem? (i := 18) rfl
theorem kX_fl_height : (.fieldLink R_X 51 R_X "height" "I" : Cond) ∈ wX := List.mem_of_getElem? (i := 19) rfl
theorem kX_fl_calls : (.fieldLink R_X 54 R_X "calls" "I" : Cond) ∈ wX := List.mem_of_getElem? (i := 20) rfl
theorem kX_fl_places : (.fieldLink R_X 57 R_X "places" "I" : Cond) ∈ wX := List.mem_of_getElem? (i := 21) rfl
theorem kX_fl_useFirst : (.fieldLink R_X 68 R_X "useFirst" "I" : Cond) ∈ wX := List.mem_of_getElem? (i := 22) rfl
theorem kX_fl_useLast : (.fieldLink R_X 71 R_X "useLast" "I" : Cond) ∈ wX := List.mem_of_getElem? (i := 23) rfl
theorem kX_fl_useEmpty : (.fieldLink R_X 74 R_X "useEmpty" "Z" : Cond) ∈ wX := List.mem_of_getElem? (i := 24) rfl
theorem kX_fl_ready : (.fieldLink R_X 81 R_X "ready" "Z" : Cond) ∈ wX := List.mem_of_getElem? (i := 25) rfl
theorem kX_ly_height : (.lays R_X R_X "height" "I" : Cond) ∈ wX := List.mem_of_getElem? (i := 26) rfl
theorem kX_ly_made : (.lays R_X R_X "made" "I" : Cond) ∈ wX := List.mem_of_getElem? (i := 27) rfl
theorem kX_ly_calls : (.lays R_X R_X "calls" "I" : Cond) ∈ wX := List.mem_of_getElem? (i := 28) rfl
theorem kX_ly_places : (.lays R_X R_X "places" "I" : Cond) ∈ wX := List.mem_of_getElem? (i := 29) rfl
theorem kX_ly_low : (.laysFinal R_X R_X "low" "[I" : Cond) ∈ wX := List.mem_of_getElem? (i := 30) rfl
theorem kX_ly_first : (.laysFinal R_X R_X "first" "[I" : Cond) ∈ wX := List.mem_of_getElem? (i := 31) rfl
theorem kX_ly_last : (.laysFinal R_X R_X "last" "[I" : Cond) ∈ wX := List.mem_of_getElem? (i := 32) rfl
theorem kX_ly_empty : (.laysFinal R_X R_X "empty" "[Z" : Cond) ∈ wX := List.mem_of_getElem? (i := 33) rfl
theorem kX_ly_leftOf : (.laysFinal R_X R_X "leftOf" "[I" : Cond) ∈ wX := List.mem_of_getElem? (i := 34) rfl
theorem kX_ly_rightOf : (.laysFinal R_X R_X "rightOf" "[I" : Cond) ∈ wX := List.mem_of_getElem? (i := 35) rfl
theorem kX_ly_follow : (.laysFinal R_X R_X "follow" "[I" : Cond) ∈ wX := List.mem_of_getElem? (i := 36) rfl
theorem kX_ly_useFirst : (.lays R_X R_X "useFirst" "I" : Cond) ∈ wX := List.mem_of_getElem? (i := 37) rfl
theorem kX_ly_useLast : (.lays R_X R_X "useLast" "I" : Cond) ∈ wX := List.mem_of_getElem? (i := 38) rfl
theorem kX_ly_useEmpty : (.lays R_X R_X "useEmpty" "Z" : Cond) ∈ wX := List.mem_of_getElem? (i := 39) rfl
theorem kX_ly_useFollow : (.laysFinal R_X R_X "useFollow" "[I" : Cond) ∈ wX := List.mem_of_getElem? (i := 40) rfl
theorem kX_ly_fits : (.laysFinal R_X R_X "fits" "[I" : Cond) ∈ wX := List.mem_of_getElem? (i := 41) rfl
theorem kX_ly_ready : (.lays R_X R_X "ready" "Z" : Cond) ∈ wX := List.mem_of_getElem? (i := 42) rfl
theorem kX_ly_row : (.laysFinal R_X R_X "row" "[I" : Cond) ∈ wX := List.mem_of_getElem? (i := 43) rfl
theorem kX_ly_reach : (.laysFinal R_X R_X "reach" "[I" : Cond) ∈ wX := List.mem_of_getElem? (i := 44) rfl
theorem kX_ly_lengthOf : (.laysFinal R_X R_X "lengthOf" "[I" : Cond) ∈ wX := List.mem_of_getElem? (i := 45) rfl
theorem kX_ml_bad : (.methodLink R_X 98 y_X_bad : Cond) ∈ wX := List.mem_of_getElem? (i := 46) rfl
theorem kX_im_bad : (.instanceMethod y_X_bad : Cond) ∈ wX := List.mem_of_getElem? (i := 47) rfl
theorem kX_se_bad : (.selects R_X y_X_bad y_X_bad : Cond) ∈ wX := List.mem_of_getElem? (i := 48) rfl
theorem kX_cd_bad : (.code y_X_bad b_X_bad 3 (some .boolean) : Cond) ∈ wX := List.mem_of_getElem? (i := 49) rfl
theorem kX_ml_behind : (.methodLink R_X 84 y_X_behind : Cond) ∈ wX := List.mem_of_getElem? (i := 50) rfl
theorem kX_im_behind : (.instanceMethod y_X_behind : Cond) ∈ wX := List.mem_of_getElem? (i := 51) rfl
theorem kX_se_behind : (.selects R_X y_X_behind y_X_behind : Cond) ∈ wX := List.mem_of_getElem? (i := 52) rfl
theorem kX_cd_behind : (.code y_X_behind b_X_behind 4 (some .int) : Cond) ∈ wX := List.mem_of_getElem? (i := 53) rfl
theorem kX_ml_discard : (.methodLink R_X 78 y_X_discard : Cond) ∈ wX := List.mem_of_getElem? (i := 54) rfl
theorem kX_im_discard : (.instanceMethod y_X_discard : Cond) ∈ wX := List.mem_of_getElem? (i := 55) rfl
theorem kX_se_discard : (.selects R_X y_X_discard y_X_discard : Cond) ∈ wX := List.mem_of_getElem? (i := 56) rfl
theorem kX_cd_discard : (.code y_X_discard b_X_discard 1 none : Cond) ∈ wX := List.mem_of_getElem? (i := 57) rfl
theorem kX_ml_having : (.methodLink R_X 111 y_X_having : Cond) ∈ wX := List.mem_of_getElem? (i := 58) rfl
theorem kX_im_having : (.instanceMethod y_X_having : Cond) ∈ wX := List.mem_of_getElem? (i := 59) rfl
theorem kX_se_having : (.selects R_X y_X_having y_X_having : Cond) ∈ wX := List.mem_of_getElem? (i := 60) rfl
theorem kX_cd_having : (.code y_X_having b_X_having 5 (some .int) : Cond) ∈ wX := List.mem_of_getElem? (i := 61) rfl
theorem kX_ml_imagesOf : (.methodLink R_X 95 y_X_imagesOf : Cond) ∈ wX := List.mem_of_getElem? (i := 62) rfl
theorem kX_im_imagesOf : (.instanceMethod y_X_imagesOf : Cond) ∈ wX := List.mem_of_getElem? (i := 63) rfl
theorem kX_se_imagesOf : (.selects R_X y_X_imagesOf y_X_imagesOf : Cond) ∈ wX := List.mem_of_getElem? (i := 64) rfl
theorem kX_cd_imagesOf : (.code y_X_imagesOf b_X_imagesOf 9 (some .int) : Cond) ∈ wX := List.mem_of_getElem? (i := 65) rfl
theorem kX_ml_letterOf : (.methodLink R_X 87 y_X_letterOf : Cond) ∈ wX := List.mem_of_getElem? (i := 66) rfl
theorem kX_im_letterOf : (.instanceMethod y_X_letterOf : Cond) ∈ wX := List.mem_of_getElem? (i := 67) rfl
theorem kX_se_letterOf : (.selects R_X y_X_letterOf y_X_letterOf : Cond) ∈ wX := List.mem_of_getElem? (i := 68) rfl
theorem kX_cd_letterOf : (.code y_X_letterOf b_X_letterOf 4 (some .int) : Cond) ∈ wX := List.mem_of_getElem? (i := 69) rfl
theorem kX_ml_link : (.methodLink R_X 64 y_X_link : Cond) ∈ wX := List.mem_of_getElem? (i := 70) rfl
theorem kX_im_link : (.instanceMethod y_X_link : Cond) ∈ wX := List.mem_of_getElem? (i := 71) rfl
theorem kX_se_link : (.selects R_X y_X_link y_X_link : Cond) ∈ wX := List.mem_of_getElem? (i := 72) rfl
theorem kX_cd_link : (.code y_X_link b_X_link 4 none : Cond) ∈ wX := List.mem_of_getElem? (i := 73) rfl
theorem kX_ml_prepare : (.methodLink R_X 102 y_X_prepare : Cond) ∈ wX := List.mem_of_getElem? (i := 74) rfl
theorem kX_im_prepare : (.instanceMethod y_X_prepare : Cond) ∈ wX := List.mem_of_getElem? (i := 75) rfl
theorem kX_se_prepare : (.selects R_X y_X_prepare y_X_prepare : Cond) ∈ wX := List.mem_of_getElem? (i := 76) rfl
theorem kX_cd_prepare : (.code y_X_prepare b_X_prepare 2 none : Cond) ∈ wX := List.mem_of_getElem? (i := 77) rfl
theorem kX_ml_reached : (.methodLink R_X 91 y_X_reached : Cond) ∈ wX := List.mem_of_getElem? (i := 78) rfl
theorem kX_im_reached : (.instanceMethod y_X_reached : Cond) ∈ wX := List.mem_of_getElem? (i := 79) rfl
theorem kX_se_reached : (.selects R_X y_X_reached y_X_reached : Cond) ∈ wX := List.mem_of_getElem? (i := 80) rfl
theorem kX_cd_reached : (.code y_X_reached b_X_reached 9 (some .int) : Cond) ∈ wX := List.mem_of_getElem? (i := 81) rfl
theorem kX_ml_refused : (.methodLink R_X 60 y_X_refused : Cond) ∈ wX := List.mem_of_getElem? (i := 82) rfl
theorem kX_im_refused : (.instanceMethod y_X_refused : Cond) ∈ wX := List.mem_of_getElem? (i := 83) rfl
theorem kX_se_refused : (.selects R_X y_X_refused y_X_refused : Cond) ∈ wX := List.mem_of_getElem? (i := 84) rfl
theorem kX_cd_refused : (.code y_X_refused b_X_refused 2 (some .int) : Cond) ∈ wX := List.mem_of_getElem? (i := 85) rfl
theorem kX_ml_sizeOf : (.methodLink R_X 108 y_X_sizeOf : Cond) ∈ wX := List.mem_of_getElem? (i := 86) rfl
theorem kX_im_sizeOf : (.instanceMethod y_X_sizeOf : Cond) ∈ wX := List.mem_of_getElem? (i := 87) rfl
theorem kX_se_sizeOf : (.selects R_X y_X_sizeOf y_X_sizeOf : Cond) ∈ wX := List.mem_of_getElem? (i := 88) rfl
theorem kX_cd_sizeOf : (.code y_X_sizeOf b_X_sizeOf 4 (some .int) : Cond) ∈ wX := List.mem_of_getElem? (i := 89) rfl
theorem kX_ml_wordOf : (.methodLink R_X 105 y_X_wordOf : Cond) ∈ wX := List.mem_of_getElem? (i := 90) rfl
theorem kX_im_wordOf : (.instanceMethod y_X_wordOf : Cond) ∈ wX := List.mem_of_getElem? (i := 91) rfl
theorem kX_se_wordOf : (.selects R_X y_X_wordOf y_X_wordOf : Cond) ∈ wX := List.mem_of_getElem? (i := 92) rfl
theorem kX_cd_wordOf : (.code y_X_wordOf b_X_wordOf 3 (some .int) : Cond) ∈ wX := List.mem_of_getElem? (i := 93) rfl
theorem gd_X : wX.all (fun w => k2_isCode w || goodWord w) = true := by decide +kernel
theorem g_X : GoodIn wX wX := fun w h => ⟨h, by
  have h1 := List.all_eq_true.mp gd_X w h
  cases w <;> first | exact Or.inr ⟨_, rfl⟩ | exact Or.inl rfl | (exact Or.inl (by simpa [k2_isCode, goodWord] using h1))⟩
def wM : List Cond := [.initialized R_M,
  .methodLink R_M 1 objectInit,
  .instanceMethod objectInit,
  .code objectInit ⟨#[0xb1]⟩ 1 none,
  .arrayClass .int,
  .fieldLink R_M 7 R_M "sets" "[I",
  .fieldLink R_M 17 R_M "steps" "I",
  .fieldLink R_M 21 R_M "depth" "I",
  .fieldLink R_M 24 R_M "pushed" "I",
  .laysFinal R_M R_M "sets" "[I",
  .lays R_M R_M "depth" "I",
  .lays R_M R_M "steps" "I",
  .lays R_M R_M "pushed" "I",
  .methodLink R_M 27 y_M_clear,
  .instanceMethod y_M_clear,
  .selects R_M y_M_clear y_M_clear,
  .code y_M_clear b_M_clear 3 none,
  .methodLink R_M 58 y_M_copy,
  .instanceMethod y_M_copy,
  .selects R_M y_M_copy y_M_copy,
  .code y_M_copy b_M_copy 4 none,
  .methodLink R_M 54 y_M_cuts,
  .instanceMethod y_M_cuts,
  .selects R_M y_M_cuts y_M_cuts,
  .code y_M_cuts b_M_cuts 7 (some .boolean),
  .methodLink R_M 46 y_M_cutsAt,
  .instanceMethod y_M_cutsAt,
  .selects R_M y_M_cutsAt y_M_cutsAt,
  .code y_M_cutsAt b_M_cutsAt 13 (some .boolean),
  .methodLink R_M 65 y_M_discard,
  .instanceMethod y_M_discard,
  .selects R_M y_M_discard y_M_discard,
  .code y_M_discard b_M_discard 1 none,
  .methodLink R_M 42 y_M_has,
  .instanceMethod y_M_has,
  .selects R_M y_M_has y_M_has,
  .code y_M_has b_M_has 4 (some .boolean),
  .methodLink R_M 35 y_M_head,
  .instanceMethod y_M_head,
  .selects R_M y_M_head y_M_head,
  .code y_M_head b_M_head 5 (some .int),
  .methodLink R_M 72 y_M_imagesOf,
  .instanceMethod y_M_imagesOf,
  .selects R_M y_M_imagesOf y_M_imagesOf,
  .code y_M_imagesOf b_M_imagesOf 4 (some .int),
  .methodLink R_M 68 y_M_isWord,
  .instanceMethod y_M_isWord,
  .selects R_M y_M_isWord y_M_isWord,
  .code y_M_isWord b_M_isWord 3 (some .boolean),
  .methodLink R_M 75 y_M_leads,
  .instanceMethod y_M_leads,
  .selects R_M y_M_leads y_M_leads,
  .code y_M_leads b_M_leads 4 (some .boolean),
  .methodLink R_M 13 y_M_lenOf,
  .instanceMethod y_M_lenOf,
  .selects R_M y_M_lenOf y_M_lenOf,
  .code y_M_lenOf b_M_lenOf 3 (some .int),
  .methodLink R_M 31 y_M_put,
  .instanceMethod y_M_put,
  .selects R_M y_M_put y_M_put,
  .code y_M_put b_M_put 4 none,
  .methodLink R_M 39 y_M_tail,
  .instanceMethod y_M_tail,
  .selects R_M y_M_tail y_M_tail,
  .code y_M_tail b_M_tail 6 (some .int),
  .methodLink R_M 62 y_M_testOne,
  .instanceMethod y_M_testOne,
  .selects R_M y_M_testOne y_M_testOne,
  .code y_M_testOne b_M_testOne 1 (some .int),
  .methodLink R_M 50 y_M_testPair,
  .instanceMethod y_M_testPair,
  .selects R_M y_M_testPair y_M_testPair,
  .code y_M_testPair b_M_testPair 1 (some .int)]
theorem n_M : ∀ a, a < 4 → ∀ b, b < 4 → a ≠ b → (F_M a).2.1 ≠ (F_M b).2.1 := by decide +kernel
theorem t_M_ok : ∀ k, k < 4 → parseFieldDescriptor (F_M k).2.2.1 = some (t_M k) := by decide +kernel
theorem i_M : ∀ w ∈ u_M, w ∈ wM := by decide +kernel
theorem kM_init : (.initialized R_M : Cond) ∈ wM := List.mem_of_getElem? (i := 0) rfl
theorem kM_ml_1 : (.methodLink R_M 1 objectInit : Cond) ∈ wM := List.mem_of_getElem? (i := 1) rfl
theorem kM_imo : (.instanceMethod objectInit : Cond) ∈ wM := List.mem_of_getElem? (i := 2) rfl
theorem kM_codeo : (.code objectInit ⟨#[0xb1]⟩ 1 none : Cond) ∈ wM := List.mem_of_getElem? (i := 3) rfl
theorem kM_ac_I : (.arrayClass .int : Cond) ∈ wM := List.mem_of_getElem? (i := 4) rfl
theorem kM_fl_sets : (.fieldLink R_M 7 R_M "sets" "[I" : Cond) ∈ wM := List.mem_of_getElem? (i := 5) rfl
theorem kM_fl_steps : (.fieldLink R_M 17 R_M "steps" "I" : Cond) ∈ wM := List.mem_of_getElem? (i := 6) rfl
theorem kM_fl_depth : (.fieldLink R_M 21 R_M "depth" "I" : Cond) ∈ wM := List.mem_of_getElem? (i := 7) rfl
theorem kM_fl_pushed : (.fieldLink R_M 24 R_M "pushed" "I" : Cond) ∈ wM := List.mem_of_getElem? (i := 8) rfl
theorem kM_ly_sets : (.laysFinal R_M R_M "sets" "[I" : Cond) ∈ wM := List.mem_of_getElem? (i := 9) rfl
theorem kM_ly_depth : (.lays R_M R_M "depth" "I" : Cond) ∈ wM := List.mem_of_getElem? (i := 10) rfl
theorem kM_ly_steps : (.lays R_M R_M "steps" "I" : Cond) ∈ wM := List.mem_of_getElem? (i := 11) rfl
theorem kM_ly_pushed : (.lays R_M R_M "pushed" "I" : Cond) ∈ wM := List.mem_of_getElem? (i := 12) rfl
theorem kM_ml_clear : (.methodLink R_M 27 y_M_clear : Cond) ∈ wM := List.mem_of_getElem? (i := 13) rfl
theorem kM_im_clear : (.instanceMethod y_M_clear : Cond) ∈ wM := List.mem_of_getElem? (i := 14) rfl
theorem kM_se_clear : (.selects R_M y_M_clear y_M_clear : Cond) ∈ wM := List.mem_of_getElem? (i := 15) rfl
theorem kM_cd_clear : (.code y_M_clear b_M_clear 3 none : Cond) ∈ wM := List.mem_of_getElem? (i := 16) rfl
theorem kM_ml_copy : (.methodLink R_M 58 y_M_copy : Cond) ∈ wM := List.mem_of_getElem? (i := 17) rfl
theorem kM_im_copy : (.instanceMethod y_M_copy : Cond) ∈ wM := List.mem_of_getElem? (i := 18) rfl
theorem kM_se_copy : (.selects R_M y_M_copy y_M_copy : Cond) ∈ wM := List.mem_of_getElem? (i := 19) rfl
theorem kM_cd_copy : (.code y_M_copy b_M_copy 4 none : Cond) ∈ wM := List.mem_of_getElem? (i := 20) rfl
theorem kM_ml_cuts : (.methodLink R_M 54 y_M_cuts : Cond) ∈ wM := List.mem_of_getElem? (i := 21) rfl
theorem kM_im_cuts : (.instanceMethod y_M_cuts : Cond) ∈ wM := List.mem_of_getElem? (i := 22) rfl
theorem kM_se_cuts : (.selects R_M y_M_cuts y_M_cuts : Cond) ∈ wM := List.mem_of_getElem? (i := 23) rfl
theorem kM_cd_cuts : (.code y_M_cuts b_M_cuts 7 (some .boolean) : Cond) ∈ wM := List.mem_of_getElem? (i := 24) rfl
theorem kM_ml_cutsAt : (.methodLink R_M 46 y_M_cutsAt : Cond) ∈ wM := List.mem_of_getElem? (i := 25) rfl
theorem kM_im_cutsAt : (.instanceMethod y_M_cutsAt : Cond) ∈ wM := List.mem_of_getElem? (i := 26) rfl
theorem kM_se_cutsAt : (.selects R_M y_M_cutsAt y_M_cutsAt : Cond) ∈ wM := List.mem_of_getElem? (i := 27) rfl
theorem kM_cd_cutsAt : (.code y_M_cutsAt b_M_cutsAt 13 (some .boolean) : Cond) ∈ wM := List.mem_of_getElem? (i := 28) rfl
theorem kM_ml_discard : (.methodLink R_M 65 y_M_discard : Cond) ∈ wM := List.mem_of_getElem? (i := 29) rfl
theorem kM_im_discard : (.instanceMethod y_M_discard : Cond) ∈ wM := List.mem_of_getElem? (i := 30) rfl
theorem kM_se_discard : (.selects R_M y_M_discard y_M_discard : Cond) ∈ wM := List.mem_of_getElem? (i := 31) rfl
theorem kM_cd_discard : (.code y_M_discard b_M_discard 1 none : Cond) ∈ wM := List.mem_of_getElem? (i := 32) rfl
theorem kM_ml_has : (.methodLink R_M 42 y_M_has : Cond) ∈ wM := List.mem_of_getElem? (i := 33) rfl
theorem kM_im_has : (.instanceMethod y_M_has : Cond) ∈ wM := List.mem_of_getElem? (i := 34) rfl
theorem kM_se_has : (.selects R_M y_M_has y_M_has : Cond) ∈ wM := List.mem_of_getElem? (i := 35) rfl
theorem kM_cd_has : (.code y_M_has b_M_has 4 (some .boolean) : Cond) ∈ wM := List.mem_of_getElem? (i := 36) rfl
theorem kM_ml_head : (.methodLink R_M 35 y_M_head : Cond) ∈ wM := List.mem_of_getElem? (i := 37) rfl
theorem kM_im_head : (.instanceMethod y_M_head : Cond) ∈ wM := List.mem_of_getElem? (i := 38) rfl
theorem kM_se_head : (.selects R_M y_M_head y_M_head : Cond) ∈ wM := List.mem_of_getElem? (i := 39) rfl
theorem kM_cd_head : (.code y_M_head b_M_head 5 (some .int) : Cond) ∈ wM := List.mem_of_getElem? (i := 40) rfl
theorem kM_ml_imagesOf : (.methodLink R_M 72 y_M_imagesOf : Cond) ∈ wM := List.mem_of_getElem? (i := 41) rfl
theorem kM_im_imagesOf : (.instanceMethod y_M_imagesOf : Cond) ∈ wM := List.mem_of_getElem? (i := 42) rfl
theorem kM_se_imagesOf : (.selects R_M y_M_imagesOf y_M_imagesOf : Cond) ∈ wM := List.mem_of_getElem? (i := 43) rfl
theorem kM_cd_imagesOf : (.code y_M_imagesOf b_M_imagesOf 4 (some .int) : Cond) ∈ wM := List.mem_of_getElem? (i := 44) rfl
theorem kM_ml_isWord : (.methodLink R_M 68 y_M_isWord : Cond) ∈ wM := List.mem_of_getElem? (i := 45) rfl
theorem kM_im_isWord : (.instanceMethod y_M_isWord : Cond) ∈ wM := List.mem_of_getElem? (i := 46) rfl
theorem kM_se_isWord : (.selects R_M y_M_isWord y_M_isWord : Cond) ∈ wM := List.mem_of_getElem? (i := 47) rfl
theorem kM_cd_isWord : (.code y_M_isWord b_M_isWord 3 (some .boolean) : Cond) ∈ wM := List.mem_of_getElem? (i := 48) rfl
theorem kM_ml_leads : (.methodLink R_M 75 y_M_leads : Cond) ∈ wM := List.mem_of_getElem? (i := 49) rfl
theorem kM_im_leads : (.instanceMethod y_M_leads : Cond) ∈ wM := List.mem_of_getElem? (i := 50) rfl
theorem kM_se_leads : (.selects R_M y_M_leads y_M_leads : Cond) ∈ wM := List.mem_of_getElem? (i := 51) rfl
theorem kM_cd_leads : (.code y_M_leads b_M_leads 4 (some .boolean) : Cond) ∈ wM := List.mem_of_getElem? (i := 52) rfl
theorem kM_ml_lenOf : (.methodLink R_M 13 y_M_lenOf : Cond) ∈ wM := List.mem_of_getElem? (i := 53) rfl
theorem kM_im_lenOf : (.instanceMethod y_M_lenOf : Cond) ∈ wM := List.mem_of_getElem? (i := 54) rfl
theorem kM_se_lenOf : (.selects R_M y_M_lenOf y_M_lenOf : Cond) ∈ wM := List.mem_of_getElem? (i := 55) rfl
theorem kM_cd_lenOf : (.code y_M_lenOf b_M_lenOf 3 (some .int) : Cond) ∈ wM := List.mem_of_getElem? (i := 56) rfl
theorem kM_ml_put : (.methodLink R_M 31 y_M_put : Cond) ∈ wM := List.mem_of_getElem? (i := 57) rfl
theorem kM_im_put : (.instanceMethod y_M_put : Cond) ∈ wM := List.mem_of_getElem? (i := 58) rfl
theorem kM_se_put : (.selects R_M y_M_put y_M_put : Cond) ∈ wM := List.mem_of_getElem? (i := 59) rfl
theorem kM_cd_put : (.code y_M_put b_M_put 4 none : Cond) ∈ wM := List.mem_of_getElem? (i := 60) rfl
theorem kM_ml_tail : (.methodLink R_M 39 y_M_tail : Cond) ∈ wM := List.mem_of_getElem? (i := 61) rfl
theorem kM_im_tail : (.instanceMethod y_M_tail : Cond) ∈ wM := List.mem_of_getElem? (i := 62) rfl
theorem kM_se_tail : (.selects R_M y_M_tail y_M_tail : Cond) ∈ wM := List.mem_of_getElem? (i := 63) rfl
theorem kM_cd_tail : (.code y_M_tail b_M_tail 6 (some .int) : Cond) ∈ wM := List.mem_of_getElem? (i := 64) rfl
theorem kM_ml_testOne : (.methodLink R_M 62 y_M_testOne : Cond) ∈ wM := List.mem_of_getElem? (i := 65) rfl
theorem kM_im_testOne : (.instanceMethod y_M_testOne : Cond) ∈ wM := List.mem_of_getElem? (i := 66) rfl
theorem kM_se_testOne : (.selects R_M y_M_testOne y_M_testOne : Cond) ∈ wM := List.mem_of_getElem? (i := 67) rfl
theorem kM_cd_testOne : (.code y_M_testOne b_M_testOne 1 (some .int) : Cond) ∈ wM := List.mem_of_getElem? (i := 68) rfl
theorem kM_ml_testPair : (.methodLink R_M 50 y_M_testPair : Cond) ∈ wM := List.mem_of_getElem? (i := 69) rfl
theorem kM_im_testPair : (.instanceMethod y_M_testPair : Cond) ∈ wM := List.mem_of_getElem? (i := 70) rfl
theorem kM_se_testPair : (.selects R_M y_M_testPair y_M_testPair : Cond) ∈ wM := List.mem_of_getElem? (i := 71) rfl
theorem kM_cd_testPair : (.code y_M_testPair b_M_testPair 1 (some .int) : Cond) ∈ wM := List.mem_of_getElem? (i := 72) rfl
theorem gd_M : wM.all (fun w => k2_isCode w || goodWord w) = true := by decide +kernel
theorem g_M : GoodIn wM wM := fun w h => ⟨h, by
  have h1 := List.all_eq_true.mp gd_M w h
  cases w <;> first | exact Or.inr ⟨_, rfl⟩ | exact Or.inl rfl | (exact Or.inl (by simpa [k2_isCode, goodWord] using h1))⟩
theorem gd_call {Tw : List Cond} (hW : GoodIn Tw Tw) {own C : String} {idx : Nat} {z : MethodName} {cd : Cond} (h1 : Cond.methodLink own idx z ∈ Tw) (h2 : Cond.instanceMethod z ∈ Tw) (h3 : Cond.selects C z z ∈ Tw) (h4 : Cond.initialized C ∈ Tw) (h5 : cd ∈ Tw) : GoodIn Tw (wsV own idx C z (cd :: Tw)) := by
  intro w hw
  refine hW w ?_
  simp only [wsV, List.cons_append, List.nil_append, List.mem_cons] at hw
  rcases hw with rfl | rfl | rfl | rfl | rfl | h <;> assumption
theorem g_X_bad : GoodIn wX (wsV R_X 98 R_X y_X_bad (.code y_X_bad b_X_bad 3 (some .boolean) :: wX)) := gd_call g_X kX_ml_bad kX_im_bad kX_se_bad kX_init kX_cd_bad
theorem g_X_behind : GoodIn wX (wsV R_X 84 R_X y_X_behind (.code y_X_behind b_X_behind 4 (some .int) :: wX)) := gd_call g_X kX_ml_behind kX_im_behind kX_se_behind kX_init kX_cd_behind
theorem g_X_discard : GoodIn wX (wsV R_X 78 R_X y_X_discard (.code y_X_discard b_X_discard 1 none :: wX)) := gd_call g_X kX_ml_discard kX_im_discard kX_se_discard kX_init kX_cd_discard
theorem g_X_having : GoodIn wX (wsV R_X 111 R_X y_X_having (.code y_X_having b_X_having 5 (some .int) :: wX)) := gd_call g_X kX_ml_having kX_im_having kX_se_having kX_init kX_cd_having
theorem g_X_imagesOf : GoodIn wX (wsV R_X 95 R_X y_X_imagesOf (.code y_X_imagesOf b_X_imagesOf 9 (some .int) :: wX)) := gd_call g_X kX_ml_imagesOf kX_im_imagesOf kX_se_imagesOf kX_init kX_cd_imagesOf
theorem g_X_letterOf : GoodIn wX (wsV R_X 87 R_X y_X_letterOf (.code y_X_letterOf b_X_letterOf 4 (some .int) :: wX)) := gd_call g_X kX_ml_letterOf kX_im_letterOf kX_se_letterOf kX_init kX_cd_letterOf
theorem g_X_link : GoodIn wX (wsV R_X 64 R_X y_X_link (.code y_X_link b_X_link 4 none :: wX)) := gd_call g_X kX_ml_link kX_im_link kX_se_link kX_init kX_cd_link
theorem g_X_prepare : GoodIn wX (wsV R_X 102 R_X y_X_prepare (.code y_X_prepare b_X_prepare 2 none :: wX)) := gd_call g_X kX_ml_prepare kX_im_prepare kX_se_prepare kX_init kX_cd_prepare
theorem g_X_reached : GoodIn wX (wsV R_X 91 R_X y_X_reached (.code y_X_reached b_X_reached 9 (some .int) :: wX)) := gd_call g_X kX_ml_reached kX_im_reached kX_se_reached kX_init kX_cd_reached
theorem g_X_refused : GoodIn wX (wsV R_X 60 R_X y_X_refused (.code y_X_refused b_X_refused 2 (some .int) :: wX)) := gd_call g_X kX_ml_refused kX_im_refused kX_se_refused kX_init kX_cd_refused
theorem g_X_sizeOf : GoodIn wX (wsV R_X 108 R_X y_X_sizeOf (.code y_X_sizeOf b_X_sizeOf 4 (some .int) :: wX)) := gd_call g_X kX_ml_sizeOf kX_im_sizeOf kX_se_sizeOf kX_init kX_cd_sizeOf
theorem g_X_wordOf : GoodIn wX (wsV R_X 105 R_X y_X_wordOf (.code y_X_wordOf b_X_wordOf 3 (some .int) :: wX)) := gd_call g_X kX_ml_wordOf kX_im_wordOf kX_se_wordOf kX_init kX_cd_wordOf
theorem g_M_clear : GoodIn wM (wsV R_M 27 R_M y_M_clear (.code y_M_clear b_M_clear 3 none :: wM)) := gd_call g_M kM_ml_clear kM_im_clear kM_se_clear kM_init kM_cd_clear
theorem g_M_copy : GoodIn wM (wsV R_M 58 R_M y_M_copy (.code y_M_copy b_M_copy 4 none :: wM)) := gd_call g_M kM_ml_copy kM_im_copy kM_se_copy kM_init kM_cd_copy
theorem g_M_cuts : GoodIn wM (wsV R_M 54 R_M y_M_cuts (.code y_M_cuts b_M_cuts 7 (some .boolean) :: wM)) := gd_call g_M kM_ml_cuts kM_im_cuts kM_se_cuts kM_init kM_cd_cuts
theorem g_M_cutsAt : GoodIn wM (wsV R_M 46 R_M y_M_cutsAt (.code y_M_cutsAt b_M_cutsAt 13 (some .boolean) :: wM)) := gd_call g_M kM_ml_cutsAt kM_im_cutsAt kM_se_cutsAt kM_init kM_cd_cutsAt
theorem g_M_discard : GoodIn wM (wsV R_M 65 R_M y_M_discard (.code y_M_discard b_M_discard 1 none :: wM)) := gd_call g_M kM_ml_discard kM_im_discard kM_se_discard kM_init kM_cd_discard
theorem g_M_has : GoodIn wM (wsV R_M 42 R_M y_M_has (.code y_M_has b_M_has 4 (some .boolean) :: wM)) := gd_call g_M kM_ml_has kM_im_has kM_se_has kM_init kM_cd_has
theorem g_M_head : GoodIn wM (wsV R_M 35 R_M y_M_head (.code y_M_head b_M_head 5 (some .int) :: wM)) := gd_call g_M kM_ml_head kM_im_head kM_se_head kM_init kM_cd_head
theorem g_M_imagesOf : GoodIn wM (wsV R_M 72 R_M y_M_imagesOf (.code y_M_imagesOf b_M_imagesOf 4 (some .int) :: wM)) := gd_call g_M kM_ml_imagesOf kM_im_imagesOf kM_se_imagesOf kM_init kM_cd_imagesOf
theorem g_M_isWord : GoodIn wM (wsV R_M 68 R_M y_M_isWord (.code y_M_isWord b_M_isWord 3 (some .boolean) :: wM)) := gd_call g_M kM_ml_isWord kM_im_isWord kM_se_isWord kM_init kM_cd_isWord
theorem g_M_leads : GoodIn wM (wsV R_M 75 R_M y_M_leads (.code y_M_leads b_M_leads 4 (some .boolean) :: wM)) := gd_call g_M kM_ml_leads kM_im_leads kM_se_leads kM_init kM_cd_leads
theorem g_M_lenOf : GoodIn wM (wsV R_M 13 R_M y_M_lenOf (.code y_M_lenOf b_M_lenOf 3 (some .int) :: wM)) := gd_call g_M kM_ml_lenOf kM_im_lenOf kM_se_lenOf kM_init kM_cd_lenOf
theorem g_M_put : GoodIn wM (wsV R_M 31 R_M y_M_put (.code y_M_put b_M_put 4 none :: wM)) := gd_call g_M kM_ml_put kM_im_put kM_se_put kM_init kM_cd_put
theorem g_M_tail : GoodIn wM (wsV R_M 39 R_M y_M_tail (.code y_M_tail b_M_tail 6 (some .int) :: wM)) := gd_call g_M kM_ml_tail kM_im_tail kM_se_tail kM_init kM_cd_tail
theorem g_M_testOne : GoodIn wM (wsV R_M 62 R_M y_M_testOne (.code y_M_testOne b_M_testOne 1 (some .int) :: wM)) := gd_call g_M kM_ml_testOne kM_im_testOne kM_se_testOne kM_init kM_cd_testOne
theorem g_M_testPair : GoodIn wM (wsV R_M 50 R_M y_M_testPair (.code y_M_testPair b_M_testPair 1 (some .int) :: wM)) := gd_call g_M kM_ml_testPair kM_im_testPair kM_se_testPair kM_init kM_cd_testPair
end
section
theorem d_X_init_0 : decode b_X_init 0 = .ok (.aload_n 0, 1) := by decide +kernel
theorem d_X_init_1 : decode b_X_init 1 = .ok (.invokespecial 1, 3) := by decide +kernel
theorem d_X_init_4 : decode b_X_init 4 = .ok (.aload_n 0, 1) := by decide +kernel
theorem d_X_init_5 : decode b_X_init 5 = .ok (.bipush 6, 2) := by decide +kernel
theorem d_X_init_7 : decode b_X_init 7 = .ok (.newarray .int, 2) := by decide +kernel
theorem d_X_init_9 : decode b_X_init 9 = .ok (.putfield 7, 3) := by decide +kernel
theorem d_X_init_12 : decode b_X_init 12 = .ok (.aload_n 0, 1) := by decide +kernel
theorem d_X_init_13 : decode b_X_init 13 = .ok (.bipush 6, 2) := by decide +kernel
theorem d_X_init_15 : decode b_X_init 15 = .ok (.newarray .int, 2) := by decide +kernel
theorem d_X_init_17 : decode b_X_init 17 = .ok (.putfield 13, 3) := by decide +kernel
theorem d_X_init_20 : decode b_X_init 20 = .ok (.aload_n 0, 1) := by decide +kernel
theorem d_X_init_21 : decode b_X_init 21 = .ok (.bipush 6, 2) := by decide +kernel
theorem d_X_init_23 : decode b_X_init 23 = .ok (.newarray .int, 2) := by decide +kernel
theorem d_X_init_25 : decode b_X_init 25 = .ok (.putfield 16, 3) := by decide +kernel
theorem d_X_init_28 : decode b_X_init 28 = .ok (.aload_n 0, 1) := by decide +kernel
theorem d_X_init_29 : decode b_X_init 29 = .ok (.bipush 6, 2) := by decide +kernel
theorem d_X_init_31 : decode b_X_init 31 = .ok (.newarray .boolean, 2) := by decide +kernel
theorem d_X_init_33 : decode b_X_init 33 = .ok (.putfield 19, 3) := by decide +kernel
theorem d_X_init_36 : decode b_X_init 36 = .ok (.aload_n 0, 1) := by decide +kernel
theorem d_X_init_37 : decode b_X_init 37 = .ok (.bipush 9, 2) := by decide +kernel
theorem d_X_init_39 : decode b_X_init 39 = .ok (.newarray .int, 2) := by decide +kernel
theorem d_X_init_41 : decode b_X_init 41 = .ok (.putfield 23, 3) := by decide +kernel
theorem d_X_init_44 : decode b_X_init 44 = .ok (.aload_n 0, 1) := by decide +kernel
theorem d_X_init_45 : decode b_X_init 45 = .ok (.bipush 9, 2) := by decide +kernel
theorem d_X_init_47 : decode b_X_init 47 = .ok (.newarray .int, 2) := by decide +kernel
theorem d_X_init_49 : decode b_X_init 49 = .ok (.putfield 26, 3) := by decide +kernel
theorem d_X_init_52 : decode b_X_init 52 = .ok (.aload_n 0, 1) := by decide +kernel
theorem d_X_init_53 : decode b_X_init 53 = .ok (.bipush 9, 2) := by decide +kernel
theorem d_X_init_55 : decode b_X_init 55 = .ok (.newarray .int, 2) := by decide +kernel
theorem d_X_init_57 : decode b_X_init 57 = .ok (.putfield 29, 3) := by decide +kernel
theorem d_X_init_60 : decode b_X_init 60 = .ok (.aload_n 0, 1) := by decide +kernel
theorem d_X_init_61 : decode b_X_init 61 = .ok (.bipush 9, 2) := by decide +kernel
theorem d_X_init_63 : decode b_X_init 63 = .ok (.newarray .int, 2) := by decide +kernel
theorem d_X_init_65 : decode b_X_init 65 = .ok (.putfield 32, 3) := by decide +kernel
theorem d_X_init_68 : decode b_X_init 68 = .ok (.aload_n 0, 1) := by decide +kernel
theorem d_X_init_69 : decode b_X_init 69 = .ok (.bipush 9, 2) := by decide +kernel
theorem d_X_init_71 : decode b_X_init 71 = .ok (.newarray .int, 2) := by decide +kernel
theorem d_X_init_73 : decode b_X_init 73 = .ok (.putfield 35, 3) := by decide +kernel
theorem d_X_init_76 : decode b_X_init 76 = .ok (.aload_n 0, 1) := by decide +kernel
theorem d_X_init_77 : decode b_X_init 77 = .ok (.bipush 31, 2) := by decide +kernel
theorem d_X_init_79 : decode b_X_init 79 = .ok (.newarray .int, 2) := by decide +kernel
theorem d_X_init_81 : decode b_X_init 81 = .ok (.putfield 38, 3) := by decide +kernel
theorem d_X_init_84 : decode b_X_init 84 = .ok (.aload_n 0, 1) := by decide +kernel
theorem d_X_init_85 : decode b_X_init 85 = .ok (.sipush 155, 3) := by decide +kernel
theorem d_X_init_88 : decode b_X_init 88 = .ok (.newarray .int, 2) := by decide +kernel
theorem d_X_init_90 : decode b_X_init 90 = .ok (.putfield 41, 3) := by decide +kernel
theorem d_X_init_93 : decode b_X_init 93 = .ok (.aload_n 0, 1) := by decide +kernel
theorem d_X_init_94 : decode b_X_init 94 = .ok (.bipush 31, 2) := by decide +kernel
theorem d_X_init_96 : decode b_X_init 96 = .ok (.newarray .int, 2) := by decide +kernel
theorem d_X_init_98 : decode b_X_init 98 = .ok (.putfield 44, 3) := by decide +kernel
theorem d_X_init_101 : decode b_X_init 101 = .ok (.iconst 1, 1) := by decide +kernel
theorem d_X_init_102 : decode b_X_init 102 = .ok (.istore_n 1, 1) := by decide +kernel
theorem d_X_init_103 : decode b_X_init 103 = .ok (.iload_n 1, 1) := by decide +kernel
theorem d_X_init_104 : decode b_X_init 104 = .ok (.bipush 31, 2) := by decide +kernel
theorem d_X_init_106 : decode b_X_init 106 = .ok (.if_icmp .ge 27, 3) := by decide +kernel
theorem d_X_init_109 : decode b_X_init 109 = .ok (.aload_n 0, 1) := by decide +kernel
theorem d_X_init_110 : decode b_X_init 110 = .ok (.getfield 44, 3) := by decide +kernel
theorem d_X_init_113 : decode b_X_init 113 = .ok (.iload_n 1, 1) := by decide +kernel
theorem d_X_init_114 : decode b_X_init 114 = .ok (.aload_n 0, 1) := by decide +kernel
theorem d_X_init_115 : decode b_X_init 115 = .ok (.getfield 44, 3) := by decide +kernel
theorem d_X_init_118 : decode b_X_init 118 = .ok (.iload_n 1, 1) := by decide +kernel
theorem d_X_init_119 : decode b_X_init 119 = .ok (.iconst 1, 1) := by decide +kernel
theorem d_X_init_120 : decode b_X_init 120 = .ok (.isub, 1) := by decide +kernel
theorem d_X_init_121 : decode b_X_init 121 = .ok (.iconst 1, 1) := by decide +kernel
theorem d_X_init_122 : decode b_X_init 122 = .ok (.ishr, 1) := by decide +kernel
theorem d_X_init_123 : decode b_X_init 123 = .ok (.iaload, 1) := by decide +kernel
theorem d_X_init_124 : decode b_X_init 124 = .ok (.iconst 1, 1) := by decide +kernel
theorem d_X_init_125 : decode b_X_init 125 = .ok (.iadd, 1) := by decide +kernel
theorem d_X_init_126 : decode b_X_init 126 = .ok (.iastore, 1) := by decide +kernel
theorem d_X_init_127 : decode b_X_init 127 = .ok (.iinc 1 1, 3) := by decide +kernel
theorem d_X_init_130 : decode b_X_init 130 = .ok (.goto (-27), 3) := by decide +kernel
theorem d_X_init_133 : decode b_X_init 133 = .ok (.return_, 1) := by decide +kernel
theorem d_X_pair_0 : decode b_X_pair 0 = .ok (.iload_n 1, 1) := by decide +kernel
theorem d_X_pair_1 : decode b_X_pair 1 = .ok (.ifCond .lt 17, 3) := by decide +kernel
theorem d_X_pair_4 : decode b_X_pair 4 = .ok (.iload_n 1, 1) := by decide +kernel
theorem d_X_pair_5 : decode b_X_pair 5 = .ok (.iconst 2, 1) := by decide +kernel
theorem d_X_pair_6 : decode b_X_pair 6 = .ok (.if_icmp .gt 12, 3) := by decide +kernel
theorem d_X_pair_9 : decode b_X_pair 9 = .ok (.iload_n 2, 1) := by decide +kernel
theorem d_X_pair_10 : decode b_X_pair 10 = .ok (.ifCond .lt 8, 3) := by decide +kernel
theorem d_X_pair_13 : decode b_X_pair 13 = .ok (.iload_n 2, 1) := by decide +kernel
theorem d_X_pair_14 : decode b_X_pair 14 = .ok (.iconst 2, 1) := by decide +kernel
theorem d_X_pair_15 : decode b_X_pair 15 = .ok (.if_icmp .le 5, 3) := by decide +kernel
theorem d_X_pair_18 : decode b_X_pair 18 = .ok (.iconst (-1), 1) := by decide +kernel
theorem d_X_pair_19 : decode b_X_pair 19 = .ok (.ireturn, 1) := by decide +kernel
theorem d_X_pair_20 : decode b_X_pair 20 = .ok (.aload_n 0, 1) := by decide +kernel
theorem d_X_pair_21 : decode b_X_pair 21 = .ok (.getfield 47, 3) := by decide +kernel
theorem d_X_pair_24 : decode b_X_pair 24 = .ok (.bipush 18, 2) := by decide +kernel
theorem d_X_pair_26 : decode b_X_pair 26 = .ok (.if_icmp .eq 21, 3) := by decide +kernel
theorem d_X_pair_29 : decode b_X_pair 29 = .ok (.aload_n 0, 1) := by decide +kernel
theorem d_X_pair_30 : decode b_X_pair 30 = .ok (.getfield 51, 3) := by decide +kernel
theorem d_X_pair_33 : decode b_X_pair 33 = .ok (.bipush 6, 2) := by decide +kernel
theorem d_X_pair_35 : decode b_X_pair 35 = .ok (.if_icmp .eq 12, 3) := by decide +kernel
theorem d_X_pair_38 : decode b_X_pair 38 = .ok (.aload_n 0, 1) := by decide +kernel
theorem d_X_pair_39 : decode b_X_pair 39 = .ok (.getfield 54, 3) := by decide +kernel
theorem d_X_pair_42 : decode b_X_pair 42 = .ok (.bipush 9, 2) := by decide +kernel
theorem d_X_pair_44 : decode b_X_pair 44 = .ok (.if_icmp .ne 6, 3) := by decide +kernel
theorem d_X_pair_47 : decode b_X_pair 47 = .ok (.bipush (-2), 2) := by decide +kernel
theorem d_X_pair_49 : decode b_X_pair 49 = .ok (.ireturn, 1) := by decide +kernel
theorem d_X_pair_50 : decode b_X_pair 50 = .ok (.aload_n 0, 1) := by decide +kernel
theorem d_X_pair_51 : decode b_X_pair 51 = .ok (.getfield 7, 3) := by decide +kernel
theorem d_X_pair_54 : decode b_X_pair 54 = .ok (.aload_n 0, 1) := by decide +kernel
theorem d_X_pair_55 : decode b_X_pair 55 = .ok (.getfield 51, 3) := by decide +kernel
theorem d_X_pair_58 : decode b_X_pair 58 = .ok (.aload_n 0, 1) := by decide +kernel
theorem d_X_pair_59 : decode b_X_pair 59 = .ok (.getfield 57, 3) := by decide +kernel
theorem d_X_pair_62 : decode b_X_pair 62 = .ok (.iastore, 1) := by decide +kernel
theorem d_X_pair_63 : decode b_X_pair 63 = .ok (.iload_n 1, 1) := by decide +kernel
theorem d_X_pair_64 : decode b_X_pair 64 = .ok (.iconst 2, 1) := by decide +kernel
theorem d_X_pair_65 : decode b_X_pair 65 = .ok (.if_icmp .ne 12, 3) := by decide +kernel
theorem d_X_pair_68 : decode b_X_pair 68 = .ok (.iload_n 2, 1) := by decide +kernel
theorem d_X_pair_69 : decode b_X_pair 69 = .ok (.iconst 2, 1) := by decide +kernel
theorem d_X_pair_70 : decode b_X_pair 70 = .ok (.if_icmp .ne 7, 3) := by decide +kernel
theorem d_X_pair_73 : decode b_X_pair 73 = .ok (.iconst 1, 1) := by decide +kernel
theorem d_X_pair_74 : decode b_X_pair 74 = .ok (.goto 4, 3) := by decide +kernel
theorem d_X_pair_77 : decode b_X_pair 77 = .ok (.iconst 0, 1) := by decide +kernel
theorem d_X_pair_78 : decode b_X_pair 78 = .ok (.istore_n 3, 1) := by decide +kernel
theorem d_X_pair_79 : decode b_X_pair 79 = .ok (.iload_n 3, 1) := by decide +kernel
theorem d_X_pair_80 : decode b_X_pair 80 = .ok (.ifCond .eq 7, 3) := by decide +kernel
theorem d_X_pair_83 : decode b_X_pair 83 = .ok (.iconst 0, 1) := by decide +kernel
theorem d_X_pair_84 : decode b_X_pair 84 = .ok (.goto 9, 3) := by decide +kernel
theorem d_X_pair_87 : decode b_X_pair 87 = .ok (.iconst 1, 1) := by decide +kernel
theorem d_X_pair_88 : decode b_X_pair 88 = .ok (.aload_n 0, 1) := by decide +kernel
theorem d_X_pair_89 : decode b_X_pair 89 = .ok (.getfield 57, 3) := by decide +kernel
theorem d_X_pair_92 : decode b_X_pair 92 = .ok (.ishl, 1) := by decide +kernel
theorem d_X_pair_93 : decode b_X_pair 93 = .ok (.istore 4, 2) := by decide +kernel
theorem d_X_pair_95 : decode b_X_pair 95 = .ok (.aload_n 0, 1) := by decide +kernel
theorem d_X_pair_96 : decode b_X_pair 96 = .ok (.getfield 13, 3) := by decide +kernel
theorem d_X_pair_99 : decode b_X_pair 99 = .ok (.aload_n 0, 1) := by decide +kernel
theorem d_X_pair_100 : decode b_X_pair 100 = .ok (.getfield 51, 3) := by decide +kernel
theorem d_X_pair_103 : decode b_X_pair 103 = .ok (.iload 4, 2) := by decide +kernel
theorem d_X_pair_105 : decode b_X_pair 105 = .ok (.iastore, 1) := by decide +kernel
theorem d_X_pair_106 : decode b_X_pair 106 = .ok (.aload_n 0, 1) := by decide +kernel
theorem d_X_pair_107 : decode b_X_pair 107 = .ok (.getfield 16, 3) := by decide +kernel
theorem d_X_pair_110 : decode b_X_pair 110 = .ok (.aload_n 0, 1) := by decide +kernel
theorem d_X_pair_111 : decode b_X_pair 111 = .ok (.getfield 51, 3) := by decide +kernel
theorem d_X_pair_114 : decode b_X_pair 114 = .ok (.iload 4, 2) := by decide +kernel
theorem d_X_pair_116 : decode b_X_pair 116 = .ok (.iastore, 1) := by decide +kernel
theorem d_X_pair_117 : decode b_X_pair 117 = .ok (.aload_n 0, 1) := by decide +kernel
theorem d_X_pair_118 : decode b_X_pair 118 = .ok (.getfield 19, 3) := by decide +kernel
theorem d_X_pair_121 : decode b_X_pair 121 = .ok (.aload_n 0, 1) := by decide +kernel
theorem d_X_pair_122 : decode b_X_pair 122 = .ok (.getfield 51, 3) := by decide +kernel
theorem d_X_pair_125 : decode b_X_pair 125 = .ok (.iload_n 3, 1) := by decide +kernel
theorem d_X_pair_126 : decode b_X_pair 126 = .ok (.bastore, 1) := by decide +kernel
theorem d_X_pair_127 : decode b_X_pair 127 = .ok (.iload_n 3, 1) := by decide +kernel
theorem d_X_pair_128 : decode b_X_pair 128 = .ok (.ifCond .ne 43, 3) := by decide +kernel
theorem d_X_pair_131 : decode b_X_pair 131 = .ok (.aload_n 0, 1) := by decide +kernel
theorem d_X_pair_132 : decode b_X_pair 132 = .ok (.getfield 23, 3) := by decide +kernel
theorem d_X_pair_135 : decode b_X_pair 135 = .ok (.aload_n 0, 1) := by decide +kernel
theorem d_X_pair_136 : decode b_X_pair 136 = .ok (.getfield 57, 3) := by decide +kernel
theorem d_X_pair_139 : decode b_X_pair 139 = .ok (.iload_n 1, 1) := by decide +kernel
theorem d_X_pair_140 : decode b_X_pair 140 = .ok (.iastore, 1) := by decide +kernel
theorem d_X_pair_141 : decode b_X_pair 141 = .ok (.aload_n 0, 1) := by decide +kernel
theorem d_X_pair_142 : decode b_X_pair 142 = .ok (.getfield 26, 3) := by decide +kernel
theorem d_X_pair_145 : decode b_X_pair 145 = .ok (.aload_n 0, 1) := by decide +kernel
theorem d_X_pair_146 : decode b_X_pair 146 = .ok (.getfield 57, 3) := by decide +kernel
theorem d_X_pair_149 : decode b_X_pair 149 = .ok (.iload_n 2, 1) := by decide +kernel
theorem d_X_pair_150 : decode b_X_pair 150 = .ok (.iastore, 1) := by decide +kernel
theorem d_X_pair_151 : decode b_X_pair 151 = .ok (.aload_n 0, 1) := by decide +kernel
theorem d_X_pair_152 : decode b_X_pair 152 = .ok (.getfield 29, 3) := by decide +kernel
theorem d_X_pair_155 : decode b_X_pair 155 = .ok (.aload_n 0, 1) := by decide +kernel
theorem d_X_pair_156 : decode b_X_pair 156 = .ok (.getfield 57, 3) := by decide +kernel
theorem d_X_pair_159 : decode b_X_pair 159 = .ok (.iconst 0, 1) := by decide +kernel
theorem d_X_pair_160 : decode b_X_pair 160 = .ok (.iastore, 1) := by decide +kernel
theorem d_X_pair_161 : decode b_X_pair 161 = .ok (.aload_n 0, 1) := by decide +kernel
theorem d_X_pair_162 : decode b_X_pair 162 = .ok (.dup, 1) := by decide +kernel
theorem d_X_pair_163 : decode b_X_pair 163 = .ok (.getfield 57, 3) := by decide +kernel
theorem d_X_pair_166 : decode b_X_pair 166 = .ok (.iconst 1, 1) := by decide +kernel
theorem d_X_pair_167 : decode b_X_pair 167 = .ok (.iadd, 1) := by decide +kernel
theorem d_X_pair_168 : decode b_X_pair 168 = .ok (.putfield 57, 3) := by decide +kernel
theorem d_X_pair_171 : decode b_X_pair 171 = .ok (.aload_n 0, 1) := by decide +kernel
theorem d_X_pair_172 : decode b_X_pair 172 = .ok (.dup, 1) := by decide +kernel
theorem d_X_pair_173 : decode b_X_pair 173 = .ok (.getfield 51, 3) := by decide +kernel
theorem d_X_pair_176 : decode b_X_pair 176 = .ok (.iconst 1, 1) := by decide +kernel
theorem d_X_pair_177 : decode b_X_pair 177 = .ok (.iadd, 1) := by decide +kernel
theorem d_X_pair_178 : decode b_X_pair 178 = .ok (.putfield 51, 3) := by decide +kernel
theorem d_X_pair_181 : decode b_X_pair 181 = .ok (.aload_n 0, 1) := by decide +kernel
theorem d_X_pair_182 : decode b_X_pair 182 = .ok (.dup, 1) := by decide +kernel
theorem d_X_pair_183 : decode b_X_pair 183 = .ok (.getfield 47, 3) := by decide +kernel
theorem d_X_pair_186 : decode b_X_pair 186 = .ok (.iconst 1, 1) := by decide +kernel
theorem d_X_pair_187 : decode b_X_pair 187 = .ok (.iadd, 1) := by decide +kernel
theorem d_X_pair_188 : decode b_X_pair 188 = .ok (.putfield 47, 3) := by decide +kernel
theorem d_X_pair_191 : decode b_X_pair 191 = .ok (.aload_n 0, 1) := by decide +kernel
theorem d_X_pair_192 : decode b_X_pair 192 = .ok (.dup, 1) := by decide +kernel
theorem d_X_pair_193 : decode b_X_pair 193 = .ok (.getfield 54, 3) := by decide +kernel
theorem d_X_pair_196 : decode b_X_pair 196 = .ok (.iconst 1, 1) := by decide +kernel
theorem d_X_pair_197 : decode b_X_pair 197 = .ok (.iadd, 1) := by decide +kernel
theorem d_X_pair_198 : decode b_X_pair 198 = .ok (.putfield 54, 3) := by decide +kernel
theorem d_X_pair_201 : decode b_X_pair 201 = .ok (.aload_n 0, 1) := by decide +kernel
theorem d_X_pair_202 : decode b_X_pair 202 = .ok (.getfield 51, 3) := by decide +kernel
theorem d_X_pair_205 : decode b_X_pair 205 = .ok (.ireturn, 1) := by decide +kernel
theorem d_X_refused_0 : decode b_X_refused 0 = .ok (.aload_n 0, 1) := by decide +kernel
theorem d_X_refused_1 : decode b_X_refused 1 = .ok (.getfield 47, 3) := by decide +kernel
theorem d_X_refused_4 : decode b_X_refused 4 = .ok (.bipush 18, 2) := by decide +kernel
theorem d_X_refused_6 : decode b_X_refused 6 = .ok (.if_icmp .ne 6, 3) := by decide +kernel
theorem d_X_refused_9 : decode b_X_refused 9 = .ok (.bipush (-2), 2) := by decide +kernel
theorem d_X_refused_11 : decode b_X_refused 11 = .ok (.ireturn, 1) := by decide +kernel
theorem d_X_refused_12 : decode b_X_refused 12 = .ok (.aload_n 0, 1) := by decide +kernel
theorem d_X_refused_13 : decode b_X_refused 13 = .ok (.getfield 51, 3) := by decide +kernel
theorem d_X_refused_16 : decode b_X_refused 16 = .ok (.iload_n 1, 1) := by decide +kernel
theorem d_X_refused_17 : decode b_X_refused 17 = .ok (.if_icmp .ge 8, 3) := by decide +kernel
theorem d_X_refused_20 : decode b_X_refused 20 = .ok (.bipush (-3), 2) := by decide +kernel
theorem d_X_refused_22 : decode b_X_refused 22 = .ok (.goto 4, 3) := by decide +kernel
theorem d_X_refused_25 : decode b_X_refused 25 = .ok (.iconst 0, 1) := by decide +kernel
theorem d_X_refused_26 : decode b_X_refused 26 = .ok (.ireturn, 1) := by decide +kernel
theorem d_X_link_0 : decode b_X_link 0 = .ok (.iconst 0, 1) := by decide +kernel
theorem d_X_link_1 : decode b_X_link 1 = .ok (.istore_n 3, 1) := by decide +kernel
theorem d_X_link_2 : decode b_X_link 2 = .ok (.iload_n 3, 1) := by decide +kernel
theorem d_X_link_3 : decode b_X_link 3 = .ok (.bipush 9, 2) := by decide +kernel
theorem d_X_link_5 : decode b_X_link 5 = .ok (.if_icmp .ge 32, 3) := by decide +kernel
theorem d_X_link_8 : decode b_X_link 8 = .ok (.iload_n 1, 1) := by decide +kernel
theorem d_X_link_9 : decode b_X_link 9 = .ok (.iload_n 3, 1) := by decide +kernel
theorem d_X_link_10 : decode b_X_link 10 = .ok (.ishr, 1) := by decide +kernel
theorem d_X_link_11 : decode b_X_link 11 = .ok (.iconst 1, 1) := by decide +kernel
theorem d_X_link_12 : decode b_X_link 12 = .ok (.iand, 1) := by decide +kernel
theorem d_X_link_13 : decode b_X_link 13 = .ok (.iconst 1, 1) := by decide +kernel
theorem d_X_link_14 : decode b_X_link 14 = .ok (.if_icmp .ne 17, 3) := by decide +kernel
theorem d_X_link_17 : decode b_X_link 17 = .ok (.aload_n 0, 1) := by decide +kernel
theorem d_X_link_18 : decode b_X_link 18 = .ok (.getfield 29, 3) := by decide +kernel
theorem d_X_link_21 : decode b_X_link 21 = .ok (.iload_n 3, 1) := by decide +kernel
theorem d_X_link_22 : decode b_X_link 22 = .ok (.aload_n 0, 1) := by decide +kernel
theorem d_X_link_23 : decode b_X_link 23 = .ok (.getfield 29, 3) := by decide +kernel
theorem d_X_link_26 : decode b_X_link 26 = .ok (.iload_n 3, 1) := by decide +kernel
theorem d_X_link_27 : decode b_X_link 27 = .ok (.iaload, 1) := by decide +kernel
theorem d_X_link_28 : decode b_X_link 28 = .ok (.iload_n 2, 1) := by decide +kernel
theorem d_X_link_29 : decode b_X_link 29 = .ok (.ior, 1) := by decide +kernel
theorem d_X_link_30 : decode b_X_link 30 = .ok (.iastore, 1) := by decide +kernel
theorem d_X_link_31 : decode b_X_link 31 = .ok (.iinc 3 1, 3) := by decide +kernel
theorem d_X_link_34 : decode b_X_link 34 = .ok (.goto (-32), 3) := by decide +kernel
theorem d_X_link_37 : decode b_X_link 37 = .ok (.return_, 1) := by decide +kernel
theorem d_X_cat_0 : decode b_X_cat 0 = .ok (.aload_n 0, 1) := by decide +kernel
theorem d_X_cat_1 : decode b_X_cat 1 = .ok (.iconst 2, 1) := by decide +kernel
theorem d_X_cat_2 : decode b_X_cat 2 = .ok (.invokevirtual 60, 3) := by decide +kernel
theorem d_X_cat_5 : decode b_X_cat 5 = .ok (.istore_n 1, 1) := by decide +kernel
theorem d_X_cat_6 : decode b_X_cat 6 = .ok (.iload_n 1, 1) := by decide +kernel
theorem d_X_cat_7 : decode b_X_cat 7 = .ok (.ifCond .ge 5, 3) := by decide +kernel
theorem d_X_cat_10 : decode b_X_cat 10 = .ok (.iload_n 1, 1) := by decide +kernel
theorem d_X_cat_11 : decode b_X_cat 11 = .ok (.ireturn, 1) := by decide +kernel
theorem d_X_cat_12 : decode b_X_cat 12 = .ok (.aload_n 0, 1) := by decide +kernel
theorem d_X_cat_13 : decode b_X_cat 13 = .ok (.getfield 51, 3) := by decide +kernel
theorem d_X_cat_16 : decode b_X_cat 16 = .ok (.iconst 1, 1) := by decide +kernel
theorem d_X_cat_17 : decode b_X_cat 17 = .ok (.isub, 1) := by decide +kernel
theorem d_X_cat_18 : decode b_X_cat 18 = .ok (.istore_n 2, 1) := by decide +kernel
theorem d_X_cat_19 : decode b_X_cat 19 = .ok (.aload_n 0, 1) := by decide +kernel
theorem d_X_cat_20 : decode b_X_cat 20 = .ok (.getfield 51, 3) := by decide +kernel
theorem d_X_cat_23 : decode b_X_cat 23 = .ok (.iconst 2, 1) := by decide +kernel
theorem d_X_cat_24 : decode b_X_cat 24 = .ok (.isub, 1) := by decide +kernel
theorem d_X_cat_25 : decode b_X_cat 25 = .ok (.istore_n 3, 1) := by decide +kernel
theorem d_X_cat_26 : decode b_X_cat 26 = .ok (.aload_n 0, 1) := by decide +kernel
theorem d_X_cat_27 : decode b_X_cat 27 = .ok (.aload_n 0, 1) := by decide +kernel
theorem d_X_cat_28 : decode b_X_cat 28 = .ok (.getfield 16, 3) := by decide +kernel
theorem d_X_cat_31 : decode b_X_cat 31 = .ok (.iload_n 3, 1) := by decide +kernel
theorem d_X_cat_32 : decode b_X_cat 32 = .ok (.iaload, 1) := by decide +kernel
theorem d_X_cat_33 : decode b_X_cat 33 = .ok (.aload_n 0, 1) := by decide +kernel
theorem d_X_cat_34 : decode b_X_cat 34 = .ok (.getfield 13, 3) := by decide +kernel
theorem d_X_cat_37 : decode b_X_cat 37 = .ok (.iload_n 2, 1) := by decide +kernel
theorem d_X_cat_38 : decode b_X_cat 38 = .ok (.iaload, 1) := by decide +kernel
theorem d_X_cat_39 : decode b_X_cat 39 = .ok (.invokevirtual 64, 3) := by decide +kernel
theorem d_X_cat_42 : decode b_X_cat 42 = .ok (.aload_n 0, 1) := by decide +kernel
theorem d_X_cat_43 : decode b_X_cat 43 = .ok (.getfield 13, 3) := by decide +kernel
theorem d_X_cat_46 : decode b_X_cat 46 = .ok (.iload_n 3, 1) := by decide +kernel
theorem d_X_cat_47 : decode b_X_cat 47 = .ok (.aload_n 0, 1) := by decide +kernel
theorem d_X_cat_48 : decode b_X_cat 48 = .ok (.getfield 19, 3) := by decide +kernel
theorem d_X_cat_51 : decode b_X_cat 51 = .ok (.iload_n 3, 1) := by decide +kernel
theorem d_X_cat_52 : decode b_X_cat 52 = .ok (.baload, 1) := by decide +kernel
theorem d_X_cat_53 : decode b_X_cat 53 = .ok (.ifCond .eq 19, 3) := by decide +kernel
theorem d_X_cat_56 : decode b_X_cat 56 = .ok (.aload_n 0, 1) := by decide +kernel
theorem d_X_cat_57 : decode b_X_cat 57 = .ok (.getfield 13, 3) := by decide +kernel
theorem d_X_cat_60 : decode b_X_cat 60 = .ok (.iload_n 3, 1) := by decide +kernel
theorem d_X_cat_61 : decode b_X_cat 61 = .ok (.iaload, 1) := by decide +kernel
theorem d_X_cat_62 : decode b_X_cat 62 = .ok (.aload_n 0, 1) := by decide +kernel
theorem d_X_cat_63 : decode b_X_cat 63 = .ok (.getfield 13, 3) := by decide +kernel
theorem d_X_cat_66 : decode b_X_cat 66 = .ok (.iload_n 2, 1) := by decide +kernel
theorem d_X_cat_67 : decode b_X_cat 67 = .ok (.iaload, 1) := by decide +kernel
theorem d_X_cat_68 : decode b_X_cat 68 = .ok (.ior, 1) := by decide +kernel
theorem d_X_cat_69 : decode b_X_cat 69 = .ok (.goto 9, 3) := by decide +kernel
theorem d_X_cat_72 : decode b_X_cat 72 = .ok (.aload_n 0, 1) := by decide +kernel
theorem d_X_cat_73 : decode b_X_cat 73 = .ok (.getfield 13, 3) := by decide +kernel
theorem d_X_cat_76 : decode b_X_cat 76 = .ok (.iload_n 3, 1) := by decide +kernel
theorem d_X_cat_77 : decode b_X_cat 77 = .ok (.iaload, 1) := by decide +kernel
theorem d_X_cat_78 : decode b_X_cat 78 = .ok (.iastore, 1) := by decide +kernel
theorem d_X_cat_79 : decode b_X_cat 79 = .ok (.aload_n 0, 1) := by decide +kernel
theorem d_X_cat_80 : decode b_X_cat 80 = .ok (.getfield 16, 3) := by decide +kernel
theorem d_X_cat_83 : decode b_X_cat 83 = .ok (.iload_n 3, 1) := by decide +kernel
theorem d_X_cat_84 : decode b_X_cat 84 = .ok (.aload_n 0, 1) := by decide +kernel
theorem d_X_cat_85 : decode b_X_cat 85 = .ok (.getfield 19, 3) := by decide +kernel
theorem d_X_cat_88 : decode b_X_cat 88 = .ok (.iload_n 2, 1) := by decide +kernel
theorem d_X_cat_89 : decode b_X_cat 89 = .ok (.baload, 1) := by decide +kernel
theorem d_X_cat_90 : decode b_X_cat 90 = .ok (.ifCond .eq 19, 3) := by decide +kernel
theorem d_X_cat_93 : decode b_X_cat 93 = .ok (.aload_n 0, 1) := by decide +kernel
theorem d_X_cat_94 : decode b_X_cat 94 = .ok (.getfield 16, 3) := by decide +kernel
theorem d_X_cat_97 : decode b_X_cat 97 = .ok (.iload_n 3, 1) := by decide +kernel
theorem d_X_cat_98 : decode b_X_cat 98 = .ok (.iaload, 1) := by decide +kernel
theorem d_X_cat_99 : decode b_X_cat 99 = .ok (.aload_n 0, 1) := by decide +kernel
theorem d_X_cat_100 : decode b_X_cat 100 = .ok (.getfield 16, 3) := by decide +kernel
theorem d_X_cat_103 : decode b_X_cat 103 = .ok (.iload_n 2, 1) := by decide +kernel
theorem d_X_cat_104 : decode b_X_cat 104 = .ok (.iaload, 1) := by decide +kernel
theorem d_X_cat_105 : decode b_X_cat 105 = .ok (.ior, 1) := by decide +kernel
theorem d_X_cat_106 : decode b_X_cat 106 = .ok (.goto 9, 3) := by decide +kernel
theorem d_X_cat_109 : decode b_X_cat 109 = .ok (.aload_n 0, 1) := by decide +kernel
theorem d_X_cat_110 : decode b_X_cat 110 = .ok (.getfield 16, 3) := by decide +kernel
theorem d_X_cat_113 : decode b_X_cat 113 = .ok (.iload_n 2, 1) := by decide +kernel
theorem d_X_cat_114 : decode b_X_cat 114 = .ok (.iaload, 1) := by decide +kernel
theorem d_X_cat_115 : decode b_X_cat 115 = .ok (.iastore, 1) := by decide +kernel
theorem d_X_cat_116 : decode b_X_cat 116 = .ok (.aload_n 0, 1) := by decide +kernel
theorem d_X_cat_117 : decode b_X_cat 117 = .ok (.getfield 19, 3) := by decide +kernel
theorem d_X_cat_120 : decode b_X_cat 120 = .ok (.iload_n 3, 1) := by decide +kernel
theorem d_X_cat_121 : decode b_X_cat 121 = .ok (.aload_n 0, 1) := by decide +kernel
theorem d_X_cat_122 : decode b_X_cat 122 = .ok (.getfield 19, 3) := by decide +kernel
theorem d_X_cat_125 : decode b_X_cat 125 = .ok (.iload_n 3, 1) := by decide +kernel
theorem d_X_cat_126 : decode b_X_cat 126 = .ok (.baload, 1) := by decide +kernel
theorem d_X_cat_127 : decode b_X_cat 127 = .ok (.ifCond .eq 16, 3) := by decide +kernel
theorem d_X_cat_130 : decode b_X_cat 130 = .ok (.aload_n 0, 1) := by decide +kernel
theorem d_X_cat_131 : decode b_X_cat 131 = .ok (.getfield 19, 3) := by decide +kernel
theorem d_X_cat_134 : decode b_X_cat 134 = .ok (.iload_n 2, 1) := by decide +kernel
theorem d_X_cat_135 : decode b_X_cat 135 = .ok (.baload, 1) := by decide +kernel
theorem d_X_cat_136 : decode b_X_cat 136 = .ok (.ifCond .eq 7, 3) := by decide +kernel
theorem d_X_cat_139 : decode b_X_cat 139 = .ok (.iconst 1, 1) := by decide +kernel
theorem d_X_cat_140 : decode b_X_cat 140 = .ok (.goto 4, 3) := by decide +kernel
theorem d_X_cat_143 : decode b_X_cat 143 = .ok (.iconst 0, 1) := by decide +kernel
theorem d_X_cat_144 : decode b_X_cat 144 = .ok (.bastore, 1) := by decide +kernel
theorem d_X_cat_145 : decode b_X_cat 145 = .ok (.aload_n 0, 1) := by decide +kernel
theorem d_X_cat_146 : decode b_X_cat 146 = .ok (.iload_n 2, 1) := by decide +kernel
theorem d_X_cat_147 : decode b_X_cat 147 = .ok (.putfield 51, 3) := by decide +kernel
theorem d_X_cat_150 : decode b_X_cat 150 = .ok (.aload_n 0, 1) := by decide +kernel
theorem d_X_cat_151 : decode b_X_cat 151 = .ok (.dup, 1) := by decide +kernel
theorem d_X_cat_152 : decode b_X_cat 152 = .ok (.getfield 47, 3) := by decide +kernel
theorem d_X_cat_155 : decode b_X_cat 155 = .ok (.iconst 1, 1) := by decide +kernel
theorem d_X_cat_156 : decode b_X_cat 156 = .ok (.iadd, 1) := by decide +kernel
theorem d_X_cat_157 : decode b_X_cat 157 = .ok (.putfield 47, 3) := by decide +kernel
theorem d_X_cat_160 : decode b_X_cat 160 = .ok (.aload_n 0, 1) := by decide +kernel
theorem d_X_cat_161 : decode b_X_cat 161 = .ok (.getfield 51, 3) := by decide +kernel
theorem d_X_cat_164 : decode b_X_cat 164 = .ok (.ireturn, 1) := by decide +kernel
theorem d_X_alt_0 : decode b_X_alt 0 = .ok (.aload_n 0, 1) := by decide +kernel
theorem d_X_alt_1 : decode b_X_alt 1 = .ok (.iconst 2, 1) := by decide +kernel
theorem d_X_alt_2 : decode b_X_alt 2 = .ok (.invokevirtual 60, 3) := by decide +kernel
theorem d_X_alt_5 : decode b_X_alt 5 = .ok (.istore_n 1, 1) := by decide +kernel
theorem d_X_alt_6 : decode b_X_alt 6 = .ok (.iload_n 1, 1) := by decide +kernel
theorem d_X_alt_7 : decode b_X_alt 7 = .ok (.ifCond .ge 5, 3) := by decide +kernel
theorem d_X_alt_10 : decode b_X_alt 10 = .ok (.iload_n 1, 1) := by decide +kernel
theorem d_X_alt_11 : decode b_X_alt 11 = .ok (.ireturn, 1) := by decide +kernel
theorem d_X_alt_12 : decode b_X_alt 12 = .ok (.aload_n 0, 1) := by decide +kernel
theorem d_X_alt_13 : decode b_X_alt 13 = .ok (.getfield 51, 3) := by decide +kernel
theorem d_X_alt_16 : decode b_X_alt 16 = .ok (.iconst 1, 1) := by decide +kernel
theorem d_X_alt_17 : decode b_X_alt 17 = .ok (.isub, 1) := by decide +kernel
theorem d_X_alt_18 : decode b_X_alt 18 = .ok (.istore_n 2, 1) := by decide +kernel
theorem d_X_alt_19 : decode b_X_alt 19 = .ok (.aload_n 0, 1) := by decide +kernel
theorem d_X_alt_20 : decode b_X_alt 20 = .ok (.getfield 51, 3) := by decide +kernel
theorem d_X_alt_23 : decode b_X_alt 23 = .ok (.iconst 2, 1) := by decide +kernel
theorem d_X_alt_24 : decode b_X_alt 24 = .ok (.isub, 1) := by decide +kernel
theorem d_X_alt_25 : decode b_X_alt 25 = .ok (.istore_n 3, 1) := by decide +kernel
theorem d_X_alt_26 : decode b_X_alt 26 = .ok (.aload_n 0, 1) := by decide +kernel
theorem d_X_alt_27 : decode b_X_alt 27 = .ok (.getfield 13, 3) := by decide +kernel
theorem d_X_alt_30 : decode b_X_alt 30 = .ok (.iload_n 3, 1) := by decide +kernel
theorem d_X_alt_31 : decode b_X_alt 31 = .ok (.aload_n 0, 1) := by decide +kernel
theorem d_X_alt_32 : decode b_X_alt 32 = .ok (.getfield 13, 3) := by decide +kernel
theorem d_X_alt_35 : decode b_X_alt 35 = .ok (.iload_n 3, 1) := by decide +kernel
theorem d_X_alt_36 : decode b_X_alt 36 = .ok (.iaload, 1) := by decide +kernel
theorem d_X_alt_37 : decode b_X_alt 37 = .ok (.aload_n 0, 1) := by decide +kernel
theorem d_X_alt_38 : decode b_X_alt 38 = .ok (.getfield 13, 3) := by decide +kernel
theorem d_X_alt_41 : decode b_X_alt 41 = .ok (.iload_n 2, 1) := by decide +kernel
theorem d_X_alt_42 : decode b_X_alt 42 = .ok (.iaload, 1) := by decide +kernel
theorem d_X_alt_43 : decode b_X_alt 43 = .ok (.ior, 1) := by decide +kernel
theorem d_X_alt_44 : decode b_X_alt 44 = .ok (.iastore, 1) := by decide +kernel
theorem d_X_alt_45 : decode b_X_alt 45 = .ok (.aload_n 0, 1) := by decide +kernel
theorem d_X_alt_46 : decode b_X_alt 46 = .ok (.getfield 16, 3) := by decide +kernel
theorem d_X_alt_49 : decode b_X_alt 49 = .ok (.iload_n 3, 1) := by decide +kernel
theorem d_X_alt_50 : decode b_X_alt 50 = .ok (.aload_n 0, 1) := by decide +kernel
theorem d_X_alt_51 : decode b_X_alt 51 = .ok (.getfield 16, 3) := by decide +kernel
theorem d_X_alt_54 : decode b_X_alt 54 = .ok (.iload_n 3, 1) := by decide +kernel
theorem d_X_alt_55 : decode b_X_alt 55 = .ok (.iaload, 1) := by decide +kernel
theorem d_X_alt_56 : decode b_X_alt 56 = .ok (.aload_n 0, 1) := by decide +kernel
theorem d_X_alt_57 : decode b_X_alt 57 = .ok (.getfield 16, 3) := by decide +kernel
theorem d_X_alt_60 : decode b_X_alt 60 = .ok (.iload_n 2, 1) := by decide +kernel
theorem d_X_alt_61 : decode b_X_alt 61 = .ok (.iaload, 1) := by decide +kernel
theorem d_X_alt_62 : decode b_X_alt 62 = .ok (.ior, 1) := by decide +kernel
theorem d_X_alt_63 : decode b_X_alt 63 = .ok (.iastore, 1) := by decide +kernel
theorem d_X_alt_64 : decode b_X_alt 64 = .ok (.aload_n 0, 1) := by decide +kernel
theorem d_X_alt_65 : decode b_X_alt 65 = .ok (.getfield 19, 3) := by decide +kernel
theorem d_X_alt_68 : decode b_X_alt 68 = .ok (.iload_n 3, 1) := by decide +kernel
theorem d_X_alt_69 : decode b_X_alt 69 = .ok (.aload_n 0, 1) := by decide +kernel
theorem d_X_alt_70 : decode b_X_alt 70 = .ok (.getfield 19, 3) := by decide +kernel
theorem d_X_alt_73 : decode b_X_alt 73 = .ok (.iload_n 3, 1) := by decide +kernel
theorem d_X_alt_74 : decode b_X_alt 74 = .ok (.baload, 1) := by decide +kernel
theorem d_X_alt_75 : decode b_X_alt 75 = .ok (.ifCond .ne 12, 3) := by decide +kernel
theorem d_X_alt_78 : decode b_X_alt 78 = .ok (.aload_n 0, 1) := by decide +kernel
theorem d_X_alt_79 : decode b_X_alt 79 = .ok (.getfield 19, 3) := by decide +kernel
theorem d_X_alt_82 : decode b_X_alt 82 = .ok (.iload_n 2, 1) := by decide +kernel
theorem d_X_alt_83 : decode b_X_alt 83 = .ok (.baload, 1) := by decide +kernel
theorem d_X_alt_84 : decode b_X_alt 84 = .ok (.ifCond .eq 7, 3) := by decide +kernel
theorem d_X_alt_87 : decode b_X_alt 87 = .ok (.iconst 1, 1) := by decide +kernel
theorem d_X_alt_88 : decode b_X_alt 88 = .ok (.goto 4, 3) := by decide +kernel
theorem d_X_alt_91 : decode b_X_alt 91 = .ok (.iconst 0, 1) := by decide +kernel
theorem d_X_alt_92 : decode b_X_alt 92 = .ok (.bastore, 1) := by decide +kernel
theorem d_X_alt_93 : decode b_X_alt 93 = .ok (.aload_n 0, 1) := by decide +kernel
theorem d_X_alt_94 : decode b_X_alt 94 = .ok (.iload_n 2, 1) := by decide +kernel
theorem d_X_alt_95 : decode b_X_alt 95 = .ok (.putfield 51, 3) := by decide +kernel
theorem d_X_alt_98 : decode b_X_alt 98 = .ok (.aload_n 0, 1) := by decide +kernel
theorem d_X_alt_99 : decode b_X_alt 99 = .ok (.dup, 1) := by decide +kernel
theorem d_X_alt_100 : decode b_X_alt 100 = .ok (.getfield 47, 3) := by decide +kernel
theorem d_X_alt_103 : decode b_X_alt 103 = .ok (.iconst 1, 1) := by decide +kernel
theorem d_X_alt_104 : decode b_X_alt 104 = .ok (.iadd, 1) := by decide +kernel
theorem d_X_alt_105 : decode b_X_alt 105 = .ok (.putfield 47, 3) := by decide +kernel
theorem d_X_alt_108 : decode b_X_alt 108 = .ok (.aload_n 0, 1) := by decide +kernel
theorem d_X_alt_109 : decode b_X_alt 109 = .ok (.getfield 51, 3) := by decide +kernel
theorem d_X_alt_112 : decode b_X_alt 112 = .ok (.ireturn, 1) := by decide +kernel
theorem d_X_star_0 : decode b_X_star 0 = .ok (.aload_n 0, 1) := by decide +kernel
theorem d_X_star_1 : decode b_X_star 1 = .ok (.iconst 1, 1) := by decide +kernel
theorem d_X_star_2 : decode b_X_star 2 = .ok (.invokevirtual 60, 3) := by decide +kernel
theorem d_X_star_5 : decode b_X_star 5 = .ok (.istore_n 1, 1) := by decide +kernel
theorem d_X_star_6 : decode b_X_star 6 = .ok (.iload_n 1, 1) := by decide +kernel
theorem d_X_star_7 : decode b_X_star 7 = .ok (.ifCond .ge 5, 3) := by decide +kernel
theorem d_X_star_10 : decode b_X_star 10 = .ok (.iload_n 1, 1) := by decide +kernel
theorem d_X_star_11 : decode b_X_star 11 = .ok (.ireturn, 1) := by decide +kernel
theorem d_X_star_12 : decode b_X_star 12 = .ok (.aload_n 0, 1) := by decide +kernel
theorem d_X_star_13 : decode b_X_star 13 = .ok (.getfield 51, 3) := by decide +kernel
theorem d_X_star_16 : decode b_X_star 16 = .ok (.iconst 1, 1) := by decide +kernel
theorem d_X_star_17 : decode b_X_star 17 = .ok (.isub, 1) := by decide +kernel
theorem d_X_star_18 : decode b_X_star 18 = .ok (.istore_n 2, 1) := by decide +kernel
theorem d_X_star_19 : decode b_X_star 19 = .ok (.aload_n 0, 1) := by decide +kernel
theorem d_X_star_20 : decode b_X_star 20 = .ok (.aload_n 0, 1) := by decide +kernel
theorem d_X_star_21 : decode b_X_star 21 = .ok (.getfield 16, 3) := by decide +kernel
theorem d_X_star_24 : decode b_X_star 24 = .ok (.iload_n 2, 1) := by decide +kernel
theorem d_X_star_25 : decode b_X_star 25 = .ok (.iaload, 1) := by decide +kernel
theorem d_X_star_26 : decode b_X_star 26 = .ok (.aload_n 0, 1) := by decide +kernel
theorem d_X_star_27 : decode b_X_star 27 = .ok (.getfield 13, 3) := by decide +kernel
theorem d_X_star_30 : decode b_X_star 30 = .ok (.iload_n 2, 1) := by decide +kernel
theorem d_X_star_31 : decode b_X_star 31 = .ok (.iaload, 1) := by decide +kernel
theorem d_X_star_32 : decode b_X_star 32 = .ok (.invokevirtual 64, 3) := by decide +kernel
theorem d_X_star_35 : decode b_X_star 35 = .ok (.aload_n 0, 1) := by decide +kernel
theorem d_X_star_36 : decode b_X_star 36 = .ok (.getfield 19, 3) := by decide +kernel
theorem d_X_star_39 : decode b_X_star 39 = .ok (.iload_n 2, 1) := by decide +kernel
theorem d_X_star_40 : decode b_X_star 40 = .ok (.iconst 1, 1) := by decide +kernel
theorem d_X_star_41 : decode b_X_star 41 = .ok (.bastore, 1) := by decide +kernel
theorem d_X_star_42 : decode b_X_star 42 = .ok (.aload_n 0, 1) := by decide +kernel
theorem d_X_star_43 : decode b_X_star 43 = .ok (.dup, 1) := by decide +kernel
theorem d_X_star_44 : decode b_X_star 44 = .ok (.getfield 47, 3) := by decide +kernel
theorem d_X_star_47 : decode b_X_star 47 = .ok (.iconst 1, 1) := by decide +kernel
theorem d_X_star_48 : decode b_X_star 48 = .ok (.iadd, 1) := by decide +kernel
theorem d_X_star_49 : decode b_X_star 49 = .ok (.putfield 47, 3) := by decide +kernel
theorem d_X_star_52 : decode b_X_star 52 = .ok (.aload_n 0, 1) := by decide +kernel
theorem d_X_star_53 : decode b_X_star 53 = .ok (.getfield 51, 3) := by decide +kernel
theorem d_X_star_56 : decode b_X_star 56 = .ok (.ireturn, 1) := by decide +kernel
theorem d_X_turn_0 : decode b_X_turn 0 = .ok (.aload_n 0, 1) := by decide +kernel
theorem d_X_turn_1 : decode b_X_turn 1 = .ok (.iconst 1, 1) := by decide +kernel
theorem d_X_turn_2 : decode b_X_turn 2 = .ok (.invokevirtual 60, 3) := by decide +kernel
theorem d_X_turn_5 : decode b_X_turn 5 = .ok (.istore_n 1, 1) := by decide +kernel
theorem d_X_turn_6 : decode b_X_turn 6 = .ok (.iload_n 1, 1) := by decide +kernel
theorem d_X_turn_7 : decode b_X_turn 7 = .ok (.ifCond .ge 5, 3) := by decide +kernel
theorem d_X_turn_10 : decode b_X_turn 10 = .ok (.iload_n 1, 1) := by decide +kernel
theorem d_X_turn_11 : decode b_X_turn 11 = .ok (.ireturn, 1) := by decide +kernel
theorem d_X_turn_12 : decode b_X_turn 12 = .ok (.aload_n 0, 1) := by decide +kernel
theorem d_X_turn_13 : decode b_X_turn 13 = .ok (.getfield 7, 3) := by decide +kernel
theorem d_X_turn_16 : decode b_X_turn 16 = .ok (.aload_n 0, 1) := by decide +kernel
theorem d_X_turn_17 : decode b_X_turn 17 = .ok (.getfield 51, 3) := by decide +kernel
theorem d_X_turn_20 : decode b_X_turn 20 = .ok (.iconst 1, 1) := by decide +kernel
theorem d_X_turn_21 : decode b_X_turn 21 = .ok (.isub, 1) := by decide +kernel
theorem d_X_turn_22 : decode b_X_turn 22 = .ok (.iaload, 1) := by decide +kernel
theorem d_X_turn_23 : decode b_X_turn 23 = .ok (.istore_n 2, 1) := by decide +kernel
theorem d_X_turn_24 : decode b_X_turn 24 = .ok (.iload_n 2, 1) := by decide +kernel
theorem d_X_turn_25 : decode b_X_turn 25 = .ok (.aload_n 0, 1) := by decide +kernel
theorem d_X_turn_26 : decode b_X_turn 26 = .ok (.getfield 57, 3) := by decide +kernel
theorem d_X_turn_29 : decode b_X_turn 29 = .ok (.if_icmp .ge 35, 3) := by decide +kernel
theorem d_X_turn_32 : decode b_X_turn 32 = .ok (.aload_n 0, 1) := by decide +kernel
theorem d_X_turn_33 : decode b_X_turn 33 = .ok (.getfield 23, 3) := by decide +kernel
theorem d_X_turn_36 : decode b_X_turn 36 = .ok (.iload_n 2, 1) := by decide +kernel
theorem d_X_turn_37 : decode b_X_turn 37 = .ok (.iaload, 1) := by decide +kernel
theorem d_X_turn_38 : decode b_X_turn 38 = .ok (.istore_n 3, 1) := by decide +kernel
theorem d_X_turn_39 : decode b_X_turn 39 = .ok (.aload_n 0, 1) := by decide +kernel
theorem d_X_turn_40 : decode b_X_turn 40 = .ok (.getfield 23, 3) := by decide +kernel
theorem d_X_turn_43 : decode b_X_turn 43 = .ok (.iload_n 2, 1) := by decide +kernel
theorem d_X_turn_44 : decode b_X_turn 44 = .ok (.aload_n 0, 1) := by decide +kernel
theorem d_X_turn_45 : decode b_X_turn 45 = .ok (.getfield 26, 3) := by decide +kernel
theorem d_X_turn_48 : decode b_X_turn 48 = .ok (.iload_n 2, 1) := by decide +kernel
theorem d_X_turn_49 : decode b_X_turn 49 = .ok (.iaload, 1) := by decide +kernel
theorem d_X_turn_50 : decode b_X_turn 50 = .ok (.iastore, 1) := by decide +kernel
theorem d_X_turn_51 : decode b_X_turn 51 = .ok (.aload_n 0, 1) := by decide +kernel
theorem d_X_turn_52 : decode b_X_turn 52 = .ok (.getfield 26, 3) := by decide +kernel
theorem d_X_turn_55 : decode b_X_turn 55 = .ok (.iload_n 2, 1) := by decide +kernel
theorem d_X_turn_56 : decode b_X_turn 56 = .ok (.iload_n 3, 1) := by decide +kernel
theorem d_X_turn_57 : decode b_X_turn 57 = .ok (.iastore, 1) := by decide +kernel
theorem d_X_turn_58 : decode b_X_turn 58 = .ok (.iinc 2 1, 3) := by decide +kernel
theorem d_X_turn_61 : decode b_X_turn 61 = .ok (.goto (-37), 3) := by decide +kernel
theorem d_X_turn_64 : decode b_X_turn 64 = .ok (.aload_n 0, 1) := by decide +kernel
theorem d_X_turn_65 : decode b_X_turn 65 = .ok (.dup, 1) := by decide +kernel
theorem d_X_turn_66 : decode b_X_turn 66 = .ok (.getfield 47, 3) := by decide +kernel
theorem d_X_turn_69 : decode b_X_turn 69 = .ok (.iconst 1, 1) := by decide +kernel
theorem d_X_turn_70 : decode b_X_turn 70 = .ok (.iadd, 1) := by decide +kernel
theorem d_X_turn_71 : decode b_X_turn 71 = .ok (.putfield 47, 3) := by decide +kernel
theorem d_X_turn_74 : decode b_X_turn 74 = .ok (.aload_n 0, 1) := by decide +kernel
theorem d_X_turn_75 : decode b_X_turn 75 = .ok (.getfield 51, 3) := by decide +kernel
theorem d_X_turn_78 : decode b_X_turn 78 = .ok (.ireturn, 1) := by decide +kernel
theorem d_X_steps_0 : decode b_X_steps 0 = .ok (.aload_n 0, 1) := by decide +kernel
theorem d_X_steps_1 : decode b_X_steps 1 = .ok (.getfield 47, 3) := by decide +kernel
theorem d_X_steps_4 : decode b_X_steps 4 = .ok (.ireturn, 1) := by decide +kernel
theorem d_X_depth_0 : decode b_X_depth 0 = .ok (.aload_n 0, 1) := by decide +kernel
theorem d_X_depth_1 : decode b_X_depth 1 = .ok (.getfield 51, 3) := by decide +kernel
theorem d_X_depth_4 : decode b_X_depth 4 = .ok (.ireturn, 1) := by decide +kernel
theorem d_X_discard_0 : decode b_X_discard 0 = .ok (.aload_n 0, 1) := by decide +kernel
theorem d_X_discard_1 : decode b_X_discard 1 = .ok (.iconst 0, 1) := by decide +kernel
theorem d_X_discard_2 : decode b_X_discard 2 = .ok (.putfield 51, 3) := by decide +kernel
theorem d_X_discard_5 : decode b_X_discard 5 = .ok (.aload_n 0, 1) := by decide +kernel
theorem d_X_discard_6 : decode b_X_discard 6 = .ok (.iconst 0, 1) := by decide +kernel
theorem d_X_discard_7 : decode b_X_discard 7 = .ok (.putfield 47, 3) := by decide +kernel
theorem d_X_discard_10 : decode b_X_discard 10 = .ok (.aload_n 0, 1) := by decide +kernel
theorem d_X_discard_11 : decode b_X_discard 11 = .ok (.iconst 0, 1) := by decide +kernel
theorem d_X_discard_12 : decode b_X_discard 12 = .ok (.putfield 54, 3) := by decide +kernel
theorem d_X_discard_15 : decode b_X_discard 15 = .ok (.aload_n 0, 1) := by decide +kernel
theorem d_X_discard_16 : decode b_X_discard 16 = .ok (.iconst 0, 1) := by decide +kernel
theorem d_X_discard_17 : decode b_X_discard 17 = .ok (.putfield 57, 3) := by decide +kernel
theorem d_X_discard_20 : decode b_X_discard 20 = .ok (.return_, 1) := by decide +kernel
theorem d_X_define_0 : decode b_X_define 0 = .ok (.aload_n 0, 1) := by decide +kernel
theorem d_X_define_1 : decode b_X_define 1 = .ok (.getfield 51, 3) := by decide +kernel
theorem d_X_define_4 : decode b_X_define 4 = .ok (.ifCond .ne 6, 3) := by decide +kernel
theorem d_X_define_7 : decode b_X_define 7 = .ok (.bipush (-3), 2) := by decide +kernel
theorem d_X_define_9 : decode b_X_define 9 = .ok (.ireturn, 1) := by decide +kernel
theorem d_X_define_10 : decode b_X_define 10 = .ok (.aload_n 0, 1) := by decide +kernel
theorem d_X_define_11 : decode b_X_define 11 = .ok (.getfield 51, 3) := by decide +kernel
theorem d_X_define_14 : decode b_X_define 14 = .ok (.iconst 1, 1) := by decide +kernel
theorem d_X_define_15 : decode b_X_define 15 = .ok (.isub, 1) := by decide +kernel
theorem d_X_define_16 : decode b_X_define 16 = .ok (.istore_n 1, 1) := by decide +kernel
theorem d_X_define_17 : decode b_X_define 17 = .ok (.aload_n 0, 1) := by decide +kernel
theorem d_X_define_18 : decode b_X_define 18 = .ok (.aload_n 0, 1) := by decide +kernel
theorem d_X_define_19 : decode b_X_define 19 = .ok (.getfield 13, 3) := by decide +kernel
theorem d_X_define_22 : decode b_X_define 22 = .ok (.iload_n 1, 1) := by decide +kernel
theorem d_X_define_23 : decode b_X_define 23 = .ok (.iaload, 1) := by decide +kernel
theorem d_X_define_24 : decode b_X_define 24 = .ok (.putfield 68, 3) := by decide +kernel
theorem d_X_define_27 : decode b_X_define 27 = .ok (.aload_n 0, 1) := by decide +kernel
theorem d_X_define_28 : decode b_X_define 28 = .ok (.aload_n 0, 1) := by decide +kernel
theorem d_X_define_29 : decode b_X_define 29 = .ok (.getfield 16, 3) := by decide +kernel
theorem d_X_define_32 : decode b_X_define 32 = .ok (.iload_n 1, 1) := by decide +kernel
theorem d_X_define_33 : decode b_X_define 33 = .ok (.iaload, 1) := by decide +kernel
theorem d_X_define_34 : decode b_X_define 34 = .ok (.putfield 71, 3) := by decide +kernel
theorem d_X_define_37 : decode b_X_define 37 = .ok (.aload_n 0, 1) := by decide +kernel
theorem d_X_define_38 : decode b_X_define 38 = .ok (.aload_n 0, 1) := by decide +kernel
theorem d_X_define_39 : decode b_X_define 39 = .ok (.getfield 19, 3) := by decide +kernel
theorem d_X_define_42 : decode b_X_define 42 = .ok (.iload_n 1, 1) := by decide +kernel
theorem d_X_define_43 : decode b_X_define 43 = .ok (.baload, 1) := by decide +kernel
theorem d_X_define_44 : decode b_X_define 44 = .ok (.putfield 74, 3) := by decide +kernel
theorem d_X_define_47 : decode b_X_define 47 = .ok (.iconst 0, 1) := by decide +kernel
theorem d_X_define_48 : decode b_X_define 48 = .ok (.istore_n 2, 1) := by decide +kernel
theorem d_X_define_49 : decode b_X_define 49 = .ok (.iload_n 2, 1) := by decide +kernel
theorem d_X_define_50 : decode b_X_define 50 = .ok (.bipush 9, 2) := by decide +kernel
theorem d_X_define_52 : decode b_X_define 52 = .ok (.if_icmp .ge 16, 3) := by decide +kernel
theorem d_X_define_55 : decode b_X_define 55 = .ok (.aload_n 0, 1) := by decide +kernel
theorem d_X_define_56 : decode b_X_define 56 = .ok (.getfield 35, 3) := by decide +kernel
theorem d_X_define_59 : decode b_X_define 59 = .ok (.iload_n 2, 1) := by decide +kernel
theorem d_X_define_60 : decode b_X_define 60 = .ok (.iconst 0, 1) := by decide +kernel
theorem d_X_define_61 : decode b_X_define 61 = .ok (.iastore, 1) := by decide +kernel
theorem d_X_define_62 : decode b_X_define 62 = .ok (.iinc 2 1, 3) := by decide +kernel
theorem d_X_define_65 : decode b_X_define 65 = .ok (.goto (-16), 3) := by decide +kernel
theorem d_X_define_68 : decode b_X_define 68 = .ok (.iconst 0, 1) := by decide +kernel
theorem d_X_define_69 : decode b_X_define 69 = .ok (.istore_n 2, 1) := by decide +kernel
theorem d_X_define_70 : decode b_X_define 70 = .ok (.iload_n 2, 1) := by decide +kernel
theorem d_X_define_71 : decode b_X_define 71 = .ok (.aload_n 0, 1) := by decide +kernel
theorem d_X_define_72 : decode b_X_define 72 = .ok (.getfield 57, 3) := by decide +kernel
theorem d_X_define_75 : decode b_X_define 75 = .ok (.if_icmp .ge 53, 3) := by decide +kernel
theorem d_X_define_78 : decode b_X_define 78 = .ok (.aload_n 0, 1) := by decide +kernel
theorem d_X_define_79 : decode b_X_define 79 = .ok (.getfield 32, 3) := by decide +kernel
theorem d_X_define_82 : decode b_X_define 82 = .ok (.iload_n 2, 1) := by decide +kernel
theorem d_X_define_83 : decode b_X_define 83 = .ok (.aload_n 0, 1) := by decide +kernel
theorem d_X_define_84 : decode b_X_define 84 = .ok (.getfield 29, 3) := by decide +kernel
theorem d_X_define_87 : decode b_X_define 87 = .ok (.iload_n 2, 1) := by decide +kernel
theorem d_X_define_88 : decode b_X_define 88 = .ok (.iaload, 1) := by decide +kernel
theorem d_X_define_89 : decode b_X_define 89 = .ok (.iastore, 1) := by decide +kernel
theorem d_X_define_90 : decode b_X_define 90 = .ok (.aload_n 0, 1) := by decide +kernel
theorem d_X_define_91 : decode b_X_define 91 = .ok (.getfield 23, 3) := by decide +kernel
theorem d_X_define_94 : decode b_X_define 94 = .ok (.iload_n 2, 1) := by decide +kernel
theorem d_X_define_95 : decode b_X_define 95 = .ok (.iaload, 1) := by decide +kernel
theorem d_X_define_96 : decode b_X_define 96 = .ok (.iconst 3, 1) := by decide +kernel
theorem d_X_define_97 : decode b_X_define 97 = .ok (.imul, 1) := by decide +kernel
theorem d_X_define_98 : decode b_X_define 98 = .ok (.aload_n 0, 1) := by decide +kernel
theorem d_X_define_99 : decode b_X_define 99 = .ok (.getfield 26, 3) := by decide +kernel
theorem d_X_define_102 : decode b_X_define 102 = .ok (.iload_n 2, 1) := by decide +kernel
theorem d_X_define_103 : decode b_X_define 103 = .ok (.iaload, 1) := by decide +kernel
theorem d_X_define_104 : decode b_X_define 104 = .ok (.iadd, 1) := by decide +kernel
theorem d_X_define_105 : decode b_X_define 105 = .ok (.istore_n 3, 1) := by decide +kernel
theorem d_X_define_106 : decode b_X_define 106 = .ok (.aload_n 0, 1) := by decide +kernel
theorem d_X_define_107 : decode b_X_define 107 = .ok (.getfield 35, 3) := by decide +kernel
theorem d_X_define_110 : decode b_X_define 110 = .ok (.iload_n 3, 1) := by decide +kernel
theorem d_X_define_111 : decode b_X_define 111 = .ok (.aload_n 0, 1) := by decide +kernel
theorem d_X_define_112 : decode b_X_define 112 = .ok (.getfield 35, 3) := by decide +kernel
theorem d_X_define_115 : decode b_X_define 115 = .ok (.iload_n 3, 1) := by decide +kernel
theorem d_X_define_116 : decode b_X_define 116 = .ok (.iaload, 1) := by decide +kernel
theorem d_X_define_117 : decode b_X_define 117 = .ok (.iconst 1, 1) := by decide +kernel
theorem d_X_define_118 : decode b_X_define 118 = .ok (.iload_n 2, 1) := by decide +kernel
theorem d_X_define_119 : decode b_X_define 119 = .ok (.ishl, 1) := by decide +kernel
theorem d_X_define_120 : decode b_X_define 120 = .ok (.ior, 1) := by decide +kernel
theorem d_X_define_121 : decode b_X_define 121 = .ok (.iastore, 1) := by decide +kernel
theorem d_X_define_122 : decode b_X_define 122 = .ok (.iinc 2 1, 3) := by decide +kernel
theorem d_X_define_125 : decode b_X_define 125 = .ok (.goto (-55), 3) := by decide +kernel
theorem d_X_define_128 : decode b_X_define 128 = .ok (.aload_n 0, 1) := by decide +kernel
theorem d_X_define_129 : decode b_X_define 129 = .ok (.getfield 51, 3) := by decide +kernel
theorem d_X_define_132 : decode b_X_define 132 = .ok (.istore_n 2, 1) := by decide +kernel
theorem d_X_define_133 : decode b_X_define 133 = .ok (.aload_n 0, 1) := by decide +kernel
theorem d_X_define_134 : decode b_X_define 134 = .ok (.invokevirtual 78, 3) := by decide +kernel
theorem d_X_define_137 : decode b_X_define 137 = .ok (.aload_n 0, 1) := by decide +kernel
theorem d_X_define_138 : decode b_X_define 138 = .ok (.iconst 0, 1) := by decide +kernel
theorem d_X_define_139 : decode b_X_define 139 = .ok (.putfield 81, 3) := by decide +kernel
theorem d_X_define_142 : decode b_X_define 142 = .ok (.iload_n 2, 1) := by decide +kernel
theorem d_X_define_143 : decode b_X_define 143 = .ok (.ireturn, 1) := by decide +kernel
theorem d_X_behind_0 : decode b_X_behind 0 = .ok (.iload_n 1, 1) := by decide +kernel
theorem d_X_behind_1 : decode b_X_behind 1 = .ok (.sipush 512, 3) := by decide +kernel
theorem d_X_behind_4 : decode b_X_behind 4 = .ok (.iand, 1) := by decide +kernel
theorem d_X_behind_5 : decode b_X_behind 5 = .ok (.ifCond .eq 10, 3) := by decide +kernel
theorem d_X_behind_8 : decode b_X_behind 8 = .ok (.aload_n 0, 1) := by decide +kernel
theorem d_X_behind_9 : decode b_X_behind 9 = .ok (.getfield 68, 3) := by decide +kernel
theorem d_X_behind_12 : decode b_X_behind 12 = .ok (.goto 4, 3) := by decide +kernel
theorem d_X_behind_15 : decode b_X_behind 15 = .ok (.iconst 0, 1) := by decide +kernel
theorem d_X_behind_16 : decode b_X_behind 16 = .ok (.istore_n 2, 1) := by decide +kernel
theorem d_X_behind_17 : decode b_X_behind 17 = .ok (.iconst 0, 1) := by decide +kernel
theorem d_X_behind_18 : decode b_X_behind 18 = .ok (.istore_n 3, 1) := by decide +kernel
theorem d_X_behind_19 : decode b_X_behind 19 = .ok (.iload_n 3, 1) := by decide +kernel
theorem d_X_behind_20 : decode b_X_behind 20 = .ok (.bipush 9, 2) := by decide +kernel
theorem d_X_behind_22 : decode b_X_behind 22 = .ok (.if_icmp .ge 27, 3) := by decide +kernel
theorem d_X_behind_25 : decode b_X_behind 25 = .ok (.iload_n 1, 1) := by decide +kernel
theorem d_X_behind_26 : decode b_X_behind 26 = .ok (.iload_n 3, 1) := by decide +kernel
theorem d_X_behind_27 : decode b_X_behind 27 = .ok (.ishr, 1) := by decide +kernel
theorem d_X_behind_28 : decode b_X_behind 28 = .ok (.iconst 1, 1) := by decide +kernel
theorem d_X_behind_29 : decode b_X_behind 29 = .ok (.iand, 1) := by decide +kernel
theorem d_X_behind_30 : decode b_X_behind 30 = .ok (.iconst 1, 1) := by decide +kernel
theorem d_X_behind_31 : decode b_X_behind 31 = .ok (.if_icmp .ne 12, 3) := by decide +kernel
theorem d_X_behind_34 : decode b_X_behind 34 = .ok (.iload_n 2, 1) := by decide +kernel
theorem d_X_behind_35 : decode b_X_behind 35 = .ok (.aload_n 0, 1) := by decide +kernel
theorem d_X_behind_36 : decode b_X_behind 36 = .ok (.getfield 32, 3) := by decide +kernel
theorem d_X_behind_39 : decode b_X_behind 39 = .ok (.iload_n 3, 1) := by decide +kernel
theorem d_X_behind_40 : decode b_X_behind 40 = .ok (.iaload, 1) := by decide +kernel
theorem d_X_behind_41 : decode b_X_behind 41 = .ok (.ior, 1) := by decide +kernel
theorem d_X_behind_42 : decode b_X_behind 42 = .ok (.istore_n 2, 1) := by decide +kernel
theorem d_X_behind_43 : decode b_X_behind 43 = .ok (.iinc 3 1, 3) := by decide +kernel
theorem d_X_behind_46 : decode b_X_behind 46 = .ok (.goto (-27), 3) := by decide +kernel
theorem d_X_behind_49 : decode b_X_behind 49 = .ok (.iload_n 2, 1) := by decide +kernel
theorem d_X_behind_50 : decode b_X_behind 50 = .ok (.ireturn, 1) := by decide +kernel
theorem d_X_reached_0 : decode b_X_reached 0 = .ok (.iconst 0, 1) := by decide +kernel
theorem d_X_reached_1 : decode b_X_reached 1 = .ok (.istore 5, 2) := by decide +kernel
theorem d_X_reached_3 : decode b_X_reached 3 = .ok (.iload_n 1, 1) := by decide +kernel
theorem d_X_reached_4 : decode b_X_reached 4 = .ok (.ifCond .le 36, 3) := by decide +kernel
theorem d_X_reached_7 : decode b_X_reached 7 = .ok (.aload_n 0, 1) := by decide +kernel
theorem d_X_reached_8 : decode b_X_reached 8 = .ok (.aload_n 0, 1) := by decide +kernel
theorem d_X_reached_9 : decode b_X_reached 9 = .ok (.getfield 41, 3) := by decide +kernel
theorem d_X_reached_12 : decode b_X_reached 12 = .ok (.iload_n 3, 1) := by decide +kernel
theorem d_X_reached_13 : decode b_X_reached 13 = .ok (.iconst 5, 1) := by decide +kernel
theorem d_X_reached_14 : decode b_X_reached 14 = .ok (.imul, 1) := by decide +kernel
theorem d_X_reached_15 : decode b_X_reached 15 = .ok (.iload_n 1, 1) := by decide +kernel
theorem d_X_reached_16 : decode b_X_reached 16 = .ok (.iadd, 1) := by decide +kernel
theorem d_X_reached_17 : decode b_X_reached 17 = .ok (.iconst 1, 1) := by decide +kernel
theorem d_X_reached_18 : decode b_X_reached 18 = .ok (.isub, 1) := by decide +kernel
theorem d_X_reached_19 : decode b_X_reached 19 = .ok (.iaload, 1) := by decide +kernel
theorem d_X_reached_20 : decode b_X_reached 20 = .ok (.invokevirtual 84, 3) := by decide +kernel
theorem d_X_reached_23 : decode b_X_reached 23 = .ok (.istore 6, 2) := by decide +kernel
theorem d_X_reached_25 : decode b_X_reached 25 = .ok (.iload 6, 2) := by decide +kernel
theorem d_X_reached_27 : decode b_X_reached 27 = .ok (.aload_n 0, 1) := by decide +kernel
theorem d_X_reached_28 : decode b_X_reached 28 = .ok (.getfield 35, 3) := by decide +kernel
theorem d_X_reached_31 : decode b_X_reached 31 = .ok (.iload_n 2, 1) := by decide +kernel
theorem d_X_reached_32 : decode b_X_reached 32 = .ok (.iconst 3, 1) := by decide +kernel
theorem d_X_reached_33 : decode b_X_reached 33 = .ok (.imul, 1) := by decide +kernel
theorem d_X_reached_34 : decode b_X_reached 34 = .ok (.iconst 2, 1) := by decide +kernel
theorem d_X_reached_35 : decode b_X_reached 35 = .ok (.iadd, 1) := by decide +kernel
theorem d_X_reached_36 : decode b_X_reached 36 = .ok (.iaload, 1) := by decide +kernel
theorem d_X_reached_37 : decode b_X_reached 37 = .ok (.iand, 1) := by decide +kernel
theorem d_X_reached_38 : decode b_X_reached 38 = .ok (.istore 5, 2) := by decide +kernel
theorem d_X_reached_40 : decode b_X_reached 40 = .ok (.iload_n 3, 1) := by decide +kernel
theorem d_X_reached_41 : decode b_X_reached 41 = .ok (.ifCond .le 87, 3) := by decide +kernel
theorem d_X_reached_44 : decode b_X_reached 44 = .ok (.iload_n 3, 1) := by decide +kernel
theorem d_X_reached_45 : decode b_X_reached 45 = .ok (.iconst 1, 1) := by decide +kernel
theorem d_X_reached_46 : decode b_X_reached 46 = .ok (.isub, 1) := by decide +kernel
theorem d_X_reached_47 : decode b_X_reached 47 = .ok (.iconst 1, 1) := by decide +kernel
theorem d_X_reached_48 : decode b_X_reached 48 = .ok (.iand, 1) := by decide +kernel
theorem d_X_reached_49 : decode b_X_reached 49 = .ok (.istore 6, 2) := by decide +kernel
theorem d_X_reached_51 : decode b_X_reached 51 = .ok (.aload_n 0, 1) := by decide +kernel
theorem d_X_reached_52 : decode b_X_reached 52 = .ok (.aload_n 0, 1) := by decide +kernel
theorem d_X_reached_53 : decode b_X_reached 53 = .ok (.getfield 41, 3) := by decide +kernel
theorem d_X_reached_56 : decode b_X_reached 56 = .ok (.iload 4, 2) := by decide +kernel
theorem d_X_reached_58 : decode b_X_reached 58 = .ok (.iconst 5, 1) := by decide +kernel
theorem d_X_reached_59 : decode b_X_reached 59 = .ok (.imul, 1) := by decide +kernel
theorem d_X_reached_60 : decode b_X_reached 60 = .ok (.iload_n 1, 1) := by decide +kernel
theorem d_X_reached_61 : decode b_X_reached 61 = .ok (.iadd, 1) := by decide +kernel
theorem d_X_reached_62 : decode b_X_reached 62 = .ok (.iaload, 1) := by decide +kernel
theorem d_X_reached_63 : decode b_X_reached 63 = .ok (.invokevirtual 84, 3) := by decide +kernel
theorem d_X_reached_66 : decode b_X_reached 66 = .ok (.istore 7, 2) := by decide +kernel
theorem d_X_reached_68 : decode b_X_reached 68 = .ok (.iload 5, 2) := by decide +kernel
theorem d_X_reached_70 : decode b_X_reached 70 = .ok (.iload 7, 2) := by decide +kernel
theorem d_X_reached_72 : decode b_X_reached 72 = .ok (.aload_n 0, 1) := by decide +kernel
theorem d_X_reached_73 : decode b_X_reached 73 = .ok (.getfield 35, 3) := by decide +kernel
theorem d_X_reached_76 : decode b_X_reached 76 = .ok (.bipush 6, 2) := by decide +kernel
theorem d_X_reached_78 : decode b_X_reached 78 = .ok (.iload 6, 2) := by decide +kernel
theorem d_X_reached_80 : decode b_X_reached 80 = .ok (.iadd, 1) := by decide +kernel
theorem d_X_reached_81 : decode b_X_reached 81 = .ok (.iaload, 1) := by decide +kernel
theorem d_X_reached_82 : decode b_X_reached 82 = .ok (.iand, 1) := by decide +kernel
theorem d_X_reached_83 : decode b_X_reached 83 = .ok (.ior, 1) := by decide +kernel
theorem d_X_reached_84 : decode b_X_reached 84 = .ok (.istore 5, 2) := by decide +kernel
theorem d_X_reached_86 : decode b_X_reached 86 = .ok (.iload_n 1, 1) := by decide +kernel
theorem d_X_reached_87 : decode b_X_reached 87 = .ok (.ifCond .le 41, 3) := by decide +kernel
theorem d_X_reached_90 : decode b_X_reached 90 = .ok (.aload_n 0, 1) := by decide +kernel
theorem d_X_reached_91 : decode b_X_reached 91 = .ok (.aload_n 0, 1) := by decide +kernel
theorem d_X_reached_92 : decode b_X_reached 92 = .ok (.getfield 41, 3) := by decide +kernel
theorem d_X_reached_95 : decode b_X_reached 95 = .ok (.iload 4, 2) := by decide +kernel
theorem d_X_reached_97 : decode b_X_reached 97 = .ok (.iconst 5, 1) := by decide +kernel
theorem d_X_reached_98 : decode b_X_reached 98 = .ok (.imul, 1) := by decide +kernel
theorem d_X_reached_99 : decode b_X_reached 99 = .ok (.iload_n 1, 1) := by decide +kernel
theorem d_X_reached_100 : decode b_X_reached 100 = .ok (.iadd, 1) := by decide +kernel
theorem d_X_reached_101 : decode b_X_reached 101 = .ok (.iconst 1, 1) := by decide +kernel
theorem d_X_reached_102 : decode b_X_reached 102 = .ok (.isub, 1) := by decide +kernel
theorem d_X_reached_103 : decode b_X_reached 103 = .ok (.iaload, 1) := by decide +kernel
theorem d_X_reached_104 : decode b_X_reached 104 = .ok (.invokevirtual 84, 3) := by decide +kernel
theorem d_X_reached_107 : decode b_X_reached 107 = .ok (.istore 8, 2) := by decide +kernel
theorem d_X_reached_109 : decode b_X_reached 109 = .ok (.iload 5, 2) := by decide +kernel
theorem d_X_reached_111 : decode b_X_reached 111 = .ok (.iload 8, 2) := by decide +kernel
theorem d_X_reached_113 : decode b_X_reached 113 = .ok (.aload_n 0, 1) := by decide +kernel
theorem d_X_reached_114 : decode b_X_reached 114 = .ok (.getfield 35, 3) := by decide +kernel
theorem d_X_reached_117 : decode b_X_reached 117 = .ok (.iload_n 2, 1) := by decide +kernel
theorem d_X_reached_118 : decode b_X_reached 118 = .ok (.iconst 3, 1) := by decide +kernel
theorem d_X_reached_119 : decode b_X_reached 119 = .ok (.imul, 1) := by decide +kernel
theorem d_X_reached_120 : decode b_X_reached 120 = .ok (.iload 6, 2) := by decide +kernel
theorem d_X_reached_122 : decode b_X_reached 122 = .ok (.iadd, 1) := by decide +kernel
theorem d_X_reached_123 : decode b_X_reached 123 = .ok (.iaload, 1) := by decide +kernel
theorem d_X_reached_124 : decode b_X_reached 124 = .ok (.iand, 1) := by decide +kernel
theorem d_X_reached_125 : decode b_X_reached 125 = .ok (.ior, 1) := by decide +kernel
theorem d_X_reached_126 : decode b_X_reached 126 = .ok (.istore 5, 2) := by decide +kernel
theorem d_X_reached_128 : decode b_X_reached 128 = .ok (.iload 5, 2) := by decide +kernel
theorem d_X_reached_130 : decode b_X_reached 130 = .ok (.ireturn, 1) := by decide +kernel
theorem d_X_letterOf_0 : decode b_X_letterOf 0 = .ok (.iload_n 1, 1) := by decide +kernel
theorem d_X_letterOf_1 : decode b_X_letterOf 1 = .ok (.iconst 1, 1) := by decide +kernel
theorem d_X_letterOf_2 : decode b_X_letterOf 2 = .ok (.iadd, 1) := by decide +kernel
theorem d_X_letterOf_3 : decode b_X_letterOf 3 = .ok (.istore_n 3, 1) := by decide +kernel
theorem d_X_letterOf_4 : decode b_X_letterOf 4 = .ok (.iload_n 3, 1) := by decide +kernel
theorem d_X_letterOf_5 : decode b_X_letterOf 5 = .ok (.aload_n 0, 1) := by decide +kernel
theorem d_X_letterOf_6 : decode b_X_letterOf 6 = .ok (.getfield 44, 3) := by decide +kernel
theorem d_X_letterOf_9 : decode b_X_letterOf 9 = .ok (.iload_n 1, 1) := by decide +kernel
theorem d_X_letterOf_10 : decode b_X_letterOf 10 = .ok (.iaload, 1) := by decide +kernel
theorem d_X_letterOf_11 : decode b_X_letterOf 11 = .ok (.iload_n 2, 1) := by decide +kernel
theorem d_X_letterOf_12 : decode b_X_letterOf 12 = .ok (.isub, 1) := by decide +kernel
theorem d_X_letterOf_13 : decode b_X_letterOf 13 = .ok (.ishr, 1) := by decide +kernel
theorem d_X_letterOf_14 : decode b_X_letterOf 14 = .ok (.iconst 1, 1) := by decide +kernel
theorem d_X_letterOf_15 : decode b_X_letterOf 15 = .ok (.iand, 1) := by decide +kernel
theorem d_X_letterOf_16 : decode b_X_letterOf 16 = .ok (.ireturn, 1) := by decide +kernel
theorem d_X_imagesOf_0 : decode b_X_imagesOf 0 = .ok (.aload_n 0, 1) := by decide +kernel
theorem d_X_imagesOf_1 : decode b_X_imagesOf 1 = .ok (.getfield 44, 3) := by decide +kernel
theorem d_X_imagesOf_4 : decode b_X_imagesOf 4 = .ok (.iload_n 1, 1) := by decide +kernel
theorem d_X_imagesOf_5 : decode b_X_imagesOf 5 = .ok (.iaload, 1) := by decide +kernel
theorem d_X_imagesOf_6 : decode b_X_imagesOf 6 = .ok (.istore_n 2, 1) := by decide +kernel
theorem d_X_imagesOf_7 : decode b_X_imagesOf 7 = .ok (.iconst 0, 1) := by decide +kernel
theorem d_X_imagesOf_8 : decode b_X_imagesOf 8 = .ok (.istore_n 3, 1) := by decide +kernel
theorem d_X_imagesOf_9 : decode b_X_imagesOf 9 = .ok (.iconst 0, 1) := by decide +kernel
theorem d_X_imagesOf_10 : decode b_X_imagesOf 10 = .ok (.istore 4, 2) := by decide +kernel
theorem d_X_imagesOf_12 : decode b_X_imagesOf 12 = .ok (.iload 4, 2) := by decide +kernel
theorem d_X_imagesOf_14 : decode b_X_imagesOf 14 = .ok (.bipush 31, 2) := by decide +kernel
theorem d_X_imagesOf_16 : decode b_X_imagesOf 16 = .ok (.if_icmp .ge 149, 3) := by decide +kernel
theorem d_X_imagesOf_19 : decode b_X_imagesOf 19 = .ok (.iload 4, 2) := by decide +kernel
theorem d_X_imagesOf_21 : decode b_X_imagesOf 21 = .ok (.ifCond .ne 7, 3) := by decide +kernel
theorem d_X_imagesOf_24 : decode b_X_imagesOf 24 = .ok (.iconst 0, 1) := by decide +kernel
theorem d_X_imagesOf_25 : decode b_X_imagesOf 25 = .ok (.goto 9, 3) := by decide +kernel
theorem d_X_imagesOf_28 : decode b_X_imagesOf 28 = .ok (.iload 4, 2) := by decide +kernel
theorem d_X_imagesOf_30 : decode b_X_imagesOf 30 = .ok (.iconst 1, 1) := by decide +kernel
theorem d_X_imagesOf_31 : decode b_X_imagesOf 31 = .ok (.isub, 1) := by decide +kernel
theorem d_X_imagesOf_32 : decode b_X_imagesOf 32 = .ok (.iconst 1, 1) := by decide +kernel
theorem d_X_imagesOf_33 : decode b_X_imagesOf 33 = .ok (.ishr, 1) := by decide +kernel
theorem d_X_imagesOf_34 : decode b_X_imagesOf 34 = .ok (.istore 5, 2) := by decide +kernel
theorem d_X_imagesOf_36 : decode b_X_imagesOf 36 = .ok (.iconst 0, 1) := by decide +kernel
theorem d_X_imagesOf_37 : decode b_X_imagesOf 37 = .ok (.istore 6, 2) := by decide +kernel
theorem d_X_imagesOf_39 : decode b_X_imagesOf 39 = .ok (.iload 6, 2) := by decide +kernel
theorem d_X_imagesOf_41 : decode b_X_imagesOf 41 = .ok (.iload_n 2, 1) := by decide +kernel
theorem d_X_imagesOf_42 : decode b_X_imagesOf 42 = .ok (.if_icmp .gt 71, 3) := by decide +kernel
theorem d_X_imagesOf_45 : decode b_X_imagesOf 45 = .ok (.iload 6, 2) := by decide +kernel
theorem d_X_imagesOf_47 : decode b_X_imagesOf 47 = .ok (.ifCond .ne 7, 3) := by decide +kernel
theorem d_X_imagesOf_50 : decode b_X_imagesOf 50 = .ok (.iconst 0, 1) := by decide +kernel
theorem d_X_imagesOf_51 : decode b_X_imagesOf 51 = .ok (.goto 10, 3) := by decide +kernel
theorem d_X_imagesOf_54 : decode b_X_imagesOf 54 = .ok (.aload_n 0, 1) := by decide +kernel
theorem d_X_imagesOf_55 : decode b_X_imagesOf 55 = .ok (.iload_n 1, 1) := by decide +kernel
theorem d_X_imagesOf_56 : decode b_X_imagesOf 56 = .ok (.iload 6, 2) := by decide +kernel
theorem d_X_imagesOf_58 : decode b_X_imagesOf 58 = .ok (.invokevirtual 87, 3) := by decide +kernel
theorem d_X_imagesOf_61 : decode b_X_imagesOf 61 = .ok (.istore 7, 2) := by decide +kernel
theorem d_X_imagesOf_63 : decode b_X_imagesOf 63 = .ok (.iload 4, 2) := by decide +kernel
theorem d_X_imagesOf_65 : decode b_X_imagesOf 65 = .ok (.ifCond .ne 14, 3) := by decide +kernel
theorem d_X_imagesOf_68 : decode b_X_imagesOf 68 = .ok (.iload 6, 2) := by decide +kernel
theorem d_X_imagesOf_70 : decode b_X_imagesOf 70 = .ok (.ifCond .ne 9, 3) := by decide +kernel
theorem d_X_imagesOf_73 : decode b_X_imagesOf 73 = .ok (.sipush 512, 3) := by decide +kernel
theorem d_X_imagesOf_76 : decode b_X_imagesOf 76 = .ok (.goto 15, 3) := by decide +kernel
theorem d_X_imagesOf_79 : decode b_X_imagesOf 79 = .ok (.aload_n 0, 1) := by decide +kernel
theorem d_X_imagesOf_80 : decode b_X_imagesOf 80 = .ok (.iload 6, 2) := by decide +kernel
theorem d_X_imagesOf_82 : decode b_X_imagesOf 82 = .ok (.iload 7, 2) := by decide +kernel
theorem d_X_imagesOf_84 : decode b_X_imagesOf 84 = .ok (.iload 4, 2) := by decide +kernel
theorem d_X_imagesOf_86 : decode b_X_imagesOf 86 = .ok (.iload 5, 2) := by decide +kernel
theorem d_X_imagesOf_88 : decode b_X_imagesOf 88 = .ok (.invokevirtual 91, 3) := by decide +kernel
theorem d_X_imagesOf_91 : decode b_X_imagesOf 91 = .ok (.istore 8, 2) := by decide +kernel
theorem d_X_imagesOf_93 : decode b_X_imagesOf 93 = .ok (.aload_n 0, 1) := by decide +kernel
theorem d_X_imagesOf_94 : decode b_X_imagesOf 94 = .ok (.getfield 41, 3) := by decide +kernel
theorem d_X_imagesOf_97 : decode b_X_imagesOf 97 = .ok (.iload 4, 2) := by decide +kernel
theorem d_X_imagesOf_99 : decode b_X_imagesOf 99 = .ok (.iconst 5, 1) := by decide +kernel
theorem d_X_imagesOf_100 : decode b_X_imagesOf 100 = .ok (.imul, 1) := by decide +kernel
theorem d_X_imagesOf_101 : decode b_X_imagesOf 101 = .ok (.iload 6, 2) := by decide +kernel
theorem d_X_imagesOf_103 : decode b_X_imagesOf 103 = .ok (.iadd, 1) := by decide +kernel
theorem d_X_imagesOf_104 : decode b_X_imagesOf 104 = .ok (.iload 8, 2) := by decide +kernel
theorem d_X_imagesOf_106 : decode b_X_imagesOf 106 = .ok (.iastore, 1) := by decide +kernel
theorem d_X_imagesOf_107 : decode b_X_imagesOf 107 = .ok (.iinc 6 1, 3) := by decide +kernel
theorem d_X_imagesOf_110 : decode b_X_imagesOf 110 = .ok (.goto (-71), 3) := by decide +kernel
theorem d_X_imagesOf_113 : decode b_X_imagesOf 113 = .ok (.aload_n 0, 1) := by decide +kernel
theorem d_X_imagesOf_114 : decode b_X_imagesOf 114 = .ok (.getfield 41, 3) := by decide +kernel
theorem d_X_imagesOf_117 : decode b_X_imagesOf 117 = .ok (.iload 4, 2) := by decide +kernel
theorem d_X_imagesOf_119 : decode b_X_imagesOf 119 = .ok (.iconst 5, 1) := by decide +kernel
theorem d_X_imagesOf_120 : decode b_X_imagesOf 120 = .ok (.imul, 1) := by decide +kernel
theorem d_X_imagesOf_121 : decode b_X_imagesOf 121 = .ok (.iload_n 2, 1) := by decide +kernel
theorem d_X_imagesOf_122 : decode b_X_imagesOf 122 = .ok (.iadd, 1) := by decide +kernel
theorem d_X_imagesOf_123 : decode b_X_imagesOf 123 = .ok (.iaload, 1) := by decide +kernel
theorem d_X_imagesOf_124 : decode b_X_imagesOf 124 = .ok (.istore 6, 2) := by decide +kernel
theorem d_X_imagesOf_126 : decode b_X_imagesOf 126 = .ok (.iload 6, 2) := by decide +kernel
theorem d_X_imagesOf_128 : decode b_X_imagesOf 128 = .ok (.aload_n 0, 1) := by decide +kernel
theorem d_X_imagesOf_129 : decode b_X_imagesOf 129 = .ok (.getfield 71, 3) := by decide +kernel
theorem d_X_imagesOf_132 : decode b_X_imagesOf 132 = .ok (.iand, 1) := by decide +kernel
theorem d_X_imagesOf_133 : decode b_X_imagesOf 133 = .ok (.ifCond .ne 19, 3) := by decide +kernel
theorem d_X_imagesOf_136 : decode b_X_imagesOf 136 = .ok (.iload 6, 2) := by decide +kernel
theorem d_X_imagesOf_138 : decode b_X_imagesOf 138 = .ok (.sipush 512, 3) := by decide +kernel
theorem d_X_imagesOf_141 : decode b_X_imagesOf 141 = .ok (.iand, 1) := by decide +kernel
theorem d_X_imagesOf_142 : decode b_X_imagesOf 142 = .ok (.ifCond .eq 17, 3) := by decide +kernel
theorem d_X_imagesOf_145 : decode b_X_imagesOf 145 = .ok (.aload_n 0, 1) := by decide +kernel
theorem d_X_imagesOf_146 : decode b_X_imagesOf 146 = .ok (.getfield 74, 3) := by decide +kernel
theorem d_X_imagesOf_149 : decode b_X_imagesOf 149 = .ok (.ifCond .eq 10, 3) := by decide +kernel
theorem d_X_imagesOf_152 : decode b_X_imagesOf 152 = .ok (.iload_n 3, 1) := by decide +kernel
theorem d_X_imagesOf_153 : decode b_X_imagesOf 153 = .ok (.iconst 1, 1) := by decide +kernel
theorem d_X_imagesOf_154 : decode b_X_imagesOf 154 = .ok (.iload 4, 2) := by decide +kernel
theorem d_X_imagesOf_156 : decode b_X_imagesOf 156 = .ok (.ishl, 1) := by decide +kernel
theorem d_X_imagesOf_157 : decode b_X_imagesOf 157 = .ok (.ior, 1) := by decide +kernel
theorem d_X_imagesOf_158 : decode b_X_imagesOf 158 = .ok (.istore_n 3, 1) := by decide +kernel
theorem d_X_imagesOf_159 : decode b_X_imagesOf 159 = .ok (.iinc 4 1, 3) := by decide +kernel
theorem d_X_imagesOf_162 : decode b_X_imagesOf 162 = .ok (.goto (-150), 3) := by decide +kernel
theorem d_X_imagesOf_165 : decode b_X_imagesOf 165 = .ok (.iload_n 3, 1) := by decide +kernel
theorem d_X_imagesOf_166 : decode b_X_imagesOf 166 = .ok (.ireturn, 1) := by decide +kernel
theorem d_X_prepare_0 : decode b_X_prepare 0 = .ok (.aload_n 0, 1) := by decide +kernel
theorem d_X_prepare_1 : decode b_X_prepare 1 = .ok (.getfield 81, 3) := by decide +kernel
theorem d_X_prepare_4 : decode b_X_prepare 4 = .ok (.ifCond .eq 4, 3) := by decide +kernel
theorem d_X_prepare_7 : decode b_X_prepare 7 = .ok (.return_, 1) := by decide +kernel
theorem d_X_prepare_8 : decode b_X_prepare 8 = .ok (.iconst 0, 1) := by decide +kernel
theorem d_X_prepare_9 : decode b_X_prepare 9 = .ok (.istore_n 1, 1) := by decide +kernel
theorem d_X_prepare_10 : decode b_X_prepare 10 = .ok (.iload_n 1, 1) := by decide +kernel
theorem d_X_prepare_11 : decode b_X_prepare 11 = .ok (.bipush 31, 2) := by decide +kernel
theorem d_X_prepare_13 : decode b_X_prepare 13 = .ok (.if_icmp .ge 20, 3) := by decide +kernel
theorem d_X_prepare_16 : decode b_X_prepare 16 = .ok (.aload_n 0, 1) := by decide +kernel
theorem d_X_prepare_17 : decode b_X_prepare 17 = .ok (.getfield 38, 3) := by decide +kernel
theorem d_X_prepare_20 : decode b_X_prepare 20 = .ok (.iload_n 1, 1) := by decide +kernel
theorem d_X_prepare_21 : decode b_X_prepare 21 = .ok (.aload_n 0, 1) := by decide +kernel
theorem d_X_prepare_22 : decode b_X_prepare 22 = .ok (.iload_n 1, 1) := by decide +kernel
theorem d_X_prepare_23 : decode b_X_prepare 23 = .ok (.invokevirtual 95, 3) := by decide +kernel
theorem d_X_prepare_26 : decode b_X_prepare 26 = .ok (.iastore, 1) := by decide +kernel
theorem d_X_prepare_27 : decode b_X_prepare 27 = .ok (.iinc 1 1, 3) := by decide +kernel
theorem d_X_prepare_30 : decode b_X_prepare 30 = .ok (.goto (-20), 3) := by decide +kernel
theorem d_X_prepare_33 : decode b_X_prepare 33 = .ok (.aload_n 0, 1) := by decide +kernel
theorem d_X_prepare_34 : decode b_X_prepare 34 = .ok (.iconst 1, 1) := by decide +kernel
theorem d_X_prepare_35 : decode b_X_prepare 35 = .ok (.putfield 81, 3) := by decide +kernel
theorem d_X_prepare_38 : decode b_X_prepare 38 = .ok (.return_, 1) := by decide +kernel
theorem d_X_bad_0 : decode b_X_bad 0 = .ok (.iload_n 1, 1) := by decide +kernel
theorem d_X_bad_1 : decode b_X_bad 1 = .ok (.ifCond .lt 12, 3) := by decide +kernel
theorem d_X_bad_4 : decode b_X_bad 4 = .ok (.iload_n 1, 1) := by decide +kernel
theorem d_X_bad_5 : decode b_X_bad 5 = .ok (.iconst 4, 1) := by decide +kernel
theorem d_X_bad_6 : decode b_X_bad 6 = .ok (.if_icmp .gt 7, 3) := by decide +kernel
theorem d_X_bad_9 : decode b_X_bad 9 = .ok (.iload_n 2, 1) := by decide +kernel
theorem d_X_bad_10 : decode b_X_bad 10 = .ok (.ifCond .ge 5, 3) := by decide +kernel
theorem d_X_bad_13 : decode b_X_bad 13 = .ok (.iconst 1, 1) := by decide +kernel
theorem d_X_bad_14 : decode b_X_bad 14 = .ok (.ireturn, 1) := by decide +kernel
theorem d_X_bad_15 : decode b_X_bad 15 = .ok (.iload_n 2, 1) := by decide +kernel
theorem d_X_bad_16 : decode b_X_bad 16 = .ok (.iconst 1, 1) := by decide +kernel
theorem d_X_bad_17 : decode b_X_bad 17 = .ok (.iload_n 1, 1) := by decide +kernel
theorem d_X_bad_18 : decode b_X_bad 18 = .ok (.ishl, 1) := by decide +kernel
theorem d_X_bad_19 : decode b_X_bad 19 = .ok (.if_icmp .lt 7, 3) := by decide +kernel
theorem d_X_bad_22 : decode b_X_bad 22 = .ok (.iconst 1, 1) := by decide +kernel
theorem d_X_bad_23 : decode b_X_bad 23 = .ok (.goto 4, 3) := by decide +kernel
theorem d_X_bad_26 : decode b_X_bad 26 = .ok (.iconst 0, 1) := by decide +kernel
theorem d_X_bad_27 : decode b_X_bad 27 = .ok (.ireturn, 1) := by decide +kernel
theorem d_X_wordOf_0 : decode b_X_wordOf 0 = .ok (.iconst 1, 1) := by decide +kernel
theorem d_X_wordOf_1 : decode b_X_wordOf 1 = .ok (.iload_n 1, 1) := by decide +kernel
theorem d_X_wordOf_2 : decode b_X_wordOf 2 = .ok (.ishl, 1) := by decide +kernel
theorem d_X_wordOf_3 : decode b_X_wordOf 3 = .ok (.iconst 1, 1) := by decide +kernel
theorem d_X_wordOf_4 : decode b_X_wordOf 4 = .ok (.isub, 1) := by decide +kernel
theorem d_X_wordOf_5 : decode b_X_wordOf 5 = .ok (.iload_n 2, 1) := by decide +kernel
theorem d_X_wordOf_6 : decode b_X_wordOf 6 = .ok (.iadd, 1) := by decide +kernel
theorem d_X_wordOf_7 : decode b_X_wordOf 7 = .ok (.ireturn, 1) := by decide +kernel
theorem d_X_sizeOf_0 : decode b_X_sizeOf 0 = .ok (.iconst 0, 1) := by decide +kernel
theorem d_X_sizeOf_1 : decode b_X_sizeOf 1 = .ok (.istore_n 2, 1) := by decide +kernel
theorem d_X_sizeOf_2 : decode b_X_sizeOf 2 = .ok (.iconst 0, 1) := by decide +kernel
theorem d_X_sizeOf_3 : decode b_X_sizeOf 3 = .ok (.istore_n 3, 1) := by decide +kernel
theorem d_X_sizeOf_4 : decode b_X_sizeOf 4 = .ok (.iload_n 3, 1) := by decide +kernel
theorem d_X_sizeOf_5 : decode b_X_sizeOf 5 = .ok (.bipush 31, 2) := by decide +kernel
theorem d_X_sizeOf_7 : decode b_X_sizeOf 7 = .ok (.if_icmp .ge 17, 3) := by decide +kernel
theorem d_X_sizeOf_10 : decode b_X_sizeOf 10 = .ok (.iload_n 2, 1) := by decide +kernel
theorem d_X_sizeOf_11 : decode b_X_sizeOf 11 = .ok (.iload_n 1, 1) := by decide +kernel
theorem d_X_sizeOf_12 : decode b_X_sizeOf 12 = .ok (.iload_n 3, 1) := by decide +kernel
theorem d_X_sizeOf_13 : decode b_X_sizeOf 13 = .ok (.ishr, 1) := by decide +kernel
theorem d_X_sizeOf_14 : decode b_X_sizeOf 14 = .ok (.iconst 1, 1) := by decide +kernel
theorem d_X_sizeOf_15 : decode b_X_sizeOf 15 = .ok (.iand, 1) := by decide +kernel
theorem d_X_sizeOf_16 : decode b_X_sizeOf 16 = .ok (.iadd, 1) := by decide +kernel
theorem d_X_sizeOf_17 : decode b_X_sizeOf 17 = .ok (.istore_n 2, 1) := by decide +kernel
theorem d_X_sizeOf_18 : decode b_X_sizeOf 18 = .ok (.iinc 3 1, 3) := by decide +kernel
theorem d_X_sizeOf_21 : decode b_X_sizeOf 21 = .ok (.goto (-17), 3) := by decide +kernel
theorem d_X_sizeOf_24 : decode b_X_sizeOf 24 = .ok (.iload_n 2, 1) := by decide +kernel
theorem d_X_sizeOf_25 : decode b_X_sizeOf 25 = .ok (.ireturn, 1) := by decide +kernel
theorem d_X_related_0 : decode b_X_related 0 = .ok (.aload_n 0, 1) := by decide +kernel
theorem d_X_related_1 : decode b_X_related 1 = .ok (.iload_n 1, 1) := by decide +kernel
theorem d_X_related_2 : decode b_X_related 2 = .ok (.iload_n 2, 1) := by decide +kernel
theorem d_X_related_3 : decode b_X_related 3 = .ok (.invokevirtual 98, 3) := by decide +kernel
theorem d_X_related_6 : decode b_X_related 6 = .ok (.ifCond .ne 13, 3) := by decide +kernel
theorem d_X_related_9 : decode b_X_related 9 = .ok (.aload_n 0, 1) := by decide +kernel
theorem d_X_related_10 : decode b_X_related 10 = .ok (.iload_n 3, 1) := by decide +kernel
theorem d_X_related_11 : decode b_X_related 11 = .ok (.iload 4, 2) := by decide +kernel
theorem d_X_related_13 : decode b_X_related 13 = .ok (.invokevirtual 98, 3) := by decide +kernel
theorem d_X_related_16 : decode b_X_related 16 = .ok (.ifCond .eq 5, 3) := by decide +kernel
theorem d_X_related_19 : decode b_X_related 19 = .ok (.iconst 0, 1) := by decide +kernel
theorem d_X_related_20 : decode b_X_related 20 = .ok (.ireturn, 1) := by decide +kernel
theorem d_X_related_21 : decode b_X_related 21 = .ok (.aload_n 0, 1) := by decide +kernel
theorem d_X_related_22 : decode b_X_related 22 = .ok (.invokevirtual 102, 3) := by decide +kernel
theorem d_X_related_25 : decode b_X_related 25 = .ok (.aload_n 0, 1) := by decide +kernel
theorem d_X_related_26 : decode b_X_related 26 = .ok (.iload_n 1, 1) := by decide +kernel
theorem d_X_related_27 : decode b_X_related 27 = .ok (.iload_n 2, 1) := by decide +kernel
theorem d_X_related_28 : decode b_X_related 28 = .ok (.invokevirtual 105, 3) := by decide +kernel
theorem d_X_related_31 : decode b_X_related 31 = .ok (.istore 5, 2) := by decide +kernel
theorem d_X_related_33 : decode b_X_related 33 = .ok (.aload_n 0, 1) := by decide +kernel
theorem d_X_related_34 : decode b_X_related 34 = .ok (.iload_n 3, 1) := by decide +kernel
theorem d_X_related_35 : decode b_X_related 35 = .ok (.iload 4, 2) := by decide +kernel
theorem d_X_related_37 : decode b_X_related 37 = .ok (.invokevirtual 105, 3) := by decide +kernel
theorem d_X_related_40 : decode b_X_related 40 = .ok (.istore 6, 2) := by decide +kernel
theorem d_X_related_42 : decode b_X_related 42 = .ok (.aload_n 0, 1) := by decide +kernel
theorem d_X_related_43 : decode b_X_related 43 = .ok (.getfield 38, 3) := by decide +kernel
theorem d_X_related_46 : decode b_X_related 46 = .ok (.iload 5, 2) := by decide +kernel
theorem d_X_related_48 : decode b_X_related 48 = .ok (.iaload, 1) := by decide +kernel
theorem d_X_related_49 : decode b_X_related 49 = .ok (.iload 6, 2) := by decide +kernel
theorem d_X_related_51 : decode b_X_related 51 = .ok (.ishr, 1) := by decide +kernel
theorem d_X_related_52 : decode b_X_related 52 = .ok (.iconst 1, 1) := by decide +kernel
theorem d_X_related_53 : decode b_X_related 53 = .ok (.iand, 1) := by decide +kernel
theorem d_X_related_54 : decode b_X_related 54 = .ok (.iconst 1, 1) := by decide +kernel
theorem d_X_related_55 : decode b_X_related 55 = .ok (.if_icmp .ne 7, 3) := by decide +kernel
theorem d_X_related_58 : decode b_X_related 58 = .ok (.iconst 1, 1) := by decide +kernel
theorem d_X_related_59 : decode b_X_related 59 = .ok (.goto 4, 3) := by decide +kernel
theorem d_X_related_62 : decode b_X_related 62 = .ok (.iconst 0, 1) := by decide +kernel
theorem d_X_related_63 : decode b_X_related 63 = .ok (.ireturn, 1) := by decide +kernel
theorem d_X_images_0 : decode b_X_images 0 = .ok (.aload_n 0, 1) := by decide +kernel
theorem d_X_images_1 : decode b_X_images 1 = .ok (.iload_n 1, 1) := by decide +kernel
theorem d_X_images_2 : decode b_X_images 2 = .ok (.iload_n 2, 1) := by decide +kernel
theorem d_X_images_3 : decode b_X_images 3 = .ok (.invokevirtual 98, 3) := by decide +kernel
theorem d_X_images_6 : decode b_X_images 6 = .ok (.ifCond .eq 5, 3) := by decide +kernel
theorem d_X_images_9 : decode b_X_images 9 = .ok (.iconst (-1), 1) := by decide +kernel
theorem d_X_images_10 : decode b_X_images 10 = .ok (.ireturn, 1) := by decide +kernel
theorem d_X_images_11 : decode b_X_images 11 = .ok (.aload_n 0, 1) := by decide +kernel
theorem d_X_images_12 : decode b_X_images 12 = .ok (.invokevirtual 102, 3) := by decide +kernel
theorem d_X_images_15 : decode b_X_images 15 = .ok (.aload_n 0, 1) := by decide +kernel
theorem d_X_images_16 : decode b_X_images 16 = .ok (.iload_n 1, 1) := by decide +kernel
theorem d_X_images_17 : decode b_X_images 17 = .ok (.iload_n 2, 1) := by decide +kernel
theorem d_X_images_18 : decode b_X_images 18 = .ok (.invokevirtual 105, 3) := by decide +kernel
theorem d_X_images_21 : decode b_X_images 21 = .ok (.istore_n 3, 1) := by decide +kernel
theorem d_X_images_22 : decode b_X_images 22 = .ok (.aload_n 0, 1) := by decide +kernel
theorem d_X_images_23 : decode b_X_images 23 = .ok (.aload_n 0, 1) := by decide +kernel
theorem d_X_images_24 : decode b_X_images 24 = .ok (.getfield 38, 3) := by decide +kernel
theorem d_X_images_27 : decode b_X_images 27 = .ok (.iload_n 3, 1) := by decide +kernel
theorem d_X_images_28 : decode b_X_images 28 = .ok (.iaload, 1) := by decide +kernel
theorem d_X_images_29 : decode b_X_images 29 = .ok (.invokevirtual 108, 3) := by decide +kernel
theorem d_X_images_32 : decode b_X_images 32 = .ok (.ireturn, 1) := by decide +kernel
theorem d_X_image_0 : decode b_X_image 0 = .ok (.aload_n 0, 1) := by decide +kernel
theorem d_X_image_1 : decode b_X_image 1 = .ok (.iload_n 1, 1) := by decide +kernel
theorem d_X_image_2 : decode b_X_image 2 = .ok (.iload_n 2, 1) := by decide +kernel
theorem d_X_image_3 : decode b_X_image 3 = .ok (.invokevirtual 98, 3) := by decide +kernel
theorem d_X_image_6 : decode b_X_image 6 = .ok (.ifCond .eq 5, 3) := by decide +kernel
theorem d_X_image_9 : decode b_X_image 9 = .ok (.iconst (-1), 1) := by decide +kernel
theorem d_X_image_10 : decode b_X_image 10 = .ok (.ireturn, 1) := by decide +kernel
theorem d_X_image_11 : decode b_X_image 11 = .ok (.aload_n 0, 1) := by decide +kernel
theorem d_X_image_12 : decode b_X_image 12 = .ok (.invokevirtual 102, 3) := by decide +kernel
theorem d_X_image_15 : decode b_X_image 15 = .ok (.aload_n 0, 1) := by decide +kernel
theorem d_X_image_16 : decode b_X_image 16 = .ok (.iload_n 1, 1) := by decide +kernel
theorem d_X_image_17 : decode b_X_image 17 = .ok (.iload_n 2, 1) := by decide +kernel
theorem d_X_image_18 : decode b_X_image 18 = .ok (.invokevirtual 105, 3) := by decide +kernel
theorem d_X_image_21 : decode b_X_image 21 = .ok (.istore 4, 2) := by decide +kernel
theorem d_X_image_23 : decode b_X_image 23 = .ok (.iload_n 3, 1) := by decide +kernel
theorem d_X_image_24 : decode b_X_image 24 = .ok (.istore 5, 2) := by decide +kernel
theorem d_X_image_26 : decode b_X_image 26 = .ok (.iconst 0, 1) := by decide +kernel
theorem d_X_image_27 : decode b_X_image 27 = .ok (.istore 6, 2) := by decide +kernel
theorem d_X_image_29 : decode b_X_image 29 = .ok (.iload 6, 2) := by decide +kernel
theorem d_X_image_31 : decode b_X_image 31 = .ok (.bipush 31, 2) := by decide +kernel
theorem d_X_image_33 : decode b_X_image 33 = .ok (.if_icmp .ge 64, 3) := by decide +kernel
theorem d_X_image_36 : decode b_X_image 36 = .ok (.iload 5, 2) := by decide +kernel
theorem d_X_image_38 : decode b_X_image 38 = .ok (.ifCond .lt 59, 3) := by decide +kernel
theorem d_X_image_41 : decode b_X_image 41 = .ok (.aload_n 0, 1) := by decide +kernel
theorem d_X_image_42 : decode b_X_image 42 = .ok (.getfield 38, 3) := by decide +kernel
theorem d_X_image_45 : decode b_X_image 45 = .ok (.iload 4, 2) := by decide +kernel
theorem d_X_image_47 : decode b_X_image 47 = .ok (.iaload, 1) := by decide +kernel
theorem d_X_image_48 : decode b_X_image 48 = .ok (.iload 6, 2) := by decide +kernel
theorem d_X_image_50 : decode b_X_image 50 = .ok (.ishr, 1) := by decide +kernel
theorem d_X_image_51 : decode b_X_image 51 = .ok (.iconst 1, 1) := by decide +kernel
theorem d_X_image_52 : decode b_X_image 52 = .ok (.iand, 1) := by decide +kernel
theorem d_X_image_53 : decode b_X_image 53 = .ok (.iconst 1, 1) := by decide +kernel
theorem d_X_image_54 : decode b_X_image 54 = .ok (.if_icmp .ne 37, 3) := by decide +kernel
theorem d_X_image_57 : decode b_X_image 57 = .ok (.iload 5, 2) := by decide +kernel
theorem d_X_image_59 : decode b_X_image 59 = .ok (.ifCond .ne 29, 3) := by decide +kernel
theorem d_X_image_62 : decode b_X_image 62 = .ok (.bipush 16, 2) := by decide +kernel
theorem d_X_image_64 : decode b_X_image 64 = .ok (.aload_n 0, 1) := by decide +kernel
theorem d_X_image_65 : decode b_X_image 65 = .ok (.getfield 44, 3) := by decide +kernel
theorem d_X_image_68 : decode b_X_image 68 = .ok (.iload 6, 2) := by decide +kernel
theorem d_X_image_70 : decode b_X_image 70 = .ok (.iaload, 1) := by decide +kernel
theorem d_X_image_71 : decode b_X_image 71 = .ok (.imul, 1) := by decide +kernel
theorem d_X_image_72 : decode b_X_image 72 = .ok (.iload 6, 2) := by decide +kernel
theorem d_X_image_74 : decode b_X_image 74 = .ok (.iadd, 1) := by decide +kernel
theorem d_X_image_75 : decode b_X_image 75 = .ok (.iconst 1, 1) := by decide +kernel
theorem d_X_image_76 : decode b_X_image 76 = .ok (.iadd, 1) := by decide +kernel
theorem d_X_image_77 : decode b_X_image 77 = .ok (.iconst 1, 1) := by decide +kernel
theorem d_X_image_78 : decode b_X_image 78 = .ok (.aload_n 0, 1) := by decide +kernel
theorem d_X_image_79 : decode b_X_image 79 = .ok (.getfield 44, 3) := by decide +kernel
theorem d_X_image_82 : decode b_X_image 82 = .ok (.iload 6, 2) := by decide +kernel
theorem d_X_image_84 : decode b_X_image 84 = .ok (.iaload, 1) := by decide +kernel
theorem d_X_image_85 : decode b_X_image 85 = .ok (.ishl, 1) := by decide +kernel
theorem d_X_image_86 : decode b_X_image 86 = .ok (.isub, 1) := by decide +kernel
theorem d_X_image_87 : decode b_X_image 87 = .ok (.ireturn, 1) := by decide +kernel
theorem d_X_image_88 : decode b_X_image 88 = .ok (.iinc 5 (-1), 3) := by decide +kernel
theorem d_X_image_91 : decode b_X_image 91 = .ok (.iinc 6 1, 3) := by decide +kernel
theorem d_X_image_94 : decode b_X_image 94 = .ok (.goto (-65), 3) := by decide +kernel
theorem d_X_image_97 : decode b_X_image 97 = .ok (.bipush (-4), 2) := by decide +kernel
theorem d_X_image_99 : decode b_X_image 99 = .ok (.ireturn, 1) := by decide +kernel
theorem d_X_sources_0 : decode b_X_sources 0 = .ok (.aload_n 0, 1) := by decide +kernel
theorem d_X_sources_1 : decode b_X_sources 1 = .ok (.iload_n 1, 1) := by decide +kernel
theorem d_X_sources_2 : decode b_X_sources 2 = .ok (.iload_n 2, 1) := by decide +kernel
theorem d_X_sources_3 : decode b_X_sources 3 = .ok (.invokevirtual 98, 3) := by decide +kernel
theorem d_X_sources_6 : decode b_X_sources 6 = .ok (.ifCond .eq 5, 3) := by decide +kernel
theorem d_X_sources_9 : decode b_X_sources 9 = .ok (.iconst (-1), 1) := by decide +kernel
theorem d_X_sources_10 : decode b_X_sources 10 = .ok (.ireturn, 1) := by decide +kernel
theorem d_X_sources_11 : decode b_X_sources 11 = .ok (.aload_n 0, 1) := by decide +kernel
theorem d_X_sources_12 : decode b_X_sources 12 = .ok (.invokevirtual 102, 3) := by decide +kernel
theorem d_X_sources_15 : decode b_X_sources 15 = .ok (.aload_n 0, 1) := by decide +kernel
theorem d_X_sources_16 : decode b_X_sources 16 = .ok (.iload_n 1, 1) := by decide +kernel
theorem d_X_sources_17 : decode b_X_sources 17 = .ok (.iload_n 2, 1) := by decide +kernel
theorem d_X_sources_18 : decode b_X_sources 18 = .ok (.invokevirtual 105, 3) := by decide +kernel
theorem d_X_sources_21 : decode b_X_sources 21 = .ok (.istore_n 3, 1) := by decide +kernel
theorem d_X_sources_22 : decode b_X_sources 22 = .ok (.iconst 0, 1) := by decide +kernel
theorem d_X_sources_23 : decode b_X_sources 23 = .ok (.istore 4, 2) := by decide +kernel
theorem d_X_sources_25 : decode b_X_sources 25 = .ok (.iconst 0, 1) := by decide +kernel
theorem d_X_sources_26 : decode b_X_sources 26 = .ok (.istore 5, 2) := by decide +kernel
theorem d_X_sources_28 : decode b_X_sources 28 = .ok (.iload 5, 2) := by decide +kernel
theorem d_X_sources_30 : decode b_X_sources 30 = .ok (.bipush 31, 2) := by decide +kernel
theorem d_X_sources_32 : decode b_X_sources 32 = .ok (.if_icmp .ge 25, 3) := by decide +kernel
theorem d_X_sources_35 : decode b_X_sources 35 = .ok (.iload 4, 2) := by decide +kernel
theorem d_X_sources_37 : decode b_X_sources 37 = .ok (.aload_n 0, 1) := by decide +kernel
theorem d_X_sources_38 : decode b_X_sources 38 = .ok (.getfield 38, 3) := by decide +kernel
theorem d_X_sources_41 : decode b_X_sources 41 = .ok (.iload 5, 2) := by decide +kernel
theorem d_X_sources_43 : decode b_X_sources 43 = .ok (.iaload, 1) := by decide +kernel
theorem d_X_sources_44 : decode b_X_sources 44 = .ok (.iload_n 3, 1) := by decide +kernel
theorem d_X_sources_45 : decode b_X_sources 45 = .ok (.ishr, 1) := by decide +kernel
theorem d_X_sources_46 : decode b_X_sources 46 = .ok (.iconst 1, 1) := by decide +kernel
theorem d_X_sources_47 : decode b_X_sources 47 = .ok (.iand, 1) := by decide +kernel
theorem d_X_sources_48 : decode b_X_sources 48 = .ok (.iadd, 1) := by decide +kernel
theorem d_X_sources_49 : decode b_X_sources 49 = .ok (.istore 4, 2) := by decide +kernel
theorem d_X_sources_51 : decode b_X_sources 51 = .ok (.iinc 5 1, 3) := by decide +kernel
theorem d_X_sources_54 : decode b_X_sources 54 = .ok (.goto (-26), 3) := by decide +kernel
theorem d_X_sources_57 : decode b_X_sources 57 = .ok (.iload 4, 2) := by decide +kernel
theorem d_X_sources_59 : decode b_X_sources 59 = .ok (.ireturn, 1) := by decide +kernel
theorem d_X_pairs_0 : decode b_X_pairs 0 = .ok (.aload_n 0, 1) := by decide +kernel
theorem d_X_pairs_1 : decode b_X_pairs 1 = .ok (.invokevirtual 102, 3) := by decide +kernel
theorem d_X_pairs_4 : decode b_X_pairs 4 = .ok (.iconst 0, 1) := by decide +kernel
theorem d_X_pairs_5 : decode b_X_pairs 5 = .ok (.istore_n 1, 1) := by decide +kernel
theorem d_X_pairs_6 : decode b_X_pairs 6 = .ok (.iconst 0, 1) := by decide +kernel
theorem d_X_pairs_7 : decode b_X_pairs 7 = .ok (.istore_n 2, 1) := by decide +kernel
theorem d_X_pairs_8 : decode b_X_pairs 8 = .ok (.iload_n 2, 1) := by decide +kernel
theorem d_X_pairs_9 : decode b_X_pairs 9 = .ok (.bipush 31, 2) := by decide +kernel
theorem d_X_pairs_11 : decode b_X_pairs 11 = .ok (.if_icmp .ge 24, 3) := by decide +kernel
theorem d_X_pairs_14 : decode b_X_pairs 14 = .ok (.aload_n 0, 1) := by decide +kernel
theorem d_X_pairs_15 : decode b_X_pairs 15 = .ok (.aload_n 0, 1) := by decide +kernel
theorem d_X_pairs_16 : decode b_X_pairs 16 = .ok (.getfield 38, 3) := by decide +kernel
theorem d_X_pairs_19 : decode b_X_pairs 19 = .ok (.iload_n 2, 1) := by decide +kernel
theorem d_X_pairs_20 : decode b_X_pairs 20 = .ok (.iaload, 1) := by decide +kernel
theorem d_X_pairs_21 : decode b_X_pairs 21 = .ok (.invokevirtual 108, 3) := by decide +kernel
theorem d_X_pairs_24 : decode b_X_pairs 24 = .ok (.istore_n 3, 1) := by decide +kernel
theorem d_X_pairs_25 : decode b_X_pairs 25 = .ok (.iload_n 1, 1) := by decide +kernel
theorem d_X_pairs_26 : decode b_X_pairs 26 = .ok (.iload_n 3, 1) := by decide +kernel
theorem d_X_pairs_27 : decode b_X_pairs 27 = .ok (.iadd, 1) := by decide +kernel
theorem d_X_pairs_28 : decode b_X_pairs 28 = .ok (.istore_n 1, 1) := by decide +kernel
theorem d_X_pairs_29 : decode b_X_pairs 29 = .ok (.iinc 2 1, 3) := by decide +kernel
theorem d_X_pairs_32 : decode b_X_pairs 32 = .ok (.goto (-24), 3) := by decide +kernel
theorem d_X_pairs_35 : decode b_X_pairs 35 = .ok (.iload_n 1, 1) := by decide +kernel
theorem d_X_pairs_36 : decode b_X_pairs 36 = .ok (.ireturn, 1) := by decide +kernel
theorem d_X_having_0 : decode b_X_having 0 = .ok (.aload_n 0, 1) := by decide +kernel
theorem d_X_having_1 : decode b_X_having 1 = .ok (.invokevirtual 102, 3) := by decide +kernel
theorem d_X_having_4 : decode b_X_having 4 = .ok (.iconst 0, 1) := by decide +kernel
theorem d_X_having_5 : decode b_X_having 5 = .ok (.istore_n 2, 1) := by decide +kernel
theorem d_X_having_6 : decode b_X_having 6 = .ok (.iconst 0, 1) := by decide +kernel
theorem d_X_having_7 : decode b_X_having 7 = .ok (.istore_n 3, 1) := by decide +kernel
theorem d_X_having_8 : decode b_X_having 8 = .ok (.iload_n 3, 1) := by decide +kernel
theorem d_X_having_9 : decode b_X_having 9 = .ok (.bipush 31, 2) := by decide +kernel
theorem d_X_having_11 : decode b_X_having 11 = .ok (.if_icmp .ge 30, 3) := by decide +kernel
theorem d_X_having_14 : decode b_X_having 14 = .ok (.aload_n 0, 1) := by decide +kernel
theorem d_X_having_15 : decode b_X_having 15 = .ok (.aload_n 0, 1) := by decide +kernel
theorem d_X_having_16 : decode b_X_having 16 = .ok (.getfield 38, 3) := by decide +kernel
theorem d_X_having_19 : decode b_X_having 19 = .ok (.iload_n 3, 1) := by decide +kernel
theorem d_X_having_20 : decode b_X_having 20 = .ok (.iaload, 1) := by decide +kernel
theorem d_X_having_21 : decode b_X_having 21 = .ok (.invokevirtual 108, 3) := by decide +kernel
theorem d_X_having_24 : decode b_X_having 24 = .ok (.istore 4, 2) := by decide +kernel
theorem d_X_having_26 : decode b_X_having 26 = .ok (.iload 4, 2) := by decide +kernel
theorem d_X_having_28 : decode b_X_having 28 = .ok (.iload_n 1, 1) := by decide +kernel
theorem d_X_having_29 : decode b_X_having 29 = .ok (.if_icmp .lt 6, 3) := by decide +kernel
theorem d_X_having_32 : decode b_X_having 32 = .ok (.iinc 2 1, 3) := by decide +kernel
theorem d_X_having_35 : decode b_X_having 35 = .ok (.iinc 3 1, 3) := by decide +kernel
theorem d_X_having_38 : decode b_X_having 38 = .ok (.goto (-30), 3) := by decide +kernel
theorem d_X_having_41 : decode b_X_having 41 = .ok (.iload_n 2, 1) := by decide +kernel
theorem d_X_having_42 : decode b_X_having 42 = .ok (.ireturn, 1) := by decide +kernel
theorem d_X_domain_0 : decode b_X_domain 0 = .ok (.aload_n 0, 1) := by decide +kernel
theorem d_X_domain_1 : decode b_X_domain 1 = .ok (.iconst 1, 1) := by decide +kernel
theorem d_X_domain_2 : decode b_X_domain 2 = .ok (.invokevirtual 111, 3) := by decide +kernel
theorem d_X_domain_5 : decode b_X_domain 5 = .ok (.ireturn, 1) := by decide +kernel
theorem d_X_manyValued_0 : decode b_X_manyValued 0 = .ok (.aload_n 0, 1) := by decide +kernel
theorem d_X_manyValued_1 : decode b_X_manyValued 1 = .ok (.iconst 2, 1) := by decide +kernel
theorem d_X_manyValued_2 : decode b_X_manyValued 2 = .ok (.invokevirtual 111, 3) := by decide +kernel
theorem d_X_manyValued_5 : decode b_X_manyValued 5 = .ok (.ireturn, 1) := by decide +kernel
theorem d_X_fixed_0 : decode b_X_fixed 0 = .ok (.aload_n 0, 1) := by decide +kernel
theorem d_X_fixed_1 : decode b_X_fixed 1 = .ok (.invokevirtual 102, 3) := by decide +kernel
theorem d_X_fixed_4 : decode b_X_fixed 4 = .ok (.iconst 0, 1) := by decide +kernel
theorem d_X_fixed_5 : decode b_X_fixed 5 = .ok (.istore_n 1, 1) := by decide +kernel
theorem d_X_fixed_6 : decode b_X_fixed 6 = .ok (.iconst 0, 1) := by decide +kernel
theorem d_X_fixed_7 : decode b_X_fixed 7 = .ok (.istore_n 2, 1) := by decide +kernel
theorem d_X_fixed_8 : decode b_X_fixed 8 = .ok (.iload_n 2, 1) := by decide +kernel
theorem d_X_fixed_9 : decode b_X_fixed 9 = .ok (.bipush 31, 2) := by decide +kernel
theorem d_X_fixed_11 : decode b_X_fixed 11 = .ok (.if_icmp .ge 22, 3) := by decide +kernel
theorem d_X_fixed_14 : decode b_X_fixed 14 = .ok (.iload_n 1, 1) := by decide +kernel
theorem d_X_fixed_15 : decode b_X_fixed 15 = .ok (.aload_n 0, 1) := by decide +kernel
theorem d_X_fixed_16 : decode b_X_fixed 16 = .ok (.getfield 38, 3) := by decide +kernel
theorem d_X_fixed_19 : decode b_X_fixed 19 = .ok (.iload_n 2, 1) := by decide +kernel
theorem d_X_fixed_20 : decode b_X_fixed 20 = .ok (.iaload, 1) := by decide +kernel
theorem d_X_fixed_21 : decode b_X_fixed 21 = .ok (.iload_n 2, 1) := by decide +kernel
theorem d_X_fixed_22 : decode b_X_fixed 22 = .ok (.ishr, 1) := by decide +kernel
theorem d_X_fixed_23 : decode b_X_fixed 23 = .ok (.iconst 1, 1) := by decide +kernel
theorem d_X_fixed_24 : decode b_X_fixed 24 = .ok (.iand, 1) := by decide +kernel
theorem d_X_fixed_25 : decode b_X_fixed 25 = .ok (.iadd, 1) := by decide +kernel
theorem d_X_fixed_26 : decode b_X_fixed 26 = .ok (.istore_n 1, 1) := by decide +kernel
theorem d_X_fixed_27 : decode b_X_fixed 27 = .ok (.iinc 2 1, 3) := by decide +kernel
theorem d_X_fixed_30 : decode b_X_fixed 30 = .ok (.goto (-22), 3) := by decide +kernel
theorem d_X_fixed_33 : decode b_X_fixed 33 = .ok (.iload_n 1, 1) := by decide +kernel
theorem d_X_fixed_34 : decode b_X_fixed 34 = .ok (.ireturn, 1) := by decide +kernel
theorem d_X_twoSteps_0 : decode b_X_twoSteps 0 = .ok (.aload_n 0, 1) := by decide +kernel
theorem d_X_twoSteps_1 : decode b_X_twoSteps 1 = .ok (.invokevirtual 102, 3) := by decide +kernel
theorem d_X_twoSteps_4 : decode b_X_twoSteps 4 = .ok (.iconst 0, 1) := by decide +kernel
theorem d_X_twoSteps_5 : decode b_X_twoSteps 5 = .ok (.istore_n 1, 1) := by decide +kernel
theorem d_X_twoSteps_6 : decode b_X_twoSteps 6 = .ok (.iconst 0, 1) := by decide +kernel
theorem d_X_twoSteps_7 : decode b_X_twoSteps 7 = .ok (.istore_n 2, 1) := by decide +kernel
theorem d_X_twoSteps_8 : decode b_X_twoSteps 8 = .ok (.iload_n 2, 1) := by decide +kernel
theorem d_X_twoSteps_9 : decode b_X_twoSteps 9 = .ok (.bipush 31, 2) := by decide +kernel
theorem d_X_twoSteps_11 : decode b_X_twoSteps 11 = .ok (.if_icmp .ge 64, 3) := by decide +kernel
theorem d_X_twoSteps_14 : decode b_X_twoSteps 14 = .ok (.iconst 0, 1) := by decide +kernel
theorem d_X_twoSteps_15 : decode b_X_twoSteps 15 = .ok (.istore_n 3, 1) := by decide +kernel
theorem d_X_twoSteps_16 : decode b_X_twoSteps 16 = .ok (.iconst 0, 1) := by decide +kernel
theorem d_X_twoSteps_17 : decode b_X_twoSteps 17 = .ok (.istore 4, 2) := by decide +kernel
theorem d_X_twoSteps_19 : decode b_X_twoSteps 19 = .ok (.iload 4, 2) := by decide +kernel
theorem d_X_twoSteps_21 : decode b_X_twoSteps 21 = .ok (.bipush 31, 2) := by decide +kernel
theorem d_X_twoSteps_23 : decode b_X_twoSteps 23 = .ok (.if_icmp .ge 34, 3) := by decide +kernel
theorem d_X_twoSteps_26 : decode b_X_twoSteps 26 = .ok (.aload_n 0, 1) := by decide +kernel
theorem d_X_twoSteps_27 : decode b_X_twoSteps 27 = .ok (.getfield 38, 3) := by decide +kernel
theorem d_X_twoSteps_30 : decode b_X_twoSteps 30 = .ok (.iload_n 2, 1) := by decide +kernel
theorem d_X_twoSteps_31 : decode b_X_twoSteps 31 = .ok (.iaload, 1) := by decide +kernel
theorem d_X_twoSteps_32 : decode b_X_twoSteps 32 = .ok (.iload 4, 2) := by decide +kernel
theorem d_X_twoSteps_34 : decode b_X_twoSteps 34 = .ok (.ishr, 1) := by decide +kernel
theorem d_X_twoSteps_35 : decode b_X_twoSteps 35 = .ok (.iconst 1, 1) := by decide +kernel
theorem d_X_twoSteps_36 : decode b_X_twoSteps 36 = .ok (.iand, 1) := by decide +kernel
theorem d_X_twoSteps_37 : decode b_X_twoSteps 37 = .ok (.iconst 1, 1) := by decide +kernel
theorem d_X_twoSteps_38 : decode b_X_twoSteps 38 = .ok (.if_icmp .ne 13, 3) := by decide +kernel
theorem d_X_twoSteps_41 : decode b_X_twoSteps 41 = .ok (.iload_n 3, 1) := by decide +kernel
theorem d_X_twoSteps_42 : decode b_X_twoSteps 42 = .ok (.aload_n 0, 1) := by decide +kernel
theorem d_X_twoSteps_43 : decode b_X_twoSteps 43 = .ok (.getfield 38, 3) := by decide +kernel
theorem d_X_twoSteps_46 : decode b_X_twoSteps 46 = .ok (.iload 4, 2) := by decide +kernel
theorem d_X_twoSteps_48 : decode b_X_twoSteps 48 = .ok (.iaload, 1) := by decide +kernel
theorem d_X_twoSteps_49 : decode b_X_twoSteps 49 = .ok (.ior, 1) := by decide +kernel
theorem d_X_twoSteps_50 : decode b_X_twoSteps 50 = .ok (.istore_n 3, 1) := by decide +kernel
theorem d_X_twoSteps_51 : decode b_X_twoSteps 51 = .ok (.iinc 4 1, 3) := by decide +kernel
theorem d_X_twoSteps_54 : decode b_X_twoSteps 54 = .ok (.goto (-35), 3) := by decide +kernel
theorem d_X_twoSteps_57 : decode b_X_twoSteps 57 = .ok (.aload_n 0, 1) := by decide +kernel
theorem d_X_twoSteps_58 : decode b_X_twoSteps 58 = .ok (.iload_n 3, 1) := by decide +kernel
theorem d_X_twoSteps_59 : decode b_X_twoSteps 59 = .ok (.invokevirtual 108, 3) := by decide +kernel
theorem d_X_twoSteps_62 : decode b_X_twoSteps 62 = .ok (.istore 4, 2) := by decide +kernel
theorem d_X_twoSteps_64 : decode b_X_twoSteps 64 = .ok (.iload_n 1, 1) := by decide +kernel
theorem d_X_twoSteps_65 : decode b_X_twoSteps 65 = .ok (.iload 4, 2) := by decide +kernel
theorem d_X_twoSteps_67 : decode b_X_twoSteps 67 = .ok (.iadd, 1) := by decide +kernel
theorem d_X_twoSteps_68 : decode b_X_twoSteps 68 = .ok (.istore_n 1, 1) := by decide +kernel
theorem d_X_twoSteps_69 : decode b_X_twoSteps 69 = .ok (.iinc 2 1, 3) := by decide +kernel
theorem d_X_twoSteps_72 : decode b_X_twoSteps 72 = .ok (.goto (-64), 3) := by decide +kernel
theorem d_X_twoSteps_75 : decode b_X_twoSteps 75 = .ok (.iload_n 1, 1) := by decide +kernel
theorem d_X_twoSteps_76 : decode b_X_twoSteps 76 = .ok (.ireturn, 1) := by decide +kernel
end
section
theorem d_M_init_0 : decode b_M_init 0 = .ok (.aload_n 0, 1) := by decide +kernel
theorem d_M_init_1 : decode b_M_init 1 = .ok (.invokespecial 1, 3) := by decide +kernel
theorem d_M_init_4 : decode b_M_init 4 = .ok (.aload_n 0, 1) := by decide +kernel
theorem d_M_init_5 : decode b_M_init 5 = .ok (.sipush 248, 3) := by decide +kernel
theorem d_M_init_8 : decode b_M_init 8 = .ok (.newarray .int, 2) := by decide +kernel
theorem d_M_init_10 : decode b_M_init 10 = .ok (.putfield 7, 3) := by decide +kernel
theorem d_M_init_13 : decode b_M_init 13 = .ok (.return_, 1) := by decide +kernel
theorem d_M_lenOf_0 : decode b_M_lenOf 0 = .ok (.iconst 0, 1) := by decide +kernel
theorem d_M_lenOf_1 : decode b_M_lenOf 1 = .ok (.istore_n 2, 1) := by decide +kernel
theorem d_M_lenOf_2 : decode b_M_lenOf 2 = .ok (.iload_n 2, 1) := by decide +kernel
theorem d_M_lenOf_3 : decode b_M_lenOf 3 = .ok (.iconst 4, 1) := by decide +kernel
theorem d_M_lenOf_4 : decode b_M_lenOf 4 = .ok (.if_icmp .ge 20, 3) := by decide +kernel
theorem d_M_lenOf_7 : decode b_M_lenOf 7 = .ok (.iconst 1, 1) := by decide +kernel
theorem d_M_lenOf_8 : decode b_M_lenOf 8 = .ok (.iload_n 2, 1) := by decide +kernel
theorem d_M_lenOf_9 : decode b_M_lenOf 9 = .ok (.iconst 1, 1) := by decide +kernel
theorem d_M_lenOf_10 : decode b_M_lenOf 10 = .ok (.iadd, 1) := by decide +kernel
theorem d_M_lenOf_11 : decode b_M_lenOf 11 = .ok (.ishl, 1) := by decide +kernel
theorem d_M_lenOf_12 : decode b_M_lenOf 12 = .ok (.iconst 1, 1) := by decide +kernel
theorem d_M_lenOf_13 : decode b_M_lenOf 13 = .ok (.isub, 1) := by decide +kernel
theorem d_M_lenOf_14 : decode b_M_lenOf 14 = .ok (.iload_n 1, 1) := by decide +kernel
theorem d_M_lenOf_15 : decode b_M_lenOf 15 = .ok (.if_icmp .gt 9, 3) := by decide +kernel
theorem d_M_lenOf_18 : decode b_M_lenOf 18 = .ok (.iinc 2 1, 3) := by decide +kernel
theorem d_M_lenOf_21 : decode b_M_lenOf 21 = .ok (.goto (-19), 3) := by decide +kernel
theorem d_M_lenOf_24 : decode b_M_lenOf 24 = .ok (.iload_n 2, 1) := by decide +kernel
theorem d_M_lenOf_25 : decode b_M_lenOf 25 = .ok (.ireturn, 1) := by decide +kernel
theorem d_M_head_0 : decode b_M_head 0 = .ok (.aload_n 0, 1) := by decide +kernel
theorem d_M_head_1 : decode b_M_head 1 = .ok (.iload_n 1, 1) := by decide +kernel
theorem d_M_head_2 : decode b_M_head 2 = .ok (.invokevirtual 13, 3) := by decide +kernel
theorem d_M_head_5 : decode b_M_head 5 = .ok (.istore_n 3, 1) := by decide +kernel
theorem d_M_head_6 : decode b_M_head 6 = .ok (.iload_n 1, 1) := by decide +kernel
theorem d_M_head_7 : decode b_M_head 7 = .ok (.iconst 1, 1) := by decide +kernel
theorem d_M_head_8 : decode b_M_head 8 = .ok (.iload_n 3, 1) := by decide +kernel
theorem d_M_head_9 : decode b_M_head 9 = .ok (.ishl, 1) := by decide +kernel
theorem d_M_head_10 : decode b_M_head 10 = .ok (.iconst 1, 1) := by decide +kernel
theorem d_M_head_11 : decode b_M_head 11 = .ok (.isub, 1) := by decide +kernel
theorem d_M_head_12 : decode b_M_head 12 = .ok (.isub, 1) := by decide +kernel
theorem d_M_head_13 : decode b_M_head 13 = .ok (.istore 4, 2) := by decide +kernel
theorem d_M_head_15 : decode b_M_head 15 = .ok (.iconst 1, 1) := by decide +kernel
theorem d_M_head_16 : decode b_M_head 16 = .ok (.iload_n 2, 1) := by decide +kernel
theorem d_M_head_17 : decode b_M_head 17 = .ok (.ishl, 1) := by decide +kernel
theorem d_M_head_18 : decode b_M_head 18 = .ok (.iconst 1, 1) := by decide +kernel
theorem d_M_head_19 : decode b_M_head 19 = .ok (.isub, 1) := by decide +kernel
theorem d_M_head_20 : decode b_M_head 20 = .ok (.iload 4, 2) := by decide +kernel
theorem d_M_head_22 : decode b_M_head 22 = .ok (.iload_n 3, 1) := by decide +kernel
theorem d_M_head_23 : decode b_M_head 23 = .ok (.iload_n 2, 1) := by decide +kernel
theorem d_M_head_24 : decode b_M_head 24 = .ok (.isub, 1) := by decide +kernel
theorem d_M_head_25 : decode b_M_head 25 = .ok (.ishr, 1) := by decide +kernel
theorem d_M_head_26 : decode b_M_head 26 = .ok (.iadd, 1) := by decide +kernel
theorem d_M_head_27 : decode b_M_head 27 = .ok (.ireturn, 1) := by decide +kernel
theorem d_M_tail_0 : decode b_M_tail 0 = .ok (.aload_n 0, 1) := by decide +kernel
theorem d_M_tail_1 : decode b_M_tail 1 = .ok (.iload_n 1, 1) := by decide +kernel
theorem d_M_tail_2 : decode b_M_tail 2 = .ok (.invokevirtual 13, 3) := by decide +kernel
theorem d_M_tail_5 : decode b_M_tail 5 = .ok (.istore_n 3, 1) := by decide +kernel
theorem d_M_tail_6 : decode b_M_tail 6 = .ok (.iload_n 1, 1) := by decide +kernel
theorem d_M_tail_7 : decode b_M_tail 7 = .ok (.iconst 1, 1) := by decide +kernel
theorem d_M_tail_8 : decode b_M_tail 8 = .ok (.iload_n 3, 1) := by decide +kernel
theorem d_M_tail_9 : decode b_M_tail 9 = .ok (.ishl, 1) := by decide +kernel
theorem d_M_tail_10 : decode b_M_tail 10 = .ok (.iconst 1, 1) := by decide +kernel
theorem d_M_tail_11 : decode b_M_tail 11 = .ok (.isub, 1) := by decide +kernel
theorem d_M_tail_12 : decode b_M_tail 12 = .ok (.isub, 1) := by decide +kernel
theorem d_M_tail_13 : decode b_M_tail 13 = .ok (.istore 4, 2) := by decide +kernel
theorem d_M_tail_15 : decode b_M_tail 15 = .ok (.iload_n 3, 1) := by decide +kernel
theorem d_M_tail_16 : decode b_M_tail 16 = .ok (.iload_n 2, 1) := by decide +kernel
theorem d_M_tail_17 : decode b_M_tail 17 = .ok (.isub, 1) := by decide +kernel
theorem d_M_tail_18 : decode b_M_tail 18 = .ok (.istore 5, 2) := by decide +kernel
theorem d_M_tail_20 : decode b_M_tail 20 = .ok (.iconst 1, 1) := by decide +kernel
theorem d_M_tail_21 : decode b_M_tail 21 = .ok (.iload 5, 2) := by decide +kernel
theorem d_M_tail_23 : decode b_M_tail 23 = .ok (.ishl, 1) := by decide +kernel
theorem d_M_tail_24 : decode b_M_tail 24 = .ok (.iconst 1, 1) := by decide +kernel
theorem d_M_tail_25 : decode b_M_tail 25 = .ok (.isub, 1) := by decide +kernel
theorem d_M_tail_26 : decode b_M_tail 26 = .ok (.iload 4, 2) := by decide +kernel
theorem d_M_tail_28 : decode b_M_tail 28 = .ok (.iconst 1, 1) := by decide +kernel
theorem d_M_tail_29 : decode b_M_tail 29 = .ok (.iload 5, 2) := by decide +kernel
theorem d_M_tail_31 : decode b_M_tail 31 = .ok (.ishl, 1) := by decide +kernel
theorem d_M_tail_32 : decode b_M_tail 32 = .ok (.iconst 1, 1) := by decide +kernel
theorem d_M_tail_33 : decode b_M_tail 33 = .ok (.isub, 1) := by decide +kernel
theorem d_M_tail_34 : decode b_M_tail 34 = .ok (.iand, 1) := by decide +kernel
theorem d_M_tail_35 : decode b_M_tail 35 = .ok (.iadd, 1) := by decide +kernel
theorem d_M_tail_36 : decode b_M_tail 36 = .ok (.ireturn, 1) := by decide +kernel
theorem d_M_has_0 : decode b_M_has 0 = .ok (.aload_n 0, 1) := by decide +kernel
theorem d_M_has_1 : decode b_M_has 1 = .ok (.getfield 7, 3) := by decide +kernel
theorem d_M_has_4 : decode b_M_has 4 = .ok (.bipush 31, 2) := by decide +kernel
theorem d_M_has_6 : decode b_M_has 6 = .ok (.iload_n 1, 1) := by decide +kernel
theorem d_M_has_7 : decode b_M_has 7 = .ok (.imul, 1) := by decide +kernel
theorem d_M_has_8 : decode b_M_has 8 = .ok (.iload_n 2, 1) := by decide +kernel
theorem d_M_has_9 : decode b_M_has 9 = .ok (.iadd, 1) := by decide +kernel
theorem d_M_has_10 : decode b_M_has 10 = .ok (.iaload, 1) := by decide +kernel
theorem d_M_has_11 : decode b_M_has 11 = .ok (.iload_n 3, 1) := by decide +kernel
theorem d_M_has_12 : decode b_M_has 12 = .ok (.ishr, 1) := by decide +kernel
theorem d_M_has_13 : decode b_M_has 13 = .ok (.iconst 1, 1) := by decide +kernel
theorem d_M_has_14 : decode b_M_has 14 = .ok (.iand, 1) := by decide +kernel
theorem d_M_has_15 : decode b_M_has 15 = .ok (.iconst 1, 1) := by decide +kernel
theorem d_M_has_16 : decode b_M_has 16 = .ok (.if_icmp .ne 7, 3) := by decide +kernel
theorem d_M_has_19 : decode b_M_has 19 = .ok (.iconst 1, 1) := by decide +kernel
theorem d_M_has_20 : decode b_M_has 20 = .ok (.goto 4, 3) := by decide +kernel
theorem d_M_has_23 : decode b_M_has 23 = .ok (.iconst 0, 1) := by decide +kernel
theorem d_M_has_24 : decode b_M_has 24 = .ok (.ireturn, 1) := by decide +kernel
theorem d_M_clear_0 : decode b_M_clear 0 = .ok (.iconst 0, 1) := by decide +kernel
theorem d_M_clear_1 : decode b_M_clear 1 = .ok (.istore_n 2, 1) := by decide +kernel
theorem d_M_clear_2 : decode b_M_clear 2 = .ok (.iload_n 2, 1) := by decide +kernel
theorem d_M_clear_3 : decode b_M_clear 3 = .ok (.bipush 31, 2) := by decide +kernel
theorem d_M_clear_5 : decode b_M_clear 5 = .ok (.if_icmp .ge 21, 3) := by decide +kernel
theorem d_M_clear_8 : decode b_M_clear 8 = .ok (.aload_n 0, 1) := by decide +kernel
theorem d_M_clear_9 : decode b_M_clear 9 = .ok (.getfield 7, 3) := by decide +kernel
theorem d_M_clear_12 : decode b_M_clear 12 = .ok (.bipush 31, 2) := by decide +kernel
theorem d_M_clear_14 : decode b_M_clear 14 = .ok (.iload_n 1, 1) := by decide +kernel
theorem d_M_clear_15 : decode b_M_clear 15 = .ok (.imul, 1) := by decide +kernel
theorem d_M_clear_16 : decode b_M_clear 16 = .ok (.iload_n 2, 1) := by decide +kernel
theorem d_M_clear_17 : decode b_M_clear 17 = .ok (.iadd, 1) := by decide +kernel
theorem d_M_clear_18 : decode b_M_clear 18 = .ok (.iconst 0, 1) := by decide +kernel
theorem d_M_clear_19 : decode b_M_clear 19 = .ok (.iastore, 1) := by decide +kernel
theorem d_M_clear_20 : decode b_M_clear 20 = .ok (.iinc 2 1, 3) := by decide +kernel
theorem d_M_clear_23 : decode b_M_clear 23 = .ok (.goto (-21), 3) := by decide +kernel
theorem d_M_clear_26 : decode b_M_clear 26 = .ok (.return_, 1) := by decide +kernel
theorem d_M_copy_0 : decode b_M_copy 0 = .ok (.iconst 0, 1) := by decide +kernel
theorem d_M_copy_1 : decode b_M_copy 1 = .ok (.istore_n 3, 1) := by decide +kernel
theorem d_M_copy_2 : decode b_M_copy 2 = .ok (.iload_n 3, 1) := by decide +kernel
theorem d_M_copy_3 : decode b_M_copy 3 = .ok (.bipush 31, 2) := by decide +kernel
theorem d_M_copy_5 : decode b_M_copy 5 = .ok (.if_icmp .ge 31, 3) := by decide +kernel
theorem d_M_copy_8 : decode b_M_copy 8 = .ok (.aload_n 0, 1) := by decide +kernel
theorem d_M_copy_9 : decode b_M_copy 9 = .ok (.getfield 7, 3) := by decide +kernel
theorem d_M_copy_12 : decode b_M_copy 12 = .ok (.bipush 31, 2) := by decide +kernel
theorem d_M_copy_14 : decode b_M_copy 14 = .ok (.iload_n 2, 1) := by decide +kernel
theorem d_M_copy_15 : decode b_M_copy 15 = .ok (.imul, 1) := by decide +kernel
theorem d_M_copy_16 : decode b_M_copy 16 = .ok (.iload_n 3, 1) := by decide +kernel
theorem d_M_copy_17 : decode b_M_copy 17 = .ok (.iadd, 1) := by decide +kernel
theorem d_M_copy_18 : decode b_M_copy 18 = .ok (.aload_n 0, 1) := by decide +kernel
theorem d_M_copy_19 : decode b_M_copy 19 = .ok (.getfield 7, 3) := by decide +kernel
theorem d_M_copy_22 : decode b_M_copy 22 = .ok (.bipush 31, 2) := by decide +kernel
theorem d_M_copy_24 : decode b_M_copy 24 = .ok (.iload_n 1, 1) := by decide +kernel
theorem d_M_copy_25 : decode b_M_copy 25 = .ok (.imul, 1) := by decide +kernel
theorem d_M_copy_26 : decode b_M_copy 26 = .ok (.iload_n 3, 1) := by decide +kernel
theorem d_M_copy_27 : decode b_M_copy 27 = .ok (.iadd, 1) := by decide +kernel
theorem d_M_copy_28 : decode b_M_copy 28 = .ok (.iaload, 1) := by decide +kernel
theorem d_M_copy_29 : decode b_M_copy 29 = .ok (.iastore, 1) := by decide +kernel
theorem d_M_copy_30 : decode b_M_copy 30 = .ok (.iinc 3 1, 3) := by decide +kernel
theorem d_M_copy_33 : decode b_M_copy 33 = .ok (.goto (-31), 3) := by decide +kernel
theorem d_M_copy_36 : decode b_M_copy 36 = .ok (.return_, 1) := by decide +kernel
theorem d_M_put_0 : decode b_M_put 0 = .ok (.aload_n 0, 1) := by decide +kernel
theorem d_M_put_1 : decode b_M_put 1 = .ok (.getfield 7, 3) := by decide +kernel
theorem d_M_put_4 : decode b_M_put 4 = .ok (.bipush 31, 2) := by decide +kernel
theorem d_M_put_6 : decode b_M_put 6 = .ok (.iload_n 1, 1) := by decide +kernel
theorem d_M_put_7 : decode b_M_put 7 = .ok (.imul, 1) := by decide +kernel
theorem d_M_put_8 : decode b_M_put 8 = .ok (.iload_n 2, 1) := by decide +kernel
theorem d_M_put_9 : decode b_M_put 9 = .ok (.iadd, 1) := by decide +kernel
theorem d_M_put_10 : decode b_M_put 10 = .ok (.aload_n 0, 1) := by decide +kernel
theorem d_M_put_11 : decode b_M_put 11 = .ok (.getfield 7, 3) := by decide +kernel
theorem d_M_put_14 : decode b_M_put 14 = .ok (.bipush 31, 2) := by decide +kernel
theorem d_M_put_16 : decode b_M_put 16 = .ok (.iload_n 1, 1) := by decide +kernel
theorem d_M_put_17 : decode b_M_put 17 = .ok (.imul, 1) := by decide +kernel
theorem d_M_put_18 : decode b_M_put 18 = .ok (.iload_n 2, 1) := by decide +kernel
theorem d_M_put_19 : decode b_M_put 19 = .ok (.iadd, 1) := by decide +kernel
theorem d_M_put_20 : decode b_M_put 20 = .ok (.iaload, 1) := by decide +kernel
theorem d_M_put_21 : decode b_M_put 21 = .ok (.iconst 1, 1) := by decide +kernel
theorem d_M_put_22 : decode b_M_put 22 = .ok (.iload_n 3, 1) := by decide +kernel
theorem d_M_put_23 : decode b_M_put 23 = .ok (.ishl, 1) := by decide +kernel
theorem d_M_put_24 : decode b_M_put 24 = .ok (.ior, 1) := by decide +kernel
theorem d_M_put_25 : decode b_M_put 25 = .ok (.iastore, 1) := by decide +kernel
theorem d_M_put_26 : decode b_M_put 26 = .ok (.return_, 1) := by decide +kernel
theorem d_M_pair_0 : decode b_M_pair 0 = .ok (.iload_n 1, 1) := by decide +kernel
theorem d_M_pair_1 : decode b_M_pair 1 = .ok (.ifCond .lt 17, 3) := by decide +kernel
theorem d_M_pair_4 : decode b_M_pair 4 = .ok (.iload_n 1, 1) := by decide +kernel
theorem d_M_pair_5 : decode b_M_pair 5 = .ok (.iconst 2, 1) := by decide +kernel
theorem d_M_pair_6 : decode b_M_pair 6 = .ok (.if_icmp .gt 12, 3) := by decide +kernel
theorem d_M_pair_9 : decode b_M_pair 9 = .ok (.iload_n 2, 1) := by decide +kernel
theorem d_M_pair_10 : decode b_M_pair 10 = .ok (.ifCond .lt 8, 3) := by decide +kernel
theorem d_M_pair_13 : decode b_M_pair 13 = .ok (.iload_n 2, 1) := by decide +kernel
theorem d_M_pair_14 : decode b_M_pair 14 = .ok (.iconst 2, 1) := by decide +kernel
theorem d_M_pair_15 : decode b_M_pair 15 = .ok (.if_icmp .le 5, 3) := by decide +kernel
theorem d_M_pair_18 : decode b_M_pair 18 = .ok (.iconst (-1), 1) := by decide +kernel
theorem d_M_pair_19 : decode b_M_pair 19 = .ok (.ireturn, 1) := by decide +kernel
theorem d_M_pair_20 : decode b_M_pair 20 = .ok (.aload_n 0, 1) := by decide +kernel
theorem d_M_pair_21 : decode b_M_pair 21 = .ok (.getfield 17, 3) := by decide +kernel
theorem d_M_pair_24 : decode b_M_pair 24 = .ok (.bipush 18, 2) := by decide +kernel
theorem d_M_pair_26 : decode b_M_pair 26 = .ok (.if_icmp .eq 21, 3) := by decide +kernel
theorem d_M_pair_29 : decode b_M_pair 29 = .ok (.aload_n 0, 1) := by decide +kernel
theorem d_M_pair_30 : decode b_M_pair 30 = .ok (.getfield 21, 3) := by decide +kernel
theorem d_M_pair_33 : decode b_M_pair 33 = .ok (.bipush 6, 2) := by decide +kernel
theorem d_M_pair_35 : decode b_M_pair 35 = .ok (.if_icmp .eq 12, 3) := by decide +kernel
theorem d_M_pair_38 : decode b_M_pair 38 = .ok (.aload_n 0, 1) := by decide +kernel
theorem d_M_pair_39 : decode b_M_pair 39 = .ok (.getfield 24, 3) := by decide +kernel
theorem d_M_pair_42 : decode b_M_pair 42 = .ok (.bipush 9, 2) := by decide +kernel
theorem d_M_pair_44 : decode b_M_pair 44 = .ok (.if_icmp .ne 6, 3) := by decide +kernel
theorem d_M_pair_47 : decode b_M_pair 47 = .ok (.bipush (-2), 2) := by decide +kernel
theorem d_M_pair_49 : decode b_M_pair 49 = .ok (.ireturn, 1) := by decide +kernel
theorem d_M_pair_50 : decode b_M_pair 50 = .ok (.aload_n 0, 1) := by decide +kernel
theorem d_M_pair_51 : decode b_M_pair 51 = .ok (.aload_n 0, 1) := by decide +kernel
theorem d_M_pair_52 : decode b_M_pair 52 = .ok (.getfield 21, 3) := by decide +kernel
theorem d_M_pair_55 : decode b_M_pair 55 = .ok (.invokevirtual 27, 3) := by decide +kernel
theorem d_M_pair_58 : decode b_M_pair 58 = .ok (.aload_n 0, 1) := by decide +kernel
theorem d_M_pair_59 : decode b_M_pair 59 = .ok (.aload_n 0, 1) := by decide +kernel
theorem d_M_pair_60 : decode b_M_pair 60 = .ok (.getfield 21, 3) := by decide +kernel
theorem d_M_pair_63 : decode b_M_pair 63 = .ok (.iload_n 1, 1) := by decide +kernel
theorem d_M_pair_64 : decode b_M_pair 64 = .ok (.iconst 2, 1) := by decide +kernel
theorem d_M_pair_65 : decode b_M_pair 65 = .ok (.if_icmp .ne 7, 3) := by decide +kernel
theorem d_M_pair_68 : decode b_M_pair 68 = .ok (.iconst 0, 1) := by decide +kernel
theorem d_M_pair_69 : decode b_M_pair 69 = .ok (.goto 6, 3) := by decide +kernel
theorem d_M_pair_72 : decode b_M_pair 72 = .ok (.iconst 1, 1) := by decide +kernel
theorem d_M_pair_73 : decode b_M_pair 73 = .ok (.iload_n 1, 1) := by decide +kernel
theorem d_M_pair_74 : decode b_M_pair 74 = .ok (.iadd, 1) := by decide +kernel
theorem d_M_pair_75 : decode b_M_pair 75 = .ok (.iload_n 2, 1) := by decide +kernel
theorem d_M_pair_76 : decode b_M_pair 76 = .ok (.iconst 2, 1) := by decide +kernel
theorem d_M_pair_77 : decode b_M_pair 77 = .ok (.if_icmp .ne 7, 3) := by decide +kernel
theorem d_M_pair_80 : decode b_M_pair 80 = .ok (.iconst 0, 1) := by decide +kernel
theorem d_M_pair_81 : decode b_M_pair 81 = .ok (.goto 6, 3) := by decide +kernel
theorem d_M_pair_84 : decode b_M_pair 84 = .ok (.iconst 1, 1) := by decide +kernel
theorem d_M_pair_85 : decode b_M_pair 85 = .ok (.iload_n 2, 1) := by decide +kernel
theorem d_M_pair_86 : decode b_M_pair 86 = .ok (.iadd, 1) := by decide +kernel
theorem d_M_pair_87 : decode b_M_pair 87 = .ok (.invokevirtual 31, 3) := by decide +kernel
theorem d_M_pair_90 : decode b_M_pair 90 = .ok (.aload_n 0, 1) := by decide +kernel
theorem d_M_pair_91 : decode b_M_pair 91 = .ok (.dup, 1) := by decide +kernel
theorem d_M_pair_92 : decode b_M_pair 92 = .ok (.getfield 17, 3) := by decide +kernel
theorem d_M_pair_95 : decode b_M_pair 95 = .ok (.iconst 1, 1) := by decide +kernel
theorem d_M_pair_96 : decode b_M_pair 96 = .ok (.iadd, 1) := by decide +kernel
theorem d_M_pair_97 : decode b_M_pair 97 = .ok (.putfield 17, 3) := by decide +kernel
theorem d_M_pair_100 : decode b_M_pair 100 = .ok (.aload_n 0, 1) := by decide +kernel
theorem d_M_pair_101 : decode b_M_pair 101 = .ok (.dup, 1) := by decide +kernel
theorem d_M_pair_102 : decode b_M_pair 102 = .ok (.getfield 24, 3) := by decide +kernel
theorem d_M_pair_105 : decode b_M_pair 105 = .ok (.iconst 1, 1) := by decide +kernel
theorem d_M_pair_106 : decode b_M_pair 106 = .ok (.iadd, 1) := by decide +kernel
theorem d_M_pair_107 : decode b_M_pair 107 = .ok (.putfield 24, 3) := by decide +kernel
theorem d_M_pair_110 : decode b_M_pair 110 = .ok (.aload_n 0, 1) := by decide +kernel
theorem d_M_pair_111 : decode b_M_pair 111 = .ok (.dup, 1) := by decide +kernel
theorem d_M_pair_112 : decode b_M_pair 112 = .ok (.getfield 21, 3) := by decide +kernel
theorem d_M_pair_115 : decode b_M_pair 115 = .ok (.iconst 1, 1) := by decide +kernel
theorem d_M_pair_116 : decode b_M_pair 116 = .ok (.iadd, 1) := by decide +kernel
theorem d_M_pair_117 : decode b_M_pair 117 = .ok (.putfield 21, 3) := by decide +kernel
theorem d_M_pair_120 : decode b_M_pair 120 = .ok (.aload_n 0, 1) := by decide +kernel
theorem d_M_pair_121 : decode b_M_pair 121 = .ok (.getfield 21, 3) := by decide +kernel
theorem d_M_pair_124 : decode b_M_pair 124 = .ok (.ireturn, 1) := by decide +kernel
theorem d_M_cutsAt_0 : decode b_M_cutsAt 0 = .ok (.aload_n 0, 1) := by decide +kernel
theorem d_M_cutsAt_1 : decode b_M_cutsAt 1 = .ok (.iload_n 3, 1) := by decide +kernel
theorem d_M_cutsAt_2 : decode b_M_cutsAt 2 = .ok (.iload 5, 2) := by decide +kernel
theorem d_M_cutsAt_4 : decode b_M_cutsAt 4 = .ok (.invokevirtual 35, 3) := by decide +kernel
theorem d_M_cutsAt_7 : decode b_M_cutsAt 7 = .ok (.istore 6, 2) := by decide +kernel
theorem d_M_cutsAt_9 : decode b_M_cutsAt 9 = .ok (.aload_n 0, 1) := by decide +kernel
theorem d_M_cutsAt_10 : decode b_M_cutsAt 10 = .ok (.iload_n 3, 1) := by decide +kernel
theorem d_M_cutsAt_11 : decode b_M_cutsAt 11 = .ok (.iload 5, 2) := by decide +kernel
theorem d_M_cutsAt_13 : decode b_M_cutsAt 13 = .ok (.invokevirtual 39, 3) := by decide +kernel
theorem d_M_cutsAt_16 : decode b_M_cutsAt 16 = .ok (.istore 7, 2) := by decide +kernel
theorem d_M_cutsAt_18 : decode b_M_cutsAt 18 = .ok (.aload_n 0, 1) := by decide +kernel
theorem d_M_cutsAt_19 : decode b_M_cutsAt 19 = .ok (.iload 4, 2) := by decide +kernel
theorem d_M_cutsAt_21 : decode b_M_cutsAt 21 = .ok (.invokevirtual 13, 3) := by decide +kernel
theorem d_M_cutsAt_24 : decode b_M_cutsAt 24 = .ok (.istore 8, 2) := by decide +kernel
theorem d_M_cutsAt_26 : decode b_M_cutsAt 26 = .ok (.iconst 0, 1) := by decide +kernel
theorem d_M_cutsAt_27 : decode b_M_cutsAt 27 = .ok (.istore 9, 2) := by decide +kernel
theorem d_M_cutsAt_29 : decode b_M_cutsAt 29 = .ok (.iload 9, 2) := by decide +kernel
theorem d_M_cutsAt_31 : decode b_M_cutsAt 31 = .ok (.iload 8, 2) := by decide +kernel
theorem d_M_cutsAt_33 : decode b_M_cutsAt 33 = .ok (.if_icmp .gt 81, 3) := by decide +kernel
theorem d_M_cutsAt_36 : decode b_M_cutsAt 36 = .ok (.iload 5, 2) := by decide +kernel
theorem d_M_cutsAt_38 : decode b_M_cutsAt 38 = .ok (.iload 9, 2) := by decide +kernel
theorem d_M_cutsAt_40 : decode b_M_cutsAt 40 = .ok (.iadd, 1) := by decide +kernel
theorem d_M_cutsAt_41 : decode b_M_cutsAt 41 = .ok (.ifCond .gt 9, 3) := by decide +kernel
theorem d_M_cutsAt_44 : decode b_M_cutsAt 44 = .ok (.iload_n 2, 1) := by decide +kernel
theorem d_M_cutsAt_45 : decode b_M_cutsAt 45 = .ok (.bipush 7, 2) := by decide +kernel
theorem d_M_cutsAt_47 : decode b_M_cutsAt 47 = .ok (.if_icmp .eq 7, 3) := by decide +kernel
theorem d_M_cutsAt_50 : decode b_M_cutsAt 50 = .ok (.iconst 1, 1) := by decide +kernel
theorem d_M_cutsAt_51 : decode b_M_cutsAt 51 = .ok (.goto 4, 3) := by decide +kernel
theorem d_M_cutsAt_54 : decode b_M_cutsAt 54 = .ok (.iconst 0, 1) := by decide +kernel
theorem d_M_cutsAt_55 : decode b_M_cutsAt 55 = .ok (.istore 10, 2) := by decide +kernel
theorem d_M_cutsAt_57 : decode b_M_cutsAt 57 = .ok (.aload_n 0, 1) := by decide +kernel
theorem d_M_cutsAt_58 : decode b_M_cutsAt 58 = .ok (.iload 4, 2) := by decide +kernel
theorem d_M_cutsAt_60 : decode b_M_cutsAt 60 = .ok (.iload 9, 2) := by decide +kernel
theorem d_M_cutsAt_62 : decode b_M_cutsAt 62 = .ok (.invokevirtual 35, 3) := by decide +kernel
theorem d_M_cutsAt_65 : decode b_M_cutsAt 65 = .ok (.istore 11, 2) := by decide +kernel
theorem d_M_cutsAt_67 : decode b_M_cutsAt 67 = .ok (.aload_n 0, 1) := by decide +kernel
theorem d_M_cutsAt_68 : decode b_M_cutsAt 68 = .ok (.iload 4, 2) := by decide +kernel
theorem d_M_cutsAt_70 : decode b_M_cutsAt 70 = .ok (.iload 9, 2) := by decide +kernel
theorem d_M_cutsAt_72 : decode b_M_cutsAt 72 = .ok (.invokevirtual 39, 3) := by decide +kernel
theorem d_M_cutsAt_75 : decode b_M_cutsAt 75 = .ok (.istore 12, 2) := by decide +kernel
theorem d_M_cutsAt_77 : decode b_M_cutsAt 77 = .ok (.iload 10, 2) := by decide +kernel
theorem d_M_cutsAt_79 : decode b_M_cutsAt 79 = .ok (.ifCond .eq 29, 3) := by decide +kernel
theorem d_M_cutsAt_82 : decode b_M_cutsAt 82 = .ok (.aload_n 0, 1) := by decide +kernel
theorem d_M_cutsAt_83 : decode b_M_cutsAt 83 = .ok (.iload_n 1, 1) := by decide +kernel
theorem d_M_cutsAt_84 : decode b_M_cutsAt 84 = .ok (.iload 6, 2) := by decide +kernel
theorem d_M_cutsAt_86 : decode b_M_cutsAt 86 = .ok (.iload 11, 2) := by decide +kernel
theorem d_M_cutsAt_88 : decode b_M_cutsAt 88 = .ok (.invokevirtual 42, 3) := by decide +kernel
theorem d_M_cutsAt_91 : decode b_M_cutsAt 91 = .ok (.ifCond .eq 17, 3) := by decide +kernel
theorem d_M_cutsAt_94 : decode b_M_cutsAt 94 = .ok (.aload_n 0, 1) := by decide +kernel
theorem d_M_cutsAt_95 : decode b_M_cutsAt 95 = .ok (.iload_n 2, 1) := by decide +kernel
theorem d_M_cutsAt_96 : decode b_M_cutsAt 96 = .ok (.iload 7, 2) := by decide +kernel
theorem d_M_cutsAt_98 : decode b_M_cutsAt 98 = .ok (.iload 12, 2) := by decide +kernel
theorem d_M_cutsAt_100 : decode b_M_cutsAt 100 = .ok (.invokevirtual 42, 3) := by decide +kernel
theorem d_M_cutsAt_103 : decode b_M_cutsAt 103 = .ok (.ifCond .eq 5, 3) := by decide +kernel
theorem d_M_cutsAt_106 : decode b_M_cutsAt 106 = .ok (.iconst 1, 1) := by decide +kernel
theorem d_M_cutsAt_107 : decode b_M_cutsAt 107 = .ok (.ireturn, 1) := by decide +kernel
theorem d_M_cutsAt_108 : decode b_M_cutsAt 108 = .ok (.iinc 9 1, 3) := by decide +kernel
theorem d_M_cutsAt_111 : decode b_M_cutsAt 111 = .ok (.goto (-82), 3) := by decide +kernel
theorem d_M_cutsAt_114 : decode b_M_cutsAt 114 = .ok (.iconst 0, 1) := by decide +kernel
theorem d_M_cutsAt_115 : decode b_M_cutsAt 115 = .ok (.ireturn, 1) := by decide +kernel
theorem d_M_cuts_0 : decode b_M_cuts 0 = .ok (.aload_n 0, 1) := by decide +kernel
theorem d_M_cuts_1 : decode b_M_cuts 1 = .ok (.iload_n 3, 1) := by decide +kernel
theorem d_M_cuts_2 : decode b_M_cuts 2 = .ok (.invokevirtual 13, 3) := by decide +kernel
theorem d_M_cuts_5 : decode b_M_cuts 5 = .ok (.istore 5, 2) := by decide +kernel
theorem d_M_cuts_7 : decode b_M_cuts 7 = .ok (.iconst 0, 1) := by decide +kernel
theorem d_M_cuts_8 : decode b_M_cuts 8 = .ok (.istore 6, 2) := by decide +kernel
theorem d_M_cuts_10 : decode b_M_cuts 10 = .ok (.iload 6, 2) := by decide +kernel
theorem d_M_cuts_12 : decode b_M_cuts 12 = .ok (.iload 5, 2) := by decide +kernel
theorem d_M_cuts_14 : decode b_M_cuts 14 = .ok (.if_icmp .gt 25, 3) := by decide +kernel
theorem d_M_cuts_17 : decode b_M_cuts 17 = .ok (.aload_n 0, 1) := by decide +kernel
theorem d_M_cuts_18 : decode b_M_cuts 18 = .ok (.iload_n 1, 1) := by decide +kernel
theorem d_M_cuts_19 : decode b_M_cuts 19 = .ok (.iload_n 2, 1) := by decide +kernel
theorem d_M_cuts_20 : decode b_M_cuts 20 = .ok (.iload_n 3, 1) := by decide +kernel
theorem d_M_cuts_21 : decode b_M_cuts 21 = .ok (.iload 4, 2) := by decide +kernel
theorem d_M_cuts_23 : decode b_M_cuts 23 = .ok (.iload 6, 2) := by decide +kernel
theorem d_M_cuts_25 : decode b_M_cuts 25 = .ok (.invokevirtual 46, 3) := by decide +kernel
theorem d_M_cuts_28 : decode b_M_cuts 28 = .ok (.ifCond .eq 5, 3) := by decide +kernel
theorem d_M_cuts_31 : decode b_M_cuts 31 = .ok (.iconst 1, 1) := by decide +kernel
theorem d_M_cuts_32 : decode b_M_cuts 32 = .ok (.ireturn, 1) := by decide +kernel
theorem d_M_cuts_33 : decode b_M_cuts 33 = .ok (.iinc 6 1, 3) := by decide +kernel
theorem d_M_cuts_36 : decode b_M_cuts 36 = .ok (.goto (-26), 3) := by decide +kernel
theorem d_M_cuts_39 : decode b_M_cuts 39 = .ok (.iconst 0, 1) := by decide +kernel
theorem d_M_cuts_40 : decode b_M_cuts 40 = .ok (.ireturn, 1) := by decide +kernel
theorem d_M_testPair_0 : decode b_M_testPair 0 = .ok (.aload_n 0, 1) := by decide +kernel
theorem d_M_testPair_1 : decode b_M_testPair 1 = .ok (.getfield 17, 3) := by decide +kernel
theorem d_M_testPair_4 : decode b_M_testPair 4 = .ok (.bipush 18, 2) := by decide +kernel
theorem d_M_testPair_6 : decode b_M_testPair 6 = .ok (.if_icmp .ne 6, 3) := by decide +kernel
theorem d_M_testPair_9 : decode b_M_testPair 9 = .ok (.bipush (-2), 2) := by decide +kernel
theorem d_M_testPair_11 : decode b_M_testPair 11 = .ok (.ireturn, 1) := by decide +kernel
theorem d_M_testPair_12 : decode b_M_testPair 12 = .ok (.aload_n 0, 1) := by decide +kernel
theorem d_M_testPair_13 : decode b_M_testPair 13 = .ok (.getfield 21, 3) := by decide +kernel
theorem d_M_testPair_16 : decode b_M_testPair 16 = .ok (.iconst 2, 1) := by decide +kernel
theorem d_M_testPair_17 : decode b_M_testPair 17 = .ok (.if_icmp .ge 8, 3) := by decide +kernel
theorem d_M_testPair_20 : decode b_M_testPair 20 = .ok (.bipush (-3), 2) := by decide +kernel
theorem d_M_testPair_22 : decode b_M_testPair 22 = .ok (.goto 4, 3) := by decide +kernel
theorem d_M_testPair_25 : decode b_M_testPair 25 = .ok (.iconst 0, 1) := by decide +kernel
theorem d_M_testPair_26 : decode b_M_testPair 26 = .ok (.ireturn, 1) := by decide +kernel
theorem d_M_cat_0 : decode b_M_cat 0 = .ok (.aload_n 0, 1) := by decide +kernel
theorem d_M_cat_1 : decode b_M_cat 1 = .ok (.invokevirtual 50, 3) := by decide +kernel
theorem d_M_cat_4 : decode b_M_cat 4 = .ok (.istore_n 1, 1) := by decide +kernel
theorem d_M_cat_5 : decode b_M_cat 5 = .ok (.iload_n 1, 1) := by decide +kernel
theorem d_M_cat_6 : decode b_M_cat 6 = .ok (.ifCond .ge 5, 3) := by decide +kernel
theorem d_M_cat_9 : decode b_M_cat 9 = .ok (.iload_n 1, 1) := by decide +kernel
theorem d_M_cat_10 : decode b_M_cat 10 = .ok (.ireturn, 1) := by decide +kernel
theorem d_M_cat_11 : decode b_M_cat 11 = .ok (.aload_n 0, 1) := by decide +kernel
theorem d_M_cat_12 : decode b_M_cat 12 = .ok (.bipush 7, 2) := by decide +kernel
theorem d_M_cat_14 : decode b_M_cat 14 = .ok (.invokevirtual 27, 3) := by decide +kernel
theorem d_M_cat_17 : decode b_M_cat 17 = .ok (.iconst 0, 1) := by decide +kernel
theorem d_M_cat_18 : decode b_M_cat 18 = .ok (.istore_n 2, 1) := by decide +kernel
theorem d_M_cat_19 : decode b_M_cat 19 = .ok (.iload_n 2, 1) := by decide +kernel
theorem d_M_cat_20 : decode b_M_cat 20 = .ok (.bipush 31, 2) := by decide +kernel
theorem d_M_cat_22 : decode b_M_cat 22 = .ok (.if_icmp .ge 67, 3) := by decide +kernel
theorem d_M_cat_25 : decode b_M_cat 25 = .ok (.iconst 0, 1) := by decide +kernel
theorem d_M_cat_26 : decode b_M_cat 26 = .ok (.istore_n 3, 1) := by decide +kernel
theorem d_M_cat_27 : decode b_M_cat 27 = .ok (.iconst 0, 1) := by decide +kernel
theorem d_M_cat_28 : decode b_M_cat 28 = .ok (.istore 4, 2) := by decide +kernel
theorem d_M_cat_30 : decode b_M_cat 30 = .ok (.iload 4, 2) := by decide +kernel
theorem d_M_cat_32 : decode b_M_cat 32 = .ok (.bipush 31, 2) := by decide +kernel
theorem d_M_cat_34 : decode b_M_cat 34 = .ok (.if_icmp .ge 38, 3) := by decide +kernel
theorem d_M_cat_37 : decode b_M_cat 37 = .ok (.aload_n 0, 1) := by decide +kernel
theorem d_M_cat_38 : decode b_M_cat 38 = .ok (.aload_n 0, 1) := by decide +kernel
theorem d_M_cat_39 : decode b_M_cat 39 = .ok (.getfield 21, 3) := by decide +kernel
theorem d_M_cat_42 : decode b_M_cat 42 = .ok (.iconst 2, 1) := by decide +kernel
theorem d_M_cat_43 : decode b_M_cat 43 = .ok (.isub, 1) := by decide +kernel
theorem d_M_cat_44 : decode b_M_cat 44 = .ok (.aload_n 0, 1) := by decide +kernel
theorem d_M_cat_45 : decode b_M_cat 45 = .ok (.getfield 21, 3) := by decide +kernel
theorem d_M_cat_48 : decode b_M_cat 48 = .ok (.iconst 1, 1) := by decide +kernel
theorem d_M_cat_49 : decode b_M_cat 49 = .ok (.isub, 1) := by decide +kernel
theorem d_M_cat_50 : decode b_M_cat 50 = .ok (.iload_n 2, 1) := by decide +kernel
theorem d_M_cat_51 : decode b_M_cat 51 = .ok (.iload 4, 2) := by decide +kernel
theorem d_M_cat_53 : decode b_M_cat 53 = .ok (.invokevirtual 54, 3) := by decide +kernel
theorem d_M_cat_56 : decode b_M_cat 56 = .ok (.ifCond .eq 10, 3) := by decide +kernel
theorem d_M_cat_59 : decode b_M_cat 59 = .ok (.iload_n 3, 1) := by decide +kernel
theorem d_M_cat_60 : decode b_M_cat 60 = .ok (.iconst 1, 1) := by decide +kernel
theorem d_M_cat_61 : decode b_M_cat 61 = .ok (.iload 4, 2) := by decide +kernel
theorem d_M_cat_63 : decode b_M_cat 63 = .ok (.ishl, 1) := by decide +kernel
theorem d_M_cat_64 : decode b_M_cat 64 = .ok (.ior, 1) := by decide +kernel
theorem d_M_cat_65 : decode b_M_cat 65 = .ok (.istore_n 3, 1) := by decide +kernel
theorem d_M_cat_66 : decode b_M_cat 66 = .ok (.iinc 4 1, 3) := by decide +kernel
theorem d_M_cat_69 : decode b_M_cat 69 = .ok (.goto (-39), 3) := by decide +kernel
theorem d_M_cat_72 : decode b_M_cat 72 = .ok (.aload_n 0, 1) := by decide +kernel
theorem d_M_cat_73 : decode b_M_cat 73 = .ok (.getfield 7, 3) := by decide +kernel
theorem d_M_cat_76 : decode b_M_cat 76 = .ok (.sipush 217, 3) := by decide +kernel
theorem d_M_cat_79 : decode b_M_cat 79 = .ok (.iload_n 2, 1) := by decide +kernel
theorem d_M_cat_80 : decode b_M_cat 80 = .ok (.iadd, 1) := by decide +kernel
theorem d_M_cat_81 : decode b_M_cat 81 = .ok (.iload_n 3, 1) := by decide +kernel
theorem d_M_cat_82 : decode b_M_cat 82 = .ok (.iastore, 1) := by decide +kernel
theorem d_M_cat_83 : decode b_M_cat 83 = .ok (.iinc 2 1, 3) := by decide +kernel
theorem d_M_cat_86 : decode b_M_cat 86 = .ok (.goto (-67), 3) := by decide +kernel
theorem d_M_cat_89 : decode b_M_cat 89 = .ok (.aload_n 0, 1) := by decide +kernel
theorem d_M_cat_90 : decode b_M_cat 90 = .ok (.dup, 1) := by decide +kernel
theorem d_M_cat_91 : decode b_M_cat 91 = .ok (.getfield 17, 3) := by decide +kernel
theorem d_M_cat_94 : decode b_M_cat 94 = .ok (.iconst 1, 1) := by decide +kernel
theorem d_M_cat_95 : decode b_M_cat 95 = .ok (.iadd, 1) := by decide +kernel
theorem d_M_cat_96 : decode b_M_cat 96 = .ok (.putfield 17, 3) := by decide +kernel
theorem d_M_cat_99 : decode b_M_cat 99 = .ok (.aload_n 0, 1) := by decide +kernel
theorem d_M_cat_100 : decode b_M_cat 100 = .ok (.dup, 1) := by decide +kernel
theorem d_M_cat_101 : decode b_M_cat 101 = .ok (.getfield 21, 3) := by decide +kernel
theorem d_M_cat_104 : decode b_M_cat 104 = .ok (.iconst 1, 1) := by decide +kernel
theorem d_M_cat_105 : decode b_M_cat 105 = .ok (.isub, 1) := by decide +kernel
theorem d_M_cat_106 : decode b_M_cat 106 = .ok (.putfield 21, 3) := by decide +kernel
theorem d_M_cat_109 : decode b_M_cat 109 = .ok (.aload_n 0, 1) := by decide +kernel
theorem d_M_cat_110 : decode b_M_cat 110 = .ok (.bipush 7, 2) := by decide +kernel
theorem d_M_cat_112 : decode b_M_cat 112 = .ok (.aload_n 0, 1) := by decide +kernel
theorem d_M_cat_113 : decode b_M_cat 113 = .ok (.getfield 21, 3) := by decide +kernel
theorem d_M_cat_116 : decode b_M_cat 116 = .ok (.iconst 1, 1) := by decide +kernel
theorem d_M_cat_117 : decode b_M_cat 117 = .ok (.isub, 1) := by decide +kernel
theorem d_M_cat_118 : decode b_M_cat 118 = .ok (.invokevirtual 58, 3) := by decide +kernel
theorem d_M_cat_121 : decode b_M_cat 121 = .ok (.aload_n 0, 1) := by decide +kernel
theorem d_M_cat_122 : decode b_M_cat 122 = .ok (.getfield 21, 3) := by decide +kernel
theorem d_M_cat_125 : decode b_M_cat 125 = .ok (.ireturn, 1) := by decide +kernel
theorem d_M_alt_0 : decode b_M_alt 0 = .ok (.aload_n 0, 1) := by decide +kernel
theorem d_M_alt_1 : decode b_M_alt 1 = .ok (.invokevirtual 50, 3) := by decide +kernel
theorem d_M_alt_4 : decode b_M_alt 4 = .ok (.istore_n 1, 1) := by decide +kernel
theorem d_M_alt_5 : decode b_M_alt 5 = .ok (.iload_n 1, 1) := by decide +kernel
theorem d_M_alt_6 : decode b_M_alt 6 = .ok (.ifCond .ge 5, 3) := by decide +kernel
theorem d_M_alt_9 : decode b_M_alt 9 = .ok (.iload_n 1, 1) := by decide +kernel
theorem d_M_alt_10 : decode b_M_alt 10 = .ok (.ireturn, 1) := by decide +kernel
theorem d_M_alt_11 : decode b_M_alt 11 = .ok (.aload_n 0, 1) := by decide +kernel
theorem d_M_alt_12 : decode b_M_alt 12 = .ok (.dup, 1) := by decide +kernel
theorem d_M_alt_13 : decode b_M_alt 13 = .ok (.getfield 17, 3) := by decide +kernel
theorem d_M_alt_16 : decode b_M_alt 16 = .ok (.iconst 1, 1) := by decide +kernel
theorem d_M_alt_17 : decode b_M_alt 17 = .ok (.iadd, 1) := by decide +kernel
theorem d_M_alt_18 : decode b_M_alt 18 = .ok (.putfield 17, 3) := by decide +kernel
theorem d_M_alt_21 : decode b_M_alt 21 = .ok (.aload_n 0, 1) := by decide +kernel
theorem d_M_alt_22 : decode b_M_alt 22 = .ok (.dup, 1) := by decide +kernel
theorem d_M_alt_23 : decode b_M_alt 23 = .ok (.getfield 21, 3) := by decide +kernel
theorem d_M_alt_26 : decode b_M_alt 26 = .ok (.iconst 1, 1) := by decide +kernel
theorem d_M_alt_27 : decode b_M_alt 27 = .ok (.isub, 1) := by decide +kernel
theorem d_M_alt_28 : decode b_M_alt 28 = .ok (.putfield 21, 3) := by decide +kernel
theorem d_M_alt_31 : decode b_M_alt 31 = .ok (.iconst 0, 1) := by decide +kernel
theorem d_M_alt_32 : decode b_M_alt 32 = .ok (.istore_n 2, 1) := by decide +kernel
theorem d_M_alt_33 : decode b_M_alt 33 = .ok (.iload_n 2, 1) := by decide +kernel
theorem d_M_alt_34 : decode b_M_alt 34 = .ok (.bipush 31, 2) := by decide +kernel
theorem d_M_alt_36 : decode b_M_alt 36 = .ok (.if_icmp .ge 56, 3) := by decide +kernel
theorem d_M_alt_39 : decode b_M_alt 39 = .ok (.aload_n 0, 1) := by decide +kernel
theorem d_M_alt_40 : decode b_M_alt 40 = .ok (.getfield 7, 3) := by decide +kernel
theorem d_M_alt_43 : decode b_M_alt 43 = .ok (.bipush 31, 2) := by decide +kernel
theorem d_M_alt_45 : decode b_M_alt 45 = .ok (.aload_n 0, 1) := by decide +kernel
theorem d_M_alt_46 : decode b_M_alt 46 = .ok (.getfield 21, 3) := by decide +kernel
theorem d_M_alt_49 : decode b_M_alt 49 = .ok (.iconst 1, 1) := by decide +kernel
theorem d_M_alt_50 : decode b_M_alt 50 = .ok (.isub, 1) := by decide +kernel
theorem d_M_alt_51 : decode b_M_alt 51 = .ok (.imul, 1) := by decide +kernel
theorem d_M_alt_52 : decode b_M_alt 52 = .ok (.iload_n 2, 1) := by decide +kernel
theorem d_M_alt_53 : decode b_M_alt 53 = .ok (.iadd, 1) := by decide +kernel
theorem d_M_alt_54 : decode b_M_alt 54 = .ok (.aload_n 0, 1) := by decide +kernel
theorem d_M_alt_55 : decode b_M_alt 55 = .ok (.getfield 7, 3) := by decide +kernel
theorem d_M_alt_58 : decode b_M_alt 58 = .ok (.bipush 31, 2) := by decide +kernel
theorem d_M_alt_60 : decode b_M_alt 60 = .ok (.aload_n 0, 1) := by decide +kernel
theorem d_M_alt_61 : decode b_M_alt 61 = .ok (.getfield 21, 3) := by decide +kernel
theorem d_M_alt_64 : decode b_M_alt 64 = .ok (.iconst 1, 1) := by decide +kernel
theorem d_M_alt_65 : decode b_M_alt 65 = .ok (.isub, 1) := by decide +kernel
theorem d_M_alt_66 : decode b_M_alt 66 = .ok (.imul, 1) := by decide +kernel
theorem d_M_alt_67 : decode b_M_alt 67 = .ok (.iload_n 2, 1) := by decide +kernel
theorem d_M_alt_68 : decode b_M_alt 68 = .ok (.iadd, 1) := by decide +kernel
theorem d_M_alt_69 : decode b_M_alt 69 = .ok (.iaload, 1) := by decide +kernel
theorem d_M_alt_70 : decode b_M_alt 70 = .ok (.aload_n 0, 1) := by decide +kernel
theorem d_M_alt_71 : decode b_M_alt 71 = .ok (.getfield 7, 3) := by decide +kernel
theorem d_M_alt_74 : decode b_M_alt 74 = .ok (.bipush 31, 2) := by decide +kernel
theorem d_M_alt_76 : decode b_M_alt 76 = .ok (.aload_n 0, 1) := by decide +kernel
theorem d_M_alt_77 : decode b_M_alt 77 = .ok (.getfield 21, 3) := by decide +kernel
theorem d_M_alt_80 : decode b_M_alt 80 = .ok (.imul, 1) := by decide +kernel
theorem d_M_alt_81 : decode b_M_alt 81 = .ok (.iload_n 2, 1) := by decide +kernel
theorem d_M_alt_82 : decode b_M_alt 82 = .ok (.iadd, 1) := by decide +kernel
theorem d_M_alt_83 : decode b_M_alt 83 = .ok (.iaload, 1) := by decide +kernel
theorem d_M_alt_84 : decode b_M_alt 84 = .ok (.ior, 1) := by decide +kernel
theorem d_M_alt_85 : decode b_M_alt 85 = .ok (.iastore, 1) := by decide +kernel
theorem d_M_alt_86 : decode b_M_alt 86 = .ok (.iinc 2 1, 3) := by decide +kernel
theorem d_M_alt_89 : decode b_M_alt 89 = .ok (.goto (-56), 3) := by decide +kernel
theorem d_M_alt_92 : decode b_M_alt 92 = .ok (.aload_n 0, 1) := by decide +kernel
theorem d_M_alt_93 : decode b_M_alt 93 = .ok (.getfield 21, 3) := by decide +kernel
theorem d_M_alt_96 : decode b_M_alt 96 = .ok (.ireturn, 1) := by decide +kernel
theorem d_M_testOne_0 : decode b_M_testOne 0 = .ok (.aload_n 0, 1) := by decide +kernel
theorem d_M_testOne_1 : decode b_M_testOne 1 = .ok (.getfield 17, 3) := by decide +kernel
theorem d_M_testOne_4 : decode b_M_testOne 4 = .ok (.bipush 18, 2) := by decide +kernel
theorem d_M_testOne_6 : decode b_M_testOne 6 = .ok (.if_icmp .ne 6, 3) := by decide +kernel
theorem d_M_testOne_9 : decode b_M_testOne 9 = .ok (.bipush (-2), 2) := by decide +kernel
theorem d_M_testOne_11 : decode b_M_testOne 11 = .ok (.ireturn, 1) := by decide +kernel
theorem d_M_testOne_12 : decode b_M_testOne 12 = .ok (.aload_n 0, 1) := by decide +kernel
theorem d_M_testOne_13 : decode b_M_testOne 13 = .ok (.getfield 21, 3) := by decide +kernel
theorem d_M_testOne_16 : decode b_M_testOne 16 = .ok (.ifCond .ne 8, 3) := by decide +kernel
theorem d_M_testOne_19 : decode b_M_testOne 19 = .ok (.bipush (-3), 2) := by decide +kernel
theorem d_M_testOne_21 : decode b_M_testOne 21 = .ok (.goto 4, 3) := by decide +kernel
theorem d_M_testOne_24 : decode b_M_testOne 24 = .ok (.iconst 0, 1) := by decide +kernel
theorem d_M_testOne_25 : decode b_M_testOne 25 = .ok (.ireturn, 1) := by decide +kernel
theorem d_M_star_0 : decode b_M_star 0 = .ok (.aload_n 0, 1) := by decide +kernel
theorem d_M_star_1 : decode b_M_star 1 = .ok (.invokevirtual 62, 3) := by decide +kernel
theorem d_M_star_4 : decode b_M_star 4 = .ok (.istore_n 1, 1) := by decide +kernel
theorem d_M_star_5 : decode b_M_star 5 = .ok (.iload_n 1, 1) := by decide +kernel
theorem d_M_star_6 : decode b_M_star 6 = .ok (.ifCond .ge 5, 3) := by decide +kernel
theorem d_M_star_9 : decode b_M_star 9 = .ok (.iload_n 1, 1) := by decide +kernel
theorem d_M_star_10 : decode b_M_star 10 = .ok (.ireturn, 1) := by decide +kernel
theorem d_M_star_11 : decode b_M_star 11 = .ok (.aload_n 0, 1) := by decide +kernel
theorem d_M_star_12 : decode b_M_star 12 = .ok (.bipush 7, 2) := by decide +kernel
theorem d_M_star_14 : decode b_M_star 14 = .ok (.invokevirtual 27, 3) := by decide +kernel
theorem d_M_star_17 : decode b_M_star 17 = .ok (.aload_n 0, 1) := by decide +kernel
theorem d_M_star_18 : decode b_M_star 18 = .ok (.bipush 7, 2) := by decide +kernel
theorem d_M_star_20 : decode b_M_star 20 = .ok (.iconst 0, 1) := by decide +kernel
theorem d_M_star_21 : decode b_M_star 21 = .ok (.iconst 0, 1) := by decide +kernel
theorem d_M_star_22 : decode b_M_star 22 = .ok (.invokevirtual 31, 3) := by decide +kernel
theorem d_M_star_25 : decode b_M_star 25 = .ok (.iconst 0, 1) := by decide +kernel
theorem d_M_star_26 : decode b_M_star 26 = .ok (.istore_n 2, 1) := by decide +kernel
theorem d_M_star_27 : decode b_M_star 27 = .ok (.iload_n 2, 1) := by decide +kernel
theorem d_M_star_28 : decode b_M_star 28 = .ok (.sipush 961, 3) := by decide +kernel
theorem d_M_star_31 : decode b_M_star 31 = .ok (.if_icmp .ge 46, 3) := by decide +kernel
theorem d_M_star_34 : decode b_M_star 34 = .ok (.aload_n 0, 1) := by decide +kernel
theorem d_M_star_35 : decode b_M_star 35 = .ok (.aload_n 0, 1) := by decide +kernel
theorem d_M_star_36 : decode b_M_star 36 = .ok (.getfield 21, 3) := by decide +kernel
theorem d_M_star_39 : decode b_M_star 39 = .ok (.iconst 1, 1) := by decide +kernel
theorem d_M_star_40 : decode b_M_star 40 = .ok (.isub, 1) := by decide +kernel
theorem d_M_star_41 : decode b_M_star 41 = .ok (.bipush 7, 2) := by decide +kernel
theorem d_M_star_43 : decode b_M_star 43 = .ok (.iload_n 2, 1) := by decide +kernel
theorem d_M_star_44 : decode b_M_star 44 = .ok (.bipush 31, 2) := by decide +kernel
theorem d_M_star_46 : decode b_M_star 46 = .ok (.idiv, 1) := by decide +kernel
theorem d_M_star_47 : decode b_M_star 47 = .ok (.iload_n 2, 1) := by decide +kernel
theorem d_M_star_48 : decode b_M_star 48 = .ok (.bipush 31, 2) := by decide +kernel
theorem d_M_star_50 : decode b_M_star 50 = .ok (.irem, 1) := by decide +kernel
theorem d_M_star_51 : decode b_M_star 51 = .ok (.invokevirtual 54, 3) := by decide +kernel
theorem d_M_star_54 : decode b_M_star 54 = .ok (.ifCond .eq 17, 3) := by decide +kernel
theorem d_M_star_57 : decode b_M_star 57 = .ok (.aload_n 0, 1) := by decide +kernel
theorem d_M_star_58 : decode b_M_star 58 = .ok (.bipush 7, 2) := by decide +kernel
theorem d_M_star_60 : decode b_M_star 60 = .ok (.iload_n 2, 1) := by decide +kernel
theorem d_M_star_61 : decode b_M_star 61 = .ok (.bipush 31, 2) := by decide +kernel
theorem d_M_star_63 : decode b_M_star 63 = .ok (.idiv, 1) := by decide +kernel
theorem d_M_star_64 : decode b_M_star 64 = .ok (.iload_n 2, 1) := by decide +kernel
theorem d_M_star_65 : decode b_M_star 65 = .ok (.bipush 31, 2) := by decide +kernel
theorem d_M_star_67 : decode b_M_star 67 = .ok (.irem, 1) := by decide +kernel
theorem d_M_star_68 : decode b_M_star 68 = .ok (.invokevirtual 31, 3) := by decide +kernel
theorem d_M_star_71 : decode b_M_star 71 = .ok (.iinc 2 1, 3) := by decide +kernel
theorem d_M_star_74 : decode b_M_star 74 = .ok (.goto (-47), 3) := by decide +kernel
theorem d_M_star_77 : decode b_M_star 77 = .ok (.aload_n 0, 1) := by decide +kernel
theorem d_M_star_78 : decode b_M_star 78 = .ok (.bipush 7, 2) := by decide +kernel
theorem d_M_star_80 : decode b_M_star 80 = .ok (.aload_n 0, 1) := by decide +kernel
theorem d_M_star_81 : decode b_M_star 81 = .ok (.getfield 21, 3) := by decide +kernel
theorem d_M_star_84 : decode b_M_star 84 = .ok (.iconst 1, 1) := by decide +kernel
theorem d_M_star_85 : decode b_M_star 85 = .ok (.isub, 1) := by decide +kernel
theorem d_M_star_86 : decode b_M_star 86 = .ok (.invokevirtual 58, 3) := by decide +kernel
theorem d_M_star_89 : decode b_M_star 89 = .ok (.aload_n 0, 1) := by decide +kernel
theorem d_M_star_90 : decode b_M_star 90 = .ok (.dup, 1) := by decide +kernel
theorem d_M_star_91 : decode b_M_star 91 = .ok (.getfield 17, 3) := by decide +kernel
theorem d_M_star_94 : decode b_M_star 94 = .ok (.iconst 1, 1) := by decide +kernel
theorem d_M_star_95 : decode b_M_star 95 = .ok (.iadd, 1) := by decide +kernel
theorem d_M_star_96 : decode b_M_star 96 = .ok (.putfield 17, 3) := by decide +kernel
theorem d_M_star_99 : decode b_M_star 99 = .ok (.aload_n 0, 1) := by decide +kernel
theorem d_M_star_100 : decode b_M_star 100 = .ok (.getfield 21, 3) := by decide +kernel
theorem d_M_star_103 : decode b_M_star 103 = .ok (.ireturn, 1) := by decide +kernel
theorem d_M_turn_0 : decode b_M_turn 0 = .ok (.aload_n 0, 1) := by decide +kernel
theorem d_M_turn_1 : decode b_M_turn 1 = .ok (.invokevirtual 62, 3) := by decide +kernel
theorem d_M_turn_4 : decode b_M_turn 4 = .ok (.istore_n 1, 1) := by decide +kernel
theorem d_M_turn_5 : decode b_M_turn 5 = .ok (.iload_n 1, 1) := by decide +kernel
theorem d_M_turn_6 : decode b_M_turn 6 = .ok (.ifCond .ge 5, 3) := by decide +kernel
theorem d_M_turn_9 : decode b_M_turn 9 = .ok (.iload_n 1, 1) := by decide +kernel
theorem d_M_turn_10 : decode b_M_turn 10 = .ok (.ireturn, 1) := by decide +kernel
theorem d_M_turn_11 : decode b_M_turn 11 = .ok (.aload_n 0, 1) := by decide +kernel
theorem d_M_turn_12 : decode b_M_turn 12 = .ok (.bipush 7, 2) := by decide +kernel
theorem d_M_turn_14 : decode b_M_turn 14 = .ok (.invokevirtual 27, 3) := by decide +kernel
theorem d_M_turn_17 : decode b_M_turn 17 = .ok (.iconst 0, 1) := by decide +kernel
theorem d_M_turn_18 : decode b_M_turn 18 = .ok (.istore_n 2, 1) := by decide +kernel
theorem d_M_turn_19 : decode b_M_turn 19 = .ok (.iload_n 2, 1) := by decide +kernel
theorem d_M_turn_20 : decode b_M_turn 20 = .ok (.bipush 31, 2) := by decide +kernel
theorem d_M_turn_22 : decode b_M_turn 22 = .ok (.if_icmp .ge 46, 3) := by decide +kernel
theorem d_M_turn_25 : decode b_M_turn 25 = .ok (.iconst 0, 1) := by decide +kernel
theorem d_M_turn_26 : decode b_M_turn 26 = .ok (.istore_n 3, 1) := by decide +kernel
theorem d_M_turn_27 : decode b_M_turn 27 = .ok (.iload_n 3, 1) := by decide +kernel
theorem d_M_turn_28 : decode b_M_turn 28 = .ok (.bipush 31, 2) := by decide +kernel
theorem d_M_turn_30 : decode b_M_turn 30 = .ok (.if_icmp .ge 32, 3) := by decide +kernel
theorem d_M_turn_33 : decode b_M_turn 33 = .ok (.aload_n 0, 1) := by decide +kernel
theorem d_M_turn_34 : decode b_M_turn 34 = .ok (.aload_n 0, 1) := by decide +kernel
theorem d_M_turn_35 : decode b_M_turn 35 = .ok (.getfield 21, 3) := by decide +kernel
theorem d_M_turn_38 : decode b_M_turn 38 = .ok (.iconst 1, 1) := by decide +kernel
theorem d_M_turn_39 : decode b_M_turn 39 = .ok (.isub, 1) := by decide +kernel
theorem d_M_turn_40 : decode b_M_turn 40 = .ok (.iload_n 3, 1) := by decide +kernel
theorem d_M_turn_41 : decode b_M_turn 41 = .ok (.iload_n 2, 1) := by decide +kernel
theorem d_M_turn_42 : decode b_M_turn 42 = .ok (.invokevirtual 42, 3) := by decide +kernel
theorem d_M_turn_45 : decode b_M_turn 45 = .ok (.ifCond .eq 11, 3) := by decide +kernel
theorem d_M_turn_48 : decode b_M_turn 48 = .ok (.aload_n 0, 1) := by decide +kernel
theorem d_M_turn_49 : decode b_M_turn 49 = .ok (.bipush 7, 2) := by decide +kernel
theorem d_M_turn_51 : decode b_M_turn 51 = .ok (.iload_n 2, 1) := by decide +kernel
theorem d_M_turn_52 : decode b_M_turn 52 = .ok (.iload_n 3, 1) := by decide +kernel
theorem d_M_turn_53 : decode b_M_turn 53 = .ok (.invokevirtual 31, 3) := by decide +kernel
theorem d_M_turn_56 : decode b_M_turn 56 = .ok (.iinc 3 1, 3) := by decide +kernel
theorem d_M_turn_59 : decode b_M_turn 59 = .ok (.goto (-32), 3) := by decide +kernel
theorem d_M_turn_62 : decode b_M_turn 62 = .ok (.iinc 2 1, 3) := by decide +kernel
theorem d_M_turn_65 : decode b_M_turn 65 = .ok (.goto (-46), 3) := by decide +kernel
theorem d_M_turn_68 : decode b_M_turn 68 = .ok (.aload_n 0, 1) := by decide +kernel
theorem d_M_turn_69 : decode b_M_turn 69 = .ok (.bipush 7, 2) := by decide +kernel
theorem d_M_turn_71 : decode b_M_turn 71 = .ok (.aload_n 0, 1) := by decide +kernel
theorem d_M_turn_72 : decode b_M_turn 72 = .ok (.getfield 21, 3) := by decide +kernel
theorem d_M_turn_75 : decode b_M_turn 75 = .ok (.iconst 1, 1) := by decide +kernel
theorem d_M_turn_76 : decode b_M_turn 76 = .ok (.isub, 1) := by decide +kernel
theorem d_M_turn_77 : decode b_M_turn 77 = .ok (.invokevirtual 58, 3) := by decide +kernel
theorem d_M_turn_80 : decode b_M_turn 80 = .ok (.aload_n 0, 1) := by decide +kernel
theorem d_M_turn_81 : decode b_M_turn 81 = .ok (.dup, 1) := by decide +kernel
theorem d_M_turn_82 : decode b_M_turn 82 = .ok (.getfield 17, 3) := by decide +kernel
theorem d_M_turn_85 : decode b_M_turn 85 = .ok (.iconst 1, 1) := by decide +kernel
theorem d_M_turn_86 : decode b_M_turn 86 = .ok (.iadd, 1) := by decide +kernel
theorem d_M_turn_87 : decode b_M_turn 87 = .ok (.putfield 17, 3) := by decide +kernel
theorem d_M_turn_90 : decode b_M_turn 90 = .ok (.aload_n 0, 1) := by decide +kernel
theorem d_M_turn_91 : decode b_M_turn 91 = .ok (.getfield 21, 3) := by decide +kernel
theorem d_M_turn_94 : decode b_M_turn 94 = .ok (.ireturn, 1) := by decide +kernel
theorem d_M_steps_0 : decode b_M_steps 0 = .ok (.aload_n 0, 1) := by decide +kernel
theorem d_M_steps_1 : decode b_M_steps 1 = .ok (.getfield 17, 3) := by decide +kernel
theorem d_M_steps_4 : decode b_M_steps 4 = .ok (.ireturn, 1) := by decide +kernel
theorem d_M_depth_0 : decode b_M_depth 0 = .ok (.aload_n 0, 1) := by decide +kernel
theorem d_M_depth_1 : decode b_M_depth 1 = .ok (.getfield 21, 3) := by decide +kernel
theorem d_M_depth_4 : decode b_M_depth 4 = .ok (.ireturn, 1) := by decide +kernel
theorem d_M_discard_0 : decode b_M_discard 0 = .ok (.aload_n 0, 1) := by decide +kernel
theorem d_M_discard_1 : decode b_M_discard 1 = .ok (.iconst 0, 1) := by decide +kernel
theorem d_M_discard_2 : decode b_M_discard 2 = .ok (.putfield 21, 3) := by decide +kernel
theorem d_M_discard_5 : decode b_M_discard 5 = .ok (.aload_n 0, 1) := by decide +kernel
theorem d_M_discard_6 : decode b_M_discard 6 = .ok (.iconst 0, 1) := by decide +kernel
theorem d_M_discard_7 : decode b_M_discard 7 = .ok (.putfield 17, 3) := by decide +kernel
theorem d_M_discard_10 : decode b_M_discard 10 = .ok (.aload_n 0, 1) := by decide +kernel
theorem d_M_discard_11 : decode b_M_discard 11 = .ok (.iconst 0, 1) := by decide +kernel
theorem d_M_discard_12 : decode b_M_discard 12 = .ok (.putfield 24, 3) := by decide +kernel
theorem d_M_discard_15 : decode b_M_discard 15 = .ok (.return_, 1) := by decide +kernel
theorem d_M_define_0 : decode b_M_define 0 = .ok (.aload_n 0, 1) := by decide +kernel
theorem d_M_define_1 : decode b_M_define 1 = .ok (.getfield 21, 3) := by decide +kernel
theorem d_M_define_4 : decode b_M_define 4 = .ok (.ifCond .ne 6, 3) := by decide +kernel
theorem d_M_define_7 : decode b_M_define 7 = .ok (.bipush (-3), 2) := by decide +kernel
theorem d_M_define_9 : decode b_M_define 9 = .ok (.ireturn, 1) := by decide +kernel
theorem d_M_define_10 : decode b_M_define 10 = .ok (.aload_n 0, 1) := by decide +kernel
theorem d_M_define_11 : decode b_M_define 11 = .ok (.getfield 21, 3) := by decide +kernel
theorem d_M_define_14 : decode b_M_define 14 = .ok (.istore_n 1, 1) := by decide +kernel
theorem d_M_define_15 : decode b_M_define 15 = .ok (.aload_n 0, 1) := by decide +kernel
theorem d_M_define_16 : decode b_M_define 16 = .ok (.aload_n 0, 1) := by decide +kernel
theorem d_M_define_17 : decode b_M_define 17 = .ok (.getfield 21, 3) := by decide +kernel
theorem d_M_define_20 : decode b_M_define 20 = .ok (.iconst 1, 1) := by decide +kernel
theorem d_M_define_21 : decode b_M_define 21 = .ok (.isub, 1) := by decide +kernel
theorem d_M_define_22 : decode b_M_define 22 = .ok (.bipush 6, 2) := by decide +kernel
theorem d_M_define_24 : decode b_M_define 24 = .ok (.invokevirtual 58, 3) := by decide +kernel
theorem d_M_define_27 : decode b_M_define 27 = .ok (.aload_n 0, 1) := by decide +kernel
theorem d_M_define_28 : decode b_M_define 28 = .ok (.invokevirtual 65, 3) := by decide +kernel
theorem d_M_define_31 : decode b_M_define 31 = .ok (.iload_n 1, 1) := by decide +kernel
theorem d_M_define_32 : decode b_M_define 32 = .ok (.ireturn, 1) := by decide +kernel
theorem d_M_isWord_0 : decode b_M_isWord 0 = .ok (.iload_n 1, 1) := by decide +kernel
theorem d_M_isWord_1 : decode b_M_isWord 1 = .ok (.ifCond .lt 23, 3) := by decide +kernel
theorem d_M_isWord_4 : decode b_M_isWord 4 = .ok (.iload_n 1, 1) := by decide +kernel
theorem d_M_isWord_5 : decode b_M_isWord 5 = .ok (.iconst 4, 1) := by decide +kernel
theorem d_M_isWord_6 : decode b_M_isWord 6 = .ok (.if_icmp .gt 18, 3) := by decide +kernel
theorem d_M_isWord_9 : decode b_M_isWord 9 = .ok (.iload_n 2, 1) := by decide +kernel
theorem d_M_isWord_10 : decode b_M_isWord 10 = .ok (.ifCond .lt 14, 3) := by decide +kernel
theorem d_M_isWord_13 : decode b_M_isWord 13 = .ok (.iload_n 2, 1) := by decide +kernel
theorem d_M_isWord_14 : decode b_M_isWord 14 = .ok (.iconst 1, 1) := by decide +kernel
theorem d_M_isWord_15 : decode b_M_isWord 15 = .ok (.iload_n 1, 1) := by decide +kernel
theorem d_M_isWord_16 : decode b_M_isWord 16 = .ok (.ishl, 1) := by decide +kernel
theorem d_M_isWord_17 : decode b_M_isWord 17 = .ok (.if_icmp .ge 7, 3) := by decide +kernel
theorem d_M_isWord_20 : decode b_M_isWord 20 = .ok (.iconst 1, 1) := by decide +kernel
theorem d_M_isWord_21 : decode b_M_isWord 21 = .ok (.goto 4, 3) := by decide +kernel
theorem d_M_isWord_24 : decode b_M_isWord 24 = .ok (.iconst 0, 1) := by decide +kernel
theorem d_M_isWord_25 : decode b_M_isWord 25 = .ok (.ireturn, 1) := by decide +kernel
theorem d_M_related_0 : decode b_M_related 0 = .ok (.aload_n 0, 1) := by decide +kernel
theorem d_M_related_1 : decode b_M_related 1 = .ok (.iload_n 1, 1) := by decide +kernel
theorem d_M_related_2 : decode b_M_related 2 = .ok (.iload_n 2, 1) := by decide +kernel
theorem d_M_related_3 : decode b_M_related 3 = .ok (.invokevirtual 68, 3) := by decide +kernel
theorem d_M_related_6 : decode b_M_related 6 = .ok (.ifCond .eq 41, 3) := by decide +kernel
theorem d_M_related_9 : decode b_M_related 9 = .ok (.aload_n 0, 1) := by decide +kernel
theorem d_M_related_10 : decode b_M_related 10 = .ok (.iload_n 3, 1) := by decide +kernel
theorem d_M_related_11 : decode b_M_related 11 = .ok (.iload 4, 2) := by decide +kernel
theorem d_M_related_13 : decode b_M_related 13 = .ok (.invokevirtual 68, 3) := by decide +kernel
theorem d_M_related_16 : decode b_M_related 16 = .ok (.ifCond .eq 31, 3) := by decide +kernel
theorem d_M_related_19 : decode b_M_related 19 = .ok (.aload_n 0, 1) := by decide +kernel
theorem d_M_related_20 : decode b_M_related 20 = .ok (.bipush 6, 2) := by decide +kernel
theorem d_M_related_22 : decode b_M_related 22 = .ok (.iconst 1, 1) := by decide +kernel
theorem d_M_related_23 : decode b_M_related 23 = .ok (.iload_n 1, 1) := by decide +kernel
theorem d_M_related_24 : decode b_M_related 24 = .ok (.ishl, 1) := by decide +kernel
theorem d_M_related_25 : decode b_M_related 25 = .ok (.iconst 1, 1) := by decide +kernel
theorem d_M_related_26 : decode b_M_related 26 = .ok (.isub, 1) := by decide +kernel
theorem d_M_related_27 : decode b_M_related 27 = .ok (.iload_n 2, 1) := by decide +kernel
theorem d_M_related_28 : decode b_M_related 28 = .ok (.iadd, 1) := by decide +kernel
theorem d_M_related_29 : decode b_M_related 29 = .ok (.iconst 1, 1) := by decide +kernel
theorem d_M_related_30 : decode b_M_related 30 = .ok (.iload_n 3, 1) := by decide +kernel
theorem d_M_related_31 : decode b_M_related 31 = .ok (.ishl, 1) := by decide +kernel
theorem d_M_related_32 : decode b_M_related 32 = .ok (.iconst 1, 1) := by decide +kernel
theorem d_M_related_33 : decode b_M_related 33 = .ok (.isub, 1) := by decide +kernel
theorem d_M_related_34 : decode b_M_related 34 = .ok (.iload 4, 2) := by decide +kernel
theorem d_M_related_36 : decode b_M_related 36 = .ok (.iadd, 1) := by decide +kernel
theorem d_M_related_37 : decode b_M_related 37 = .ok (.invokevirtual 42, 3) := by decide +kernel
theorem d_M_related_40 : decode b_M_related 40 = .ok (.ifCond .eq 7, 3) := by decide +kernel
theorem d_M_related_43 : decode b_M_related 43 = .ok (.iconst 1, 1) := by decide +kernel
theorem d_M_related_44 : decode b_M_related 44 = .ok (.goto 4, 3) := by decide +kernel
theorem d_M_related_47 : decode b_M_related 47 = .ok (.iconst 0, 1) := by decide +kernel
theorem d_M_related_48 : decode b_M_related 48 = .ok (.ireturn, 1) := by decide +kernel
theorem d_M_imagesOf_0 : decode b_M_imagesOf 0 = .ok (.iconst 0, 1) := by decide +kernel
theorem d_M_imagesOf_1 : decode b_M_imagesOf 1 = .ok (.istore_n 2, 1) := by decide +kernel
theorem d_M_imagesOf_2 : decode b_M_imagesOf 2 = .ok (.iconst 0, 1) := by decide +kernel
theorem d_M_imagesOf_3 : decode b_M_imagesOf 3 = .ok (.istore_n 3, 1) := by decide +kernel
theorem d_M_imagesOf_4 : decode b_M_imagesOf 4 = .ok (.iload_n 3, 1) := by decide +kernel
theorem d_M_imagesOf_5 : decode b_M_imagesOf 5 = .ok (.bipush 31, 2) := by decide +kernel
theorem d_M_imagesOf_7 : decode b_M_imagesOf 7 = .ok (.if_icmp .ge 28, 3) := by decide +kernel
theorem d_M_imagesOf_10 : decode b_M_imagesOf 10 = .ok (.aload_n 0, 1) := by decide +kernel
theorem d_M_imagesOf_11 : decode b_M_imagesOf 11 = .ok (.bipush 6, 2) := by decide +kernel
theorem d_M_imagesOf_13 : decode b_M_imagesOf 13 = .ok (.iload_n 1, 1) := by decide +kernel
theorem d_M_imagesOf_14 : decode b_M_imagesOf 14 = .ok (.iload_n 3, 1) := by decide +kernel
theorem d_M_imagesOf_15 : decode b_M_imagesOf 15 = .ok (.invokevirtual 42, 3) := by decide +kernel
theorem d_M_imagesOf_18 : decode b_M_imagesOf 18 = .ok (.ifCond .eq 9, 3) := by decide +kernel
theorem d_M_imagesOf_21 : decode b_M_imagesOf 21 = .ok (.iload_n 2, 1) := by decide +kernel
theorem d_M_imagesOf_22 : decode b_M_imagesOf 22 = .ok (.iconst 1, 1) := by decide +kernel
theorem d_M_imagesOf_23 : decode b_M_imagesOf 23 = .ok (.iadd, 1) := by decide +kernel
theorem d_M_imagesOf_24 : decode b_M_imagesOf 24 = .ok (.goto 4, 3) := by decide +kernel
theorem d_M_imagesOf_27 : decode b_M_imagesOf 27 = .ok (.iload_n 2, 1) := by decide +kernel
theorem d_M_imagesOf_28 : decode b_M_imagesOf 28 = .ok (.istore_n 2, 1) := by decide +kernel
theorem d_M_imagesOf_29 : decode b_M_imagesOf 29 = .ok (.iinc 3 1, 3) := by decide +kernel
theorem d_M_imagesOf_32 : decode b_M_imagesOf 32 = .ok (.goto (-28), 3) := by decide +kernel
theorem d_M_imagesOf_35 : decode b_M_imagesOf 35 = .ok (.iload_n 2, 1) := by decide +kernel
theorem d_M_imagesOf_36 : decode b_M_imagesOf 36 = .ok (.ireturn, 1) := by decide +kernel
theorem d_M_images_0 : decode b_M_images 0 = .ok (.aload_n 0, 1) := by decide +kernel
theorem d_M_images_1 : decode b_M_images 1 = .ok (.iload_n 1, 1) := by decide +kernel
theorem d_M_images_2 : decode b_M_images 2 = .ok (.iload_n 2, 1) := by decide +kernel
theorem d_M_images_3 : decode b_M_images 3 = .ok (.invokevirtual 68, 3) := by decide +kernel
theorem d_M_images_6 : decode b_M_images 6 = .ok (.ifCond .eq 17, 3) := by decide +kernel
theorem d_M_images_9 : decode b_M_images 9 = .ok (.aload_n 0, 1) := by decide +kernel
theorem d_M_images_10 : decode b_M_images 10 = .ok (.iconst 1, 1) := by decide +kernel
theorem d_M_images_11 : decode b_M_images 11 = .ok (.iload_n 1, 1) := by decide +kernel
theorem d_M_images_12 : decode b_M_images 12 = .ok (.ishl, 1) := by decide +kernel
theorem d_M_images_13 : decode b_M_images 13 = .ok (.iconst 1, 1) := by decide +kernel
theorem d_M_images_14 : decode b_M_images 14 = .ok (.isub, 1) := by decide +kernel
theorem d_M_images_15 : decode b_M_images 15 = .ok (.iload_n 2, 1) := by decide +kernel
theorem d_M_images_16 : decode b_M_images 16 = .ok (.iadd, 1) := by decide +kernel
theorem d_M_images_17 : decode b_M_images 17 = .ok (.invokevirtual 72, 3) := by decide +kernel
theorem d_M_images_20 : decode b_M_images 20 = .ok (.goto 4, 3) := by decide +kernel
theorem d_M_images_23 : decode b_M_images 23 = .ok (.iconst (-1), 1) := by decide +kernel
theorem d_M_images_24 : decode b_M_images 24 = .ok (.ireturn, 1) := by decide +kernel
theorem d_M_image_0 : decode b_M_image 0 = .ok (.aload_n 0, 1) := by decide +kernel
theorem d_M_image_1 : decode b_M_image 1 = .ok (.iload_n 1, 1) := by decide +kernel
theorem d_M_image_2 : decode b_M_image 2 = .ok (.iload_n 2, 1) := by decide +kernel
theorem d_M_image_3 : decode b_M_image 3 = .ok (.invokevirtual 68, 3) := by decide +kernel
theorem d_M_image_6 : decode b_M_image 6 = .ok (.ifCond .ne 5, 3) := by decide +kernel
theorem d_M_image_9 : decode b_M_image 9 = .ok (.iconst (-1), 1) := by decide +kernel
theorem d_M_image_10 : decode b_M_image 10 = .ok (.ireturn, 1) := by decide +kernel
theorem d_M_image_11 : decode b_M_image 11 = .ok (.iconst 0, 1) := by decide +kernel
theorem d_M_image_12 : decode b_M_image 12 = .ok (.istore 4, 2) := by decide +kernel
theorem d_M_image_14 : decode b_M_image 14 = .ok (.iconst 0, 1) := by decide +kernel
theorem d_M_image_15 : decode b_M_image 15 = .ok (.istore 5, 2) := by decide +kernel
theorem d_M_image_17 : decode b_M_image 17 = .ok (.iload 5, 2) := by decide +kernel
theorem d_M_image_19 : decode b_M_image 19 = .ok (.bipush 31, 2) := by decide +kernel
theorem d_M_image_21 : decode b_M_image 21 = .ok (.if_icmp .ge 60, 3) := by decide +kernel
theorem d_M_image_24 : decode b_M_image 24 = .ok (.aload_n 0, 1) := by decide +kernel
theorem d_M_image_25 : decode b_M_image 25 = .ok (.bipush 6, 2) := by decide +kernel
theorem d_M_image_27 : decode b_M_image 27 = .ok (.iconst 1, 1) := by decide +kernel
theorem d_M_image_28 : decode b_M_image 28 = .ok (.iload_n 1, 1) := by decide +kernel
theorem d_M_image_29 : decode b_M_image 29 = .ok (.ishl, 1) := by decide +kernel
theorem d_M_image_30 : decode b_M_image 30 = .ok (.iconst 1, 1) := by decide +kernel
theorem d_M_image_31 : decode b_M_image 31 = .ok (.isub, 1) := by decide +kernel
theorem d_M_image_32 : decode b_M_image 32 = .ok (.iload_n 2, 1) := by decide +kernel
theorem d_M_image_33 : decode b_M_image 33 = .ok (.iadd, 1) := by decide +kernel
theorem d_M_image_34 : decode b_M_image 34 = .ok (.iload 5, 2) := by decide +kernel
theorem d_M_image_36 : decode b_M_image 36 = .ok (.invokevirtual 42, 3) := by decide +kernel
theorem d_M_image_39 : decode b_M_image 39 = .ok (.ifCond .eq 36, 3) := by decide +kernel
theorem d_M_image_42 : decode b_M_image 42 = .ok (.iload 4, 2) := by decide +kernel
theorem d_M_image_44 : decode b_M_image 44 = .ok (.iload_n 3, 1) := by decide +kernel
theorem d_M_image_45 : decode b_M_image 45 = .ok (.if_icmp .ne 27, 3) := by decide +kernel
theorem d_M_image_48 : decode b_M_image 48 = .ok (.aload_n 0, 1) := by decide +kernel
theorem d_M_image_49 : decode b_M_image 49 = .ok (.iload 5, 2) := by decide +kernel
theorem d_M_image_51 : decode b_M_image 51 = .ok (.invokevirtual 13, 3) := by decide +kernel
theorem d_M_image_54 : decode b_M_image 54 = .ok (.istore 6, 2) := by decide +kernel
theorem d_M_image_56 : decode b_M_image 56 = .ok (.bipush 16, 2) := by decide +kernel
theorem d_M_image_58 : decode b_M_image 58 = .ok (.iload 6, 2) := by decide +kernel
theorem d_M_image_60 : decode b_M_image 60 = .ok (.imul, 1) := by decide +kernel
theorem d_M_image_61 : decode b_M_image 61 = .ok (.iload 5, 2) := by decide +kernel
theorem d_M_image_63 : decode b_M_image 63 = .ok (.iadd, 1) := by decide +kernel
theorem d_M_image_64 : decode b_M_image 64 = .ok (.iconst 1, 1) := by decide +kernel
theorem d_M_image_65 : decode b_M_image 65 = .ok (.iload 6, 2) := by decide +kernel
theorem d_M_image_67 : decode b_M_image 67 = .ok (.ishl, 1) := by decide +kernel
theorem d_M_image_68 : decode b_M_image 68 = .ok (.iconst 1, 1) := by decide +kernel
theorem d_M_image_69 : decode b_M_image 69 = .ok (.isub, 1) := by decide +kernel
theorem d_M_image_70 : decode b_M_image 70 = .ok (.isub, 1) := by decide +kernel
theorem d_M_image_71 : decode b_M_image 71 = .ok (.ireturn, 1) := by decide +kernel
theorem d_M_image_72 : decode b_M_image 72 = .ok (.iinc 4 1, 3) := by decide +kernel
theorem d_M_image_75 : decode b_M_image 75 = .ok (.iinc 5 1, 3) := by decide +kernel
theorem d_M_image_78 : decode b_M_image 78 = .ok (.goto (-61), 3) := by decide +kernel
theorem d_M_image_81 : decode b_M_image 81 = .ok (.bipush (-4), 2) := by decide +kernel
theorem d_M_image_83 : decode b_M_image 83 = .ok (.ireturn, 1) := by decide +kernel
theorem d_M_sources_0 : decode b_M_sources 0 = .ok (.aload_n 0, 1) := by decide +kernel
theorem d_M_sources_1 : decode b_M_sources 1 = .ok (.iload_n 1, 1) := by decide +kernel
theorem d_M_sources_2 : decode b_M_sources 2 = .ok (.iload_n 2, 1) := by decide +kernel
theorem d_M_sources_3 : decode b_M_sources 3 = .ok (.invokevirtual 68, 3) := by decide +kernel
theorem d_M_sources_6 : decode b_M_sources 6 = .ok (.ifCond .ne 5, 3) := by decide +kernel
theorem d_M_sources_9 : decode b_M_sources 9 = .ok (.iconst (-1), 1) := by decide +kernel
theorem d_M_sources_10 : decode b_M_sources 10 = .ok (.ireturn, 1) := by decide +kernel
theorem d_M_sources_11 : decode b_M_sources 11 = .ok (.iconst 0, 1) := by decide +kernel
theorem d_M_sources_12 : decode b_M_sources 12 = .ok (.istore_n 3, 1) := by decide +kernel
theorem d_M_sources_13 : decode b_M_sources 13 = .ok (.iconst 0, 1) := by decide +kernel
theorem d_M_sources_14 : decode b_M_sources 14 = .ok (.istore 4, 2) := by decide +kernel
theorem d_M_sources_16 : decode b_M_sources 16 = .ok (.iload 4, 2) := by decide +kernel
theorem d_M_sources_18 : decode b_M_sources 18 = .ok (.bipush 31, 2) := by decide +kernel
theorem d_M_sources_20 : decode b_M_sources 20 = .ok (.if_icmp .ge 35, 3) := by decide +kernel
theorem d_M_sources_23 : decode b_M_sources 23 = .ok (.aload_n 0, 1) := by decide +kernel
theorem d_M_sources_24 : decode b_M_sources 24 = .ok (.bipush 6, 2) := by decide +kernel
theorem d_M_sources_26 : decode b_M_sources 26 = .ok (.iload 4, 2) := by decide +kernel
theorem d_M_sources_28 : decode b_M_sources 28 = .ok (.iconst 1, 1) := by decide +kernel
theorem d_M_sources_29 : decode b_M_sources 29 = .ok (.iload_n 1, 1) := by decide +kernel
theorem d_M_sources_30 : decode b_M_sources 30 = .ok (.ishl, 1) := by decide +kernel
theorem d_M_sources_31 : decode b_M_sources 31 = .ok (.iconst 1, 1) := by decide +kernel
theorem d_M_sources_32 : decode b_M_sources 32 = .ok (.isub, 1) := by decide +kernel
theorem d_M_sources_33 : decode b_M_sources 33 = .ok (.iload_n 2, 1) := by decide +kernel
theorem d_M_sources_34 : decode b_M_sources 34 = .ok (.iadd, 1) := by decide +kernel
theorem d_M_sources_35 : decode b_M_sources 35 = .ok (.invokevirtual 42, 3) := by decide +kernel
theorem d_M_sources_38 : decode b_M_sources 38 = .ok (.ifCond .eq 9, 3) := by decide +kernel
theorem d_M_sources_41 : decode b_M_sources 41 = .ok (.iload_n 3, 1) := by decide +kernel
theorem d_M_sources_42 : decode b_M_sources 42 = .ok (.iconst 1, 1) := by decide +kernel
theorem d_M_sources_43 : decode b_M_sources 43 = .ok (.iadd, 1) := by decide +kernel
theorem d_M_sources_44 : decode b_M_sources 44 = .ok (.goto 4, 3) := by decide +kernel
theorem d_M_sources_47 : decode b_M_sources 47 = .ok (.iload_n 3, 1) := by decide +kernel
theorem d_M_sources_48 : decode b_M_sources 48 = .ok (.istore_n 3, 1) := by decide +kernel
theorem d_M_sources_49 : decode b_M_sources 49 = .ok (.iinc 4 1, 3) := by decide +kernel
theorem d_M_sources_52 : decode b_M_sources 52 = .ok (.goto (-36), 3) := by decide +kernel
theorem d_M_sources_55 : decode b_M_sources 55 = .ok (.iload_n 3, 1) := by decide +kernel
theorem d_M_sources_56 : decode b_M_sources 56 = .ok (.ireturn, 1) := by decide +kernel
theorem d_M_pairs_0 : decode b_M_pairs 0 = .ok (.iconst 0, 1) := by decide +kernel
theorem d_M_pairs_1 : decode b_M_pairs 1 = .ok (.istore_n 1, 1) := by decide +kernel
theorem d_M_pairs_2 : decode b_M_pairs 2 = .ok (.iconst 0, 1) := by decide +kernel
theorem d_M_pairs_3 : decode b_M_pairs 3 = .ok (.istore_n 2, 1) := by decide +kernel
theorem d_M_pairs_4 : decode b_M_pairs 4 = .ok (.iload_n 2, 1) := by decide +kernel
theorem d_M_pairs_5 : decode b_M_pairs 5 = .ok (.bipush 31, 2) := by decide +kernel
theorem d_M_pairs_7 : decode b_M_pairs 7 = .ok (.if_icmp .ge 17, 3) := by decide +kernel
theorem d_M_pairs_10 : decode b_M_pairs 10 = .ok (.iload_n 1, 1) := by decide +kernel
theorem d_M_pairs_11 : decode b_M_pairs 11 = .ok (.aload_n 0, 1) := by decide +kernel
theorem d_M_pairs_12 : decode b_M_pairs 12 = .ok (.iload_n 2, 1) := by decide +kernel
theorem d_M_pairs_13 : decode b_M_pairs 13 = .ok (.invokevirtual 72, 3) := by decide +kernel
theorem d_M_pairs_16 : decode b_M_pairs 16 = .ok (.iadd, 1) := by decide +kernel
theorem d_M_pairs_17 : decode b_M_pairs 17 = .ok (.istore_n 1, 1) := by decide +kernel
theorem d_M_pairs_18 : decode b_M_pairs 18 = .ok (.iinc 2 1, 3) := by decide +kernel
theorem d_M_pairs_21 : decode b_M_pairs 21 = .ok (.goto (-17), 3) := by decide +kernel
theorem d_M_pairs_24 : decode b_M_pairs 24 = .ok (.iload_n 1, 1) := by decide +kernel
theorem d_M_pairs_25 : decode b_M_pairs 25 = .ok (.ireturn, 1) := by decide +kernel
theorem d_M_domain_0 : decode b_M_domain 0 = .ok (.iconst 0, 1) := by decide +kernel
theorem d_M_domain_1 : decode b_M_domain 1 = .ok (.istore_n 1, 1) := by decide +kernel
theorem d_M_domain_2 : decode b_M_domain 2 = .ok (.iconst 0, 1) := by decide +kernel
theorem d_M_domain_3 : decode b_M_domain 3 = .ok (.istore_n 2, 1) := by decide +kernel
theorem d_M_domain_4 : decode b_M_domain 4 = .ok (.iload_n 2, 1) := by decide +kernel
theorem d_M_domain_5 : decode b_M_domain 5 = .ok (.bipush 31, 2) := by decide +kernel
theorem d_M_domain_7 : decode b_M_domain 7 = .ok (.if_icmp .ge 25, 3) := by decide +kernel
theorem d_M_domain_10 : decode b_M_domain 10 = .ok (.aload_n 0, 1) := by decide +kernel
theorem d_M_domain_11 : decode b_M_domain 11 = .ok (.iload_n 2, 1) := by decide +kernel
theorem d_M_domain_12 : decode b_M_domain 12 = .ok (.invokevirtual 72, 3) := by decide +kernel
theorem d_M_domain_15 : decode b_M_domain 15 = .ok (.ifCond .le 9, 3) := by decide +kernel
theorem d_M_domain_18 : decode b_M_domain 18 = .ok (.iload_n 1, 1) := by decide +kernel
theorem d_M_domain_19 : decode b_M_domain 19 = .ok (.iconst 1, 1) := by decide +kernel
theorem d_M_domain_20 : decode b_M_domain 20 = .ok (.iadd, 1) := by decide +kernel
theorem d_M_domain_21 : decode b_M_domain 21 = .ok (.goto 4, 3) := by decide +kernel
theorem d_M_domain_24 : decode b_M_domain 24 = .ok (.iload_n 1, 1) := by decide +kernel
theorem d_M_domain_25 : decode b_M_domain 25 = .ok (.istore_n 1, 1) := by decide +kernel
theorem d_M_domain_26 : decode b_M_domain 26 = .ok (.iinc 2 1, 3) := by decide +kernel
theorem d_M_domain_29 : decode b_M_domain 29 = .ok (.goto (-25), 3) := by decide +kernel
theorem d_M_domain_32 : decode b_M_domain 32 = .ok (.iload_n 1, 1) := by decide +kernel
theorem d_M_domain_33 : decode b_M_domain 33 = .ok (.ireturn, 1) := by decide +kernel
theorem d_M_manyValued_0 : decode b_M_manyValued 0 = .ok (.iconst 0, 1) := by decide +kernel
theorem d_M_manyValued_1 : decode b_M_manyValued 1 = .ok (.istore_n 1, 1) := by decide +kernel
theorem d_M_manyValued_2 : decode b_M_manyValued 2 = .ok (.iconst 0, 1) := by decide +kernel
theorem d_M_manyValued_3 : decode b_M_manyValued 3 = .ok (.istore_n 2, 1) := by decide +kernel
theorem d_M_manyValued_4 : decode b_M_manyValued 4 = .ok (.iload_n 2, 1) := by decide +kernel
theorem d_M_manyValued_5 : decode b_M_manyValued 5 = .ok (.bipush 31, 2) := by decide +kernel
theorem d_M_manyValued_7 : decode b_M_manyValued 7 = .ok (.if_icmp .ge 26, 3) := by decide +kernel
theorem d_M_manyValued_10 : decode b_M_manyValued 10 = .ok (.aload_n 0, 1) := by decide +kernel
theorem d_M_manyValued_11 : decode b_M_manyValued 11 = .ok (.iload_n 2, 1) := by decide +kernel
theorem d_M_manyValued_12 : decode b_M_manyValued 12 = .ok (.invokevirtual 72, 3) := by decide +kernel
theorem d_M_manyValued_15 : decode b_M_manyValued 15 = .ok (.iconst 1, 1) := by decide +kernel
theorem d_M_manyValued_16 : decode b_M_manyValued 16 = .ok (.if_icmp .le 9, 3) := by decide +kernel
theorem d_M_manyValued_19 : decode b_M_manyValued 19 = .ok (.iload_n 1, 1) := by decide +kernel
theorem d_M_manyValued_20 : decode b_M_manyValued 20 = .ok (.iconst 1, 1) := by decide +kernel
theorem d_M_manyValued_21 : decode b_M_manyValued 21 = .ok (.iadd, 1) := by decide +kernel
theorem d_M_manyValued_22 : decode b_M_manyValued 22 = .ok (.goto 4, 3) := by decide +kernel
theorem d_M_manyValued_25 : decode b_M_manyValued 25 = .ok (.iload_n 1, 1) := by decide +kernel
theorem d_M_manyValued_26 : decode b_M_manyValued 26 = .ok (.istore_n 1, 1) := by decide +kernel
theorem d_M_manyValued_27 : decode b_M_manyValued 27 = .ok (.iinc 2 1, 3) := by decide +kernel
theorem d_M_manyValued_30 : decode b_M_manyValued 30 = .ok (.goto (-26), 3) := by decide +kernel
theorem d_M_manyValued_33 : decode b_M_manyValued 33 = .ok (.iload_n 1, 1) := by decide +kernel
theorem d_M_manyValued_34 : decode b_M_manyValued 34 = .ok (.ireturn, 1) := by decide +kernel
theorem d_M_fixed_0 : decode b_M_fixed 0 = .ok (.iconst 0, 1) := by decide +kernel
theorem d_M_fixed_1 : decode b_M_fixed 1 = .ok (.istore_n 1, 1) := by decide +kernel
theorem d_M_fixed_2 : decode b_M_fixed 2 = .ok (.iconst 0, 1) := by decide +kernel
theorem d_M_fixed_3 : decode b_M_fixed 3 = .ok (.istore_n 2, 1) := by decide +kernel
theorem d_M_fixed_4 : decode b_M_fixed 4 = .ok (.iload_n 2, 1) := by decide +kernel
theorem d_M_fixed_5 : decode b_M_fixed 5 = .ok (.bipush 31, 2) := by decide +kernel
theorem d_M_fixed_7 : decode b_M_fixed 7 = .ok (.if_icmp .ge 28, 3) := by decide +kernel
theorem d_M_fixed_10 : decode b_M_fixed 10 = .ok (.aload_n 0, 1) := by decide +kernel
theorem d_M_fixed_11 : decode b_M_fixed 11 = .ok (.bipush 6, 2) := by decide +kernel
theorem d_M_fixed_13 : decode b_M_fixed 13 = .ok (.iload_n 2, 1) := by decide +kernel
theorem d_M_fixed_14 : decode b_M_fixed 14 = .ok (.iload_n 2, 1) := by decide +kernel
theorem d_M_fixed_15 : decode b_M_fixed 15 = .ok (.invokevirtual 42, 3) := by decide +kernel
theorem d_M_fixed_18 : decode b_M_fixed 18 = .ok (.ifCond .eq 9, 3) := by decide +kernel
theorem d_M_fixed_21 : decode b_M_fixed 21 = .ok (.iload_n 1, 1) := by decide +kernel
theorem d_M_fixed_22 : decode b_M_fixed 22 = .ok (.iconst 1, 1) := by decide +kernel
theorem d_M_fixed_23 : decode b_M_fixed 23 = .ok (.iadd, 1) := by decide +kernel
theorem d_M_fixed_24 : decode b_M_fixed 24 = .ok (.goto 4, 3) := by decide +kernel
theorem d_M_fixed_27 : decode b_M_fixed 27 = .ok (.iload_n 1, 1) := by decide +kernel
theorem d_M_fixed_28 : decode b_M_fixed 28 = .ok (.istore_n 1, 1) := by decide +kernel
theorem d_M_fixed_29 : decode b_M_fixed 29 = .ok (.iinc 2 1, 3) := by decide +kernel
theorem d_M_fixed_32 : decode b_M_fixed 32 = .ok (.goto (-28), 3) := by decide +kernel
theorem d_M_fixed_35 : decode b_M_fixed 35 = .ok (.iload_n 1, 1) := by decide +kernel
theorem d_M_fixed_36 : decode b_M_fixed 36 = .ok (.ireturn, 1) := by decide +kernel
theorem d_M_leads_0 : decode b_M_leads 0 = .ok (.iconst 0, 1) := by decide +kernel
theorem d_M_leads_1 : decode b_M_leads 1 = .ok (.istore_n 3, 1) := by decide +kernel
theorem d_M_leads_2 : decode b_M_leads 2 = .ok (.iload_n 3, 1) := by decide +kernel
theorem d_M_leads_3 : decode b_M_leads 3 = .ok (.bipush 31, 2) := by decide +kernel
theorem d_M_leads_5 : decode b_M_leads 5 = .ok (.if_icmp .ge 33, 3) := by decide +kernel
theorem d_M_leads_8 : decode b_M_leads 8 = .ok (.aload_n 0, 1) := by decide +kernel
theorem d_M_leads_9 : decode b_M_leads 9 = .ok (.bipush 6, 2) := by decide +kernel
theorem d_M_leads_11 : decode b_M_leads 11 = .ok (.iload_n 1, 1) := by decide +kernel
theorem d_M_leads_12 : decode b_M_leads 12 = .ok (.iload_n 3, 1) := by decide +kernel
theorem d_M_leads_13 : decode b_M_leads 13 = .ok (.invokevirtual 42, 3) := by decide +kernel
theorem d_M_leads_16 : decode b_M_leads 16 = .ok (.ifCond .eq 16, 3) := by decide +kernel
theorem d_M_leads_19 : decode b_M_leads 19 = .ok (.aload_n 0, 1) := by decide +kernel
theorem d_M_leads_20 : decode b_M_leads 20 = .ok (.bipush 6, 2) := by decide +kernel
theorem d_M_leads_22 : decode b_M_leads 22 = .ok (.iload_n 3, 1) := by decide +kernel
theorem d_M_leads_23 : decode b_M_leads 23 = .ok (.iload_n 2, 1) := by decide +kernel
theorem d_M_leads_24 : decode b_M_leads 24 = .ok (.invokevirtual 42, 3) := by decide +kernel
theorem d_M_leads_27 : decode b_M_leads 27 = .ok (.ifCond .eq 5, 3) := by decide +kernel
theorem d_M_leads_30 : decode b_M_leads 30 = .ok (.iconst 1, 1) := by decide +kernel
theorem d_M_leads_31 : decode b_M_leads 31 = .ok (.ireturn, 1) := by decide +kernel
theorem d_M_leads_32 : decode b_M_leads 32 = .ok (.iinc 3 1, 3) := by decide +kernel
theorem d_M_leads_35 : decode b_M_leads 35 = .ok (.goto (-33), 3) := by decide +kernel
theorem d_M_leads_38 : decode b_M_leads 38 = .ok (.iconst 0, 1) := by decide +kernel
theorem d_M_leads_39 : decode b_M_leads 39 = .ok (.ireturn, 1) := by decide +kernel
theorem d_M_twoSteps_0 : decode b_M_twoSteps 0 = .ok (.iconst 0, 1) := by decide +kernel
theorem d_M_twoSteps_1 : decode b_M_twoSteps 1 = .ok (.istore_n 1, 1) := by decide +kernel
theorem d_M_twoSteps_2 : decode b_M_twoSteps 2 = .ok (.iconst 0, 1) := by decide +kernel
theorem d_M_twoSteps_3 : decode b_M_twoSteps 3 = .ok (.istore_n 2, 1) := by decide +kernel
theorem d_M_twoSteps_4 : decode b_M_twoSteps 4 = .ok (.iload_n 2, 1) := by decide +kernel
theorem d_M_twoSteps_5 : decode b_M_twoSteps 5 = .ok (.bipush 31, 2) := by decide +kernel
theorem d_M_twoSteps_7 : decode b_M_twoSteps 7 = .ok (.if_icmp .ge 40, 3) := by decide +kernel
theorem d_M_twoSteps_10 : decode b_M_twoSteps 10 = .ok (.iconst 0, 1) := by decide +kernel
theorem d_M_twoSteps_11 : decode b_M_twoSteps 11 = .ok (.istore_n 3, 1) := by decide +kernel
theorem d_M_twoSteps_12 : decode b_M_twoSteps 12 = .ok (.iload_n 3, 1) := by decide +kernel
theorem d_M_twoSteps_13 : decode b_M_twoSteps 13 = .ok (.bipush 31, 2) := by decide +kernel
theorem d_M_twoSteps_15 : decode b_M_twoSteps 15 = .ok (.if_icmp .ge 26, 3) := by decide +kernel
theorem d_M_twoSteps_18 : decode b_M_twoSteps 18 = .ok (.aload_n 0, 1) := by decide +kernel
theorem d_M_twoSteps_19 : decode b_M_twoSteps 19 = .ok (.iload_n 2, 1) := by decide +kernel
theorem d_M_twoSteps_20 : decode b_M_twoSteps 20 = .ok (.iload_n 3, 1) := by decide +kernel
theorem d_M_twoSteps_21 : decode b_M_twoSteps 21 = .ok (.invokevirtual 75, 3) := by decide +kernel
theorem d_M_twoSteps_24 : decode b_M_twoSteps 24 = .ok (.ifCond .eq 9, 3) := by decide +kernel
theorem d_M_twoSteps_27 : decode b_M_twoSteps 27 = .ok (.iload_n 1, 1) := by decide +kernel
theorem d_M_twoSteps_28 : decode b_M_twoSteps 28 = .ok (.iconst 1, 1) := by decide +kernel
theorem d_M_twoSteps_29 : decode b_M_twoSteps 29 = .ok (.iadd, 1) := by decide +kernel
theorem d_M_twoSteps_30 : decode b_M_twoSteps 30 = .ok (.goto 4, 3) := by decide +kernel
theorem d_M_twoSteps_33 : decode b_M_twoSteps 33 = .ok (.iload_n 1, 1) := by decide +kernel
theorem d_M_twoSteps_34 : decode b_M_twoSteps 34 = .ok (.istore_n 1, 1) := by decide +kernel
theorem d_M_twoSteps_35 : decode b_M_twoSteps 35 = .ok (.iinc 3 1, 3) := by decide +kernel
theorem d_M_twoSteps_38 : decode b_M_twoSteps 38 = .ok (.goto (-26), 3) := by decide +kernel
theorem d_M_twoSteps_41 : decode b_M_twoSteps 41 = .ok (.iinc 2 1, 3) := by decide +kernel
theorem d_M_twoSteps_44 : decode b_M_twoSteps 44 = .ok (.goto (-40), 3) := by decide +kernel
theorem d_M_twoSteps_47 : decode b_M_twoSteps 47 = .ok (.iload_n 1, 1) := by decide +kernel
theorem d_M_twoSteps_48 : decode b_M_twoSteps 48 = .ok (.ireturn, 1) := by decide +kernel
end
section
def lo_has (ls : Array Slot) (nL : Nat) (lo : List (Option Value)) : Prop := ls.size = nL ∧ lv_wf ls ∧ ∀ (i : Nat) (v : Value), lo[i]? = some (some v) → ls[i]? = some (.val v) ∧ v.category = 1
def lo_as (lo : List (Option Value)) : List (Nat × Value) := (List.range lo.length).filterMap (fun i => match lo[i]? with | some (some v) => some (i, v) | _ => none)
theorem lo_as_mem {lo : List (Option Value)} {j : Nat} {v : Value} : (j, v) ∈ lo_as lo ↔ lo[j]? = some (some v) := by
  unfold lo_as
  rw [List.mem_filterMap]
  constructor
  · rintro ⟨i, hi, h⟩
    cases hx : lo[i]? with
    | none => rw [hx] at h; cases h
    | some y =>
      rw [hx] at h
      cases y with
      | none => cases h
      | some z => cases h; exact hx
  · intro h
    refine ⟨j, List.mem_range.mpr (List.getElem?_eq_some_iff.mp h).1, ?_⟩
    rw [h]
theorem lo_lv {ls : Array Slot} {nL : Nat} {lo : List (Option Value)} (h : lo_has ls nL lo) : lv_has ls nL (lo_as lo) := ⟨h.1, h.2.1, fun q hq => (h.2.2 q.1 q.2 (lo_as_mem.mp hq)).1⟩
theorem lo_st {ls ls' : Array Slot} {nL i : Nat} {lo : List (Option Value)} {v : Value} (h : lo_has ls nL lo) (h' : lv_has ls' nL ((i, v) :: (lo_as lo).filter (fun q => !(q.1 == i) && !(q.1 + 1 == i && q.2.category == 2)))) (hv : v.category = 1) : lo_has ls' nL (lo.set i (some v)) := by
  refine ⟨h'.1, h'.2.1, fun j w hj => ?_⟩
  by_cases hji : j = i
  · subst hji
    have hlt : j < lo.length := by
      have := (List.getElem?_eq_some_iff.mp hj).1
      simpa using this
    rw [List.getElem?_set_self hlt] at hj
    cases hj
    exact ⟨h'.2.2 (j, v) List.mem_cons_self, hv⟩
  · rw [List.getElem?_set_ne (Ne.symm hji)] at hj
    have hc := (h.2.2 j w hj).2
    refine ⟨h'.2.2 (j, w) (List.mem_cons_of_mem _ (List.mem_filter.mpr ⟨lo_as_mem.mpr hj, ?_⟩)), hc⟩
    simp [hji, hc]
theorem lo_args : ∀ (vs : List Value) (k : Nat), (∀ v ∈ vs, v.category = 1) → ∀ (i : Nat) (v : Value), vs[i]? = some v → (k + i, v) ∈ lv_args k vs
  | [], k, _, i, v, h => by simp at h
  | w :: vs, k, hc, i, v, h => by
    have hw : ¬ w.category = 2 := by rw [hc w List.mem_cons_self]; decide
    rw [lv_args, if_neg hw]
    cases i with
    | zero =>
      rw [List.getElem?_cons_zero] at h
      cases h
      exact List.mem_cons_self
    | succ i =>
      have := lo_args vs (k + 1) (fun v hv => hc v (List.mem_cons_of_mem _ hv)) i v (by simpa using h)
      rw [show k + (i + 1) = k + 1 + i by omega]
      exact List.mem_cons_of_mem _ this
theorem lo_entry {vs : List Value} {n : Nat} (hc : ∀ v ∈ vs, v.category = 1) {ls : Array Slot} (h : lv_has ls n (lv_args 0 vs)) {lo : List (Option Value)} (hlo : vs.map some ++ List.replicate (n - vs.length) none = lo) : lo_has ls n lo := by
  subst hlo
  refine ⟨h.1, h.2.1, fun i v hi => ?_⟩
  by_cases hl : i < vs.length
  · rw [List.getElem?_append_left (by simpa using hl), List.getElem?_map] at hi
    have hv : vs[i]? = some v := by
      cases hx : vs[i]? with
      | none => rw [hx] at hi; cases hi
      | some y => rw [hx] at hi; cases hi; rfl
    have h1 := h.2.2 _ (lo_args vs 0 hc i v hv)
    simp only [Nat.zero_add] at h1
    exact ⟨h1, hc v (List.mem_of_getElem? hv)⟩
  · rw [List.getElem?_append_right (by simpa using hl), List.getElem?_replicate] at hi
    split at hi <;> cases hi
theorem lg_len : ∀ (vs : List Value), (∀ v ∈ vs, v.category = 1) → (lg_sl vs).length = vs.length
  | [], _ => rfl
  | v :: vs, hc => by
    have hv : ¬ v.category = 2 := by rw [hc v List.mem_cons_self]; decide
    have := lg_len vs (fun v hv => hc v (List.mem_cons_of_mem _ hv))
    unfold lg_sl at this ⊢
    rw [List.flatMap_cons, if_neg hv, List.length_append, this]
    simp
    omega
abbrev XS : Type := (Nat → Int32) × (Nat → Nat → Int32)
def updA (A : Nat → Nat → Int32) (a n : Nat) (x : Int32) : Nat → Nat → Int32 := fun j => if j = a then upd (A a) n x else A j
/-- at pc with locals lo, stack st and the world w u: the machine comes to Q -/
def V {σ : Type} (p : Program) (l : Launch) (e : Env) (R : Room) (s : State) (m : MethodId) (args : Array Value) (below : List Frame) (meth : Method) (c : Code) (own : String) (Tw : List Cond) (b : ByteArray) (nL : Nat) (ret : Option FieldType) (D : va_G) (tys : List (ClassId × FieldType)) (A0 : Nat → Prop) (w : σ → va_W) (k0 n0 : Nat) (Q : State → Prop) (pc : Nat) (lo : List (Option Value)) (st : List Value) (u : σ) : Prop :=
  (CallFix p m c b nL s args Tw own ∧ va_K D classes tys s ∧ meth.sig.returnType = ret ∧ meth.locks = false ∧ ∀ q : Nat, s.heap.size ≤ q → A0 q) →
  ∀ (ls : Array Slot) (H : Heap) (locs : List Loc), lo_has ls nL lo → va_P D classes (w u) H → va_D A0 (w u) → va_S A0 s.heap H locs → W p l e R s m args below meth c H locs k0 n0 Q (F0 m pc ls st)
def vB {σ : Type} (D : va_G) (tys : List (ClassId × FieldType)) (w : σ → va_W) (A : Nat → Prop) (u : σ) (t : State) : Prop := va_P D classes (w u) t.heap ∧ va_K D classes tys t ∧ va_D A (w u)
theorem dn {P : Nat → Prop} (N : Nat) (hN : P N) (hs : ∀ n, n < N → P (n + 1) → P n) : ∀ n, n ≤ N → P n := by
  intro n hn
  obtain ⟨d, rfl⟩ := Nat.exists_eq_add_of_le hn
  clear hn
  induction d generalizing n with
  | zero => exact hN
  | succ d ih => exact hs n (by omega) (ih (n + 1) (by rw [show n + 1 + d = n + (d + 1) by omega]; exact hN) (fun k hk h => hs k (by omega) h))
section VS

variable {p : Program} {l : Launch} {e : Env} {R : Room} {s : State} {m : MethodId} {args : Array Value} {below : List Frame} {meth : Method} {c : Code} {own : String} {Tw : List Cond} {b : ByteArray} {nL : Nat} {ret : Option FieldType} {D : va_G} {tys : List (ClassId × FieldType)} {A0 : Nat → Prop} {σ : Type} {w : σ → va_W} {k0 n0 : Nat} {Q : State → Prop} {pc : Nat} {lo : List (Option Value)} {st : List Value} {u : σ}

theorem V_iconst {n : Int} {v : Int32} (hd : decode b pc = .ok (.iconst n, 1)) (hv : Int32.ofInt n = v)
    (k : V p l e R s m args below meth c own Tw b nL ret D tys A0 w k0 n0 Q (pc + 1) (lo) (.int v :: st) (u)) : V p l e R s m args below meth c own Tw b nL ret D tys A0 w k0 n0 Q (pc) (lo) (st) (u) := by
  intro hc ls H locs h1 h2 h3 h4
  exact lv_iconst hc.1.1 hc.1.2.1 hd hv (k hc ls H locs h1 h2 h3 h4)
theorem V_bipush {n : Int} {v : Int32} (hd : decode b pc = .ok (.bipush n, 2)) (hv : (Int8.ofInt n).toInt32 = v)
    (k : V p l e R s m args below meth c own Tw b nL ret D tys A0 w k0 n0 Q (pc + 2) (lo) (.int v :: st) (u)) : V p l e R s m args below meth c own Tw b nL ret D tys A0 w k0 n0 Q (pc) (lo) (st) (u) := by
  intro hc ls H locs h1 h2 h3 h4
  exact lv_bipush hc.1.1 hc.1.2.1 hd hv (k hc ls H locs h1 h2 h3 h4)
theorem V_sipush {n : Int} {v : Int32} (hd : decode b pc = .ok (.sipush n, 3)) (hv : (Int16.ofInt n).toInt32 = v)
    (k : V p l e R s m args below meth c own Tw b nL ret D tys A0 w k0 n0 Q (pc + 3) (lo) (.int v :: st) (u)) : V p l e R s m args below meth c own Tw b nL ret D tys A0 w k0 n0 Q (pc) (lo) (st) (u) := by
  intro hc ls H locs h1 h2 h3 h4
  exact lv_sipush hc.1.1 hc.1.2.1 hd hv (k hc ls H locs h1 h2 h3 h4)
theorem V_iload_n {kk : Fin 4} {i : Nat} {x : Int32} (hd : decode b pc = .ok (.iload_n kk, 1)) (hi : (kk : Nat) = i) (hl : lo[i]? = some (some (.int x)))
    (k : V p l e R s m args below meth c own Tw b nL ret D tys A0 w k0 n0 Q (pc + 1) (lo) (.int x :: st) (u)) : V p l e R s m args below meth c own Tw b nL ret D tys A0 w k0 n0 Q (pc) (lo) (st) (u) := by
  intro hc ls H locs h1 h2 h3 h4
  exact lv_iload_n hc.1.1 hc.1.2.1 hd hi (h1.2.2 i _ hl).1 (k hc ls H locs h1 h2 h3 h4)
theorem V_iload {i : Nat} {x : Int32} (hd : decode b pc = .ok (.iload i, 2)) (hl : lo[i]? = some (some (.int x)))
    (k : V p l e R s m args below meth c own Tw b nL ret D tys A0 w k0 n0 Q (pc + 2) (lo) (.int x :: st) (u)) : V p l e R s m args below meth c own Tw b nL ret D tys A0 w k0 n0 Q (pc) (lo) (st) (u) := by
  intro hc ls H locs h1 h2 h3 h4
  exact lv_iload hc.1.1 hc.1.2.1 hd (h1.2.2 i _ hl).1 (k hc ls H locs h1 h2 h3 h4)
theorem V_aload_n {kk : Fin 4} {i : Nat} {x : Nat} (hd : decode b pc = .ok (.aload_n kk, 1)) (hi : (kk : Nat) = i) (hl : lo[i]? = some (some (.ref x)))
    (k : V p l e R s m args below meth c own Tw b nL ret D tys A0 w k0 n0 Q (pc + 1) (lo) (.ref x :: st) (u)) : V p l e R s m args below meth c own Tw b nL ret D tys A0 w k0 n0 Q (pc) (lo) (st) (u) := by
  intro hc ls H locs h1 h2 h3 h4
  exact lv_aload_n hc.1.1 hc.1.2.1 hd hi (h1.2.2 i _ hl).1 (k hc ls H locs h1 h2 h3 h4)
theorem V_istore_n {kk : Fin 4} {i : Nat} {x : Int32} (hd : decode b pc = .ok (.istore_n kk, 1)) (hi : (kk : Nat) = i) (hn : i < nL)
    (k : V p l e R s m args below meth c own Tw b nL ret D tys A0 w k0 n0 Q (pc + 1) (lo.set i (some (.int x))) (st) (u)) : V p l e R s m args below meth c own Tw b nL ret D tys A0 w k0 n0 Q (pc) (lo) (.int x :: st) (u) := by
  intro hc ls H locs h1 h2 h3 h4
  exact lv_istore_n hc.1.1 hc.1.2.1 hd hi (lo_lv h1) hn rfl (fun ls2 hl2 => k hc ls2 H locs (lo_st h1 hl2 rfl) h2 h3 h4)
theorem V_istore {i : Nat} {x : Int32} (hd : decode b pc = .ok (.istore i, 2)) (hn : i < nL)
    (k : V p l e R s m args below meth c own Tw b nL ret D tys A0 w k0 n0 Q (pc + 2) (lo.set i (some (.int x))) (st) (u)) : V p l e R s m args below meth c own Tw b nL ret D tys A0 w k0 n0 Q (pc) (lo) (.int x :: st) (u) := by
  intro hc ls H locs h1 h2 h3 h4
  exact lv_istore hc.1.1 hc.1.2.1 hd (lo_lv h1) hn rfl (fun ls2 hl2 => k hc ls2 H locs (lo_st h1 hl2 rfl) h2 h3 h4)
theorem V_iinc {i : Nat} {n : Int} {x v : Int32} (hd : decode b pc = .ok (.iinc i n, 3)) (hl : lo[i]? = some (some (.int x))) (hv : x + Int32.ofInt n = v) (hn : i < nL)
    (k : V p l e R s m args below meth c own Tw b nL ret D tys A0 w k0 n0 Q (pc + 3) (lo.set i (some (.int v))) (st) (u)) : V p l e R s m args below meth c own Tw b nL ret D tys A0 w k0 n0 Q (pc) (lo) (st) (u) := by
  intro hc ls H locs h1 h2 h3 h4
  obtain ⟨j, hj⟩ := List.getElem?_of_mem (lo_as_mem.mpr hl)
  exact lv_iinc hc.1.1 hc.1.2.1 hd (lo_lv h1) hj hv hn rfl (fun ls2 hl2 => k hc ls2 H locs (lo_st h1 hl2 rfl) h2 h3 h4)
theorem V_iadd {x y v : Int32} (hd : decode b pc = .ok (.iadd, 1)) (hv : x + y = v)
    (k : V p l e R s m args below meth c own Tw b nL ret D tys A0 w k0 n0 Q (pc + 1) (lo) (.int v :: st) (u)) : V p l e R s m args below meth c own Tw b nL ret D tys A0 w k0 n0 Q (pc) (lo) (.int y :: .int x :: st) (u) := by
  intro hc ls H locs h1 h2 h3 h4
  subst hv
  exact lv_iadd hc.1.1 hc.1.2.1 hd (k hc ls H locs h1 h2 h3 h4)
theorem V_isub {x y v : Int32} (hd : decode b pc = .ok (.isub, 1)) (hv : x - y = v)
    (k : V p l e R s m args below meth c own Tw b nL ret D tys A0 w k0 n0 Q (pc + 1) (lo) (.int v :: st) (u)) : V p l e R s m args below meth c own Tw b nL ret D tys A0 w k0 n0 Q (pc) (lo) (.int y :: .int x :: st) (u) := by
  intro hc ls H locs h1 h2 h3 h4
  subst hv
  exact lv_isub hc.1.1 hc.1.2.1 hd (k hc ls H locs h1 h2 h3 h4)
theorem V_imul {x y v : Int32} (hd : decode b pc = .ok (.imul, 1)) (hv : x * y = v)
    (k : V p l e R s m args below meth c own Tw b nL ret D tys A0 w k0 n0 Q (pc + 1) (lo) (.int v :: st) (u)) : V p l e R s m args below meth c own Tw b nL ret D tys A0 w k0 n0 Q (pc) (lo) (.int y :: .int x :: st) (u) := by
  intro hc ls H locs h1 h2 h3 h4
  subst hv
  exact lv_imul hc.1.1 hc.1.2.1 hd (k hc ls H locs h1 h2 h3 h4)
theorem V_iand {x y v : Int32} (hd : decode b pc = .ok (.iand, 1)) (hv : x &&& y = v)
    (k : V p l e R s m args below meth c own Tw b nL ret D tys A0 w k0 n0 Q (pc + 1) (lo) (.int v :: st) (u)) : V p l e R s m args below meth c own Tw b nL ret D tys A0 w k0 n0 Q (pc) (lo) (.int y :: .int x :: st) (u) := by
  intro hc ls H locs h1 h2 h3 h4
  subst hv
  exact lv_iand hc.1.1 hc.1.2.1 hd (k hc ls H locs h1 h2 h3 h4)
theorem V_ior {x y v : Int32} (hd : decode b pc = .ok (.ior, 1)) (hv : x ||| y = v)
    (k : V p l e R s m args below meth c own Tw b nL ret D tys A0 w k0 n0 Q (pc + 1) (lo) (.int v :: st) (u)) : V p l e R s m args below meth c own Tw b nL ret D tys A0 w k0 n0 Q (pc) (lo) (.int y :: .int x :: st) (u) := by
  intro hc ls H locs h1 h2 h3 h4
  subst hv
  exact lv_ior hc.1.1 hc.1.2.1 hd (k hc ls H locs h1 h2 h3 h4)
theorem V_ishl {x y v : Int32} (hd : decode b pc = .ok (.ishl, 1)) (hv : x <<< (y &&& 31) = v)
    (k : V p l e R s m args below meth c own Tw b nL ret D tys A0 w k0 n0 Q (pc + 1) (lo) (.int v :: st) (u)) : V p l e R s m args below meth c own Tw b nL ret D tys A0 w k0 n0 Q (pc) (lo) (.int y :: .int x :: st) (u) := by
  intro hc ls H locs h1 h2 h3 h4
  subst hv
  exact lv_ishl hc.1.1 hc.1.2.1 hd (k hc ls H locs h1 h2 h3 h4)
theorem V_ishr {x y v : Int32} (hd : decode b pc = .ok (.ishr, 1)) (hv : x >>> (y &&& 31) = v)
    (k : V p l e R s m args below meth c own Tw b nL ret D tys A0 w k0 n0 Q (pc + 1) (lo) (.int v :: st) (u)) : V p l e R s m args below meth c own Tw b nL ret D tys A0 w k0 n0 Q (pc) (lo) (.int y :: .int x :: st) (u) := by
  intro hc ls H locs h1 h2 h3 h4
  subst hv
  exact lv_ishr hc.1.1 hc.1.2.1 hd (k hc ls H locs h1 h2 h3 h4)
theorem V_idiv {x y v : Int32} (hd : decode b pc = .ok (.idiv, 1)) (hne : ¬ y = 0) (hv : x / y = v)
    (k : V p l e R s m args below meth c own Tw b nL ret D tys A0 w k0 n0 Q (pc + 1) (lo) (.int v :: st) (u)) : V p l e R s m args below meth c own Tw b nL ret D tys A0 w k0 n0 Q (pc) (lo) (.int y :: .int x :: st) (u) := by
  intro hc ls H locs h1 h2 h3 h4
  subst hv
  exact lv_idiv hc.1.1 hc.1.2.1 hd hne (k hc ls H locs h1 h2 h3 h4)
theorem V_irem {x y v : Int32} (hd : decode b pc = .ok (.irem, 1)) (hne : ¬ y = 0) (hv : x - x / y * y = v)
    (k : V p l e R s m args below meth c own Tw b nL ret D tys A0 w k0 n0 Q (pc + 1) (lo) (.int v :: st) (u)) : V p l e R s m args below meth c own Tw b nL ret D tys A0 w k0 n0 Q (pc) (lo) (.int y :: .int x :: st) (u) := by
  intro hc ls H locs h1 h2 h3 h4
  subst hv
  exact lv_irem hc.1.1 hc.1.2.1 hd hne (k hc ls H locs h1 h2 h3 h4)
theorem V_dup {v : Value} (hd : decode b pc = .ok (.dup, 1)) (hv : v.category = 1)
    (k : V p l e R s m args below meth c own Tw b nL ret D tys A0 w k0 n0 Q (pc + 1) (lo) (v :: v :: st) (u)) : V p l e R s m args below meth c own Tw b nL ret D tys A0 w k0 n0 Q (pc) (lo) (v :: st) (u) := by
  intro hc ls H locs h1 h2 h3 h4
  exact lv_dup hc.1.1 hc.1.2.1 hd hv (k hc ls H locs h1 h2 h3 h4)
theorem V_goto {off : Int} {tgt : Nat} (hd : decode b pc = .ok (.goto off, 3)) (ht : (pc : Int) + off = (tgt : Int))
    (k : V p l e R s m args below meth c own Tw b nL ret D tys A0 w k0 n0 Q (tgt) (lo) (st) (u)) : V p l e R s m args below meth c own Tw b nL ret D tys A0 w k0 n0 Q (pc) (lo) (st) (u) := by
  intro hc ls H locs h1 h2 h3 h4
  exact lv_goto hc.1.1 hc.1.2.1 hd ht (k hc ls H locs h1 h2 h3 h4)
theorem V_if_eq {x : Int32} {off : Int} {tgt : Nat} (hd : decode b pc = .ok (.ifCond .eq off, 3)) (ht : (pc : Int) + off = (tgt : Int))
    (kt : x = 0 → V p l e R s m args below meth c own Tw b nL ret D tys A0 w k0 n0 Q (tgt) (lo) (st) (u)) (kf : ¬ x = 0 → V p l e R s m args below meth c own Tw b nL ret D tys A0 w k0 n0 Q (pc + 3) (lo) (st) (u)) : V p l e R s m args below meth c own Tw b nL ret D tys A0 w k0 n0 Q (pc) (lo) (.int x :: st) (u) := by
  intro hc ls H locs h1 h2 h3 h4
  exact lv_if_eq hc.1.1 hc.1.2.1 hd ht (fun q => kt q hc ls H locs h1 h2 h3 h4) (fun q => kf q hc ls H locs h1 h2 h3 h4)
theorem V_if_eq_t {x : Int32} {off : Int} {tgt : Nat} (hd : decode b pc = .ok (.ifCond .eq off, 3)) (ht : (pc : Int) + off = (tgt : Int)) (hq : x = 0) (k : V p l e R s m args below meth c own Tw b nL ret D tys A0 w k0 n0 Q (tgt) (lo) (st) (u)) : V p l e R s m args below meth c own Tw b nL ret D tys A0 w k0 n0 Q (pc) (lo) (.int x :: st) (u) := V_if_eq hd ht (fun _ => k) (fun z => absurd hq z)
theorem V_if_eq_f {x : Int32} {off : Int} {tgt : Nat} (hd : decode b pc = .ok (.ifCond .eq off, 3)) (ht : (pc : Int) + off = (tgt : Int)) (hq : ¬ x = 0) (k : V p l e R s m args below meth c own Tw b nL ret D tys A0 w k0 n0 Q (pc + 3) (lo) (st) (u)) : V p l e R s m args below meth c own Tw b nL ret D tys A0 w k0 n0 Q (pc) (lo) (.int x :: st) (u) := V_if_eq hd ht (fun z => absurd z hq) (fun _ => k)
theorem V_if_ne {x : Int32} {off : Int} {tgt : Nat} (hd : decode b pc = .ok (.ifCond .ne off, 3)) (ht : (pc : Int) + off = (tgt : Int))
    (kt : ¬ x = 0 → V p l e R s m args below meth c own Tw b nL ret D tys A0 w k0 n0 Q (tgt) (lo) (st) (u)) (kf : x = 0 → V p l e R s m args below meth c own Tw b nL ret D tys A0 w k0 n0 Q (pc + 3) (lo) (st) (u)) : V p l e R s m args below meth c own Tw b nL ret D tys A0 w k0 n0 Q (pc) (lo) (.int x :: st) (u) := by
  intro hc ls H locs h1 h2 h3 h4
  exact lv_if_ne hc.1.1 hc.1.2.1 hd ht (fun q => kt q hc ls H locs h1 h2 h3 h4) (fun q => kf q hc ls H locs h1 h2 h3 h4)
theorem V_if_ne_t {x : Int32} {off : Int} {tgt : Nat} (hd : decode b pc = .ok (.ifCond .ne off, 3)) (ht : (pc : Int) + off = (tgt : Int)) (hq : ¬ x = 0) (k : V p l e R s m args below meth c own Tw b nL ret D tys A0 w k0 n0 Q (tgt) (lo) (st) (u)) : V p l e R s m args below meth c own Tw b nL ret D tys A0 w k0 n0 Q (pc) (lo) (.int x :: st) (u) := V_if_ne hd ht (fun _ => k) (fun z => absurd z hq)
theorem V_if_ne_f {x : Int32} {off : Int} {tgt : Nat} (hd : decode b pc = .ok (.ifCond .ne off, 3)) (ht : (pc : Int) + off = (tgt : Int)) (hq : x = 0) (k : V p l e R s m args below meth c own Tw b nL ret D tys A0 w k0 n0 Q (pc + 3) (lo) (st) (u)) : V p l e R s m args below meth c own Tw b nL ret D tys A0 w k0 n0 Q (pc) (lo) (.int x :: st) (u) := V_if_ne hd ht (fun z => absurd hq z) (fun _ => k)
theorem V_if_lt {x : Int32} {off : Int} {tgt : Nat} (hd : decode b pc = .ok (.ifCond .lt off, 3)) (ht : (pc : Int) + off = (tgt : Int))
    (kt : x < 0 → V p l e R s m args below meth c own Tw b nL ret D tys A0 w k0 n0 Q (tgt) (lo) (st) (u)) (kf : ¬ x < 0 → V p l e R s m args below meth c own Tw b nL ret D tys A0 w k0 n0 Q (pc + 3) (lo) (st) (u)) : V p l e R s m args below meth c own Tw b nL ret D tys A0 w k0 n0 Q (pc) (lo) (.int x :: st) (u) := by
  intro hc ls H locs h1 h2 h3 h4
  exact lv_if_lt hc.1.1 hc.1.2.1 hd ht (fun q => kt q hc ls H locs h1 h2 h3 h4) (fun q => kf q hc ls H locs h1 h2 h3 h4)
theorem V_if_lt_t {x : Int32} {off : Int} {tgt : Nat} (hd : decode b pc = .ok (.ifCond .lt off, 3)) (ht : (pc : Int) + off = (tgt : Int)) (hq : x < 0) (k : V p l e R s m args below meth c own Tw b nL ret D tys A0 w k0 n0 Q (tgt) (lo) (st) (u)) : V p l e R s m args below meth c own Tw b nL ret D tys A0 w k0 n0 Q (pc) (lo) (.int x :: st) (u) := V_if_lt hd ht (fun _ => k) (fun z => absurd hq z)
theorem V_if_lt_f {x : Int32} {off : Int} {tgt : Nat} (hd : decode b pc = .ok (.ifCond .lt off, 3)) (ht : (pc : Int) + off = (tgt : Int)) (hq : ¬ x < 0) (k : V p l e R s m args below meth c own Tw b nL ret D tys A0 w k0 n0 Q (pc + 3) (lo) (st) (u)) : V p l e R s m args below meth c own Tw b nL ret D tys A0 w k0 n0 Q (pc) (lo) (.int x :: st) (u) := V_if_lt hd ht (fun z => absurd z hq) (fun _ => k)
theorem V_if_ge {x : Int32} {off : Int} {tgt : Nat} (hd : decode b pc = .ok (.ifCond .ge off, 3)) (ht : (pc : Int) + off = (tgt : Int))
    (kt : 0 ≤ x → V p l e R s m args below meth c own Tw b nL ret D tys A0 w k0 n0 Q (tgt) (lo) (st) (u)) (kf : ¬ 0 ≤ x → V p l e R s m args below meth c own Tw b nL ret D tys A0 w k0 n0 Q (pc + 3) (lo) (st) (u)) : V p l e R s m args below meth c own Tw b nL ret D tys A0 w k0 n0 Q (pc) (lo) (.int x :: st) (u) := by
  intro hc ls H locs h1 h2 h3 h4
  exact lv_if_ge hc.1.1 hc.1.2.1 hd ht (fun q => kt q hc ls H locs h1 h2 h3 h4) (fun q => kf q hc ls H locs h1 h2 h3 h4)
theorem V_if_ge_t {x : Int32} {off : Int} {tgt : Nat} (hd : decode b pc = .ok (.ifCond .ge off, 3)) (ht : (pc : Int) + off = (tgt : Int)) (hq : 0 ≤ x) (k : V p l e R s m args below meth c own Tw b nL ret D tys A0 w k0 n0 Q (tgt) (lo) (st) (u)) : V p l e R s m args below meth c own Tw b nL ret D tys A0 w k0 n0 Q (pc) (lo) (.int x :: st) (u) := V_if_ge hd ht (fun _ => k) (fun z => absurd hq z)
theorem V_if_ge_f {x : Int32} {off : Int} {tgt : Nat} (hd : decode b pc = .ok (.ifCond .ge off, 3)) (ht : (pc : Int) + off = (tgt : Int)) (hq : ¬ 0 ≤ x) (k : V p l e R s m args below meth c own Tw b nL ret D tys A0 w k0 n0 Q (pc + 3) (lo) (st) (u)) : V p l e R s m args below meth c own Tw b nL ret D tys A0 w k0 n0 Q (pc) (lo) (.int x :: st) (u) := V_if_ge hd ht (fun z => absurd z hq) (fun _ => k)
theorem V_if_gt {x : Int32} {off : Int} {tgt : Nat} (hd : decode b pc = .ok (.ifCond .gt off, 3)) (ht : (pc : Int) + off = (tgt : Int))
    (kt : 0 < x → V p l e R s m args below meth c own Tw b nL ret D tys A0 w k0 n0 Q (tgt) (lo) (st) (u)) (kf : ¬ 0 < x → V p l e R s m args below meth c own Tw b nL ret D tys A0 w k0 n0 Q (pc + 3) (lo) (st) (u)) : V p l e R s m args below meth c own Tw b nL ret D tys A0 w k0 n0 Q (pc) (lo) (.int x :: st) (u) := by
  intro hc ls H locs h1 h2 h3 h4
  exact lv_if_gt hc.1.1 hc.1.2.1 hd ht (fun q => kt q hc ls H locs h1 h2 h3 h4) (fun q => kf q hc ls H locs h1 h2 h3 h4)
theorem V_if_gt_t {x : Int32} {off : Int} {tgt : Nat} (hd : decode b pc = .ok (.ifCond .gt off, 3)) (ht : (pc : Int) + off = (tgt : Int)) (hq : 0 < x) (k : V p l e R s m args below meth c own Tw b nL ret D tys A0 w k0 n0 Q (tgt) (lo) (st) (u)) : V p l e R s m args below meth c own Tw b nL ret D tys A0 w k0 n0 Q (pc) (lo) (.int x :: st) (u) := V_if_gt hd ht (fun _ => k) (fun z => absurd hq z)
theorem V_if_gt_f {x : Int32} {off : Int} {tgt : Nat} (hd : decode b pc = .ok (.ifCond .gt off, 3)) (ht : (pc : Int) + off = (tgt : Int)) (hq : ¬ 0 < x) (k : V p l e R s m args below meth c own Tw b nL ret D tys A0 w k0 n0 Q (pc + 3) (lo) (st) (u)) : V p l e R s m args below meth c own Tw b nL ret D tys A0 w k0 n0 Q (pc) (lo) (.int x :: st) (u) := V_if_gt hd ht (fun z => absurd z hq) (fun _ => k)
theorem V_if_le {x : Int32} {off : Int} {tgt : Nat} (hd : decode b pc = .ok (.ifCond .le off, 3)) (ht : (pc : Int) + off = (tgt : Int))
    (kt : x ≤ 0 → V p l e R s m args below meth c own Tw b nL ret D tys A0 w k0 n0 Q (tgt) (lo) (st) (u)) (kf : ¬ x ≤ 0 → V p l e R s m args below meth c own Tw b nL ret D tys A0 w k0 n0 Q (pc + 3) (lo) (st) (u)) : V p l e R s m args below meth c own Tw b nL ret D tys A0 w k0 n0 Q (pc) (lo) (.int x :: st) (u) := by
  intro hc ls H locs h1 h2 h3 h4
  exact lv_if_le hc.1.1 hc.1.2.1 hd ht (fun q => kt q hc ls H locs h1 h2 h3 h4) (fun q => kf q hc ls H locs h1 h2 h3 h4)
theorem V_if_le_t {x : Int32} {off : Int} {tgt : Nat} (hd : decode b pc = .ok (.ifCond .le off, 3)) (ht : (pc : Int) + off = (tgt : Int)) (hq : x ≤ 0) (k : V p l e R s m args below meth c own Tw b nL ret D tys A0 w k0 n0 Q (tgt) (lo) (st) (u)) : V p l e R s m args below meth c own Tw b nL ret D tys A0 w k0 n0 Q (pc) (lo) (.int x :: st) (u) := V_if_le hd ht (fun _ => k) (fun z => absurd hq z)
theorem V_if_le_f {x : Int32} {off : Int} {tgt : Nat} (hd : decode b pc = .ok (.ifCond .le off, 3)) (ht : (pc : Int) + off = (tgt : Int)) (hq : ¬ x ≤ 0) (k : V p l e R s m args below meth c own Tw b nL ret D tys A0 w k0 n0 Q (pc + 3) (lo) (st) (u)) : V p l e R s m args below meth c own Tw b nL ret D tys A0 w k0 n0 Q (pc) (lo) (.int x :: st) (u) := V_if_le hd ht (fun z => absurd z hq) (fun _ => k)
theorem V_icmp_eq {x y : Int32} {off : Int} {tgt : Nat} (hd : decode b pc = .ok (.if_icmp .eq off, 3)) (ht : (pc : Int) + off = (tgt : Int))
    (kt : x = y → V p l e R s m args below meth c own Tw b nL ret D tys A0 w k0 n0 Q (tgt) (lo) (st) (u)) (kf : ¬ x = y → V p l e R s m args below meth c own Tw b nL ret D tys A0 w k0 n0 Q (pc + 3) (lo) (st) (u)) : V p l e R s m args below meth c own Tw b nL ret D tys A0 w k0 n0 Q (pc) (lo) (.int y :: .int x :: st) (u) := by
  intro hc ls H locs h1 h2 h3 h4
  exact lv_icmp_eq hc.1.1 hc.1.2.1 hd ht (fun q => kt q hc ls H locs h1 h2 h3 h4) (fun q => kf q hc ls H locs h1 h2 h3 h4)
theorem V_icmp_eq_t {x y : Int32} {off : Int} {tgt : Nat} (hd : decode b pc = .ok (.if_icmp .eq off, 3)) (ht : (pc : Int) + off = (tgt : Int)) (hq : x = y) (k : V p l e R s m args below meth c own Tw b nL ret D tys A0 w k0 n0 Q (tgt) (lo) (st) (u)) : V p l e R s m args below meth c own Tw b nL ret D tys A0 w k0 n0 Q (pc) (lo) (.int y :: .int x :: st) (u) := V_icmp_eq hd ht (fun _ => k) (fun z => absurd hq z)
theorem V_icmp_eq_f {x y : Int32} {off : Int} {tgt : Nat} (hd : decode b pc = .ok (.if_icmp .eq off, 3)) (ht : (pc : Int) + off = (tgt : Int)) (hq : ¬ x = y) (k : V p l e R s m args below meth c own Tw b nL ret D tys A0 w k0 n0 Q (pc + 3) (lo) (st) (u)) : V p l e R s m args below meth c own Tw b nL ret D tys A0 w k0 n0 Q (pc) (lo) (.int y :: .int x :: st) (u) := V_icmp_eq hd ht (fun z => absurd z hq) (fun _ => k)
theorem V_icmp_ne {x y : Int32} {off : Int} {tgt : Nat} (hd : decode b pc = .ok (.if_icmp .ne off, 3)) (ht : (pc : Int) + off = (tgt : Int))
    (kt : ¬ x = y → V p l e R s m args below meth c own Tw b nL ret D tys A0 w k0 n0 Q (tgt) (lo) (st) (u)) (kf : x = y → V p l e R s m args below meth c own Tw b nL ret D tys A0 w k0 n0 Q (pc + 3) (lo) (st) (u)) : V p l e R s m args below meth c own Tw b nL ret D tys A0 w k0 n0 Q (pc) (lo) (.int y :: .int x :: st) (u) := by
  intro hc ls H locs h1 h2 h3 h4
  exact lv_icmp_ne hc.1.1 hc.1.2.1 hd ht (fun q => kt q hc ls H locs h1 h2 h3 h4) (fun q => kf q hc ls H locs h1 h2 h3 h4)
theorem V_icmp_ne_t {x y : Int32} {off : Int} {tgt : Nat} (hd : decode b pc = .ok (.if_icmp .ne off, 3)) (ht : (pc : Int) + off = (tgt : Int)) (hq : ¬ x = y) (k : V p l e R s m args below meth c own Tw b nL ret D tys A0 w k0 n0 Q (tgt) (lo) (st) (u)) : V p l e R s m args below meth c own Tw b nL ret D tys A0 w k0 n0 Q (pc) (lo) (.int y :: .int x :: st) (u) := V_icmp_ne hd ht (fun _ => k) (fun z => absurd z hq)
theorem V_icmp_ne_f {x y : Int32} {off : Int} {tgt : Nat} (hd : decode b pc = .ok (.if_icmp .ne off, 3)) (ht : (pc : Int) + off = (tgt : Int)) (hq : x = y) (k : V p l e R s m args below meth c own Tw b nL ret D tys A0 w k0 n0 Q (pc + 3) (lo) (st) (u)) : V p l e R s m args below meth c own Tw b nL ret D tys A0 w k0 n0 Q (pc) (lo) (.int y :: .int x :: st) (u) := V_icmp_ne hd ht (fun z => absurd hq z) (fun _ => k)
theorem V_icmp_lt {x y : Int32} {off : Int} {tgt : Nat} (hd : decode b pc = .ok (.if_icmp .lt off, 3)) (ht : (pc : Int) + off = (tgt : Int))
    (kt : x < y → V p l e R s m args below meth c own Tw b nL ret D tys A0 w k0 n0 Q (tgt) (lo) (st) (u)) (kf : ¬ x < y → V p l e R s m args below meth c own Tw b nL ret D tys A0 w k0 n0 Q (pc + 3) (lo) (st) (u)) : V p l e R s m args below meth c own Tw b nL ret D tys A0 w k0 n0 Q (pc) (lo) (.int y :: .int x :: st) (u) := by
  intro hc ls H locs h1 h2 h3 h4
  exact lv_icmp_lt hc.1.1 hc.1.2.1 hd ht (fun q => kt q hc ls H locs h1 h2 h3 h4) (fun q => kf q hc ls H locs h1 h2 h3 h4)
theorem V_icmp_lt_t {x y : Int32} {off : Int} {tgt : Nat} (hd : decode b pc = .ok (.if_icmp .lt off, 3)) (ht : (pc : Int) + off = (tgt : Int)) (hq : x < y) (k : V p l e R s m args below meth c own Tw b nL ret D tys A0 w k0 n0 Q (tgt) (lo) (st) (u)) : V p l e R s m args below meth c own Tw b nL ret D tys A0 w k0 n0 Q (pc) (lo) (.int y :: .int x :: st) (u) := V_icmp_lt hd ht (fun _ => k) (fun z => absurd hq z)
theorem V_icmp_lt_f {x y : Int32} {off : Int} {tgt : Nat} (hd : decode b pc = .ok (.if_icmp .lt off, 3)) (ht : (pc : Int) + off = (tgt : Int)) (hq : ¬ x < y) (k : V p l e R s m args below meth c own Tw b nL ret D tys A0 w k0 n0 Q (pc + 3) (lo) (st) (u)) : V p l e R s m args below meth c own Tw b nL ret D tys A0 w k0 n0 Q (pc) (lo) (.int y :: .int x :: st) (u) := V_icmp_lt hd ht (fun z => absurd z hq) (fun _ => k)
theorem V_icmp_ge {x y : Int32} {off : Int} {tgt : Nat} (hd : decode b pc = .ok (.if_icmp .ge off, 3)) (ht : (pc : Int) + off = (tgt : Int))
    (kt : y ≤ x → V p l e R s m args below meth c own Tw b nL ret D tys A0 w k0 n0 Q (tgt) (lo) (st) (u)) (kf : ¬ y ≤ x → V p l e R s m args below meth c own Tw b nL ret D tys A0 w k0 n0 Q (pc + 3) (lo) (st) (u)) : V p l e R s m args below meth c own Tw b nL ret D tys A0 w k0 n0 Q (pc) (lo) (.int y :: .int x :: st) (u) := by
  intro hc ls H locs h1 h2 h3 h4
  exact lv_icmp_ge hc.1.1 hc.1.2.1 hd ht (fun q => kt q hc ls H locs h1 h2 h3 h4) (fun q => kf q hc ls H locs h1 h2 h3 h4)
theorem V_icmp_ge_t {x y : Int32} {off : Int} {tgt : Nat} (hd : decode b pc = .ok (.if_icmp .ge off, 3)) (ht : (pc : Int) + off = (tgt : Int)) (hq : y ≤ x) (k : V p l e R s m args below meth c own Tw b nL ret D tys A0 w k0 n0 Q (tgt) (lo) (st) (u)) : V p l e R s m args below meth c own Tw b nL ret D tys A0 w k0 n0 Q (pc) (lo) (.int y :: .int x :: st) (u) := V_icmp_ge hd ht (fun _ => k) (fun z => absurd hq z)
theorem V_icmp_ge_f {x y : Int32} {off : Int} {tgt : Nat} (hd : decode b pc = .ok (.if_icmp .ge off, 3)) (ht : (pc : Int) + off = (tgt : Int)) (hq : ¬ y ≤ x) (k : V p l e R s m args below meth c own Tw b nL ret D tys A0 w k0 n0 Q (pc + 3) (lo) (st) (u)) : V p l e R s m args below meth c own Tw b nL ret D tys A0 w k0 n0 Q (pc) (lo) (.int y :: .int x :: st) (u) := V_icmp_ge hd ht (fun z => absurd z hq) (fun _ => k)
theorem V_icmp_gt {x y : Int32} {off : Int} {tgt : Nat} (hd : decode b pc = .ok (.if_icmp .gt off, 3)) (ht : (pc : Int) + off = (tgt : Int))
    (kt : y < x → V p l e R s m args below meth c own Tw b nL ret D tys A0 w k0 n0 Q (tgt) (lo) (st) (u)) (kf : ¬ y < x → V p l e R s m args below meth c own Tw b nL ret D tys A0 w k0 n0 Q (pc + 3) (lo) (st) (u)) : V p l e R s m args below meth c own Tw b nL ret D tys A0 w k0 n0 Q (pc) (lo) (.int y :: .int x :: st) (u) := by
  intro hc ls H locs h1 h2 h3 h4
  exact lv_icmp_gt hc.1.1 hc.1.2.1 hd ht (fun q => kt q hc ls H locs h1 h2 h3 h4) (fun q => kf q hc ls H locs h1 h2 h3 h4)
theorem V_icmp_gt_t {x y : Int32} {off : Int} {tgt : Nat} (hd : decode b pc = .ok (.if_icmp .gt off, 3)) (ht : (pc : Int) + off = (tgt : Int)) (hq : y < x) (k : V p l e R s m args below meth c own Tw b nL ret D tys A0 w k0 n0 Q (tgt) (lo) (st) (u)) : V p l e R s m args below meth c own Tw b nL ret D tys A0 w k0 n0 Q (pc) (lo) (.int y :: .int x :: st) (u) := V_icmp_gt hd ht (fun _ => k) (fun z => absurd hq z)
theorem V_icmp_gt_f {x y : Int32} {off : Int} {tgt : Nat} (hd : decode b pc = .ok (.if_icmp .gt off, 3)) (ht : (pc : Int) + off = (tgt : Int)) (hq : ¬ y < x) (k : V p l e R s m args below meth c own Tw b nL ret D tys A0 w k0 n0 Q (pc + 3) (lo) (st) (u)) : V p l e R s m args below meth c own Tw b nL ret D tys A0 w k0 n0 Q (pc) (lo) (.int y :: .int x :: st) (u) := V_icmp_gt hd ht (fun z => absurd z hq) (fun _ => k)
theorem V_icmp_le {x y : Int32} {off : Int} {tgt : Nat} (hd : decode b pc = .ok (.if_icmp .le off, 3)) (ht : (pc : Int) + off = (tgt : Int))
    (kt : x ≤ y → V p l e R s m args below meth c own Tw b nL ret D tys A0 w k0 n0 Q (tgt) (lo) (st) (u)) (kf : ¬ x ≤ y → V p l e R s m args below meth c own Tw b nL ret D tys A0 w k0 n0 Q (pc + 3) (lo) (st) (u)) : V p l e R s m args below meth c own Tw b nL ret D tys A0 w k0 n0 Q (pc) (lo) (.int y :: .int x :: st) (u) := by
  intro hc ls H locs h1 h2 h3 h4
  exact lv_icmp_le hc.1.1 hc.1.2.1 hd ht (fun q => kt q hc ls H locs h1 h2 h3 h4) (fun q => kf q hc ls H locs h1 h2 h3 h4)
theorem V_icmp_le_t {x y : Int32} {off : Int} {tgt : Nat} (hd : decode b pc = .ok (.if_icmp .le off, 3)) (ht : (pc : Int) + off = (tgt : Int)) (hq : x ≤ y) (k : V p l e R s m args below meth c own Tw b nL ret D tys A0 w k0 n0 Q (tgt) (lo) (st) (u)) : V p l e R s m args below meth c own Tw b nL ret D tys A0 w k0 n0 Q (pc) (lo) (.int y :: .int x :: st) (u) := V_icmp_le hd ht (fun _ => k) (fun z => absurd hq z)
theorem V_icmp_le_f {x y : Int32} {off : Int} {tgt : Nat} (hd : decode b pc = .ok (.if_icmp .le off, 3)) (ht : (pc : Int) + off = (tgt : Int)) (hq : ¬ x ≤ y) (k : V p l e R s m args below meth c own Tw b nL ret D tys A0 w k0 n0 Q (pc + 3) (lo) (st) (u)) : V p l e R s m args below meth c own Tw b nL ret D tys A0 w k0 n0 Q (pc) (lo) (.int y :: .int x :: st) (u) := V_icmp_le hd ht (fun z => absurd z hq) (fun _ => k)
theorem V_top {x y : Int32} (h : x = y) (k : V p l e R s m args below meth c own Tw b nL ret D tys A0 w k0 n0 Q (pc) (lo) (.int y :: st) (u)) : V p l e R s m args below meth c own Tw b nL ret D tys A0 w k0 n0 Q (pc) (lo) (.int x :: st) (u) := by
  subst h
  exact k
theorem V_at {pc2 : Nat} {lo2 : List (Option Value)} {st2 : List Value} {u2 : σ} (e1 : pc = pc2) (e2 : lo = lo2) (e3 : st = st2) (e4 : u = u2) (k : V p l e R s m args below meth c own Tw b nL ret D tys A0 w k0 n0 Q (pc2) (lo2) (st2) (u2)) : V p l e R s m args below meth c own Tw b nL ret D tys A0 w k0 n0 Q (pc) (lo) (st) (u) := by
  subst e1; subst e2; subst e3; subst e4
  exact k
theorem V_lo {lo2 : List (Option Value)} (hl : ∀ (i : Nat) (v : Value), lo2[i]? = some (some v) → lo[i]? = some (some v))
    (k : V p l e R s m args below meth c own Tw b nL ret D tys A0 w k0 n0 Q (pc) (lo2) (st) (u)) : V p l e R s m args below meth c own Tw b nL ret D tys A0 w k0 n0 Q (pc) (lo) (st) (u) := by
  intro hc ls H locs h1 h2 h3 h4
  exact k hc ls H locs ⟨h1.1, h1.2.1, fun i v hi => h1.2.2 i v (hl i v hi)⟩ h2 h3 h4
theorem V_iret {post : Int32 → σ → Prop} {x : Int32} (hd : decode b pc = .ok (.ireturn, 1)) (hr : ret = some .int) (hp : post x u) : V p l e R s m args below meth c own Tw b nL ret D tys A0 w k0 n0 (MQ below (va_Qi post (vB D tys w A0) A0) args s k0 n0 A0) (pc) (lo) ([.int x]) (u) := by
  intro hc ls H locs h1 h2 h3 h4
  obtain ⟨⟨hx, hb, hml, hown, hts⟩, hK, hre, hlk, hA⟩ := hc
  subst hr
  exact W.iret (hlocks := hlk) hx hb hre (fun t ht hW => ⟨⟨x, u, rfl, hp, by rw [ht]; exact h2, va_K.moved hW.alike hK, h3⟩, h4.F ht⟩) h4.2.2 hd
theorem V_zret {post : Int32 → σ → Prop} {x : Int32} (hd : decode b pc = .ok (.ireturn, 1)) (hr : ret = some .boolean) (hn : x &&& 1 = x) (hp : post x u) : V p l e R s m args below meth c own Tw b nL ret D tys A0 w k0 n0 (MQ below (va_Qi post (vB D tys w A0) A0) args s k0 n0 A0) (pc) (lo) ([.int x]) (u) := by
  intro hc ls H locs h1 h2 h3 h4
  obtain ⟨⟨hx, hb, hml, hown, hts⟩, hK, hre, hlk, hA⟩ := hc
  subst hr
  exact W.zret (hlocks := hlk) hx hb hre (by show Value.int (x &&& 1) = Value.int x; rw [hn]) (fun t ht hW => ⟨⟨x, u, rfl, hp, by rw [ht]; exact h2, va_K.moved hW.alike hK, h3⟩, h4.F ht⟩) h4.2.2 hd
theorem V_vret {post : σ → Prop} (hd : decode b pc = .ok (.return_, 1)) (hr : ret = none) (hp : post u) : V p l e R s m args below meth c own Tw b nL ret D tys A0 w k0 n0 (MQ below (va_Qv post (vB D tys w A0) A0) args s k0 n0 A0) (pc) (lo) ([]) (u) := by
  intro hc ls H locs h1 h2 h3 h4
  obtain ⟨⟨hx, hb, hml, hown, hts⟩, hK, hre, hlk, hA⟩ := hc
  subst hr
  exact W.vret (hlocks := hlk) hx hb hre (fun t ht hW => ⟨⟨u, rfl, hp, by rw [ht]; exact h2, va_K.moved hW.alike hK, h3⟩, h4.F ht⟩) h4.2.2 hd
end VS
/-- contracts: an answer (int or boolean), or none -/
def Mi (Tw : List Cond) (W2 : (Nat → Nat) → (Nat → ClassId) → XS → va_W) (ty2 : (Nat → ClassId) → List (ClassId × FieldType)) (y : MethodName) (b : ByteArray) (nL : Nat) (ret : Option FieldType) (rm : Room) (As : List Value) (u : XS) (post : Int32 → XS → Prop) : Prop :=
  ∀ (l : Launch) (D : va_G) (q : Nat → Nat) (k : Nat → ClassId) (sz : Nat), Met l y (.code y b nL ret :: Tw) rm (va_Pc (.ref (q 0) :: As) (fun U => U.heap.size = sz ∧ va_P D classes (W2 q k u) U.heap ∧ va_K D classes (ty2 k) U ∧ va_D (fun _ => True) (W2 q k u))) (va_Qi post (vB D (ty2 k) (W2 q k) (va_A (W2 q k u) sz)) (va_A (W2 q k u) sz)) 0 0 (va_A (W2 q k u) sz)
def Mv (Tw : List Cond) (W2 : (Nat → Nat) → (Nat → ClassId) → XS → va_W) (ty2 : (Nat → ClassId) → List (ClassId × FieldType)) (y : MethodName) (b : ByteArray) (nL : Nat) (ret : Option FieldType) (rm : Room) (As : List Value) (u : XS) (post : XS → Prop) : Prop :=
  ∀ (l : Launch) (D : va_G) (q : Nat → Nat) (k : Nat → ClassId) (sz : Nat), Met l y (.code y b nL ret :: Tw) rm (va_Pc (.ref (q 0) :: As) (fun U => U.heap.size = sz ∧ va_P D classes (W2 q k u) U.heap ∧ va_K D classes (ty2 k) U ∧ va_D (fun _ => True) (W2 q k u))) (va_Qv post (vB D (ty2 k) (W2 q k) (va_A (W2 q k u) sz)) (va_A (W2 q k u) sz)) 0 0 (va_A (W2 q k u) sz)

theorem Mi.of {Tw : List Cond} {W2 : (Nat → Nat) → (Nat → ClassId) → XS → va_W} {ty2 : (Nat → ClassId) → List (ClassId × FieldType)} {y : MethodName} {b : ByteArray} {nL : Nat} {ret : Option FieldType} {rm : Room} {As : List Value} {u : XS} {post : Int32 → XS → Prop} {own : String} (hy : plainName y.cls = true) (hyc : y.cls = own) (hc : ∀ v ∈ As, v.category = 1) (hn : As.length + 1 ≤ nL)
    (body : ∀ (p : Program) (l : Launch) (e : Env) (s : State) (m : MethodId) (args : Array Value) (below : List Frame) (meth : Method) (c : Code) (D : va_G) (q : Nat → Nat) (k : Nat → ClassId) (A0 : Nat → Prop), V p l e rm s m args below meth c own Tw b nL ret D (ty2 k) A0 (W2 q k) 0 0 (MQ below (va_Qi post (vB D (ty2 k) (W2 q k) A0) A0) args s 0 0 A0) 0 ((Value.ref (q 0) :: As).map some ++ List.replicate (nL - (Value.ref (q 0) :: As).length) none) [] u) : Mi Tw W2 ty2 y b nL ret rm As u post := by
  intro l D q k sz
  refine Met.ofW (cc := b) (maxL := nL) (ret := ret) hy rfl ?_
  intro p e s m args below meth c s₁ B hml hv
  obtain ⟨rfl, hsz, hP, hK, hD0⟩ := hv
  have hts := atoms_spec (ws := .code y b nL ret :: Tw) B.pre
  have hown : s.vm.findClass own = some m.cls := by rw [← hyc]; exact findClass_of_methodNamed B.named
  have hlk := B.notSynchronized
  subst hsz
  have hD := hD0.self (sz := s.heap.size)
  have hcat : ∀ v ∈ (Value.ref (q 0) :: As), v.category = 1 := by
    intro v hv
    rcases List.mem_cons.mp hv with rfl | h
    · rfl
    · exact hc v h
  have hl := lv_entry (Value.ref (q 0) :: As) (n := nL) (by rw [lg_len _ hcat]; exact hn)
  rw [lg_entry_eq]
  exact body p l e s m _ below meth c D q k _ ⟨⟨B.exec, B.bytes, hml, hown, fun w hw => hts w (List.mem_cons_of_mem _ hw)⟩, hK, B.returns, hlk, fun q' h => Or.inr h⟩ _ _ _ (lo_entry hcat hl rfl) hP hD va_S.rf
theorem Mv.of {Tw : List Cond} {W2 : (Nat → Nat) → (Nat → ClassId) → XS → va_W} {ty2 : (Nat → ClassId) → List (ClassId × FieldType)} {y : MethodName} {b : ByteArray} {nL : Nat} {ret : Option FieldType} {rm : Room} {As : List Value} {u : XS} {post : XS → Prop} {own : String} (hy : plainName y.cls = true) (hyc : y.cls = own) (hc : ∀ v ∈ As, v.category = 1) (hn : As.length + 1 ≤ nL)
    (body : ∀ (p : Program) (l : Launch) (e : Env) (s : State) (m : MethodId) (args : Array Value) (below : List Frame) (meth : Method) (c : Code) (D : va_G) (q : Nat → Nat) (k : Nat → ClassId) (A0 : Nat → Prop), V p l e rm s m args below meth c own Tw b nL ret D (ty2 k) A0 (W2 q k) 0 0 (MQ below (va_Qv post (vB D (ty2 k) (W2 q k) A0) A0) args s 0 0 A0) 0 ((Value.ref (q 0) :: As).map some ++ List.replicate (nL - (Value.ref (q 0) :: As).length) none) [] u) : Mv Tw W2 ty2 y b nL ret rm As u post := by
  intro l D q k sz
  refine Met.ofW (cc := b) (maxL := nL) (ret := ret) hy rfl ?_
  intro p e s m args below meth c s₁ B hml hv
  obtain ⟨rfl, hsz, hP, hK, hD0⟩ := hv
  have hts := atoms_spec (ws := .code y b nL ret :: Tw) B.pre
  have hown : s.vm.findClass own = some m.cls := by rw [← hyc]; exact findClass_of_methodNamed B.named
  have hlk := B.notSynchronized
  subst hsz
  have hD := hD0.self (sz := s.heap.size)
  have hcat : ∀ v ∈ (Value.ref (q 0) :: As), v.category = 1 := by
    intro v hv
    rcases List.mem_cons.mp hv with rfl | h
    · rfl
    · exact hc v h
  have hl := lv_entry (Value.ref (q 0) :: As) (n := nL) (by rw [lg_len _ hcat]; exact hn)
  rw [lg_entry_eq]
  exact body p l e s m _ below meth c D q k _ ⟨⟨B.exec, B.bytes, hml, hown, fun w hw => hts w (List.mem_cons_of_mem _ hw)⟩, hK, B.returns, hlk, fun q' h => Or.inr h⟩ _ _ _ (lo_entry hcat hl rfl) hP hD va_S.rf
section VC
variable {p : Program} {l : Launch} {e : Env} {R : Room} {s : State} {m : MethodId} {args : Array Value} {below : List Frame} {meth : Method} {c : Code} {own : String} {Tw : List Cond} {b : ByteArray} {nL : Nat} {ret : Option FieldType} {D : va_G} {tys : List (ClassId × FieldType)} {A0 : Nat → Prop} {Q : State → Prop} {pc : Nat} {lo : List (Option Value)} {st : List Value} {u : XS}

theorem V_calli {W2 : (Nat → Nat) → (Nat → ClassId) → XS → va_W} {ty2 : (Nat → ClassId) → List (ClassId × FieldType)} {q : Nat → Nat} {k : Nat → ClassId} {y : MethodName} {bb : ByteArray} {nn : Nat} {rr : Option FieldType} {rm : Room} {As rest st : List Value} {post : Int32 → XS → Prop} {idx ci : Nat} {T : u_T} {N : Nat} {fs : List Value} (hM : Mi Tw W2 ty2 y bb nn rr rm As u post) (hg : GoodIn Tw (wsV own idx own y (.code y bb nn rr :: Tw)))
    (hy : y.cls = own ∧ y.cls ≠ "java/lang/invoke/MethodHandle" ∧ y.cls ≠ "java/lang/invoke/VarHandle" ∧ (parseMethodDescriptor y.desc).map (fun d => d.parameters.length) = some As.length) (hrm : rm.cells = 0 ∧ rm.slots = 0) (hcl : classes[ci]? = some (own, T, N)) (hw0 : (W2 q k u)[0]? = some (q 0, .inr (ci, fs))) (hR : rm.frames + 1 ≤ R.frames ∧ 8 + (nn + 11) + rm.locals ≤ R.locals) (hrest : (rest.map fun v => v.category).sum ≤ 8) (hst : st = As.reverse ++ .ref (q 0) :: rest) (hd : decode b pc = .ok (.invokevirtual idx, 3))
    (kk : ∀ (r : Int32) (u2 : XS), post r u2 → V p l e R s m args below meth c own Tw b nL ret D (ty2 k) A0 (W2 q k) 0 0 Q (pc + 3) lo (.int r :: rest) (u2)) : V p l e R s m args below meth c own Tw b nL ret D (ty2 k) A0 (W2 q k) 0 0 Q (pc) lo (st) (u) := by
  intro hc ls H locs h1 h2 h3 h4
  subst hst
  obtain ⟨⟨hx, hb, hml, hown, hts⟩, hK, hre, hlk, hA⟩ := id hc
  have hFc : ∀ q', va_A (W2 q k u) H.size q' → A0 q' := by
    intro q' h
    rcases h with ⟨j, e, h⟩ | h
    · exact h3.2 j _ h
    · exact hA q' (Nat.le_trans h4.1 h)
  refine va_calli (va_runV (As := As) (rest := rest) ⟨hx, hb, hml, hown, hts⟩ (hM l D q k H.size) (cwV As.length hts hg rfl hrm.1 hrm.2 hy hR) ⟨fun a U g mk q9 => by obtain ⟨q0, q1, qP, qK, qD⟩ := q9; exact ⟨q0, q1, qP, va_K.moved (u := U) (U := U.calling g mk a) (Vm.Alike.refl U.vm) qK, qD⟩, va_recv hK h2 (ci := ci) (q0 := 0) hcl hw0, fun U hU hW => ⟨rfl, by rw [hU], by rw [hU]; exact h2, va_K.moved hW.alike hK, h3.weaken (fun _ _ _ _ => trivial)⟩⟩ rfl rfl h1.1 rfl (lv_room hrest) hd ⟨Nat.zero_le _, Nat.zero_le _⟩) h4 (fun q' _ h => hFc q' h) hFc (fun r u2 t H1 locs1 ht hvm hp hB hz1 hk1 hS1 => ?_)
  exact kk r u2 hp hc ls H1 locs1 h1 (by rw [← ht]; exact hB.1) (hB.2.2.weaken (fun _ _ _ h => hFc _ h)) hS1
theorem V_callv {W2 : (Nat → Nat) → (Nat → ClassId) → XS → va_W} {ty2 : (Nat → ClassId) → List (ClassId × FieldType)} {q : Nat → Nat} {k : Nat → ClassId} {y : MethodName} {bb : ByteArray} {nn : Nat} {rr : Option FieldType} {rm : Room} {As rest st : List Value} {post : XS → Prop} {idx ci : Nat} {T : u_T} {N : Nat} {fs : List Value} (hM : Mv Tw W2 ty2 y bb nn rr rm As u post) (hg : GoodIn Tw (wsV own idx own y (.code y bb nn rr :: Tw)))
    (hy : y.cls = own ∧ y.cls ≠ "java/lang/invoke/MethodHandle" ∧ y.cls ≠ "java/lang/invoke/VarHandle" ∧ (parseMethodDescriptor y.desc).map (fun d => d.parameters.length) = some As.length) (hrm : rm.cells = 0 ∧ rm.slots = 0) (hcl : classes[ci]? = some (own, T, N)) (hw0 : (W2 q k u)[0]? = some (q 0, .inr (ci, fs))) (hR : rm.frames + 1 ≤ R.frames ∧ 8 + (nn + 11) + rm.locals ≤ R.locals) (hrest : (rest.map fun v => v.category).sum ≤ 8) (hst : st = As.reverse ++ .ref (q 0) :: rest) (hd : decode b pc = .ok (.invokevirtual idx, 3))
    (kk : ∀ (u2 : XS), post u2 → V p l e R s m args below meth c own Tw b nL ret D (ty2 k) A0 (W2 q k) 0 0 Q (pc + 3) lo (rest) (u2)) : V p l e R s m args below meth c own Tw b nL ret D (ty2 k) A0 (W2 q k) 0 0 Q (pc) lo (st) (u) := by
  intro hc ls H locs h1 h2 h3 h4
  subst hst
  obtain ⟨⟨hx, hb, hml, hown, hts⟩, hK, hre, hlk, hA⟩ := id hc
  have hFc : ∀ q', va_A (W2 q k u) H.size q' → A0 q' := by
    intro q' h
    rcases h with ⟨j, e, h⟩ | h
    · exact h3.2 j _ h
    · exact hA q' (Nat.le_trans h4.1 h)
  refine va_callv (va_runV (As := As) (rest := rest) ⟨hx, hb, hml, hown, hts⟩ (hM l D q k H.size) (cwV As.length hts hg rfl hrm.1 hrm.2 hy hR) ⟨fun a U g mk q9 => by obtain ⟨q0, q1, qP, qK, qD⟩ := q9; exact ⟨q0, q1, qP, va_K.moved (u := U) (U := U.calling g mk a) (Vm.Alike.refl U.vm) qK, qD⟩, va_recv hK h2 (ci := ci) (q0 := 0) hcl hw0, fun U hU hW => ⟨rfl, by rw [hU], by rw [hU]; exact h2, va_K.moved hW.alike hK, h3.weaken (fun _ _ _ _ => trivial)⟩⟩ rfl rfl h1.1 rfl (lv_room hrest) hd ⟨Nat.zero_le _, Nat.zero_le _⟩) h4 (fun q' _ h => hFc q' h) hFc (fun u2 t H1 locs1 ht hvm hp hB hz1 hk1 hS1 => ?_)
  exact kk u2 hp hc ls H1 locs1 h1 (by rw [← ht]; exact hB.1) (hB.2.2.weaken (fun _ _ _ h => hFc _ h)) hS1
end VC
end
section
def xf (q : Nat → Nat) (S : Nat → Int32) : List Value := [.int (S 0), .int (S 1), .int (S 2), .int (S 3), .ref (q 1), .ref (q 2), .ref (q 3), .ref (q 4), .ref (q 5), .ref (q 6), .ref (q 7), .int (S 11), .int (S 12), .int (S 13), .ref (q 8), .ref (q 9), .int (S 16), .ref (q 10), .ref (q 11), .ref (q 12)]
def xw (q : Nat → Nat) (k : Nat → ClassId) (u : XS) : va_W := [(q 0, .inr (0, xf q u.1)), (q 1, .inl (k 1, 6, .inl (u.2 1))), (q 2, .inl (k 2, 6, .inl (u.2 2))), (q 3, .inl (k 3, 6, .inl (u.2 3))), (q 4, .inl (k 4, 6, .inl (u.2 4))), (q 5, .inl (k 5, 9, .inl (u.2 5))), (q 6, .inl (k 6, 9, .inl (u.2 6))), (q 7, .inl (k 7, 9, .inl (u.2 7))), (q 8, .inl (k 8, 9, .inl (u.2 8))), (q 9, .inl (k 9, 9, .inl (u.2 9))), (q 10, .inl (k 10, 31, .inl (u.2 10))), (q 11, .inl (k 11, 155, .inl (u.2 11))), (q 12, .inl (k 12, 31, .inl (u.2 12)))]
def xty (k : Nat → ClassId) : List (ClassId × FieldType) := [(k 1, .int), (k 2, .int), (k 3, .int), (k 4, .boolean), (k 5, .int), (k 6, .int), (k 7, .int), (k 8, .int), (k 9, .int), (k 10, .int), (k 11, .int), (k 12, .int)]
section HX
variable {p : Program} {l : Launch} {e : Env} {R : Room} {s : State} {m : MethodId} {args : Array Value} {below : List Frame} {meth : Method} {c : Code} {b : ByteArray} {nL : Nat} {ret : Option FieldType} {D : va_G} {q : Nat → Nat} {k : Nat → ClassId} {A0 : Nat → Prop} {k0 n0 : Nat} {Q : State → Prop} {pc : Nat} {lo : List (Option Value)} {st : List Value} {u : XS}

theorem xg_height (hd : decode b pc = .ok (.getfield 51, 3)) (kk : V p l e R s m args below meth c R_X wX b nL ret D (xty k) A0 (xw q k) k0 n0 Q (pc + 3) lo (.int (u.1 0) :: st) (u)) : V p l e R s m args below meth c R_X wX b nL ret D (xty k) A0 (xw q k) k0 n0 Q (pc) lo (.ref (q 0) :: st) (u) := by
  intro hc ls H locs h1 h2 h3 h4
  obtain ⟨⟨hx, hb, hml, hown, hts⟩, hK, hr, hlk, hA⟩ := id hc
  exact va_get (D := D) (ci := 0) (v := .int (u.1 0)) (C := R_X) (T := F_X) (N := 20) hx hb hts i_X hown hK h2 0 rfl rfl 0 (by decide) (hts _ kX_fl_height) (fun _ h9 => h9) rfl hd (kk hc ls H locs h1 h2 h3 h4)
theorem xp_height {v : Int32} (hd : decode b pc = .ok (.putfield 51, 3)) (kk : V p l e R s m args below meth c R_X wX b nL ret D (xty k) A0 (xw q k) k0 n0 Q (pc + 3) lo (st) ((upd u.1 0 v, u.2))) : V p l e R s m args below meth c R_X wX b nL ret D (xty k) A0 (xw q k) k0 n0 Q (pc) lo (.int v :: .ref (q 0) :: st) (u) := by
  intro hc ls H locs h1 h2 h3 h4
  obtain ⟨⟨hx, hb, hml, hown, hts⟩, hK, hr, hlk, hA⟩ := id hc
  exact va_put (D := D) (ci := 0) (v := .int v) (ty := .int) (C := R_X) (T := F_X) (N := 20) hx hb hts i_X t_X t_X_ok n_X hown hK h2 h3 h4 0 rfl rfl 0 (by decide) (hts _ kX_fl_height) (fun _ h9 => h9) rfl (by decide +kernel) rfl rfl (Nat.le_of_ble_eq_true rfl) hd (fun H1 locs1 hP hD hS => kk hc ls H1 locs1 h1 hP hD hS)
theorem xg_made (hd : decode b pc = .ok (.getfield 47, 3)) (kk : V p l e R s m args below meth c R_X wX b nL ret D (xty k) A0 (xw q k) k0 n0 Q (pc + 3) lo (.int (u.1 1) :: st) (u)) : V p l e R s m args below meth c R_X wX b nL ret D (xty k) A0 (xw q k) k0 n0 Q (pc) lo (.ref (q 0) :: st) (u) := by
  intro hc ls H locs h1 h2 h3 h4
  obtain ⟨⟨hx, hb, hml, hown, hts⟩, hK, hr, hlk, hA⟩ := id hc
  exact va_get (D := D) (ci := 0) (v := .int (u.1 1)) (C := R_X) (T := F_X) (N := 20) hx hb hts i_X hown hK h2 0 rfl rfl 1 (by decide) (hts _ kX_fl_made) (fun _ h9 => h9) rfl hd (kk hc ls H locs h1 h2 h3 h4)
theorem xp_made {v : Int32} (hd : decode b pc = .ok (.putfield 47, 3)) (kk : V p l e R s m args below meth c R_X wX b nL ret D (xty k) A0 (xw q k) k0 n0 Q (pc + 3) lo (st) ((upd u.1 1 v, u.2))) : V p l e R s m args below meth c R_X wX b nL ret D (xty k) A0 (xw q k) k0 n0 Q (pc) lo (.int v :: .ref (q 0) :: st) (u) := by
  intro hc ls H locs h1 h2 h3 h4
  obtain ⟨⟨hx, hb, hml, hown, hts⟩, hK, hr, hlk, hA⟩ := id hc
  exact va_put (D := D) (ci := 0) (v := .int v) (ty := .int) (C := R_X) (T := F_X) (N := 20) hx hb hts i_X t_X t_X_ok n_X hown hK h2 h3 h4 0 rfl rfl 1 (by decide) (hts _ kX_fl_made) (fun _ h9 => h9) rfl (by decide +kernel) rfl rfl (Nat.le_of_ble_eq_true rfl) hd (fun H1 locs1 hP hD hS => kk hc ls H1 locs1 h1 hP hD hS)
theorem xg_calls (hd : decode b pc = .ok (.getfield 54, 3)) (kk : V p l e R s m args below meth c R_X wX b nL ret D (xty k) A0 (xw q k) k0 n0 Q (pc + 3) lo (.int (u.1 2) :: st) (u)) : V p l e R s m args below meth c R_X wX b nL ret D (xty k) A0 (xw q k) k0 n0 Q (pc) lo (.ref (q 0) :: st) (u) := by
  intro hc ls H locs h1 h2 h3 h4
  obtain ⟨⟨hx, hb, hml, hown, hts⟩, hK, hr, hlk, hA⟩ := id hc
  exact va_get (D := D) (ci := 0) (v := .int (u.1 2)) (C := R_X) (T := F_X) (N := 20) hx hb hts i_X hown hK h2 0 rfl rfl 2 (by decide) (hts _ kX_fl_calls) (fun _ h9 => h9) rfl hd (kk hc ls H locs h1 h2 h3 h4)
theorem xp_calls {v : Int32} (hd : decode b pc = .ok (.putfield 54, 3)) (kk : V p l e R s m args below meth c R_X wX b nL ret D (xty k) A0 (xw q k) k0 n0 Q (pc + 3) lo (st) ((upd u.1 2 v, u.2))) : V p l e R s m args below meth c R_X wX b nL ret D (xty k) A0 (xw q k) k0 n0 Q (pc) lo (.int v :: .ref (q 0) :: st) (u) := by
  intro hc ls H locs h1 h2 h3 h4
  obtain ⟨⟨hx, hb, hml, hown, hts⟩, hK, hr, hlk, hA⟩ := id hc
  exact va_put (D := D) (ci := 0) (v := .int v) (ty := .int) (C := R_X) (T := F_X) (N := 20) hx hb hts i_X t_X t_X_ok n_X hown hK h2 h3 h4 0 rfl rfl 2 (by decide) (hts _ kX_fl_calls) (fun _ h9 => h9) rfl (by decide +kernel) rfl rfl (Nat.le_of_ble_eq_true rfl) hd (fun H1 locs1 hP hD hS => kk hc ls H1 locs1 h1 hP hD hS)
theorem xg_places (hd : decode b pc = .ok (.getfield 57, 3)) (kk : V p l e R s m args below meth c R_X wX b nL ret D (xty k) A0 (xw q k) k0 n0 Q (pc + 3) lo (.int (u.1 3) :: st) (u)) : V p l e R s m args below meth c R_X wX b nL ret D (xty k) A0 (xw q k) k0 n0 Q (pc) lo (.ref (q 0) :: st) (u) := by
  intro hc ls H locs h1 h2 h3 h4
  obtain ⟨⟨hx, hb, hml, hown, hts⟩, hK, hr, hlk, hA⟩ := id hc
  exact va_get (D := D) (ci := 0) (v := .int (u.1 3)) (C := R_X) (T := F_X) (N := 20) hx hb hts i_X hown hK h2 0 rfl rfl 3 (by decide) (hts _ kX_fl_places) (fun _ h9 => h9) rfl hd (kk hc ls H locs h1 h2 h3 h4)
theorem xp_places {v : Int32} (hd : decode b pc = .ok (.putfield 57, 3)) (kk : V p l e R s m args below meth c R_X wX b nL ret D (xty k) A0 (xw q k) k0 n0 Q (pc + 3) lo (st) ((upd u.1 3 v, u.2))) : V p l e R s m args below meth c R_X wX b nL ret D (xty k) A0 (xw q k) k0 n0 Q (pc) lo (.int v :: .ref (q 0) :: st) (u) := by
  intro hc ls H locs h1 h2 h3 h4
  obtain ⟨⟨hx, hb, hml, hown, hts⟩, hK, hr, hlk, hA⟩ := id hc
  exact va_put (D := D) (ci := 0) (v := .int v) (ty := .int) (C := R_X) (T := F_X) (N := 20) hx hb hts i_X t_X t_X_ok n_X hown hK h2 h3 h4 0 rfl rfl 3 (by decide) (hts _ kX_fl_places) (fun _ h9 => h9) rfl (by decide +kernel) rfl rfl (Nat.le_of_ble_eq_true rfl) hd (fun H1 locs1 hP hD hS => kk hc ls H1 locs1 h1 hP hD hS)
theorem xg_low (hd : decode b pc = .ok (.getfield 7, 3)) (kk : V p l e R s m args below meth c R_X wX b nL ret D (xty k) A0 (xw q k) k0 n0 Q (pc + 3) lo (.ref (q 1) :: st) (u)) : V p l e R s m args below meth c R_X wX b nL ret D (xty k) A0 (xw q k) k0 n0 Q (pc) lo (.ref (q 0) :: st) (u) := by
  intro hc ls H locs h1 h2 h3 h4
  obtain ⟨⟨hx, hb, hml, hown, hts⟩, hK, hr, hlk, hA⟩ := id hc
  exact va_get (D := D) (ci := 0) (v := .ref (q 1)) (C := R_X) (T := F_X) (N := 20) hx hb hts i_X hown hK h2 0 rfl rfl 4 (by decide) (hts _ kX_fl_low) (fun _ h9 => h9) rfl hd (kk hc ls H locs h1 h2 h3 h4)
theorem xg_first (hd : decode b pc = .ok (.getfield 13, 3)) (kk : V p l e R s m args below meth c R_X wX b nL ret D (xty k) A0 (xw q k) k0 n0 Q (pc + 3) lo (.ref (q 2) :: st) (u)) : V p l e R s m args below meth c R_X wX b nL ret D (xty k) A0 (xw q k) k0 n0 Q (pc) lo (.ref (q 0) :: st) (u) := by
  intro hc ls H locs h1 h2 h3 h4
  obtain ⟨⟨hx, hb, hml, hown, hts⟩, hK, hr, hlk, hA⟩ := id hc
  exact va_get (D := D) (ci := 0) (v := .ref (q 2)) (C := R_X) (T := F_X) (N := 20) hx hb hts i_X hown hK h2 0 rfl rfl 5 (by decide) (hts _ kX_fl_first) (fun _ h9 => h9) rfl hd (kk hc ls H locs h1 h2 h3 h4)
theorem xg_last (hd : decode b pc = .ok (.getfield 16, 3)) (kk : V p l e R s m args below meth c R_X wX b nL ret D (xty k) A0 (xw q k) k0 n0 Q (pc + 3) lo (.ref (q 3) :: st) (u)) : V p l e R s m args below meth c R_X wX b nL ret D (xty k) A0 (xw q k) k0 n0 Q (pc) lo (.ref (q 0) :: st) (u) := by
  intro hc ls H locs h1 h2 h3 h4
  obtain ⟨⟨hx, hb, hml, hown, hts⟩, hK, hr, hlk, hA⟩ := id hc
  exact va_get (D := D) (ci := 0) (v := .ref (q 3)) (C := R_X) (T := F_X) (N := 20) hx hb hts i_X hown hK h2 0 rfl rfl 6 (by decide) (hts _ kX_fl_last) (fun _ h9 => h9) rfl hd (kk hc ls H locs h1 h2 h3 h4)
theorem xg_empty (hd : decode b pc = .ok (.getfield 19, 3)) (kk : V p l e R s m args below meth c R_X wX b nL ret D (xty k) A0 (xw q k) k0 n0 Q (pc + 3) lo (.ref (q 4) :: st) (u)) : V p l e R s m args below meth c R_X wX b nL ret D (xty k) A0 (xw q k) k0 n0 Q (pc) lo (.ref (q 0) :: st) (u) := by
  intro hc ls H locs h1 h2 h3 h4
  obtain ⟨⟨hx, hb, hml, hown, hts⟩, hK, hr, hlk, hA⟩ := id hc
  exact va_get (D := D) (ci := 0) (v := .ref (q 4)) (C := R_X) (T := F_X) (N := 20) hx hb hts i_X hown hK h2 0 rfl rfl 7 (by decide) (hts _ kX_fl_empty) (fun _ h9 => h9) rfl hd (kk hc ls H locs h1 h2 h3 h4)
theorem xg_leftOf (hd : decode b pc = .ok (.getfield 23, 3)) (kk : V p l e R s m args below meth c R_X wX b nL ret D (xty k) A0 (xw q k) k0 n0 Q (pc + 3) lo (.ref (q 5) :: st) (u)) : V p l e R s m args below meth c R_X wX b nL ret D (xty k) A0 (xw q k) k0 n0 Q (pc) lo (.ref (q 0) :: st) (u) := by
  intro hc ls H locs h1 h2 h3 h4
  obtain ⟨⟨hx, hb, hml, hown, hts⟩, hK, hr, hlk, hA⟩ := id hc
  exact va_get (D := D) (ci := 0) (v := .ref (q 5)) (C := R_X) (T := F_X) (N := 20) hx hb hts i_X hown hK h2 0 rfl rfl 8 (by decide) (hts _ kX_fl_leftOf) (fun _ h9 => h9) rfl hd (kk hc ls H locs h1 h2 h3 h4)
theorem xg_rightOf (hd : decode b pc = .ok (.getfield 26, 3)) (kk : V p l e R s m args below meth c R_X wX b nL ret D (xty k) A0 (xw q k) k0 n0 Q (pc + 3) lo (.ref (q 6) :: st) (u)) : V p l e R s m args below meth c R_X wX b nL ret D (xty k) A0 (xw q k) k0 n0 Q (pc) lo (.ref (q 0) :: st) (u) := by
  intro hc ls H locs h1 h2 h3 h4
  obtain ⟨⟨hx, hb, hml, hown, hts⟩, hK, hr, hlk, hA⟩ := id hc
  exact va_get (D := D) (ci := 0) (v := .ref (q 6)) (C := R_X) (T := F_X) (N := 20) hx hb hts i_X hown hK h2 0 rfl rfl 9 (by decide) (hts _ kX_fl_rightOf) (fun _ h9 => h9) rfl hd (kk hc ls H locs h1 h2 h3 h4)
theorem xg_follow (hd : decode b pc = .ok (.getfield 29, 3)) (kk : V p l e R s m args below meth c R_X wX b nL ret D (xty k) A0 (xw q k) k0 n0 Q (pc + 3) lo (.ref (q 7) :: st) (u)) : V p l e R s m args below meth c R_X wX b nL ret D (xty k) A0 (xw q k) k0 n0 Q (pc) lo (.ref (q 0) :: st) (u) := by
  intro hc ls H locs h1 h2 h3 h4
  obtain ⟨⟨hx, hb, hml, hown, hts⟩, hK, hr, hlk, hA⟩ := id hc
  exact va_get (D := D) (ci := 0) (v := .ref (q 7)) (C := R_X) (T := F_X) (N := 20) hx hb hts i_X hown hK h2 0 rfl rfl 10 (by decide) (hts _ kX_fl_follow) (fun _ h9 => h9) rfl hd (kk hc ls H locs h1 h2 h3 h4)
theorem xg_useFirst (hd : decode b pc = .ok (.getfield 68, 3)) (kk : V p l e R s m args below meth c R_X wX b nL ret D (xty k) A0 (xw q k) k0 n0 Q (pc + 3) lo (.int (u.1 11) :: st) (u)) : V p l e R s m args below meth c R_X wX b nL ret D (xty k) A0 (xw q k) k0 n0 Q (pc) lo (.ref (q 0) :: st) (u) := by
  intro hc ls H locs h1 h2 h3 h4
  obtain ⟨⟨hx, hb, hml, hown, hts⟩, hK, hr, hlk, hA⟩ := id hc
  exact va_get (D := D) (ci := 0) (v := .int (u.1 11)) (C := R_X) (T := F_X) (N := 20) hx hb hts i_X hown hK h2 0 rfl rfl 11 (by decide) (hts _ kX_fl_useFirst) (fun _ h9 => h9) rfl hd (kk hc ls H locs h1 h2 h3 h4)
theorem xp_useFirst {v : Int32} (hd : decode b pc = .ok (.putfield 68, 3)) (kk : V p l e R s m args below meth c R_X wX b nL ret D (xty k) A0 (xw q k) k0 n0 Q (pc + 3) lo (st) ((upd u.1 11 v, u.2))) : V p l e R s m args below meth c R_X wX b nL ret D (xty k) A0 (xw q k) k0 n0 Q (pc) lo (.int v :: .ref (q 0) :: st) (u) := by
  intro hc ls H locs h1 h2 h3 h4
  obtain ⟨⟨hx, hb, hml, hown, hts⟩, hK, hr, hlk, hA⟩ := id hc
  exact va_put (D := D) (ci := 0) (v := .int v) (ty := .int) (C := R_X) (T := F_X) (N := 20) hx hb hts i_X t_X t_X_ok n_X hown hK h2 h3 h4 0 rfl rfl 11 (by decide) (hts _ kX_fl_useFirst) (fun _ h9 => h9) rfl (by decide +kernel) rfl rfl (Nat.le_of_ble_eq_true rfl) hd (fun H1 locs1 hP hD hS => kk hc ls H1 locs1 h1 hP hD hS)
theorem xg_useLast (hd : decode b pc = .ok (.getfield 71, 3)) (kk : V p l e R s m args below meth c R_X wX b nL ret D (xty k) A0 (xw q k) k0 n0 Q (pc + 3) lo (.int (u.1 12) :: st) (u)) : V p l e R s m args below meth c R_X wX b nL ret D (xty k) A0 (xw q k) k0 n0 Q (pc) lo (.ref (q 0) :: st) (u) := by
  intro hc ls H locs h1 h2 h3 h4
  obtain ⟨⟨hx, hb, hml, hown, hts⟩, hK, hr, hlk, hA⟩ := id hc
  exact va_get (D := D) (ci := 0) (v := .int (u.1 12)) (C := R_X) (T := F_X) (N := 20) hx hb hts i_X hown hK h2 0 rfl rfl 12 (by decide) (hts _ kX_fl_useLast) (fun _ h9 => h9) rfl hd (kk hc ls H locs h1 h2 h3 h4)
theorem xp_useLast {v : Int32} (hd : decode b pc = .ok (.putfield 71, 3)) (kk : V p l e R s m args below meth c R_X wX b nL ret D (xty k) A0 (xw q k) k0 n0 Q (pc + 3) lo (st) ((upd u.1 12 v, u.2))) : V p l e R s m args below meth c R_X wX b nL ret D (xty k) A0 (xw q k) k0 n0 Q (pc) lo (.int v :: .ref (q 0) :: st) (u) := by
  intro hc ls H locs h1 h2 h3 h4
  obtain ⟨⟨hx, hb, hml, hown, hts⟩, hK, hr, hlk, hA⟩ := id hc
  exact va_put (D := D) (ci := 0) (v := .int v) (ty := .int) (C := R_X) (T := F_X) (N := 20) hx hb hts i_X t_X t_X_ok n_X hown hK h2 h3 h4 0 rfl rfl 12 (by decide) (hts _ kX_fl_useLast) (fun _ h9 => h9) rfl (by decide +kernel) rfl rfl (Nat.le_of_ble_eq_true rfl) hd (fun H1 locs1 hP hD hS => kk hc ls H1 locs1 h1 hP hD hS)
theorem xg_useEmpty (hd : decode b pc = .ok (.getfield 74, 3)) (kk : V p l e R s m args below meth c R_X wX b nL ret D (xty k) A0 (xw q k) k0 n0 Q (pc + 3) lo (.int (u.1 13) :: st) (u)) : V p l e R s m args below meth c R_X wX b nL ret D (xty k) A0 (xw q k) k0 n0 Q (pc) lo (.ref (q 0) :: st) (u) := by
  intro hc ls H locs h1 h2 h3 h4
  obtain ⟨⟨hx, hb, hml, hown, hts⟩, hK, hr, hlk, hA⟩ := id hc
  exact va_get (D := D) (ci := 0) (v := .int (u.1 13)) (C := R_X) (T := F_X) (N := 20) hx hb hts i_X hown hK h2 0 rfl rfl 13 (by decide) (hts _ kX_fl_useEmpty) (fun _ h9 => h9) rfl hd (kk hc ls H locs h1 h2 h3 h4)
theorem xp_useEmpty {v : Int32} (hz : v = 0 ∨ v = 1) (hd : decode b pc = .ok (.putfield 74, 3)) (kk : V p l e R s m args below meth c R_X wX b nL ret D (xty k) A0 (xw q k) k0 n0 Q (pc + 3) lo (st) ((upd u.1 13 v, u.2))) : V p l e R s m args below meth c R_X wX b nL ret D (xty k) A0 (xw q k) k0 n0 Q (pc) lo (.int v :: .ref (q 0) :: st) (u) := by
  intro hc ls H locs h1 h2 h3 h4
  obtain ⟨⟨hx, hb, hml, hown, hts⟩, hK, hr, hlk, hA⟩ := id hc
  exact va_put (D := D) (ci := 0) (v := .int v) (ty := .boolean) (C := R_X) (T := F_X) (N := 20) hx hb hts i_X t_X t_X_ok n_X hown hK h2 h3 h4 0 rfl rfl 13 (by decide) (hts _ kX_fl_useEmpty) (fun _ h9 => h9) rfl (by decide +kernel) (by rcases hz with rfl | rfl <;> rfl) (by rcases hz with rfl | rfl <;> rfl) (Nat.le_of_ble_eq_true rfl) hd (fun H1 locs1 hP hD hS => kk hc ls H1 locs1 h1 hP hD hS)
theorem xg_useFollow (hd : decode b pc = .ok (.getfield 32, 3)) (kk : V p l e R s m args below meth c R_X wX b nL ret D (xty k) A0 (xw q k) k0 n0 Q (pc + 3) lo (.ref (q 8) :: st) (u)) : V p l e R s m args below meth c R_X wX b nL ret D (xty k) A0 (xw q k) k0 n0 Q (pc) lo (.ref (q 0) :: st) (u) := by
  intro hc ls H locs h1 h2 h3 h4
  obtain ⟨⟨hx, hb, hml, hown, hts⟩, hK, hr, hlk, hA⟩ := id hc
  exact va_get (D := D) (ci := 0) (v := .ref (q 8)) (C := R_X) (T := F_X) (N := 20) hx hb hts i_X hown hK h2 0 rfl rfl 14 (by decide) (hts _ kX_fl_useFollow) (fun _ h9 => h9) rfl hd (kk hc ls H locs h1 h2 h3 h4)
theorem xg_fits (hd : decode b pc = .ok (.getfield 35, 3)) (kk : V p l e R s m args below meth c R_X wX b nL ret D (xty k) A0 (xw q k) k0 n0 Q (pc + 3) lo (.ref (q 9) :: st) (u)) : V p l e R s m args below meth c R_X wX b nL ret D (xty k) A0 (xw q k) k0 n0 Q (pc) lo (.ref (q 0) :: st) (u) := by
  intro hc ls H locs h1 h2 h3 h4
  obtain ⟨⟨hx, hb, hml, hown, hts⟩, hK, hr, hlk, hA⟩ := id hc
  exact va_get (D := D) (ci := 0) (v := .ref (q 9)) (C := R_X) (T := F_X) (N := 20) hx hb hts i_X hown hK h2 0 rfl rfl 15 (by decide) (hts _ kX_fl_fits) (fun _ h9 => h9) rfl hd (kk hc ls H locs h1 h2 h3 h4)
theorem xg_ready (hd : decode b pc = .ok (.getfield 81, 3)) (kk : V p l e R s m args below meth c R_X wX b nL ret D (xty k) A0 (xw q k) k0 n0 Q (pc + 3) lo (.int (u.1 16) :: st) (u)) : V p l e R s m args below meth c R_X wX b nL ret D (xty k) A0 (xw q k) k0 n0 Q (pc) lo (.ref (q 0) :: st) (u) := by
  intro hc ls H locs h1 h2 h3 h4
  obtain ⟨⟨hx, hb, hml, hown, hts⟩, hK, hr, hlk, hA⟩ := id hc
  exact va_get (D := D) (ci := 0) (v := .int (u.1 16)) (C := R_X) (T := F_X) (N := 20) hx hb hts i_X hown hK h2 0 rfl rfl 16 (by decide) (hts _ kX_fl_ready) (fun _ h9 => h9) rfl hd (kk hc ls H locs h1 h2 h3 h4)
theorem xp_ready {v : Int32} (hz : v = 0 ∨ v = 1) (hd : decode b pc = .ok (.putfield 81, 3)) (kk : V p l e R s m args below meth c R_X wX b nL ret D (xty k) A0 (xw q k) k0 n0 Q (pc + 3) lo (st) ((upd u.1 16 v, u.2))) : V p l e R s m args below meth c R_X wX b nL ret D (xty k) A0 (xw q k) k0 n0 Q (pc) lo (.int v :: .ref (q 0) :: st) (u) := by
  intro hc ls H locs h1 h2 h3 h4
  obtain ⟨⟨hx, hb, hml, hown, hts⟩, hK, hr, hlk, hA⟩ := id hc
  exact va_put (D := D) (ci := 0) (v := .int v) (ty := .boolean) (C := R_X) (T := F_X) (N := 20) hx hb hts i_X t_X t_X_ok n_X hown hK h2 h3 h4 0 rfl rfl 16 (by decide) (hts _ kX_fl_ready) (fun _ h9 => h9) rfl (by decide +kernel) (by rcases hz with rfl | rfl <;> rfl) (by rcases hz with rfl | rfl <;> rfl) (Nat.le_of_ble_eq_true rfl) hd (fun H1 locs1 hP hD hS => kk hc ls H1 locs1 h1 hP hD hS)
theorem xg_row (hd : decode b pc = .ok (.getfield 38, 3)) (kk : V p l e R s m args below meth c R_X wX b nL ret D (xty k) A0 (xw q k) k0 n0 Q (pc + 3) lo (.ref (q 10) :: st) (u)) : V p l e R s m args below meth c R_X wX b nL ret D (xty k) A0 (xw q k) k0 n0 Q (pc) lo (.ref (q 0) :: st) (u) := by
  intro hc ls H locs h1 h2 h3 h4
  obtain ⟨⟨hx, hb, hml, hown, hts⟩, hK, hr, hlk, hA⟩ := id hc
  exact va_get (D := D) (ci := 0) (v := .ref (q 10)) (C := R_X) (T := F_X) (N := 20) hx hb hts i_X hown hK h2 0 rfl rfl 17 (by decide) (hts _ kX_fl_row) (fun _ h9 => h9) rfl hd (kk hc ls H locs h1 h2 h3 h4)
theorem xg_reach (hd : decode b pc = .ok (.getfield 41, 3)) (kk : V p l e R s m args below meth c R_X wX b nL ret D (xty k) A0 (xw q k) k0 n0 Q (pc + 3) lo (.ref (q 11) :: st) (u)) : V p l e R s m args below meth c R_X wX b nL ret D (xty k) A0 (xw q k) k0 n0 Q (pc) lo (.ref (q 0) :: st) (u) := by
  intro hc ls H locs h1 h2 h3 h4
  obtain ⟨⟨hx, hb, hml, hown, hts⟩, hK, hr, hlk, hA⟩ := id hc
  exact va_get (D := D) (ci := 0) (v := .ref (q 11)) (C := R_X) (T := F_X) (N := 20) hx hb hts i_X hown hK h2 0 rfl rfl 18 (by decide) (hts _ kX_fl_reach) (fun _ h9 => h9) rfl hd (kk hc ls H locs h1 h2 h3 h4)
theorem xg_lengthOf (hd : decode b pc = .ok (.getfield 44, 3)) (kk : V p l e R s m args below meth c R_X wX b nL ret D (xty k) A0 (xw q k) k0 n0 Q (pc + 3) lo (.ref (q 12) :: st) (u)) : V p l e R s m args below meth c R_X wX b nL ret D (xty k) A0 (xw q k) k0 n0 Q (pc) lo (.ref (q 0) :: st) (u) := by
  intro hc ls H locs h1 h2 h3 h4
  obtain ⟨⟨hx, hb, hml, hown, hts⟩, hK, hr, hlk, hA⟩ := id hc
  exact va_get (D := D) (ci := 0) (v := .ref (q 12)) (C := R_X) (T := F_X) (N := 20) hx hb hts i_X hown hK h2 0 rfl rfl 19 (by decide) (hts _ kX_fl_lengthOf) (fun _ h9 => h9) rfl hd (kk hc ls H locs h1 h2 h3 h4)
theorem xl_low {i : Int32} {n : Nat} (hi : i = nI n) (hn : n < 6) (hd : decode b pc = .ok (.iaload, 1)) (kk : V p l e R s m args below meth c R_X wX b nL ret D (xty k) A0 (xw q k) k0 n0 Q (pc + 1) lo (.int (u.2 1 n) :: st) (u)) : V p l e R s m args below meth c R_X wX b nL ret D (xty k) A0 (xw q k) k0 n0 Q (pc) lo (.int i :: .ref (q 1) :: st) (u) := by
  subst hi
  intro hc ls H locs h1 h2 h3 h4
  obtain ⟨⟨hx, hb, hml, hown, hts⟩, hK, hr, hlk, hA⟩ := id hc
  have hcl : (nI n).toNatClampNeg = n := nI_clamp (by omega)
  have hk := kk hc ls H locs h1 h2 h3 h4
  rw [← hcl] at hk
  exact va_iald hx hb hK h2 1 0 rfl rfl (vp_in_nI hn (by decide)) hd hk
theorem xs_low {i x : Int32} {n : Nat} (hi : i = nI n) (hn : n < 6) (hd : decode b pc = .ok (.iastore, 1)) (kk : V p l e R s m args below meth c R_X wX b nL ret D (xty k) A0 (xw q k) k0 n0 Q (pc + 1) lo (st) ((u.1, updA u.2 1 n (x)))) : V p l e R s m args below meth c R_X wX b nL ret D (xty k) A0 (xw q k) k0 n0 Q (pc) lo (.int x :: .int i :: .ref (q 1) :: st) (u) := by
  subst hi
  intro hc ls H locs h1 h2 h3 h4
  obtain ⟨⟨hx, hb, hml, hown, hts⟩, hK, hr, hlk, hA⟩ := id hc
  have hcl : (nI n).toNatClampNeg = n := nI_clamp (by omega)
  refine va_iast hx hb hK h2 h3 h4 1 0 rfl rfl (vp_in_nI hn (by decide)) hd (fun H1 locs1 hP hD hS => ?_)
  rw [hcl] at hP hD
  exact kk hc ls H1 locs1 h1 hP hD hS
theorem xl_first {i : Int32} {n : Nat} (hi : i = nI n) (hn : n < 6) (hd : decode b pc = .ok (.iaload, 1)) (kk : V p l e R s m args below meth c R_X wX b nL ret D (xty k) A0 (xw q k) k0 n0 Q (pc + 1) lo (.int (u.2 2 n) :: st) (u)) : V p l e R s m args below meth c R_X wX b nL ret D (xty k) A0 (xw q k) k0 n0 Q (pc) lo (.int i :: .ref (q 2) :: st) (u) := by
  subst hi
  intro hc ls H locs h1 h2 h3 h4
  obtain ⟨⟨hx, hb, hml, hown, hts⟩, hK, hr, hlk, hA⟩ := id hc
  have hcl : (nI n).toNatClampNeg = n := nI_clamp (by omega)
  have hk := kk hc ls H locs h1 h2 h3 h4
  rw [← hcl] at hk
  exact va_iald hx hb hK h2 2 1 rfl rfl (vp_in_nI hn (by decide)) hd hk
theorem xs_first {i x : Int32} {n : Nat} (hi : i = nI n) (hn : n < 6) (hd : decode b pc = .ok (.iastore, 1)) (kk : V p l e R s m args below meth c R_X wX b nL ret D (xty k) A0 (xw q k) k0 n0 Q (pc + 1) lo (st) ((u.1, updA u.2 2 n (x)))) : V p l e R s m args below meth c R_X wX b nL ret D (xty k) A0 (xw q k) k0 n0 Q (pc) lo (.int x :: .int i :: .ref (q 2) :: st) (u) := by
  subst hi
  intro hc ls H locs h1 h2 h3 h4
  obtain ⟨⟨hx, hb, hml, hown, hts⟩, hK, hr, hlk, hA⟩ := id hc
  have hcl : (nI n).toNatClampNeg = n := nI_clamp (by omega)
  refine va_iast hx hb hK h2 h3 h4 2 1 rfl rfl (vp_in_nI hn (by decide)) hd (fun H1 locs1 hP hD hS => ?_)
  rw [hcl] at hP hD
  exact kk hc ls H1 locs1 h1 hP hD hS
theorem xl_last {i : Int32} {n : Nat} (hi : i = nI n) (hn : n < 6) (hd : decode b pc = .ok (.iaload, 1)) (kk : V p l e R s m args below meth c R_X wX b nL ret D (xty k) A0 (xw q k) k0 n0 Q (pc + 1) lo (.int (u.2 3 n) :: st) (u)) : V p l e R s m args below meth c R_X wX b nL ret D (xty k) A0 (xw q k) k0 n0 Q (pc) lo (.int i :: .ref (q 3) :: st) (u) := by
  subst hi
  intro hc ls H locs h1 h2 h3 h4
  obtain ⟨⟨hx, hb, hml, hown, hts⟩, hK, hr, hlk, hA⟩ := id hc
  have hcl : (nI n).toNatClampNeg = n := nI_clamp (by omega)
  have hk := kk hc ls H locs h1 h2 h3 h4
  rw [← hcl] at hk
  exact va_iald hx hb hK h2 3 2 rfl rfl (vp_in_nI hn (by decide)) hd hk
theorem xs_last {i x : Int32} {n : Nat} (hi : i = nI n) (hn : n < 6) (hd : decode b pc = .ok (.iastore, 1)) (kk : V p l e R s m args below meth c R_X wX b nL ret D (xty k) A0 (xw q k) k0 n0 Q (pc + 1) lo (st) ((u.1, updA u.2 3 n (x)))) : V p l e R s m args below meth c R_X wX b nL ret D (xty k) A0 (xw q k) k0 n0 Q (pc) lo (.int x :: .int i :: .ref (q 3) :: st) (u) := by
  subst hi
  intro hc ls H locs h1 h2 h3 h4
  obtain ⟨⟨hx, hb, hml, hown, hts⟩, hK, hr, hlk, hA⟩ := id hc
  have hcl : (nI n).toNatClampNeg = n := nI_clamp (by omega)
  refine va_iast hx hb hK h2 h3 h4 3 2 rfl rfl (vp_in_nI hn (by decide)) hd (fun H1 locs1 hP hD hS => ?_)
  rw [hcl] at hP hD
  exact kk hc ls H1 locs1 h1 hP hD hS
theorem xl_empty {i : Int32} {n : Nat} (hi : i = nI n) (hn : n < 6) (hd : decode b pc = .ok (.baload, 1)) (kk : V p l e R s m args below meth c R_X wX b nL ret D (xty k) A0 (xw q k) k0 n0 Q (pc + 1) lo (.int (u.2 4 n) :: st) (u)) : V p l e R s m args below meth c R_X wX b nL ret D (xty k) A0 (xw q k) k0 n0 Q (pc) lo (.int i :: .ref (q 4) :: st) (u) := by
  subst hi
  intro hc ls H locs h1 h2 h3 h4
  obtain ⟨⟨hx, hb, hml, hown, hts⟩, hK, hr, hlk, hA⟩ := id hc
  have hcl : (nI n).toNatClampNeg = n := nI_clamp (by omega)
  have hk := kk hc ls H locs h1 h2 h3 h4
  rw [← hcl] at hk
  exact va_zald hx hb hK h2 4 3 rfl rfl (vp_in_nI hn (by decide)) hd hk
theorem xs_empty {i x : Int32} {n : Nat} (hi : i = nI n) (hn : n < 6) (hd : decode b pc = .ok (.bastore, 1)) (kk : V p l e R s m args below meth c R_X wX b nL ret D (xty k) A0 (xw q k) k0 n0 Q (pc + 1) lo (st) ((u.1, updA u.2 4 n (x &&& 1)))) : V p l e R s m args below meth c R_X wX b nL ret D (xty k) A0 (xw q k) k0 n0 Q (pc) lo (.int x :: .int i :: .ref (q 4) :: st) (u) := by
  subst hi
  intro hc ls H locs h1 h2 h3 h4
  obtain ⟨⟨hx, hb, hml, hown, hts⟩, hK, hr, hlk, hA⟩ := id hc
  have hcl : (nI n).toNatClampNeg = n := nI_clamp (by omega)
  refine va_zast hx hb hK h2 h3 h4 4 3 rfl rfl (vp_in_nI hn (by decide)) hd (fun H1 locs1 hP hD hS => ?_)
  rw [hcl] at hP hD
  exact kk hc ls H1 locs1 h1 hP hD hS
theorem xl_leftOf {i : Int32} {n : Nat} (hi : i = nI n) (hn : n < 9) (hd : decode b pc = .ok (.iaload, 1)) (kk : V p l e R s m args below meth c R_X wX b nL ret D (xty k) A0 (xw q k) k0 n0 Q (pc + 1) lo (.int (u.2 5 n) :: st) (u)) : V p l e R s m args below meth c R_X wX b nL ret D (xty k) A0 (xw q k) k0 n0 Q (pc) lo (.int i :: .ref (q 5) :: st) (u) := by
  subst hi
  intro hc ls H locs h1 h2 h3 h4
  obtain ⟨⟨hx, hb, hml, hown, hts⟩, hK, hr, hlk, hA⟩ := id hc
  have hcl : (nI n).toNatClampNeg = n := nI_clamp (by omega)
  have hk := kk hc ls H locs h1 h2 h3 h4
  rw [← hcl] at hk
  exact va_iald hx hb hK h2 5 4 rfl rfl (vp_in_nI hn (by decide)) hd hk
theorem xs_leftOf {i x : Int32} {n : Nat} (hi : i = nI n) (hn : n < 9) (hd : decode b pc = .ok (.iastore, 1)) (kk : V p l e R s m args below meth c R_X wX b nL ret D (xty k) A0 (xw q k) k0 n0 Q (pc + 1) lo (st) ((u.1, updA u.2 5 n (x)))) : V p l e R s m args below meth c R_X wX b nL ret D (xty k) A0 (xw q k) k0 n0 Q (pc) lo (.int x :: .int i :: .ref (q 5) :: st) (u) := by
  subst hi
  intro hc ls H locs h1 h2 h3 h4
  obtain ⟨⟨hx, hb, hml, hown, hts⟩, hK, hr, hlk, hA⟩ := id hc
  have hcl : (nI n).toNatClampNeg = n := nI_clamp (by omega)
  refine va_iast hx hb hK h2 h3 h4 5 4 rfl rfl (vp_in_nI hn (by decide)) hd (fun H1 locs1 hP hD hS => ?_)
  rw [hcl] at hP hD
  exact kk hc ls H1 locs1 h1 hP hD hS
theorem xl_rightOf {i : Int32} {n : Nat} (hi : i = nI n) (hn : n < 9) (hd : decode b pc = .ok (.iaload, 1)) (kk : V p l e R s m args below meth c R_X wX b nL ret D (xty k) A0 (xw q k) k0 n0 Q (pc + 1) lo (.int (u.2 6 n) :: st) (u)) : V p l e R s m args below meth c R_X wX b nL ret D (xty k) A0 (xw q k) k0 n0 Q (pc) lo (.int i :: .ref (q 6) :: st) (u) := by
  subst hi
  intro hc ls H locs h1 h2 h3 h4
  obtain ⟨⟨hx, hb, hml, hown, hts⟩, hK, hr, hlk, hA⟩ := id hc
  have hcl : (nI n).toNatClampNeg = n := nI_clamp (by omega)
  have hk := kk hc ls H locs h1 h2 h3 h4
  rw [← hcl] at hk
  exact va_iald hx hb hK h2 6 5 rfl rfl (vp_in_nI hn (by decide)) hd hk
theorem xs_rightOf {i x : Int32} {n : Nat} (hi : i = nI n) (hn : n < 9) (hd : decode b pc = .ok (.iastore, 1)) (kk : V p l e R s m args below meth c R_X wX b nL ret D (xty k) A0 (xw q k) k0 n0 Q (pc + 1) lo (st) ((u.1, updA u.2 6 n (x)))) : V p l e R s m args below meth c R_X wX b nL ret D (xty k) A0 (xw q k) k0 n0 Q (pc) lo (.int x :: .int i :: .ref (q 6) :: st) (u) := by
  subst hi
  intro hc ls H locs h1 h2 h3 h4
  obtain ⟨⟨hx, hb, hml, hown, hts⟩, hK, hr, hlk, hA⟩ := id hc
  have hcl : (nI n).toNatClampNeg = n := nI_clamp (by omega)
  refine va_iast hx hb hK h2 h3 h4 6 5 rfl rfl (vp_in_nI hn (by decide)) hd (fun H1 locs1 hP hD hS => ?_)
  rw [hcl] at hP hD
  exact kk hc ls H1 locs1 h1 hP hD hS
theorem xl_follow {i : Int32} {n : Nat} (hi : i = nI n) (hn : n < 9) (hd : decode b pc = .ok (.iaload, 1)) (kk : V p l e R s m args below meth c R_X wX b nL ret D (xty k) A0 (xw q k) k0 n0 Q (pc + 1) lo (.int (u.2 7 n) :: st) (u)) : V p l e R s m args below meth c R_X wX b nL ret D (xty k) A0 (xw q k) k0 n0 Q (pc) lo (.int i :: .ref (q 7) :: st) (u) := by
  subst hi
  intro hc ls H locs h1 h2 h3 h4
  obtain ⟨⟨hx, hb, hml, hown, hts⟩, hK, hr, hlk, hA⟩ := id hc
  have hcl : (nI n).toNatClampNeg = n := nI_clamp (by omega)
  have hk := kk hc ls H locs h1 h2 h3 h4
  rw [← hcl] at hk
  exact va_iald hx hb hK h2 7 6 rfl rfl (vp_in_nI hn (by decide)) hd hk
theorem xs_follow {i x : Int32} {n : Nat} (hi : i = nI n) (hn : n < 9) (hd : decode b pc = .ok (.iastore, 1)) (kk : V p l e R s m args below meth c R_X wX b nL ret D (xty k) A0 (xw q k) k0 n0 Q (pc + 1) lo (st) ((u.1, updA u.2 7 n (x)))) : V p l e R s m args below meth c R_X wX b nL ret D (xty k) A0 (xw q k) k0 n0 Q (pc) lo (.int x :: .int i :: .ref (q 7) :: st) (u) := by
  subst hi
  intro hc ls H locs h1 h2 h3 h4
  obtain ⟨⟨hx, hb, hml, hown, hts⟩, hK, hr, hlk, hA⟩ := id hc
  have hcl : (nI n).toNatClampNeg = n := nI_clamp (by omega)
  refine va_iast hx hb hK h2 h3 h4 7 6 rfl rfl (vp_in_nI hn (by decide)) hd (fun H1 locs1 hP hD hS => ?_)
  rw [hcl] at hP hD
  exact kk hc ls H1 locs1 h1 hP hD hS
theorem xl_useFollow {i : Int32} {n : Nat} (hi : i = nI n) (hn : n < 9) (hd : decode b pc = .ok (.iaload, 1)) (kk : V p l e R s m args below meth c R_X wX b nL ret D (xty k) A0 (xw q k) k0 n0 Q (pc + 1) lo (.int (u.2 8 n) :: st) (u)) : V p l e R s m args below meth c R_X wX b nL ret D (xty k) A0 (xw q k) k0 n0 Q (pc) lo (.int i :: .ref (q 8) :: st) (u) := by
  subst hi
  intro hc ls H locs h1 h2 h3 h4
  obtain ⟨⟨hx, hb, hml, hown, hts⟩, hK, hr, hlk, hA⟩ := id hc
  have hcl : (nI n).toNatClampNeg = n := nI_clamp (by omega)
  have hk := kk hc ls H locs h1 h2 h3 h4
  rw [← hcl] at hk
  exact va_iald hx hb hK h2 8 7 rfl rfl (vp_in_nI hn (by decide)) hd hk
theorem xs_useFollow {i x : Int32} {n : Nat} (hi : i = nI n) (hn : n < 9) (hd : decode b pc = .ok (.iastore, 1)) (kk : V p l e R s m args below meth c R_X wX b nL ret D (xty k) A0 (xw q k) k0 n0 Q (pc + 1) lo (st) ((u.1, updA u.2 8 n (x)))) : V p l e R s m args below meth c R_X wX b nL ret D (xty k) A0 (xw q k) k0 n0 Q (pc) lo (.int x :: .int i :: .ref (q 8) :: st) (u) := by
  subst hi
  intro hc ls H locs h1 h2 h3 h4
  obtain ⟨⟨hx, hb, hml, hown, hts⟩, hK, hr, hlk, hA⟩ := id hc
  have hcl : (nI n).toNatClampNeg = n := nI_clamp (by omega)
  refine va_iast hx hb hK h2 h3 h4 8 7 rfl rfl (vp_in_nI hn (by decide)) hd (fun H1 locs1 hP hD hS => ?_)
  rw [hcl] at hP hD
  exact kk hc ls H1 locs1 h1 hP hD hS
theorem xl_fits {i : Int32} {n : Nat} (hi : i = nI n) (hn : n < 9) (hd : decode b pc = .ok (.iaload, 1)) (kk : V p l e R s m args below meth c R_X wX b nL ret D (xty k) A0 (xw q k) k0 n0 Q (pc + 1) lo (.int (u.2 9 n) :: st) (u)) : V p l e R s m args below meth c R_X wX b nL ret D (xty k) A0 (xw q k) k0 n0 Q (pc) lo (.int i :: .ref (q 9) :: st) (u) := by
  subst hi
  intro hc ls H locs h1 h2 h3 h4
  obtain ⟨⟨hx, hb, hml, hown, hts⟩, hK, hr, hlk, hA⟩ := id hc
  have hcl : (nI n).toNatClampNeg = n := nI_clamp (by omega)
  have hk := kk hc ls H locs h1 h2 h3 h4
  rw [← hcl] at hk
  exact va_iald hx hb hK h2 9 8 rfl rfl (vp_in_nI hn (by decide)) hd hk
theorem xs_fits {i x : Int32} {n : Nat} (hi : i = nI n) (hn : n < 9) (hd : decode b pc = .ok (.iastore, 1)) (kk : V p l e R s m args below meth c R_X wX b nL ret D (xty k) A0 (xw q k) k0 n0 Q (pc + 1) lo (st) ((u.1, updA u.2 9 n (x)))) : V p l e R s m args below meth c R_X wX b nL ret D (xty k) A0 (xw q k) k0 n0 Q (pc) lo (.int x :: .int i :: .ref (q 9) :: st) (u) := by
  subst hi
  intro hc ls H locs h1 h2 h3 h4
  obtain ⟨⟨hx, hb, hml, hown, hts⟩, hK, hr, hlk, hA⟩ := id hc
  have hcl : (nI n).toNatClampNeg = n := nI_clamp (by omega)
  refine va_iast hx hb hK h2 h3 h4 9 8 rfl rfl (vp_in_nI hn (by decide)) hd (fun H1 locs1 hP hD hS => ?_)
  rw [hcl] at hP hD
  exact kk hc ls H1 locs1 h1 hP hD hS
theorem xl_row {i : Int32} {n : Nat} (hi : i = nI n) (hn : n < 31) (hd : decode b pc = .ok (.iaload, 1)) (kk : V p l e R s m args below meth c R_X wX b nL ret D (xty k) A0 (xw q k) k0 n0 Q (pc + 1) lo (.int (u.2 10 n) :: st) (u)) : V p l e R s m args below meth c R_X wX b nL ret D (xty k) A0 (xw q k) k0 n0 Q (pc) lo (.int i :: .ref (q 10) :: st) (u) := by
  subst hi
  intro hc ls H locs h1 h2 h3 h4
  obtain ⟨⟨hx, hb, hml, hown, hts⟩, hK, hr, hlk, hA⟩ := id hc
  have hcl : (nI n).toNatClampNeg = n := nI_clamp (by omega)
  have hk := kk hc ls H locs h1 h2 h3 h4
  rw [← hcl] at hk
  exact va_iald hx hb hK h2 10 9 rfl rfl (vp_in_nI hn (by decide)) hd hk
theorem xs_row {i x : Int32} {n : Nat} (hi : i = nI n) (hn : n < 31) (hd : decode b pc = .ok (.iastore, 1)) (kk : V p l e R s m args below meth c R_X wX b nL ret D (xty k) A0 (xw q k) k0 n0 Q (pc + 1) lo (st) ((u.1, updA u.2 10 n (x)))) : V p l e R s m args below meth c R_X wX b nL ret D (xty k) A0 (xw q k) k0 n0 Q (pc) lo (.int x :: .int i :: .ref (q 10) :: st) (u) := by
  subst hi
  intro hc ls H locs h1 h2 h3 h4
  obtain ⟨⟨hx, hb, hml, hown, hts⟩, hK, hr, hlk, hA⟩ := id hc
  have hcl : (nI n).toNatClampNeg = n := nI_clamp (by omega)
  refine va_iast hx hb hK h2 h3 h4 10 9 rfl rfl (vp_in_nI hn (by decide)) hd (fun H1 locs1 hP hD hS => ?_)
  rw [hcl] at hP hD
  exact kk hc ls H1 locs1 h1 hP hD hS
theorem xl_reach {i : Int32} {n : Nat} (hi : i = nI n) (hn : n < 155) (hd : decode b pc = .ok (.iaload, 1)) (kk : V p l e R s m args below meth c R_X wX b nL ret D (xty k) A0 (xw q k) k0 n0 Q (pc + 1) lo (.int (u.2 11 n) :: st) (u)) : V p l e R s m args below meth c R_X wX b nL ret D (xty k) A0 (xw q k) k0 n0 Q (pc) lo (.int i :: .ref (q 11) :: st) (u) := by
  subst hi
  intro hc ls H locs h1 h2 h3 h4
  obtain ⟨⟨hx, hb, hml, hown, hts⟩, hK, hr, hlk, hA⟩ := id hc
  have hcl : (nI n).toNatClampNeg = n := nI_clamp (by omega)
  have hk := kk hc ls H locs h1 h2 h3 h4
  rw [← hcl] at hk
  exact va_iald hx hb hK h2 11 10 rfl rfl (vp_in_nI hn (by decide)) hd hk
theorem xs_reach {i x : Int32} {n : Nat} (hi : i = nI n) (hn : n < 155) (hd : decode b pc = .ok (.iastore, 1)) (kk : V p l e R s m args below meth c R_X wX b nL ret D (xty k) A0 (xw q k) k0 n0 Q (pc + 1) lo (st) ((u.1, updA u.2 11 n (x)))) : V p l e R s m args below meth c R_X wX b nL ret D (xty k) A0 (xw q k) k0 n0 Q (pc) lo (.int x :: .int i :: .ref (q 11) :: st) (u) := by
  subst hi
  intro hc ls H locs h1 h2 h3 h4
  obtain ⟨⟨hx, hb, hml, hown, hts⟩, hK, hr, hlk, hA⟩ := id hc
  have hcl : (nI n).toNatClampNeg = n := nI_clamp (by omega)
  refine va_iast hx hb hK h2 h3 h4 11 10 rfl rfl (vp_in_nI hn (by decide)) hd (fun H1 locs1 hP hD hS => ?_)
  rw [hcl] at hP hD
  exact kk hc ls H1 locs1 h1 hP hD hS
theorem xl_lengthOf {i : Int32} {n : Nat} (hi : i = nI n) (hn : n < 31) (hd : decode b pc = .ok (.iaload, 1)) (kk : V p l e R s m args below meth c R_X wX b nL ret D (xty k) A0 (xw q k) k0 n0 Q (pc + 1) lo (.int (u.2 12 n) :: st) (u)) : V p l e R s m args below meth c R_X wX b nL ret D (xty k) A0 (xw q k) k0 n0 Q (pc) lo (.int i :: .ref (q 12) :: st) (u) := by
  subst hi
  intro hc ls H locs h1 h2 h3 h4
  obtain ⟨⟨hx, hb, hml, hown, hts⟩, hK, hr, hlk, hA⟩ := id hc
  have hcl : (nI n).toNatClampNeg = n := nI_clamp (by omega)
  have hk := kk hc ls H locs h1 h2 h3 h4
  rw [← hcl] at hk
  exact va_iald hx hb hK h2 12 11 rfl rfl (vp_in_nI hn (by decide)) hd hk
theorem xs_lengthOf {i x : Int32} {n : Nat} (hi : i = nI n) (hn : n < 31) (hd : decode b pc = .ok (.iastore, 1)) (kk : V p l e R s m args below meth c R_X wX b nL ret D (xty k) A0 (xw q k) k0 n0 Q (pc + 1) lo (st) ((u.1, updA u.2 12 n (x)))) : V p l e R s m args below meth c R_X wX b nL ret D (xty k) A0 (xw q k) k0 n0 Q (pc) lo (.int x :: .int i :: .ref (q 12) :: st) (u) := by
  subst hi
  intro hc ls H locs h1 h2 h3 h4
  obtain ⟨⟨hx, hb, hml, hown, hts⟩, hK, hr, hlk, hA⟩ := id hc
  have hcl : (nI n).toNatClampNeg = n := nI_clamp (by omega)
  refine va_iast hx hb hK h2 h3 h4 12 11 rfl rfl (vp_in_nI hn (by decide)) hd (fun H1 locs1 hP hD hS => ?_)
  rw [hcl] at hP hD
  exact kk hc ls H1 locs1 h1 hP hD hS
end HX
def mf (q : Nat → Nat) (S : Nat → Int32) : List Value := [.ref (q 1), .int (S 1), .int (S 2), .int (S 3)]
def mw (q : Nat → Nat) (k : Nat → ClassId) (u : XS) : va_W := [(q 0, .inr (1, mf q u.1)), (q 1, .inl (k 1, 248, .inl (u.2 1)))]
def mty (k : Nat → ClassId) : List (ClassId × FieldType) := [(k 1, .int)]
section HM
variable {p : Program} {l : Launch} {e : Env} {R : Room} {s : State} {m : MethodId} {args : Array Value} {below : List Frame} {meth : Method} {c : Code} {b : ByteArray} {nL : Nat} {ret : Option FieldType} {D : va_G} {q : Nat → Nat} {k : Nat → ClassId} {A0 : Nat → Prop} {k0 n0 : Nat} {Q : State → Prop} {pc : Nat} {lo : List (Option Value)} {st : List Value} {u : XS}

theorem mg_sets (hd : decode b pc = .ok (.getfield 7, 3)) (kk : V p l e R s m args below meth c R_M wM b nL ret D (mty k) A0 (mw q k) k0 n0 Q (pc + 3) lo (.ref (q 1) :: st) (u)) : V p l e R s m args below meth c R_M wM b nL ret D (mty k) A0 (mw q k) k0 n0 Q (pc) lo (.ref (q 0) :: st) (u) := by
  intro hc ls H locs h1 h2 h3 h4
  obtain ⟨⟨hx, hb, hml, hown, hts⟩, hK, hr, hlk, hA⟩ := id hc
  exact va_get (D := D) (ci := 1) (v := .ref (q 1)) (C := R_M) (T := F_M) (N := 4) hx hb hts i_M hown hK h2 0 rfl rfl 0 (by decide) (hts _ kM_fl_sets) (fun _ h9 => h9) rfl hd (kk hc ls H locs h1 h2 h3 h4)
theorem mg_depth (hd : decode b pc = .ok (.getfield 21, 3)) (kk : V p l e R s m args below meth c R_M wM b nL ret D (mty k) A0 (mw q k) k0 n0 Q (pc + 3) lo (.int (u.1 1) :: st) (u)) : V p l e R s m args below meth c R_M wM b nL ret D (mty k) A0 (mw q k) k0 n0 Q (pc) lo (.ref (q 0) :: st) (u) := by
  intro hc ls H locs h1 h2 h3 h4
  obtain ⟨⟨hx, hb, hml, hown, hts⟩, hK, hr, hlk, hA⟩ := id hc
  exact va_get (D := D) (ci := 1) (v := .int (u.1 1)) (C := R_M) (T := F_M) (N := 4) hx hb hts i_M hown hK h2 0 rfl rfl 1 (by decide) (hts _ kM_fl_depth) (fun _ h9 => h9) rfl hd (kk hc ls H locs h1 h2 h3 h4)
theorem mp_depth {v : Int32} (hd : decode b pc = .ok (.putfield 21, 3)) (kk : V p l e R s m args below meth c R_M wM b nL ret D (mty k) A0 (mw q k) k0 n0 Q (pc + 3) lo (st) ((upd u.1 1 v, u.2))) : V p l e R s m args below meth c R_M wM b nL ret D (mty k) A0 (mw q k) k0 n0 Q (pc) lo (.int v :: .ref (q 0) :: st) (u) := by
  intro hc ls H locs h1 h2 h3 h4
  obtain ⟨⟨hx, hb, hml, hown, hts⟩, hK, hr, hlk, hA⟩ := id hc
  exact va_put (D := D) (ci := 1) (v := .int v) (ty := .int) (C := R_M) (T := F_M) (N := 4) hx hb hts i_M t_M t_M_ok n_M hown hK h2 h3 h4 0 rfl rfl 1 (by decide) (hts _ kM_fl_depth) (fun _ h9 => h9) rfl (by decide +kernel) rfl rfl (Nat.le_of_ble_eq_true rfl) hd (fun H1 locs1 hP hD hS => kk hc ls H1 locs1 h1 hP hD hS)
theorem mg_steps (hd : decode b pc = .ok (.getfield 17, 3)) (kk : V p l e R s m args below meth c R_M wM b nL ret D (mty k) A0 (mw q k) k0 n0 Q (pc + 3) lo (.int (u.1 2) :: st) (u)) : V p l e R s m args below meth c R_M wM b nL ret D (mty k) A0 (mw q k) k0 n0 Q (pc) lo (.ref (q 0) :: st) (u) := by
  intro hc ls H locs h1 h2 h3 h4
  obtain ⟨⟨hx, hb, hml, hown, hts⟩, hK, hr, hlk, hA⟩ := id hc
  exact va_get (D := D) (ci := 1) (v := .int (u.1 2)) (C := R_M) (T := F_M) (N := 4) hx hb hts i_M hown hK h2 0 rfl rfl 2 (by decide) (hts _ kM_fl_steps) (fun _ h9 => h9) rfl hd (kk hc ls H locs h1 h2 h3 h4)
theorem mp_steps {v : Int32} (hd : decode b pc = .ok (.putfield 17, 3)) (kk : V p l e R s m args below meth c R_M wM b nL ret D (mty k) A0 (mw q k) k0 n0 Q (pc + 3) lo (st) ((upd u.1 2 v, u.2))) : V p l e R s m args below meth c R_M wM b nL ret D (mty k) A0 (mw q k) k0 n0 Q (pc) lo (.int v :: .ref (q 0) :: st) (u) := by
  intro hc ls H locs h1 h2 h3 h4
  obtain ⟨⟨hx, hb, hml, hown, hts⟩, hK, hr, hlk, hA⟩ := id hc
  exact va_put (D := D) (ci := 1) (v := .int v) (ty := .int) (C := R_M) (T := F_M) (N := 4) hx hb hts i_M t_M t_M_ok n_M hown hK h2 h3 h4 0 rfl rfl 2 (by decide) (hts _ kM_fl_steps) (fun _ h9 => h9) rfl (by decide +kernel) rfl rfl (Nat.le_of_ble_eq_true rfl) hd (fun H1 locs1 hP hD hS => kk hc ls H1 locs1 h1 hP hD hS)
theorem mg_pushed (hd : decode b pc = .ok (.getfield 24, 3)) (kk : V p l e R s m args below meth c R_M wM b nL ret D (mty k) A0 (mw q k) k0 n0 Q (pc + 3) lo (.int (u.1 3) :: st) (u)) : V p l e R s m args below meth c R_M wM b nL ret D (mty k) A0 (mw q k) k0 n0 Q (pc) lo (.ref (q 0) :: st) (u) := by
  intro hc ls H locs h1 h2 h3 h4
  obtain ⟨⟨hx, hb, hml, hown, hts⟩, hK, hr, hlk, hA⟩ := id hc
  exact va_get (D := D) (ci := 1) (v := .int (u.1 3)) (C := R_M) (T := F_M) (N := 4) hx hb hts i_M hown hK h2 0 rfl rfl 3 (by decide) (hts _ kM_fl_pushed) (fun _ h9 => h9) rfl hd (kk hc ls H locs h1 h2 h3 h4)
theorem mp_pushed {v : Int32} (hd : decode b pc = .ok (.putfield 24, 3)) (kk : V p l e R s m args below meth c R_M wM b nL ret D (mty k) A0 (mw q k) k0 n0 Q (pc + 3) lo (st) ((upd u.1 3 v, u.2))) : V p l e R s m args below meth c R_M wM b nL ret D (mty k) A0 (mw q k) k0 n0 Q (pc) lo (.int v :: .ref (q 0) :: st) (u) := by
  intro hc ls H locs h1 h2 h3 h4
  obtain ⟨⟨hx, hb, hml, hown, hts⟩, hK, hr, hlk, hA⟩ := id hc
  exact va_put (D := D) (ci := 1) (v := .int v) (ty := .int) (C := R_M) (T := F_M) (N := 4) hx hb hts i_M t_M t_M_ok n_M hown hK h2 h3 h4 0 rfl rfl 3 (by decide) (hts _ kM_fl_pushed) (fun _ h9 => h9) rfl (by decide +kernel) rfl rfl (Nat.le_of_ble_eq_true rfl) hd (fun H1 locs1 hP hD hS => kk hc ls H1 locs1 h1 hP hD hS)
theorem ml_sets {i : Int32} {n : Nat} (hi : i = nI n) (hn : n < 248) (hd : decode b pc = .ok (.iaload, 1)) (kk : V p l e R s m args below meth c R_M wM b nL ret D (mty k) A0 (mw q k) k0 n0 Q (pc + 1) lo (.int (u.2 1 n) :: st) (u)) : V p l e R s m args below meth c R_M wM b nL ret D (mty k) A0 (mw q k) k0 n0 Q (pc) lo (.int i :: .ref (q 1) :: st) (u) := by
  subst hi
  intro hc ls H locs h1 h2 h3 h4
  obtain ⟨⟨hx, hb, hml, hown, hts⟩, hK, hr, hlk, hA⟩ := id hc
  have hcl : (nI n).toNatClampNeg = n := nI_clamp (by omega)
  have hk := kk hc ls H locs h1 h2 h3 h4
  rw [← hcl] at hk
  exact va_iald hx hb hK h2 1 0 rfl rfl (vp_in_nI hn (by decide)) hd hk
theorem ms_sets {i x : Int32} {n : Nat} (hi : i = nI n) (hn : n < 248) (hd : decode b pc = .ok (.iastore, 1)) (kk : V p l e R s m args below meth c R_M wM b nL ret D (mty k) A0 (mw q k) k0 n0 Q (pc + 1) lo (st) ((u.1, updA u.2 1 n (x)))) : V p l e R s m args below meth c R_M wM b nL ret D (mty k) A0 (mw q k) k0 n0 Q (pc) lo (.int x :: .int i :: .ref (q 1) :: st) (u) := by
  subst hi
  intro hc ls H locs h1 h2 h3 h4
  obtain ⟨⟨hx, hb, hml, hown, hts⟩, hK, hr, hlk, hA⟩ := id hc
  have hcl : (nI n).toNatClampNeg = n := nI_clamp (by omega)
  refine va_iast hx hb hK h2 h3 h4 1 0 rfl rfl (vp_in_nI hn (by decide)) hd (fun H1 locs1 hP hD hS => ?_)
  rw [hcl] at hP hD
  exact kk hc ls H1 locs1 h1 hP hD hS
end HM
abbrev rm_X_pair : Room := { frames := 0, cells := 0, slots := 0, locals := 0 }
abbrev C_X_pair (As : List Value) (u : XS) (post : Int32 → XS → Prop) : Prop := Mi wX xw xty y_X_pair b_X_pair 5 (some .int) rm_X_pair As u post
theorem e_X_pair {a1 a2 : Int32} {u : XS} {post : Int32 → XS → Prop} (body : ∀ (p : Program) (l : Launch) (e : Env) (s : State) (m : MethodId) (args : Array Value) (below : List Frame) (meth : Method) (c : Code) (D : va_G) (q : Nat → Nat) (k : Nat → ClassId) (A0 : Nat → Prop), V p l e rm_X_pair s m args below meth c R_X wX b_X_pair 5 (some .int) D (xty k) A0 (xw q k) 0 0 (MQ below (va_Qi post (vB D (xty k) (xw q k) A0) A0) args s 0 0 A0) (0) ([some (.ref (q 0)), some (.int a1), some (.int a2), none, none]) ([]) (u)) : C_X_pair [.int a1, .int a2] u post := Mi.of (own := R_X) (by decide +kernel) rfl (by simp [Value.category]) (Nat.le_of_ble_eq_true rfl) body
abbrev rm_X_refused : Room := { frames := 0, cells := 0, slots := 0, locals := 0 }
abbrev C_X_refused (As : List Value) (u : XS) (post : Int32 → XS → Prop) : Prop := Mi wX xw xty y_X_refused b_X_refused 2 (some .int) rm_X_refused As u post
theorem e_X_refused {a1 : Int32} {u : XS} {post : Int32 → XS → Prop} (body : ∀ (p : Program) (l : Launch) (e : Env) (s : State) (m : MethodId) (args : Array Value) (below : List Frame) (meth : Method) (c : Code) (D : va_G) (q : Nat → Nat) (k : Nat → ClassId) (A0 : Nat → Prop), V p l e rm_X_refused s m args below meth c R_X wX b_X_refused 2 (some .int) D (xty k) A0 (xw q k) 0 0 (MQ below (va_Qi post (vB D (xty k) (xw q k) A0) A0) args s 0 0 A0) (0) ([some (.ref (q 0)), some (.int a1)]) ([]) (u)) : C_X_refused [.int a1] u post := Mi.of (own := R_X) (by decide +kernel) rfl (by simp [Value.category]) (Nat.le_of_ble_eq_true rfl) body
theorem hy_X_refused : y_X_refused.cls = R_X ∧ y_X_refused.cls ≠ "java/lang/invoke/MethodHandle" ∧ y_X_refused.cls ≠ "java/lang/invoke/VarHandle" ∧ (parseMethodDescriptor y_X_refused.desc).map (fun d => d.parameters.length) = some 1 := by decide +kernel
section
variable {p : Program} {l : Launch} {e : Env} {R : Room} {s : State} {m : MethodId} {args : Array Value} {below : List Frame} {meth : Method} {c : Code} {b : ByteArray} {nL : Nat} {ret : Option FieldType} {D : va_G} {q : Nat → Nat} {k : Nat → ClassId} {A0 : Nat → Prop} {k0 n0 : Nat} {Q : State → Prop} {pc : Nat} {lo : List (Option Value)} {st : List Value} {u : XS}

theorem v_X_refused {a1 : Int32} {post : Int32 → XS → Prop} (hM : C_X_refused [.int a1] u post) (hR : 0 + 1 ≤ R.frames ∧ 8 + (2 + 11) + 0 ≤ R.locals) (hrest : (st.map fun v => v.category).sum ≤ 8) (hd : decode b pc = .ok (.invokevirtual 60, 3)) (kk : ∀ (r : Int32) (u2 : XS), post r u2 → V p l e R s m args below meth c R_X wX b nL ret D (xty k) A0 (xw q k) 0 0 Q (pc + 3) lo (.int r :: st) (u2)) : V p l e R s m args below meth c R_X wX b nL ret D (xty k) A0 (xw q k) 0 0 Q (pc) lo (.int a1 :: .ref (q 0) :: st) (u) :=
  V_calli (rest := st) hM g_X_refused hy_X_refused ⟨rfl, rfl⟩ (ci := 0) (T := F_X) (N := 20) rfl rfl hR hrest rfl hd kk
end
abbrev rm_X_link : Room := { frames := 0, cells := 0, slots := 0, locals := 0 }
abbrev C_X_link (As : List Value) (u : XS) (post : XS → Prop) : Prop := Mv wX xw xty y_X_link b_X_link 4 none rm_X_link As u post
theorem e_X_link {a1 a2 : Int32} {u : XS} {post : XS → Prop} (body : ∀ (p : Program) (l : Launch) (e : Env) (s : State) (m : MethodId) (args : Array Value) (below : List Frame) (meth : Method) (c : Code) (D : va_G) (q : Nat → Nat) (k : Nat → ClassId) (A0 : Nat → Prop), V p l e rm_X_link s m args below meth c R_X wX b_X_link 4 none D (xty k) A0 (xw q k) 0 0 (MQ below (va_Qv post (vB D (xty k) (xw q k) A0) A0) args s 0 0 A0) (0) ([some (.ref (q 0)), some (.int a1), some (.int a2), none]) ([]) (u)) : C_X_link [.int a1, .int a2] u post := Mv.of (own := R_X) (by decide +kernel) rfl (by simp [Value.category]) (Nat.le_of_ble_eq_true rfl) body
theorem hy_X_link : y_X_link.cls = R_X ∧ y_X_link.cls ≠ "java/lang/invoke/MethodHandle" ∧ y_X_link.cls ≠ "java/lang/invoke/VarHandle" ∧ (parseMethodDescriptor y_X_link.desc).map (fun d => d.parameters.length) = some 2 := by decide +kernel
section
variable {p : Program} {l : Launch} {e : Env} {R : Room} {s : State} {m : MethodId} {args : Array Value} {below : List Frame} {meth : Method} {c : Code} {b : ByteArray} {nL : Nat} {ret : Option FieldType} {D : va_G} {q : Nat → Nat} {k : Nat → ClassId} {A0 : Nat → Prop} {k0 n0 : Nat} {Q : State → Prop} {pc : Nat} {lo : List (Option Value)} {st : List Value} {u : XS}

theorem v_X_link {a1 a2 : Int32} {post : XS → Prop} (hM : C_X_link [.int a1, .int a2] u post) (hR : 0 + 1 ≤ R.frames ∧ 8 + (4 + 11) + 0 ≤ R.locals) (hrest : (st.map fun v => v.category).sum ≤ 8) (hd : decode b pc = .ok (.invokevirtual 64, 3)) (kk : ∀ (u2 : XS), post u2 → V p l e R s m args below meth c R_X wX b nL ret D (xty k) A0 (xw q k) 0 0 Q (pc + 3) lo (st) (u2)) : V p l e R s m args below meth c R_X wX b nL ret D (xty k) A0 (xw q k) 0 0 Q (pc) lo (.int a2 :: .int a1 :: .ref (q 0) :: st) (u) :=
  V_callv (rest := st) hM g_X_link hy_X_link ⟨rfl, rfl⟩ (ci := 0) (T := F_X) (N := 20) rfl rfl hR hrest rfl hd kk
end
abbrev rm_X_cat : Room := { frames := 1, cells := 0, slots := 0, locals := 23 }
abbrev C_X_cat (As : List Value) (u : XS) (post : Int32 → XS → Prop) : Prop := Mi wX xw xty y_X_cat b_X_cat 4 (some .int) rm_X_cat As u post
theorem e_X_cat {u : XS} {post : Int32 → XS → Prop} (body : ∀ (p : Program) (l : Launch) (e : Env) (s : State) (m : MethodId) (args : Array Value) (below : List Frame) (meth : Method) (c : Code) (D : va_G) (q : Nat → Nat) (k : Nat → ClassId) (A0 : Nat → Prop), V p l e rm_X_cat s m args below meth c R_X wX b_X_cat 4 (some .int) D (xty k) A0 (xw q k) 0 0 (MQ below (va_Qi post (vB D (xty k) (xw q k) A0) A0) args s 0 0 A0) (0) ([some (.ref (q 0)), none, none, none]) ([]) (u)) : C_X_cat [] u post := Mi.of (own := R_X) (by decide +kernel) rfl (by simp [Value.category]) (Nat.le_of_ble_eq_true rfl) body
abbrev rm_X_alt : Room := { frames := 1, cells := 0, slots := 0, locals := 21 }
abbrev C_X_alt (As : List Value) (u : XS) (post : Int32 → XS → Prop) : Prop := Mi wX xw xty y_X_alt b_X_alt 4 (some .int) rm_X_alt As u post
theorem e_X_alt {u : XS} {post : Int32 → XS → Prop} (body : ∀ (p : Program) (l : Launch) (e : Env) (s : State) (m : MethodId) (args : Array Value) (below : List Frame) (meth : Method) (c : Code) (D : va_G) (q : Nat → Nat) (k : Nat → ClassId) (A0 : Nat → Prop), V p l e rm_X_alt s m args below meth c R_X wX b_X_alt 4 (some .int) D (xty k) A0 (xw q k) 0 0 (MQ below (va_Qi post (vB D (xty k) (xw q k) A0) A0) args s 0 0 A0) (0) ([some (.ref (q 0)), none, none, none]) ([]) (u)) : C_X_alt [] u post := Mi.of (own := R_X) (by decide +kernel) rfl (by simp [Value.category]) (Nat.le_of_ble_eq_true rfl) body
abbrev rm_X_star : Room := { frames := 1, cells := 0, slots := 0, locals := 23 }
abbrev C_X_star (As : List Value) (u : XS) (post : Int32 → XS → Prop) : Prop := Mi wX xw xty y_X_star b_X_star 3 (some .int) rm_X_star As u post
theorem e_X_star {u : XS} {post : Int32 → XS → Prop} (body : ∀ (p : Program) (l : Launch) (e : Env) (s : State) (m : MethodId) (args : Array Value) (below : List Frame) (meth : Method) (c : Code) (D : va_G) (q : Nat → Nat) (k : Nat → ClassId) (A0 : Nat → Prop), V p l e rm_X_star s m args below meth c R_X wX b_X_star 3 (some .int) D (xty k) A0 (xw q k) 0 0 (MQ below (va_Qi post (vB D (xty k) (xw q k) A0) A0) args s 0 0 A0) (0) ([some (.ref (q 0)), none, none]) ([]) (u)) : C_X_star [] u post := Mi.of (own := R_X) (by decide +kernel) rfl (by simp [Value.category]) (Nat.le_of_ble_eq_true rfl) body
abbrev rm_X_turn : Room := { frames := 1, cells := 0, slots := 0, locals := 21 }
abbrev C_X_turn (As : List Value) (u : XS) (post : Int32 → XS → Prop) : Prop := Mi wX xw xty y_X_turn b_X_turn 4 (some .int) rm_X_turn As u post
theorem e_X_turn {u : XS} {post : Int32 → XS → Prop} (body : ∀ (p : Program) (l : Launch) (e : Env) (s : State) (m : MethodId) (args : Array Value) (below : List Frame) (meth : Method) (c : Code) (D : va_G) (q : Nat → Nat) (k : Nat → ClassId) (A0 : Nat → Prop), V p l e rm_X_turn s m args below meth c R_X wX b_X_turn 4 (some .int) D (xty k) A0 (xw q k) 0 0 (MQ below (va_Qi post (vB D (xty k) (xw q k) A0) A0) args s 0 0 A0) (0) ([some (.ref (q 0)), none, none, none]) ([]) (u)) : C_X_turn [] u post := Mi.of (own := R_X) (by decide +kernel) rfl (by simp [Value.category]) (Nat.le_of_ble_eq_true rfl) body
abbrev rm_X_steps : Room := { frames := 0, cells := 0, slots := 0, locals := 0 }
abbrev C_X_steps (As : List Value) (u : XS) (post : Int32 → XS → Prop) : Prop := Mi wX xw xty y_X_steps b_X_steps 1 (some .int) rm_X_steps As u post
theorem e_X_steps {u : XS} {post : Int32 → XS → Prop} (body : ∀ (p : Program) (l : Launch) (e : Env) (s : State) (m : MethodId) (args : Array Value) (below : List Frame) (meth : Method) (c : Code) (D : va_G) (q : Nat → Nat) (k : Nat → ClassId) (A0 : Nat → Prop), V p l e rm_X_steps s m args below meth c R_X wX b_X_steps 1 (some .int) D (xty k) A0 (xw q k) 0 0 (MQ below (va_Qi post (vB D (xty k) (xw q k) A0) A0) args s 0 0 A0) (0) ([some (.ref (q 0))]) ([]) (u)) : C_X_steps [] u post := Mi.of (own := R_X) (by decide +kernel) rfl (by simp [Value.category]) (Nat.le_of_ble_eq_true rfl) body
abbrev rm_X_depth : Room := { frames := 0, cells := 0, slots := 0, locals := 0 }
abbrev C_X_depth (As : List Value) (u : XS) (post : Int32 → XS → Prop) : Prop := Mi wX xw xty y_X_depth b_X_depth 1 (some .int) rm_X_depth As u post
theorem e_X_depth {u : XS} {post : Int32 → XS → Prop} (body : ∀ (p : Program) (l : Launch) (e : Env) (s : State) (m : MethodId) (args : Array Value) (below : List Frame) (meth : Method) (c : Code) (D : va_G) (q : Nat → Nat) (k : Nat → ClassId) (A0 : Nat → Prop), V p l e rm_X_depth s m args below meth c R_X wX b_X_depth 1 (some .int) D (xty k) A0 (xw q k) 0 0 (MQ below (va_Qi post (vB D (xty k) (xw q k) A0) A0) args s 0 0 A0) (0) ([some (.ref (q 0))]) ([]) (u)) : C_X_depth [] u post := Mi.of (own := R_X) (by decide +kernel) rfl (by simp [Value.category]) (Nat.le_of_ble_eq_true rfl) body
abbrev rm_X_discard : Room := { frames := 0, cells := 0, slots := 0, locals := 0 }
abbrev C_X_discard (As : List Value) (u : XS) (post : XS → Prop) : Prop := Mv wX xw xty y_X_discard b_X_discard 1 none rm_X_discard As u post
theorem e_X_discard {u : XS} {post : XS → Prop} (body : ∀ (p : Program) (l : Launch) (e : Env) (s : State) (m : MethodId) (args : Array Value) (below : List Frame) (meth : Method) (c : Code) (D : va_G) (q : Nat → Nat) (k : Nat → ClassId) (A0 : Nat → Prop), V p l e rm_X_discard s m args below meth c R_X wX b_X_discard 1 none D (xty k) A0 (xw q k) 0 0 (MQ below (va_Qv post (vB D (xty k) (xw q k) A0) A0) args s 0 0 A0) (0) ([some (.ref (q 0))]) ([]) (u)) : C_X_discard [] u post := Mv.of (own := R_X) (by decide +kernel) rfl (by simp [Value.category]) (Nat.le_of_ble_eq_true rfl) body
theorem hy_X_discard : y_X_discard.cls = R_X ∧ y_X_discard.cls ≠ "java/lang/invoke/MethodHandle" ∧ y_X_discard.cls ≠ "java/lang/invoke/VarHandle" ∧ (parseMethodDescriptor y_X_discard.desc).map (fun d => d.parameters.length) = some 0 := by decide +kernel
section
variable {p : Program} {l : Launch} {e : Env} {R : Room} {s : State} {m : MethodId} {args : Array Value} {below : List Frame} {meth : Method} {c : Code} {b : ByteArray} {nL : Nat} {ret : Option FieldType} {D : va_G} {q : Nat → Nat} {k : Nat → ClassId} {A0 : Nat → Prop} {k0 n0 : Nat} {Q : State → Prop} {pc : Nat} {lo : List (Option Value)} {st : List Value} {u : XS}

theorem v_X_discard {post : XS → Prop} (hM : C_X_discard [] u post) (hR : 0 + 1 ≤ R.frames ∧ 8 + (1 + 11) + 0 ≤ R.locals) (hrest : (st.map fun v => v.category).sum ≤ 8) (hd : decode b pc = .ok (.invokevirtual 78, 3)) (kk : ∀ (u2 : XS), post u2 → V p l e R s m args below meth c R_X wX b nL ret D (xty k) A0 (xw q k) 0 0 Q (pc + 3) lo (st) (u2)) : V p l e R s m args below meth c R_X wX b nL ret D (xty k) A0 (xw q k) 0 0 Q (pc) lo (.ref (q 0) :: st) (u) :=
  V_callv (rest := st) hM g_X_discard hy_X_discard ⟨rfl, rfl⟩ (ci := 0) (T := F_X) (N := 20) rfl rfl hR hrest rfl hd kk
end
abbrev rm_X_define : Room := { frames := 1, cells := 0, slots := 0, locals := 20 }
abbrev C_X_define (As : List Value) (u : XS) (post : Int32 → XS → Prop) : Prop := Mi wX xw xty y_X_define b_X_define 4 (some .int) rm_X_define As u post
theorem e_X_define {u : XS} {post : Int32 → XS → Prop} (body : ∀ (p : Program) (l : Launch) (e : Env) (s : State) (m : MethodId) (args : Array Value) (below : List Frame) (meth : Method) (c : Code) (D : va_G) (q : Nat → Nat) (k : Nat → ClassId) (A0 : Nat → Prop), V p l e rm_X_define s m args below meth c R_X wX b_X_define 4 (some .int) D (xty k) A0 (xw q k) 0 0 (MQ below (va_Qi post (vB D (xty k) (xw q k) A0) A0) args s 0 0 A0) (0) ([some (.ref (q 0)), none, none, none]) ([]) (u)) : C_X_define [] u post := Mi.of (own := R_X) (by decide +kernel) rfl (by simp [Value.category]) (Nat.le_of_ble_eq_true rfl) body
abbrev rm_X_behind : Room := { frames := 0, cells := 0, slots := 0, locals := 0 }
abbrev C_X_behind (As : List Value) (u : XS) (post : Int32 → XS → Prop) : Prop := Mi wX xw xty y_X_behind b_X_behind 4 (some .int) rm_X_behind As u post
theorem e_X_behind {a1 : Int32} {u : XS} {post : Int32 → XS → Prop} (body : ∀ (p : Program) (l : Launch) (e : Env) (s : State) (m : MethodId) (args : Array Value) (below : List Frame) (meth : Method) (c : Code) (D : va_G) (q : Nat → Nat) (k : Nat → ClassId) (A0 : Nat → Prop), V p l e rm_X_behind s m args below meth c R_X wX b_X_behind 4 (some .int) D (xty k) A0 (xw q k) 0 0 (MQ below (va_Qi post (vB D (xty k) (xw q k) A0) A0) args s 0 0 A0) (0) ([some (.ref (q 0)), some (.int a1), none, none]) ([]) (u)) : C_X_behind [.int a1] u post := Mi.of (own := R_X) (by decide +kernel) rfl (by simp [Value.category]) (Nat.le_of_ble_eq_true rfl) body
theorem hy_X_behind : y_X_behind.cls = R_X ∧ y_X_behind.cls ≠ "java/lang/invoke/MethodHandle" ∧ y_X_behind.cls ≠ "java/lang/invoke/VarHandle" ∧ (parseMethodDescriptor y_X_behind.desc).map (fun d => d.parameters.length) = some 1 := by decide +kernel
section
variable {p : Program} {l : Launch} {e : Env} {R : Room} {s : State} {m : MethodId} {args : Array Value} {below : List Frame} {meth : Method} {c : Code} {b : ByteArray} {nL : Nat} {ret : Option FieldType} {D : va_G} {q : Nat → Nat} {k : Nat → ClassId} {A0 : Nat → Prop} {k0 n0 : Nat} {Q : State → Prop} {pc : Nat} {lo : List (Option Value)} {st : List Value} {u : XS}

theorem v_X_behind {a1 : Int32} {post : Int32 → XS → Prop} (hM : C_X_behind [.int a1] u post) (hR : 0 + 1 ≤ R.frames ∧ 8 + (4 + 11) + 0 ≤ R.locals) (hrest : (st.map fun v => v.category).sum ≤ 8) (hd : decode b pc = .ok (.invokevirtual 84, 3)) (kk : ∀ (r : Int32) (u2 : XS), post r u2 → V p l e R s m args below meth c R_X wX b nL ret D (xty k) A0 (xw q k) 0 0 Q (pc + 3) lo (.int r :: st) (u2)) : V p l e R s m args below meth c R_X wX b nL ret D (xty k) A0 (xw q k) 0 0 Q (pc) lo (.int a1 :: .ref (q 0) :: st) (u) :=
  V_calli (rest := st) hM g_X_behind hy_X_behind ⟨rfl, rfl⟩ (ci := 0) (T := F_X) (N := 20) rfl rfl hR hrest rfl hd kk
end
abbrev rm_X_reached : Room := { frames := 1, cells := 0, slots := 0, locals := 23 }
abbrev C_X_reached (As : List Value) (u : XS) (post : Int32 → XS → Prop) : Prop := Mi wX xw xty y_X_reached b_X_reached 9 (some .int) rm_X_reached As u post
theorem e_X_reached {a1 a2 a3 a4 : Int32} {u : XS} {post : Int32 → XS → Prop} (body : ∀ (p : Program) (l : Launch) (e : Env) (s : State) (m : MethodId) (args : Array Value) (below : List Frame) (meth : Method) (c : Code) (D : va_G) (q : Nat → Nat) (k : Nat → ClassId) (A0 : Nat → Prop), V p l e rm_X_reached s m args below meth c R_X wX b_X_reached 9 (some .int) D (xty k) A0 (xw q k) 0 0 (MQ below (va_Qi post (vB D (xty k) (xw q k) A0) A0) args s 0 0 A0) (0) ([some (.ref (q 0)), some (.int a1), some (.int a2), some (.int a3), some (.int a4), none, none, none, none]) ([]) (u)) : C_X_reached [.int a1, .int a2, .int a3, .int a4] u post := Mi.of (own := R_X) (by decide +kernel) rfl (by simp [Value.category]) (Nat.le_of_ble_eq_true rfl) body
theorem hy_X_reached : y_X_reached.cls = R_X ∧ y_X_reached.cls ≠ "java/lang/invoke/MethodHandle" ∧ y_X_reached.cls ≠ "java/lang/invoke/VarHandle" ∧ (parseMethodDescriptor y_X_reached.desc).map (fun d => d.parameters.length) = some 4 := by decide +kernel
section
variable {p : Program} {l : Launch} {e : Env} {R : Room} {s : State} {m : MethodId} {args : Array Value} {below : List Frame} {meth : Method} {c : Code} {b : ByteArray} {nL : Nat} {ret : Option FieldType} {D : va_G} {q : Nat → Nat} {k : Nat → ClassId} {A0 : Nat → Prop} {k0 n0 : Nat} {Q : State → Prop} {pc : Nat} {lo : List (Option Value)} {st : List Value} {u : XS}

theorem v_X_reached {a1 a2 a3 a4 : Int32} {post : Int32 → XS → Prop} (hM : C_X_reached [.int a1, .int a2, .int a3, .int a4] u post) (hR : 1 + 1 ≤ R.frames ∧ 8 + (9 + 11) + 23 ≤ R.locals) (hrest : (st.map fun v => v.category).sum ≤ 8) (hd : decode b pc = .ok (.invokevirtual 91, 3)) (kk : ∀ (r : Int32) (u2 : XS), post r u2 → V p l e R s m args below meth c R_X wX b nL ret D (xty k) A0 (xw q k) 0 0 Q (pc + 3) lo (.int r :: st) (u2)) : V p l e R s m args below meth c R_X wX b nL ret D (xty k) A0 (xw q k) 0 0 Q (pc) lo (.int a4 :: .int a3 :: .int a2 :: .int a1 :: .ref (q 0) :: st) (u) :=
  V_calli (rest := st) hM g_X_reached hy_X_reached ⟨rfl, rfl⟩ (ci := 0) (T := F_X) (N := 20) rfl rfl hR hrest rfl hd kk
end
abbrev rm_X_letterOf : Room := { frames := 0, cells := 0, slots := 0, locals := 0 }
abbrev C_X_letterOf (As : List Value) (u : XS) (post : Int32 → XS → Prop) : Prop := Mi wX xw xty y_X_letterOf b_X_letterOf 4 (some .int) rm_X_letterOf As u post
theorem e_X_letterOf {a1 a2 : Int32} {u : XS} {post : Int32 → XS → Prop} (body : ∀ (p : Program) (l : Launch) (e : Env) (s : State) (m : MethodId) (args : Array Value) (below : List Frame) (meth : Method) (c : Code) (D : va_G) (q : Nat → Nat) (k : Nat → ClassId) (A0 : Nat → Prop), V p l e rm_X_letterOf s m args below meth c R_X wX b_X_letterOf 4 (some .int) D (xty k) A0 (xw q k) 0 0 (MQ below (va_Qi post (vB D (xty k) (xw q k) A0) A0) args s 0 0 A0) (0) ([some (.ref (q 0)), some (.int a1), some (.int a2), none]) ([]) (u)) : C_X_letterOf [.int a1, .int a2] u post := Mi.of (own := R_X) (by decide +kernel) rfl (by simp [Value.category]) (Nat.le_of_ble_eq_true rfl) body
theorem hy_X_letterOf : y_X_letterOf.cls = R_X ∧ y_X_letterOf.cls ≠ "java/lang/invoke/MethodHandle" ∧ y_X_letterOf.cls ≠ "java/lang/invoke/VarHandle" ∧ (parseMethodDescriptor y_X_letterOf.desc).map (fun d => d.parameters.length) = some 2 := by decide +kernel
section
variable {p : Program} {l : Launch} {e : Env} {R : Room} {s : State} {m : MethodId} {args : Array Value} {below : List Frame} {meth : Method} {c : Code} {b : ByteArray} {nL : Nat} {ret : Option FieldType} {D : va_G} {q : Nat → Nat} {k : Nat → ClassId} {A0 : Nat → Prop} {k0 n0 : Nat} {Q : State → Prop} {pc : Nat} {lo : List (Option Value)} {st : List Value} {u : XS}

theorem v_X_letterOf {a1 a2 : Int32} {post : Int32 → XS → Prop} (hM : C_X_letterOf [.int a1, .int a2] u post) (hR : 0 + 1 ≤ R.frames ∧ 8 + (4 + 11) + 0 ≤ R.locals) (hrest : (st.map fun v => v.category).sum ≤ 8) (hd : decode b pc = .ok (.invokevirtual 87, 3)) (kk : ∀ (r : Int32) (u2 : XS), post r u2 → V p l e R s m args below meth c R_X wX b nL ret D (xty k) A0 (xw q k) 0 0 Q (pc + 3) lo (.int r :: st) (u2)) : V p l e R s m args below meth c R_X wX b nL ret D (xty k) A0 (xw q k) 0 0 Q (pc) lo (.int a2 :: .int a1 :: .ref (q 0) :: st) (u) :=
  V_calli (rest := st) hM g_X_letterOf hy_X_letterOf ⟨rfl, rfl⟩ (ci := 0) (T := F_X) (N := 20) rfl rfl hR hrest rfl hd kk
end
abbrev rm_X_imagesOf : Room := { frames := 2, cells := 0, slots := 0, locals := 51 }
abbrev C_X_imagesOf (As : List Value) (u : XS) (post : Int32 → XS → Prop) : Prop := Mi wX xw xty y_X_imagesOf b_X_imagesOf 9 (some .int) rm_X_imagesOf As u post
theorem e_X_imagesOf {a1 : Int32} {u : XS} {post : Int32 → XS → Prop} (body : ∀ (p : Program) (l : Launch) (e : Env) (s : State) (m : MethodId) (args : Array Value) (below : List Frame) (meth : Method) (c : Code) (D : va_G) (q : Nat → Nat) (k : Nat → ClassId) (A0 : Nat → Prop), V p l e rm_X_imagesOf s m args below meth c R_X wX b_X_imagesOf 9 (some .int) D (xty k) A0 (xw q k) 0 0 (MQ below (va_Qi post (vB D (xty k) (xw q k) A0) A0) args s 0 0 A0) (0) ([some (.ref (q 0)), some (.int a1), none, none, none, none, none, none, none]) ([]) (u)) : C_X_imagesOf [.int a1] u post := Mi.of (own := R_X) (by decide +kernel) rfl (by simp [Value.category]) (Nat.le_of_ble_eq_true rfl) body
theorem hy_X_imagesOf : y_X_imagesOf.cls = R_X ∧ y_X_imagesOf.cls ≠ "java/lang/invoke/MethodHandle" ∧ y_X_imagesOf.cls ≠ "java/lang/invoke/VarHandle" ∧ (parseMethodDescriptor y_X_imagesOf.desc).map (fun d => d.parameters.length) = some 1 := by decide +kernel
section
variable {p : Program} {l : Launch} {e : Env} {R : Room} {s : State} {m : MethodId} {args : Array Value} {below : List Frame} {meth : Method} {c : Code} {b : ByteArray} {nL : Nat} {ret : Option FieldType} {D : va_G} {q : Nat → Nat} {k : Nat → ClassId} {A0 : Nat → Prop} {k0 n0 : Nat} {Q : State → Prop} {pc : Nat} {lo : List (Option Value)} {st : List Value} {u : XS}

theorem v_X_imagesOf {a1 : Int32} {post : Int32 → XS → Prop} (hM : C_X_imagesOf [.int a1] u post) (hR : 2 + 1 ≤ R.frames ∧ 8 + (9 + 11) + 51 ≤ R.locals) (hrest : (st.map fun v => v.category).sum ≤ 8) (hd : decode b pc = .ok (.invokevirtual 95, 3)) (kk : ∀ (r : Int32) (u2 : XS), post r u2 → V p l e R s m args below meth c R_X wX b nL ret D (xty k) A0 (xw q k) 0 0 Q (pc + 3) lo (.int r :: st) (u2)) : V p l e R s m args below meth c R_X wX b nL ret D (xty k) A0 (xw q k) 0 0 Q (pc) lo (.int a1 :: .ref (q 0) :: st) (u) :=
  V_calli (rest := st) hM g_X_imagesOf hy_X_imagesOf ⟨rfl, rfl⟩ (ci := 0) (T := F_X) (N := 20) rfl rfl hR hrest rfl hd kk
end
abbrev rm_X_prepare : Room := { frames := 3, cells := 0, slots := 0, locals := 79 }
abbrev C_X_prepare (As : List Value) (u : XS) (post : XS → Prop) : Prop := Mv wX xw xty y_X_prepare b_X_prepare 2 none rm_X_prepare As u post
theorem e_X_prepare {u : XS} {post : XS → Prop} (body : ∀ (p : Program) (l : Launch) (e : Env) (s : State) (m : MethodId) (args : Array Value) (below : List Frame) (meth : Method) (c : Code) (D : va_G) (q : Nat → Nat) (k : Nat → ClassId) (A0 : Nat → Prop), V p l e rm_X_prepare s m args below meth c R_X wX b_X_prepare 2 none D (xty k) A0 (xw q k) 0 0 (MQ below (va_Qv post (vB D (xty k) (xw q k) A0) A0) args s 0 0 A0) (0) ([some (.ref (q 0)), none]) ([]) (u)) : C_X_prepare [] u post := Mv.of (own := R_X) (by decide +kernel) rfl (by simp [Value.category]) (Nat.le_of_ble_eq_true rfl) body
theorem hy_X_prepare : y_X_prepare.cls = R_X ∧ y_X_prepare.cls ≠ "java/lang/invoke/MethodHandle" ∧ y_X_prepare.cls ≠ "java/lang/invoke/VarHandle" ∧ (parseMethodDescriptor y_X_prepare.desc).map (fun d => d.parameters.length) = some 0 := by decide +kernel
section
variable {p : Program} {l : Launch} {e : Env} {R : Room} {s : State} {m : MethodId} {args : Array Value} {below : List Frame} {meth : Method} {c : Code} {b : ByteArray} {nL : Nat} {ret : Option FieldType} {D : va_G} {q : Nat → Nat} {k : Nat → ClassId} {A0 : Nat → Prop} {k0 n0 : Nat} {Q : State → Prop} {pc : Nat} {lo : List (Option Value)} {st : List Value} {u : XS}

theorem v_X_prepare {post : XS → Prop} (hM : C_X_prepare [] u post) (hR : 3 + 1 ≤ R.frames ∧ 8 + (2 + 11) + 79 ≤ R.locals) (hrest : (st.map fun v => v.category).sum ≤ 8) (hd : decode b pc = .ok (.invokevirtual 102, 3)) (kk : ∀ (u2 : XS), post u2 → V p l e R s m args below meth c R_X wX b nL ret D (xty k) A0 (xw q k) 0 0 Q (pc + 3) lo (st) (u2)) : V p l e R s m args below meth c R_X wX b nL ret D (xty k) A0 (xw q k) 0 0 Q (pc) lo (.ref (q 0) :: st) (u) :=
  V_callv (rest := st) hM g_X_prepare hy_X_prepare ⟨rfl, rfl⟩ (ci := 0) (T := F_X) (N := 20) rfl rfl hR hrest rfl hd kk
end
abbrev rm_X_bad : Room := { frames := 0, cells := 0, slots := 0, locals := 0 }
abbrev C_X_bad (As : List Value) (u : XS) (post : Int32 → XS → Prop) : Prop := Mi wX xw xty y_X_bad b_X_bad 3 (some .boolean) rm_X_bad As u post
theorem e_X_bad {a1 a2 : Int32} {u : XS} {post : Int32 → XS → Prop} (body : ∀ (p : Program) (l : Launch) (e : Env) (s : State) (m : MethodId) (args : Array Value) (below : List Frame) (meth : Method) (c : Code) (D : va_G) (q : Nat → Nat) (k : Nat → ClassId) (A0 : Nat → Prop), V p l e rm_X_bad s m args below meth c R_X wX b_X_bad 3 (some .boolean) D (xty k) A0 (xw q k) 0 0 (MQ below (va_Qi post (vB D (xty k) (xw q k) A0) A0) args s 0 0 A0) (0) ([some (.ref (q 0)), some (.int a1), some (.int a2)]) ([]) (u)) : C_X_bad [.int a1, .int a2] u post := Mi.of (own := R_X) (by decide +kernel) rfl (by simp [Value.category]) (Nat.le_of_ble_eq_true rfl) body
theorem hy_X_bad : y_X_bad.cls = R_X ∧ y_X_bad.cls ≠ "java/lang/invoke/MethodHandle" ∧ y_X_bad.cls ≠ "java/lang/invoke/VarHandle" ∧ (parseMethodDescriptor y_X_bad.desc).map (fun d => d.parameters.length) = some 2 := by decide +kernel
section
variable {p : Program} {l : Launch} {e : Env} {R : Room} {s : State} {m : MethodId} {args : Array Value} {below : List Frame} {meth : Method} {c : Code} {b : ByteArray} {nL : Nat} {ret : Option FieldType} {D : va_G} {q : Nat → Nat} {k : Nat → ClassId} {A0 : Nat → Prop} {k0 n0 : Nat} {Q : State → Prop} {pc : Nat} {lo : List (Option Value)} {st : List Value} {u : XS}

theorem v_X_bad {a1 a2 : Int32} {post : Int32 → XS → Prop} (hM : C_X_bad [.int a1, .int a2] u post) (hR : 0 + 1 ≤ R.frames ∧ 8 + (3 + 11) + 0 ≤ R.locals) (hrest : (st.map fun v => v.category).sum ≤ 8) (hd : decode b pc = .ok (.invokevirtual 98, 3)) (kk : ∀ (r : Int32) (u2 : XS), post r u2 → V p l e R s m args below meth c R_X wX b nL ret D (xty k) A0 (xw q k) 0 0 Q (pc + 3) lo (.int r :: st) (u2)) : V p l e R s m args below meth c R_X wX b nL ret D (xty k) A0 (xw q k) 0 0 Q (pc) lo (.int a2 :: .int a1 :: .ref (q 0) :: st) (u) :=
  V_calli (rest := st) hM g_X_bad hy_X_bad ⟨rfl, rfl⟩ (ci := 0) (T := F_X) (N := 20) rfl rfl hR hrest rfl hd kk
end
abbrev rm_X_wordOf : Room := { frames := 0, cells := 0, slots := 0, locals := 0 }
abbrev C_X_wordOf (As : List Value) (u : XS) (post : Int32 → XS → Prop) : Prop := Mi wX xw xty y_X_wordOf b_X_wordOf 3 (some .int) rm_X_wordOf As u post
theorem e_X_wordOf {a1 a2 : Int32} {u : XS} {post : Int32 → XS → Prop} (body : ∀ (p : Program) (l : Launch) (e : Env) (s : State) (m : MethodId) (args : Array Value) (below : List Frame) (meth : Method) (c : Code) (D : va_G) (q : Nat → Nat) (k : Nat → ClassId) (A0 : Nat → Prop), V p l e rm_X_wordOf s m args below meth c R_X wX b_X_wordOf 3 (some .int) D (xty k) A0 (xw q k) 0 0 (MQ below (va_Qi post (vB D (xty k) (xw q k) A0) A0) args s 0 0 A0) (0) ([some (.ref (q 0)), some (.int a1), some (.int a2)]) ([]) (u)) : C_X_wordOf [.int a1, .int a2] u post := Mi.of (own := R_X) (by decide +kernel) rfl (by simp [Value.category]) (Nat.le_of_ble_eq_true rfl) body
theorem hy_X_wordOf : y_X_wordOf.cls = R_X ∧ y_X_wordOf.cls ≠ "java/lang/invoke/MethodHandle" ∧ y_X_wordOf.cls ≠ "java/lang/invoke/VarHandle" ∧ (parseMethodDescriptor y_X_wordOf.desc).map (fun d => d.parameters.length) = some 2 := by decide +kernel
section
variable {p : Program} {l : Launch} {e : Env} {R : Room} {s : State} {m : MethodId} {args : Array Value} {below : List Frame} {meth : Method} {c : Code} {b : ByteArray} {nL : Nat} {ret : Option FieldType} {D : va_G} {q : Nat → Nat} {k : Nat → ClassId} {A0 : Nat → Prop} {k0 n0 : Nat} {Q : State → Prop} {pc : Nat} {lo : List (Option Value)} {st : List Value} {u : XS}

theorem v_X_wordOf {a1 a2 : Int32} {post : Int32 → XS → Prop} (hM : C_X_wordOf [.int a1, .int a2] u post) (hR : 0 + 1 ≤ R.frames ∧ 8 + (3 + 11) + 0 ≤ R.locals) (hrest : (st.map fun v => v.category).sum ≤ 8) (hd : decode b pc = .ok (.invokevirtual 105, 3)) (kk : ∀ (r : Int32) (u2 : XS), post r u2 → V p l e R s m args below meth c R_X wX b nL ret D (xty k) A0 (xw q k) 0 0 Q (pc + 3) lo (.int r :: st) (u2)) : V p l e R s m args below meth c R_X wX b nL ret D (xty k) A0 (xw q k) 0 0 Q (pc) lo (.int a2 :: .int a1 :: .ref (q 0) :: st) (u) :=
  V_calli (rest := st) hM g_X_wordOf hy_X_wordOf ⟨rfl, rfl⟩ (ci := 0) (T := F_X) (N := 20) rfl rfl hR hrest rfl hd kk
end
abbrev rm_X_sizeOf : Room := { frames := 0, cells := 0, slots := 0, locals := 0 }
abbrev C_X_sizeOf (As : List Value) (u : XS) (post : Int32 → XS → Prop) : Prop := Mi wX xw xty y_X_sizeOf b_X_sizeOf 4 (some .int) rm_X_sizeOf As u post
theorem e_X_sizeOf {a1 : Int32} {u : XS} {post : Int32 → XS → Prop} (body : ∀ (p : Program) (l : Launch) (e : Env) (s : State) (m : MethodId) (args : Array Value) (below : List Frame) (meth : Method) (c : Code) (D : va_G) (q : Nat → Nat) (k : Nat → ClassId) (A0 : Nat → Prop), V p l e rm_X_sizeOf s m args below meth c R_X wX b_X_sizeOf 4 (some .int) D (xty k) A0 (xw q k) 0 0 (MQ below (va_Qi post (vB D (xty k) (xw q k) A0) A0) args s 0 0 A0) (0) ([some (.ref (q 0)), some (.int a1), none, none]) ([]) (u)) : C_X_sizeOf [.int a1] u post := Mi.of (own := R_X) (by decide +kernel) rfl (by simp [Value.category]) (Nat.le_of_ble_eq_true rfl) body
theorem hy_X_sizeOf : y_X_sizeOf.cls = R_X ∧ y_X_sizeOf.cls ≠ "java/lang/invoke/MethodHandle" ∧ y_X_sizeOf.cls ≠ "java/lang/invoke/VarHandle" ∧ (parseMethodDescriptor y_X_sizeOf.desc).map (fun d => d.parameters.length) = some 1 := by decide +kernel
section
variable {p : Program} {l : Launch} {e : Env} {R : Room} {s : State} {m : MethodId} {args : Array Value} {below : List Frame} {meth : Method} {c : Code} {b : ByteArray} {nL : Nat} {ret : Option FieldType} {D : va_G} {q : Nat → Nat} {k : Nat → ClassId} {A0 : Nat → Prop} {k0 n0 : Nat} {Q : State → Prop} {pc : Nat} {lo : List (Option Value)} {st : List Value} {u : XS}

theorem v_X_sizeOf {a1 : Int32} {post : Int32 → XS → Prop} (hM : C_X_sizeOf [.int a1] u post) (hR : 0 + 1 ≤ R.frames ∧ 8 + (4 + 11) + 0 ≤ R.locals) (hrest : (st.map fun v => v.category).sum ≤ 8) (hd : decode b pc = .ok (.invokevirtual 108, 3)) (kk : ∀ (r : Int32) (u2 : XS), post r u2 → V p l e R s m args below meth c R_X wX b nL ret D (xty k) A0 (xw q k) 0 0 Q (pc + 3) lo (.int r :: st) (u2)) : V p l e R s m args below meth c R_X wX b nL ret D (xty k) A0 (xw q k) 0 0 Q (pc) lo (.int a1 :: .ref (q 0) :: st) (u) :=
  V_calli (rest := st) hM g_X_sizeOf hy_X_sizeOf ⟨rfl, rfl⟩ (ci := 0) (T := F_X) (N := 20) rfl rfl hR hrest rfl hd kk
end
abbrev rm_X_related : Room := { frames := 4, cells := 0, slots := 0, locals := 100 }
abbrev C_X_related (As : List Value) (u : XS) (post : Int32 → XS → Prop) : Prop := Mi wX xw xty y_X_related b_X_related 7 (some .boolean) rm_X_related As u post
theorem e_X_related {a1 a2 a3 a4 : Int32} {u : XS} {post : Int32 → XS → Prop} (body : ∀ (p : Program) (l : Launch) (e : Env) (s : State) (m : MethodId) (args : Array Value) (below : List Frame) (meth : Method) (c : Code) (D : va_G) (q : Nat → Nat) (k : Nat → ClassId) (A0 : Nat → Prop), V p l e rm_X_related s m args below meth c R_X wX b_X_related 7 (some .boolean) D (xty k) A0 (xw q k) 0 0 (MQ below (va_Qi post (vB D (xty k) (xw q k) A0) A0) args s 0 0 A0) (0) ([some (.ref (q 0)), some (.int a1), some (.int a2), some (.int a3), some (.int a4), none, none]) ([]) (u)) : C_X_related [.int a1, .int a2, .int a3, .int a4] u post := Mi.of (own := R_X) (by decide +kernel) rfl (by simp [Value.category]) (Nat.le_of_ble_eq_true rfl) body
abbrev rm_X_images : Room := { frames := 4, cells := 0, slots := 0, locals := 100 }
abbrev C_X_images (As : List Value) (u : XS) (post : Int32 → XS → Prop) : Prop := Mi wX xw xty y_X_images b_X_images 4 (some .int) rm_X_images As u post
theorem e_X_images {a1 a2 : Int32} {u : XS} {post : Int32 → XS → Prop} (body : ∀ (p : Program) (l : Launch) (e : Env) (s : State) (m : MethodId) (args : Array Value) (below : List Frame) (meth : Method) (c : Code) (D : va_G) (q : Nat → Nat) (k : Nat → ClassId) (A0 : Nat → Prop), V p l e rm_X_images s m args below meth c R_X wX b_X_images 4 (some .int) D (xty k) A0 (xw q k) 0 0 (MQ below (va_Qi post (vB D (xty k) (xw q k) A0) A0) args s 0 0 A0) (0) ([some (.ref (q 0)), some (.int a1), some (.int a2), none]) ([]) (u)) : C_X_images [.int a1, .int a2] u post := Mi.of (own := R_X) (by decide +kernel) rfl (by simp [Value.category]) (Nat.le_of_ble_eq_true rfl) body
abbrev rm_X_image : Room := { frames := 4, cells := 0, slots := 0, locals := 100 }
abbrev C_X_image (As : List Value) (u : XS) (post : Int32 → XS → Prop) : Prop := Mi wX xw xty y_X_image b_X_image 7 (some .int) rm_X_image As u post
theorem e_X_image {a1 a2 a3 : Int32} {u : XS} {post : Int32 → XS → Prop} (body : ∀ (p : Program) (l : Launch) (e : Env) (s : State) (m : MethodId) (args : Array Value) (below : List Frame) (meth : Method) (c : Code) (D : va_G) (q : Nat → Nat) (k : Nat → ClassId) (A0 : Nat → Prop), V p l e rm_X_image s m args below meth c R_X wX b_X_image 7 (some .int) D (xty k) A0 (xw q k) 0 0 (MQ below (va_Qi post (vB D (xty k) (xw q k) A0) A0) args s 0 0 A0) (0) ([some (.ref (q 0)), some (.int a1), some (.int a2), some (.int a3), none, none, none]) ([]) (u)) : C_X_image [.int a1, .int a2, .int a3] u post := Mi.of (own := R_X) (by decide +kernel) rfl (by simp [Value.category]) (Nat.le_of_ble_eq_true rfl) body
abbrev rm_X_sources : Room := { frames := 4, cells := 0, slots := 0, locals := 100 }
abbrev C_X_sources (As : List Value) (u : XS) (post : Int32 → XS → Prop) : Prop := Mi wX xw xty y_X_sources b_X_sources 6 (some .int) rm_X_sources As u post
theorem e_X_sources {a1 a2 : Int32} {u : XS} {post : Int32 → XS → Prop} (body : ∀ (p : Program) (l : Launch) (e : Env) (s : State) (m : MethodId) (args : Array Value) (below : List Frame) (meth : Method) (c : Code) (D : va_G) (q : Nat → Nat) (k : Nat → ClassId) (A0 : Nat → Prop), V p l e rm_X_sources s m args below meth c R_X wX b_X_sources 6 (some .int) D (xty k) A0 (xw q k) 0 0 (MQ below (va_Qi post (vB D (xty k) (xw q k) A0) A0) args s 0 0 A0) (0) ([some (.ref (q 0)), some (.int a1), some (.int a2), none, none, none]) ([]) (u)) : C_X_sources [.int a1, .int a2] u post := Mi.of (own := R_X) (by decide +kernel) rfl (by simp [Value.category]) (Nat.le_of_ble_eq_true rfl) body
abbrev rm_X_pairs : Room := { frames := 4, cells := 0, slots := 0, locals := 100 }
abbrev C_X_pairs (As : List Value) (u : XS) (post : Int32 → XS → Prop) : Prop := Mi wX xw xty y_X_pairs b_X_pairs 4 (some .int) rm_X_pairs As u post
theorem e_X_pairs {u : XS} {post : Int32 → XS → Prop} (body : ∀ (p : Program) (l : Launch) (e : Env) (s : State) (m : MethodId) (args : Array Value) (below : List Frame) (meth : Method) (c : Code) (D : va_G) (q : Nat → Nat) (k : Nat → ClassId) (A0 : Nat → Prop), V p l e rm_X_pairs s m args below meth c R_X wX b_X_pairs 4 (some .int) D (xty k) A0 (xw q k) 0 0 (MQ below (va_Qi post (vB D (xty k) (xw q k) A0) A0) args s 0 0 A0) (0) ([some (.ref (q 0)), none, none, none]) ([]) (u)) : C_X_pairs [] u post := Mi.of (own := R_X) (by decide +kernel) rfl (by simp [Value.category]) (Nat.le_of_ble_eq_true rfl) body
abbrev rm_X_having : Room := { frames := 4, cells := 0, slots := 0, locals := 100 }
abbrev C_X_having (As : List Value) (u : XS) (post : Int32 → XS → Prop) : Prop := Mi wX xw xty y_X_having b_X_having 5 (some .int) rm_X_having As u post
theorem e_X_having {a1 : Int32} {u : XS} {post : Int32 → XS → Prop} (body : ∀ (p : Program) (l : Launch) (e : Env) (s : State) (m : MethodId) (args : Array Value) (below : List Frame) (meth : Method) (c : Code) (D : va_G) (q : Nat → Nat) (k : Nat → ClassId) (A0 : Nat → Prop), V p l e rm_X_having s m args below meth c R_X wX b_X_having 5 (some .int) D (xty k) A0 (xw q k) 0 0 (MQ below (va_Qi post (vB D (xty k) (xw q k) A0) A0) args s 0 0 A0) (0) ([some (.ref (q 0)), some (.int a1), none, none, none]) ([]) (u)) : C_X_having [.int a1] u post := Mi.of (own := R_X) (by decide +kernel) rfl (by simp [Value.category]) (Nat.le_of_ble_eq_true rfl) body
theorem hy_X_having : y_X_having.cls = R_X ∧ y_X_having.cls ≠ "java/lang/invoke/MethodHandle" ∧ y_X_having.cls ≠ "java/lang/invoke/VarHandle" ∧ (parseMethodDescriptor y_X_having.desc).map (fun d => d.parameters.length) = some 1 := by decide +kernel
section
variable {p : Program} {l : Launch} {e : Env} {R : Room} {s : State} {m : MethodId} {args : Array Value} {below : List Frame} {meth : Method} {c : Code} {b : ByteArray} {nL : Nat} {ret : Option FieldType} {D : va_G} {q : Nat → Nat} {k : Nat → ClassId} {A0 : Nat → Prop} {k0 n0 : Nat} {Q : State → Prop} {pc : Nat} {lo : List (Option Value)} {st : List Value} {u : XS}

theorem v_X_having {a1 : Int32} {post : Int32 → XS → Prop} (hM : C_X_having [.int a1] u post) (hR : 4 + 1 ≤ R.frames ∧ 8 + (5 + 11) + 100 ≤ R.locals) (hrest : (st.map fun v => v.category).sum ≤ 8) (hd : decode b pc = .ok (.invokevirtual 111, 3)) (kk : ∀ (r : Int32) (u2 : XS), post r u2 → V p l e R s m args below meth c R_X wX b nL ret D (xty k) A0 (xw q k) 0 0 Q (pc + 3) lo (.int r :: st) (u2)) : V p l e R s m args below meth c R_X wX b nL ret D (xty k) A0 (xw q k) 0 0 Q (pc) lo (.int a1 :: .ref (q 0) :: st) (u) :=
  V_calli (rest := st) hM g_X_having hy_X_having ⟨rfl, rfl⟩ (ci := 0) (T := F_X) (N := 20) rfl rfl hR hrest rfl hd kk
end
abbrev rm_X_domain : Room := { frames := 5, cells := 0, slots := 0, locals := 124 }
abbrev C_X_domain (As : List Value) (u : XS) (post : Int32 → XS → Prop) : Prop := Mi wX xw xty y_X_domain b_X_domain 1 (some .int) rm_X_domain As u post
theorem e_X_domain {u : XS} {post : Int32 → XS → Prop} (body : ∀ (p : Program) (l : Launch) (e : Env) (s : State) (m : MethodId) (args : Array Value) (below : List Frame) (meth : Method) (c : Code) (D : va_G) (q : Nat → Nat) (k : Nat → ClassId) (A0 : Nat → Prop), V p l e rm_X_domain s m args below meth c R_X wX b_X_domain 1 (some .int) D (xty k) A0 (xw q k) 0 0 (MQ below (va_Qi post (vB D (xty k) (xw q k) A0) A0) args s 0 0 A0) (0) ([some (.ref (q 0))]) ([]) (u)) : C_X_domain [] u post := Mi.of (own := R_X) (by decide +kernel) rfl (by simp [Value.category]) (Nat.le_of_ble_eq_true rfl) body
abbrev rm_X_manyValued : Room := { frames := 5, cells := 0, slots := 0, locals := 124 }
abbrev C_X_manyValued (As : List Value) (u : XS) (post : Int32 → XS → Prop) : Prop := Mi wX xw xty y_X_manyValued b_X_manyValued 1 (some .int) rm_X_manyValued As u post
theorem e_X_manyValued {u : XS} {post : Int32 → XS → Prop} (body : ∀ (p : Program) (l : Launch) (e : Env) (s : State) (m : MethodId) (args : Array Value) (below : List Frame) (meth : Method) (c : Code) (D : va_G) (q : Nat → Nat) (k : Nat → ClassId) (A0 : Nat → Prop), V p l e rm_X_manyValued s m args below meth c R_X wX b_X_manyValued 1 (some .int) D (xty k) A0 (xw q k) 0 0 (MQ below (va_Qi post (vB D (xty k) (xw q k) A0) A0) args s 0 0 A0) (0) ([some (.ref (q 0))]) ([]) (u)) : C_X_manyValued [] u post := Mi.of (own := R_X) (by decide +kernel) rfl (by simp [Value.category]) (Nat.le_of_ble_eq_true rfl) body
abbrev rm_X_fixed : Room := { frames := 4, cells := 0, slots := 0, locals := 100 }
abbrev C_X_fixed (As : List Value) (u : XS) (post : Int32 → XS → Prop) : Prop := Mi wX xw xty y_X_fixed b_X_fixed 3 (some .int) rm_X_fixed As u post
theorem e_X_fixed {u : XS} {post : Int32 → XS → Prop} (body : ∀ (p : Program) (l : Launch) (e : Env) (s : State) (m : MethodId) (args : Array Value) (below : List Frame) (meth : Method) (c : Code) (D : va_G) (q : Nat → Nat) (k : Nat → ClassId) (A0 : Nat → Prop), V p l e rm_X_fixed s m args below meth c R_X wX b_X_fixed 3 (some .int) D (xty k) A0 (xw q k) 0 0 (MQ below (va_Qi post (vB D (xty k) (xw q k) A0) A0) args s 0 0 A0) (0) ([some (.ref (q 0)), none, none]) ([]) (u)) : C_X_fixed [] u post := Mi.of (own := R_X) (by decide +kernel) rfl (by simp [Value.category]) (Nat.le_of_ble_eq_true rfl) body
abbrev rm_X_twoSteps : Room := { frames := 4, cells := 0, slots := 0, locals := 100 }
abbrev C_X_twoSteps (As : List Value) (u : XS) (post : Int32 → XS → Prop) : Prop := Mi wX xw xty y_X_twoSteps b_X_twoSteps 5 (some .int) rm_X_twoSteps As u post
theorem e_X_twoSteps {u : XS} {post : Int32 → XS → Prop} (body : ∀ (p : Program) (l : Launch) (e : Env) (s : State) (m : MethodId) (args : Array Value) (below : List Frame) (meth : Method) (c : Code) (D : va_G) (q : Nat → Nat) (k : Nat → ClassId) (A0 : Nat → Prop), V p l e rm_X_twoSteps s m args below meth c R_X wX b_X_twoSteps 5 (some .int) D (xty k) A0 (xw q k) 0 0 (MQ below (va_Qi post (vB D (xty k) (xw q k) A0) A0) args s 0 0 A0) (0) ([some (.ref (q 0)), none, none, none, none]) ([]) (u)) : C_X_twoSteps [] u post := Mi.of (own := R_X) (by decide +kernel) rfl (by simp [Value.category]) (Nat.le_of_ble_eq_true rfl) body
abbrev rm_M_lenOf : Room := { frames := 0, cells := 0, slots := 0, locals := 0 }
abbrev C_M_lenOf (As : List Value) (u : XS) (post : Int32 → XS → Prop) : Prop := Mi wM mw mty y_M_lenOf b_M_lenOf 3 (some .int) rm_M_lenOf As u post
theorem e_M_lenOf {a1 : Int32} {u : XS} {post : Int32 → XS → Prop} (body : ∀ (p : Program) (l : Launch) (e : Env) (s : State) (m : MethodId) (args : Array Value) (below : List Frame) (meth : Method) (c : Code) (D : va_G) (q : Nat → Nat) (k : Nat → ClassId) (A0 : Nat → Prop), V p l e rm_M_lenOf s m args below meth c R_M wM b_M_lenOf 3 (some .int) D (mty k) A0 (mw q k) 0 0 (MQ below (va_Qi post (vB D (mty k) (mw q k) A0) A0) args s 0 0 A0) (0) ([some (.ref (q 0)), some (.int a1), none]) ([]) (u)) : C_M_lenOf [.int a1] u post := Mi.of (own := R_M) (by decide +kernel) rfl (by simp [Value.category]) (Nat.le_of_ble_eq_true rfl) body
theorem hy_M_lenOf : y_M_lenOf.cls = R_M ∧ y_M_lenOf.cls ≠ "java/lang/invoke/MethodHandle" ∧ y_M_lenOf.cls ≠ "java/lang/invoke/VarHandle" ∧ (parseMethodDescriptor y_M_lenOf.desc).map (fun d => d.parameters.length) = some 1 := by decide +kernel
section
variable {p : Program} {l : Launch} {e : Env} {R : Room} {s : State} {m : MethodId} {args : Array Value} {below : List Frame} {meth : Method} {c : Code} {b : ByteArray} {nL : Nat} {ret : Option FieldType} {D : va_G} {q : Nat → Nat} {k : Nat → ClassId} {A0 : Nat → Prop} {k0 n0 : Nat} {Q : State → Prop} {pc : Nat} {lo : List (Option Value)} {st : List Value} {u : XS}

theorem v_M_lenOf {a1 : Int32} {post : Int32 → XS → Prop} (hM : C_M_lenOf [.int a1] u post) (hR : 0 + 1 ≤ R.frames ∧ 8 + (3 + 11) + 0 ≤ R.locals) (hrest : (st.map fun v => v.category).sum ≤ 8) (hd : decode b pc = .ok (.invokevirtual 13, 3)) (kk : ∀ (r : Int32) (u2 : XS), post r u2 → V p l e R s m args below meth c R_M wM b nL ret D (mty k) A0 (mw q k) 0 0 Q (pc + 3) lo (.int r :: st) (u2)) : V p l e R s m args below meth c R_M wM b nL ret D (mty k) A0 (mw q k) 0 0 Q (pc) lo (.int a1 :: .ref (q 0) :: st) (u) :=
  V_calli (rest := st) hM g_M_lenOf hy_M_lenOf ⟨rfl, rfl⟩ (ci := 1) (T := F_M) (N := 4) rfl rfl hR hrest rfl hd kk
end
abbrev rm_M_head : Room := { frames := 1, cells := 0, slots := 0, locals := 22 }
abbrev C_M_head (As : List Value) (u : XS) (post : Int32 → XS → Prop) : Prop := Mi wM mw mty y_M_head b_M_head 5 (some .int) rm_M_head As u post
theorem e_M_head {a1 a2 : Int32} {u : XS} {post : Int32 → XS → Prop} (body : ∀ (p : Program) (l : Launch) (e : Env) (s : State) (m : MethodId) (args : Array Value) (below : List Frame) (meth : Method) (c : Code) (D : va_G) (q : Nat → Nat) (k : Nat → ClassId) (A0 : Nat → Prop), V p l e rm_M_head s m args below meth c R_M wM b_M_head 5 (some .int) D (mty k) A0 (mw q k) 0 0 (MQ below (va_Qi post (vB D (mty k) (mw q k) A0) A0) args s 0 0 A0) (0) ([some (.ref (q 0)), some (.int a1), some (.int a2), none, none]) ([]) (u)) : C_M_head [.int a1, .int a2] u post := Mi.of (own := R_M) (by decide +kernel) rfl (by simp [Value.category]) (Nat.le_of_ble_eq_true rfl) body
theorem hy_M_head : y_M_head.cls = R_M ∧ y_M_head.cls ≠ "java/lang/invoke/MethodHandle" ∧ y_M_head.cls ≠ "java/lang/invoke/VarHandle" ∧ (parseMethodDescriptor y_M_head.desc).map (fun d => d.parameters.length) = some 2 := by decide +kernel
section
variable {p : Program} {l : Launch} {e : Env} {R : Room} {s : State} {m : MethodId} {args : Array Value} {below : List Frame} {meth : Method} {c : Code} {b : ByteArray} {nL : Nat} {ret : Option FieldType} {D : va_G} {q : Nat → Nat} {k : Nat → ClassId} {A0 : Nat → Prop} {k0 n0 : Nat} {Q : State → Prop} {pc : Nat} {lo : List (Option Value)} {st : List Value} {u : XS}

theorem v_M_head {a1 a2 : Int32} {post : Int32 → XS → Prop} (hM : C_M_head [.int a1, .int a2] u post) (hR : 1 + 1 ≤ R.frames ∧ 8 + (5 + 11) + 22 ≤ R.locals) (hrest : (st.map fun v => v.category).sum ≤ 8) (hd : decode b pc = .ok (.invokevirtual 35, 3)) (kk : ∀ (r : Int32) (u2 : XS), post r u2 → V p l e R s m args below meth c R_M wM b nL ret D (mty k) A0 (mw q k) 0 0 Q (pc + 3) lo (.int r :: st) (u2)) : V p l e R s m args below meth c R_M wM b nL ret D (mty k) A0 (mw q k) 0 0 Q (pc) lo (.int a2 :: .int a1 :: .ref (q 0) :: st) (u) :=
  V_calli (rest := st) hM g_M_head hy_M_head ⟨rfl, rfl⟩ (ci := 1) (T := F_M) (N := 4) rfl rfl hR hrest rfl hd kk
end
abbrev rm_M_tail : Room := { frames := 1, cells := 0, slots := 0, locals := 22 }
abbrev C_M_tail (As : List Value) (u : XS) (post : Int32 → XS → Prop) : Prop := Mi wM mw mty y_M_tail b_M_tail 6 (some .int) rm_M_tail As u post
theorem e_M_tail {a1 a2 : Int32} {u : XS} {post : Int32 → XS → Prop} (body : ∀ (p : Program) (l : Launch) (e : Env) (s : State) (m : MethodId) (args : Array Value) (below : List Frame) (meth : Method) (c : Code) (D : va_G) (q : Nat → Nat) (k : Nat → ClassId) (A0 : Nat → Prop), V p l e rm_M_tail s m args below meth c R_M wM b_M_tail 6 (some .int) D (mty k) A0 (mw q k) 0 0 (MQ below (va_Qi post (vB D (mty k) (mw q k) A0) A0) args s 0 0 A0) (0) ([some (.ref (q 0)), some (.int a1), some (.int a2), none, none, none]) ([]) (u)) : C_M_tail [.int a1, .int a2] u post := Mi.of (own := R_M) (by decide +kernel) rfl (by simp [Value.category]) (Nat.le_of_ble_eq_true rfl) body
theorem hy_M_tail : y_M_tail.cls = R_M ∧ y_M_tail.cls ≠ "java/lang/invoke/MethodHandle" ∧ y_M_tail.cls ≠ "java/lang/invoke/VarHandle" ∧ (parseMethodDescriptor y_M_tail.desc).map (fun d => d.parameters.length) = some 2 := by decide +kernel
section
variable {p : Program} {l : Launch} {e : Env} {R : Room} {s : State} {m : MethodId} {args : Array Value} {below : List Frame} {meth : Method} {c : Code} {b : ByteArray} {nL : Nat} {ret : Option FieldType} {D : va_G} {q : Nat → Nat} {k : Nat → ClassId} {A0 : Nat → Prop} {k0 n0 : Nat} {Q : State → Prop} {pc : Nat} {lo : List (Option Value)} {st : List Value} {u : XS}

theorem v_M_tail {a1 a2 : Int32} {post : Int32 → XS → Prop} (hM : C_M_tail [.int a1, .int a2] u post) (hR : 1 + 1 ≤ R.frames ∧ 8 + (6 + 11) + 22 ≤ R.locals) (hrest : (st.map fun v => v.category).sum ≤ 8) (hd : decode b pc = .ok (.invokevirtual 39, 3)) (kk : ∀ (r : Int32) (u2 : XS), post r u2 → V p l e R s m args below meth c R_M wM b nL ret D (mty k) A0 (mw q k) 0 0 Q (pc + 3) lo (.int r :: st) (u2)) : V p l e R s m args below meth c R_M wM b nL ret D (mty k) A0 (mw q k) 0 0 Q (pc) lo (.int a2 :: .int a1 :: .ref (q 0) :: st) (u) :=
  V_calli (rest := st) hM g_M_tail hy_M_tail ⟨rfl, rfl⟩ (ci := 1) (T := F_M) (N := 4) rfl rfl hR hrest rfl hd kk
end
abbrev rm_M_has : Room := { frames := 0, cells := 0, slots := 0, locals := 0 }
abbrev C_M_has (As : List Value) (u : XS) (post : Int32 → XS → Prop) : Prop := Mi wM mw mty y_M_has b_M_has 4 (some .boolean) rm_M_has As u post
theorem e_M_has {a1 a2 a3 : Int32} {u : XS} {post : Int32 → XS → Prop} (body : ∀ (p : Program) (l : Launch) (e : Env) (s : State) (m : MethodId) (args : Array Value) (below : List Frame) (meth : Method) (c : Code) (D : va_G) (q : Nat → Nat) (k : Nat → ClassId) (A0 : Nat → Prop), V p l e rm_M_has s m args below meth c R_M wM b_M_has 4 (some .boolean) D (mty k) A0 (mw q k) 0 0 (MQ below (va_Qi post (vB D (mty k) (mw q k) A0) A0) args s 0 0 A0) (0) ([some (.ref (q 0)), some (.int a1), some (.int a2), some (.int a3)]) ([]) (u)) : C_M_has [.int a1, .int a2, .int a3] u post := Mi.of (own := R_M) (by decide +kernel) rfl (by simp [Value.category]) (Nat.le_of_ble_eq_true rfl) body
theorem hy_M_has : y_M_has.cls = R_M ∧ y_M_has.cls ≠ "java/lang/invoke/MethodHandle" ∧ y_M_has.cls ≠ "java/lang/invoke/VarHandle" ∧ (parseMethodDescriptor y_M_has.desc).map (fun d => d.parameters.length) = some 3 := by decide +kernel
section
variable {p : Program} {l : Launch} {e : Env} {R : Room} {s : State} {m : MethodId} {args : Array Value} {below : List Frame} {meth : Method} {c : Code} {b : ByteArray} {nL : Nat} {ret : Option FieldType} {D : va_G} {q : Nat → Nat} {k : Nat → ClassId} {A0 : Nat → Prop} {k0 n0 : Nat} {Q : State → Prop} {pc : Nat} {lo : List (Option Value)} {st : List Value} {u : XS}

theorem v_M_has {a1 a2 a3 : Int32} {post : Int32 → XS → Prop} (hM : C_M_has [.int a1, .int a2, .int a3] u post) (hR : 0 + 1 ≤ R.frames ∧ 8 + (4 + 11) + 0 ≤ R.locals) (hrest : (st.map fun v => v.category).sum ≤ 8) (hd : decode b pc = .ok (.invokevirtual 42, 3)) (kk : ∀ (r : Int32) (u2 : XS), post r u2 → V p l e R s m args below meth c R_M wM b nL ret D (mty k) A0 (mw q k) 0 0 Q (pc + 3) lo (.int r :: st) (u2)) : V p l e R s m args below meth c R_M wM b nL ret D (mty k) A0 (mw q k) 0 0 Q (pc) lo (.int a3 :: .int a2 :: .int a1 :: .ref (q 0) :: st) (u) :=
  V_calli (rest := st) hM g_M_has hy_M_has ⟨rfl, rfl⟩ (ci := 1) (T := F_M) (N := 4) rfl rfl hR hrest rfl hd kk
end
abbrev rm_M_clear : Room := { frames := 0, cells := 0, slots := 0, locals := 0 }
abbrev C_M_clear (As : List Value) (u : XS) (post : XS → Prop) : Prop := Mv wM mw mty y_M_clear b_M_clear 3 none rm_M_clear As u post
theorem e_M_clear {a1 : Int32} {u : XS} {post : XS → Prop} (body : ∀ (p : Program) (l : Launch) (e : Env) (s : State) (m : MethodId) (args : Array Value) (below : List Frame) (meth : Method) (c : Code) (D : va_G) (q : Nat → Nat) (k : Nat → ClassId) (A0 : Nat → Prop), V p l e rm_M_clear s m args below meth c R_M wM b_M_clear 3 none D (mty k) A0 (mw q k) 0 0 (MQ below (va_Qv post (vB D (mty k) (mw q k) A0) A0) args s 0 0 A0) (0) ([some (.ref (q 0)), some (.int a1), none]) ([]) (u)) : C_M_clear [.int a1] u post := Mv.of (own := R_M) (by decide +kernel) rfl (by simp [Value.category]) (Nat.le_of_ble_eq_true rfl) body
theorem hy_M_clear : y_M_clear.cls = R_M ∧ y_M_clear.cls ≠ "java/lang/invoke/MethodHandle" ∧ y_M_clear.cls ≠ "java/lang/invoke/VarHandle" ∧ (parseMethodDescriptor y_M_clear.desc).map (fun d => d.parameters.length) = some 1 := by decide +kernel
section
variable {p : Program} {l : Launch} {e : Env} {R : Room} {s : State} {m : MethodId} {args : Array Value} {below : List Frame} {meth : Method} {c : Code} {b : ByteArray} {nL : Nat} {ret : Option FieldType} {D : va_G} {q : Nat → Nat} {k : Nat → ClassId} {A0 : Nat → Prop} {k0 n0 : Nat} {Q : State → Prop} {pc : Nat} {lo : List (Option Value)} {st : List Value} {u : XS}

theorem v_M_clear {a1 : Int32} {post : XS → Prop} (hM : C_M_clear [.int a1] u post) (hR : 0 + 1 ≤ R.frames ∧ 8 + (3 + 11) + 0 ≤ R.locals) (hrest : (st.map fun v => v.category).sum ≤ 8) (hd : decode b pc = .ok (.invokevirtual 27, 3)) (kk : ∀ (u2 : XS), post u2 → V p l e R s m args below meth c R_M wM b nL ret D (mty k) A0 (mw q k) 0 0 Q (pc + 3) lo (st) (u2)) : V p l e R s m args below meth c R_M wM b nL ret D (mty k) A0 (mw q k) 0 0 Q (pc) lo (.int a1 :: .ref (q 0) :: st) (u) :=
  V_callv (rest := st) hM g_M_clear hy_M_clear ⟨rfl, rfl⟩ (ci := 1) (T := F_M) (N := 4) rfl rfl hR hrest rfl hd kk
end
abbrev rm_M_copy : Room := { frames := 0, cells := 0, slots := 0, locals := 0 }
abbrev C_M_copy (As : List Value) (u : XS) (post : XS → Prop) : Prop := Mv wM mw mty y_M_copy b_M_copy 4 none rm_M_copy As u post
theorem e_M_copy {a1 a2 : Int32} {u : XS} {post : XS → Prop} (body : ∀ (p : Program) (l : Launch) (e : Env) (s : State) (m : MethodId) (args : Array Value) (below : List Frame) (meth : Method) (c : Code) (D : va_G) (q : Nat → Nat) (k : Nat → ClassId) (A0 : Nat → Prop), V p l e rm_M_copy s m args below meth c R_M wM b_M_copy 4 none D (mty k) A0 (mw q k) 0 0 (MQ below (va_Qv post (vB D (mty k) (mw q k) A0) A0) args s 0 0 A0) (0) ([some (.ref (q 0)), some (.int a1), some (.int a2), none]) ([]) (u)) : C_M_copy [.int a1, .int a2] u post := Mv.of (own := R_M) (by decide +kernel) rfl (by simp [Value.category]) (Nat.le_of_ble_eq_true rfl) body
theorem hy_M_copy : y_M_copy.cls = R_M ∧ y_M_copy.cls ≠ "java/lang/invoke/MethodHandle" ∧ y_M_copy.cls ≠ "java/lang/invoke/VarHandle" ∧ (parseMethodDescriptor y_M_copy.desc).map (fun d => d.parameters.length) = some 2 := by decide +kernel
section
variable {p : Program} {l : Launch} {e : Env} {R : Room} {s : State} {m : MethodId} {args : Array Value} {below : List Frame} {meth : Method} {c : Code} {b : ByteArray} {nL : Nat} {ret : Option FieldType} {D : va_G} {q : Nat → Nat} {k : Nat → ClassId} {A0 : Nat → Prop} {k0 n0 : Nat} {Q : State → Prop} {pc : Nat} {lo : List (Option Value)} {st : List Value} {u : XS}

theorem v_M_copy {a1 a2 : Int32} {post : XS → Prop} (hM : C_M_copy [.int a1, .int a2] u post) (hR : 0 + 1 ≤ R.frames ∧ 8 + (4 + 11) + 0 ≤ R.locals) (hrest : (st.map fun v => v.category).sum ≤ 8) (hd : decode b pc = .ok (.invokevirtual 58, 3)) (kk : ∀ (u2 : XS), post u2 → V p l e R s m args below meth c R_M wM b nL ret D (mty k) A0 (mw q k) 0 0 Q (pc + 3) lo (st) (u2)) : V p l e R s m args below meth c R_M wM b nL ret D (mty k) A0 (mw q k) 0 0 Q (pc) lo (.int a2 :: .int a1 :: .ref (q 0) :: st) (u) :=
  V_callv (rest := st) hM g_M_copy hy_M_copy ⟨rfl, rfl⟩ (ci := 1) (T := F_M) (N := 4) rfl rfl hR hrest rfl hd kk
end
abbrev rm_M_put : Room := { frames := 0, cells := 0, slots := 0, locals := 0 }
abbrev C_M_put (As : List Value) (u : XS) (post : XS → Prop) : Prop := Mv wM mw mty y_M_put b_M_put 4 none rm_M_put As u post
theorem e_M_put {a1 a2 a3 : Int32} {u : XS} {post : XS → Prop} (body : ∀ (p : Program) (l : Launch) (e : Env) (s : State) (m : MethodId) (args : Array Value) (below : List Frame) (meth : Method) (c : Code) (D : va_G) (q : Nat → Nat) (k : Nat → ClassId) (A0 : Nat → Prop), V p l e rm_M_put s m args below meth c R_M wM b_M_put 4 none D (mty k) A0 (mw q k) 0 0 (MQ below (va_Qv post (vB D (mty k) (mw q k) A0) A0) args s 0 0 A0) (0) ([some (.ref (q 0)), some (.int a1), some (.int a2), some (.int a3)]) ([]) (u)) : C_M_put [.int a1, .int a2, .int a3] u post := Mv.of (own := R_M) (by decide +kernel) rfl (by simp [Value.category]) (Nat.le_of_ble_eq_true rfl) body
theorem hy_M_put : y_M_put.cls = R_M ∧ y_M_put.cls ≠ "java/lang/invoke/MethodHandle" ∧ y_M_put.cls ≠ "java/lang/invoke/VarHandle" ∧ (parseMethodDescriptor y_M_put.desc).map (fun d => d.parameters.length) = some 3 := by decide +kernel
section
variable {p : Program} {l : Launch} {e : Env} {R : Room} {s : State} {m : MethodId} {args : Array Value} {below : List Frame} {meth : Method} {c : Code} {b : ByteArray} {nL : Nat} {ret : Option FieldType} {D : va_G} {q : Nat → Nat} {k : Nat → ClassId} {A0 : Nat → Prop} {k0 n0 : Nat} {Q : State → Prop} {pc : Nat} {lo : List (Option Value)} {st : List Value} {u : XS}

theorem v_M_put {a1 a2 a3 : Int32} {post : XS → Prop} (hM : C_M_put [.int a1, .int a2, .int a3] u post) (hR : 0 + 1 ≤ R.frames ∧ 8 + (4 + 11) + 0 ≤ R.locals) (hrest : (st.map fun v => v.category).sum ≤ 8) (hd : decode b pc = .ok (.invokevirtual 31, 3)) (kk : ∀ (u2 : XS), post u2 → V p l e R s m args below meth c R_M wM b nL ret D (mty k) A0 (mw q k) 0 0 Q (pc + 3) lo (st) (u2)) : V p l e R s m args below meth c R_M wM b nL ret D (mty k) A0 (mw q k) 0 0 Q (pc) lo (.int a3 :: .int a2 :: .int a1 :: .ref (q 0) :: st) (u) :=
  V_callv (rest := st) hM g_M_put hy_M_put ⟨rfl, rfl⟩ (ci := 1) (T := F_M) (N := 4) rfl rfl hR hrest rfl hd kk
end
abbrev rm_M_pair : Room := { frames := 1, cells := 0, slots := 0, locals := 23 }
abbrev C_M_pair (As : List Value) (u : XS) (post : Int32 → XS → Prop) : Prop := Mi wM mw mty y_M_pair b_M_pair 3 (some .int) rm_M_pair As u post
theorem e_M_pair {a1 a2 : Int32} {u : XS} {post : Int32 → XS → Prop} (body : ∀ (p : Program) (l : Launch) (e : Env) (s : State) (m : MethodId) (args : Array Value) (below : List Frame) (meth : Method) (c : Code) (D : va_G) (q : Nat → Nat) (k : Nat → ClassId) (A0 : Nat → Prop), V p l e rm_M_pair s m args below meth c R_M wM b_M_pair 3 (some .int) D (mty k) A0 (mw q k) 0 0 (MQ below (va_Qi post (vB D (mty k) (mw q k) A0) A0) args s 0 0 A0) (0) ([some (.ref (q 0)), some (.int a1), some (.int a2)]) ([]) (u)) : C_M_pair [.int a1, .int a2] u post := Mi.of (own := R_M) (by decide +kernel) rfl (by simp [Value.category]) (Nat.le_of_ble_eq_true rfl) body
abbrev rm_M_cutsAt : Room := { frames := 2, cells := 0, slots := 0, locals := 47 }
abbrev C_M_cutsAt (As : List Value) (u : XS) (post : Int32 → XS → Prop) : Prop := Mi wM mw mty y_M_cutsAt b_M_cutsAt 13 (some .boolean) rm_M_cutsAt As u post
theorem e_M_cutsAt {a1 a2 a3 a4 a5 : Int32} {u : XS} {post : Int32 → XS → Prop} (body : ∀ (p : Program) (l : Launch) (e : Env) (s : State) (m : MethodId) (args : Array Value) (below : List Frame) (meth : Method) (c : Code) (D : va_G) (q : Nat → Nat) (k : Nat → ClassId) (A0 : Nat → Prop), V p l e rm_M_cutsAt s m args below meth c R_M wM b_M_cutsAt 13 (some .boolean) D (mty k) A0 (mw q k) 0 0 (MQ below (va_Qi post (vB D (mty k) (mw q k) A0) A0) args s 0 0 A0) (0) ([some (.ref (q 0)), some (.int a1), some (.int a2), some (.int a3), some (.int a4), some (.int a5), none, none, none, none, none, none, none]) ([]) (u)) : C_M_cutsAt [.int a1, .int a2, .int a3, .int a4, .int a5] u post := Mi.of (own := R_M) (by decide +kernel) rfl (by simp [Value.category]) (Nat.le_of_ble_eq_true rfl) body
theorem hy_M_cutsAt : y_M_cutsAt.cls = R_M ∧ y_M_cutsAt.cls ≠ "java/lang/invoke/MethodHandle" ∧ y_M_cutsAt.cls ≠ "java/lang/invoke/VarHandle" ∧ (parseMethodDescriptor y_M_cutsAt.desc).map (fun d => d.parameters.length) = some 5 := by decide +kernel
section
variable {p : Program} {l : Launch} {e : Env} {R : Room} {s : State} {m : MethodId} {args : Array Value} {below : List Frame} {meth : Method} {c : Code} {b : ByteArray} {nL : Nat} {ret : Option FieldType} {D : va_G} {q : Nat → Nat} {k : Nat → ClassId} {A0 : Nat → Prop} {k0 n0 : Nat} {Q : State → Prop} {pc : Nat} {lo : List (Option Value)} {st : List Value} {u : XS}

theorem v_M_cutsAt {a1 a2 a3 a4 a5 : Int32} {post : Int32 → XS → Prop} (hM : C_M_cutsAt [.int a1, .int a2, .int a3, .int a4, .int a5] u post) (hR : 2 + 1 ≤ R.frames ∧ 8 + (13 + 11) + 47 ≤ R.locals) (hrest : (st.map fun v => v.category).sum ≤ 8) (hd : decode b pc = .ok (.invokevirtual 46, 3)) (kk : ∀ (r : Int32) (u2 : XS), post r u2 → V p l e R s m args below meth c R_M wM b nL ret D (mty k) A0 (mw q k) 0 0 Q (pc + 3) lo (.int r :: st) (u2)) : V p l e R s m args below meth c R_M wM b nL ret D (mty k) A0 (mw q k) 0 0 Q (pc) lo (.int a5 :: .int a4 :: .int a3 :: .int a2 :: .int a1 :: .ref (q 0) :: st) (u) :=
  V_calli (rest := st) hM g_M_cutsAt hy_M_cutsAt ⟨rfl, rfl⟩ (ci := 1) (T := F_M) (N := 4) rfl rfl hR hrest rfl hd kk
end
abbrev rm_M_cuts : Room := { frames := 3, cells := 0, slots := 0, locals := 79 }
abbrev C_M_cuts (As : List Value) (u : XS) (post : Int32 → XS → Prop) : Prop := Mi wM mw mty y_M_cuts b_M_cuts 7 (some .boolean) rm_M_cuts As u post
theorem e_M_cuts {a1 a2 a3 a4 : Int32} {u : XS} {post : Int32 → XS → Prop} (body : ∀ (p : Program) (l : Launch) (e : Env) (s : State) (m : MethodId) (args : Array Value) (below : List Frame) (meth : Method) (c : Code) (D : va_G) (q : Nat → Nat) (k : Nat → ClassId) (A0 : Nat → Prop), V p l e rm_M_cuts s m args below meth c R_M wM b_M_cuts 7 (some .boolean) D (mty k) A0 (mw q k) 0 0 (MQ below (va_Qi post (vB D (mty k) (mw q k) A0) A0) args s 0 0 A0) (0) ([some (.ref (q 0)), some (.int a1), some (.int a2), some (.int a3), some (.int a4), none, none]) ([]) (u)) : C_M_cuts [.int a1, .int a2, .int a3, .int a4] u post := Mi.of (own := R_M) (by decide +kernel) rfl (by simp [Value.category]) (Nat.le_of_ble_eq_true rfl) body
theorem hy_M_cuts : y_M_cuts.cls = R_M ∧ y_M_cuts.cls ≠ "java/lang/invoke/MethodHandle" ∧ y_M_cuts.cls ≠ "java/lang/invoke/VarHandle" ∧ (parseMethodDescriptor y_M_cuts.desc).map (fun d => d.parameters.length) = some 4 := by decide +kernel
section
variable {p : Program} {l : Launch} {e : Env} {R : Room} {s : State} {m : MethodId} {args : Array Value} {below : List Frame} {meth : Method} {c : Code} {b : ByteArray} {nL : Nat} {ret : Option FieldType} {D : va_G} {q : Nat → Nat} {k : Nat → ClassId} {A0 : Nat → Prop} {k0 n0 : Nat} {Q : State → Prop} {pc : Nat} {lo : List (Option Value)} {st : List Value} {u : XS}

theorem v_M_cuts {a1 a2 a3 a4 : Int32} {post : Int32 → XS → Prop} (hM : C_M_cuts [.int a1, .int a2, .int a3, .int a4] u post) (hR : 3 + 1 ≤ R.frames ∧ 8 + (7 + 11) + 79 ≤ R.locals) (hrest : (st.map fun v => v.category).sum ≤ 8) (hd : decode b pc = .ok (.invokevirtual 54, 3)) (kk : ∀ (r : Int32) (u2 : XS), post r u2 → V p l e R s m args below meth c R_M wM b nL ret D (mty k) A0 (mw q k) 0 0 Q (pc + 3) lo (.int r :: st) (u2)) : V p l e R s m args below meth c R_M wM b nL ret D (mty k) A0 (mw q k) 0 0 Q (pc) lo (.int a4 :: .int a3 :: .int a2 :: .int a1 :: .ref (q 0) :: st) (u) :=
  V_calli (rest := st) hM g_M_cuts hy_M_cuts ⟨rfl, rfl⟩ (ci := 1) (T := F_M) (N := 4) rfl rfl hR hrest rfl hd kk
end
abbrev rm_M_testPair : Room := { frames := 0, cells := 0, slots := 0, locals := 0 }
abbrev C_M_testPair (As : List Value) (u : XS) (post : Int32 → XS → Prop) : Prop := Mi wM mw mty y_M_testPair b_M_testPair 1 (some .int) rm_M_testPair As u post
theorem e_M_testPair {u : XS} {post : Int32 → XS → Prop} (body : ∀ (p : Program) (l : Launch) (e : Env) (s : State) (m : MethodId) (args : Array Value) (below : List Frame) (meth : Method) (c : Code) (D : va_G) (q : Nat → Nat) (k : Nat → ClassId) (A0 : Nat → Prop), V p l e rm_M_testPair s m args below meth c R_M wM b_M_testPair 1 (some .int) D (mty k) A0 (mw q k) 0 0 (MQ below (va_Qi post (vB D (mty k) (mw q k) A0) A0) args s 0 0 A0) (0) ([some (.ref (q 0))]) ([]) (u)) : C_M_testPair [] u post := Mi.of (own := R_M) (by decide +kernel) rfl (by simp [Value.category]) (Nat.le_of_ble_eq_true rfl) body
theorem hy_M_testPair : y_M_testPair.cls = R_M ∧ y_M_testPair.cls ≠ "java/lang/invoke/MethodHandle" ∧ y_M_testPair.cls ≠ "java/lang/invoke/VarHandle" ∧ (parseMethodDescriptor y_M_testPair.desc).map (fun d => d.parameters.length) = some 0 := by decide +kernel
section
variable {p : Program} {l : Launch} {e : Env} {R : Room} {s : State} {m : MethodId} {args : Array Value} {below : List Frame} {meth : Method} {c : Code} {b : ByteArray} {nL : Nat} {ret : Option FieldType} {D : va_G} {q : Nat → Nat} {k : Nat → ClassId} {A0 : Nat → Prop} {k0 n0 : Nat} {Q : State → Prop} {pc : Nat} {lo : List (Option Value)} {st : List Value} {u : XS}

theorem v_M_testPair {post : Int32 → XS → Prop} (hM : C_M_testPair [] u post) (hR : 0 + 1 ≤ R.frames ∧ 8 + (1 + 11) + 0 ≤ R.locals) (hrest : (st.map fun v => v.category).sum ≤ 8) (hd : decode b pc = .ok (.invokevirtual 50, 3)) (kk : ∀ (r : Int32) (u2 : XS), post r u2 → V p l e R s m args below meth c R_M wM b nL ret D (mty k) A0 (mw q k) 0 0 Q (pc + 3) lo (.int r :: st) (u2)) : V p l e R s m args below meth c R_M wM b nL ret D (mty k) A0 (mw q k) 0 0 Q (pc) lo (.ref (q 0) :: st) (u) :=
  V_calli (rest := st) hM g_M_testPair hy_M_testPair ⟨rfl, rfl⟩ (ci := 1) (T := F_M) (N := 4) rfl rfl hR hrest rfl hd kk
end
abbrev rm_M_cat : Room := { frames := 4, cells := 0, slots := 0, locals := 105 }
abbrev C_M_cat (As : List Value) (u : XS) (post : Int32 → XS → Prop) : Prop := Mi wM mw mty y_M_cat b_M_cat 5 (some .int) rm_M_cat As u post
theorem e_M_cat {u : XS} {post : Int32 → XS → Prop} (body : ∀ (p : Program) (l : Launch) (e : Env) (s : State) (m : MethodId) (args : Array Value) (below : List Frame) (meth : Method) (c : Code) (D : va_G) (q : Nat → Nat) (k : Nat → ClassId) (A0 : Nat → Prop), V p l e rm_M_cat s m args below meth c R_M wM b_M_cat 5 (some .int) D (mty k) A0 (mw q k) 0 0 (MQ below (va_Qi post (vB D (mty k) (mw q k) A0) A0) args s 0 0 A0) (0) ([some (.ref (q 0)), none, none, none, none]) ([]) (u)) : C_M_cat [] u post := Mi.of (own := R_M) (by decide +kernel) rfl (by simp [Value.category]) (Nat.le_of_ble_eq_true rfl) body
abbrev rm_M_alt : Room := { frames := 1, cells := 0, slots := 0, locals := 20 }
abbrev C_M_alt (As : List Value) (u : XS) (post : Int32 → XS → Prop) : Prop := Mi wM mw mty y_M_alt b_M_alt 3 (some .int) rm_M_alt As u post
theorem e_M_alt {u : XS} {post : Int32 → XS → Prop} (body : ∀ (p : Program) (l : Launch) (e : Env) (s : State) (m : MethodId) (args : Array Value) (below : List Frame) (meth : Method) (c : Code) (D : va_G) (q : Nat → Nat) (k : Nat → ClassId) (A0 : Nat → Prop), V p l e rm_M_alt s m args below meth c R_M wM b_M_alt 3 (some .int) D (mty k) A0 (mw q k) 0 0 (MQ below (va_Qi post (vB D (mty k) (mw q k) A0) A0) args s 0 0 A0) (0) ([some (.ref (q 0)), none, none]) ([]) (u)) : C_M_alt [] u post := Mi.of (own := R_M) (by decide +kernel) rfl (by simp [Value.category]) (Nat.le_of_ble_eq_true rfl) body
abbrev rm_M_testOne : Room := { frames := 0, cells := 0, slots := 0, locals := 0 }
abbrev C_M_testOne (As : List Value) (u : XS) (post : Int32 → XS → Prop) : Prop := Mi wM mw mty y_M_testOne b_M_testOne 1 (some .int) rm_M_testOne As u post
theorem e_M_testOne {u : XS} {post : Int32 → XS → Prop} (body : ∀ (p : Program) (l : Launch) (e : Env) (s : State) (m : MethodId) (args : Array Value) (below : List Frame) (meth : Method) (c : Code) (D : va_G) (q : Nat → Nat) (k : Nat → ClassId) (A0 : Nat → Prop), V p l e rm_M_testOne s m args below meth c R_M wM b_M_testOne 1 (some .int) D (mty k) A0 (mw q k) 0 0 (MQ below (va_Qi post (vB D (mty k) (mw q k) A0) A0) args s 0 0 A0) (0) ([some (.ref (q 0))]) ([]) (u)) : C_M_testOne [] u post := Mi.of (own := R_M) (by decide +kernel) rfl (by simp [Value.category]) (Nat.le_of_ble_eq_true rfl) body
theorem hy_M_testOne : y_M_testOne.cls = R_M ∧ y_M_testOne.cls ≠ "java/lang/invoke/MethodHandle" ∧ y_M_testOne.cls ≠ "java/lang/invoke/VarHandle" ∧ (parseMethodDescriptor y_M_testOne.desc).map (fun d => d.parameters.length) = some 0 := by decide +kernel
section
variable {p : Program} {l : Launch} {e : Env} {R : Room} {s : State} {m : MethodId} {args : Array Value} {below : List Frame} {meth : Method} {c : Code} {b : ByteArray} {nL : Nat} {ret : Option FieldType} {D : va_G} {q : Nat → Nat} {k : Nat → ClassId} {A0 : Nat → Prop} {k0 n0 : Nat} {Q : State → Prop} {pc : Nat} {lo : List (Option Value)} {st : List Value} {u : XS}

theorem v_M_testOne {post : Int32 → XS → Prop} (hM : C_M_testOne [] u post) (hR : 0 + 1 ≤ R.frames ∧ 8 + (1 + 11) + 0 ≤ R.locals) (hrest : (st.map fun v => v.category).sum ≤ 8) (hd : decode b pc = .ok (.invokevirtual 62, 3)) (kk : ∀ (r : Int32) (u2 : XS), post r u2 → V p l e R s m args below meth c R_M wM b nL ret D (mty k) A0 (mw q k) 0 0 Q (pc + 3) lo (.int r :: st) (u2)) : V p l e R s m args below meth c R_M wM b nL ret D (mty k) A0 (mw q k) 0 0 Q (pc) lo (.ref (q 0) :: st) (u) :=
  V_calli (rest := st) hM g_M_testOne hy_M_testOne ⟨rfl, rfl⟩ (ci := 1) (T := F_M) (N := 4) rfl rfl hR hrest rfl hd kk
end
abbrev rm_M_star : Room := { frames := 4, cells := 0, slots := 0, locals := 105 }
abbrev C_M_star (As : List Value) (u : XS) (post : Int32 → XS → Prop) : Prop := Mi wM mw mty y_M_star b_M_star 3 (some .int) rm_M_star As u post
theorem e_M_star {u : XS} {post : Int32 → XS → Prop} (body : ∀ (p : Program) (l : Launch) (e : Env) (s : State) (m : MethodId) (args : Array Value) (below : List Frame) (meth : Method) (c : Code) (D : va_G) (q : Nat → Nat) (k : Nat → ClassId) (A0 : Nat → Prop), V p l e rm_M_star s m args below meth c R_M wM b_M_star 3 (some .int) D (mty k) A0 (mw q k) 0 0 (MQ below (va_Qi post (vB D (mty k) (mw q k) A0) A0) args s 0 0 A0) (0) ([some (.ref (q 0)), none, none]) ([]) (u)) : C_M_star [] u post := Mi.of (own := R_M) (by decide +kernel) rfl (by simp [Value.category]) (Nat.le_of_ble_eq_true rfl) body
abbrev rm_M_turn : Room := { frames := 1, cells := 0, slots := 0, locals := 23 }
abbrev C_M_turn (As : List Value) (u : XS) (post : Int32 → XS → Prop) : Prop := Mi wM mw mty y_M_turn b_M_turn 4 (some .int) rm_M_turn As u post
theorem e_M_turn {u : XS} {post : Int32 → XS → Prop} (body : ∀ (p : Program) (l : Launch) (e : Env) (s : State) (m : MethodId) (args : Array Value) (below : List Frame) (meth : Method) (c : Code) (D : va_G) (q : Nat → Nat) (k : Nat → ClassId) (A0 : Nat → Prop), V p l e rm_M_turn s m args below meth c R_M wM b_M_turn 4 (some .int) D (mty k) A0 (mw q k) 0 0 (MQ below (va_Qi post (vB D (mty k) (mw q k) A0) A0) args s 0 0 A0) (0) ([some (.ref (q 0)), none, none, none]) ([]) (u)) : C_M_turn [] u post := Mi.of (own := R_M) (by decide +kernel) rfl (by simp [Value.category]) (Nat.le_of_ble_eq_true rfl) body
abbrev rm_M_steps : Room := { frames := 0, cells := 0, slots := 0, locals := 0 }
abbrev C_M_steps (As : List Value) (u : XS) (post : Int32 → XS → Prop) : Prop := Mi wM mw mty y_M_steps b_M_steps 1 (some .int) rm_M_steps As u post
theorem e_M_steps {u : XS} {post : Int32 → XS → Prop} (body : ∀ (p : Program) (l : Launch) (e : Env) (s : State) (m : MethodId) (args : Array Value) (below : List Frame) (meth : Method) (c : Code) (D : va_G) (q : Nat → Nat) (k : Nat → ClassId) (A0 : Nat → Prop), V p l e rm_M_steps s m args below meth c R_M wM b_M_steps 1 (some .int) D (mty k) A0 (mw q k) 0 0 (MQ below (va_Qi post (vB D (mty k) (mw q k) A0) A0) args s 0 0 A0) (0) ([some (.ref (q 0))]) ([]) (u)) : C_M_steps [] u post := Mi.of (own := R_M) (by decide +kernel) rfl (by simp [Value.category]) (Nat.le_of_ble_eq_true rfl) body
abbrev rm_M_depth : Room := { frames := 0, cells := 0, slots := 0, locals := 0 }
abbrev C_M_depth (As : List Value) (u : XS) (post : Int32 → XS → Prop) : Prop := Mi wM mw mty y_M_depth b_M_depth 1 (some .int) rm_M_depth As u post
theorem e_M_depth {u : XS} {post : Int32 → XS → Prop} (body : ∀ (p : Program) (l : Launch) (e : Env) (s : State) (m : MethodId) (args : Array Value) (below : List Frame) (meth : Method) (c : Code) (D : va_G) (q : Nat → Nat) (k : Nat → ClassId) (A0 : Nat → Prop), V p l e rm_M_depth s m args below meth c R_M wM b_M_depth 1 (some .int) D (mty k) A0 (mw q k) 0 0 (MQ below (va_Qi post (vB D (mty k) (mw q k) A0) A0) args s 0 0 A0) (0) ([some (.ref (q 0))]) ([]) (u)) : C_M_depth [] u post := Mi.of (own := R_M) (by decide +kernel) rfl (by simp [Value.category]) (Nat.le_of_ble_eq_true rfl) body
abbrev rm_M_discard : Room := { frames := 0, cells := 0, slots := 0, locals := 0 }
abbrev C_M_discard (As : List Value) (u : XS) (post : XS → Prop) : Prop := Mv wM mw mty y_M_discard b_M_discard 1 none rm_M_discard As u post
theorem e_M_discard {u : XS} {post : XS → Prop} (body : ∀ (p : Program) (l : Launch) (e : Env) (s : State) (m : MethodId) (args : Array Value) (below : List Frame) (meth : Method) (c : Code) (D : va_G) (q : Nat → Nat) (k : Nat → ClassId) (A0 : Nat → Prop), V p l e rm_M_discard s m args below meth c R_M wM b_M_discard 1 none D (mty k) A0 (mw q k) 0 0 (MQ below (va_Qv post (vB D (mty k) (mw q k) A0) A0) args s 0 0 A0) (0) ([some (.ref (q 0))]) ([]) (u)) : C_M_discard [] u post := Mv.of (own := R_M) (by decide +kernel) rfl (by simp [Value.category]) (Nat.le_of_ble_eq_true rfl) body
theorem hy_M_discard : y_M_discard.cls = R_M ∧ y_M_discard.cls ≠ "java/lang/invoke/MethodHandle" ∧ y_M_discard.cls ≠ "java/lang/invoke/VarHandle" ∧ (parseMethodDescriptor y_M_discard.desc).map (fun d => d.parameters.length) = some 0 := by decide +kernel
section
variable {p : Program} {l : Launch} {e : Env} {R : Room} {s : State} {m : MethodId} {args : Array Value} {below : List Frame} {meth : Method} {c : Code} {b : ByteArray} {nL : Nat} {ret : Option FieldType} {D : va_G} {q : Nat → Nat} {k : Nat → ClassId} {A0 : Nat → Prop} {k0 n0 : Nat} {Q : State → Prop} {pc : Nat} {lo : List (Option Value)} {st : List Value} {u : XS}

theorem v_M_discard {post : XS → Prop} (hM : C_M_discard [] u post) (hR : 0 + 1 ≤ R.frames ∧ 8 + (1 + 11) + 0 ≤ R.locals) (hrest : (st.map fun v => v.category).sum ≤ 8) (hd : decode b pc = .ok (.invokevirtual 65, 3)) (kk : ∀ (u2 : XS), post u2 → V p l e R s m args below meth c R_M wM b nL ret D (mty k) A0 (mw q k) 0 0 Q (pc + 3) lo (st) (u2)) : V p l e R s m args below meth c R_M wM b nL ret D (mty k) A0 (mw q k) 0 0 Q (pc) lo (.ref (q 0) :: st) (u) :=
  V_callv (rest := st) hM g_M_discard hy_M_discard ⟨rfl, rfl⟩ (ci := 1) (T := F_M) (N := 4) rfl rfl hR hrest rfl hd kk
end
abbrev rm_M_define : Room := { frames := 1, cells := 0, slots := 0, locals := 23 }
abbrev C_M_define (As : List Value) (u : XS) (post : Int32 → XS → Prop) : Prop := Mi wM mw mty y_M_define b_M_define 2 (some .int) rm_M_define As u post
theorem e_M_define {u : XS} {post : Int32 → XS → Prop} (body : ∀ (p : Program) (l : Launch) (e : Env) (s : State) (m : MethodId) (args : Array Value) (below : List Frame) (meth : Method) (c : Code) (D : va_G) (q : Nat → Nat) (k : Nat → ClassId) (A0 : Nat → Prop), V p l e rm_M_define s m args below meth c R_M wM b_M_define 2 (some .int) D (mty k) A0 (mw q k) 0 0 (MQ below (va_Qi post (vB D (mty k) (mw q k) A0) A0) args s 0 0 A0) (0) ([some (.ref (q 0)), none]) ([]) (u)) : C_M_define [] u post := Mi.of (own := R_M) (by decide +kernel) rfl (by simp [Value.category]) (Nat.le_of_ble_eq_true rfl) body
abbrev rm_M_isWord : Room := { frames := 0, cells := 0, slots := 0, locals := 0 }
abbrev C_M_isWord (As : List Value) (u : XS) (post : Int32 → XS → Prop) : Prop := Mi wM mw mty y_M_isWord b_M_isWord 3 (some .boolean) rm_M_isWord As u post
theorem e_M_isWord {a1 a2 : Int32} {u : XS} {post : Int32 → XS → Prop} (body : ∀ (p : Program) (l : Launch) (e : Env) (s : State) (m : MethodId) (args : Array Value) (below : List Frame) (meth : Method) (c : Code) (D : va_G) (q : Nat → Nat) (k : Nat → ClassId) (A0 : Nat → Prop), V p l e rm_M_isWord s m args below meth c R_M wM b_M_isWord 3 (some .boolean) D (mty k) A0 (mw q k) 0 0 (MQ below (va_Qi post (vB D (mty k) (mw q k) A0) A0) args s 0 0 A0) (0) ([some (.ref (q 0)), some (.int a1), some (.int a2)]) ([]) (u)) : C_M_isWord [.int a1, .int a2] u post := Mi.of (own := R_M) (by decide +kernel) rfl (by simp [Value.category]) (Nat.le_of_ble_eq_true rfl) body
theorem hy_M_isWord : y_M_isWord.cls = R_M ∧ y_M_isWord.cls ≠ "java/lang/invoke/MethodHandle" ∧ y_M_isWord.cls ≠ "java/lang/invoke/VarHandle" ∧ (parseMethodDescriptor y_M_isWord.desc).map (fun d => d.parameters.length) = some 2 := by decide +kernel
section
variable {p : Program} {l : Launch} {e : Env} {R : Room} {s : State} {m : MethodId} {args : Array Value} {below : List Frame} {meth : Method} {c : Code} {b : ByteArray} {nL : Nat} {ret : Option FieldType} {D : va_G} {q : Nat → Nat} {k : Nat → ClassId} {A0 : Nat → Prop} {k0 n0 : Nat} {Q : State → Prop} {pc : Nat} {lo : List (Option Value)} {st : List Value} {u : XS}

theorem v_M_isWord {a1 a2 : Int32} {post : Int32 → XS → Prop} (hM : C_M_isWord [.int a1, .int a2] u post) (hR : 0 + 1 ≤ R.frames ∧ 8 + (3 + 11) + 0 ≤ R.locals) (hrest : (st.map fun v => v.category).sum ≤ 8) (hd : decode b pc = .ok (.invokevirtual 68, 3)) (kk : ∀ (r : Int32) (u2 : XS), post r u2 → V p l e R s m args below meth c R_M wM b nL ret D (mty k) A0 (mw q k) 0 0 Q (pc + 3) lo (.int r :: st) (u2)) : V p l e R s m args below meth c R_M wM b nL ret D (mty k) A0 (mw q k) 0 0 Q (pc) lo (.int a2 :: .int a1 :: .ref (q 0) :: st) (u) :=
  V_calli (rest := st) hM g_M_isWord hy_M_isWord ⟨rfl, rfl⟩ (ci := 1) (T := F_M) (N := 4) rfl rfl hR hrest rfl hd kk
end
abbrev rm_M_related : Room := { frames := 1, cells := 0, slots := 0, locals := 23 }
abbrev C_M_related (As : List Value) (u : XS) (post : Int32 → XS → Prop) : Prop := Mi wM mw mty y_M_related b_M_related 5 (some .boolean) rm_M_related As u post
theorem e_M_related {a1 a2 a3 a4 : Int32} {u : XS} {post : Int32 → XS → Prop} (body : ∀ (p : Program) (l : Launch) (e : Env) (s : State) (m : MethodId) (args : Array Value) (below : List Frame) (meth : Method) (c : Code) (D : va_G) (q : Nat → Nat) (k : Nat → ClassId) (A0 : Nat → Prop), V p l e rm_M_related s m args below meth c R_M wM b_M_related 5 (some .boolean) D (mty k) A0 (mw q k) 0 0 (MQ below (va_Qi post (vB D (mty k) (mw q k) A0) A0) args s 0 0 A0) (0) ([some (.ref (q 0)), some (.int a1), some (.int a2), some (.int a3), some (.int a4)]) ([]) (u)) : C_M_related [.int a1, .int a2, .int a3, .int a4] u post := Mi.of (own := R_M) (by decide +kernel) rfl (by simp [Value.category]) (Nat.le_of_ble_eq_true rfl) body
abbrev rm_M_imagesOf : Room := { frames := 1, cells := 0, slots := 0, locals := 23 }
abbrev C_M_imagesOf (As : List Value) (u : XS) (post : Int32 → XS → Prop) : Prop := Mi wM mw mty y_M_imagesOf b_M_imagesOf 4 (some .int) rm_M_imagesOf As u post
theorem e_M_imagesOf {a1 : Int32} {u : XS} {post : Int32 → XS → Prop} (body : ∀ (p : Program) (l : Launch) (e : Env) (s : State) (m : MethodId) (args : Array Value) (below : List Frame) (meth : Method) (c : Code) (D : va_G) (q : Nat → Nat) (k : Nat → ClassId) (A0 : Nat → Prop), V p l e rm_M_imagesOf s m args below meth c R_M wM b_M_imagesOf 4 (some .int) D (mty k) A0 (mw q k) 0 0 (MQ below (va_Qi post (vB D (mty k) (mw q k) A0) A0) args s 0 0 A0) (0) ([some (.ref (q 0)), some (.int a1), none, none]) ([]) (u)) : C_M_imagesOf [.int a1] u post := Mi.of (own := R_M) (by decide +kernel) rfl (by simp [Value.category]) (Nat.le_of_ble_eq_true rfl) body
theorem hy_M_imagesOf : y_M_imagesOf.cls = R_M ∧ y_M_imagesOf.cls ≠ "java/lang/invoke/MethodHandle" ∧ y_M_imagesOf.cls ≠ "java/lang/invoke/VarHandle" ∧ (parseMethodDescriptor y_M_imagesOf.desc).map (fun d => d.parameters.length) = some 1 := by decide +kernel
section
variable {p : Program} {l : Launch} {e : Env} {R : Room} {s : State} {m : MethodId} {args : Array Value} {below : List Frame} {meth : Method} {c : Code} {b : ByteArray} {nL : Nat} {ret : Option FieldType} {D : va_G} {q : Nat → Nat} {k : Nat → ClassId} {A0 : Nat → Prop} {k0 n0 : Nat} {Q : State → Prop} {pc : Nat} {lo : List (Option Value)} {st : List Value} {u : XS}

theorem v_M_imagesOf {a1 : Int32} {post : Int32 → XS → Prop} (hM : C_M_imagesOf [.int a1] u post) (hR : 1 + 1 ≤ R.frames ∧ 8 + (4 + 11) + 23 ≤ R.locals) (hrest : (st.map fun v => v.category).sum ≤ 8) (hd : decode b pc = .ok (.invokevirtual 72, 3)) (kk : ∀ (r : Int32) (u2 : XS), post r u2 → V p l e R s m args below meth c R_M wM b nL ret D (mty k) A0 (mw q k) 0 0 Q (pc + 3) lo (.int r :: st) (u2)) : V p l e R s m args below meth c R_M wM b nL ret D (mty k) A0 (mw q k) 0 0 Q (pc) lo (.int a1 :: .ref (q 0) :: st) (u) :=
  V_calli (rest := st) hM g_M_imagesOf hy_M_imagesOf ⟨rfl, rfl⟩ (ci := 1) (T := F_M) (N := 4) rfl rfl hR hrest rfl hd kk
end
abbrev rm_M_images : Room := { frames := 2, cells := 0, slots := 0, locals := 46 }
abbrev C_M_images (As : List Value) (u : XS) (post : Int32 → XS → Prop) : Prop := Mi wM mw mty y_M_images b_M_images 3 (some .int) rm_M_images As u post
theorem e_M_images {a1 a2 : Int32} {u : XS} {post : Int32 → XS → Prop} (body : ∀ (p : Program) (l : Launch) (e : Env) (s : State) (m : MethodId) (args : Array Value) (below : List Frame) (meth : Method) (c : Code) (D : va_G) (q : Nat → Nat) (k : Nat → ClassId) (A0 : Nat → Prop), V p l e rm_M_images s m args below meth c R_M wM b_M_images 3 (some .int) D (mty k) A0 (mw q k) 0 0 (MQ below (va_Qi post (vB D (mty k) (mw q k) A0) A0) args s 0 0 A0) (0) ([some (.ref (q 0)), some (.int a1), some (.int a2)]) ([]) (u)) : C_M_images [.int a1, .int a2] u post := Mi.of (own := R_M) (by decide +kernel) rfl (by simp [Value.category]) (Nat.le_of_ble_eq_true rfl) body
abbrev rm_M_image : Room := { frames := 1, cells := 0, slots := 0, locals := 23 }
abbrev C_M_image (As : List Value) (u : XS) (post : Int32 → XS → Prop) : Prop := Mi wM mw mty y_M_image b_M_image 7 (some .int) rm_M_image As u post
theorem e_M_image {a1 a2 a3 : Int32} {u : XS} {post : Int32 → XS → Prop} (body : ∀ (p : Program) (l : Launch) (e : Env) (s : State) (m : MethodId) (args : Array Value) (below : List Frame) (meth : Method) (c : Code) (D : va_G) (q : Nat → Nat) (k : Nat → ClassId) (A0 : Nat → Prop), V p l e rm_M_image s m args below meth c R_M wM b_M_image 7 (some .int) D (mty k) A0 (mw q k) 0 0 (MQ below (va_Qi post (vB D (mty k) (mw q k) A0) A0) args s 0 0 A0) (0) ([some (.ref (q 0)), some (.int a1), some (.int a2), some (.int a3), none, none, none]) ([]) (u)) : C_M_image [.int a1, .int a2, .int a3] u post := Mi.of (own := R_M) (by decide +kernel) rfl (by simp [Value.category]) (Nat.le_of_ble_eq_true rfl) body
abbrev rm_M_sources : Room := { frames := 1, cells := 0, slots := 0, locals := 23 }
abbrev C_M_sources (As : List Value) (u : XS) (post : Int32 → XS → Prop) : Prop := Mi wM mw mty y_M_sources b_M_sources 5 (some .int) rm_M_sources As u post
theorem e_M_sources {a1 a2 : Int32} {u : XS} {post : Int32 → XS → Prop} (body : ∀ (p : Program) (l : Launch) (e : Env) (s : State) (m : MethodId) (args : Array Value) (below : List Frame) (meth : Method) (c : Code) (D : va_G) (q : Nat → Nat) (k : Nat → ClassId) (A0 : Nat → Prop), V p l e rm_M_sources s m args below meth c R_M wM b_M_sources 5 (some .int) D (mty k) A0 (mw q k) 0 0 (MQ below (va_Qi post (vB D (mty k) (mw q k) A0) A0) args s 0 0 A0) (0) ([some (.ref (q 0)), some (.int a1), some (.int a2), none, none]) ([]) (u)) : C_M_sources [.int a1, .int a2] u post := Mi.of (own := R_M) (by decide +kernel) rfl (by simp [Value.category]) (Nat.le_of_ble_eq_true rfl) body
abbrev rm_M_pairs : Room := { frames := 2, cells := 0, slots := 0, locals := 46 }
abbrev C_M_pairs (As : List Value) (u : XS) (post : Int32 → XS → Prop) : Prop := Mi wM mw mty y_M_pairs b_M_pairs 3 (some .int) rm_M_pairs As u post
theorem e_M_pairs {u : XS} {post : Int32 → XS → Prop} (body : ∀ (p : Program) (l : Launch) (e : Env) (s : State) (m : MethodId) (args : Array Value) (below : List Frame) (meth : Method) (c : Code) (D : va_G) (q : Nat → Nat) (k : Nat → ClassId) (A0 : Nat → Prop), V p l e rm_M_pairs s m args below meth c R_M wM b_M_pairs 3 (some .int) D (mty k) A0 (mw q k) 0 0 (MQ below (va_Qi post (vB D (mty k) (mw q k) A0) A0) args s 0 0 A0) (0) ([some (.ref (q 0)), none, none]) ([]) (u)) : C_M_pairs [] u post := Mi.of (own := R_M) (by decide +kernel) rfl (by simp [Value.category]) (Nat.le_of_ble_eq_true rfl) body
abbrev rm_M_domain : Room := { frames := 2, cells := 0, slots := 0, locals := 46 }
abbrev C_M_domain (As : List Value) (u : XS) (post : Int32 → XS → Prop) : Prop := Mi wM mw mty y_M_domain b_M_domain 3 (some .int) rm_M_domain As u post
theorem e_M_domain {u : XS} {post : Int32 → XS → Prop} (body : ∀ (p : Program) (l : Launch) (e : Env) (s : State) (m : MethodId) (args : Array Value) (below : List Frame) (meth : Method) (c : Code) (D : va_G) (q : Nat → Nat) (k : Nat → ClassId) (A0 : Nat → Prop), V p l e rm_M_domain s m args below meth c R_M wM b_M_domain 3 (some .int) D (mty k) A0 (mw q k) 0 0 (MQ below (va_Qi post (vB D (mty k) (mw q k) A0) A0) args s 0 0 A0) (0) ([some (.ref (q 0)), none, none]) ([]) (u)) : C_M_domain [] u post := Mi.of (own := R_M) (by decide +kernel) rfl (by simp [Value.category]) (Nat.le_of_ble_eq_true rfl) body
abbrev rm_M_manyValued : Room := { frames := 2, cells := 0, slots := 0, locals := 46 }
abbrev C_M_manyValued (As : List Value) (u : XS) (post : Int32 → XS → Prop) : Prop := Mi wM mw mty y_M_manyValued b_M_manyValued 3 (some .int) rm_M_manyValued As u post
theorem e_M_manyValued {u : XS} {post : Int32 → XS → Prop} (body : ∀ (p : Program) (l : Launch) (e : Env) (s : State) (m : MethodId) (args : Array Value) (below : List Frame) (meth : Method) (c : Code) (D : va_G) (q : Nat → Nat) (k : Nat → ClassId) (A0 : Nat → Prop), V p l e rm_M_manyValued s m args below meth c R_M wM b_M_manyValued 3 (some .int) D (mty k) A0 (mw q k) 0 0 (MQ below (va_Qi post (vB D (mty k) (mw q k) A0) A0) args s 0 0 A0) (0) ([some (.ref (q 0)), none, none]) ([]) (u)) : C_M_manyValued [] u post := Mi.of (own := R_M) (by decide +kernel) rfl (by simp [Value.category]) (Nat.le_of_ble_eq_true rfl) body
abbrev rm_M_fixed : Room := { frames := 1, cells := 0, slots := 0, locals := 23 }
abbrev C_M_fixed (As : List Value) (u : XS) (post : Int32 → XS → Prop) : Prop := Mi wM mw mty y_M_fixed b_M_fixed 3 (some .int) rm_M_fixed As u post
theorem e_M_fixed {u : XS} {post : Int32 → XS → Prop} (body : ∀ (p : Program) (l : Launch) (e : Env) (s : State) (m : MethodId) (args : Array Value) (below : List Frame) (meth : Method) (c : Code) (D : va_G) (q : Nat → Nat) (k : Nat → ClassId) (A0 : Nat → Prop), V p l e rm_M_fixed s m args below meth c R_M wM b_M_fixed 3 (some .int) D (mty k) A0 (mw q k) 0 0 (MQ below (va_Qi post (vB D (mty k) (mw q k) A0) A0) args s 0 0 A0) (0) ([some (.ref (q 0)), none, none]) ([]) (u)) : C_M_fixed [] u post := Mi.of (own := R_M) (by decide +kernel) rfl (by simp [Value.category]) (Nat.le_of_ble_eq_true rfl) body
abbrev rm_M_leads : Room := { frames := 1, cells := 0, slots := 0, locals := 23 }
abbrev C_M_leads (As : List Value) (u : XS) (post : Int32 → XS → Prop) : Prop := Mi wM mw mty y_M_leads b_M_leads 4 (some .boolean) rm_M_leads As u post
theorem e_M_leads {a1 a2 : Int32} {u : XS} {post : Int32 → XS → Prop} (body : ∀ (p : Program) (l : Launch) (e : Env) (s : State) (m : MethodId) (args : Array Value) (below : List Frame) (meth : Method) (c : Code) (D : va_G) (q : Nat → Nat) (k : Nat → ClassId) (A0 : Nat → Prop), V p l e rm_M_leads s m args below meth c R_M wM b_M_leads 4 (some .boolean) D (mty k) A0 (mw q k) 0 0 (MQ below (va_Qi post (vB D (mty k) (mw q k) A0) A0) args s 0 0 A0) (0) ([some (.ref (q 0)), some (.int a1), some (.int a2), none]) ([]) (u)) : C_M_leads [.int a1, .int a2] u post := Mi.of (own := R_M) (by decide +kernel) rfl (by simp [Value.category]) (Nat.le_of_ble_eq_true rfl) body
theorem hy_M_leads : y_M_leads.cls = R_M ∧ y_M_leads.cls ≠ "java/lang/invoke/MethodHandle" ∧ y_M_leads.cls ≠ "java/lang/invoke/VarHandle" ∧ (parseMethodDescriptor y_M_leads.desc).map (fun d => d.parameters.length) = some 2 := by decide +kernel
section
variable {p : Program} {l : Launch} {e : Env} {R : Room} {s : State} {m : MethodId} {args : Array Value} {below : List Frame} {meth : Method} {c : Code} {b : ByteArray} {nL : Nat} {ret : Option FieldType} {D : va_G} {q : Nat → Nat} {k : Nat → ClassId} {A0 : Nat → Prop} {k0 n0 : Nat} {Q : State → Prop} {pc : Nat} {lo : List (Option Value)} {st : List Value} {u : XS}

theorem v_M_leads {a1 a2 : Int32} {post : Int32 → XS → Prop} (hM : C_M_leads [.int a1, .int a2] u post) (hR : 1 + 1 ≤ R.frames ∧ 8 + (4 + 11) + 23 ≤ R.locals) (hrest : (st.map fun v => v.category).sum ≤ 8) (hd : decode b pc = .ok (.invokevirtual 75, 3)) (kk : ∀ (r : Int32) (u2 : XS), post r u2 → V p l e R s m args below meth c R_M wM b nL ret D (mty k) A0 (mw q k) 0 0 Q (pc + 3) lo (.int r :: st) (u2)) : V p l e R s m args below meth c R_M wM b nL ret D (mty k) A0 (mw q k) 0 0 Q (pc) lo (.int a2 :: .int a1 :: .ref (q 0) :: st) (u) :=
  V_calli (rest := st) hM g_M_leads hy_M_leads ⟨rfl, rfl⟩ (ci := 1) (T := F_M) (N := 4) rfl rfl hR hrest rfl hd kk
end
abbrev rm_M_twoSteps : Room := { frames := 2, cells := 0, slots := 0, locals := 46 }
abbrev C_M_twoSteps (As : List Value) (u : XS) (post : Int32 → XS → Prop) : Prop := Mi wM mw mty y_M_twoSteps b_M_twoSteps 4 (some .int) rm_M_twoSteps As u post
theorem e_M_twoSteps {u : XS} {post : Int32 → XS → Prop} (body : ∀ (p : Program) (l : Launch) (e : Env) (s : State) (m : MethodId) (args : Array Value) (below : List Frame) (meth : Method) (c : Code) (D : va_G) (q : Nat → Nat) (k : Nat → ClassId) (A0 : Nat → Prop), V p l e rm_M_twoSteps s m args below meth c R_M wM b_M_twoSteps 4 (some .int) D (mty k) A0 (mw q k) 0 0 (MQ below (va_Qi post (vB D (mty k) (mw q k) A0) A0) args s 0 0 A0) (0) ([some (.ref (q 0)), none, none, none]) ([]) (u)) : C_M_twoSteps [] u post := Mi.of (own := R_M) (by decide +kernel) rfl (by simp [Value.category]) (Nat.le_of_ble_eq_true rfl) body
end
section
/-! ===== Int32 by its bits: bt x i ===== -/
def bt (x : Int32) (i : Nat) : Bool := x.toBitVec.getLsbD i
theorem b_ext {x y : Int32} (h : ∀ i, i < 32 → bt x i = bt y i) : x = y := Int32.toBitVec_inj.mp (BitVec.eq_of_getLsbD_eq (fun i hi => h i hi))
theorem b_or (x y : Int32) (i : Nat) : bt (x ||| y) i = (bt x i || bt y i) := by unfold bt; rw [Int32.toBitVec_or, BitVec.getLsbD_or]
theorem b_and (x y : Int32) (i : Nat) : bt (x &&& y) i = (bt x i && bt y i) := by unfold bt; rw [Int32.toBitVec_and, BitVec.getLsbD_and]
theorem b_xor (x y : Int32) (i : Nat) : bt (x ^^^ y) i = (bt x i ^^ bt y i) := by unfold bt; rw [Int32.toBitVec_xor, BitVec.getLsbD_xor]
theorem b_big {x : Int32} {i : Nat} (h : 32 ≤ i) : bt x i = false := BitVec.getLsbD_of_ge _ _ h
theorem b_255 (i : Nat) : bt 255 i = decide (i < 8) := by
  rcases Nat.lt_or_ge i 32 with h | h
  · exact (by decide +kernel : ∀ i, i < 32 → bt 255 i = decide (i < 8)) i h
  · rw [b_big h, decide_eq_false (by omega)]
theorem b_65535 (i : Nat) : bt 65535 i = decide (i < 16) := by
  rcases Nat.lt_or_ge i 32 with h | h
  · exact (by decide +kernel : ∀ i, i < 32 → bt 65535 i = decide (i < 16)) i h
  · rw [b_big h, decide_eq_false (by omega)]
theorem b_m1 : ∀ i, i < 32 → bt (-1) i = true := by decide +kernel
theorem b_0 (i : Nat) : bt 0 i = false := BitVec.getLsbD_zero
theorem s_l : ∀ n, n < 32 → ((nI n &&& 31).toBitVec.smod 32).toNat = n := by decide +kernel
theorem s_u : ∀ n, n < 32 → (((nI n).toUInt32 &&& Int32.toUInt32 31).toBitVec % 32).toNat = n := by decide +kernel
theorem b_shl (n : Nat) (hn : n < 32) (x : Int32) {i : Nat} (hi : i < 32) : bt (x <<< (nI n &&& 31)) i = (decide (n ≤ i) && bt x (i - n)) := by
  unfold bt
  rw [Int32.toBitVec_shiftLeft]
  show (x.toBitVec <<< ((nI n &&& 31).toBitVec.smod 32).toNat).getLsbD i = _
  rw [s_l n hn, BitVec.getLsbD_shiftLeft]
  rcases Nat.lt_or_ge i n with h | h
  · simp [h, Nat.not_le.mpr h]
  · simp [hi, h, Nat.not_lt.mpr h]
theorem b_ushr (n : Nat) (hn : n < 32) (x : Int32) (i : Nat) : bt ((x.toUInt32 >>> ((nI n).toUInt32 &&& Int32.toUInt32 31)).toInt32) i = bt x (n + i) := by
  show (x.toUInt32 >>> ((nI n).toUInt32 &&& Int32.toUInt32 31)).toBitVec.getLsbD i = x.toUInt32.toBitVec.getLsbD (n + i)
  rw [UInt32.toBitVec_shiftRight]
  show (x.toUInt32.toBitVec >>> (((nI n).toUInt32 &&& Int32.toUInt32 31).toBitVec % 32).toNat).getLsbD i = _
  rw [s_u n hn, BitVec.getLsbD_ushiftRight]
theorem b_sshr (n : Nat) (hn : n < 32) (x : Int32) {i : Nat} (hi : i < 32) : bt (x >>> (nI n &&& 31)) i = if n + i < 32 then bt x (n + i) else bt x 31 := by
  unfold bt
  rw [Int32.toBitVec_shiftRight]
  show (x.toBitVec.sshiftRight ((nI n &&& 31).toBitVec.smod 32).toNat).getLsbD i = _
  rw [s_l n hn, BitVec.getLsbD_sshiftRight, BitVec.msb_eq_getLsbD_last]
  simp [hi]
theorem b_shl8 (x : Int32) {i : Nat} (hi : i < 32) : bt (x <<< ((8 : Int32) &&& 31)) i = (decide (8 ≤ i) && bt x (i - 8)) := b_shl 8 (by omega) x hi
theorem b_shl16 (x : Int32) {i : Nat} (hi : i < 32) : bt (x <<< ((16 : Int32) &&& 31)) i = (decide (16 ≤ i) && bt x (i - 16)) := b_shl 16 (by omega) x hi
theorem b_shl24 (x : Int32) {i : Nat} (hi : i < 32) : bt (x <<< ((24 : Int32) &&& 31)) i = (decide (24 ≤ i) && bt x (i - 24)) := b_shl 24 (by omega) x hi
theorem b_sshr8 (x : Int32) {i : Nat} (hi : i < 32) : bt (x >>> ((8 : Int32) &&& 31)) i = if 8 + i < 32 then bt x (8 + i) else bt x 31 := b_sshr 8 (by omega) x hi
/-! own rows on bits -/
def bI (x : Bool) : Int32 := nI x.toNat
theorem bI_t : bI true = nI 1 := rfl
theorem bI_f : bI false = nI 0 := rfl
theorem bI_1 {x : Bool} : bI x = nI 1 ↔ x = true := by cases x <;> decide
theorem bI_0 {x : Bool} : bI x = nI 0 ↔ x = false := by cases x <;> decide
theorem bI_and (x : Bool) : bI x &&& 1 = bI x := by cases x <;> decide
theorem b_1 (i : Nat) : bt (nI 1) i = decide (i = 0) := by
  rcases Nat.lt_or_ge i 32 with h | h
  · exact (by decide +kernel : ∀ i, i < 32 → bt (nI 1) i = decide (i = 0)) i h
  · rw [b_big h, decide_eq_false (by omega)]
theorem b_n0 (i : Nat) : bt (nI 0) i = false := b_0 i
theorem b_512 (i : Nat) : bt (nI 512) i = decide (i = 9) := by
  rcases Nat.lt_or_ge i 32 with h | h
  · exact (by decide +kernel : ∀ i, i < 32 → bt (nI 512) i = decide (i = 9)) i h
  · rw [b_big h, decide_eq_false (by omega)]
theorem bit1 (x : Int32) {p : Nat} (hp : p < 32) : (x >>> (nI p &&& 31)) &&& nI 1 = bI (bt x p) := by
  apply b_ext
  intro i hi
  rw [b_and, b_1, b_sshr p hp x hi]
  by_cases h : i = 0
  · subst h
    simp only [Nat.add_zero, hp, if_true, decide_true, Bool.and_true]
    cases bt x p <;> decide
  · simp only [h, decide_false, Bool.and_false]
    cases bt x p
    · rw [bI_f, b_n0]
    · rw [bI_t, b_1, decide_eq_false h]
theorem b_sh1 {p : Nat} (hp : p < 32) (i : Nat) : bt (nI 1 <<< (nI p &&& 31)) i = decide (i = p) := by
  rcases Nat.lt_or_ge i 32 with h | h
  · rw [b_shl p hp _ h, b_1]
    by_cases q : i = p
    · subst q; simp
    · rcases Nat.lt_or_ge i p with a | a
      · simp [q, Nat.not_le.mpr a]
      · have : ¬ i - p = 0 := by omega
        simp [q, this]
  · rw [b_big h, decide_eq_false (by omega)]
theorem and_ne {x y : Int32} : ¬ (x &&& y = nI 0) ↔ ∃ i, i < 32 ∧ bt x i = true ∧ bt y i = true := by
  constructor
  · intro h
    apply Classical.byContradiction
    intro hn
    apply h
    apply b_ext
    intro i hi
    rw [b_and, b_n0]
    cases hx : bt x i
    · rfl
    · cases hy : bt y i
      · rfl
      · exact absurd ⟨i, hi, hx, hy⟩ hn
  · rintro ⟨i, hi, hx, hy⟩ h
    have h1 : bt (x &&& y) i = bt (nI 0) i := by rw [h]
    rw [b_and, b_n0, hx, hy] at h1
    cases h1
theorem and512 {x : Int32} : ¬ (x &&& nI 512 = nI 0) ↔ bt x 9 = true := by
  rw [and_ne]
  constructor
  · rintro ⟨i, hi, hx, hy⟩
    rw [b_512] at hy
    rw [of_decide_eq_true hy] at hx
    exact hx
  · intro h
    exact ⟨9, by omega, h, by rw [b_512]; rfl⟩
theorem nI_shl1 {n : Nat} (hn : n < 31) : nI 1 <<< (nI n &&& 31) = nI (2 ^ n) := (by decide +kernel : ∀ n, n < 31 → nI 1 <<< (nI n &&& 31) = nI (2 ^ n)) n hn
theorem nI_shr {a n : Nat} (ha : a < 2 ^ 31) (hn : n < 32) : nI a >>> (nI n &&& 31) = nI (a / 2 ^ n) := pk_shrN ha _ n (s_l n hn)
theorem nI_and1 {a : Nat} (ha : a < 2 ^ 32) : nI a &&& nI 1 = nI (a % 2) := pk_andN ha (m := nI 1) 1 rfl
def cnt (f : Nat → Bool) : Nat → Nat
  | 0 => 0
  | n + 1 => cnt f n + (f n).toNat
theorem cnt_le (f : Nat → Bool) : ∀ n, cnt f n ≤ n
  | 0 => Nat.le_refl _
  | n + 1 => by
    have := cnt_le f n
    have h2 : (f n).toNat ≤ 1 := by cases f n <;> decide
    rw [cnt]; omega
theorem cnt_congr {f g : Nat → Bool} : ∀ n, (∀ i, i < n → f i = g i) → cnt f n = cnt g n
  | 0, _ => rfl
  | n + 1, h => by rw [cnt, cnt, cnt_congr n (fun i hi => h i (by omega)), h n (by omega)]
def setA (A : Nat → Nat → Int32) (a : Nat) (f : Nat → Int32) : Nat → Nat → Int32 := fun j => if j = a then f else A j
theorem setA_self (A : Nat → Nat → Int32) (a : Nat) : setA A a (A a) = A := by
  funext j
  unfold setA
  split
  · next h => rw [h]
  · rfl
theorem setA_at (A : Nat → Nat → Int32) (a : Nat) (f : Nat → Int32) : setA A a f a = f := if_pos rfl
theorem setA_ne (A : Nat → Nat → Int32) {a j : Nat} (f : Nat → Int32) (h : j ≠ a) : setA A a f j = A j := if_neg h
theorem setA_setA (A : Nat → Nat → Int32) (a : Nat) (f g : Nat → Int32) : setA (setA A a f) a g = setA A a g := by
  funext j
  unfold setA
  split <;> rfl
theorem updA_eq (A : Nat → Nat → Int32) (a n : Nat) (x : Int32) : updA A a n x = setA A a (upd (A a) n x) := rfl
theorem updA_setA (A : Nat → Nat → Int32) (a : Nat) (f : Nat → Int32) (n : Nat) (x : Int32) : updA (setA A a f) a n x = setA A a (upd f n x) := by
  rw [updA_eq, setA_setA, setA_at]
theorem upd_id (f : Nat → Int32) (n : Nat) : upd f n (f n) = f := by
  funext j
  unfold upd
  split
  · next h => rw [h]
  · rfl
end
section
/-! PairExpressions: refused, link, behind, sizeOf, wordOf, bad -/
set_option maxHeartbeats 4000000 in
theorem c_X_refused (u : XS) (a1 : Int32) : C_X_refused [.int a1] u (fun r u2 => u2 = u ∧ r = (if u.1 1 = nI 18 then -2 else if a1 ≤ u.1 0 then nI 0 else -3)) := by
  refine e_X_refused ?_
  intro p l e s m args below meth c D q k A0
  refine V_aload_n d_X_refused_0 rfl rfl ?_
  refine xg_made d_X_refused_1 ?_
  refine V_bipush (v := (nI 18)) d_X_refused_4 (by decide) ?_
  refine V_icmp_ne (tgt := 12) d_X_refused_6 (by decide) (fun c_6 => ?_) (fun c_6 => ?_)
  ·
    refine V_aload_n d_X_refused_12 rfl rfl ?_
    refine xg_height d_X_refused_13 ?_
    refine V_iload_n d_X_refused_16 rfl rfl ?_
    refine V_icmp_ge (tgt := 25) d_X_refused_17 (by decide) (fun c_17 => ?_) (fun c_17 => ?_)
    ·
      refine V_iconst (v := (nI 0)) d_X_refused_25 (by decide) ?_
      exact V_iret d_X_refused_26 rfl (⟨rfl, by rw [if_neg c_6, if_pos c_17]⟩)
    ·
      refine V_bipush (v := (-3)) d_X_refused_20 (by decide) ?_
      refine V_goto (tgt := 26) d_X_refused_22 (by decide) ?_
      exact V_iret d_X_refused_26 rfl (⟨rfl, by rw [if_neg c_6, if_neg c_17]⟩)
  ·
    refine V_bipush (v := (-2)) d_X_refused_9 (by decide) ?_
    exact V_iret d_X_refused_11 rfl (⟨rfl, by rw [if_pos c_6]⟩)
def lkF (f : Nat → Int32) (a b : Int32) (n : Nat) : Nat → Int32 := fun p => if p < n ∧ bt a p = true then f p ||| b else f p
theorem lkF_0 (f : Nat → Int32) (a b : Int32) : lkF f a b 0 = f := by
  funext p
  exact if_neg (fun h => absurd h.1 (Nat.not_lt_zero _))
theorem lkF_t {f : Nat → Int32} {a b : Int32} {n : Nat} (h : bt a n = true) : upd (lkF f a b n) n (lkF f a b n n ||| b) = lkF f a b (n + 1) := by
  funext p
  unfold upd lkF
  by_cases hp : p = n
  · subst hp
    simp [h]
  · have : (p < n + 1) ↔ p < n := by omega
    simp [hp, this]
theorem lkF_f {f : Nat → Int32} {a b : Int32} {n : Nat} (h : bt a n = false) : lkF f a b n = lkF f a b (n + 1) := by
  funext p
  unfold lkF
  by_cases hp : p = n
  · subst hp
    simp [h]
  · have : (p < n + 1) ↔ p < n := by omega
    simp [this]
set_option maxHeartbeats 4000000 in
theorem c_X_link (u : XS) (a1 a2 : Int32) : C_X_link [.int a1, .int a2] u (fun u2 => u2 = (u.1, setA u.2 7 (lkF (u.2 7) a1 a2 9))) := by
  generalize hpost : (fun u2 : XS => u2 = (u.1, setA u.2 7 (lkF (u.2 7) a1 a2 9))) = post
  refine e_X_link ?_
  intro p l e s m args below meth c D q k A0
  refine V_iconst (v := (nI 0)) d_X_link_0 (by decide) ?_
  refine V_istore_n d_X_link_1 rfl (by decide) ?_
  have loop : ∀ n, n ≤ 9 → (V p l e rm_X_link s m args below meth c R_X wX b_X_link 4 none D (xty k) A0 (xw q k) 0 0 (MQ below (va_Qv post (vB D (xty k) (xw q k) A0) A0) args s 0 0 A0) (2) ([some (.ref (q 0)), some (.int a1), some (.int a2), some (.int (nI n))]) ([]) ((u.1, setA u.2 7 (lkF (u.2 7) a1 a2 n)))) := by
    refine dn 9 ?_ ?_
    ·
      refine V_iload_n d_X_link_2 rfl rfl ?_
      refine V_bipush (v := (nI 9)) d_X_link_3 (by decide) ?_
      refine V_icmp_ge_t (tgt := 37) d_X_link_5 (by decide) (nI_le (by omega) (by omega)) ?_
      exact V_vret d_X_link_37 rfl (by rw [← hpost])
    · intro n hn ih
      refine V_iload_n d_X_link_2 rfl rfl ?_
      refine V_bipush (v := (nI 9)) d_X_link_3 (by decide) ?_
      refine V_icmp_ge_f (tgt := 37) d_X_link_5 (by decide) (nI_ge hn (by omega)) ?_
      refine V_iload_n d_X_link_8 rfl rfl ?_
      refine V_iload_n d_X_link_9 rfl rfl ?_
      refine V_ishr d_X_link_10 (rfl) ?_
      refine V_iconst (v := (nI 1)) d_X_link_11 (by decide) ?_
      refine V_iand d_X_link_12 (bit1 _ (by omega)) ?_
      refine V_iconst (v := (nI 1)) d_X_link_13 (by decide) ?_
      refine V_icmp_ne (tgt := 31) d_X_link_14 (by decide) (fun c_14 => ?_) (fun c_14 => ?_)
      · rw [lkF_f (by rw [bI_1] at c_14; simpa using c_14)]
        refine V_iinc d_X_link_31 rfl (nI_1 _) (by decide) ?_
        refine V_goto (tgt := 2) d_X_link_34 (by decide) ?_
        exact ih
      · refine V_at rfl rfl rfl rfl ?_
        refine V_aload_n d_X_link_17 rfl rfl ?_
        refine xg_follow d_X_link_18 ?_
        refine V_iload_n d_X_link_21 rfl rfl ?_
        refine V_aload_n d_X_link_22 rfl rfl ?_
        refine xg_follow d_X_link_23 ?_
        refine V_iload_n d_X_link_26 rfl rfl ?_
        refine xl_follow (rfl) (by omega) d_X_link_27 ?_
        refine V_iload_n d_X_link_28 rfl rfl ?_
        refine V_ior d_X_link_29 (rfl) ?_
        refine xs_follow (rfl) (by omega) d_X_link_30 ?_
        refine V_at rfl rfl rfl (show _ = (u.1, setA u.2 7 (lkF (u.2 7) a1 a2 (n + 1))) from ?_) ?_
        · show (u.1, updA (setA u.2 7 (lkF (u.2 7) a1 a2 n)) 7 n (setA u.2 7 (lkF (u.2 7) a1 a2 n) 7 n ||| a2)) = _
          rw [updA_setA, setA_at, lkF_t (bI_1.mp c_14)]
        refine V_iinc d_X_link_31 rfl (nI_1 _) (by decide) ?_
        refine V_goto (tgt := 2) d_X_link_34 (by decide) ?_
        exact ih
  refine V_at rfl rfl rfl (show u = (u.1, setA u.2 7 (lkF (u.2 7) a1 a2 0)) by rw [lkF_0, setA_self]) ?_
  exact loop 0 (by omega)
end
section
/-! PairExpressions: behind, sizeOf, wordOf, bad, letterOf, reached -/
def bhP (a uF : Int32) (fo : Nat → Int32) (n p : Nat) : Prop := (bt a 9 = true ∧ bt uF p = true) ∨ ∃ q, q < n ∧ bt a q = true ∧ bt (fo q) p = true
theorem bhP_s {a uF : Int32} {fo : Nat → Int32} {n p : Nat} : bhP a uF fo (n + 1) p ↔ bhP a uF fo n p ∨ (bt a n = true ∧ bt (fo n) p = true) := by
  unfold bhP
  constructor
  · rintro (h | ⟨q, hq, h⟩)
    · exact Or.inl (Or.inl h)
    · by_cases e : q = n
      · subst e; exact Or.inr h
      · exact Or.inl (Or.inr ⟨q, by omega, h⟩)
  · rintro ((h | ⟨q, hq, h⟩) | h)
    · exact Or.inl h
    · exact Or.inr ⟨q, by omega, h⟩
    · exact Or.inr ⟨n, by omega, h⟩
set_option maxHeartbeats 4000000 in
theorem c_X_behind (u : XS) (a1 : Int32) : C_X_behind [.int a1] u (fun r u2 => u2 = u ∧ ∀ p, bt r p = true ↔ bhP a1 (u.1 11) (u.2 8) 9 p) := by
  generalize hpost : (fun (r : Int32) (u2 : XS) => u2 = u ∧ ∀ p, bt r p = true ↔ bhP a1 (u.1 11) (u.2 8) 9 p) = post
  refine e_X_behind ?_
  intro p l e s m args below meth c D q k A0
  have loop : ∀ n, n ≤ 9 → ∀ out : Int32, (∀ p, bt out p = true ↔ bhP a1 (u.1 11) (u.2 8) n p) → (V p l e rm_X_behind s m args below meth c R_X wX b_X_behind 4 (some .int) D (xty k) A0 (xw q k) 0 0 (MQ below (va_Qi post (vB D (xty k) (xw q k) A0) A0) args s 0 0 A0) (19) ([some (.ref (q 0)), some (.int a1), some (.int out), some (.int (nI n))]) ([]) (u)) := by
    refine dn 9 ?_ ?_
    · intro out ho
      refine V_iload_n d_X_behind_19 rfl rfl ?_
      refine V_bipush (v := (nI 9)) d_X_behind_20 (by decide) ?_
      refine V_icmp_ge_t (tgt := 49) d_X_behind_22 (by decide) (nI_le (by omega) (by omega)) ?_
      refine V_iload_n d_X_behind_49 rfl rfl ?_
      exact V_iret d_X_behind_50 rfl (by rw [← hpost]; exact ⟨rfl, ho⟩)
    · intro n hn ih out ho
      refine V_iload_n d_X_behind_19 rfl rfl ?_
      refine V_bipush (v := (nI 9)) d_X_behind_20 (by decide) ?_
      refine V_icmp_ge_f (tgt := 49) d_X_behind_22 (by decide) (nI_ge hn (by omega)) ?_
      refine V_iload_n d_X_behind_25 rfl rfl ?_
      refine V_iload_n d_X_behind_26 rfl rfl ?_
      refine V_ishr d_X_behind_27 (rfl) ?_
      refine V_iconst (v := (nI 1)) d_X_behind_28 (by decide) ?_
      refine V_iand d_X_behind_29 (bit1 _ (by omega)) ?_
      refine V_iconst (v := (nI 1)) d_X_behind_30 (by decide) ?_
      refine V_icmp_ne (tgt := 43) d_X_behind_31 (by decide) (fun c_31 => ?_) (fun c_31 => ?_)
      ·
        refine V_iinc d_X_behind_43 rfl (nI_1 _) (by decide) ?_
        refine V_goto (tgt := 19) d_X_behind_46 (by decide) ?_
        refine ih out (fun p => ?_)
        rw [ho, bhP_s]
        have h0 : ¬ bt a1 n = true := fun h => c_31 (bI_1.mpr h)
        exact ⟨Or.inl, fun h => h.elim id (fun z => absurd z.1 h0)⟩
      ·
        refine V_iload_n d_X_behind_34 rfl rfl ?_
        refine V_aload_n d_X_behind_35 rfl rfl ?_
        refine xg_useFollow d_X_behind_36 ?_
        refine V_iload_n d_X_behind_39 rfl rfl ?_
        refine xl_useFollow (rfl) (by omega) d_X_behind_40 ?_
        refine V_ior d_X_behind_41 (rfl) ?_
        refine V_istore_n d_X_behind_42 rfl (by decide) ?_
        refine V_iinc d_X_behind_43 rfl (nI_1 _) (by decide) ?_
        refine V_goto (tgt := 19) d_X_behind_46 (by decide) ?_
        refine ih _ (fun p => ?_)
        rw [b_or, Bool.or_eq_true, ho, bhP_s]
        have h0 : bt a1 n = true := bI_1.mp c_31
        exact ⟨fun h => h.imp id (fun z => ⟨h0, z⟩), fun h => h.imp id (fun z => z.2)⟩
  refine V_iload_n d_X_behind_0 rfl rfl ?_
  refine V_sipush (v := (nI 512)) d_X_behind_1 (by decide) ?_
  refine V_iand d_X_behind_4 (rfl) ?_
  refine V_if_eq (tgt := 15) d_X_behind_5 (by decide) (fun c_5 => ?_) (fun c_5 => ?_)
  ·
    refine V_iconst (v := (nI 0)) d_X_behind_15 (by decide) ?_
    refine V_istore_n d_X_behind_16 rfl (by decide) ?_
    refine V_iconst (v := (nI 0)) d_X_behind_17 (by decide) ?_
    refine V_istore_n d_X_behind_18 rfl (by decide) ?_
    refine loop 0 (by omega) _ (fun p => ?_)
    have h9 : ¬ bt a1 9 = true := fun h => and512.mpr h c_5
    rw [b_n0]
    exact ⟨fun h => (by cases h), fun h => (by rcases h with h | ⟨q, hq, _⟩; exact absurd h.1 h9; omega)⟩
  ·
    refine V_aload_n d_X_behind_8 rfl rfl ?_
    refine xg_useFirst d_X_behind_9 ?_
    refine V_goto (tgt := 16) d_X_behind_12 (by decide) ?_
    refine V_istore_n d_X_behind_16 rfl (by decide) ?_
    refine V_iconst (v := (nI 0)) d_X_behind_17 (by decide) ?_
    refine V_istore_n d_X_behind_18 rfl (by decide) ?_
    refine loop 0 (by omega) _ (fun p => ?_)
    have h9 : bt a1 9 = true := and512.mp c_5
    exact ⟨fun h => Or.inl ⟨h9, h⟩, fun h => (by rcases h with h | ⟨q, hq, _⟩; exact h.2; omega)⟩
set_option maxHeartbeats 4000000 in
theorem c_X_sizeOf (u : XS) (a1 : Int32) : C_X_sizeOf [.int a1] u (fun r u2 => u2 = u ∧ r = nI (cnt (bt a1) 31)) := by
  generalize hpost : (fun (r : Int32) (u2 : XS) => u2 = u ∧ r = nI (cnt (bt a1) 31)) = post
  refine e_X_sizeOf ?_
  intro p l e s m args below meth c D q k A0
  have loop : ∀ n, n ≤ 31 → (V p l e rm_X_sizeOf s m args below meth c R_X wX b_X_sizeOf 4 (some .int) D (xty k) A0 (xw q k) 0 0 (MQ below (va_Qi post (vB D (xty k) (xw q k) A0) A0) args s 0 0 A0) (4) ([some (.ref (q 0)), some (.int a1), some (.int (nI (cnt (bt a1) n))), some (.int (nI n))]) ([]) (u)) := by
    refine dn 31 ?_ ?_
    ·
      refine V_iload_n d_X_sizeOf_4 rfl rfl ?_
      refine V_bipush (v := (nI 31)) d_X_sizeOf_5 (by decide) ?_
      refine V_icmp_ge_t (tgt := 24) d_X_sizeOf_7 (by decide) (nI_le (by omega) (by omega)) ?_
      refine V_iload_n d_X_sizeOf_24 rfl rfl ?_
      exact V_iret d_X_sizeOf_25 rfl (by rw [← hpost]; exact ⟨rfl, rfl⟩)
    · intro n hn ih
      refine V_iload_n d_X_sizeOf_4 rfl rfl ?_
      refine V_bipush (v := (nI 31)) d_X_sizeOf_5 (by decide) ?_
      refine V_icmp_ge_f (tgt := 24) d_X_sizeOf_7 (by decide) (nI_ge hn (by omega)) ?_
      refine V_iload_n d_X_sizeOf_10 rfl rfl ?_
      refine V_iload_n d_X_sizeOf_11 rfl rfl ?_
      refine V_iload_n d_X_sizeOf_12 rfl rfl ?_
      refine V_ishr d_X_sizeOf_13 (rfl) ?_
      refine V_iconst (v := (nI 1)) d_X_sizeOf_14 (by decide) ?_
      refine V_iand d_X_sizeOf_15 (bit1 _ (by omega)) ?_
      refine V_iadd d_X_sizeOf_16 (nI_add _ _) ?_
      refine V_istore_n d_X_sizeOf_17 rfl (by decide) ?_
      refine V_iinc d_X_sizeOf_18 rfl (nI_1 _) (by decide) ?_
      refine V_goto (tgt := 4) d_X_sizeOf_21 (by decide) ?_
      exact ih
  refine V_iconst (v := (nI 0)) d_X_sizeOf_0 (by decide) ?_
  refine V_istore_n d_X_sizeOf_1 rfl (by decide) ?_
  refine V_iconst (v := (nI 0)) d_X_sizeOf_2 (by decide) ?_
  refine V_istore_n d_X_sizeOf_3 rfl (by decide) ?_
  exact loop 0 (by omega)
set_option maxHeartbeats 4000000 in
theorem c_X_wordOf (u : XS) {L B : Nat} (hL : L ≤ 4) : C_X_wordOf [.int (nI L), .int (nI B)] u (fun r u2 => u2 = u ∧ r = nI (2 ^ L - 1 + B)) := by
  refine e_X_wordOf ?_
  intro p l e s m args below meth c D q k A0
  refine V_iconst (v := (nI 1)) d_X_wordOf_0 (by decide) ?_
  refine V_iload_n d_X_wordOf_1 rfl rfl ?_
  refine V_ishl d_X_wordOf_2 (nI_shl1 (by omega)) ?_
  refine V_iconst (v := (nI 1)) d_X_wordOf_3 (by decide) ?_
  refine V_isub d_X_wordOf_4 (pk_sub (Nat.one_le_two_pow)) ?_
  refine V_iload_n d_X_wordOf_5 rfl rfl ?_
  refine V_iadd d_X_wordOf_6 (nI_add _ _) ?_
  exact V_iret d_X_wordOf_7 rfl (⟨rfl, rfl⟩)
def isW (a b : Int32) : Prop := ∃ L B : Nat, L ≤ 4 ∧ B < 2 ^ L ∧ a = nI L ∧ b = nI B
theorem pw_lt {L : Nat} (h : L ≤ 4) : 2 ^ L ≤ 16 := Nat.pow_le_pow_right (by omega) h
theorem isW_1 {a b : Int32} (h : isW a b) : ¬ a < 0 ∧ ¬ nI 4 < a ∧ 0 ≤ b := by
  obtain ⟨L, B, h1, h2, rfl, rfl⟩ := h
  have := pw_lt h1
  exact ⟨nI_pos (by omega), nI_nlt (by omega) (by omega), nI_pos' (by omega)⟩
theorem isW_2 {a b : Int32} (h1 : ¬ a < 0) (h2 : ¬ nI 4 < a) (h3 : 0 ≤ b) : ∃ L, L ≤ 4 ∧ a = nI L ∧ (b < nI (2 ^ L) ↔ isW a b) := by
  obtain ⟨L, hL, rfl⟩ := nI_of2 (M := nI 4) (n := 4) rfl h1 (Int32.not_lt.mp h2)
  obtain ⟨B, hB, rfl⟩ := nI_of (x := b) (Int32.not_lt.mpr h3)
  have := pw_lt hL
  refine ⟨L, hL, rfl, ?_⟩
  rw [nI_ltI hB (by omega)]
  constructor
  · intro h
    exact ⟨L, B, hL, h, rfl, rfl⟩
  · rintro ⟨L2, B2, g1, g2, g3, g4⟩
    have := pw_lt g1
    rw [(nI_eq (by omega) (by omega)).mp g3, (nI_eq hB (by omega)).mp g4]
    exact g2
set_option maxHeartbeats 4000000 in
theorem c_X_bad (u : XS) (a1 a2 : Int32) : C_X_bad [.int a1, .int a2] u (fun r u2 => u2 = u ∧ ((r = nI 1 ∧ ¬ isW a1 a2) ∨ (r = nI 0 ∧ isW a1 a2))) := by
  refine e_X_bad ?_
  intro p l e s m args below meth c D q k A0
  refine V_iload_n d_X_bad_0 rfl rfl ?_
  refine V_if_lt (tgt := 13) d_X_bad_1 (by decide) (fun c_1 => ?_) (fun c_1 => ?_)
  ·
    refine V_iconst (v := (nI 1)) d_X_bad_13 (by decide) ?_
    exact V_zret d_X_bad_14 rfl (rfl) (⟨rfl, Or.inl ⟨rfl, fun h => (isW_1 h).1 c_1⟩⟩)
  ·
    refine V_iload_n d_X_bad_4 rfl rfl ?_
    refine V_iconst (v := (nI 4)) d_X_bad_5 (by decide) ?_
    refine V_icmp_gt (tgt := 13) d_X_bad_6 (by decide) (fun c_6 => ?_) (fun c_6 => ?_)
    ·
      refine V_iconst (v := (nI 1)) d_X_bad_13 (by decide) ?_
      exact V_zret d_X_bad_14 rfl (rfl) (⟨rfl, Or.inl ⟨rfl, fun h => (isW_1 h).2.1 c_6⟩⟩)
    ·
      refine V_iload_n d_X_bad_9 rfl rfl ?_
      refine V_if_ge (tgt := 15) d_X_bad_10 (by decide) (fun c_10 => ?_) (fun c_10 => ?_)
      · obtain ⟨L, hL, rfl, hw⟩ := isW_2 c_1 c_6 c_10
        refine V_iload_n d_X_bad_15 rfl rfl ?_
        refine V_iconst (v := (nI 1)) d_X_bad_16 (by decide) ?_
        refine V_iload_n d_X_bad_17 rfl rfl ?_
        refine V_ishl d_X_bad_18 (nI_shl1 (by omega)) ?_
        refine V_icmp_lt (tgt := 26) d_X_bad_19 (by decide) (fun c_19 => ?_) (fun c_19 => ?_)
        ·
          refine V_iconst (v := (nI 0)) d_X_bad_26 (by decide) ?_
          exact V_zret d_X_bad_27 rfl (rfl) (⟨rfl, Or.inr ⟨rfl, hw.mp c_19⟩⟩)
        ·
          refine V_iconst (v := (nI 1)) d_X_bad_22 (by decide) ?_
          refine V_goto (tgt := 27) d_X_bad_23 (by decide) ?_
          exact V_zret d_X_bad_27 rfl (rfl) (⟨rfl, Or.inl ⟨rfl, fun h => c_19 (hw.mpr h)⟩⟩)
      ·
        refine V_iconst (v := (nI 1)) d_X_bad_13 (by decide) ?_
        exact V_zret d_X_bad_14 rfl (rfl) (⟨rfl, Or.inl ⟨rfl, fun h => c_10 (isW_1 h).2.2⟩⟩)
def lenN (n : Nat) : Nat := if n < 1 then 0 else if n < 3 then 1 else if n < 7 then 2 else if n < 15 then 3 else 4
theorem lenN_le (n : Nat) : lenN n ≤ 4 := by
  unfold lenN
  split <;> first | omega | (split <;> first | omega | (split <;> first | omega | (split <;> omega)))
def LenOk (A : Nat → Nat → Int32) : Prop := ∀ n, n < 31 → A 12 n = nI (lenN n)
/-- letter i of word n; the word of its first i letters -/
def ltN (n i : Nat) : Nat := (n + 1) / 2 ^ (lenN n - i) % 2
def pfN (n i : Nat) : Nat := (n + 1) / 2 ^ (lenN n - i) - 1
set_option maxHeartbeats 4000000 in
theorem c_X_letterOf (u : XS) (hA : LenOk u.2) {n i : Nat} (hn : n < 31) (hi : i ≤ lenN n) : C_X_letterOf [.int (nI n), .int (nI i)] u (fun r u2 => u2 = u ∧ r = nI (ltN n i)) := by
  have h4 := lenN_le n
  have hdv : (n + 1) / 2 ^ (lenN n - i) < 2 ^ 32 := Nat.lt_of_le_of_lt (Nat.div_le_self _ _) (by omega)
  refine e_X_letterOf ?_
  intro p l e s m args below meth c D q k A0
  refine V_iload_n d_X_letterOf_0 rfl rfl ?_
  refine V_iconst (v := (nI 1)) d_X_letterOf_1 (by decide) ?_
  refine V_iadd d_X_letterOf_2 (nI_add _ _) ?_
  refine V_istore_n d_X_letterOf_3 rfl (by decide) ?_
  refine V_iload_n d_X_letterOf_4 rfl rfl ?_
  refine V_aload_n d_X_letterOf_5 rfl rfl ?_
  refine xg_lengthOf d_X_letterOf_6 ?_
  refine V_iload_n d_X_letterOf_9 rfl rfl ?_
  refine xl_lengthOf (rfl) (by omega) d_X_letterOf_10 ?_
  refine V_iload_n d_X_letterOf_11 rfl rfl ?_
  refine V_isub d_X_letterOf_12 (show u.2 12 n - nI i = nI (lenN n - i) by rw [hA n hn]; exact pk_sub hi) ?_
  refine V_ishr d_X_letterOf_13 (nI_shr (by omega) (by omega)) ?_
  refine V_iconst (v := (nI 1)) d_X_letterOf_14 (by decide) ?_
  refine V_iand d_X_letterOf_15 (nI_and1 hdv) ?_
  exact V_iret d_X_letterOf_16 rfl (⟨rfl, rfl⟩)
def BH (u : XS) (j p : Nat) : Prop := bhP (u.2 11 j) (u.1 11) (u.2 8) 9 p
def rcP (u : XS) (i x v b p : Nat) : Prop := (0 < i ∧ BH u (v * 5 + i - 1) p ∧ bt (u.2 9 (x * 3 + 2)) p = true) ∨ (0 < v ∧ BH u (b * 5 + i) p ∧ bt (u.2 9 (6 + (v - 1) % 2)) p = true) ∨ (0 < v ∧ 0 < i ∧ BH u (b * 5 + i - 1) p ∧ bt (u.2 9 (x * 3 + (v - 1) % 2)) p = true)
set_option maxHeartbeats 4000000 in
theorem c_X_reached (u : XS) {i x v b : Nat} (hi : i ≤ 4) (hx : x ≤ 1) (hv : v < 31) (hb : b < 31) : C_X_reached [.int (nI i), .int (nI x), .int (nI v), .int (nI b)] u (fun r u2 => u2 = u ∧ ∀ p, bt r p = true ↔ rcP u i x v b p) := by
  refine e_X_reached ?_
  intro p l e s m args below meth c D q k A0
  rcases Nat.eq_zero_or_pos i with h0 | h0
  · subst h0
    rcases Nat.eq_zero_or_pos v with g0 | g0
    · subst g0
      refine V_iconst (v := (nI 0)) d_X_reached_0 (by decide) ?_
      refine V_istore d_X_reached_1 (by decide) ?_
      refine V_iload_n d_X_reached_3 rfl rfl ?_
      refine V_if_le_t (tgt := 40) d_X_reached_4 (by decide) (by decide) ?_
      refine V_iload_n d_X_reached_40 rfl rfl ?_
      refine V_if_le_t (tgt := 128) d_X_reached_41 (by decide) (by decide) ?_
      refine V_iload d_X_reached_128 rfl ?_
      exact V_iret d_X_reached_130 rfl (⟨rfl, fun p => by rw [b_n0]; simp [rcP]⟩)
    ·
      refine V_iconst (v := (nI 0)) d_X_reached_0 (by decide) ?_
      refine V_istore d_X_reached_1 (by decide) ?_
      refine V_iload_n d_X_reached_3 rfl rfl ?_
      refine V_if_le_t (tgt := 40) d_X_reached_4 (by decide) (by decide) ?_
      refine V_iload_n d_X_reached_40 rfl rfl ?_
      refine V_if_le_f (tgt := 128) d_X_reached_41 (by decide) (nI_nle g0 (by omega)) ?_
      refine V_iload_n d_X_reached_44 rfl rfl ?_
      refine V_iconst (v := (nI 1)) d_X_reached_45 (by decide) ?_
      refine V_isub d_X_reached_46 (pk_sub g0) ?_
      refine V_iconst (v := (nI 1)) d_X_reached_47 (by decide) ?_
      refine V_iand d_X_reached_48 (nI_and1 (by omega)) ?_
      refine V_istore d_X_reached_49 (by decide) ?_
      refine V_aload_n d_X_reached_51 rfl rfl ?_
      refine V_aload_n d_X_reached_52 rfl rfl ?_
      refine xg_reach d_X_reached_53 ?_
      refine V_iload d_X_reached_56 rfl ?_
      refine V_iconst (v := (nI 5)) d_X_reached_58 (by decide) ?_
      refine V_imul d_X_reached_59 (pk_mul _ _) ?_
      refine V_iload_n d_X_reached_60 rfl rfl ?_
      refine V_iadd d_X_reached_61 (nI_add _ _) ?_
      refine xl_reach (rfl) (by omega) d_X_reached_62 ?_
      refine v_X_behind (c_X_behind u _) ⟨Nat.le_of_ble_eq_true rfl, Nat.le_of_ble_eq_true rfl⟩ (Nat.le_of_ble_eq_true rfl) d_X_reached_63 ?_
      rintro r1 _ ⟨rfl, h1⟩
      refine V_istore d_X_reached_66 (by decide) ?_
      refine V_iload d_X_reached_68 rfl ?_
      refine V_iload d_X_reached_70 rfl ?_
      refine V_aload_n d_X_reached_72 rfl rfl ?_
      refine xg_fits d_X_reached_73 ?_
      refine V_bipush (v := (nI 6)) d_X_reached_76 (by decide) ?_
      refine V_iload d_X_reached_78 rfl ?_
      refine V_iadd d_X_reached_80 (nI_add _ _) ?_
      refine xl_fits (rfl) (by omega) d_X_reached_81 ?_
      refine V_iand d_X_reached_82 (rfl) ?_
      refine V_ior d_X_reached_83 (rfl) ?_
      refine V_istore d_X_reached_84 (by decide) ?_
      refine V_iload_n d_X_reached_86 rfl rfl ?_
      refine V_if_le_t (tgt := 128) d_X_reached_87 (by decide) (by decide) ?_
      refine V_iload d_X_reached_128 rfl ?_
      exact V_iret d_X_reached_130 rfl (⟨rfl, fun p => by rw [b_or, b_and, b_n0, Bool.false_or, Bool.and_eq_true, h1]; simp [rcP, BH, g0]⟩)
  · rcases Nat.eq_zero_or_pos v with g0 | g0
    · subst g0
      refine V_iconst (v := (nI 0)) d_X_reached_0 (by decide) ?_
      refine V_istore d_X_reached_1 (by decide) ?_
      refine V_iload_n d_X_reached_3 rfl rfl ?_
      refine V_if_le_f (tgt := 40) d_X_reached_4 (by decide) (nI_nle h0 (by omega)) ?_
      refine V_aload_n d_X_reached_7 rfl rfl ?_
      refine V_aload_n d_X_reached_8 rfl rfl ?_
      refine xg_reach d_X_reached_9 ?_
      refine V_iload_n d_X_reached_12 rfl rfl ?_
      refine V_iconst (v := (nI 5)) d_X_reached_13 (by decide) ?_
      refine V_imul d_X_reached_14 (pk_mul _ _) ?_
      refine V_iload_n d_X_reached_15 rfl rfl ?_
      refine V_iadd d_X_reached_16 (nI_add _ _) ?_
      refine V_iconst (v := (nI 1)) d_X_reached_17 (by decide) ?_
      refine V_isub d_X_reached_18 (pk_sub (by omega)) ?_
      refine xl_reach (rfl) (by omega) d_X_reached_19 ?_
      refine v_X_behind (c_X_behind u _) ⟨Nat.le_of_ble_eq_true rfl, Nat.le_of_ble_eq_true rfl⟩ (Nat.le_of_ble_eq_true rfl) d_X_reached_20 ?_
      rintro r1 _ ⟨rfl, h1⟩
      refine V_istore d_X_reached_23 (by decide) ?_
      refine V_iload d_X_reached_25 rfl ?_
      refine V_aload_n d_X_reached_27 rfl rfl ?_
      refine xg_fits d_X_reached_28 ?_
      refine V_iload_n d_X_reached_31 rfl rfl ?_
      refine V_iconst (v := (nI 3)) d_X_reached_32 (by decide) ?_
      refine V_imul d_X_reached_33 (pk_mul _ _) ?_
      refine V_iconst (v := (nI 2)) d_X_reached_34 (by decide) ?_
      refine V_iadd d_X_reached_35 (nI_add _ _) ?_
      refine xl_fits (rfl) (by omega) d_X_reached_36 ?_
      refine V_iand d_X_reached_37 (rfl) ?_
      refine V_istore d_X_reached_38 (by decide) ?_
      refine V_iload_n d_X_reached_40 rfl rfl ?_
      refine V_if_le_t (tgt := 128) d_X_reached_41 (by decide) (by decide) ?_
      refine V_iload d_X_reached_128 rfl ?_
      exact V_iret d_X_reached_130 rfl (⟨rfl, fun p => by rw [b_and, Bool.and_eq_true, h1]; simp [rcP, BH, h0]⟩)
    ·
      refine V_iconst (v := (nI 0)) d_X_reached_0 (by decide) ?_
      refine V_istore d_X_reached_1 (by decide) ?_
      refine V_iload_n d_X_reached_3 rfl rfl ?_
      refine V_if_le_f (tgt := 40) d_X_reached_4 (by decide) (nI_nle h0 (by omega)) ?_
      refine V_aload_n d_X_reached_7 rfl rfl ?_
      refine V_aload_n d_X_reached_8 rfl rfl ?_
      refine xg_reach d_X_reached_9 ?_
      refine V_iload_n d_X_reached_12 rfl rfl ?_
      refine V_iconst (v := (nI 5)) d_X_reached_13 (by decide) ?_
      refine V_imul d_X_reached_14 (pk_mul _ _) ?_
      refine V_iload_n d_X_reached_15 rfl rfl ?_
      refine V_iadd d_X_reached_16 (nI_add _ _) ?_
      refine V_iconst (v := (nI 1)) d_X_reached_17 (by decide) ?_
      refine V_isub d_X_reached_18 (pk_sub (by omega)) ?_
      refine xl_reach (rfl) (by omega) d_X_reached_19 ?_
      refine v_X_behind (c_X_behind u _) ⟨Nat.le_of_ble_eq_true rfl, Nat.le_of_ble_eq_true rfl⟩ (Nat.le_of_ble_eq_true rfl) d_X_reached_20 ?_
      rintro r1 _ ⟨rfl, h1⟩
      refine V_istore d_X_reached_23 (by decide) ?_
      refine V_iload d_X_reached_25 rfl ?_
      refine V_aload_n d_X_reached_27 rfl rfl ?_
      refine xg_fits d_X_reached_28 ?_
      refine V_iload_n d_X_reached_31 rfl rfl ?_
      refine V_iconst (v := (nI 3)) d_X_reached_32 (by decide) ?_
      refine V_imul d_X_reached_33 (pk_mul _ _) ?_
      refine V_iconst (v := (nI 2)) d_X_reached_34 (by decide) ?_
      refine V_iadd d_X_reached_35 (nI_add _ _) ?_
      refine xl_fits (rfl) (by omega) d_X_reached_36 ?_
      refine V_iand d_X_reached_37 (rfl) ?_
      refine V_istore d_X_reached_38 (by decide) ?_
      refine V_iload_n d_X_reached_40 rfl rfl ?_
      refine V_if_le_f (tgt := 128) d_X_reached_41 (by decide) (nI_nle g0 (by omega)) ?_
      refine V_iload_n d_X_reached_44 rfl rfl ?_
      refine V_iconst (v := (nI 1)) d_X_reached_45 (by decide) ?_
      refine V_isub d_X_reached_46 (pk_sub g0) ?_
      refine V_iconst (v := (nI 1)) d_X_reached_47 (by decide) ?_
      refine V_iand d_X_reached_48 (nI_and1 (by omega)) ?_
      refine V_istore d_X_reached_49 (by decide) ?_
      refine V_aload_n d_X_reached_51 rfl rfl ?_
      refine V_aload_n d_X_reached_52 rfl rfl ?_
      refine xg_reach d_X_reached_53 ?_
      refine V_iload d_X_reached_56 rfl ?_
      refine V_iconst (v := (nI 5)) d_X_reached_58 (by decide) ?_
      refine V_imul d_X_reached_59 (pk_mul _ _) ?_
      refine V_iload_n d_X_reached_60 rfl rfl ?_
      refine V_iadd d_X_reached_61 (nI_add _ _) ?_
      refine xl_reach (rfl) (by omega) d_X_reached_62 ?_
      refine v_X_behind (c_X_behind _ _) ⟨Nat.le_of_ble_eq_true rfl, Nat.le_of_ble_eq_true rfl⟩ (Nat.le_of_ble_eq_true rfl) d_X_reached_63 ?_
      rintro r2 _ ⟨rfl, h2⟩
      refine V_istore d_X_reached_66 (by decide) ?_
      refine V_iload d_X_reached_68 rfl ?_
      refine V_iload d_X_reached_70 rfl ?_
      refine V_aload_n d_X_reached_72 rfl rfl ?_
      refine xg_fits d_X_reached_73 ?_
      refine V_bipush (v := (nI 6)) d_X_reached_76 (by decide) ?_
      refine V_iload d_X_reached_78 rfl ?_
      refine V_iadd d_X_reached_80 (nI_add _ _) ?_
      refine xl_fits (rfl) (by omega) d_X_reached_81 ?_
      refine V_iand d_X_reached_82 (rfl) ?_
      refine V_ior d_X_reached_83 (rfl) ?_
      refine V_istore d_X_reached_84 (by decide) ?_
      refine V_iload_n d_X_reached_86 rfl rfl ?_
      refine V_if_le_f (tgt := 128) d_X_reached_87 (by decide) (nI_nle h0 (by omega)) ?_
      refine V_aload_n d_X_reached_90 rfl rfl ?_
      refine V_aload_n d_X_reached_91 rfl rfl ?_
      refine xg_reach d_X_reached_92 ?_
      refine V_iload d_X_reached_95 rfl ?_
      refine V_iconst (v := (nI 5)) d_X_reached_97 (by decide) ?_
      refine V_imul d_X_reached_98 (pk_mul _ _) ?_
      refine V_iload_n d_X_reached_99 rfl rfl ?_
      refine V_iadd d_X_reached_100 (nI_add _ _) ?_
      refine V_iconst (v := (nI 1)) d_X_reached_101 (by decide) ?_
      refine V_isub d_X_reached_102 (pk_sub (by omega)) ?_
      refine xl_reach (rfl) (by omega) d_X_reached_103 ?_
      refine v_X_behind (c_X_behind _ _) ⟨Nat.le_of_ble_eq_true rfl, Nat.le_of_ble_eq_true rfl⟩ (Nat.le_of_ble_eq_true rfl) d_X_reached_104 ?_
      rintro r3 _ ⟨rfl, h3⟩
      refine V_istore d_X_reached_107 (by decide) ?_
      refine V_iload d_X_reached_109 rfl ?_
      refine V_iload d_X_reached_111 rfl ?_
      refine V_aload_n d_X_reached_113 rfl rfl ?_
      refine xg_fits d_X_reached_114 ?_
      refine V_iload_n d_X_reached_117 rfl rfl ?_
      refine V_iconst (v := (nI 3)) d_X_reached_118 (by decide) ?_
      refine V_imul d_X_reached_119 (pk_mul _ _) ?_
      refine V_iload d_X_reached_120 rfl ?_
      refine V_iadd d_X_reached_122 (nI_add _ _) ?_
      refine xl_fits (rfl) (by omega) d_X_reached_123 ?_
      refine V_iand d_X_reached_124 (rfl) ?_
      refine V_ior d_X_reached_125 (rfl) ?_
      refine V_istore d_X_reached_126 (by decide) ?_
      refine V_iload d_X_reached_128 rfl ?_
      exact V_iret d_X_reached_130 rfl (⟨rfl, fun p => by rw [b_or, b_or, b_and, b_and, b_and, Bool.or_eq_true, Bool.or_eq_true, Bool.and_eq_true, Bool.and_eq_true, Bool.and_eq_true, h1, h2, h3]; simp [rcP, BH, h0, g0, or_assoc]⟩)
end
section
/-! PairExpressions: imagesOf, prepare -/
def dPre (uF : Int32) (fo : Nat → Int32) (D : Nat → Nat → Nat → Prop) (a b p : Nat) : Prop := (a = 0 ∧ b = 0 ∧ bt uF p = true) ∨ ∃ q, q < 9 ∧ D a b q ∧ bt (fo q) p = true
def dStep (uF : Int32) (fo fi : Nat → Int32) (D : Nat → Nat → Nat → Prop) (a b p : Nat) : Prop := (0 < a ∧ dPre uF fo D ((a - 1) / 2) b p ∧ bt (fi ((a - 1) % 2 * 3 + 2)) p = true) ∨ (0 < b ∧ dPre uF fo D a ((b - 1) / 2) p ∧ bt (fi (6 + (b - 1) % 2)) p = true) ∨ (0 < b ∧ 0 < a ∧ dPre uF fo D ((a - 1) / 2) ((b - 1) / 2) p ∧ bt (fi ((a - 1) % 2 * 3 + (b - 1) % 2)) p = true)
def dRec (uF : Int32) (fo fi : Nat → Int32) (D : Nat → Nat → Nat → Prop) : Prop := (∀ p, ¬ D 0 0 p) ∧ (∀ a b, ¬ D a b 9) ∧ ∀ a b p, a < 31 → b < 31 → ¬ (a = 0 ∧ b = 0) → (D a b p ↔ dStep uF fo fi D a b p)
def rOk (D : Nat → Nat → Nat → Prop) (a b : Nat) (x : Int32) : Prop := ∀ p, bt x p = true ↔ (a = 0 ∧ b = 0 ∧ p = 9) ∨ D a b p
theorem rOk_bh {D : Nat → Nat → Nat → Prop} {a b : Nat} {x uF : Int32} {fo : Nat → Int32} (h9 : ∀ a b, ¬ D a b 9) (h : rOk D a b x) (p : Nat) : bhP x uF fo 9 p ↔ dPre uF fo D a b p := by
  have h1 : bt x 9 = true ↔ a = 0 ∧ b = 0 := by
    rw [h 9]
    exact ⟨fun z => z.elim (fun y => ⟨y.1, y.2.1⟩) (fun y => absurd y (h9 a b)), fun z => Or.inl ⟨z.1, z.2, rfl⟩⟩
  have h2 : ∀ q, q < 9 → (bt x q = true ↔ D a b q) := by
    intro q hq
    rw [h q]
    exact ⟨fun z => z.elim (fun y => by omega) id, Or.inr⟩
  unfold bhP dPre
  constructor
  · rintro (⟨z1, z2⟩ | ⟨q, hq, z1, z2⟩)
    · exact Or.inl ⟨(h1.mp z1).1, (h1.mp z1).2, z2⟩
    · exact Or.inr ⟨q, hq, (h2 q hq).mp z1, z2⟩
  · rintro (⟨z1, z2, z3⟩ | ⟨q, hq, z1, z2⟩)
    · exact Or.inl ⟨h1.mpr ⟨z1, z2⟩, z3⟩
    · exact Or.inr ⟨q, hq, (h2 q hq).mpr z1, z2⟩
theorem pf_1 : ∀ n, n < 31 → ∀ i, i < 5 → pfN n i < 31 := by decide +kernel
theorem pf_2 : ∀ n, n < 31 → ∀ i, i < 5 → i ≤ lenN n → 0 < i → 0 < pfN n i := by decide +kernel
theorem pf_3 : ∀ n, n < 31 → ∀ i, i < 5 → i ≤ lenN n → 0 < i → (pfN n i - 1) / 2 = pfN n (i - 1) := by decide +kernel
theorem pf_4 : ∀ n, n < 31 → ∀ i, i < 5 → i ≤ lenN n → 0 < i → (pfN n i - 1) % 2 = ltN n i := by decide +kernel
theorem pf_5 : ∀ n, n < 31 → pfN n 0 = 0 := by decide +kernel
theorem pf_6 : ∀ n, n < 31 → ∀ i, i < 5 → ltN n i ≤ 1 := by decide +kernel
theorem pf_all (n : Nat) (h : n < 31) (i : Nat) (h5 : i < 5) (hi : i ≤ lenN n) : pfN n i < 31 ∧ (0 < i → 0 < pfN n i ∧ (pfN n i - 1) / 2 = pfN n (i - 1) ∧ (pfN n i - 1) % 2 = ltN n i) ∧ (i = 0 → pfN n i = 0) ∧ ltN n i ≤ 1 :=
  ⟨pf_1 n h i h5, fun h0 => ⟨pf_2 n h i h5 hi h0, pf_3 n h i h5 hi h0, pf_4 n h i h5 hi h0⟩, fun h0 => by rw [h0]; exact pf_5 n h, pf_6 n h i h5⟩
theorem pf_full : ∀ n, n < 31 → pfN n (lenN n) = n := by decide +kernel
theorem rc_ok {u : XS} {D : Nat → Nat → Nat → Prop} {U v i x b : Nat} {f : Nat → Int32} (hrec : dRec (u.1 11) (u.2 8) (u.2 9) D) (hU : U < 31) (hi : i ≤ lenN U) (hv : v < 31) (hne : ¬ (v = 0 ∧ i = 0)) (hx : 0 < i → x = ltN U i) (hb : 0 < v → b = (v - 1) / 2)
    (hprev : ∀ v', v' < v → ∀ i', i' ≤ lenN U → rOk D (pfN U i') v' (f (v' * 5 + i'))) (hcur : ∀ i', i' < i → rOk D (pfN U i') v (f (v * 5 + i'))) {r : Int32} (hr : ∀ p, bt r p = true ↔ rcP (u.1, setA u.2 11 f) i x v b p) : rOk D (pfN U i) v r := by
  obtain ⟨h0, h9, hs⟩ := hrec
  have h4 := lenN_le U
  obtain ⟨e1, e2, e3, e4⟩ := pf_all U hU i (by omega) hi
  intro p
  have hpi : ¬ (pfN U i = 0 ∧ v = 0) := by
    rintro ⟨z1, z2⟩
    rcases Nat.eq_zero_or_pos i with h | h
    · exact hne ⟨z2, h⟩
    · have := (e2 h).1
      omega
  have hpos : 0 < pfN U i ↔ 0 < i := by
    rcases Nat.eq_zero_or_pos i with h | h
    · rw [e3 h, h]
    · exact ⟨fun _ => h, fun _ => (e2 h).1⟩
  have hz : ((pfN U i = 0 ∧ v = 0 ∧ p = 9) ∨ D (pfN U i) v p) ↔ D (pfN U i) v p := ⟨fun z => z.elim (fun y => absurd ⟨y.1, y.2.1⟩ hpi) id, Or.inr⟩
  rw [hz, hr p, hs _ _ p e1 hv hpi]
  unfold rcP dStep
  have hBH : ∀ j, BH (u.1, setA u.2 11 f) j p ↔ bhP (f j) (u.1 11) (u.2 8) 9 p := fun j => Iff.rfl
  have hf9 : ∀ j, (setA u.2 11 f) 9 j = u.2 9 j := fun j => rfl
  have t1 : (0 < i ∧ BH (u.1, setA u.2 11 f) (v * 5 + i - 1) p ∧ bt (u.2 9 (x * 3 + 2)) p = true) ↔ (0 < pfN U i ∧ dPre (u.1 11) (u.2 8) D ((pfN U i - 1) / 2) v p ∧ bt (u.2 9 ((pfN U i - 1) % 2 * 3 + 2)) p = true) := by
    rw [hpos]
    refine and_congr_right (fun h => ?_)
    obtain ⟨g1, g2, g3⟩ := e2 h
    rw [g2, g3, hx h, hBH, show v * 5 + i - 1 = v * 5 + (i - 1) by omega, rOk_bh h9 (hcur (i - 1) (by omega)) p]
  have t2 : (0 < v ∧ BH (u.1, setA u.2 11 f) (b * 5 + i) p ∧ bt (u.2 9 (6 + (v - 1) % 2)) p = true) ↔ (0 < v ∧ dPre (u.1 11) (u.2 8) D (pfN U i) ((v - 1) / 2) p ∧ bt (u.2 9 (6 + (v - 1) % 2)) p = true) := by
    refine and_congr_right (fun h => ?_)
    have hbv := hb h
    rw [← hbv, hBH, rOk_bh h9 (hprev b (by omega) i hi) p]
  have t3 : (0 < v ∧ 0 < i ∧ BH (u.1, setA u.2 11 f) (b * 5 + i - 1) p ∧ bt (u.2 9 (x * 3 + (v - 1) % 2)) p = true) ↔ (0 < v ∧ 0 < pfN U i ∧ dPre (u.1 11) (u.2 8) D ((pfN U i - 1) / 2) ((v - 1) / 2) p ∧ bt (u.2 9 ((pfN U i - 1) % 2 * 3 + (v - 1) % 2)) p = true) := by
    rw [hpos]
    refine and_congr_right (fun h => and_congr_right (fun h' => ?_))
    obtain ⟨g1, g2, g3⟩ := e2 h'
    have hbv := hb h
    rw [← hbv, g2, g3, hx h', hBH, show b * 5 + i - 1 = b * 5 + (i - 1) by omega, rOk_bh h9 (hprev b (by omega) (i - 1) (by omega)) p]
  exact or_congr t1 (or_congr t2 t3)
def FIN (u : XS) (D : Nat → Nat → Nat → Prop) (a b : Nat) : Prop := (∃ p, D a b p ∧ bt (u.1 12) p = true) ∨ (a = 0 ∧ b = 0 ∧ ¬ u.1 13 = nI 0)
def UseOk (u : XS) (D : Nat → Nat → Nat → Prop) : Prop := LenOk u.2 ∧ dRec (u.1 11) (u.2 8) (u.2 9) D ∧ bt (u.1 12) 9 = false
theorem fin_1 {u : XS} {D : Nat → Nat → Nat → Prop} (h9 : bt (u.1 12) 9 = false) {a b : Nat} {x : Int32} (h : rOk D a b x) (hc : ¬ (x &&& u.1 12 = 0)) : FIN u D a b := by
  obtain ⟨p, hp, h1, h2⟩ := and_ne.mp hc
  rcases (h p).mp h1 with ⟨_, _, rfl⟩ | hd
  · rw [h9] at h2; cases h2
  · exact Or.inl ⟨p, hd, h2⟩
theorem fin_2 {u : XS} {D : Nat → Nat → Nat → Prop} (hD : ∀ a b, ¬ D a b 9) {a b : Nat} {x : Int32} (h : rOk D a b x) (hc : ¬ (x &&& nI 512 = 0)) (he : ¬ u.1 13 = nI 0) : FIN u D a b := by
  rcases (h 9).mp (and512.mp hc) with ⟨h1, h2, _⟩ | hd
  · exact Or.inr ⟨h1, h2, he⟩
  · exact absurd hd (hD a b)
theorem fin_3 {u : XS} {D : Nat → Nat → Nat → Prop} {a b : Nat} {x : Int32} (h : rOk D a b x) (hc : x &&& u.1 12 = 0) (hc2 : x &&& nI 512 = 0 ∨ u.1 13 = nI 0) : ¬ FIN u D a b := by
  rintro (⟨p, hd, h2⟩ | ⟨h1, h2, h3⟩)
  · have h1 := (h p).mpr (Or.inr hd)
    have hp : p < 32 := by
      rcases Nat.lt_or_ge p 32 with z | z
      · exact z
      · rw [b_big z] at h1; cases h1
    exact (and_ne.mpr ⟨p, hp, h1, h2⟩) hc
  · rcases hc2 with z | z
    · exact (and512.mpr ((h 9).mpr (Or.inl ⟨h1, h2, rfl⟩))) z
    · exact h3 z
set_option maxHeartbeats 8000000 in
theorem c_X_imagesOf (u : XS) {D0 : Nat → Nat → Nat → Prop} (hu : UseOk u D0) {U : Nat} (hU : U < 31) : C_X_imagesOf [.int (nI U)] u (fun r u2 => (∃ f, u2 = (u.1, setA u.2 11 f)) ∧ ∀ v, v < 31 → (bt r v = true ↔ FIN u D0 U v)) := by
  generalize hpost : (fun (r : Int32) (u2 : XS) => (∃ f, u2 = (u.1, setA u.2 11 f)) ∧ ∀ v, v < 31 → (bt r v = true ↔ FIN u D0 U v)) = post
  obtain ⟨hlen, hrec, hu9⟩ := hu
  have h4 := lenN_le U
  refine e_X_imagesOf ?_
  intro p l e s m args below meth c D q k A0
  have loop : ∀ v, v ≤ 31 → ∀ (f : Nat → Int32) (set : Int32) (x5 x6 x7 x8 : Option Value), (∀ v', v' < v → ∀ i', i' ≤ lenN U → rOk D0 (pfN U i') v' (f (v' * 5 + i'))) → (∀ v', v' < 31 → (bt set v' = true ↔ v' < v ∧ FIN u D0 U v')) → (V p l e rm_X_imagesOf s m args below meth c R_X wX b_X_imagesOf 9 (some .int) D (xty k) A0 (xw q k) 0 0 (MQ below (va_Qi post (vB D (xty k) (xw q k) A0) A0) args s 0 0 A0) (12) ([some (.ref (q 0)), some (.int (nI U)), some (.int (nI (lenN U))), some (.int set), some (.int (nI v)), x5, x6, x7, x8]) ([]) ((u.1, setA u.2 11 f))) := by
    refine dn 31 ?_ ?_
    · intro f set x5 x6 x7 x8 hf hs
      refine V_iload d_X_imagesOf_12 rfl ?_
      refine V_bipush (v := (nI 31)) d_X_imagesOf_14 (by decide) ?_
      refine V_icmp_ge_t (tgt := 165) d_X_imagesOf_16 (by decide) (nI_le (by omega) (by omega)) ?_
      refine V_iload_n d_X_imagesOf_165 rfl rfl ?_
      exact V_iret d_X_imagesOf_166 rfl (by rw [← hpost]; exact ⟨⟨f, rfl⟩, fun v hv => (hs v hv).trans (and_iff_right hv)⟩)
    · intro v hv ih f set x5 x6 x7 x8 hf hs
      have inner : ∀ i, i ≤ lenN U + 1 → ∀ (f : Nat → Int32) (b : Nat) (x7 x8 : Option Value), (0 < v → b = (v - 1) / 2) → b < 31 → (∀ v', v' < v → ∀ i', i' ≤ lenN U → rOk D0 (pfN U i') v' (f (v' * 5 + i'))) → (∀ i', i' < i → rOk D0 (pfN U i') v (f (v * 5 + i'))) → (V p l e rm_X_imagesOf s m args below meth c R_X wX b_X_imagesOf 9 (some .int) D (xty k) A0 (xw q k) 0 0 (MQ below (va_Qi post (vB D (xty k) (xw q k) A0) A0) args s 0 0 A0) (39) ([some (.ref (q 0)), some (.int (nI U)), some (.int (nI (lenN U))), some (.int set), some (.int (nI v)), some (.int (nI b)), some (.int (nI i)), x7, x8]) ([]) ((u.1, setA u.2 11 f))) := by
        refine dn (lenN U + 1) ?_ ?_
        · intro f b x7 x8 hb hb31 hf hc
          have hok := hc (lenN U) (by omega)
          rw [pf_full U hU] at hok
          have hprev : ∀ v', v' < v + 1 → ∀ i', i' ≤ lenN U → rOk D0 (pfN U i') v' (f (v' * 5 + i')) := by
            intro v' h1 i' h2
            by_cases e : v' = v
            · subst e; exact hc i' (by omega)
            · exact hf v' (by omega) i' h2
          have J159 : ¬ FIN u D0 U v → ∀ x6, (V p l e rm_X_imagesOf s m args below meth c R_X wX b_X_imagesOf 9 (some .int) D (xty k) A0 (xw q k) 0 0 (MQ below (va_Qi post (vB D (xty k) (xw q k) A0) A0) args s 0 0 A0) (159) ([some (.ref (q 0)), some (.int (nI U)), some (.int (nI (lenN U))), some (.int set), some (.int (nI v)), some (.int (nI b)), x6, x7, x8]) ([]) ((u.1, setA u.2 11 f))) := by
            intro hF x6
            refine V_iinc d_X_imagesOf_159 rfl (nI_1 _) (by decide) ?_
            refine V_goto (tgt := 12) d_X_imagesOf_162 (by decide) ?_
            refine ih f set _ _ _ _ hprev (fun v' hv' => ?_)
            rw [hs v' hv']
            constructor
            · rintro ⟨z1, z2⟩; exact ⟨by omega, z2⟩
            · rintro ⟨z1, z2⟩
              by_cases e : v' = v
              · subst e; exact absurd z2 hF
              · exact ⟨by omega, z2⟩
          have J152 : FIN u D0 U v → ∀ x6, (V p l e rm_X_imagesOf s m args below meth c R_X wX b_X_imagesOf 9 (some .int) D (xty k) A0 (xw q k) 0 0 (MQ below (va_Qi post (vB D (xty k) (xw q k) A0) A0) args s 0 0 A0) (152) ([some (.ref (q 0)), some (.int (nI U)), some (.int (nI (lenN U))), some (.int set), some (.int (nI v)), some (.int (nI b)), x6, x7, x8]) ([]) ((u.1, setA u.2 11 f))) := by
            intro hF x6
            refine V_iload_n d_X_imagesOf_152 rfl rfl ?_
            refine V_iconst (v := (nI 1)) d_X_imagesOf_153 (by decide) ?_
            refine V_iload d_X_imagesOf_154 rfl ?_
            refine V_ishl d_X_imagesOf_156 (rfl) ?_
            refine V_ior d_X_imagesOf_157 (rfl) ?_
            refine V_istore_n d_X_imagesOf_158 rfl (by decide) ?_
            refine V_iinc d_X_imagesOf_159 rfl (nI_1 _) (by decide) ?_
            refine V_goto (tgt := 12) d_X_imagesOf_162 (by decide) ?_
            refine ih f _ _ _ _ _ hprev (fun v' hv' => ?_)
            rw [b_or, b_sh1 (by omega), Bool.or_eq_true, hs v' hv', decide_eq_true_eq]
            constructor
            · rintro (⟨z1, z2⟩ | rfl)
              · exact ⟨by omega, z2⟩
              · exact ⟨by omega, hF⟩
            · rintro ⟨z1, z2⟩
              by_cases e : v' = v
              · exact Or.inr e
              · exact Or.inl ⟨by omega, z2⟩
          refine V_iload d_X_imagesOf_39 rfl ?_
          refine V_iload_n d_X_imagesOf_41 rfl rfl ?_
          refine V_icmp_gt_t (tgt := 113) d_X_imagesOf_42 (by decide) (nI_lt (by omega) (by omega)) ?_
          refine V_aload_n d_X_imagesOf_113 rfl rfl ?_
          refine xg_reach d_X_imagesOf_114 ?_
          refine V_iload d_X_imagesOf_117 rfl ?_
          refine V_iconst (v := (nI 5)) d_X_imagesOf_119 (by decide) ?_
          refine V_imul d_X_imagesOf_120 (pk_mul _ _) ?_
          refine V_iload_n d_X_imagesOf_121 rfl rfl ?_
          refine V_iadd d_X_imagesOf_122 (nI_add _ _) ?_
          refine xl_reach (rfl) (by omega) d_X_imagesOf_123 ?_
          refine V_istore d_X_imagesOf_124 (by decide) ?_
          refine V_iload d_X_imagesOf_126 rfl ?_
          refine V_aload_n d_X_imagesOf_128 rfl rfl ?_
          refine xg_useLast d_X_imagesOf_129 ?_
          refine V_iand d_X_imagesOf_132 (rfl) ?_
          refine V_if_ne (tgt := 152) d_X_imagesOf_133 (by decide) (fun c_133 => ?_) (fun c_133 => ?_)
          · exact J152 (fin_1 hu9 hok c_133) _
          ·
            refine V_iload d_X_imagesOf_136 rfl ?_
            refine V_sipush (v := (nI 512)) d_X_imagesOf_138 (by decide) ?_
            refine V_iand d_X_imagesOf_141 (rfl) ?_
            refine V_if_eq (tgt := 159) d_X_imagesOf_142 (by decide) (fun c_142 => ?_) (fun c_142 => ?_)
            · exact J159 (fin_3 hok c_133 (Or.inl c_142)) _
            ·
              refine V_aload_n d_X_imagesOf_145 rfl rfl ?_
              refine xg_useEmpty d_X_imagesOf_146 ?_
              refine V_if_eq (tgt := 159) d_X_imagesOf_149 (by decide) (fun c_149 => ?_) (fun c_149 => ?_)
              · exact J159 (fin_3 hok c_133 (Or.inr c_149)) _
              · exact J152 (fin_2 hrec.2.1 hok c_142 c_149) _
        · intro i hi ihi f b x7 x8 hb hb31 hf hc
          obtain ⟨e1, e2, e3, e4⟩ := pf_all U hU i (by omega) (by omega)
          have J91 : ∀ (found : Int32) (x7 x8 : Option Value), rOk D0 (pfN U i) v found → (V p l e rm_X_imagesOf s m args below meth c R_X wX b_X_imagesOf 9 (some .int) D (xty k) A0 (xw q k) 0 0 (MQ below (va_Qi post (vB D (xty k) (xw q k) A0) A0) args s 0 0 A0) (91) ([some (.ref (q 0)), some (.int (nI U)), some (.int (nI (lenN U))), some (.int set), some (.int (nI v)), some (.int (nI b)), some (.int (nI i)), x7, x8]) ([.int found]) ((u.1, setA u.2 11 f))) := by
            intro found x7 x8 hfo
            refine V_istore d_X_imagesOf_91 (by decide) ?_
            refine V_aload_n d_X_imagesOf_93 rfl rfl ?_
            refine xg_reach d_X_imagesOf_94 ?_
            refine V_iload d_X_imagesOf_97 rfl ?_
            refine V_iconst (v := (nI 5)) d_X_imagesOf_99 (by decide) ?_
            refine V_imul d_X_imagesOf_100 (pk_mul _ _) ?_
            refine V_iload d_X_imagesOf_101 rfl ?_
            refine V_iadd d_X_imagesOf_103 (nI_add _ _) ?_
            refine V_iload d_X_imagesOf_104 rfl ?_
            refine xs_reach (rfl) (by omega) d_X_imagesOf_106 ?_
            refine V_at rfl rfl rfl (show _ = (u.1, setA u.2 11 (upd f (v * 5 + i) found)) from ?_) ?_
            · show (u.1, updA (setA u.2 11 f) 11 (v * 5 + i) found) = _
              rw [updA_setA]
            refine V_iinc d_X_imagesOf_107 rfl (nI_1 _) (by decide) ?_
            refine V_goto (tgt := 39) d_X_imagesOf_110 (by decide) ?_
            refine ihi _ b _ _ hb hb31 ?_ ?_
            · intro v' h1 i' h2
              have : v' * 5 + i' ≠ v * 5 + i := by omega
              rw [pk_un this]
              exact hf v' h1 i' h2
            · intro i' h1
              by_cases e : i' = i
              · subst e
                rw [pk_us]
                exact hfo
              · rw [pk_un (by omega)]
                exact hc i' (by omega)
          have J61 : ∀ (x : Nat) (x7 x8 : Option Value), x ≤ 1 → (0 < i → x = ltN U i) → (V p l e rm_X_imagesOf s m args below meth c R_X wX b_X_imagesOf 9 (some .int) D (xty k) A0 (xw q k) 0 0 (MQ below (va_Qi post (vB D (xty k) (xw q k) A0) A0) args s 0 0 A0) (61) ([some (.ref (q 0)), some (.int (nI U)), some (.int (nI (lenN U))), some (.int set), some (.int (nI v)), some (.int (nI b)), some (.int (nI i)), x7, x8]) ([.int (nI x)]) ((u.1, setA u.2 11 f))) := by
            intro x x7 x8 hx1 hx
            have J79 : ¬ (v = 0 ∧ i = 0) → (V p l e rm_X_imagesOf s m args below meth c R_X wX b_X_imagesOf 9 (some .int) D (xty k) A0 (xw q k) 0 0 (MQ below (va_Qi post (vB D (xty k) (xw q k) A0) A0) args s 0 0 A0) (79) ([some (.ref (q 0)), some (.int (nI U)), some (.int (nI (lenN U))), some (.int set), some (.int (nI v)), some (.int (nI b)), some (.int (nI i)), some (.int (nI x)), x8]) ([]) ((u.1, setA u.2 11 f))) := by
              intro hne
              refine V_aload_n d_X_imagesOf_79 rfl rfl ?_
              refine V_iload d_X_imagesOf_80 rfl ?_
              refine V_iload d_X_imagesOf_82 rfl ?_
              refine V_iload d_X_imagesOf_84 rfl ?_
              refine V_iload d_X_imagesOf_86 rfl ?_
              refine v_X_reached (c_X_reached (u.1, setA u.2 11 f) (by omega) hx1 hv hb31) ⟨Nat.le_of_ble_eq_true rfl, Nat.le_of_ble_eq_true rfl⟩ (Nat.le_of_ble_eq_true rfl) d_X_imagesOf_88 ?_
              rintro r _ ⟨rfl, hr⟩
              exact J91 r _ _ (rc_ok hrec hU (by omega) hv hne hx hb hf hc hr)
            rcases Nat.eq_zero_or_pos v with g0 | g0
            · rcases Nat.eq_zero_or_pos i with k0 | k0
              ·
                refine V_istore d_X_imagesOf_61 (by decide) ?_
                refine V_iload d_X_imagesOf_63 rfl ?_
                refine V_if_ne_f (tgt := 79) d_X_imagesOf_65 (by decide) (by rw [g0]; rfl) ?_
                refine V_iload d_X_imagesOf_68 rfl ?_
                refine V_if_ne_f (tgt := 79) d_X_imagesOf_70 (by decide) (by rw [k0]; rfl) ?_
                refine V_sipush (v := (nI 512)) d_X_imagesOf_73 (by decide) ?_
                refine V_goto (tgt := 91) d_X_imagesOf_76 (by decide) ?_
                refine J91 _ _ _ (fun p => ?_)
                rw [b_512, decide_eq_true_eq, e3 k0, g0]
                exact ⟨fun z => Or.inl ⟨rfl, rfl, z⟩, fun z => z.elim (fun y => y.2.2) (fun y => absurd y (hrec.1 p))⟩
              ·
                refine V_istore d_X_imagesOf_61 (by decide) ?_
                refine V_iload d_X_imagesOf_63 rfl ?_
                refine V_if_ne_f (tgt := 79) d_X_imagesOf_65 (by decide) (by rw [g0]; rfl) ?_
                refine V_iload d_X_imagesOf_68 rfl ?_
                refine V_if_ne_t (tgt := 79) d_X_imagesOf_70 (by decide) (nI_ne0 k0 (by omega)) ?_
                exact J79 (by omega)
            ·
              refine V_istore d_X_imagesOf_61 (by decide) ?_
              refine V_iload d_X_imagesOf_63 rfl ?_
              refine V_if_ne_t (tgt := 79) d_X_imagesOf_65 (by decide) (nI_ne0 g0 (by omega)) ?_
              exact J79 (by omega)
          rcases Nat.eq_zero_or_pos i with k0 | k0
          ·
            refine V_iload d_X_imagesOf_39 rfl ?_
            refine V_iload_n d_X_imagesOf_41 rfl rfl ?_
            refine V_icmp_gt_f (tgt := 113) d_X_imagesOf_42 (by decide) (nI_nlt (by omega) (by omega)) ?_
            refine V_iload d_X_imagesOf_45 rfl ?_
            refine V_if_ne_f (tgt := 54) d_X_imagesOf_47 (by decide) (by rw [k0]; rfl) ?_
            refine V_iconst (v := (nI 0)) d_X_imagesOf_50 (by decide) ?_
            refine V_goto (tgt := 61) d_X_imagesOf_51 (by decide) ?_
            exact J61 0 _ _ (by omega) (by omega)
          ·
            refine V_iload d_X_imagesOf_39 rfl ?_
            refine V_iload_n d_X_imagesOf_41 rfl rfl ?_
            refine V_icmp_gt_f (tgt := 113) d_X_imagesOf_42 (by decide) (nI_nlt (by omega) (by omega)) ?_
            refine V_iload d_X_imagesOf_45 rfl ?_
            refine V_if_ne_t (tgt := 54) d_X_imagesOf_47 (by decide) (nI_ne0 k0 (by omega)) ?_
            refine V_aload_n d_X_imagesOf_54 rfl rfl ?_
            refine V_iload_n d_X_imagesOf_55 rfl rfl ?_
            refine V_iload d_X_imagesOf_56 rfl ?_
            refine v_X_letterOf (c_X_letterOf (u.1, setA u.2 11 f) hlen hU (by omega)) ⟨Nat.le_of_ble_eq_true rfl, Nat.le_of_ble_eq_true rfl⟩ (Nat.le_of_ble_eq_true rfl) d_X_imagesOf_58 ?_
            rintro r _ ⟨rfl, rfl⟩
            exact J61 _ _ _ e4 (fun _ => rfl)
      rcases Nat.eq_zero_or_pos v with g0 | g0
      ·
        refine V_iload d_X_imagesOf_12 rfl ?_
        refine V_bipush (v := (nI 31)) d_X_imagesOf_14 (by decide) ?_
        refine V_icmp_ge_f (tgt := 165) d_X_imagesOf_16 (by decide) (nI_ge hv (by omega)) ?_
        refine V_iload d_X_imagesOf_19 rfl ?_
        refine V_if_ne_f (tgt := 28) d_X_imagesOf_21 (by decide) (by rw [g0]; rfl) ?_
        refine V_iconst (v := (nI 0)) d_X_imagesOf_24 (by decide) ?_
        refine V_goto (tgt := 34) d_X_imagesOf_25 (by decide) ?_
        refine V_istore d_X_imagesOf_34 (by decide) ?_
        refine V_iconst (v := (nI 0)) d_X_imagesOf_36 (by decide) ?_
        refine V_istore d_X_imagesOf_37 (by decide) ?_
        exact inner 0 (by omega) f 0 _ _ (by omega) (by omega) hf (by omega)
      ·
        refine V_iload d_X_imagesOf_12 rfl ?_
        refine V_bipush (v := (nI 31)) d_X_imagesOf_14 (by decide) ?_
        refine V_icmp_ge_f (tgt := 165) d_X_imagesOf_16 (by decide) (nI_ge hv (by omega)) ?_
        refine V_iload d_X_imagesOf_19 rfl ?_
        refine V_if_ne_t (tgt := 28) d_X_imagesOf_21 (by decide) (nI_ne0 g0 (by omega)) ?_
        refine V_iload d_X_imagesOf_28 rfl ?_
        refine V_iconst (v := (nI 1)) d_X_imagesOf_30 (by decide) ?_
        refine V_isub d_X_imagesOf_31 (pk_sub g0) ?_
        refine V_iconst (v := (nI 1)) d_X_imagesOf_32 (by decide) ?_
        refine V_ishr d_X_imagesOf_33 (nI_shr (by omega) (by omega)) ?_
        refine V_istore d_X_imagesOf_34 (by decide) ?_
        refine V_iconst (v := (nI 0)) d_X_imagesOf_36 (by decide) ?_
        refine V_istore d_X_imagesOf_37 (by decide) ?_
        exact inner 0 (by omega) f ((v - 1) / 2) _ _ (fun _ => rfl) (by omega) hf (by omega)
  refine V_aload_n d_X_imagesOf_0 rfl rfl ?_
  refine xg_lengthOf d_X_imagesOf_1 ?_
  refine V_iload_n d_X_imagesOf_4 rfl rfl ?_
  refine xl_lengthOf (rfl) (by omega) d_X_imagesOf_5 ?_
  refine V_top (hlen U hU) ?_
  refine V_istore_n d_X_imagesOf_6 rfl (by decide) ?_
  refine V_iconst (v := (nI 0)) d_X_imagesOf_7 (by decide) ?_
  refine V_istore_n d_X_imagesOf_8 rfl (by decide) ?_
  refine V_iconst (v := (nI 0)) d_X_imagesOf_9 (by decide) ?_
  refine V_istore d_X_imagesOf_10 (by decide) ?_
  refine V_at rfl rfl rfl (show u = (u.1, setA u.2 11 (u.2 11)) by rw [setA_self]) ?_
  exact loop 0 (by omega) _ _ _ _ _ _ (by omega) (fun v' _ => by rw [b_n0]; simp)
end
section
/-! PairExpressions: prepare, and the words of the answers -/
def RowsOk (u : XS) (G : Nat → Nat → Bool) : Prop := ∀ a b, a < 31 → b < 31 → bt (u.2 10 a) b = G a b
def XQ (u : XS) (G : Nat → Nat → Bool) : Prop := (∃ D, UseOk u D ∧ ∀ a b, a < 31 → b < 31 → (G a b = true ↔ FIN u D a b)) ∧ (u.1 16 = nI 0 ∨ (u.1 16 = nI 1 ∧ RowsOk u G))
def Sm (u u2 : XS) : Prop := (∀ j, j ≠ 16 → u2.1 j = u.1 j) ∧ (∀ a, a ≠ 10 → a ≠ 11 → u2.2 a = u.2 a)
theorem Sm.rf {u : XS} : Sm u u := ⟨fun _ _ => rfl, fun _ _ _ => rfl⟩
theorem XQ.of {u u2 : XS} {G : Nat → Nat → Bool} (h : XQ u G) (hs : Sm u u2) (h1 : u2.1 16 = nI 1) (hr : RowsOk u2 G) : XQ u2 G := by
  obtain ⟨⟨D, ⟨l1, l2, l3⟩, hG⟩, -⟩ := h
  refine ⟨⟨D, ⟨?_, ?_, ?_⟩, ?_⟩, Or.inr ⟨h1, hr⟩⟩
  · intro n hn
    rw [hs.2 12 (by decide) (by decide)]
    exact l1 n hn
  · rw [hs.1 11 (by decide), hs.2 8 (by decide) (by decide), hs.2 9 (by decide) (by decide)]
    exact l2
  · rw [hs.1 12 (by decide)]
    exact l3
  · intro a b ha hb
    rw [hG a b ha hb]
    unfold FIN
    rw [hs.1 12 (by decide), hs.1 13 (by decide)]
theorem bool_iff {a b : Bool} (h : a = true ↔ b = true) : a = b := by
  cases a <;> cases b <;> first | rfl | (exact absurd (h.mp rfl) (by decide)) | (exact absurd (h.mpr rfl) (by decide))
theorem setA_c (A : Nat → Nat → Int32) (f g h : Nat → Int32) : setA (setA (setA A 11 f) 10 g) 11 h = setA (setA A 11 h) 10 g := by
  funext j
  unfold setA
  by_cases h1 : j = 10
  · subst h1; rfl
  · by_cases h2 : j = 11
    · subst h2; rfl
    · simp [h1, h2]
set_option maxHeartbeats 4000000 in
theorem c_X_prepare (u : XS) (G : Nat → Nat → Bool) (hq : XQ u G) : C_X_prepare [] u (fun u2 => Sm u u2 ∧ XQ u2 G ∧ RowsOk u2 G) := by
  generalize hpost : (fun (u2 : XS) => Sm u u2 ∧ XQ u2 G ∧ RowsOk u2 G) = post
  refine e_X_prepare ?_
  intro p l e s m args below meth c D q k A0
  have hq0 := hq
  obtain ⟨⟨D0, hu, hG⟩, hr⟩ := hq0
  rcases hr with h0 | ⟨h1, hrow⟩
  · have loop : ∀ w, w ≤ 31 → ∀ (f g : Nat → Int32), (∀ a, a < w → ∀ b, b < 31 → bt (g a) b = G a b) → (V p l e rm_X_prepare s m args below meth c R_X wX b_X_prepare 2 none D (xty k) A0 (xw q k) 0 0 (MQ below (va_Qv post (vB D (xty k) (xw q k) A0) A0) args s 0 0 A0) (10) ([some (.ref (q 0)), some (.int (nI w))]) ([]) ((u.1, setA (setA u.2 11 f) 10 g))) := by
      refine dn 31 ?_ ?_
      · intro f g hg
        have hrw : RowsOk (upd u.1 16 (nI 1), setA (setA u.2 11 f) 10 g) G := fun a b ha hb => hg a ha b hb
        have hsm : Sm u (upd u.1 16 (nI 1), setA (setA u.2 11 f) 10 g) := ⟨fun j hj => pk_un hj, fun a h1 h2 => by
          show setA (setA u.2 11 f) 10 g a = _
          rw [setA_ne _ _ h1, setA_ne _ _ h2]⟩
        refine V_iload_n d_X_prepare_10 rfl rfl ?_
        refine V_bipush (v := (nI 31)) d_X_prepare_11 (by decide) ?_
        refine V_icmp_ge_t (tgt := 33) d_X_prepare_13 (by decide) (nI_le (by omega) (by omega)) ?_
        refine V_aload_n d_X_prepare_33 rfl rfl ?_
        refine V_iconst (v := (nI 1)) d_X_prepare_34 (by decide) ?_
        refine xp_ready (Or.inr rfl) d_X_prepare_35 ?_
        exact V_vret d_X_prepare_38 rfl (by rw [← hpost]; exact ⟨hsm, hq.of hsm rfl hrw, hrw⟩)
      · intro w hw ih f g hg
        refine V_iload_n d_X_prepare_10 rfl rfl ?_
        refine V_bipush (v := (nI 31)) d_X_prepare_11 (by decide) ?_
        refine V_icmp_ge_f (tgt := 33) d_X_prepare_13 (by decide) (nI_ge hw (by omega)) ?_
        refine V_aload_n d_X_prepare_16 rfl rfl ?_
        refine xg_row d_X_prepare_17 ?_
        refine V_iload_n d_X_prepare_20 rfl rfl ?_
        refine V_aload_n d_X_prepare_21 rfl rfl ?_
        refine V_iload_n d_X_prepare_22 rfl rfl ?_
        refine v_X_imagesOf (c_X_imagesOf (u.1, setA (setA u.2 11 f) 10 g) (D0 := D0) hu hw) ⟨Nat.le_of_ble_eq_true rfl, Nat.le_of_ble_eq_true rfl⟩ (Nat.le_of_ble_eq_true rfl) d_X_prepare_23 ?_
        rintro r _ ⟨⟨f2, rfl⟩, hb⟩
        refine xs_row (rfl) (by omega) d_X_prepare_26 ?_
        refine V_at rfl rfl rfl (show _ = (u.1, setA (setA u.2 11 f2) 10 (upd g w r)) from ?_) ?_
        · show (u.1, updA (setA (setA (setA u.2 11 f) 10 g) 11 f2) 10 w r) = _
          rw [setA_c, updA_setA]
        refine V_iinc d_X_prepare_27 rfl (nI_1 _) (by decide) ?_
        refine V_goto (tgt := 10) d_X_prepare_30 (by decide) ?_
        refine ih f2 (upd g w r) (fun a ha b hb31 => ?_)
        by_cases e : a = w
        · subst e
          rw [pk_us]
          exact bool_iff ((hb b hb31).trans (hG a b hw hb31).symm)
        · rw [pk_un e]
          exact hg a (by omega) b hb31
    refine V_aload_n d_X_prepare_0 rfl rfl ?_
    refine xg_ready d_X_prepare_1 ?_
    refine V_if_eq_t (tgt := 8) d_X_prepare_4 (by decide) (h0) ?_
    refine V_iconst (v := (nI 0)) d_X_prepare_8 (by decide) ?_
    refine V_istore_n d_X_prepare_9 rfl (by decide) ?_
    refine V_at rfl rfl rfl (show u = (u.1, setA (setA u.2 11 (u.2 11)) 10 (u.2 10)) by rw [setA_self, setA_self]) ?_
    exact loop 0 (by omega) _ _ (by omega)
  ·
    refine V_aload_n d_X_prepare_0 rfl rfl ?_
    refine xg_ready d_X_prepare_1 ?_
    refine V_if_eq_f (tgt := 8) d_X_prepare_4 (by decide) (by rw [h1]; decide) ?_
    exact V_vret d_X_prepare_7 rfl (by rw [← hpost]; exact ⟨Sm.rf, hq, hrow⟩)
/-! the words of the answers -/
def wn (a b : Int32) : Nat := 2 ^ a.toNatClampNeg - 1 + b.toNatClampNeg
theorem wn_eq {L B : Nat} (hL : L ≤ 4) (hB : B < 2 ^ L) : wn (nI L) (nI B) = 2 ^ L - 1 + B := by
  have := pw_lt hL
  unfold wn
  rw [nI_clamp (by omega), nI_clamp (by omega)]
theorem wn_lt {L B : Nat} (hL : L ≤ 4) (hB : B < 2 ^ L) : 2 ^ L - 1 + B < 31 := by
  have := pw_lt hL
  omega
theorem isW_mk {L B : Nat} (hL : L ≤ 4) (hB : B < 2 ^ L) : isW (nI L) (nI B) := ⟨L, B, hL, hB, rfl, rfl⟩
def sm (f : Nat → Nat) : Nat → Nat
  | 0 => 0
  | n + 1 => sm f n + f n
theorem sm_congr {f g : Nat → Nat} : ∀ n, (∀ i, i < n → f i = g i) → sm f n = sm g n
  | 0, _ => rfl
  | n + 1, h => by rw [sm, sm, sm_congr n (fun i hi => h i (by omega)), h n (by omega)]
def anyN (f : Nat → Bool) : Nat → Bool
  | 0 => false
  | n + 1 => anyN f n || f n
theorem anyN_iff {f : Nat → Bool} : ∀ n, anyN f n = true ↔ ∃ i, i < n ∧ f i = true
  | 0 => by simp [anyN]
  | n + 1 => by
    rw [anyN, Bool.or_eq_true, anyN_iff n]
    constructor
    · rintro (⟨i, h1, h2⟩ | h)
      · exact ⟨i, by omega, h2⟩
      · exact ⟨n, by omega, h⟩
    · rintro ⟨i, h1, h2⟩
      by_cases e : i = n
      · subst e; exact Or.inr h2
      · exact Or.inl ⟨i, by omega, h2⟩
def lead (G : Nat → Nat → Bool) (a w : Nat) : Bool := anyN (fun v => G a v && G v w) 31
def imR (g : Nat → Bool) (k r : Int32) : Prop := (∃ v, v < 31 ∧ g v = true ∧ k = nI (cnt g v) ∧ r = nI (16 * lenN v + v + 1 - 2 ^ lenN v)) ∨ ((∀ v, v < 31 → g v = true → ¬ k = nI (cnt g v)) ∧ r = -4)
end
section
/-! PairExpressions: the questions -/
set_option maxHeartbeats 4000000 in
theorem c_X_related (u : XS) (G : Nat → Nat → Bool) (hq : XQ u G) (a1 a2 a3 a4 : Int32) : C_X_related [.int a1, .int a2, .int a3, .int a4] u (fun r u2 => Sm u u2 ∧ XQ u2 G ∧ (¬ (isW a1 a2 ∧ isW a3 a4) → r = nI 0) ∧ (isW a1 a2 → isW a3 a4 → r = bI (G (wn a1 a2) (wn a3 a4)))) := by
  refine e_X_related ?_
  intro p l e s m args below meth c D q k A0
  refine V_aload_n d_X_related_0 rfl rfl ?_
  refine V_iload_n d_X_related_1 rfl rfl ?_
  refine V_iload_n d_X_related_2 rfl rfl ?_
  refine v_X_bad (c_X_bad u a1 a2) ⟨Nat.le_of_ble_eq_true rfl, Nat.le_of_ble_eq_true rfl⟩ (Nat.le_of_ble_eq_true rfl) d_X_related_3 ?_
  rintro r _ ⟨rfl, ⟨rfl, hn⟩ | ⟨rfl, L, B, hL, hB, rfl, rfl⟩⟩
  ·
    refine V_if_ne_t (tgt := 19) d_X_related_6 (by decide) (by decide) ?_
    refine V_iconst (v := (nI 0)) d_X_related_19 (by decide) ?_
    exact V_zret d_X_related_20 rfl (rfl) (⟨Sm.rf, hq, fun _ => rfl, fun h => absurd h hn⟩)
  ·
    refine V_if_ne_f (tgt := 19) d_X_related_6 (by decide) (by decide) ?_
    refine V_aload_n d_X_related_9 rfl rfl ?_
    refine V_iload_n d_X_related_10 rfl rfl ?_
    refine V_iload d_X_related_11 rfl ?_
    refine v_X_bad (c_X_bad _ a3 a4) ⟨Nat.le_of_ble_eq_true rfl, Nat.le_of_ble_eq_true rfl⟩ (Nat.le_of_ble_eq_true rfl) d_X_related_13 ?_
    rintro r _ ⟨rfl, ⟨rfl, hn⟩ | ⟨rfl, L2, B2, hL2, hB2, rfl, rfl⟩⟩
    ·
      refine V_if_eq_f (tgt := 21) d_X_related_16 (by decide) (by decide) ?_
      refine V_iconst (v := (nI 0)) d_X_related_19 (by decide) ?_
      exact V_zret d_X_related_20 rfl (rfl) (⟨Sm.rf, hq, fun _ => rfl, fun _ h => absurd h hn⟩)
    ·
      refine V_if_eq_t (tgt := 21) d_X_related_16 (by decide) (by decide) ?_
      refine V_aload_n d_X_related_21 rfl rfl ?_
      refine v_X_prepare (c_X_prepare _ G hq) ⟨Nat.le_of_ble_eq_true rfl, Nat.le_of_ble_eq_true rfl⟩ (Nat.le_of_ble_eq_true rfl) d_X_related_22 ?_
      rintro u2 ⟨hs, hq2, hrow⟩
      have w1 := wn_lt hL hB
      have w2 := wn_lt hL2 hB2
      refine V_aload_n d_X_related_25 rfl rfl ?_
      refine V_iload_n d_X_related_26 rfl rfl ?_
      refine V_iload_n d_X_related_27 rfl rfl ?_
      refine v_X_wordOf (c_X_wordOf u2 hL) ⟨Nat.le_of_ble_eq_true rfl, Nat.le_of_ble_eq_true rfl⟩ (Nat.le_of_ble_eq_true rfl) d_X_related_28 ?_
      rintro r u2 ⟨rfl, rfl⟩
      refine V_istore d_X_related_31 (by decide) ?_
      refine V_aload_n d_X_related_33 rfl rfl ?_
      refine V_iload_n d_X_related_34 rfl rfl ?_
      refine V_iload d_X_related_35 rfl ?_
      refine v_X_wordOf (c_X_wordOf _ hL2) ⟨Nat.le_of_ble_eq_true rfl, Nat.le_of_ble_eq_true rfl⟩ (Nat.le_of_ble_eq_true rfl) d_X_related_37 ?_
      rintro r u2 ⟨rfl, rfl⟩
      refine V_istore d_X_related_40 (by decide) ?_
      refine V_aload_n d_X_related_42 rfl rfl ?_
      refine xg_row d_X_related_43 ?_
      refine V_iload d_X_related_46 rfl ?_
      refine xl_row (rfl) (by omega) d_X_related_48 ?_
      refine V_iload d_X_related_49 rfl ?_
      refine V_ishr d_X_related_51 (rfl) ?_
      refine V_iconst (v := (nI 1)) d_X_related_52 (by decide) ?_
      refine V_iand d_X_related_53 (bit1 _ (by omega)) ?_
      refine V_iconst (v := (nI 1)) d_X_related_54 (by decide) ?_
      rw [hrow _ _ w1 w2]
      refine V_icmp_ne (tgt := 62) d_X_related_55 (by decide) (fun c_55 => ?_) (fun c_55 => ?_)
      ·
        refine V_iconst (v := (nI 0)) d_X_related_62 (by decide) ?_
        exact V_zret d_X_related_63 rfl (rfl) (⟨hs, hq2, fun _ => rfl, fun _ _ => by rw [wn_eq hL hB, wn_eq hL2 hB2]; cases hg : G (2 ^ L - 1 + B) (2 ^ L2 - 1 + B2); rfl; exact absurd (bI_1.mpr hg) c_55⟩)
      ·
        refine V_iconst (v := (nI 1)) d_X_related_58 (by decide) ?_
        refine V_goto (tgt := 63) d_X_related_59 (by decide) ?_
        exact V_zret d_X_related_63 rfl (rfl) (⟨hs, hq2, fun h => absurd ⟨isW_mk hL hB, isW_mk hL2 hB2⟩ h, fun _ _ => by rw [wn_eq hL hB, wn_eq hL2 hB2]; exact c_55.symm⟩)
set_option maxHeartbeats 4000000 in
theorem c_X_images (u : XS) (G : Nat → Nat → Bool) (hq : XQ u G) (a1 a2 : Int32) : C_X_images [.int a1, .int a2] u (fun r u2 => Sm u u2 ∧ XQ u2 G ∧ (¬ isW a1 a2 → r = -1) ∧ (isW a1 a2 → r = nI (cnt (G (wn a1 a2)) 31))) := by
  refine e_X_images ?_
  intro p l e s m args below meth c D q k A0
  refine V_aload_n d_X_images_0 rfl rfl ?_
  refine V_iload_n d_X_images_1 rfl rfl ?_
  refine V_iload_n d_X_images_2 rfl rfl ?_
  refine v_X_bad (c_X_bad u a1 a2) ⟨Nat.le_of_ble_eq_true rfl, Nat.le_of_ble_eq_true rfl⟩ (Nat.le_of_ble_eq_true rfl) d_X_images_3 ?_
  rintro r _ ⟨rfl, ⟨rfl, hn⟩ | ⟨rfl, L, B, hL, hB, rfl, rfl⟩⟩
  ·
    refine V_if_eq_f (tgt := 11) d_X_images_6 (by decide) (by decide) ?_
    refine V_iconst (v := (-1)) d_X_images_9 (by decide) ?_
    exact V_iret d_X_images_10 rfl (⟨Sm.rf, hq, fun _ => rfl, fun h => absurd h hn⟩)
  ·
    refine V_if_eq_t (tgt := 11) d_X_images_6 (by decide) (by decide) ?_
    refine V_aload_n d_X_images_11 rfl rfl ?_
    refine v_X_prepare (c_X_prepare _ G hq) ⟨Nat.le_of_ble_eq_true rfl, Nat.le_of_ble_eq_true rfl⟩ (Nat.le_of_ble_eq_true rfl) d_X_images_12 ?_
    rintro u2 ⟨hs, hq2, hrow⟩
    have w1 := wn_lt hL hB
    refine V_aload_n d_X_images_15 rfl rfl ?_
    refine V_iload_n d_X_images_16 rfl rfl ?_
    refine V_iload_n d_X_images_17 rfl rfl ?_
    refine v_X_wordOf (c_X_wordOf u2 hL) ⟨Nat.le_of_ble_eq_true rfl, Nat.le_of_ble_eq_true rfl⟩ (Nat.le_of_ble_eq_true rfl) d_X_images_18 ?_
    rintro r u2 ⟨rfl, rfl⟩
    refine V_istore_n d_X_images_21 rfl (by decide) ?_
    refine V_aload_n d_X_images_22 rfl rfl ?_
    refine V_aload_n d_X_images_23 rfl rfl ?_
    refine xg_row d_X_images_24 ?_
    refine V_iload_n d_X_images_27 rfl rfl ?_
    refine xl_row (rfl) (by omega) d_X_images_28 ?_
    refine v_X_sizeOf (c_X_sizeOf _ _) ⟨Nat.le_of_ble_eq_true rfl, Nat.le_of_ble_eq_true rfl⟩ (Nat.le_of_ble_eq_true rfl) d_X_images_29 ?_
    rintro r u2 ⟨rfl, rfl⟩
    exact V_iret d_X_images_32 rfl (⟨hs, hq2, fun h => absurd (isW_mk hL hB) h, fun _ => by rw [wn_eq hL hB, cnt_congr 31 (fun i hi => hrow _ i w1 hi)]⟩)
set_option maxHeartbeats 4000000 in
theorem c_X_sources (u : XS) (G : Nat → Nat → Bool) (hq : XQ u G) (a1 a2 : Int32) : C_X_sources [.int a1, .int a2] u (fun r u2 => Sm u u2 ∧ XQ u2 G ∧ (¬ isW a1 a2 → r = -1) ∧ (isW a1 a2 → r = nI (cnt (fun a => G a (wn a1 a2)) 31))) := by
  generalize hpost : (fun (r : Int32) (u2 : XS) => Sm u u2 ∧ XQ u2 G ∧ (¬ isW a1 a2 → r = -1) ∧ (isW a1 a2 → r = nI (cnt (fun a => G a (wn a1 a2)) 31))) = post
  refine e_X_sources ?_
  intro p l e s m args below meth c D q k A0
  refine V_aload_n d_X_sources_0 rfl rfl ?_
  refine V_iload_n d_X_sources_1 rfl rfl ?_
  refine V_iload_n d_X_sources_2 rfl rfl ?_
  refine v_X_bad (c_X_bad u a1 a2) ⟨Nat.le_of_ble_eq_true rfl, Nat.le_of_ble_eq_true rfl⟩ (Nat.le_of_ble_eq_true rfl) d_X_sources_3 ?_
  rintro r _ ⟨rfl, ⟨rfl, hn⟩ | ⟨rfl, L, B, hL, hB, rfl, rfl⟩⟩
  ·
    refine V_if_eq_f (tgt := 11) d_X_sources_6 (by decide) (by decide) ?_
    refine V_iconst (v := (-1)) d_X_sources_9 (by decide) ?_
    exact V_iret d_X_sources_10 rfl (by rw [← hpost]; exact ⟨Sm.rf, hq, fun _ => rfl, fun h => absurd h hn⟩)
  ·
    refine V_if_eq_t (tgt := 11) d_X_sources_6 (by decide) (by decide) ?_
    refine V_aload_n d_X_sources_11 rfl rfl ?_
    refine v_X_prepare (c_X_prepare _ G hq) ⟨Nat.le_of_ble_eq_true rfl, Nat.le_of_ble_eq_true rfl⟩ (Nat.le_of_ble_eq_true rfl) d_X_sources_12 ?_
    rintro u2 ⟨hs, hq2, hrow⟩
    have w1 := wn_lt hL hB
    refine V_aload_n d_X_sources_15 rfl rfl ?_
    refine V_iload_n d_X_sources_16 rfl rfl ?_
    refine V_iload_n d_X_sources_17 rfl rfl ?_
    refine v_X_wordOf (c_X_wordOf u2 hL) ⟨Nat.le_of_ble_eq_true rfl, Nat.le_of_ble_eq_true rfl⟩ (Nat.le_of_ble_eq_true rfl) d_X_sources_18 ?_
    rintro r u2 ⟨rfl, rfl⟩
    have loop : ∀ n, n ≤ 31 → (V p l e rm_X_sources s m args below meth c R_X wX b_X_sources 6 (some .int) D (xty k) A0 (xw q k) 0 0 (MQ below (va_Qi post (vB D (xty k) (xw q k) A0) A0) args s 0 0 A0) (28) ([some (.ref (q 0)), some (.int (nI L)), some (.int (nI B)), some (.int (nI (2 ^ L - 1 + B))), some (.int (nI (cnt (fun a => G a (2 ^ L - 1 + B)) n))), some (.int (nI n))]) ([]) (u2)) := by
      refine dn 31 ?_ ?_
      ·
        refine V_iload d_X_sources_28 rfl ?_
        refine V_bipush (v := (nI 31)) d_X_sources_30 (by decide) ?_
        refine V_icmp_ge_t (tgt := 57) d_X_sources_32 (by decide) (nI_le (by omega) (by omega)) ?_
        refine V_iload d_X_sources_57 rfl ?_
        exact V_iret d_X_sources_59 rfl (by rw [← hpost]; exact ⟨hs, hq2, fun h => absurd (isW_mk hL hB) h, fun _ => by rw [wn_eq hL hB]⟩)
      · intro n hn ih
        refine V_iload d_X_sources_28 rfl ?_
        refine V_bipush (v := (nI 31)) d_X_sources_30 (by decide) ?_
        refine V_icmp_ge_f (tgt := 57) d_X_sources_32 (by decide) (nI_ge hn (by omega)) ?_
        refine V_iload d_X_sources_35 rfl ?_
        refine V_aload_n d_X_sources_37 rfl rfl ?_
        refine xg_row d_X_sources_38 ?_
        refine V_iload d_X_sources_41 rfl ?_
        refine xl_row (rfl) (by omega) d_X_sources_43 ?_
        refine V_iload_n d_X_sources_44 rfl rfl ?_
        refine V_ishr d_X_sources_45 (rfl) ?_
        refine V_iconst (v := (nI 1)) d_X_sources_46 (by decide) ?_
        refine V_iand d_X_sources_47 (bit1 _ (by omega)) ?_
        rw [hrow _ _ hn w1]
        refine V_iadd d_X_sources_48 (nI_add _ _) ?_
        refine V_istore d_X_sources_49 (by decide) ?_
        refine V_iinc d_X_sources_51 rfl (nI_1 _) (by decide) ?_
        refine V_goto (tgt := 28) d_X_sources_54 (by decide) ?_
        exact ih
    refine V_istore_n d_X_sources_21 rfl (by decide) ?_
    refine V_iconst (v := (nI 0)) d_X_sources_22 (by decide) ?_
    refine V_istore d_X_sources_23 (by decide) ?_
    refine V_iconst (v := (nI 0)) d_X_sources_25 (by decide) ?_
    refine V_istore d_X_sources_26 (by decide) ?_
    exact loop 0 (by omega)
set_option maxHeartbeats 4000000 in
theorem c_X_pairs (u : XS) (G : Nat → Nat → Bool) (hq : XQ u G) : C_X_pairs [] u (fun r u2 => Sm u u2 ∧ XQ u2 G ∧ r = nI (sm (fun a => cnt (G a) 31) 31)) := by
  generalize hpost : (fun (r : Int32) (u2 : XS) => Sm u u2 ∧ XQ u2 G ∧ r = nI (sm (fun a => cnt (G a) 31) 31)) = post
  refine e_X_pairs ?_
  intro p l e s m args below meth c D q k A0
  refine V_aload_n d_X_pairs_0 rfl rfl ?_
  refine v_X_prepare (c_X_prepare _ G hq) ⟨Nat.le_of_ble_eq_true rfl, Nat.le_of_ble_eq_true rfl⟩ (Nat.le_of_ble_eq_true rfl) d_X_pairs_1 ?_
  rintro u2 ⟨hs, hq2, hrow⟩
  have loop : ∀ n, n ≤ 31 → ∀ x3 : Option Value, (V p l e rm_X_pairs s m args below meth c R_X wX b_X_pairs 4 (some .int) D (xty k) A0 (xw q k) 0 0 (MQ below (va_Qi post (vB D (xty k) (xw q k) A0) A0) args s 0 0 A0) (8) ([some (.ref (q 0)), some (.int (nI (sm (fun a => cnt (G a) 31) n))), some (.int (nI n)), x3]) ([]) (u2)) := by
    refine dn 31 ?_ ?_
    · intro x3
      refine V_iload_n d_X_pairs_8 rfl rfl ?_
      refine V_bipush (v := (nI 31)) d_X_pairs_9 (by decide) ?_
      refine V_icmp_ge_t (tgt := 35) d_X_pairs_11 (by decide) (nI_le (by omega) (by omega)) ?_
      refine V_iload_n d_X_pairs_35 rfl rfl ?_
      exact V_iret d_X_pairs_36 rfl (by rw [← hpost]; exact ⟨hs, hq2, rfl⟩)
    · intro n hn ih x3
      refine V_iload_n d_X_pairs_8 rfl rfl ?_
      refine V_bipush (v := (nI 31)) d_X_pairs_9 (by decide) ?_
      refine V_icmp_ge_f (tgt := 35) d_X_pairs_11 (by decide) (nI_ge hn (by omega)) ?_
      refine V_aload_n d_X_pairs_14 rfl rfl ?_
      refine V_aload_n d_X_pairs_15 rfl rfl ?_
      refine xg_row d_X_pairs_16 ?_
      refine V_iload_n d_X_pairs_19 rfl rfl ?_
      refine xl_row (rfl) (by omega) d_X_pairs_20 ?_
      refine v_X_sizeOf (c_X_sizeOf _ _) ⟨Nat.le_of_ble_eq_true rfl, Nat.le_of_ble_eq_true rfl⟩ (Nat.le_of_ble_eq_true rfl) d_X_pairs_21 ?_
      rintro r u2 ⟨rfl, rfl⟩
      rw [cnt_congr (g := G n) 31 (fun i hi => hrow _ i hn hi)]
      refine V_istore_n d_X_pairs_24 rfl (by decide) ?_
      refine V_iload_n d_X_pairs_25 rfl rfl ?_
      refine V_iload_n d_X_pairs_26 rfl rfl ?_
      refine V_iadd d_X_pairs_27 (nI_add _ _) ?_
      refine V_istore_n d_X_pairs_28 rfl (by decide) ?_
      refine V_iinc d_X_pairs_29 rfl (nI_1 _) (by decide) ?_
      refine V_goto (tgt := 8) d_X_pairs_32 (by decide) ?_
      exact ih _
  refine V_iconst (v := (nI 0)) d_X_pairs_4 (by decide) ?_
  refine V_istore_n d_X_pairs_5 rfl (by decide) ?_
  refine V_iconst (v := (nI 0)) d_X_pairs_6 (by decide) ?_
  refine V_istore_n d_X_pairs_7 rfl (by decide) ?_
  exact loop 0 (by omega) _
set_option maxHeartbeats 4000000 in
theorem c_X_having (u : XS) (G : Nat → Nat → Bool) (hq : XQ u G) {t : Nat} (ht : t ≤ 31) : C_X_having [.int (nI t)] u (fun r u2 => Sm u u2 ∧ XQ u2 G ∧ r = nI (cnt (fun a => decide (t ≤ cnt (G a) 31)) 31)) := by
  generalize hpost : (fun (r : Int32) (u2 : XS) => Sm u u2 ∧ XQ u2 G ∧ r = nI (cnt (fun a => decide (t ≤ cnt (G a) 31)) 31)) = post
  refine e_X_having ?_
  intro p l e s m args below meth c D q k A0
  refine V_aload_n d_X_having_0 rfl rfl ?_
  refine v_X_prepare (c_X_prepare _ G hq) ⟨Nat.le_of_ble_eq_true rfl, Nat.le_of_ble_eq_true rfl⟩ (Nat.le_of_ble_eq_true rfl) d_X_having_1 ?_
  rintro u2 ⟨hs, hq2, hrow⟩
  have loop : ∀ n, n ≤ 31 → ∀ x4 : Option Value, (V p l e rm_X_having s m args below meth c R_X wX b_X_having 5 (some .int) D (xty k) A0 (xw q k) 0 0 (MQ below (va_Qi post (vB D (xty k) (xw q k) A0) A0) args s 0 0 A0) (8) ([some (.ref (q 0)), some (.int (nI t)), some (.int (nI (cnt (fun a => decide (t ≤ cnt (G a) 31)) n))), some (.int (nI n)), x4]) ([]) (u2)) := by
    refine dn 31 ?_ ?_
    · intro x4
      refine V_iload_n d_X_having_8 rfl rfl ?_
      refine V_bipush (v := (nI 31)) d_X_having_9 (by decide) ?_
      refine V_icmp_ge_t (tgt := 41) d_X_having_11 (by decide) (nI_le (by omega) (by omega)) ?_
      refine V_iload_n d_X_having_41 rfl rfl ?_
      exact V_iret d_X_having_42 rfl (by rw [← hpost]; exact ⟨hs, hq2, rfl⟩)
    · intro n hn ih x4
      refine V_iload_n d_X_having_8 rfl rfl ?_
      refine V_bipush (v := (nI 31)) d_X_having_9 (by decide) ?_
      refine V_icmp_ge_f (tgt := 41) d_X_having_11 (by decide) (nI_ge hn (by omega)) ?_
      refine V_aload_n d_X_having_14 rfl rfl ?_
      refine V_aload_n d_X_having_15 rfl rfl ?_
      refine xg_row d_X_having_16 ?_
      refine V_iload_n d_X_having_19 rfl rfl ?_
      refine xl_row (rfl) (by omega) d_X_having_20 ?_
      refine v_X_sizeOf (c_X_sizeOf _ _) ⟨Nat.le_of_ble_eq_true rfl, Nat.le_of_ble_eq_true rfl⟩ (Nat.le_of_ble_eq_true rfl) d_X_having_21 ?_
      rintro r u2 ⟨rfl, rfl⟩
      rw [cnt_congr (g := G n) 31 (fun i hi => hrow _ i hn hi)]
      have hc := cnt_le (G n) 31
      by_cases hle : t ≤ cnt (G n) 31
      · have he : cnt (fun a => decide (t ≤ cnt (G a) 31)) (n + 1) = cnt (fun a => decide (t ≤ cnt (G a) 31)) n + 1 := by
          rw [cnt, decide_eq_true hle]; rfl
        refine V_istore d_X_having_24 (by decide) ?_
        refine V_iload d_X_having_26 rfl ?_
        refine V_iload_n d_X_having_28 rfl rfl ?_
        refine V_icmp_lt_f (tgt := 35) d_X_having_29 (by decide) (nI_nlt hle (by omega)) ?_
        refine V_iinc d_X_having_32 rfl (nI_1 _) (by decide) ?_
        refine V_iinc d_X_having_35 rfl (nI_1 _) (by decide) ?_
        refine V_goto (tgt := 8) d_X_having_38 (by decide) ?_
        rw [← he]
        exact ih _
      · have he : cnt (fun a => decide (t ≤ cnt (G a) 31)) (n + 1) = cnt (fun a => decide (t ≤ cnt (G a) 31)) n := by
          rw [cnt, decide_eq_false hle]; rfl
        refine V_istore d_X_having_24 (by decide) ?_
        refine V_iload d_X_having_26 rfl ?_
        refine V_iload_n d_X_having_28 rfl rfl ?_
        refine V_icmp_lt_t (tgt := 35) d_X_having_29 (by decide) (nI_lt (by omega) (by omega)) ?_
        refine V_iinc d_X_having_35 rfl (nI_1 _) (by decide) ?_
        refine V_goto (tgt := 8) d_X_having_38 (by decide) ?_
        rw [← he]
        exact ih _
  refine V_iconst (v := (nI 0)) d_X_having_4 (by decide) ?_
  refine V_istore_n d_X_having_5 rfl (by decide) ?_
  refine V_iconst (v := (nI 0)) d_X_having_6 (by decide) ?_
  refine V_istore_n d_X_having_7 rfl (by decide) ?_
  exact loop 0 (by omega) _
set_option maxHeartbeats 4000000 in
theorem c_X_domain (u : XS) (G : Nat → Nat → Bool) (hq : XQ u G) : C_X_domain [] u (fun r u2 => Sm u u2 ∧ XQ u2 G ∧ r = nI (cnt (fun a => decide (1 ≤ cnt (G a) 31)) 31)) := by
  refine e_X_domain ?_
  intro p l e s m args below meth c D q k A0
  refine V_aload_n d_X_domain_0 rfl rfl ?_
  refine V_iconst (v := (nI 1)) d_X_domain_1 (by decide) ?_
  refine v_X_having (c_X_having _ G hq (t := 1) (by omega)) ⟨Nat.le_of_ble_eq_true rfl, Nat.le_of_ble_eq_true rfl⟩ (Nat.le_of_ble_eq_true rfl) d_X_domain_2 ?_
  intro r u2 h
  exact V_iret d_X_domain_5 rfl (h)
set_option maxHeartbeats 4000000 in
theorem c_X_manyValued (u : XS) (G : Nat → Nat → Bool) (hq : XQ u G) : C_X_manyValued [] u (fun r u2 => Sm u u2 ∧ XQ u2 G ∧ r = nI (cnt (fun a => decide (2 ≤ cnt (G a) 31)) 31)) := by
  refine e_X_manyValued ?_
  intro p l e s m args below meth c D q k A0
  refine V_aload_n d_X_manyValued_0 rfl rfl ?_
  refine V_iconst (v := (nI 2)) d_X_manyValued_1 (by decide) ?_
  refine v_X_having (c_X_having _ G hq (t := 2) (by omega)) ⟨Nat.le_of_ble_eq_true rfl, Nat.le_of_ble_eq_true rfl⟩ (Nat.le_of_ble_eq_true rfl) d_X_manyValued_2 ?_
  intro r u2 h
  exact V_iret d_X_manyValued_5 rfl (h)
set_option maxHeartbeats 4000000 in
theorem c_X_fixed (u : XS) (G : Nat → Nat → Bool) (hq : XQ u G) : C_X_fixed [] u (fun r u2 => Sm u u2 ∧ XQ u2 G ∧ r = nI (cnt (fun a => G a a) 31)) := by
  generalize hpost : (fun (r : Int32) (u2 : XS) => Sm u u2 ∧ XQ u2 G ∧ r = nI (cnt (fun a => G a a) 31)) = post
  refine e_X_fixed ?_
  intro p l e s m args below meth c D q k A0
  refine V_aload_n d_X_fixed_0 rfl rfl ?_
  refine v_X_prepare (c_X_prepare _ G hq) ⟨Nat.le_of_ble_eq_true rfl, Nat.le_of_ble_eq_true rfl⟩ (Nat.le_of_ble_eq_true rfl) d_X_fixed_1 ?_
  rintro u2 ⟨hs, hq2, hrow⟩
  have loop : ∀ n, n ≤ 31 → (V p l e rm_X_fixed s m args below meth c R_X wX b_X_fixed 3 (some .int) D (xty k) A0 (xw q k) 0 0 (MQ below (va_Qi post (vB D (xty k) (xw q k) A0) A0) args s 0 0 A0) (8) ([some (.ref (q 0)), some (.int (nI (cnt (fun a => G a a) n))), some (.int (nI n))]) ([]) (u2)) := by
    refine dn 31 ?_ ?_
    ·
      refine V_iload_n d_X_fixed_8 rfl rfl ?_
      refine V_bipush (v := (nI 31)) d_X_fixed_9 (by decide) ?_
      refine V_icmp_ge_t (tgt := 33) d_X_fixed_11 (by decide) (nI_le (by omega) (by omega)) ?_
      refine V_iload_n d_X_fixed_33 rfl rfl ?_
      exact V_iret d_X_fixed_34 rfl (by rw [← hpost]; exact ⟨hs, hq2, rfl⟩)
    · intro n hn ih
      refine V_iload_n d_X_fixed_8 rfl rfl ?_
      refine V_bipush (v := (nI 31)) d_X_fixed_9 (by decide) ?_
      refine V_icmp_ge_f (tgt := 33) d_X_fixed_11 (by decide) (nI_ge hn (by omega)) ?_
      refine V_iload_n d_X_fixed_14 rfl rfl ?_
      refine V_aload_n d_X_fixed_15 rfl rfl ?_
      refine xg_row d_X_fixed_16 ?_
      refine V_iload_n d_X_fixed_19 rfl rfl ?_
      refine xl_row (rfl) (by omega) d_X_fixed_20 ?_
      refine V_iload_n d_X_fixed_21 rfl rfl ?_
      refine V_ishr d_X_fixed_22 (rfl) ?_
      refine V_iconst (v := (nI 1)) d_X_fixed_23 (by decide) ?_
      refine V_iand d_X_fixed_24 (bit1 _ (by omega)) ?_
      rw [hrow _ _ hn hn]
      refine V_iadd d_X_fixed_25 (nI_add _ _) ?_
      refine V_istore_n d_X_fixed_26 rfl (by decide) ?_
      refine V_iinc d_X_fixed_27 rfl (nI_1 _) (by decide) ?_
      refine V_goto (tgt := 8) d_X_fixed_30 (by decide) ?_
      exact ih
  refine V_iconst (v := (nI 0)) d_X_fixed_4 (by decide) ?_
  refine V_istore_n d_X_fixed_5 rfl (by decide) ?_
  refine V_iconst (v := (nI 0)) d_X_fixed_6 (by decide) ?_
  refine V_istore_n d_X_fixed_7 rfl (by decide) ?_
  exact loop 0 (by omega)
set_option maxHeartbeats 4000000 in
theorem c_X_twoSteps (u : XS) (G : Nat → Nat → Bool) (hq : XQ u G) : C_X_twoSteps [] u (fun r u2 => Sm u u2 ∧ XQ u2 G ∧ r = nI (sm (fun a => cnt (lead G a) 31) 31)) := by
  generalize hpost : (fun (r : Int32) (u2 : XS) => Sm u u2 ∧ XQ u2 G ∧ r = nI (sm (fun a => cnt (lead G a) 31) 31)) = post
  refine e_X_twoSteps ?_
  intro p l e s m args below meth c D q k A0
  refine V_aload_n d_X_twoSteps_0 rfl rfl ?_
  refine v_X_prepare (c_X_prepare _ G hq) ⟨Nat.le_of_ble_eq_true rfl, Nat.le_of_ble_eq_true rfl⟩ (Nat.le_of_ble_eq_true rfl) d_X_twoSteps_1 ?_
  rintro u2 ⟨hs, hq2, hrow⟩
  have loop : ∀ n, n ≤ 31 → ∀ x3 x4 : Option Value, (V p l e rm_X_twoSteps s m args below meth c R_X wX b_X_twoSteps 5 (some .int) D (xty k) A0 (xw q k) 0 0 (MQ below (va_Qi post (vB D (xty k) (xw q k) A0) A0) args s 0 0 A0) (8) ([some (.ref (q 0)), some (.int (nI (sm (fun a => cnt (lead G a) 31) n))), some (.int (nI n)), x3, x4]) ([]) (u2)) := by
    refine dn 31 ?_ ?_
    · intro x3 x4
      refine V_iload_n d_X_twoSteps_8 rfl rfl ?_
      refine V_bipush (v := (nI 31)) d_X_twoSteps_9 (by decide) ?_
      refine V_icmp_ge_t (tgt := 75) d_X_twoSteps_11 (by decide) (nI_le (by omega) (by omega)) ?_
      refine V_iload_n d_X_twoSteps_75 rfl rfl ?_
      exact V_iret d_X_twoSteps_76 rfl (by rw [← hpost]; exact ⟨hs, hq2, rfl⟩)
    · intro n hn ih x3 x4
      have inner : ∀ j, j ≤ 31 → ∀ set : Int32, (∀ w, w < 31 → bt set w = anyN (fun v => G n v && G v w) j) → (V p l e rm_X_twoSteps s m args below meth c R_X wX b_X_twoSteps 5 (some .int) D (xty k) A0 (xw q k) 0 0 (MQ below (va_Qi post (vB D (xty k) (xw q k) A0) A0) args s 0 0 A0) (19) ([some (.ref (q 0)), some (.int (nI (sm (fun a => cnt (lead G a) 31) n))), some (.int (nI n)), some (.int set), some (.int (nI j))]) ([]) (u2)) := by
        refine dn 31 ?_ ?_
        · intro set hset
          refine V_iload d_X_twoSteps_19 rfl ?_
          refine V_bipush (v := (nI 31)) d_X_twoSteps_21 (by decide) ?_
          refine V_icmp_ge_t (tgt := 57) d_X_twoSteps_23 (by decide) (nI_le (by omega) (by omega)) ?_
          refine V_aload_n d_X_twoSteps_57 rfl rfl ?_
          refine V_iload_n d_X_twoSteps_58 rfl rfl ?_
          refine v_X_sizeOf (c_X_sizeOf _ _) ⟨Nat.le_of_ble_eq_true rfl, Nat.le_of_ble_eq_true rfl⟩ (Nat.le_of_ble_eq_true rfl) d_X_twoSteps_59 ?_
          rintro r u2 ⟨rfl, rfl⟩
          rw [cnt_congr (g := lead G n) 31 (fun i hi => hset i hi)]
          refine V_istore d_X_twoSteps_62 (by decide) ?_
          refine V_iload_n d_X_twoSteps_64 rfl rfl ?_
          refine V_iload d_X_twoSteps_65 rfl ?_
          refine V_iadd d_X_twoSteps_67 (nI_add _ _) ?_
          refine V_istore_n d_X_twoSteps_68 rfl (by decide) ?_
          refine V_iinc d_X_twoSteps_69 rfl (nI_1 _) (by decide) ?_
          refine V_goto (tgt := 8) d_X_twoSteps_72 (by decide) ?_
          exact ih _ _
        · intro j hj ihj set hset
          refine V_iload d_X_twoSteps_19 rfl ?_
          refine V_bipush (v := (nI 31)) d_X_twoSteps_21 (by decide) ?_
          refine V_icmp_ge_f (tgt := 57) d_X_twoSteps_23 (by decide) (nI_ge hj (by omega)) ?_
          refine V_aload_n d_X_twoSteps_26 rfl rfl ?_
          refine xg_row d_X_twoSteps_27 ?_
          refine V_iload_n d_X_twoSteps_30 rfl rfl ?_
          refine xl_row (rfl) (by omega) d_X_twoSteps_31 ?_
          refine V_iload d_X_twoSteps_32 rfl ?_
          refine V_ishr d_X_twoSteps_34 (rfl) ?_
          refine V_iconst (v := (nI 1)) d_X_twoSteps_35 (by decide) ?_
          refine V_iand d_X_twoSteps_36 (bit1 _ (by omega)) ?_
          refine V_iconst (v := (nI 1)) d_X_twoSteps_37 (by decide) ?_
          rw [hrow _ _ hn hj]
          refine V_icmp_ne (tgt := 51) d_X_twoSteps_38 (by decide) (fun c_38 => ?_) (fun c_38 => ?_)
          ·
            refine V_iinc d_X_twoSteps_51 rfl (nI_1 _) (by decide) ?_
            refine V_goto (tgt := 19) d_X_twoSteps_54 (by decide) ?_
            refine ihj set (fun w hw => ?_)
            have hg : G n j = false := by
              cases hg : G n j
              · rfl
              · exact absurd (bI_1.mpr hg) c_38
            rw [anyN, ← hset w hw, hg, Bool.false_and, Bool.or_false]
          ·
            refine V_iload_n d_X_twoSteps_41 rfl rfl ?_
            refine V_aload_n d_X_twoSteps_42 rfl rfl ?_
            refine xg_row d_X_twoSteps_43 ?_
            refine V_iload d_X_twoSteps_46 rfl ?_
            refine xl_row (rfl) (by omega) d_X_twoSteps_48 ?_
            refine V_ior d_X_twoSteps_49 (rfl) ?_
            refine V_istore_n d_X_twoSteps_50 rfl (by decide) ?_
            refine V_iinc d_X_twoSteps_51 rfl (nI_1 _) (by decide) ?_
            refine V_goto (tgt := 19) d_X_twoSteps_54 (by decide) ?_
            refine ihj _ (fun w hw => ?_)
            rw [anyN, b_or, hset w hw, hrow _ _ hj hw, bI_1.mp c_38, Bool.true_and]
      refine V_iload_n d_X_twoSteps_8 rfl rfl ?_
      refine V_bipush (v := (nI 31)) d_X_twoSteps_9 (by decide) ?_
      refine V_icmp_ge_f (tgt := 75) d_X_twoSteps_11 (by decide) (nI_ge hn (by omega)) ?_
      refine V_iconst (v := (nI 0)) d_X_twoSteps_14 (by decide) ?_
      refine V_istore_n d_X_twoSteps_15 rfl (by decide) ?_
      refine V_iconst (v := (nI 0)) d_X_twoSteps_16 (by decide) ?_
      refine V_istore d_X_twoSteps_17 (by decide) ?_
      exact inner 0 (by omega) _ (fun w _ => by rw [b_n0]; rfl)
  refine V_iconst (v := (nI 0)) d_X_twoSteps_4 (by decide) ?_
  refine V_istore_n d_X_twoSteps_5 rfl (by decide) ?_
  refine V_iconst (v := (nI 0)) d_X_twoSteps_6 (by decide) ?_
  refine V_istore_n d_X_twoSteps_7 rfl (by decide) ?_
  exact loop 0 (by omega) _ _
theorem cnt_mono (f : Nat → Bool) {a : Nat} : ∀ b, a ≤ b → cnt f a ≤ cnt f b
  | 0, h => by rw [Nat.le_zero.mp h]; exact Nat.le_refl _
  | b + 1, h => by
    by_cases e : a = b + 1
    · rw [e]; exact Nat.le_refl _
    · have := cnt_mono f (a := a) b (by omega)
      rw [cnt]; omega
set_option maxHeartbeats 4000000 in
theorem c_X_image (u : XS) (G : Nat → Nat → Bool) (hq : XQ u G) (a1 a2 a3 : Int32) : C_X_image [.int a1, .int a2, .int a3] u (fun r u2 => Sm u u2 ∧ XQ u2 G ∧ (¬ isW a1 a2 → r = -1) ∧ (isW a1 a2 → imR (G (wn a1 a2)) a3 r)) := by
  generalize hpost : (fun (r : Int32) (u2 : XS) => Sm u u2 ∧ XQ u2 G ∧ (¬ isW a1 a2 → r = -1) ∧ (isW a1 a2 → imR (G (wn a1 a2)) a3 r)) = post
  refine e_X_image ?_
  intro p l e s m args below meth c D q k A0
  refine V_aload_n d_X_image_0 rfl rfl ?_
  refine V_iload_n d_X_image_1 rfl rfl ?_
  refine V_iload_n d_X_image_2 rfl rfl ?_
  refine v_X_bad (c_X_bad u a1 a2) ⟨Nat.le_of_ble_eq_true rfl, Nat.le_of_ble_eq_true rfl⟩ (Nat.le_of_ble_eq_true rfl) d_X_image_3 ?_
  rintro r _ ⟨rfl, ⟨rfl, hn⟩ | ⟨rfl, L, B, hL, hB, rfl, rfl⟩⟩
  ·
    refine V_if_eq_f (tgt := 11) d_X_image_6 (by decide) (by decide) ?_
    refine V_iconst (v := (-1)) d_X_image_9 (by decide) ?_
    exact V_iret d_X_image_10 rfl (by rw [← hpost]; exact ⟨Sm.rf, hq, fun _ => rfl, fun h => absurd h hn⟩)
  ·
    refine V_if_eq_t (tgt := 11) d_X_image_6 (by decide) (by decide) ?_
    refine V_aload_n d_X_image_11 rfl rfl ?_
    refine v_X_prepare (c_X_prepare _ G hq) ⟨Nat.le_of_ble_eq_true rfl, Nat.le_of_ble_eq_true rfl⟩ (Nat.le_of_ble_eq_true rfl) d_X_image_12 ?_
    rintro u2 ⟨hs, hq2, hrow⟩
    have hlen : LenOk u2.2 := by
      obtain ⟨⟨D1, ⟨l1, -⟩, -⟩, -⟩ := hq2
      exact l1
    have w1 := wn_lt hL hB
    refine V_aload_n d_X_image_15 rfl rfl ?_
    refine V_iload_n d_X_image_16 rfl rfl ?_
    refine V_iload_n d_X_image_17 rfl rfl ?_
    refine v_X_wordOf (c_X_wordOf u2 hL) ⟨Nat.le_of_ble_eq_true rfl, Nat.le_of_ble_eq_true rfl⟩ (Nat.le_of_ble_eq_true rfl) d_X_image_18 ?_
    rintro r u2 ⟨rfl, rfl⟩
    generalize hg : G (2 ^ L - 1 + B) = g at hrow
    have hfin : ∀ r : Int32, imR g a3 r → post r u2 := by
      intro r hr
      rw [← hpost]
      exact ⟨hs, hq2, fun h => absurd (isW_mk hL hB) h, fun _ => by rw [wn_eq hL hB, hg]; exact hr⟩
    have hrw : ∀ v, v < 31 → bt (u2.2 10 (2 ^ L - 1 + B)) v = g v := fun v hv => by rw [hrow _ _ w1 hv, hg]
    by_cases h3 : a3 < 0
    ·
      refine V_istore d_X_image_21 (by decide) ?_
      refine V_iload_n d_X_image_23 rfl rfl ?_
      refine V_istore d_X_image_24 (by decide) ?_
      refine V_iconst (v := (nI 0)) d_X_image_26 (by decide) ?_
      refine V_istore d_X_image_27 (by decide) ?_
      refine V_iload d_X_image_29 rfl ?_
      refine V_bipush (v := (nI 31)) d_X_image_31 (by decide) ?_
      refine V_icmp_ge_f (tgt := 97) d_X_image_33 (by decide) (by decide) ?_
      refine V_iload d_X_image_36 rfl ?_
      refine V_if_lt_t (tgt := 97) d_X_image_38 (by decide) (h3) ?_
      refine V_bipush (v := (-4)) d_X_image_97 (by decide) ?_
      exact V_iret d_X_image_99 rfl (hfin _ (Or.inr ⟨fun v hv _ e => by rw [e] at h3; exact nI_pos (Nat.lt_of_le_of_lt (cnt_le g v) (by omega)) h3, rfl⟩))
    · obtain ⟨K, hK, rfl⟩ := nI_of h3
      have loop : ∀ v, v ≤ 31 → cnt g v ≤ K → (∀ v', v' < v → g v' = true → ¬ nI K = nI (cnt g v')) → (V p l e rm_X_image s m args below meth c R_X wX b_X_image 7 (some .int) D (xty k) A0 (xw q k) 0 0 (MQ below (va_Qi post (vB D (xty k) (xw q k) A0) A0) args s 0 0 A0) (29) ([some (.ref (q 0)), some (.int (nI L)), some (.int (nI B)), some (.int (nI K)), some (.int (nI (2 ^ L - 1 + B))), some (.int (nI (K - cnt g v))), some (.int (nI v))]) ([]) (u2)) := by
        refine dn 31 ?_ ?_
        · intro hc hv
          refine V_iload d_X_image_29 rfl ?_
          refine V_bipush (v := (nI 31)) d_X_image_31 (by decide) ?_
          refine V_icmp_ge_t (tgt := 97) d_X_image_33 (by decide) (nI_le (by omega) (by omega)) ?_
          refine V_bipush (v := (-4)) d_X_image_97 (by decide) ?_
          exact V_iret d_X_image_99 rfl (hfin _ (Or.inr ⟨hv, rfl⟩))
        · intro v hv31 ih hc hv
          have hcl := cnt_le g v
          have h4 := lenN_le v
          have hpw := pw_lt h4
          refine V_iload d_X_image_29 rfl ?_
          refine V_bipush (v := (nI 31)) d_X_image_31 (by decide) ?_
          refine V_icmp_ge_f (tgt := 97) d_X_image_33 (by decide) (nI_ge hv31 (by omega)) ?_
          refine V_iload d_X_image_36 rfl ?_
          refine V_if_lt_f (tgt := 97) d_X_image_38 (by decide) (nI_pos (by omega)) ?_
          refine V_aload_n d_X_image_41 rfl rfl ?_
          refine xg_row d_X_image_42 ?_
          refine V_iload d_X_image_45 rfl ?_
          refine xl_row (rfl) (by omega) d_X_image_47 ?_
          refine V_iload d_X_image_48 rfl ?_
          refine V_ishr d_X_image_50 (rfl) ?_
          refine V_iconst (v := (nI 1)) d_X_image_51 (by decide) ?_
          refine V_iand d_X_image_52 (bit1 _ (by omega)) ?_
          refine V_iconst (v := (nI 1)) d_X_image_53 (by decide) ?_
          rw [hrw v hv31]
          refine V_icmp_ne (tgt := 91) d_X_image_54 (by decide) (fun c_54 => ?_) (fun c_54 => ?_)
          · have hgv : g v = false := by
              cases hx : g v
              · rfl
              · exact absurd (bI_1.mpr hx) c_54
            have he : cnt g (v + 1) = cnt g v := by rw [cnt, hgv]; rfl
            refine V_iinc d_X_image_91 rfl (nI_1 _) (by decide) ?_
            refine V_goto (tgt := 29) d_X_image_94 (by decide) ?_
            rw [← he]
            refine ih (by omega) (fun v' h1 h2 => ?_)
            by_cases e : v' = v
            · subst e; rw [hgv] at h2; cases h2
            · exact hv v' (by omega) h2
          · have hgv : g v = true := bI_1.mp c_54
            have he : cnt g (v + 1) = cnt g v + 1 := by rw [cnt, hgv]; rfl
            by_cases hKc : K = cnt g v
            · have hpos : 2 ^ lenN v ≤ 16 * lenN v + v + 1 := by
                exact (by decide +kernel : ∀ v, v < 31 → 2 ^ lenN v ≤ 16 * lenN v + v + 1) v hv31
              refine V_iload d_X_image_57 rfl ?_
              refine V_if_ne_f (tgt := 88) d_X_image_59 (by decide) (by rw [hKc, Nat.sub_self]; rfl) ?_
              refine V_bipush (v := (nI 16)) d_X_image_62 (by decide) ?_
              refine V_aload_n d_X_image_64 rfl rfl ?_
              refine xg_lengthOf d_X_image_65 ?_
              refine V_iload d_X_image_68 rfl ?_
              refine xl_lengthOf (rfl) (by omega) d_X_image_70 ?_
              refine V_at rfl rfl (show _ = [.int (nI (lenN v)), .int (nI 16)] by rw [hlen v hv31]) rfl ?_
              refine V_imul d_X_image_71 (pk_mul _ _) ?_
              refine V_iload d_X_image_72 rfl ?_
              refine V_iadd d_X_image_74 (nI_add _ _) ?_
              refine V_iconst (v := (nI 1)) d_X_image_75 (by decide) ?_
              refine V_iadd d_X_image_76 (nI_add _ _) ?_
              refine V_iconst (v := (nI 1)) d_X_image_77 (by decide) ?_
              refine V_aload_n d_X_image_78 rfl rfl ?_
              refine xg_lengthOf d_X_image_79 ?_
              refine V_iload d_X_image_82 rfl ?_
              refine xl_lengthOf (rfl) (by omega) d_X_image_84 ?_
              refine V_at rfl rfl (show _ = [.int (nI (lenN v)), .int (nI 1), .int (nI (16 * lenN v + v + 1))] by rw [hlen v hv31]) rfl ?_
              refine V_ishl d_X_image_85 (nI_shl1 (by omega)) ?_
              refine V_isub d_X_image_86 (pk_sub hpos) ?_
              exact V_iret d_X_image_87 rfl (hfin _ (Or.inl ⟨v, hv31, hgv, by rw [hKc], rfl⟩))
            ·
              refine V_iload d_X_image_57 rfl ?_
              refine V_if_ne_t (tgt := 88) d_X_image_59 (by decide) (nI_ne0 (by omega) (by omega)) ?_
              refine V_iinc d_X_image_88 rfl (show nI (K - cnt g v) + Int32.ofInt (-1) = nI (K - cnt g (v + 1)) from ?_) (by decide) ?_
              · rw [show K - cnt g v = (K - cnt g (v + 1)) + 1 by omega]
                exact pk_m1 _
              refine V_iinc d_X_image_91 rfl (nI_1 _) (by decide) ?_
              refine V_goto (tgt := 29) d_X_image_94 (by decide) ?_
              refine ih (by omega) (fun v' h1 h2 => ?_)
              by_cases e : v' = v
              · subst e
                rw [nI_eq hK (by omega)]
                exact hKc
              · exact hv v' (by omega) h2
      refine V_istore d_X_image_21 (by decide) ?_
      refine V_iload_n d_X_image_23 rfl rfl ?_
      refine V_istore d_X_image_24 (by decide) ?_
      refine V_iconst (v := (nI 0)) d_X_image_26 (by decide) ?_
      refine V_istore d_X_image_27 (by decide) ?_
      exact loop 0 (by omega) (by rw [cnt]; omega) (by omega)
end
section
/-! PairExpressions: making expressions -/
def st4 (S : Nat → Int32) (a b c d : Int32) : Nat → Int32 := fun j => match j with
  | 0 => a
  | 1 => b
  | 2 => c
  | 3 => d
  | j => S j
def ar7 (A : Nat → Nat → Int32) (a1 a2 a3 a4 a5 a6 a7 : Nat → Int32) : Nat → Nat → Int32 := fun j => match j with
  | 1 => a1
  | 2 => a2
  | 3 => a3
  | 4 => a4
  | 5 => a5
  | 6 => a6
  | 7 => a7
  | j => A j
theorem st4_ge {S : Nat → Int32} {a b c d : Int32} {j : Nat} (h : 4 ≤ j) : st4 S a b c d j = S j := by
  obtain ⟨n, rfl⟩ := Nat.exists_eq_add_of_le' h
  rfl
theorem ar7_ge {A : Nat → Nat → Int32} {a1 a2 a3 a4 a5 a6 a7 : Nat → Int32} {j : Nat} (h : 8 ≤ j) : ar7 A a1 a2 a3 a4 a5 a6 a7 j = A j := by
  obtain ⟨n, rfl⟩ := Nat.exists_eq_add_of_le' h
  rfl
theorem ext4 {f g : Nat → Int32} (h0 : f 0 = g 0) (h1 : f 1 = g 1) (h2 : f 2 = g 2) (h3 : f 3 = g 3) (hr : ∀ j, 4 ≤ j → f j = g j) : f = g := by
  funext j
  match j with
  | 0 => exact h0
  | 1 => exact h1
  | 2 => exact h2
  | 3 => exact h3
  | n + 4 => exact hr (n + 4) (by omega)
theorem ext8 {f g : Nat → Nat → Int32} (h0 : f 0 = g 0) (h1 : f 1 = g 1) (h2 : f 2 = g 2) (h3 : f 3 = g 3) (h4 : f 4 = g 4) (h5 : f 5 = g 5) (h6 : f 6 = g 6) (h7 : f 7 = g 7) (hr : ∀ j, 8 ≤ j → f j = g j) : f = g := by
  funext j
  match j with
  | 0 => exact h0
  | 1 => exact h1
  | 2 => exact h2
  | 3 => exact h3
  | 4 => exact h4
  | 5 => exact h5
  | 6 => exact h6
  | 7 => exact h7
  | n + 8 => exact hr (n + 8) (by omega)
theorem updA_ne (A : Nat → Nat → Int32) {a n j : Nat} {x : Int32} (h : j ≠ a) : updA A a n x j = A j := if_neg h
def in3 (a : Int32) : Prop := ∃ x, x ≤ 2 ∧ a = nI x
theorem in3_1 {a : Int32} (h : in3 a) : ¬ a < 0 ∧ ¬ nI 2 < a ∧ a ≤ nI 2 := by
  obtain ⟨x, hx, rfl⟩ := h
  exact ⟨nI_pos (by omega), nI_nlt hx (by omega), nI_le hx (by omega)⟩
theorem in3_2 {a : Int32} (h : ¬ a < 0) (h2 : a ≤ nI 2) : in3 a := by
  obtain ⟨x, hx, rfl⟩ := nI_of2 (M := nI 2) (n := 2) rfl h h2
  exact ⟨x, hx, rfl⟩
def pairU (S : Nat → Int32) (A : Nat → Nat → Int32) (h md ca np x y : Nat) : XS := if x = 2 ∧ y = 2 then
    (st4 S (nI (h + 1)) (nI (md + 1)) (nI (ca + 1)) (nI np), ar7 A (upd (A 1) h (nI np)) (upd (A 2) h (nI 0)) (upd (A 3) h (nI 0)) (upd (A 4) h (nI 1)) (A 5) (A 6) (A 7))
  else
    (st4 S (nI (h + 1)) (nI (md + 1)) (nI (ca + 1)) (nI (np + 1)), ar7 A (upd (A 1) h (nI np)) (upd (A 2) h (nI 1 <<< (nI np &&& 31))) (upd (A 3) h (nI 1 <<< (nI np &&& 31))) (upd (A 4) h (nI 0)) (upd (A 5) np (nI x)) (upd (A 6) np (nI y)) (upd (A 7) np (nI 0)))
set_option maxHeartbeats 4000000 in
theorem c_X_pair (S : Nat → Int32) (A : Nat → Nat → Int32) {h md ca np : Nat} (hh : h ≤ 6) (hmd : md ≤ 18) (hca : ca ≤ 9) (hnp : np ≤ ca) (a1 a2 : Int32) : C_X_pair [.int a1, .int a2] (st4 S (nI h) (nI md) (nI ca) (nI np), A) (fun r u2 => (¬ (in3 a1 ∧ in3 a2) → r = -1 ∧ u2 = (st4 S (nI h) (nI md) (nI ca) (nI np), A)) ∧ ∀ x y, x ≤ 2 → y ≤ 2 → a1 = nI x → a2 = nI y → ((md = 18 ∨ h = 6 ∨ ca = 9) → r = -2 ∧ u2 = (st4 S (nI h) (nI md) (nI ca) (nI np), A)) ∧ (¬ (md = 18 ∨ h = 6 ∨ ca = 9) → r = nI (h + 1) ∧ u2 = pairU S A h md ca np x y)) := by
  by_cases h1 : in3 a1
  · by_cases h2 : in3 a2
    · obtain ⟨x, hx, rfl⟩ := h1
      obtain ⟨y, hy, rfl⟩ := h2
      have e1 := in3_1 ⟨x, hx, rfl⟩
      have e2 := in3_1 ⟨y, hy, rfl⟩
      generalize hpost : (fun (r : Int32) (u2 : XS) => (¬ (in3 (nI x) ∧ in3 (nI y)) → r = -1 ∧ u2 = (st4 S (nI h) (nI md) (nI ca) (nI np), A)) ∧ ∀ x' y', x' ≤ 2 → y' ≤ 2 → nI x = nI x' → nI y = nI y' → ((md = 18 ∨ h = 6 ∨ ca = 9) → r = -2 ∧ u2 = (st4 S (nI h) (nI md) (nI ca) (nI np), A)) ∧ (¬ (md = 18 ∨ h = 6 ∨ ca = 9) → r = nI (h + 1) ∧ u2 = pairU S A h md ca np x' y')) = post
      have hok : ∀ (r : Int32) (u2 : XS), ((md = 18 ∨ h = 6 ∨ ca = 9) → r = -2 ∧ u2 = (st4 S (nI h) (nI md) (nI ca) (nI np), A)) → (¬ (md = 18 ∨ h = 6 ∨ ca = 9) → r = nI (h + 1) ∧ u2 = pairU S A h md ca np x y) → post r u2 := by
        intro r u2 g1 g2
        rw [← hpost]
        refine ⟨fun z => absurd ⟨⟨x, hx, rfl⟩, ⟨y, hy, rfl⟩⟩ z, fun x' y' hx' hy' q1 q2 => ?_⟩
        rw [← (nI_eq (by omega) (by omega)).mp q1, ← (nI_eq (by omega) (by omega)).mp q2]
        exact ⟨g1, g2⟩
      refine e_X_pair ?_
      intro p l e s m args below meth c D q k A0
      refine V_iload_n d_X_pair_0 rfl rfl ?_
      refine V_if_lt_f (tgt := 18) d_X_pair_1 (by decide) (e1.1) ?_
      refine V_iload_n d_X_pair_4 rfl rfl ?_
      refine V_iconst (v := (nI 2)) d_X_pair_5 (by decide) ?_
      refine V_icmp_gt_f (tgt := 18) d_X_pair_6 (by decide) (e1.2.1) ?_
      refine V_iload_n d_X_pair_9 rfl rfl ?_
      refine V_if_lt_f (tgt := 18) d_X_pair_10 (by decide) (e2.1) ?_
      refine V_iload_n d_X_pair_13 rfl rfl ?_
      refine V_iconst (v := (nI 2)) d_X_pair_14 (by decide) ?_
      refine V_icmp_le_t (tgt := 20) d_X_pair_15 (by decide) (e2.2.2) ?_
      refine V_aload_n d_X_pair_20 rfl rfl ?_
      refine xg_made d_X_pair_21 ?_
      refine V_bipush (v := (nI 18)) d_X_pair_24 (by decide) ?_
      by_cases k1 : md = 18
      ·
        refine V_icmp_eq_t (tgt := 47) d_X_pair_26 (by decide) (by rw [k1]; rfl) ?_
        refine V_bipush (v := (-2)) d_X_pair_47 (by decide) ?_
        exact V_iret d_X_pair_49 rfl (hok _ _ (fun _ => ⟨rfl, rfl⟩) (fun z => absurd (Or.inl k1) z))
      ·
        refine V_icmp_eq_f (tgt := 47) d_X_pair_26 (by decide) (fun z => k1 ((nI_eq (by omega) (by omega)).mp z)) ?_
        refine V_aload_n d_X_pair_29 rfl rfl ?_
        refine xg_height d_X_pair_30 ?_
        refine V_bipush (v := (nI 6)) d_X_pair_33 (by decide) ?_
        by_cases k2 : h = 6
        ·
          refine V_icmp_eq_t (tgt := 47) d_X_pair_35 (by decide) (by rw [k2]; rfl) ?_
          refine V_bipush (v := (-2)) d_X_pair_47 (by decide) ?_
          exact V_iret d_X_pair_49 rfl (hok _ _ (fun _ => ⟨rfl, rfl⟩) (fun z => absurd (Or.inr (Or.inl k2)) z))
        ·
          refine V_icmp_eq_f (tgt := 47) d_X_pair_35 (by decide) (fun z => k2 ((nI_eq (by omega) (by omega)).mp z)) ?_
          refine V_aload_n d_X_pair_38 rfl rfl ?_
          refine xg_calls d_X_pair_39 ?_
          refine V_bipush (v := (nI 9)) d_X_pair_42 (by decide) ?_
          by_cases k3 : ca = 9
          ·
            refine V_icmp_ne_f (tgt := 50) d_X_pair_44 (by decide) (by rw [k3]; rfl) ?_
            refine V_bipush (v := (-2)) d_X_pair_47 (by decide) ?_
            exact V_iret d_X_pair_49 rfl (hok _ _ (fun _ => ⟨rfl, rfl⟩) (fun z => absurd (Or.inr (Or.inr k3)) z))
          ·
            refine V_icmp_ne_t (tgt := 50) d_X_pair_44 (by decide) (fun z => k3 ((nI_eq (by omega) (by omega)).mp z)) ?_
            refine V_aload_n d_X_pair_50 rfl rfl ?_
            refine xg_low d_X_pair_51 ?_
            refine V_aload_n d_X_pair_54 rfl rfl ?_
            refine xg_height d_X_pair_55 ?_
            refine V_aload_n d_X_pair_58 rfl rfl ?_
            refine xg_places d_X_pair_59 ?_
            refine xs_low (rfl) (by omega) d_X_pair_62 ?_
            refine V_iload_n d_X_pair_63 rfl rfl ?_
            refine V_iconst (v := (nI 2)) d_X_pair_64 (by decide) ?_
            have hfull : ¬ (md = 18 ∨ h = 6 ∨ ca = 9) := by omega
            have J : x = 2 ∧ y = 2 ∨ ¬ (x = 2 ∧ y = 2) := Classical.em _
            have J77 : ¬ (x = 2 ∧ y = 2) → (V p l e rm_X_pair s m args below meth c R_X wX b_X_pair 5 (some .int) D (xty k) A0 (xw q k) 0 0 (MQ below (va_Qi post (vB D (xty k) (xw q k) A0) A0) args s 0 0 A0) (77) ([some (.ref (q 0)), some (.int (nI x)), some (.int (nI y)), none, none]) ([]) ((st4 S (nI h) (nI md) (nI ca) (nI np), updA A 1 h (nI np)))) := by
              intro hne
              refine V_iconst (v := (nI 0)) d_X_pair_77 (by decide) ?_
              refine V_istore_n d_X_pair_78 rfl (by decide) ?_
              refine V_iload_n d_X_pair_79 rfl rfl ?_
              refine V_if_eq_t (tgt := 87) d_X_pair_80 (by decide) (rfl) ?_
              refine V_iconst (v := (nI 1)) d_X_pair_87 (by decide) ?_
              refine V_aload_n d_X_pair_88 rfl rfl ?_
              refine xg_places d_X_pair_89 ?_
              refine V_ishl d_X_pair_92 (rfl) ?_
              refine V_istore d_X_pair_93 (by decide) ?_
              refine V_aload_n d_X_pair_95 rfl rfl ?_
              refine xg_first d_X_pair_96 ?_
              refine V_aload_n d_X_pair_99 rfl rfl ?_
              refine xg_height d_X_pair_100 ?_
              refine V_iload d_X_pair_103 rfl ?_
              refine xs_first (rfl) (by omega) d_X_pair_105 ?_
              refine V_aload_n d_X_pair_106 rfl rfl ?_
              refine xg_last d_X_pair_107 ?_
              refine V_aload_n d_X_pair_110 rfl rfl ?_
              refine xg_height d_X_pair_111 ?_
              refine V_iload d_X_pair_114 rfl ?_
              refine xs_last (rfl) (by omega) d_X_pair_116 ?_
              refine V_aload_n d_X_pair_117 rfl rfl ?_
              refine xg_empty d_X_pair_118 ?_
              refine V_aload_n d_X_pair_121 rfl rfl ?_
              refine xg_height d_X_pair_122 ?_
              refine V_iload_n d_X_pair_125 rfl rfl ?_
              refine xs_empty (rfl) (by omega) d_X_pair_126 ?_
              refine V_iload_n d_X_pair_127 rfl rfl ?_
              refine V_if_ne_f (tgt := 171) d_X_pair_128 (by decide) (rfl) ?_
              refine V_aload_n d_X_pair_131 rfl rfl ?_
              refine xg_leftOf d_X_pair_132 ?_
              refine V_aload_n d_X_pair_135 rfl rfl ?_
              refine xg_places d_X_pair_136 ?_
              refine V_iload_n d_X_pair_139 rfl rfl ?_
              refine xs_leftOf (rfl) (by omega) d_X_pair_140 ?_
              refine V_aload_n d_X_pair_141 rfl rfl ?_
              refine xg_rightOf d_X_pair_142 ?_
              refine V_aload_n d_X_pair_145 rfl rfl ?_
              refine xg_places d_X_pair_146 ?_
              refine V_iload_n d_X_pair_149 rfl rfl ?_
              refine xs_rightOf (rfl) (by omega) d_X_pair_150 ?_
              refine V_aload_n d_X_pair_151 rfl rfl ?_
              refine xg_follow d_X_pair_152 ?_
              refine V_aload_n d_X_pair_155 rfl rfl ?_
              refine xg_places d_X_pair_156 ?_
              refine V_iconst (v := (nI 0)) d_X_pair_159 (by decide) ?_
              refine xs_follow (rfl) (by omega) d_X_pair_160 ?_
              refine V_aload_n d_X_pair_161 rfl rfl ?_
              refine V_dup d_X_pair_162 rfl ?_
              refine xg_places d_X_pair_163 ?_
              refine V_iconst (v := (nI 1)) d_X_pair_166 (by decide) ?_
              refine V_iadd d_X_pair_167 (nI_1 np) ?_
              refine xp_places d_X_pair_168 ?_
              refine V_aload_n d_X_pair_171 rfl rfl ?_
              refine V_dup d_X_pair_172 rfl ?_
              refine xg_height d_X_pair_173 ?_
              refine V_iconst (v := (nI 1)) d_X_pair_176 (by decide) ?_
              refine V_iadd d_X_pair_177 (nI_1 h) ?_
              refine xp_height d_X_pair_178 ?_
              refine V_aload_n d_X_pair_181 rfl rfl ?_
              refine V_dup d_X_pair_182 rfl ?_
              refine xg_made d_X_pair_183 ?_
              refine V_iconst (v := (nI 1)) d_X_pair_186 (by decide) ?_
              refine V_iadd d_X_pair_187 (nI_1 md) ?_
              refine xp_made d_X_pair_188 ?_
              refine V_aload_n d_X_pair_191 rfl rfl ?_
              refine V_dup d_X_pair_192 rfl ?_
              refine xg_calls d_X_pair_193 ?_
              refine V_iconst (v := (nI 1)) d_X_pair_196 (by decide) ?_
              refine V_iadd d_X_pair_197 (nI_1 ca) ?_
              refine xp_calls d_X_pair_198 ?_
              refine V_aload_n d_X_pair_201 rfl rfl ?_
              refine xg_height d_X_pair_202 ?_
              refine V_iret d_X_pair_205 rfl (hok _ _ (fun z => absurd z hfull) (fun _ => ⟨rfl, ?_⟩))
              rw [pairU, if_neg hne]
              refine Prod.ext ?_ ?_
              · exact ext4 rfl rfl rfl rfl (fun j hj => by dsimp only; simp (disch := omega) only [pk_un, st4_ge])
              · exact ext8 rfl rfl rfl rfl rfl rfl rfl rfl (fun j hj => by dsimp only; simp (disch := omega) only [updA_ne, setA_ne, ar7_ge])
            rcases J with ⟨jx, jy⟩ | hne
            ·
              refine V_icmp_ne_f (tgt := 77) d_X_pair_65 (by decide) (by rw [jx]) ?_
              refine V_iload_n d_X_pair_68 rfl rfl ?_
              refine V_iconst (v := (nI 2)) d_X_pair_69 (by decide) ?_
              refine V_icmp_ne_f (tgt := 77) d_X_pair_70 (by decide) (by rw [jy]) ?_
              refine V_iconst (v := (nI 1)) d_X_pair_73 (by decide) ?_
              refine V_goto (tgt := 78) d_X_pair_74 (by decide) ?_
              refine V_istore_n d_X_pair_78 rfl (by decide) ?_
              refine V_iload_n d_X_pair_79 rfl rfl ?_
              refine V_if_eq_f (tgt := 87) d_X_pair_80 (by decide) (by decide) ?_
              refine V_iconst (v := (nI 0)) d_X_pair_83 (by decide) ?_
              refine V_goto (tgt := 93) d_X_pair_84 (by decide) ?_
              refine V_istore d_X_pair_93 (by decide) ?_
              refine V_aload_n d_X_pair_95 rfl rfl ?_
              refine xg_first d_X_pair_96 ?_
              refine V_aload_n d_X_pair_99 rfl rfl ?_
              refine xg_height d_X_pair_100 ?_
              refine V_iload d_X_pair_103 rfl ?_
              refine xs_first (rfl) (by omega) d_X_pair_105 ?_
              refine V_aload_n d_X_pair_106 rfl rfl ?_
              refine xg_last d_X_pair_107 ?_
              refine V_aload_n d_X_pair_110 rfl rfl ?_
              refine xg_height d_X_pair_111 ?_
              refine V_iload d_X_pair_114 rfl ?_
              refine xs_last (rfl) (by omega) d_X_pair_116 ?_
              refine V_aload_n d_X_pair_117 rfl rfl ?_
              refine xg_empty d_X_pair_118 ?_
              refine V_aload_n d_X_pair_121 rfl rfl ?_
              refine xg_height d_X_pair_122 ?_
              refine V_iload_n d_X_pair_125 rfl rfl ?_
              refine xs_empty (rfl) (by omega) d_X_pair_126 ?_
              refine V_iload_n d_X_pair_127 rfl rfl ?_
              refine V_if_ne_t (tgt := 171) d_X_pair_128 (by decide) (by decide) ?_
              refine V_aload_n d_X_pair_171 rfl rfl ?_
              refine V_dup d_X_pair_172 rfl ?_
              refine xg_height d_X_pair_173 ?_
              refine V_iconst (v := (nI 1)) d_X_pair_176 (by decide) ?_
              refine V_iadd d_X_pair_177 (nI_1 h) ?_
              refine xp_height d_X_pair_178 ?_
              refine V_aload_n d_X_pair_181 rfl rfl ?_
              refine V_dup d_X_pair_182 rfl ?_
              refine xg_made d_X_pair_183 ?_
              refine V_iconst (v := (nI 1)) d_X_pair_186 (by decide) ?_
              refine V_iadd d_X_pair_187 (nI_1 md) ?_
              refine xp_made d_X_pair_188 ?_
              refine V_aload_n d_X_pair_191 rfl rfl ?_
              refine V_dup d_X_pair_192 rfl ?_
              refine xg_calls d_X_pair_193 ?_
              refine V_iconst (v := (nI 1)) d_X_pair_196 (by decide) ?_
              refine V_iadd d_X_pair_197 (nI_1 ca) ?_
              refine xp_calls d_X_pair_198 ?_
              refine V_aload_n d_X_pair_201 rfl rfl ?_
              refine xg_height d_X_pair_202 ?_
              refine V_iret d_X_pair_205 rfl (hok _ _ (fun z => absurd z hfull) (fun _ => ⟨rfl, ?_⟩))
              rw [pairU, if_pos ⟨jx, jy⟩]
              refine Prod.ext ?_ ?_
              · exact ext4 rfl rfl rfl rfl (fun j hj => by dsimp only; simp (disch := omega) only [pk_un, st4_ge])
              · exact ext8 rfl rfl rfl rfl rfl rfl rfl rfl (fun j hj => by dsimp only; simp (disch := omega) only [updA_ne, setA_ne, ar7_ge])
            · by_cases jx : x = 2
              ·
                refine V_icmp_ne_f (tgt := 77) d_X_pair_65 (by decide) (by rw [jx]) ?_
                refine V_iload_n d_X_pair_68 rfl rfl ?_
                refine V_iconst (v := (nI 2)) d_X_pair_69 (by decide) ?_
                refine V_icmp_ne_t (tgt := 77) d_X_pair_70 (by decide) (fun z => hne ⟨jx, (nI_eq (by omega) (by omega)).mp z⟩) ?_
                exact J77 hne
              ·
                refine V_icmp_ne_t (tgt := 77) d_X_pair_65 (by decide) (fun z => jx ((nI_eq (by omega) (by omega)).mp z)) ?_
                exact J77 hne
    · have hno : ∀ (x y : Nat), x ≤ 2 → y ≤ 2 → a1 = nI x → a2 = nI y → False := fun x y _ hy _ e => h2 ⟨y, hy, e⟩
      refine e_X_pair ?_
      intro p l e s m args below meth c D q k A0
      refine V_iload_n d_X_pair_0 rfl rfl ?_
      refine V_if_lt_f (tgt := 18) d_X_pair_1 (by decide) ((in3_1 h1).1) ?_
      refine V_iload_n d_X_pair_4 rfl rfl ?_
      refine V_iconst (v := (nI 2)) d_X_pair_5 (by decide) ?_
      refine V_icmp_gt_f (tgt := 18) d_X_pair_6 (by decide) ((in3_1 h1).2.1) ?_
      refine V_iload_n d_X_pair_9 rfl rfl ?_
      refine V_if_lt (tgt := 18) d_X_pair_10 (by decide) (fun c_10 => ?_) (fun c_10 => ?_)
      ·
        refine V_iconst (v := (-1)) d_X_pair_18 (by decide) ?_
        exact V_iret d_X_pair_19 rfl (⟨fun _ => ⟨rfl, rfl⟩, fun x y q1 q2 q3 q4 => absurd (hno x y q1 q2 q3 q4) id⟩)
      ·
        refine V_iload_n d_X_pair_13 rfl rfl ?_
        refine V_iconst (v := (nI 2)) d_X_pair_14 (by decide) ?_
        refine V_icmp_le (tgt := 20) d_X_pair_15 (by decide) (fun c_15 => ?_) (fun c_15 => ?_)
        · exact absurd (in3_2 c_10 c_15) h2
        ·
          refine V_iconst (v := (-1)) d_X_pair_18 (by decide) ?_
          exact V_iret d_X_pair_19 rfl (⟨fun _ => ⟨rfl, rfl⟩, fun x y q1 q2 q3 q4 => absurd (hno x y q1 q2 q3 q4) id⟩)
  · have hno : ∀ (x y : Nat), x ≤ 2 → y ≤ 2 → a1 = nI x → a2 = nI y → False := fun x y hx _ e _ => h1 ⟨x, hx, e⟩
    refine e_X_pair ?_
    intro p l e s m args below meth c D q k A0
    refine V_iload_n d_X_pair_0 rfl rfl ?_
    refine V_if_lt (tgt := 18) d_X_pair_1 (by decide) (fun c_1 => ?_) (fun c_1 => ?_)
    ·
      refine V_iconst (v := (-1)) d_X_pair_18 (by decide) ?_
      exact V_iret d_X_pair_19 rfl (⟨fun _ => ⟨rfl, rfl⟩, fun x y q1 q2 q3 q4 => absurd (hno x y q1 q2 q3 q4) id⟩)
    ·
      refine V_iload_n d_X_pair_4 rfl rfl ?_
      refine V_iconst (v := (nI 2)) d_X_pair_5 (by decide) ?_
      refine V_icmp_gt (tgt := 18) d_X_pair_6 (by decide) (fun c_6 => ?_) (fun c_6 => ?_)
      ·
        refine V_iconst (v := (-1)) d_X_pair_18 (by decide) ?_
        exact V_iret d_X_pair_19 rfl (⟨fun _ => ⟨rfl, rfl⟩, fun x y q1 q2 q3 q4 => absurd (hno x y q1 q2 q3 q4) id⟩)
      · exact absurd (in3_2 c_1 (Int32.not_lt.mp c_6)) h1
set_option maxHeartbeats 4000000 in
theorem c_X_steps (u : XS) : C_X_steps [] u (fun r u2 => u2 = u ∧ r = u.1 1) := by
  refine e_X_steps ?_
  intro p l e s m args below meth c D q k A0
  refine V_aload_n d_X_steps_0 rfl rfl ?_
  refine xg_made d_X_steps_1 ?_
  exact V_iret d_X_steps_4 rfl (⟨rfl, rfl⟩)
set_option maxHeartbeats 4000000 in
theorem c_X_depth (u : XS) : C_X_depth [] u (fun r u2 => u2 = u ∧ r = u.1 0) := by
  refine e_X_depth ?_
  intro p l e s m args below meth c D q k A0
  refine V_aload_n d_X_depth_0 rfl rfl ?_
  refine xg_height d_X_depth_1 ?_
  exact V_iret d_X_depth_4 rfl (⟨rfl, rfl⟩)
set_option maxHeartbeats 4000000 in
theorem c_X_discard (u : XS) : C_X_discard [] u (fun u2 => u2 = (st4 u.1 (nI 0) (nI 0) (nI 0) (nI 0), u.2)) := by
  refine e_X_discard ?_
  intro p l e s m args below meth c D q k A0
  refine V_aload_n d_X_discard_0 rfl rfl ?_
  refine V_iconst (v := (nI 0)) d_X_discard_1 (by decide) ?_
  refine xp_height d_X_discard_2 ?_
  refine V_aload_n d_X_discard_5 rfl rfl ?_
  refine V_iconst (v := (nI 0)) d_X_discard_6 (by decide) ?_
  refine xp_made d_X_discard_7 ?_
  refine V_aload_n d_X_discard_10 rfl rfl ?_
  refine V_iconst (v := (nI 0)) d_X_discard_11 (by decide) ?_
  refine xp_calls d_X_discard_12 ?_
  refine V_aload_n d_X_discard_15 rfl rfl ?_
  refine V_iconst (v := (nI 0)) d_X_discard_16 (by decide) ?_
  refine xp_places d_X_discard_17 ?_
  refine V_vret d_X_discard_20 rfl ?_
  refine Prod.ext ?_ rfl
  exact ext4 rfl rfl rfl rfl (fun j hj => by dsimp only; simp (disch := omega) only [pk_un, st4_ge])
end
section
/-! PairExpressions: cat, alt, star, turn, define -/
theorem nz {x : Int32} (h : x = bI true) : ¬ x = 0 := by rw [h]; decide
theorem bz {x : Int32} {b : Bool} (h : x = bI b) : x = 0 ∨ x = 1 := by
  rw [h]
  cases b
  · exact Or.inl rfl
  · exact Or.inr rfl
theorem rf_c {h md t : Nat} (hh : h ≤ 6) (hmd : md ≤ 18) (ht : t ≤ 2) : (md = 18 ∧ (if nI md = nI 18 then (-2 : Int32) else if nI t ≤ nI h then nI 0 else -3) = -2) ∨ (¬ md = 18 ∧ h < t ∧ (if nI md = nI 18 then (-2 : Int32) else if nI t ≤ nI h then nI 0 else -3) = -3) ∨ (¬ md = 18 ∧ t ≤ h ∧ (if nI md = nI 18 then (-2 : Int32) else if nI t ≤ nI h then nI 0 else -3) = nI 0) := by
  by_cases h1 : md = 18
  · exact Or.inl ⟨h1, by rw [h1, if_pos rfl]⟩
  · have e1 : ¬ nI md = nI 18 := fun z => h1 ((nI_eq (by omega) (by omega)).mp z)
    rcases Nat.lt_or_ge h t with h2 | h2
    · exact Or.inr (Or.inl ⟨h1, h2, by rw [if_neg e1, if_neg (nI_ge h2 (by omega))]⟩)
    · exact Or.inr (Or.inr ⟨h1, h2, by rw [if_neg e1, if_pos (nI_le h2 (by omega))]⟩)
def catU (S : Nat → Int32) (A : Nat → Nat → Int32) (h md ca np : Nat) (ex ey : Bool) : XS :=
    (st4 S (nI (h - 1)) (nI (md + 1)) (nI ca) (nI np), ar7 A (A 1) (upd (A 2) (h - 2) (if ex then A 2 (h - 2) ||| A 2 (h - 1) else A 2 (h - 2))) (upd (A 3) (h - 2) (if ey then A 3 (h - 2) ||| A 3 (h - 1) else A 3 (h - 1))) (upd (A 4) (h - 2) (bI (ex && ey))) (A 5) (A 6) (lkF (A 7) (A 3 (h - 2)) (A 2 (h - 1)) 9))
set_option maxHeartbeats 8000000 in
theorem c_X_cat (S : Nat → Int32) (A : Nat → Nat → Int32) {h md ca np : Nat} (hh : h ≤ 6) (hmd : md ≤ 18) (ex ey : Bool) (hex : 2 ≤ h → A 4 (h - 2) = bI ex) (hey : 2 ≤ h → A 4 (h - 1) = bI ey) : C_X_cat [] (st4 S (nI h) (nI md) (nI ca) (nI np), A) (fun r u2 => (md = 18 → r = -2 ∧ u2 = (st4 S (nI h) (nI md) (nI ca) (nI np), A)) ∧ (¬ md = 18 → h < 2 → r = -3 ∧ u2 = (st4 S (nI h) (nI md) (nI ca) (nI np), A)) ∧ (¬ md = 18 → 2 ≤ h → r = nI (h - 1) ∧ u2 = catU S A h md ca np ex ey)) := by
  refine e_X_cat ?_
  intro p l e s m args below meth c D q k A0
  refine V_aload_n d_X_cat_0 rfl rfl ?_
  refine V_iconst (v := (nI 2)) d_X_cat_1 (by decide) ?_
  refine v_X_refused (c_X_refused _ _) ⟨Nat.le_of_ble_eq_true rfl, Nat.le_of_ble_eq_true rfl⟩ (Nat.le_of_ble_eq_true rfl) d_X_cat_2 ?_
  rintro r _ ⟨rfl, hr⟩
  rcases rf_c hh hmd (t := 2) (by omega) with ⟨k1, k2⟩ | ⟨k1, k2, k3⟩ | ⟨k1, k2, k3⟩
  · obtain rfl : r = -2 := hr.trans k2
    refine V_istore_n d_X_cat_5 rfl (by decide) ?_
    refine V_iload_n d_X_cat_6 rfl rfl ?_
    refine V_if_ge_f (tgt := 12) d_X_cat_7 (by decide) (by decide) ?_
    refine V_iload_n d_X_cat_10 rfl rfl ?_
    exact V_iret d_X_cat_11 rfl (⟨fun _ => ⟨rfl, rfl⟩, fun z => absurd k1 z, fun z => absurd k1 z⟩)
  · obtain rfl : r = -3 := hr.trans k3
    refine V_istore_n d_X_cat_5 rfl (by decide) ?_
    refine V_iload_n d_X_cat_6 rfl rfl ?_
    refine V_if_ge_f (tgt := 12) d_X_cat_7 (by decide) (by decide) ?_
    refine V_iload_n d_X_cat_10 rfl rfl ?_
    exact V_iret d_X_cat_11 rfl (⟨fun z => absurd z k1, fun _ _ => ⟨rfl, rfl⟩, fun _ z => by omega⟩)
  · obtain rfl : r = nI 0 := hr.trans k3
    have hx := hex k2
    have hy := hey k2
    refine V_istore_n d_X_cat_5 rfl (by decide) ?_
    refine V_iload_n d_X_cat_6 rfl rfl ?_
    refine V_if_ge_t (tgt := 12) d_X_cat_7 (by decide) (by decide) ?_
    refine V_aload_n d_X_cat_12 rfl rfl ?_
    refine xg_height d_X_cat_13 ?_
    refine V_iconst (v := (nI 1)) d_X_cat_16 (by decide) ?_
    refine V_isub d_X_cat_17 (pk_sub (by omega)) ?_
    refine V_istore_n d_X_cat_18 rfl (by decide) ?_
    refine V_aload_n d_X_cat_19 rfl rfl ?_
    refine xg_height d_X_cat_20 ?_
    refine V_iconst (v := (nI 2)) d_X_cat_23 (by decide) ?_
    refine V_isub d_X_cat_24 (pk_sub (by omega)) ?_
    refine V_istore_n d_X_cat_25 rfl (by decide) ?_
    refine V_aload_n d_X_cat_26 rfl rfl ?_
    refine V_aload_n d_X_cat_27 rfl rfl ?_
    refine xg_last d_X_cat_28 ?_
    refine V_iload_n d_X_cat_31 rfl rfl ?_
    refine xl_last (rfl) (by omega) d_X_cat_32 ?_
    refine V_aload_n d_X_cat_33 rfl rfl ?_
    refine xg_first d_X_cat_34 ?_
    refine V_iload_n d_X_cat_37 rfl rfl ?_
    refine xl_first (rfl) (by omega) d_X_cat_38 ?_
    refine v_X_link (c_X_link _ _ _) ⟨Nat.le_of_ble_eq_true rfl, Nat.le_of_ble_eq_true rfl⟩ (Nat.le_of_ble_eq_true rfl) d_X_cat_39 ?_
    rintro _ rfl
    cases ex
    · cases ey
      ·
        refine V_aload_n d_X_cat_42 rfl rfl ?_
        refine xg_first d_X_cat_43 ?_
        refine V_iload_n d_X_cat_46 rfl rfl ?_
        refine V_aload_n d_X_cat_47 rfl rfl ?_
        refine xg_empty d_X_cat_48 ?_
        refine V_iload_n d_X_cat_51 rfl rfl ?_
        refine xl_empty (rfl) (by omega) d_X_cat_52 ?_
        refine V_if_eq_t (tgt := 72) d_X_cat_53 (by decide) (hx) ?_
        refine V_aload_n d_X_cat_72 rfl rfl ?_
        refine xg_first d_X_cat_73 ?_
        refine V_iload_n d_X_cat_76 rfl rfl ?_
        refine xl_first (rfl) (by omega) d_X_cat_77 ?_
        refine xs_first (rfl) (by omega) d_X_cat_78 ?_
        refine V_aload_n d_X_cat_79 rfl rfl ?_
        refine xg_last d_X_cat_80 ?_
        refine V_iload_n d_X_cat_83 rfl rfl ?_
        refine V_aload_n d_X_cat_84 rfl rfl ?_
        refine xg_empty d_X_cat_85 ?_
        refine V_iload_n d_X_cat_88 rfl rfl ?_
        refine xl_empty (rfl) (by omega) d_X_cat_89 ?_
        refine V_if_eq_t (tgt := 109) d_X_cat_90 (by decide) (hy) ?_
        refine V_aload_n d_X_cat_109 rfl rfl ?_
        refine xg_last d_X_cat_110 ?_
        refine V_iload_n d_X_cat_113 rfl rfl ?_
        refine xl_last (rfl) (by omega) d_X_cat_114 ?_
        refine xs_last (rfl) (by omega) d_X_cat_115 ?_
        refine V_aload_n d_X_cat_116 rfl rfl ?_
        refine xg_empty d_X_cat_117 ?_
        refine V_iload_n d_X_cat_120 rfl rfl ?_
        refine V_aload_n d_X_cat_121 rfl rfl ?_
        refine xg_empty d_X_cat_122 ?_
        refine V_iload_n d_X_cat_125 rfl rfl ?_
        refine xl_empty (rfl) (by omega) d_X_cat_126 ?_
        refine V_if_eq_t (tgt := 143) d_X_cat_127 (by decide) (hx) ?_
        refine V_iconst (v := (nI 0)) d_X_cat_143 (by decide) ?_
        refine xs_empty (rfl) (by omega) d_X_cat_144 ?_
        refine V_aload_n d_X_cat_145 rfl rfl ?_
        refine V_iload_n d_X_cat_146 rfl rfl ?_
        refine xp_height d_X_cat_147 ?_
        refine V_aload_n d_X_cat_150 rfl rfl ?_
        refine V_dup d_X_cat_151 rfl ?_
        refine xg_made d_X_cat_152 ?_
        refine V_iconst (v := (nI 1)) d_X_cat_155 (by decide) ?_
        refine V_iadd d_X_cat_156 (nI_1 md) ?_
        refine xp_made d_X_cat_157 ?_
        refine V_aload_n d_X_cat_160 rfl rfl ?_
        refine xg_height d_X_cat_161 ?_
        refine V_iret d_X_cat_164 rfl ⟨fun z => absurd z k1, fun _ z => by omega, fun _ _ => ⟨rfl, ?_⟩⟩
        refine Prod.ext ?_ ?_
        · exact ext4 rfl rfl rfl rfl (fun j hj => by dsimp only [catU]; simp (disch := omega) only [pk_un, st4_ge])
        · exact ext8 rfl rfl rfl rfl rfl rfl rfl rfl (fun j hj => by dsimp only [catU]; simp (disch := omega) only [updA_ne, setA_ne, ar7_ge])
      ·
        refine V_aload_n d_X_cat_42 rfl rfl ?_
        refine xg_first d_X_cat_43 ?_
        refine V_iload_n d_X_cat_46 rfl rfl ?_
        refine V_aload_n d_X_cat_47 rfl rfl ?_
        refine xg_empty d_X_cat_48 ?_
        refine V_iload_n d_X_cat_51 rfl rfl ?_
        refine xl_empty (rfl) (by omega) d_X_cat_52 ?_
        refine V_if_eq_t (tgt := 72) d_X_cat_53 (by decide) (hx) ?_
        refine V_aload_n d_X_cat_72 rfl rfl ?_
        refine xg_first d_X_cat_73 ?_
        refine V_iload_n d_X_cat_76 rfl rfl ?_
        refine xl_first (rfl) (by omega) d_X_cat_77 ?_
        refine xs_first (rfl) (by omega) d_X_cat_78 ?_
        refine V_aload_n d_X_cat_79 rfl rfl ?_
        refine xg_last d_X_cat_80 ?_
        refine V_iload_n d_X_cat_83 rfl rfl ?_
        refine V_aload_n d_X_cat_84 rfl rfl ?_
        refine xg_empty d_X_cat_85 ?_
        refine V_iload_n d_X_cat_88 rfl rfl ?_
        refine xl_empty (rfl) (by omega) d_X_cat_89 ?_
        refine V_if_eq_f (tgt := 109) d_X_cat_90 (by decide) (nz hy) ?_
        refine V_aload_n d_X_cat_93 rfl rfl ?_
        refine xg_last d_X_cat_94 ?_
        refine V_iload_n d_X_cat_97 rfl rfl ?_
        refine xl_last (rfl) (by omega) d_X_cat_98 ?_
        refine V_aload_n d_X_cat_99 rfl rfl ?_
        refine xg_last d_X_cat_100 ?_
        refine V_iload_n d_X_cat_103 rfl rfl ?_
        refine xl_last (rfl) (by omega) d_X_cat_104 ?_
        refine V_ior d_X_cat_105 (rfl) ?_
        refine V_goto (tgt := 115) d_X_cat_106 (by decide) ?_
        refine xs_last (rfl) (by omega) d_X_cat_115 ?_
        refine V_aload_n d_X_cat_116 rfl rfl ?_
        refine xg_empty d_X_cat_117 ?_
        refine V_iload_n d_X_cat_120 rfl rfl ?_
        refine V_aload_n d_X_cat_121 rfl rfl ?_
        refine xg_empty d_X_cat_122 ?_
        refine V_iload_n d_X_cat_125 rfl rfl ?_
        refine xl_empty (rfl) (by omega) d_X_cat_126 ?_
        refine V_if_eq_t (tgt := 143) d_X_cat_127 (by decide) (hx) ?_
        refine V_iconst (v := (nI 0)) d_X_cat_143 (by decide) ?_
        refine xs_empty (rfl) (by omega) d_X_cat_144 ?_
        refine V_aload_n d_X_cat_145 rfl rfl ?_
        refine V_iload_n d_X_cat_146 rfl rfl ?_
        refine xp_height d_X_cat_147 ?_
        refine V_aload_n d_X_cat_150 rfl rfl ?_
        refine V_dup d_X_cat_151 rfl ?_
        refine xg_made d_X_cat_152 ?_
        refine V_iconst (v := (nI 1)) d_X_cat_155 (by decide) ?_
        refine V_iadd d_X_cat_156 (nI_1 md) ?_
        refine xp_made d_X_cat_157 ?_
        refine V_aload_n d_X_cat_160 rfl rfl ?_
        refine xg_height d_X_cat_161 ?_
        refine V_iret d_X_cat_164 rfl ⟨fun z => absurd z k1, fun _ z => by omega, fun _ _ => ⟨rfl, ?_⟩⟩
        refine Prod.ext ?_ ?_
        · exact ext4 rfl rfl rfl rfl (fun j hj => by dsimp only [catU]; simp (disch := omega) only [pk_un, st4_ge])
        · exact ext8 rfl rfl rfl rfl rfl rfl rfl rfl (fun j hj => by dsimp only [catU]; simp (disch := omega) only [updA_ne, setA_ne, ar7_ge])
    · cases ey
      ·
        refine V_aload_n d_X_cat_42 rfl rfl ?_
        refine xg_first d_X_cat_43 ?_
        refine V_iload_n d_X_cat_46 rfl rfl ?_
        refine V_aload_n d_X_cat_47 rfl rfl ?_
        refine xg_empty d_X_cat_48 ?_
        refine V_iload_n d_X_cat_51 rfl rfl ?_
        refine xl_empty (rfl) (by omega) d_X_cat_52 ?_
        refine V_if_eq_f (tgt := 72) d_X_cat_53 (by decide) (nz hx) ?_
        refine V_aload_n d_X_cat_56 rfl rfl ?_
        refine xg_first d_X_cat_57 ?_
        refine V_iload_n d_X_cat_60 rfl rfl ?_
        refine xl_first (rfl) (by omega) d_X_cat_61 ?_
        refine V_aload_n d_X_cat_62 rfl rfl ?_
        refine xg_first d_X_cat_63 ?_
        refine V_iload_n d_X_cat_66 rfl rfl ?_
        refine xl_first (rfl) (by omega) d_X_cat_67 ?_
        refine V_ior d_X_cat_68 (rfl) ?_
        refine V_goto (tgt := 78) d_X_cat_69 (by decide) ?_
        refine xs_first (rfl) (by omega) d_X_cat_78 ?_
        refine V_aload_n d_X_cat_79 rfl rfl ?_
        refine xg_last d_X_cat_80 ?_
        refine V_iload_n d_X_cat_83 rfl rfl ?_
        refine V_aload_n d_X_cat_84 rfl rfl ?_
        refine xg_empty d_X_cat_85 ?_
        refine V_iload_n d_X_cat_88 rfl rfl ?_
        refine xl_empty (rfl) (by omega) d_X_cat_89 ?_
        refine V_if_eq_t (tgt := 109) d_X_cat_90 (by decide) (hy) ?_
        refine V_aload_n d_X_cat_109 rfl rfl ?_
        refine xg_last d_X_cat_110 ?_
        refine V_iload_n d_X_cat_113 rfl rfl ?_
        refine xl_last (rfl) (by omega) d_X_cat_114 ?_
        refine xs_last (rfl) (by omega) d_X_cat_115 ?_
        refine V_aload_n d_X_cat_116 rfl rfl ?_
        refine xg_empty d_X_cat_117 ?_
        refine V_iload_n d_X_cat_120 rfl rfl ?_
        refine V_aload_n d_X_cat_121 rfl rfl ?_
        refine xg_empty d_X_cat_122 ?_
        refine V_iload_n d_X_cat_125 rfl rfl ?_
        refine xl_empty (rfl) (by omega) d_X_cat_126 ?_
        refine V_if_eq_f (tgt := 143) d_X_cat_127 (by decide) (nz hx) ?_
        refine V_aload_n d_X_cat_130 rfl rfl ?_
        refine xg_empty d_X_cat_131 ?_
        refine V_iload_n d_X_cat_134 rfl rfl ?_
        refine xl_empty (rfl) (by omega) d_X_cat_135 ?_
        refine V_if_eq_t (tgt := 143) d_X_cat_136 (by decide) (hy) ?_
        refine V_iconst (v := (nI 0)) d_X_cat_143 (by decide) ?_
        refine xs_empty (rfl) (by omega) d_X_cat_144 ?_
        refine V_aload_n d_X_cat_145 rfl rfl ?_
        refine V_iload_n d_X_cat_146 rfl rfl ?_
        refine xp_height d_X_cat_147 ?_
        refine V_aload_n d_X_cat_150 rfl rfl ?_
        refine V_dup d_X_cat_151 rfl ?_
        refine xg_made d_X_cat_152 ?_
        refine V_iconst (v := (nI 1)) d_X_cat_155 (by decide) ?_
        refine V_iadd d_X_cat_156 (nI_1 md) ?_
        refine xp_made d_X_cat_157 ?_
        refine V_aload_n d_X_cat_160 rfl rfl ?_
        refine xg_height d_X_cat_161 ?_
        refine V_iret d_X_cat_164 rfl ⟨fun z => absurd z k1, fun _ z => by omega, fun _ _ => ⟨rfl, ?_⟩⟩
        refine Prod.ext ?_ ?_
        · exact ext4 rfl rfl rfl rfl (fun j hj => by dsimp only [catU]; simp (disch := omega) only [pk_un, st4_ge])
        · exact ext8 rfl rfl rfl rfl rfl rfl rfl rfl (fun j hj => by dsimp only [catU]; simp (disch := omega) only [updA_ne, setA_ne, ar7_ge])
      ·
        refine V_aload_n d_X_cat_42 rfl rfl ?_
        refine xg_first d_X_cat_43 ?_
        refine V_iload_n d_X_cat_46 rfl rfl ?_
        refine V_aload_n d_X_cat_47 rfl rfl ?_
        refine xg_empty d_X_cat_48 ?_
        refine V_iload_n d_X_cat_51 rfl rfl ?_
        refine xl_empty (rfl) (by omega) d_X_cat_52 ?_
        refine V_if_eq_f (tgt := 72) d_X_cat_53 (by decide) (nz hx) ?_
        refine V_aload_n d_X_cat_56 rfl rfl ?_
        refine xg_first d_X_cat_57 ?_
        refine V_iload_n d_X_cat_60 rfl rfl ?_
        refine xl_first (rfl) (by omega) d_X_cat_61 ?_
        refine V_aload_n d_X_cat_62 rfl rfl ?_
        refine xg_first d_X_cat_63 ?_
        refine V_iload_n d_X_cat_66 rfl rfl ?_
        refine xl_first (rfl) (by omega) d_X_cat_67 ?_
        refine V_ior d_X_cat_68 (rfl) ?_
        refine V_goto (tgt := 78) d_X_cat_69 (by decide) ?_
        refine xs_first (rfl) (by omega) d_X_cat_78 ?_
        refine V_aload_n d_X_cat_79 rfl rfl ?_
        refine xg_last d_X_cat_80 ?_
        refine V_iload_n d_X_cat_83 rfl rfl ?_
        refine V_aload_n d_X_cat_84 rfl rfl ?_
        refine xg_empty d_X_cat_85 ?_
        refine V_iload_n d_X_cat_88 rfl rfl ?_
        refine xl_empty (rfl) (by omega) d_X_cat_89 ?_
        refine V_if_eq_f (tgt := 109) d_X_cat_90 (by decide) (nz hy) ?_
        refine V_aload_n d_X_cat_93 rfl rfl ?_
        refine xg_last d_X_cat_94 ?_
        refine V_iload_n d_X_cat_97 rfl rfl ?_
        refine xl_last (rfl) (by omega) d_X_cat_98 ?_
        refine V_aload_n d_X_cat_99 rfl rfl ?_
        refine xg_last d_X_cat_100 ?_
        refine V_iload_n d_X_cat_103 rfl rfl ?_
        refine xl_last (rfl) (by omega) d_X_cat_104 ?_
        refine V_ior d_X_cat_105 (rfl) ?_
        refine V_goto (tgt := 115) d_X_cat_106 (by decide) ?_
        refine xs_last (rfl) (by omega) d_X_cat_115 ?_
        refine V_aload_n d_X_cat_116 rfl rfl ?_
        refine xg_empty d_X_cat_117 ?_
        refine V_iload_n d_X_cat_120 rfl rfl ?_
        refine V_aload_n d_X_cat_121 rfl rfl ?_
        refine xg_empty d_X_cat_122 ?_
        refine V_iload_n d_X_cat_125 rfl rfl ?_
        refine xl_empty (rfl) (by omega) d_X_cat_126 ?_
        refine V_if_eq_f (tgt := 143) d_X_cat_127 (by decide) (nz hx) ?_
        refine V_aload_n d_X_cat_130 rfl rfl ?_
        refine xg_empty d_X_cat_131 ?_
        refine V_iload_n d_X_cat_134 rfl rfl ?_
        refine xl_empty (rfl) (by omega) d_X_cat_135 ?_
        refine V_if_eq_f (tgt := 143) d_X_cat_136 (by decide) (nz hy) ?_
        refine V_iconst (v := (nI 1)) d_X_cat_139 (by decide) ?_
        refine V_goto (tgt := 144) d_X_cat_140 (by decide) ?_
        refine xs_empty (rfl) (by omega) d_X_cat_144 ?_
        refine V_aload_n d_X_cat_145 rfl rfl ?_
        refine V_iload_n d_X_cat_146 rfl rfl ?_
        refine xp_height d_X_cat_147 ?_
        refine V_aload_n d_X_cat_150 rfl rfl ?_
        refine V_dup d_X_cat_151 rfl ?_
        refine xg_made d_X_cat_152 ?_
        refine V_iconst (v := (nI 1)) d_X_cat_155 (by decide) ?_
        refine V_iadd d_X_cat_156 (nI_1 md) ?_
        refine xp_made d_X_cat_157 ?_
        refine V_aload_n d_X_cat_160 rfl rfl ?_
        refine xg_height d_X_cat_161 ?_
        refine V_iret d_X_cat_164 rfl ⟨fun z => absurd z k1, fun _ z => by omega, fun _ _ => ⟨rfl, ?_⟩⟩
        refine Prod.ext ?_ ?_
        · exact ext4 rfl rfl rfl rfl (fun j hj => by dsimp only [catU]; simp (disch := omega) only [pk_un, st4_ge])
        · exact ext8 rfl rfl rfl rfl rfl rfl rfl rfl (fun j hj => by dsimp only [catU]; simp (disch := omega) only [updA_ne, setA_ne, ar7_ge])
def altU (S : Nat → Int32) (A : Nat → Nat → Int32) (h md ca np : Nat) (ex ey : Bool) : XS :=
    (st4 S (nI (h - 1)) (nI (md + 1)) (nI ca) (nI np), ar7 A (A 1) (upd (A 2) (h - 2) (A 2 (h - 2) ||| A 2 (h - 1))) (upd (A 3) (h - 2) (A 3 (h - 2) ||| A 3 (h - 1))) (upd (A 4) (h - 2) (bI (ex || ey))) (A 5) (A 6) (A 7))
set_option maxHeartbeats 8000000 in
theorem c_X_alt (S : Nat → Int32) (A : Nat → Nat → Int32) {h md ca np : Nat} (hh : h ≤ 6) (hmd : md ≤ 18) (ex ey : Bool) (hex : 2 ≤ h → A 4 (h - 2) = bI ex) (hey : 2 ≤ h → A 4 (h - 1) = bI ey) : C_X_alt [] (st4 S (nI h) (nI md) (nI ca) (nI np), A) (fun r u2 => (md = 18 → r = -2 ∧ u2 = (st4 S (nI h) (nI md) (nI ca) (nI np), A)) ∧ (¬ md = 18 → h < 2 → r = -3 ∧ u2 = (st4 S (nI h) (nI md) (nI ca) (nI np), A)) ∧ (¬ md = 18 → 2 ≤ h → r = nI (h - 1) ∧ u2 = altU S A h md ca np ex ey)) := by
  refine e_X_alt ?_
  intro p l e s m args below meth c D q k A0
  refine V_aload_n d_X_alt_0 rfl rfl ?_
  refine V_iconst (v := (nI 2)) d_X_alt_1 (by decide) ?_
  refine v_X_refused (c_X_refused _ _) ⟨Nat.le_of_ble_eq_true rfl, Nat.le_of_ble_eq_true rfl⟩ (Nat.le_of_ble_eq_true rfl) d_X_alt_2 ?_
  rintro r _ ⟨rfl, hr⟩
  rcases rf_c hh hmd (t := 2) (by omega) with ⟨k1, k2⟩ | ⟨k1, k2, k3⟩ | ⟨k1, k2, k3⟩
  · obtain rfl : r = -2 := hr.trans k2
    refine V_istore_n d_X_alt_5 rfl (by decide) ?_
    refine V_iload_n d_X_alt_6 rfl rfl ?_
    refine V_if_ge_f (tgt := 12) d_X_alt_7 (by decide) (by decide) ?_
    refine V_iload_n d_X_alt_10 rfl rfl ?_
    exact V_iret d_X_alt_11 rfl (⟨fun _ => ⟨rfl, rfl⟩, fun z => absurd k1 z, fun z => absurd k1 z⟩)
  · obtain rfl : r = -3 := hr.trans k3
    refine V_istore_n d_X_alt_5 rfl (by decide) ?_
    refine V_iload_n d_X_alt_6 rfl rfl ?_
    refine V_if_ge_f (tgt := 12) d_X_alt_7 (by decide) (by decide) ?_
    refine V_iload_n d_X_alt_10 rfl rfl ?_
    exact V_iret d_X_alt_11 rfl (⟨fun z => absurd z k1, fun _ _ => ⟨rfl, rfl⟩, fun _ z => by omega⟩)
  · obtain rfl : r = nI 0 := hr.trans k3
    have hx := hex k2
    have hy := hey k2
    refine V_istore_n d_X_alt_5 rfl (by decide) ?_
    refine V_iload_n d_X_alt_6 rfl rfl ?_
    refine V_if_ge_t (tgt := 12) d_X_alt_7 (by decide) (by decide) ?_
    refine V_aload_n d_X_alt_12 rfl rfl ?_
    refine xg_height d_X_alt_13 ?_
    refine V_iconst (v := (nI 1)) d_X_alt_16 (by decide) ?_
    refine V_isub d_X_alt_17 (pk_sub (by omega)) ?_
    refine V_istore_n d_X_alt_18 rfl (by decide) ?_
    refine V_aload_n d_X_alt_19 rfl rfl ?_
    refine xg_height d_X_alt_20 ?_
    refine V_iconst (v := (nI 2)) d_X_alt_23 (by decide) ?_
    refine V_isub d_X_alt_24 (pk_sub (by omega)) ?_
    refine V_istore_n d_X_alt_25 rfl (by decide) ?_
    refine V_aload_n d_X_alt_26 rfl rfl ?_
    refine xg_first d_X_alt_27 ?_
    refine V_iload_n d_X_alt_30 rfl rfl ?_
    refine V_aload_n d_X_alt_31 rfl rfl ?_
    refine xg_first d_X_alt_32 ?_
    refine V_iload_n d_X_alt_35 rfl rfl ?_
    refine xl_first (rfl) (by omega) d_X_alt_36 ?_
    refine V_aload_n d_X_alt_37 rfl rfl ?_
    refine xg_first d_X_alt_38 ?_
    refine V_iload_n d_X_alt_41 rfl rfl ?_
    refine xl_first (rfl) (by omega) d_X_alt_42 ?_
    refine V_ior d_X_alt_43 (rfl) ?_
    refine xs_first (rfl) (by omega) d_X_alt_44 ?_
    refine V_aload_n d_X_alt_45 rfl rfl ?_
    refine xg_last d_X_alt_46 ?_
    refine V_iload_n d_X_alt_49 rfl rfl ?_
    refine V_aload_n d_X_alt_50 rfl rfl ?_
    refine xg_last d_X_alt_51 ?_
    refine V_iload_n d_X_alt_54 rfl rfl ?_
    refine xl_last (rfl) (by omega) d_X_alt_55 ?_
    refine V_aload_n d_X_alt_56 rfl rfl ?_
    refine xg_last d_X_alt_57 ?_
    refine V_iload_n d_X_alt_60 rfl rfl ?_
    refine xl_last (rfl) (by omega) d_X_alt_61 ?_
    refine V_ior d_X_alt_62 (rfl) ?_
    refine xs_last (rfl) (by omega) d_X_alt_63 ?_
    refine V_aload_n d_X_alt_64 rfl rfl ?_
    refine xg_empty d_X_alt_65 ?_
    refine V_iload_n d_X_alt_68 rfl rfl ?_
    refine V_aload_n d_X_alt_69 rfl rfl ?_
    refine xg_empty d_X_alt_70 ?_
    refine V_iload_n d_X_alt_73 rfl rfl ?_
    refine xl_empty (rfl) (by omega) d_X_alt_74 ?_
    cases ex
    · cases ey
      ·
        refine V_if_ne_f (tgt := 87) d_X_alt_75 (by decide) (hx) ?_
        refine V_aload_n d_X_alt_78 rfl rfl ?_
        refine xg_empty d_X_alt_79 ?_
        refine V_iload_n d_X_alt_82 rfl rfl ?_
        refine xl_empty (rfl) (by omega) d_X_alt_83 ?_
        refine V_if_eq_t (tgt := 91) d_X_alt_84 (by decide) (hy) ?_
        refine V_iconst (v := (nI 0)) d_X_alt_91 (by decide) ?_
        refine xs_empty (rfl) (by omega) d_X_alt_92 ?_
        refine V_aload_n d_X_alt_93 rfl rfl ?_
        refine V_iload_n d_X_alt_94 rfl rfl ?_
        refine xp_height d_X_alt_95 ?_
        refine V_aload_n d_X_alt_98 rfl rfl ?_
        refine V_dup d_X_alt_99 rfl ?_
        refine xg_made d_X_alt_100 ?_
        refine V_iconst (v := (nI 1)) d_X_alt_103 (by decide) ?_
        refine V_iadd d_X_alt_104 (nI_1 md) ?_
        refine xp_made d_X_alt_105 ?_
        refine V_aload_n d_X_alt_108 rfl rfl ?_
        refine xg_height d_X_alt_109 ?_
        refine V_iret d_X_alt_112 rfl ⟨fun z => absurd z k1, fun _ z => by omega, fun _ _ => ⟨rfl, ?_⟩⟩
        refine Prod.ext ?_ ?_
        · exact ext4 rfl rfl rfl rfl (fun j hj => by dsimp only [altU]; simp (disch := omega) only [pk_un, st4_ge])
        · exact ext8 rfl rfl rfl rfl rfl rfl rfl rfl (fun j hj => by dsimp only [altU]; simp (disch := omega) only [updA_ne, setA_ne, ar7_ge])
      ·
        refine V_if_ne_f (tgt := 87) d_X_alt_75 (by decide) (hx) ?_
        refine V_aload_n d_X_alt_78 rfl rfl ?_
        refine xg_empty d_X_alt_79 ?_
        refine V_iload_n d_X_alt_82 rfl rfl ?_
        refine xl_empty (rfl) (by omega) d_X_alt_83 ?_
        refine V_if_eq_f (tgt := 91) d_X_alt_84 (by decide) (nz hy) ?_
        refine V_iconst (v := (nI 1)) d_X_alt_87 (by decide) ?_
        refine V_goto (tgt := 92) d_X_alt_88 (by decide) ?_
        refine xs_empty (rfl) (by omega) d_X_alt_92 ?_
        refine V_aload_n d_X_alt_93 rfl rfl ?_
        refine V_iload_n d_X_alt_94 rfl rfl ?_
        refine xp_height d_X_alt_95 ?_
        refine V_aload_n d_X_alt_98 rfl rfl ?_
        refine V_dup d_X_alt_99 rfl ?_
        refine xg_made d_X_alt_100 ?_
        refine V_iconst (v := (nI 1)) d_X_alt_103 (by decide) ?_
        refine V_iadd d_X_alt_104 (nI_1 md) ?_
        refine xp_made d_X_alt_105 ?_
        refine V_aload_n d_X_alt_108 rfl rfl ?_
        refine xg_height d_X_alt_109 ?_
        refine V_iret d_X_alt_112 rfl ⟨fun z => absurd z k1, fun _ z => by omega, fun _ _ => ⟨rfl, ?_⟩⟩
        refine Prod.ext ?_ ?_
        · exact ext4 rfl rfl rfl rfl (fun j hj => by dsimp only [altU]; simp (disch := omega) only [pk_un, st4_ge])
        · exact ext8 rfl rfl rfl rfl rfl rfl rfl rfl (fun j hj => by dsimp only [altU]; simp (disch := omega) only [updA_ne, setA_ne, ar7_ge])
    ·
      refine V_if_ne_t (tgt := 87) d_X_alt_75 (by decide) (nz hx) ?_
      refine V_iconst (v := (nI 1)) d_X_alt_87 (by decide) ?_
      refine V_goto (tgt := 92) d_X_alt_88 (by decide) ?_
      refine xs_empty (rfl) (by omega) d_X_alt_92 ?_
      refine V_aload_n d_X_alt_93 rfl rfl ?_
      refine V_iload_n d_X_alt_94 rfl rfl ?_
      refine xp_height d_X_alt_95 ?_
      refine V_aload_n d_X_alt_98 rfl rfl ?_
      refine V_dup d_X_alt_99 rfl ?_
      refine xg_made d_X_alt_100 ?_
      refine V_iconst (v := (nI 1)) d_X_alt_103 (by decide) ?_
      refine V_iadd d_X_alt_104 (nI_1 md) ?_
      refine xp_made d_X_alt_105 ?_
      refine V_aload_n d_X_alt_108 rfl rfl ?_
      refine xg_height d_X_alt_109 ?_
      refine V_iret d_X_alt_112 rfl ⟨fun z => absurd z k1, fun _ z => by omega, fun _ _ => ⟨rfl, ?_⟩⟩
      refine Prod.ext ?_ ?_
      · exact ext4 rfl rfl rfl rfl (fun j hj => by dsimp only [altU]; simp (disch := omega) only [pk_un, st4_ge])
      · exact ext8 rfl rfl rfl rfl (by rw [altU, Bool.true_or]; rfl) rfl rfl rfl (fun j hj => by dsimp only [altU]; simp (disch := omega) only [updA_ne, setA_ne, ar7_ge])
def starU (S : Nat → Int32) (A : Nat → Nat → Int32) (h md ca np : Nat) : XS :=
    (st4 S (nI h) (nI (md + 1)) (nI ca) (nI np), ar7 A (A 1) (A 2) (A 3) (upd (A 4) (h - 1) (nI 1)) (A 5) (A 6) (lkF (A 7) (A 3 (h - 1)) (A 2 (h - 1)) 9))
set_option maxHeartbeats 8000000 in
theorem c_X_star (S : Nat → Int32) (A : Nat → Nat → Int32) {h md ca np : Nat} (hh : h ≤ 6) (hmd : md ≤ 18) : C_X_star [] (st4 S (nI h) (nI md) (nI ca) (nI np), A) (fun r u2 => (md = 18 → r = -2 ∧ u2 = (st4 S (nI h) (nI md) (nI ca) (nI np), A)) ∧ (¬ md = 18 → h < 1 → r = -3 ∧ u2 = (st4 S (nI h) (nI md) (nI ca) (nI np), A)) ∧ (¬ md = 18 → 1 ≤ h → r = nI h ∧ u2 = starU S A h md ca np)) := by
  refine e_X_star ?_
  intro p l e s m args below meth c D q k A0
  refine V_aload_n d_X_star_0 rfl rfl ?_
  refine V_iconst (v := (nI 1)) d_X_star_1 (by decide) ?_
  refine v_X_refused (c_X_refused _ _) ⟨Nat.le_of_ble_eq_true rfl, Nat.le_of_ble_eq_true rfl⟩ (Nat.le_of_ble_eq_true rfl) d_X_star_2 ?_
  rintro r _ ⟨rfl, hr⟩
  rcases rf_c hh hmd (t := 1) (by omega) with ⟨k1, k2⟩ | ⟨k1, k2, k3⟩ | ⟨k1, k2, k3⟩
  · obtain rfl : r = -2 := hr.trans k2
    refine V_istore_n d_X_star_5 rfl (by decide) ?_
    refine V_iload_n d_X_star_6 rfl rfl ?_
    refine V_if_ge_f (tgt := 12) d_X_star_7 (by decide) (by decide) ?_
    refine V_iload_n d_X_star_10 rfl rfl ?_
    exact V_iret d_X_star_11 rfl (⟨fun _ => ⟨rfl, rfl⟩, fun z => absurd k1 z, fun z => absurd k1 z⟩)
  · obtain rfl : r = -3 := hr.trans k3
    refine V_istore_n d_X_star_5 rfl (by decide) ?_
    refine V_iload_n d_X_star_6 rfl rfl ?_
    refine V_if_ge_f (tgt := 12) d_X_star_7 (by decide) (by decide) ?_
    refine V_iload_n d_X_star_10 rfl rfl ?_
    exact V_iret d_X_star_11 rfl (⟨fun z => absurd z k1, fun _ _ => ⟨rfl, rfl⟩, fun _ z => by omega⟩)
  · obtain rfl : r = nI 0 := hr.trans k3
    refine V_istore_n d_X_star_5 rfl (by decide) ?_
    refine V_iload_n d_X_star_6 rfl rfl ?_
    refine V_if_ge_t (tgt := 12) d_X_star_7 (by decide) (by decide) ?_
    refine V_aload_n d_X_star_12 rfl rfl ?_
    refine xg_height d_X_star_13 ?_
    refine V_iconst (v := (nI 1)) d_X_star_16 (by decide) ?_
    refine V_isub d_X_star_17 (pk_sub (by omega)) ?_
    refine V_istore_n d_X_star_18 rfl (by decide) ?_
    refine V_aload_n d_X_star_19 rfl rfl ?_
    refine V_aload_n d_X_star_20 rfl rfl ?_
    refine xg_last d_X_star_21 ?_
    refine V_iload_n d_X_star_24 rfl rfl ?_
    refine xl_last (rfl) (by omega) d_X_star_25 ?_
    refine V_aload_n d_X_star_26 rfl rfl ?_
    refine xg_first d_X_star_27 ?_
    refine V_iload_n d_X_star_30 rfl rfl ?_
    refine xl_first (rfl) (by omega) d_X_star_31 ?_
    refine v_X_link (c_X_link _ _ _) ⟨Nat.le_of_ble_eq_true rfl, Nat.le_of_ble_eq_true rfl⟩ (Nat.le_of_ble_eq_true rfl) d_X_star_32 ?_
    rintro _ rfl
    refine V_aload_n d_X_star_35 rfl rfl ?_
    refine xg_empty d_X_star_36 ?_
    refine V_iload_n d_X_star_39 rfl rfl ?_
    refine V_iconst (v := (nI 1)) d_X_star_40 (by decide) ?_
    refine xs_empty (rfl) (by omega) d_X_star_41 ?_
    refine V_aload_n d_X_star_42 rfl rfl ?_
    refine V_dup d_X_star_43 rfl ?_
    refine xg_made d_X_star_44 ?_
    refine V_iconst (v := (nI 1)) d_X_star_47 (by decide) ?_
    refine V_iadd d_X_star_48 (nI_1 md) ?_
    refine xp_made d_X_star_49 ?_
    refine V_aload_n d_X_star_52 rfl rfl ?_
    refine xg_height d_X_star_53 ?_
    refine V_iret d_X_star_56 rfl ⟨fun z => absurd z k1, fun _ z => by omega, fun _ _ => ⟨rfl, ?_⟩⟩
    refine Prod.ext ?_ ?_
    · exact ext4 rfl rfl rfl rfl (fun j hj => by dsimp only [starU]; simp (disch := omega) only [pk_un, st4_ge])
    · exact ext8 rfl rfl rfl rfl rfl rfl rfl rfl (fun j hj => by dsimp only [starU]; simp (disch := omega) only [updA_ne, setA_ne, ar7_ge])
def swF (f g : Nat → Int32) (a n : Nat) : Nat → Int32 := fun p => if a ≤ p ∧ p < n then g p else f p
theorem swF_0 (f g : Nat → Int32) (a : Nat) : swF f g a a = f := by
  funext p
  exact if_neg (by omega)
theorem swF_s {f g : Nat → Int32} {a n : Nat} (h : a ≤ n) : upd (swF f g a n) n (g n) = swF f g a (n + 1) := by
  funext p
  unfold upd swF
  by_cases hp : p = n
  · subst hp
    simp [h]
  · have : (a ≤ p ∧ p < n + 1) ↔ (a ≤ p ∧ p < n) := by omega
    simp [hp, this]
theorem swF_n {f g : Nat → Int32} {a n : Nat} : swF f g a n n = f n := if_neg (by omega)
def turnU (S : Nat → Int32) (A : Nat → Nat → Int32) (h md ca np lw : Nat) : XS :=
    (st4 S (nI h) (nI (md + 1)) (nI ca) (nI np), setA (setA A 5 (swF (A 5) (A 6) lw np)) 6 (swF (A 6) (A 5) lw np))
set_option maxHeartbeats 8000000 in
theorem c_X_turn (S : Nat → Int32) (A : Nat → Nat → Int32) {h md ca np lw : Nat} (hh : h ≤ 6) (hmd : md ≤ 18) (hnp : np ≤ 9) (hlw : 1 ≤ h → A 1 (h - 1) = nI lw) (hlp : 1 ≤ h → lw ≤ np) : C_X_turn [] (st4 S (nI h) (nI md) (nI ca) (nI np), A) (fun r u2 => (md = 18 → r = -2 ∧ u2 = (st4 S (nI h) (nI md) (nI ca) (nI np), A)) ∧ (¬ md = 18 → h < 1 → r = -3 ∧ u2 = (st4 S (nI h) (nI md) (nI ca) (nI np), A)) ∧ (¬ md = 18 → 1 ≤ h → r = nI h ∧ u2 = turnU S A h md ca np lw)) := by
  generalize hpost : (fun (r : Int32) (u2 : XS) => (md = 18 → r = -2 ∧ u2 = (st4 S (nI h) (nI md) (nI ca) (nI np), A)) ∧ (¬ md = 18 → h < 1 → r = -3 ∧ u2 = (st4 S (nI h) (nI md) (nI ca) (nI np), A)) ∧ (¬ md = 18 → 1 ≤ h → r = nI h ∧ u2 = turnU S A h md ca np lw)) = post
  refine e_X_turn ?_
  intro p l e s m args below meth c D q k A0
  refine V_aload_n d_X_turn_0 rfl rfl ?_
  refine V_iconst (v := (nI 1)) d_X_turn_1 (by decide) ?_
  refine v_X_refused (c_X_refused _ _) ⟨Nat.le_of_ble_eq_true rfl, Nat.le_of_ble_eq_true rfl⟩ (Nat.le_of_ble_eq_true rfl) d_X_turn_2 ?_
  rintro r _ ⟨rfl, hr⟩
  rcases rf_c hh hmd (t := 1) (by omega) with ⟨k1, k2⟩ | ⟨k1, k2, k3⟩ | ⟨k1, k2, k3⟩
  · obtain rfl : r = -2 := hr.trans k2
    refine V_istore_n d_X_turn_5 rfl (by decide) ?_
    refine V_iload_n d_X_turn_6 rfl rfl ?_
    refine V_if_ge_f (tgt := 12) d_X_turn_7 (by decide) (by decide) ?_
    refine V_iload_n d_X_turn_10 rfl rfl ?_
    exact V_iret d_X_turn_11 rfl (by rw [← hpost]; exact ⟨fun _ => ⟨rfl, rfl⟩, fun z => absurd k1 z, fun z => absurd k1 z⟩)
  · obtain rfl : r = -3 := hr.trans k3
    refine V_istore_n d_X_turn_5 rfl (by decide) ?_
    refine V_iload_n d_X_turn_6 rfl rfl ?_
    refine V_if_ge_f (tgt := 12) d_X_turn_7 (by decide) (by decide) ?_
    refine V_iload_n d_X_turn_10 rfl rfl ?_
    exact V_iret d_X_turn_11 rfl (by rw [← hpost]; exact ⟨fun z => absurd z k1, fun _ _ => ⟨rfl, rfl⟩, fun _ z => by omega⟩)
  · obtain rfl : r = nI 0 := hr.trans k3
    have hp := hlp k2
    have loop : ∀ n, n ≤ np → lw ≤ n → ∀ x3 : Option Value, (V p l e rm_X_turn s m args below meth c R_X wX b_X_turn 4 (some .int) D (xty k) A0 (xw q k) 0 0 (MQ below (va_Qi post (vB D (xty k) (xw q k) A0) A0) args s 0 0 A0) (24) ([some (.ref (q 0)), some (.int (nI 0)), some (.int (nI n)), x3]) ([]) ((st4 S (nI h) (nI md) (nI ca) (nI np), setA (setA A 5 (swF (A 5) (A 6) lw n)) 6 (swF (A 6) (A 5) lw n)))) := by
      refine dn np ?_ ?_
      · intro _ x3
        refine V_iload_n d_X_turn_24 rfl rfl ?_
        refine V_aload_n d_X_turn_25 rfl rfl ?_
        refine xg_places d_X_turn_26 ?_
        refine V_icmp_ge_t (tgt := 64) d_X_turn_29 (by decide) (nI_le (by omega) (by omega)) ?_
        refine V_aload_n d_X_turn_64 rfl rfl ?_
        refine V_dup d_X_turn_65 rfl ?_
        refine xg_made d_X_turn_66 ?_
        refine V_iconst (v := (nI 1)) d_X_turn_69 (by decide) ?_
        refine V_iadd d_X_turn_70 (nI_1 md) ?_
        refine xp_made d_X_turn_71 ?_
        refine V_aload_n d_X_turn_74 rfl rfl ?_
        refine xg_height d_X_turn_75 ?_
        refine V_iret d_X_turn_78 rfl ?_
        rw [← hpost]
        refine ⟨fun z => absurd z k1, fun _ z => by omega, fun _ _ => ⟨rfl, ?_⟩⟩
        refine Prod.ext ?_ rfl
        exact ext4 rfl rfl rfl rfl (fun j hj => by dsimp only [turnU]; simp (disch := omega) only [pk_un, st4_ge])
      · intro n hn ih hl x3
        refine V_iload_n d_X_turn_24 rfl rfl ?_
        refine V_aload_n d_X_turn_25 rfl rfl ?_
        refine xg_places d_X_turn_26 ?_
        refine V_icmp_ge_f (tgt := 64) d_X_turn_29 (by decide) (nI_ge hn (by omega)) ?_
        refine V_aload_n d_X_turn_32 rfl rfl ?_
        refine xg_leftOf d_X_turn_33 ?_
        refine V_iload_n d_X_turn_36 rfl rfl ?_
        refine xl_leftOf (rfl) (by omega) d_X_turn_37 ?_
        refine V_istore_n d_X_turn_38 rfl (by decide) ?_
        refine V_aload_n d_X_turn_39 rfl rfl ?_
        refine xg_leftOf d_X_turn_40 ?_
        refine V_iload_n d_X_turn_43 rfl rfl ?_
        refine V_aload_n d_X_turn_44 rfl rfl ?_
        refine xg_rightOf d_X_turn_45 ?_
        refine V_iload_n d_X_turn_48 rfl rfl ?_
        refine xl_rightOf (rfl) (by omega) d_X_turn_49 ?_
        refine xs_leftOf (rfl) (by omega) d_X_turn_50 ?_
        refine V_aload_n d_X_turn_51 rfl rfl ?_
        refine xg_rightOf d_X_turn_52 ?_
        refine V_iload_n d_X_turn_55 rfl rfl ?_
        refine V_iload_n d_X_turn_56 rfl rfl ?_
        refine xs_rightOf (rfl) (by omega) d_X_turn_57 ?_
        refine V_at rfl rfl rfl (show _ = (st4 S (nI h) (nI md) (nI ca) (nI np), setA (setA A 5 (swF (A 5) (A 6) lw (n + 1))) 6 (swF (A 6) (A 5) lw (n + 1))) from ?_) ?_
        · refine Prod.ext rfl ?_
          rw [← swF_s hl, ← swF_s hl]
          have e5 : ∀ g, swF (A 5) g lw n n = A 5 n := fun g => swF_n
          have e6 : ∀ g, swF (A 6) g lw n n = A 6 n := fun g => swF_n
          funext j
          by_cases h5 : j = 5
          · subst h5
            show upd (swF (A 5) (A 6) lw n) n (swF (A 6) (A 5) lw n n) = upd (swF (A 5) (A 6) lw n) n (A 6 n)
            rw [e6]
          · by_cases h6 : j = 6
            · subst h6
              show upd (swF (A 6) (A 5) lw n) n (swF (A 5) (A 6) lw n n) = upd (swF (A 6) (A 5) lw n) n (A 5 n)
              rw [e5]
            · dsimp only
              simp (disch := omega) only [updA_ne, setA_ne]
        refine V_iinc d_X_turn_58 rfl (nI_1 _) (by decide) ?_
        refine V_goto (tgt := 24) d_X_turn_61 (by decide) ?_
        exact ih (by omega) _
    refine V_istore_n d_X_turn_5 rfl (by decide) ?_
    refine V_iload_n d_X_turn_6 rfl rfl ?_
    refine V_if_ge_t (tgt := 12) d_X_turn_7 (by decide) (by decide) ?_
    refine V_aload_n d_X_turn_12 rfl rfl ?_
    refine xg_low d_X_turn_13 ?_
    refine V_aload_n d_X_turn_16 rfl rfl ?_
    refine xg_height d_X_turn_17 ?_
    refine V_iconst (v := (nI 1)) d_X_turn_20 (by decide) ?_
    refine V_isub d_X_turn_21 (pk_sub (by omega)) ?_
    refine xl_low (rfl) (by omega) d_X_turn_22 ?_
    refine V_top (hlw k2) ?_
    refine V_istore_n d_X_turn_23 rfl (by decide) ?_
    refine V_at rfl rfl rfl (show _ = (st4 S (nI h) (nI md) (nI ca) (nI np), setA (setA A 5 (swF (A 5) (A 6) lw lw)) 6 (swF (A 6) (A 5) lw lw)) from ?_) ?_
    · rw [swF_0, swF_0, setA_self, setA_self]
    exact loop lw hp (Nat.le_refl _) _
def defS (S : Nat → Int32) (a b c : Int32) : Nat → Int32 := upd (st4 (upd (upd (upd S 11 a) 12 b) 13 c) (nI 0) (nI 0) (nI 0) (nI 0)) 16 (nI 0)
set_option maxHeartbeats 8000000 in
theorem c_X_define (S : Nat → Int32) (A : Nat → Nat → Int32) {h md ca np : Nat} (hh : h ≤ 6) (hnp : np ≤ 9) (lf rf : Nat → Nat) (hlf : ∀ p, p < np → A 5 p = nI (lf p) ∧ lf p ≤ 2) (hrf : ∀ p, p < np → A 6 p = nI (rf p) ∧ rf p ≤ 2) (ex : Bool) (hex : 1 ≤ h → A 4 (h - 1) = bI ex) : C_X_define [] (st4 S (nI h) (nI md) (nI ca) (nI np), A) (fun r u2 => (h = 0 → r = -3 ∧ u2 = (st4 S (nI h) (nI md) (nI ca) (nI np), A)) ∧ (¬ h = 0 → r = nI h ∧ ∃ fi : Nat → Int32, u2 = (defS S (A 2 (h - 1)) (A 3 (h - 1)) (A 4 (h - 1)), setA (setA A 8 (swF (A 8) (A 7) 0 np)) 9 fi) ∧ ∀ k, k < 9 → ∀ p, bt (fi k) p = true ↔ p < np ∧ lf p * 3 + rf p = k)) := by
  generalize hpost : (fun (r : Int32) (u2 : XS) => (h = 0 → r = -3 ∧ u2 = (st4 S (nI h) (nI md) (nI ca) (nI np), A)) ∧ (¬ h = 0 → r = nI h ∧ ∃ fi : Nat → Int32, u2 = (defS S (A 2 (h - 1)) (A 3 (h - 1)) (A 4 (h - 1)), setA (setA A 8 (swF (A 8) (A 7) 0 np)) 9 fi) ∧ ∀ k, k < 9 → ∀ p, bt (fi k) p = true ↔ p < np ∧ lf p * 3 + rf p = k)) = post
  refine e_X_define ?_
  intro p l e s m args below meth c D q k A0
  by_cases h0 : h = 0
  ·
    refine V_aload_n d_X_define_0 rfl rfl ?_
    refine xg_height d_X_define_1 ?_
    refine V_if_ne_f (tgt := 10) d_X_define_4 (by decide) (by rw [h0]; rfl) ?_
    refine V_bipush (v := (-3)) d_X_define_7 (by decide) ?_
    exact V_iret d_X_define_9 rfl (by rw [← hpost]; exact ⟨fun _ => ⟨rfl, rfl⟩, fun z => absurd h0 z⟩)
  · have hx := hex (by omega)
    have loop2 : ∀ n, n ≤ np → ∀ (fi : Nat → Int32) (x3 : Option Value), (∀ k, k < 9 → ∀ p, bt (fi k) p = true ↔ p < n ∧ lf p * 3 + rf p = k) → (V p l e rm_X_define s m args below meth c R_X wX b_X_define 4 (some .int) D (xty k) A0 (xw q k) 0 0 (MQ below (va_Qi post (vB D (xty k) (xw q k) A0) A0) args s 0 0 A0) (70) ([some (.ref (q 0)), some (.int (nI (h - 1))), some (.int (nI n)), x3]) ([]) ((upd (upd (upd (st4 S (nI h) (nI md) (nI ca) (nI np)) 11 (A 2 (h - 1))) 12 (A 3 (h - 1))) 13 (A 4 (h - 1)), setA (setA A 8 (swF (A 8) (A 7) 0 n)) 9 fi))) := by
      refine dn np ?_ ?_
      · intro fi x3 hfi
        refine V_iload_n d_X_define_70 rfl rfl ?_
        refine V_aload_n d_X_define_71 rfl rfl ?_
        refine xg_places d_X_define_72 ?_
        refine V_icmp_ge_t (tgt := 128) d_X_define_75 (by decide) (nI_le (by omega) (by omega)) ?_
        refine V_aload_n d_X_define_128 rfl rfl ?_
        refine xg_height d_X_define_129 ?_
        refine V_istore_n d_X_define_132 rfl (by decide) ?_
        refine V_aload_n d_X_define_133 rfl rfl ?_
        refine v_X_discard (c_X_discard _) ⟨Nat.le_of_ble_eq_true rfl, Nat.le_of_ble_eq_true rfl⟩ (Nat.le_of_ble_eq_true rfl) d_X_define_134 ?_
        rintro _ rfl
        refine V_aload_n d_X_define_137 rfl rfl ?_
        refine V_iconst (v := (nI 0)) d_X_define_138 (by decide) ?_
        refine xp_ready (Or.inl rfl) d_X_define_139 ?_
        refine V_iload_n d_X_define_142 rfl rfl ?_
        refine V_iret d_X_define_143 rfl ?_
        rw [← hpost]
        refine ⟨fun z => absurd z h0, fun _ => ⟨rfl, fi, ?_, hfi⟩⟩
        refine Prod.ext ?_ rfl
        dsimp only [defS]
        congr 1
        refine ext4 rfl rfl rfl rfl (fun j hj => ?_)
        rw [st4_ge hj, st4_ge hj]
        simp only [upd]
        rw [st4_ge hj]
      · intro n hn ih fi x3 hfi
        obtain ⟨e5, l5⟩ := hlf n hn
        obtain ⟨e6, l6⟩ := hrf n hn
        refine V_iload_n d_X_define_70 rfl rfl ?_
        refine V_aload_n d_X_define_71 rfl rfl ?_
        refine xg_places d_X_define_72 ?_
        refine V_icmp_ge_f (tgt := 128) d_X_define_75 (by decide) (nI_ge hn (by omega)) ?_
        refine V_aload_n d_X_define_78 rfl rfl ?_
        refine xg_useFollow d_X_define_79 ?_
        refine V_iload_n d_X_define_82 rfl rfl ?_
        refine V_aload_n d_X_define_83 rfl rfl ?_
        refine xg_follow d_X_define_84 ?_
        refine V_iload_n d_X_define_87 rfl rfl ?_
        refine xl_follow (rfl) (by omega) d_X_define_88 ?_
        refine xs_useFollow (rfl) (by omega) d_X_define_89 ?_
        refine V_aload_n d_X_define_90 rfl rfl ?_
        refine xg_leftOf d_X_define_91 ?_
        refine V_iload_n d_X_define_94 rfl rfl ?_
        refine xl_leftOf (rfl) (by omega) d_X_define_95 ?_
        refine V_top (show _ = nI (lf n) from e5) ?_
        refine V_iconst (v := (nI 3)) d_X_define_96 (by decide) ?_
        refine V_imul d_X_define_97 (pk_mul _ _) ?_
        refine V_aload_n d_X_define_98 rfl rfl ?_
        refine xg_rightOf d_X_define_99 ?_
        refine V_iload_n d_X_define_102 rfl rfl ?_
        refine xl_rightOf (rfl) (by omega) d_X_define_103 ?_
        refine V_top (show _ = nI (rf n) from e6) ?_
        refine V_iadd d_X_define_104 (nI_add _ _) ?_
        refine V_istore_n d_X_define_105 rfl (by decide) ?_
        refine V_aload_n d_X_define_106 rfl rfl ?_
        refine xg_fits d_X_define_107 ?_
        refine V_iload_n d_X_define_110 rfl rfl ?_
        refine V_aload_n d_X_define_111 rfl rfl ?_
        refine xg_fits d_X_define_112 ?_
        refine V_iload_n d_X_define_115 rfl rfl ?_
        refine xl_fits (rfl) (by omega) d_X_define_116 ?_
        refine V_iconst (v := (nI 1)) d_X_define_117 (by decide) ?_
        refine V_iload_n d_X_define_118 rfl rfl ?_
        refine V_ishl d_X_define_119 (rfl) ?_
        refine V_ior d_X_define_120 (rfl) ?_
        refine xs_fits (rfl) (by omega) d_X_define_121 ?_
        refine V_at rfl rfl rfl (show _ = (upd (upd (upd (st4 S (nI h) (nI md) (nI ca) (nI np)) 11 (A 2 (h - 1))) 12 (A 3 (h - 1))) 13 (A 4 (h - 1)), setA (setA A 8 (swF (A 8) (A 7) 0 (n + 1))) 9 (upd fi (lf n * 3 + rf n) (fi (lf n * 3 + rf n) ||| nI 1 <<< (nI n &&& 31)))) from ?_) ?_
        · refine Prod.ext rfl ?_
          rw [← swF_s (Nat.zero_le n)]
          funext j
          by_cases h8 : j = 8
          · subst h8; rfl
          · by_cases h9 : j = 9
            · subst h9; rfl
            · dsimp only
              simp (disch := omega) only [updA_ne, setA_ne]
        refine V_iinc d_X_define_122 rfl (nI_1 _) (by decide) ?_
        refine V_goto (tgt := 70) d_X_define_125 (by decide) ?_
        refine ih _ _ (fun k hk p => ?_)
        by_cases ek : k = lf n * 3 + rf n
        · subst ek
          rw [pk_us, b_or, b_sh1 (by omega), Bool.or_eq_true, hfi _ hk, decide_eq_true_eq]
          constructor
          · rintro (⟨z1, z2⟩ | rfl)
            · exact ⟨by omega, z2⟩
            · exact ⟨by omega, rfl⟩
          · rintro ⟨z1, z2⟩
            by_cases e : p = n
            · exact Or.inr e
            · exact Or.inl ⟨by omega, z2⟩
        · rw [pk_un ek, hfi _ hk]
          constructor
          · rintro ⟨z1, z2⟩; exact ⟨by omega, z2⟩
          · rintro ⟨z1, z2⟩
            by_cases e : p = n
            · subst e; exact absurd z2.symm ek
            · exact ⟨by omega, z2⟩
    have loop1 : ∀ n, n ≤ 9 → ∀ (fi : Nat → Int32), (∀ k, k < n → fi k = nI 0) → (V p l e rm_X_define s m args below meth c R_X wX b_X_define 4 (some .int) D (xty k) A0 (xw q k) 0 0 (MQ below (va_Qi post (vB D (xty k) (xw q k) A0) A0) args s 0 0 A0) (49) ([some (.ref (q 0)), some (.int (nI (h - 1))), some (.int (nI n)), none]) ([]) ((upd (upd (upd (st4 S (nI h) (nI md) (nI ca) (nI np)) 11 (A 2 (h - 1))) 12 (A 3 (h - 1))) 13 (A 4 (h - 1)), setA A 9 fi))) := by
      refine dn 9 ?_ ?_
      · intro fi hfi
        refine V_iload_n d_X_define_49 rfl rfl ?_
        refine V_bipush (v := (nI 9)) d_X_define_50 (by decide) ?_
        refine V_icmp_ge_t (tgt := 68) d_X_define_52 (by decide) (nI_le (by omega) (by omega)) ?_
        refine V_iconst (v := (nI 0)) d_X_define_68 (by decide) ?_
        refine V_istore_n d_X_define_69 rfl (by decide) ?_
        refine V_at rfl rfl rfl (show _ = (upd (upd (upd (st4 S (nI h) (nI md) (nI ca) (nI np)) 11 (A 2 (h - 1))) 12 (A 3 (h - 1))) 13 (A 4 (h - 1)), setA (setA A 8 (swF (A 8) (A 7) 0 0)) 9 fi) by rw [swF_0, setA_self]) ?_
        exact loop2 0 (by omega) fi _ (fun k hk p => by rw [hfi k hk, b_n0]; simp)
      · intro n hn ih fi hfi
        refine V_iload_n d_X_define_49 rfl rfl ?_
        refine V_bipush (v := (nI 9)) d_X_define_50 (by decide) ?_
        refine V_icmp_ge_f (tgt := 68) d_X_define_52 (by decide) (nI_ge hn (by omega)) ?_
        refine V_aload_n d_X_define_55 rfl rfl ?_
        refine xg_fits d_X_define_56 ?_
        refine V_iload_n d_X_define_59 rfl rfl ?_
        refine V_iconst (v := (nI 0)) d_X_define_60 (by decide) ?_
        refine xs_fits (rfl) (by omega) d_X_define_61 ?_
        refine V_at rfl rfl rfl (show _ = (upd (upd (upd (st4 S (nI h) (nI md) (nI ca) (nI np)) 11 (A 2 (h - 1))) 12 (A 3 (h - 1))) 13 (A 4 (h - 1)), setA A 9 (upd fi n (nI 0))) from Prod.ext rfl (updA_setA _ _ _ _ _)) ?_
        refine V_iinc d_X_define_62 rfl (nI_1 _) (by decide) ?_
        refine V_goto (tgt := 49) d_X_define_65 (by decide) ?_
        refine ih _ (fun k hk => ?_)
        by_cases e : k = n
        · subst e; rw [pk_us]
        · rw [pk_un e]; exact hfi k (by omega)
    refine V_aload_n d_X_define_0 rfl rfl ?_
    refine xg_height d_X_define_1 ?_
    refine V_if_ne_t (tgt := 10) d_X_define_4 (by decide) (nI_ne0 (by omega) (by omega)) ?_
    refine V_aload_n d_X_define_10 rfl rfl ?_
    refine xg_height d_X_define_11 ?_
    refine V_iconst (v := (nI 1)) d_X_define_14 (by decide) ?_
    refine V_isub d_X_define_15 (pk_sub (by omega)) ?_
    refine V_istore_n d_X_define_16 rfl (by decide) ?_
    refine V_aload_n d_X_define_17 rfl rfl ?_
    refine V_aload_n d_X_define_18 rfl rfl ?_
    refine xg_first d_X_define_19 ?_
    refine V_iload_n d_X_define_22 rfl rfl ?_
    refine xl_first (rfl) (by omega) d_X_define_23 ?_
    refine xp_useFirst d_X_define_24 ?_
    refine V_aload_n d_X_define_27 rfl rfl ?_
    refine V_aload_n d_X_define_28 rfl rfl ?_
    refine xg_last d_X_define_29 ?_
    refine V_iload_n d_X_define_32 rfl rfl ?_
    refine xl_last (rfl) (by omega) d_X_define_33 ?_
    refine xp_useLast d_X_define_34 ?_
    refine V_aload_n d_X_define_37 rfl rfl ?_
    refine V_aload_n d_X_define_38 rfl rfl ?_
    refine xg_empty d_X_define_39 ?_
    refine V_iload_n d_X_define_42 rfl rfl ?_
    refine xl_empty (rfl) (by omega) d_X_define_43 ?_
    refine xp_useEmpty (bz hx) d_X_define_44 ?_
    refine V_iconst (v := (nI 0)) d_X_define_47 (by decide) ?_
    refine V_istore_n d_X_define_48 rfl (by decide) ?_
    refine V_at rfl rfl rfl (show _ = (upd (upd (upd (st4 S (nI h) (nI md) (nI ca) (nI np)) 11 (A 2 (h - 1))) 12 (A 3 (h - 1))) 13 (A 4 (h - 1)), setA A 9 (A 9)) from Prod.ext rfl (setA_self A 9).symm) ?_
    exact loop1 0 (by omega) _ (by omega)
end
section
/-! PairExpressionsModel: the small methods -/
def st3 (S : Nat → Int32) (a b c : Int32) : Nat → Int32 := fun j => match j with
  | 1 => a
  | 2 => b
  | 3 => c
  | j => S j
theorem ext3 {f g : Nat → Int32} (h0 : f 0 = g 0) (h1 : f 1 = g 1) (h2 : f 2 = g 2) (h3 : f 3 = g 3) (hr : ∀ j, 4 ≤ j → f j = g j) : f = g := ext4 h0 h1 h2 h3 hr
theorem st3_ge {S : Nat → Int32} {a b c : Int32} {j : Nat} (h : 4 ≤ j) : st3 S a b c j = S j := by
  obtain ⟨n, rfl⟩ := Nat.exists_eq_add_of_le' h
  rfl
def hdN (n p : Nat) : Nat := 2 ^ p - 1 + (n - (2 ^ lenN n - 1)) / 2 ^ (lenN n - p)
def tlN (n p : Nat) : Nat := 2 ^ (lenN n - p) - 1 + (n - (2 ^ lenN n - 1)) % 2 ^ (lenN n - p)
theorem ln_1 : ∀ n, n < 31 → ∀ k, k < 5 → 2 ^ k - 1 ≤ n → (k = 4 ∨ n < 2 ^ (k + 1) - 1) → lenN n = k := by decide +kernel
theorem ln_2 : ∀ n, n < 31 → 2 ^ lenN n - 1 ≤ n := by decide +kernel
theorem hd_lt : ∀ n, n < 31 → ∀ p, p < 5 → p ≤ lenN n → hdN n p < 31 := by decide +kernel
theorem tl_lt : ∀ n, n < 31 → ∀ p, p < 5 → p ≤ lenN n → tlN n p < 31 := by decide +kernel
set_option maxHeartbeats 4000000 in
theorem c_M_lenOf (u : XS) {n : Nat} (hn : n < 31) : C_M_lenOf [.int (nI n)] u (fun r u2 => u2 = u ∧ r = nI (lenN n)) := by
  generalize hpost : (fun (r : Int32) (u2 : XS) => u2 = u ∧ r = nI (lenN n)) = post
  refine e_M_lenOf ?_
  intro p l e s m args below meth c D q k A0
  have loop : ∀ k', k' ≤ 4 → 2 ^ k' - 1 ≤ n → (V p l e rm_M_lenOf s m args below meth c R_M wM b_M_lenOf 3 (some .int) D (mty k) A0 (mw q k) 0 0 (MQ below (va_Qi post (vB D (mty k) (mw q k) A0) A0) args s 0 0 A0) (2) ([some (.ref (q 0)), some (.int (nI n)), some (.int (nI k'))]) ([]) (u)) := by
    refine dn 4 ?_ ?_
    · intro h1
      refine V_iload_n d_M_lenOf_2 rfl rfl ?_
      refine V_iconst (v := (nI 4)) d_M_lenOf_3 (by decide) ?_
      refine V_icmp_ge_t (tgt := 24) d_M_lenOf_4 (by decide) (nI_le (by omega) (by omega)) ?_
      refine V_iload_n d_M_lenOf_24 rfl rfl ?_
      exact V_iret d_M_lenOf_25 rfl (by rw [← hpost]; exact ⟨rfl, by rw [ln_1 n hn 4 (by omega) h1 (Or.inl rfl)]⟩)
    · intro k' hk ih h1
      have hp : 2 ^ (k' + 1) ≤ 16 := pw_lt (by omega)
      refine V_iload_n d_M_lenOf_2 rfl rfl ?_
      refine V_iconst (v := (nI 4)) d_M_lenOf_3 (by decide) ?_
      refine V_icmp_ge_f (tgt := 24) d_M_lenOf_4 (by decide) (nI_ge hk (by omega)) ?_
      refine V_iconst (v := (nI 1)) d_M_lenOf_7 (by decide) ?_
      refine V_iload_n d_M_lenOf_8 rfl rfl ?_
      refine V_iconst (v := (nI 1)) d_M_lenOf_9 (by decide) ?_
      refine V_iadd d_M_lenOf_10 (nI_add _ _) ?_
      refine V_ishl d_M_lenOf_11 (nI_shl1 (by omega)) ?_
      refine V_iconst (v := (nI 1)) d_M_lenOf_12 (by decide) ?_
      refine V_isub d_M_lenOf_13 (pk_sub (Nat.one_le_two_pow)) ?_
      refine V_iload_n d_M_lenOf_14 rfl rfl ?_
      by_cases hc : n < 2 ^ (k' + 1) - 1
      ·
        refine V_icmp_gt_t (tgt := 24) d_M_lenOf_15 (by decide) (nI_lt hc (by omega)) ?_
        refine V_iload_n d_M_lenOf_24 rfl rfl ?_
        exact V_iret d_M_lenOf_25 rfl (by rw [← hpost]; exact ⟨rfl, by rw [ln_1 n hn k' (by omega) h1 (Or.inr hc)]⟩)
      ·
        refine V_icmp_gt_f (tgt := 24) d_M_lenOf_15 (by decide) (nI_nlt (by omega) (by omega)) ?_
        refine V_iinc d_M_lenOf_18 rfl (nI_1 _) (by decide) ?_
        refine V_goto (tgt := 2) d_M_lenOf_21 (by decide) ?_
        exact ih (by omega)
  refine V_iconst (v := (nI 0)) d_M_lenOf_0 (by decide) ?_
  refine V_istore_n d_M_lenOf_1 rfl (by decide) ?_
  exact loop 0 (by omega) (by omega)
set_option maxHeartbeats 4000000 in
theorem c_M_head (u : XS) {n p1 : Nat} (hn : n < 31) (hp : p1 ≤ lenN n) : C_M_head [.int (nI n), .int (nI p1)] u (fun r u2 => u2 = u ∧ r = nI (hdN n p1)) := by
  have h4 := lenN_le n
  have h2 := ln_2 n hn
  refine e_M_head ?_
  intro p l e s m args below meth c D q k A0
  refine V_aload_n d_M_head_0 rfl rfl ?_
  refine V_iload_n d_M_head_1 rfl rfl ?_
  refine v_M_lenOf (c_M_lenOf u hn) ⟨Nat.le_of_ble_eq_true rfl, Nat.le_of_ble_eq_true rfl⟩ (Nat.le_of_ble_eq_true rfl) d_M_head_2 ?_
  rintro r u ⟨rfl, rfl⟩
  refine V_istore_n d_M_head_5 rfl (by decide) ?_
  refine V_iload_n d_M_head_6 rfl rfl ?_
  refine V_iconst (v := (nI 1)) d_M_head_7 (by decide) ?_
  refine V_iload_n d_M_head_8 rfl rfl ?_
  refine V_ishl d_M_head_9 (nI_shl1 (by omega)) ?_
  refine V_iconst (v := (nI 1)) d_M_head_10 (by decide) ?_
  refine V_isub d_M_head_11 (pk_sub (Nat.one_le_two_pow)) ?_
  refine V_isub d_M_head_12 (pk_sub h2) ?_
  refine V_istore d_M_head_13 (by decide) ?_
  refine V_iconst (v := (nI 1)) d_M_head_15 (by decide) ?_
  refine V_iload_n d_M_head_16 rfl rfl ?_
  refine V_ishl d_M_head_17 (nI_shl1 (by omega)) ?_
  refine V_iconst (v := (nI 1)) d_M_head_18 (by decide) ?_
  refine V_isub d_M_head_19 (pk_sub (Nat.one_le_two_pow)) ?_
  refine V_iload d_M_head_20 rfl ?_
  refine V_iload_n d_M_head_22 rfl rfl ?_
  refine V_iload_n d_M_head_23 rfl rfl ?_
  refine V_isub d_M_head_24 (pk_sub hp) ?_
  refine V_ishr d_M_head_25 (nI_shr (by omega) (by omega)) ?_
  refine V_iadd d_M_head_26 (nI_add _ _) ?_
  exact V_iret d_M_head_27 rfl (⟨rfl, rfl⟩)
theorem nI_msk {a k : Nat} (ha : a < 2 ^ 32) (hk : k ≤ 4) : nI a &&& nI (2 ^ k - 1) = nI (a % 2 ^ k) := by
  have := pw_lt hk
  exact pk_andN ha k (pk_tn (by omega))
set_option maxHeartbeats 4000000 in
theorem c_M_tail (u : XS) {n p1 : Nat} (hn : n < 31) (hp : p1 ≤ lenN n) : C_M_tail [.int (nI n), .int (nI p1)] u (fun r u2 => u2 = u ∧ r = nI (tlN n p1)) := by
  have h4 := lenN_le n
  have h2 := ln_2 n hn
  refine e_M_tail ?_
  intro p l e s m args below meth c D q k A0
  refine V_aload_n d_M_tail_0 rfl rfl ?_
  refine V_iload_n d_M_tail_1 rfl rfl ?_
  refine v_M_lenOf (c_M_lenOf u hn) ⟨Nat.le_of_ble_eq_true rfl, Nat.le_of_ble_eq_true rfl⟩ (Nat.le_of_ble_eq_true rfl) d_M_tail_2 ?_
  rintro r u ⟨rfl, rfl⟩
  refine V_istore_n d_M_tail_5 rfl (by decide) ?_
  refine V_iload_n d_M_tail_6 rfl rfl ?_
  refine V_iconst (v := (nI 1)) d_M_tail_7 (by decide) ?_
  refine V_iload_n d_M_tail_8 rfl rfl ?_
  refine V_ishl d_M_tail_9 (nI_shl1 (by omega)) ?_
  refine V_iconst (v := (nI 1)) d_M_tail_10 (by decide) ?_
  refine V_isub d_M_tail_11 (pk_sub (Nat.one_le_two_pow)) ?_
  refine V_isub d_M_tail_12 (pk_sub h2) ?_
  refine V_istore d_M_tail_13 (by decide) ?_
  refine V_iload_n d_M_tail_15 rfl rfl ?_
  refine V_iload_n d_M_tail_16 rfl rfl ?_
  refine V_isub d_M_tail_17 (pk_sub hp) ?_
  refine V_istore d_M_tail_18 (by decide) ?_
  refine V_iconst (v := (nI 1)) d_M_tail_20 (by decide) ?_
  refine V_iload d_M_tail_21 rfl ?_
  refine V_ishl d_M_tail_23 (nI_shl1 (by omega)) ?_
  refine V_iconst (v := (nI 1)) d_M_tail_24 (by decide) ?_
  refine V_isub d_M_tail_25 (pk_sub (Nat.one_le_two_pow)) ?_
  refine V_iload d_M_tail_26 rfl ?_
  refine V_iconst (v := (nI 1)) d_M_tail_28 (by decide) ?_
  refine V_iload d_M_tail_29 rfl ?_
  refine V_ishl d_M_tail_31 (nI_shl1 (by omega)) ?_
  refine V_iconst (v := (nI 1)) d_M_tail_32 (by decide) ?_
  refine V_isub d_M_tail_33 (pk_sub (Nat.one_le_two_pow)) ?_
  refine V_iand d_M_tail_34 (nI_msk (by omega) (by omega)) ?_
  refine V_iadd d_M_tail_35 (nI_add _ _) ?_
  exact V_iret d_M_tail_36 rfl (⟨rfl, rfl⟩)
set_option maxHeartbeats 4000000 in
theorem c_M_has (u : XS) {r1 a v : Nat} (hr : r1 ≤ 7) (ha : a < 31) (hv : v < 31) : C_M_has [.int (nI r1), .int (nI a), .int (nI v)] u (fun r u2 => u2 = u ∧ r = bI (bt (u.2 1 (31 * r1 + a)) v)) := by
  refine e_M_has ?_
  intro p l e s m args below meth c D q k A0
  refine V_aload_n d_M_has_0 rfl rfl ?_
  refine mg_sets d_M_has_1 ?_
  refine V_bipush (v := (nI 31)) d_M_has_4 (by decide) ?_
  refine V_iload_n d_M_has_6 rfl rfl ?_
  refine V_imul d_M_has_7 (pk_mul _ _) ?_
  refine V_iload_n d_M_has_8 rfl rfl ?_
  refine V_iadd d_M_has_9 (nI_add _ _) ?_
  refine ml_sets (rfl) (by omega) d_M_has_10 ?_
  refine V_iload_n d_M_has_11 rfl rfl ?_
  refine V_ishr d_M_has_12 (rfl) ?_
  refine V_iconst (v := (nI 1)) d_M_has_13 (by decide) ?_
  refine V_iand d_M_has_14 (bit1 _ (by omega)) ?_
  refine V_iconst (v := (nI 1)) d_M_has_15 (by decide) ?_
  refine V_icmp_ne (tgt := 23) d_M_has_16 (by decide) (fun c_16 => ?_) (fun c_16 => ?_)
  · have hb : bt (u.2 1 (31 * r1 + a)) v = false := by
      cases hx : bt (u.2 1 (31 * r1 + a)) v
      · rfl
      · exact absurd (bI_1.mpr hx) c_16
    refine V_iconst (v := (nI 0)) d_M_has_23 (by decide) ?_
    exact V_zret d_M_has_24 rfl (rfl) (⟨rfl, by rw [hb]; rfl⟩)
  ·
    refine V_iconst (v := (nI 1)) d_M_has_19 (by decide) ?_
    refine V_goto (tgt := 24) d_M_has_20 (by decide) ?_
    exact V_zret d_M_has_24 rfl (rfl) (⟨rfl, c_16.symm⟩)
def clF (f : Nat → Int32) (r n : Nat) : Nat → Int32 := fun i => if 31 * r ≤ i ∧ i < 31 * r + n then nI 0 else f i
theorem clF_0 (f : Nat → Int32) (r : Nat) : clF f r 0 = f := by
  funext i
  exact if_neg (by omega)
theorem clF_s (f : Nat → Int32) (r n : Nat) : upd (clF f r n) (31 * r + n) (nI 0) = clF f r (n + 1) := by
  funext i
  unfold upd clF
  by_cases hi : i = 31 * r + n
  · subst hi
    simp
  · have : (31 * r ≤ i ∧ i < 31 * r + (n + 1)) ↔ (31 * r ≤ i ∧ i < 31 * r + n) := by omega
    simp [hi, this]
set_option maxHeartbeats 4000000 in
theorem c_M_clear (u : XS) {r1 : Nat} (hr : r1 ≤ 7) : C_M_clear [.int (nI r1)] u (fun u2 => u2 = (u.1, setA u.2 1 (clF (u.2 1) r1 31))) := by
  generalize hpost : (fun (u2 : XS) => u2 = (u.1, setA u.2 1 (clF (u.2 1) r1 31))) = post
  refine e_M_clear ?_
  intro p l e s m args below meth c D q k A0
  have loop : ∀ n, n ≤ 31 → (V p l e rm_M_clear s m args below meth c R_M wM b_M_clear 3 none D (mty k) A0 (mw q k) 0 0 (MQ below (va_Qv post (vB D (mty k) (mw q k) A0) A0) args s 0 0 A0) (2) ([some (.ref (q 0)), some (.int (nI r1)), some (.int (nI n))]) ([]) ((u.1, setA u.2 1 (clF (u.2 1) r1 n)))) := by
    refine dn 31 ?_ ?_
    ·
      refine V_iload_n d_M_clear_2 rfl rfl ?_
      refine V_bipush (v := (nI 31)) d_M_clear_3 (by decide) ?_
      refine V_icmp_ge_t (tgt := 26) d_M_clear_5 (by decide) (nI_le (by omega) (by omega)) ?_
      exact V_vret d_M_clear_26 rfl (by rw [← hpost])
    · intro n hn ih
      refine V_iload_n d_M_clear_2 rfl rfl ?_
      refine V_bipush (v := (nI 31)) d_M_clear_3 (by decide) ?_
      refine V_icmp_ge_f (tgt := 26) d_M_clear_5 (by decide) (nI_ge hn (by omega)) ?_
      refine V_aload_n d_M_clear_8 rfl rfl ?_
      refine mg_sets d_M_clear_9 ?_
      refine V_bipush (v := (nI 31)) d_M_clear_12 (by decide) ?_
      refine V_iload_n d_M_clear_14 rfl rfl ?_
      refine V_imul d_M_clear_15 (pk_mul _ _) ?_
      refine V_iload_n d_M_clear_16 rfl rfl ?_
      refine V_iadd d_M_clear_17 (nI_add _ _) ?_
      refine V_iconst (v := (nI 0)) d_M_clear_18 (by decide) ?_
      refine ms_sets (rfl) (by omega) d_M_clear_19 ?_
      refine V_at rfl rfl rfl (show _ = (u.1, setA u.2 1 (clF (u.2 1) r1 (n + 1))) from Prod.ext rfl ((updA_setA _ _ _ _ _).trans (by rw [clF_s]))) ?_
      refine V_iinc d_M_clear_20 rfl (nI_1 _) (by decide) ?_
      refine V_goto (tgt := 2) d_M_clear_23 (by decide) ?_
      exact ih
  refine V_iconst (v := (nI 0)) d_M_clear_0 (by decide) ?_
  refine V_istore_n d_M_clear_1 rfl (by decide) ?_
  refine V_at rfl rfl rfl (show u = (u.1, setA u.2 1 (clF (u.2 1) r1 0)) by rw [clF_0, setA_self]) ?_
  exact loop 0 (by omega)
def cpF (f : Nat → Int32) (a b n : Nat) : Nat → Int32 := fun i => if 31 * b ≤ i ∧ i < 31 * b + n then f (31 * a + (i - 31 * b)) else f i
theorem cpF_0 (f : Nat → Int32) (a b : Nat) : cpF f a b 0 = f := by
  funext i
  exact if_neg (by omega)
theorem cpF_s (f : Nat → Int32) {a b n : Nat} (hab : a ≠ b) (hn : n < 31) : upd (cpF f a b n) (31 * b + n) (cpF f a b n (31 * a + n)) = cpF f a b (n + 1) := by
  have h1 : cpF f a b n (31 * a + n) = f (31 * a + n) := if_neg (by omega)
  rw [h1]
  funext i
  unfold upd cpF
  by_cases hi : i = 31 * b + n
  · subst hi
    simp
  · have : (31 * b ≤ i ∧ i < 31 * b + (n + 1)) ↔ (31 * b ≤ i ∧ i < 31 * b + n) := by omega
    simp [hi, this]
set_option maxHeartbeats 4000000 in
theorem c_M_copy (u : XS) {a b1 : Nat} (ha : a ≤ 7) (hb : b1 ≤ 7) (hab : a ≠ b1) : C_M_copy [.int (nI a), .int (nI b1)] u (fun u2 => u2 = (u.1, setA u.2 1 (cpF (u.2 1) a b1 31))) := by
  generalize hpost : (fun (u2 : XS) => u2 = (u.1, setA u.2 1 (cpF (u.2 1) a b1 31))) = post
  refine e_M_copy ?_
  intro p l e s m args below meth c D q k A0
  have loop : ∀ n, n ≤ 31 → (V p l e rm_M_copy s m args below meth c R_M wM b_M_copy 4 none D (mty k) A0 (mw q k) 0 0 (MQ below (va_Qv post (vB D (mty k) (mw q k) A0) A0) args s 0 0 A0) (2) ([some (.ref (q 0)), some (.int (nI a)), some (.int (nI b1)), some (.int (nI n))]) ([]) ((u.1, setA u.2 1 (cpF (u.2 1) a b1 n)))) := by
    refine dn 31 ?_ ?_
    ·
      refine V_iload_n d_M_copy_2 rfl rfl ?_
      refine V_bipush (v := (nI 31)) d_M_copy_3 (by decide) ?_
      refine V_icmp_ge_t (tgt := 36) d_M_copy_5 (by decide) (nI_le (by omega) (by omega)) ?_
      exact V_vret d_M_copy_36 rfl (by rw [← hpost])
    · intro n hn ih
      refine V_iload_n d_M_copy_2 rfl rfl ?_
      refine V_bipush (v := (nI 31)) d_M_copy_3 (by decide) ?_
      refine V_icmp_ge_f (tgt := 36) d_M_copy_5 (by decide) (nI_ge hn (by omega)) ?_
      refine V_aload_n d_M_copy_8 rfl rfl ?_
      refine mg_sets d_M_copy_9 ?_
      refine V_bipush (v := (nI 31)) d_M_copy_12 (by decide) ?_
      refine V_iload_n d_M_copy_14 rfl rfl ?_
      refine V_imul d_M_copy_15 (pk_mul _ _) ?_
      refine V_iload_n d_M_copy_16 rfl rfl ?_
      refine V_iadd d_M_copy_17 (nI_add _ _) ?_
      refine V_aload_n d_M_copy_18 rfl rfl ?_
      refine mg_sets d_M_copy_19 ?_
      refine V_bipush (v := (nI 31)) d_M_copy_22 (by decide) ?_
      refine V_iload_n d_M_copy_24 rfl rfl ?_
      refine V_imul d_M_copy_25 (pk_mul _ _) ?_
      refine V_iload_n d_M_copy_26 rfl rfl ?_
      refine V_iadd d_M_copy_27 (nI_add _ _) ?_
      refine ml_sets (rfl) (by omega) d_M_copy_28 ?_
      refine ms_sets (rfl) (by omega) d_M_copy_29 ?_
      refine V_at rfl rfl rfl (show _ = (u.1, setA u.2 1 (cpF (u.2 1) a b1 (n + 1))) from Prod.ext rfl ((updA_setA _ _ _ _ _).trans (by rw [← cpF_s (u.2 1) hab hn]; rfl))) ?_
      refine V_iinc d_M_copy_30 rfl (nI_1 _) (by decide) ?_
      refine V_goto (tgt := 2) d_M_copy_33 (by decide) ?_
      exact ih
  refine V_iconst (v := (nI 0)) d_M_copy_0 (by decide) ?_
  refine V_istore_n d_M_copy_1 rfl (by decide) ?_
  refine V_at rfl rfl rfl (show u = (u.1, setA u.2 1 (cpF (u.2 1) a b1 0)) by rw [cpF_0, setA_self]) ?_
  exact loop 0 (by omega)
set_option maxHeartbeats 4000000 in
theorem c_M_put (u : XS) {r1 a v : Nat} (hr : r1 ≤ 7) (ha : a < 31) : C_M_put [.int (nI r1), .int (nI a), .int (nI v)] u (fun u2 => u2 = (u.1, setA u.2 1 (upd (u.2 1) (31 * r1 + a) (u.2 1 (31 * r1 + a) ||| nI 1 <<< (nI v &&& 31))))) := by
  refine e_M_put ?_
  intro p l e s m args below meth c D q k A0
  refine V_aload_n d_M_put_0 rfl rfl ?_
  refine mg_sets d_M_put_1 ?_
  refine V_bipush (v := (nI 31)) d_M_put_4 (by decide) ?_
  refine V_iload_n d_M_put_6 rfl rfl ?_
  refine V_imul d_M_put_7 (pk_mul _ _) ?_
  refine V_iload_n d_M_put_8 rfl rfl ?_
  refine V_iadd d_M_put_9 (nI_add _ _) ?_
  refine V_aload_n d_M_put_10 rfl rfl ?_
  refine mg_sets d_M_put_11 ?_
  refine V_bipush (v := (nI 31)) d_M_put_14 (by decide) ?_
  refine V_iload_n d_M_put_16 rfl rfl ?_
  refine V_imul d_M_put_17 (pk_mul _ _) ?_
  refine V_iload_n d_M_put_18 rfl rfl ?_
  refine V_iadd d_M_put_19 (nI_add _ _) ?_
  refine ml_sets (rfl) (by omega) d_M_put_20 ?_
  refine V_iconst (v := (nI 1)) d_M_put_21 (by decide) ?_
  refine V_iload_n d_M_put_22 rfl rfl ?_
  refine V_ishl d_M_put_23 (rfl) ?_
  refine V_ior d_M_put_24 (rfl) ?_
  refine ms_sets (rfl) (by omega) d_M_put_25 ?_
  exact V_vret d_M_put_26 rfl (rfl)
set_option maxHeartbeats 4000000 in
theorem c_M_isWord (u : XS) (a1 a2 : Int32) : C_M_isWord [.int a1, .int a2] u (fun r u2 => u2 = u ∧ ((r = nI 0 ∧ ¬ isW a1 a2) ∨ (r = nI 1 ∧ isW a1 a2))) := by
  refine e_M_isWord ?_
  intro p l e s m args below meth c D q k A0
  refine V_iload_n d_M_isWord_0 rfl rfl ?_
  refine V_if_lt (tgt := 24) d_M_isWord_1 (by decide) (fun c_1 => ?_) (fun c_1 => ?_)
  ·
    refine V_iconst (v := (nI 0)) d_M_isWord_24 (by decide) ?_
    exact V_zret d_M_isWord_25 rfl (rfl) (⟨rfl, Or.inl ⟨rfl, fun h => (isW_1 h).1 c_1⟩⟩)
  ·
    refine V_iload_n d_M_isWord_4 rfl rfl ?_
    refine V_iconst (v := (nI 4)) d_M_isWord_5 (by decide) ?_
    refine V_icmp_gt (tgt := 24) d_M_isWord_6 (by decide) (fun c_6 => ?_) (fun c_6 => ?_)
    ·
      refine V_iconst (v := (nI 0)) d_M_isWord_24 (by decide) ?_
      exact V_zret d_M_isWord_25 rfl (rfl) (⟨rfl, Or.inl ⟨rfl, fun h => (isW_1 h).2.1 c_6⟩⟩)
    ·
      refine V_iload_n d_M_isWord_9 rfl rfl ?_
      refine V_if_lt (tgt := 24) d_M_isWord_10 (by decide) (fun c_10 => ?_) (fun c_10 => ?_)
      ·
        refine V_iconst (v := (nI 0)) d_M_isWord_24 (by decide) ?_
        exact V_zret d_M_isWord_25 rfl (rfl) (⟨rfl, Or.inl ⟨rfl, fun h => Int32.not_lt.mpr (isW_1 h).2.2 c_10⟩⟩)
      · obtain ⟨L, hL, rfl, hw⟩ := isW_2 c_1 c_6 (Int32.not_lt.mp c_10)
        refine V_iload_n d_M_isWord_13 rfl rfl ?_
        refine V_iconst (v := (nI 1)) d_M_isWord_14 (by decide) ?_
        refine V_iload_n d_M_isWord_15 rfl rfl ?_
        refine V_ishl d_M_isWord_16 (nI_shl1 (by omega)) ?_
        refine V_icmp_ge (tgt := 24) d_M_isWord_17 (by decide) (fun c_17 => ?_) (fun c_17 => ?_)
        ·
          refine V_iconst (v := (nI 0)) d_M_isWord_24 (by decide) ?_
          exact V_zret d_M_isWord_25 rfl (rfl) (⟨rfl, Or.inl ⟨rfl, fun h => Int32.not_lt.mpr c_17 (hw.mpr h)⟩⟩)
        ·
          refine V_iconst (v := (nI 1)) d_M_isWord_20 (by decide) ?_
          refine V_goto (tgt := 25) d_M_isWord_21 (by decide) ?_
          exact V_zret d_M_isWord_25 rfl (rfl) (⟨rfl, Or.inr ⟨rfl, hw.mp (Int32.not_le.mp c_17)⟩⟩)
set_option maxHeartbeats 4000000 in
theorem c_M_steps (u : XS) : C_M_steps [] u (fun r u2 => u2 = u ∧ r = u.1 2) := by
  refine e_M_steps ?_
  intro p l e s m args below meth c D q k A0
  refine V_aload_n d_M_steps_0 rfl rfl ?_
  refine mg_steps d_M_steps_1 ?_
  exact V_iret d_M_steps_4 rfl (⟨rfl, rfl⟩)
set_option maxHeartbeats 4000000 in
theorem c_M_depth (u : XS) : C_M_depth [] u (fun r u2 => u2 = u ∧ r = u.1 1) := by
  refine e_M_depth ?_
  intro p l e s m args below meth c D q k A0
  refine V_aload_n d_M_depth_0 rfl rfl ?_
  refine mg_depth d_M_depth_1 ?_
  exact V_iret d_M_depth_4 rfl (⟨rfl, rfl⟩)
set_option maxHeartbeats 4000000 in
theorem c_M_discard (u : XS) : C_M_discard [] u (fun u2 => u2 = (st3 u.1 (nI 0) (nI 0) (nI 0), u.2)) := by
  refine e_M_discard ?_
  intro p l e s m args below meth c D q k A0
  refine V_aload_n d_M_discard_0 rfl rfl ?_
  refine V_iconst (v := (nI 0)) d_M_discard_1 (by decide) ?_
  refine mp_depth d_M_discard_2 ?_
  refine V_aload_n d_M_discard_5 rfl rfl ?_
  refine V_iconst (v := (nI 0)) d_M_discard_6 (by decide) ?_
  refine mp_steps d_M_discard_7 ?_
  refine V_aload_n d_M_discard_10 rfl rfl ?_
  refine V_iconst (v := (nI 0)) d_M_discard_11 (by decide) ?_
  refine mp_pushed d_M_discard_12 ?_
  refine V_vret d_M_discard_15 rfl ?_
  refine Prod.ext ?_ rfl
  exact ext4 rfl rfl rfl rfl (fun j hj => by dsimp only; simp (disch := omega) only [pk_un, st3_ge])
end
section
/-! PairExpressionsModel: cutsAt, cuts, the tests, pair -/
def ctK (f : Nat → Int32) (x y a v p q : Nat) : Prop := (0 < p + q ∨ y ≠ 7) ∧ bt (f (31 * x + hdN a p)) (hdN v q) = true ∧ bt (f (31 * y + tlN a p)) (tlN v q) = true
def ctF (f : Nat → Int32) (x y a v : Nat) : Prop := ∃ p, p ≤ lenN a ∧ ∃ q, q ≤ lenN v ∧ ctK f x y a v p q
set_option maxHeartbeats 8000000 in
theorem c_M_cutsAt (u : XS) {x y a v p1 : Nat} (hx : x ≤ 7) (hy : y ≤ 7) (ha : a < 31) (hv : v < 31) (hp : p1 ≤ lenN a) : C_M_cutsAt [.int (nI x), .int (nI y), .int (nI a), .int (nI v), .int (nI p1)] u (fun r u2 => u2 = u ∧ ((r = nI 1 ∧ ∃ q, q ≤ lenN v ∧ ctK (u.2 1) x y a v p1 q) ∨ (r = nI 0 ∧ ¬ ∃ q, q ≤ lenN v ∧ ctK (u.2 1) x y a v p1 q))) := by
  generalize hpost : (fun (r : Int32) (u2 : XS) => u2 = u ∧ ((r = nI 1 ∧ ∃ q, q ≤ lenN v ∧ ctK (u.2 1) x y a v p1 q) ∨ (r = nI 0 ∧ ¬ ∃ q, q ≤ lenN v ∧ ctK (u.2 1) x y a v p1 q))) = post
  have la := lenN_le a
  have lv := lenN_le v
  refine e_M_cutsAt ?_
  intro p l e s m args below meth c D q k A0
  have loop : ∀ n, n ≤ lenN v + 1 → ∀ x10 x11 x12 : Option Value, (∀ q', q' < n → ¬ ctK (u.2 1) x y a v p1 q') → (V p l e rm_M_cutsAt s m args below meth c R_M wM b_M_cutsAt 13 (some .boolean) D (mty k) A0 (mw q k) 0 0 (MQ below (va_Qi post (vB D (mty k) (mw q k) A0) A0) args s 0 0 A0) (29) ([some (.ref (q 0)), some (.int (nI x)), some (.int (nI y)), some (.int (nI a)), some (.int (nI v)), some (.int (nI p1)), some (.int (nI (hdN a p1))), some (.int (nI (tlN a p1))), some (.int (nI (lenN v))), some (.int (nI n)), x10, x11, x12]) ([]) (u)) := by
    refine dn (lenN v + 1) ?_ ?_
    · intro x10 x11 x12 hno
      refine V_iload d_M_cutsAt_29 rfl ?_
      refine V_iload d_M_cutsAt_31 rfl ?_
      refine V_icmp_gt_t (tgt := 114) d_M_cutsAt_33 (by decide) (nI_lt (by omega) (by omega)) ?_
      refine V_iconst (v := (nI 0)) d_M_cutsAt_114 (by decide) ?_
      exact V_zret d_M_cutsAt_115 rfl (rfl) (by rw [← hpost]; exact ⟨rfl, Or.inr ⟨rfl, fun ⟨q', h1, h2⟩ => hno q' (by omega) h2⟩⟩)
    · intro n hn ih x10 x11 x12 hno
      have e1 := hd_lt a ha p1 (by omega) hp
      have e2 := tl_lt a ha p1 (by omega) hp
      have e3 := hd_lt v hv n (by omega) (by omega)
      have e4 := tl_lt v hv n (by omega) (by omega)
      have J108 : ¬ ctK (u.2 1) x y a v p1 n → ∀ x10 x11 x12 : Option Value, (V p l e rm_M_cutsAt s m args below meth c R_M wM b_M_cutsAt 13 (some .boolean) D (mty k) A0 (mw q k) 0 0 (MQ below (va_Qi post (vB D (mty k) (mw q k) A0) A0) args s 0 0 A0) (108) ([some (.ref (q 0)), some (.int (nI x)), some (.int (nI y)), some (.int (nI a)), some (.int (nI v)), some (.int (nI p1)), some (.int (nI (hdN a p1))), some (.int (nI (tlN a p1))), some (.int (nI (lenN v))), some (.int (nI n)), x10, x11, x12]) ([]) (u)) := by
        intro hk x10 x11 x12
        refine V_iinc d_M_cutsAt_108 rfl (nI_1 _) (by decide) ?_
        refine V_goto (tgt := 29) d_M_cutsAt_111 (by decide) ?_
        refine ih _ _ _ (fun q' h1 => ?_)
        by_cases e : q' = n
        · subst e; exact hk
        · exact hno q' (by omega)
      have J55 : ∀ b1 : Bool, (b1 = true ↔ (0 < p1 + n ∨ y ≠ 7)) → (V p l e rm_M_cutsAt s m args below meth c R_M wM b_M_cutsAt 13 (some .boolean) D (mty k) A0 (mw q k) 0 0 (MQ below (va_Qi post (vB D (mty k) (mw q k) A0) A0) args s 0 0 A0) (55) ([some (.ref (q 0)), some (.int (nI x)), some (.int (nI y)), some (.int (nI a)), some (.int (nI v)), some (.int (nI p1)), some (.int (nI (hdN a p1))), some (.int (nI (tlN a p1))), some (.int (nI (lenN v))), some (.int (nI n)), x10, x11, x12]) ([.int (bI b1)]) (u)) := by
        intro b1 hb
        refine V_istore d_M_cutsAt_55 (by decide) ?_
        refine V_aload_n d_M_cutsAt_57 rfl rfl ?_
        refine V_iload d_M_cutsAt_58 rfl ?_
        refine V_iload d_M_cutsAt_60 rfl ?_
        refine v_M_head (c_M_head u hv (by omega)) ⟨Nat.le_of_ble_eq_true rfl, Nat.le_of_ble_eq_true rfl⟩ (Nat.le_of_ble_eq_true rfl) d_M_cutsAt_62 ?_
        rintro r u ⟨rfl, rfl⟩
        refine V_istore d_M_cutsAt_65 (by decide) ?_
        refine V_aload_n d_M_cutsAt_67 rfl rfl ?_
        refine V_iload d_M_cutsAt_68 rfl ?_
        refine V_iload d_M_cutsAt_70 rfl ?_
        refine v_M_tail (c_M_tail u hv (by omega)) ⟨Nat.le_of_ble_eq_true rfl, Nat.le_of_ble_eq_true rfl⟩ (Nat.le_of_ble_eq_true rfl) d_M_cutsAt_72 ?_
        rintro r u ⟨rfl, rfl⟩
        cases b1
        ·
          refine V_istore d_M_cutsAt_75 (by decide) ?_
          refine V_iload d_M_cutsAt_77 rfl ?_
          refine V_if_eq_t (tgt := 108) d_M_cutsAt_79 (by decide) (rfl) ?_
          exact J108 (fun h => absurd (hb.mpr h.1) (by decide)) _ _ _
        ·
          refine V_istore d_M_cutsAt_75 (by decide) ?_
          refine V_iload d_M_cutsAt_77 rfl ?_
          refine V_if_eq_f (tgt := 108) d_M_cutsAt_79 (by decide) (by decide) ?_
          refine V_aload_n d_M_cutsAt_82 rfl rfl ?_
          refine V_iload_n d_M_cutsAt_83 rfl rfl ?_
          refine V_iload d_M_cutsAt_84 rfl ?_
          refine V_iload d_M_cutsAt_86 rfl ?_
          refine v_M_has (c_M_has u hx e1 e3) ⟨Nat.le_of_ble_eq_true rfl, Nat.le_of_ble_eq_true rfl⟩ (Nat.le_of_ble_eq_true rfl) d_M_cutsAt_88 ?_
          rintro r u ⟨rfl, rfl⟩
          cases h1 : bt (u.2 1 (31 * x + hdN a p1)) (hdN v n)
          ·
            refine V_if_eq_t (tgt := 108) d_M_cutsAt_91 (by decide) (rfl) ?_
            exact J108 (fun h => by rw [h.2.1] at h1; cases h1) _ _ _
          ·
            refine V_if_eq_f (tgt := 108) d_M_cutsAt_91 (by decide) (by decide) ?_
            refine V_aload_n d_M_cutsAt_94 rfl rfl ?_
            refine V_iload_n d_M_cutsAt_95 rfl rfl ?_
            refine V_iload d_M_cutsAt_96 rfl ?_
            refine V_iload d_M_cutsAt_98 rfl ?_
            refine v_M_has (c_M_has u hy e2 e4) ⟨Nat.le_of_ble_eq_true rfl, Nat.le_of_ble_eq_true rfl⟩ (Nat.le_of_ble_eq_true rfl) d_M_cutsAt_100 ?_
            rintro r u ⟨rfl, rfl⟩
            cases h2 : bt (u.2 1 (31 * y + tlN a p1)) (tlN v n)
            ·
              refine V_if_eq_t (tgt := 108) d_M_cutsAt_103 (by decide) (rfl) ?_
              exact J108 (fun h => by rw [h.2.2] at h2; cases h2) _ _ _
            ·
              refine V_if_eq_f (tgt := 108) d_M_cutsAt_103 (by decide) (by decide) ?_
              refine V_iconst (v := (nI 1)) d_M_cutsAt_106 (by decide) ?_
              exact V_zret d_M_cutsAt_107 rfl (rfl) (by rw [← hpost]; exact ⟨rfl, Or.inl ⟨rfl, n, by omega, hb.mp rfl, h1, h2⟩⟩)
      by_cases k1 : 0 < p1 + n
      ·
        refine V_iload d_M_cutsAt_29 rfl ?_
        refine V_iload d_M_cutsAt_31 rfl ?_
        refine V_icmp_gt_f (tgt := 114) d_M_cutsAt_33 (by decide) (nI_nlt (by omega) (by omega)) ?_
        refine V_iload d_M_cutsAt_36 rfl ?_
        refine V_iload d_M_cutsAt_38 rfl ?_
        refine V_iadd d_M_cutsAt_40 (nI_add _ _) ?_
        refine V_if_gt_t (tgt := 50) d_M_cutsAt_41 (by decide) (nI_lt (a := 0) k1 (by omega)) ?_
        refine V_iconst (v := (nI 1)) d_M_cutsAt_50 (by decide) ?_
        refine V_goto (tgt := 55) d_M_cutsAt_51 (by decide) ?_
        exact J55 true ⟨fun _ => Or.inl k1, fun _ => rfl⟩
      · by_cases k2 : y = 7
        ·
          refine V_iload d_M_cutsAt_29 rfl ?_
          refine V_iload d_M_cutsAt_31 rfl ?_
          refine V_icmp_gt_f (tgt := 114) d_M_cutsAt_33 (by decide) (nI_nlt (by omega) (by omega)) ?_
          refine V_iload d_M_cutsAt_36 rfl ?_
          refine V_iload d_M_cutsAt_38 rfl ?_
          refine V_iadd d_M_cutsAt_40 (nI_add _ _) ?_
          refine V_if_gt_f (tgt := 50) d_M_cutsAt_41 (by decide) (nI_nlt (a := 0) (by omega) (by omega)) ?_
          refine V_iload_n d_M_cutsAt_44 rfl rfl ?_
          refine V_bipush (v := (nI 7)) d_M_cutsAt_45 (by decide) ?_
          refine V_icmp_eq_t (tgt := 54) d_M_cutsAt_47 (by decide) (by rw [k2]) ?_
          refine V_iconst (v := (nI 0)) d_M_cutsAt_54 (by decide) ?_
          exact J55 false ⟨fun h => (by cases h), fun h => h.elim (fun z => absurd z k1) (fun z => absurd k2 z)⟩
        ·
          refine V_iload d_M_cutsAt_29 rfl ?_
          refine V_iload d_M_cutsAt_31 rfl ?_
          refine V_icmp_gt_f (tgt := 114) d_M_cutsAt_33 (by decide) (nI_nlt (by omega) (by omega)) ?_
          refine V_iload d_M_cutsAt_36 rfl ?_
          refine V_iload d_M_cutsAt_38 rfl ?_
          refine V_iadd d_M_cutsAt_40 (nI_add _ _) ?_
          refine V_if_gt_f (tgt := 50) d_M_cutsAt_41 (by decide) (nI_nlt (a := 0) (by omega) (by omega)) ?_
          refine V_iload_n d_M_cutsAt_44 rfl rfl ?_
          refine V_bipush (v := (nI 7)) d_M_cutsAt_45 (by decide) ?_
          refine V_icmp_eq_f (tgt := 54) d_M_cutsAt_47 (by decide) (fun z => k2 ((nI_eq (by omega) (by omega)).mp z)) ?_
          refine V_iconst (v := (nI 1)) d_M_cutsAt_50 (by decide) ?_
          refine V_goto (tgt := 55) d_M_cutsAt_51 (by decide) ?_
          exact J55 true ⟨fun _ => Or.inr k2, fun _ => rfl⟩
  refine V_aload_n d_M_cutsAt_0 rfl rfl ?_
  refine V_iload_n d_M_cutsAt_1 rfl rfl ?_
  refine V_iload d_M_cutsAt_2 rfl ?_
  refine v_M_head (c_M_head u ha hp) ⟨Nat.le_of_ble_eq_true rfl, Nat.le_of_ble_eq_true rfl⟩ (Nat.le_of_ble_eq_true rfl) d_M_cutsAt_4 ?_
  rintro r u ⟨rfl, rfl⟩
  refine V_istore d_M_cutsAt_7 (by decide) ?_
  refine V_aload_n d_M_cutsAt_9 rfl rfl ?_
  refine V_iload_n d_M_cutsAt_10 rfl rfl ?_
  refine V_iload d_M_cutsAt_11 rfl ?_
  refine v_M_tail (c_M_tail u ha hp) ⟨Nat.le_of_ble_eq_true rfl, Nat.le_of_ble_eq_true rfl⟩ (Nat.le_of_ble_eq_true rfl) d_M_cutsAt_13 ?_
  rintro r u ⟨rfl, rfl⟩
  refine V_istore d_M_cutsAt_16 (by decide) ?_
  refine V_aload_n d_M_cutsAt_18 rfl rfl ?_
  refine V_iload d_M_cutsAt_19 rfl ?_
  refine v_M_lenOf (c_M_lenOf u hv) ⟨Nat.le_of_ble_eq_true rfl, Nat.le_of_ble_eq_true rfl⟩ (Nat.le_of_ble_eq_true rfl) d_M_cutsAt_21 ?_
  rintro r u ⟨rfl, rfl⟩
  refine V_istore d_M_cutsAt_24 (by decide) ?_
  refine V_iconst (v := (nI 0)) d_M_cutsAt_26 (by decide) ?_
  refine V_istore d_M_cutsAt_27 (by decide) ?_
  exact loop 0 (by omega) _ _ _ (by omega)
set_option maxHeartbeats 8000000 in
theorem c_M_cuts (u : XS) {x y a v : Nat} (hx : x ≤ 7) (hy : y ≤ 7) (ha : a < 31) (hv : v < 31) : C_M_cuts [.int (nI x), .int (nI y), .int (nI a), .int (nI v)] u (fun r u2 => u2 = u ∧ ((r = nI 1 ∧ ctF (u.2 1) x y a v) ∨ (r = nI 0 ∧ ¬ ctF (u.2 1) x y a v))) := by
  generalize hpost : (fun (r : Int32) (u2 : XS) => u2 = u ∧ ((r = nI 1 ∧ ctF (u.2 1) x y a v) ∨ (r = nI 0 ∧ ¬ ctF (u.2 1) x y a v))) = post
  have la := lenN_le a
  refine e_M_cuts ?_
  intro p l e s m args below meth c D q k A0
  have loop : ∀ n, n ≤ lenN a + 1 → (∀ p', p' < n → ¬ ∃ q, q ≤ lenN v ∧ ctK (u.2 1) x y a v p' q) → (V p l e rm_M_cuts s m args below meth c R_M wM b_M_cuts 7 (some .boolean) D (mty k) A0 (mw q k) 0 0 (MQ below (va_Qi post (vB D (mty k) (mw q k) A0) A0) args s 0 0 A0) (10) ([some (.ref (q 0)), some (.int (nI x)), some (.int (nI y)), some (.int (nI a)), some (.int (nI v)), some (.int (nI (lenN a))), some (.int (nI n))]) ([]) (u)) := by
    refine dn (lenN a + 1) ?_ ?_
    · intro hno
      refine V_iload d_M_cuts_10 rfl ?_
      refine V_iload d_M_cuts_12 rfl ?_
      refine V_icmp_gt_t (tgt := 39) d_M_cuts_14 (by decide) (nI_lt (by omega) (by omega)) ?_
      refine V_iconst (v := (nI 0)) d_M_cuts_39 (by decide) ?_
      exact V_zret d_M_cuts_40 rfl (rfl) (by rw [← hpost]; exact ⟨rfl, Or.inr ⟨rfl, fun ⟨p', h1, h2⟩ => hno p' (by omega) h2⟩⟩)
    · intro n hn ih hno
      refine V_iload d_M_cuts_10 rfl ?_
      refine V_iload d_M_cuts_12 rfl ?_
      refine V_icmp_gt_f (tgt := 39) d_M_cuts_14 (by decide) (nI_nlt (by omega) (by omega)) ?_
      refine V_aload_n d_M_cuts_17 rfl rfl ?_
      refine V_iload_n d_M_cuts_18 rfl rfl ?_
      refine V_iload_n d_M_cuts_19 rfl rfl ?_
      refine V_iload_n d_M_cuts_20 rfl rfl ?_
      refine V_iload d_M_cuts_21 rfl ?_
      refine V_iload d_M_cuts_23 rfl ?_
      refine v_M_cutsAt (c_M_cutsAt u hx hy ha hv (by omega)) ⟨Nat.le_of_ble_eq_true rfl, Nat.le_of_ble_eq_true rfl⟩ (Nat.le_of_ble_eq_true rfl) d_M_cuts_25 ?_
      rintro r u ⟨rfl, ⟨rfl, h1⟩ | ⟨rfl, h1⟩⟩
      ·
        refine V_if_eq_f (tgt := 33) d_M_cuts_28 (by decide) (by decide) ?_
        refine V_iconst (v := (nI 1)) d_M_cuts_31 (by decide) ?_
        exact V_zret d_M_cuts_32 rfl (rfl) (by rw [← hpost]; exact ⟨rfl, Or.inl ⟨rfl, n, by omega, h1⟩⟩)
      ·
        refine V_if_eq_t (tgt := 33) d_M_cuts_28 (by decide) (rfl) ?_
        refine V_iinc d_M_cuts_33 rfl (nI_1 _) (by decide) ?_
        refine V_goto (tgt := 10) d_M_cuts_36 (by decide) ?_
        refine ih (fun p' h2 => ?_)
        by_cases e : p' = n
        · subst e; exact h1
        · exact hno p' (by omega)
  refine V_aload_n d_M_cuts_0 rfl rfl ?_
  refine V_iload_n d_M_cuts_1 rfl rfl ?_
  refine v_M_lenOf (c_M_lenOf u ha) ⟨Nat.le_of_ble_eq_true rfl, Nat.le_of_ble_eq_true rfl⟩ (Nat.le_of_ble_eq_true rfl) d_M_cuts_2 ?_
  rintro r u ⟨rfl, rfl⟩
  refine V_istore d_M_cuts_5 (by decide) ?_
  refine V_iconst (v := (nI 0)) d_M_cuts_7 (by decide) ?_
  refine V_istore d_M_cuts_8 (by decide) ?_
  exact loop 0 (by omega) (by omega)
set_option maxHeartbeats 4000000 in
theorem c_M_testPair (S : Nat → Int32) (A : Nat → Nat → Int32) {d sp pu : Nat} (hd : d ≤ 6) (hsp : sp ≤ 18) : C_M_testPair [] (st3 S (nI d) (nI sp) (nI pu), A) (fun r u2 => u2 = (st3 S (nI d) (nI sp) (nI pu), A) ∧ ((sp = 18 ∧ r = -2) ∨ (¬ sp = 18 ∧ d < 2 ∧ r = -3) ∨ (¬ sp = 18 ∧ 2 ≤ d ∧ r = nI 0))) := by
  refine e_M_testPair ?_
  intro p l e s m args below meth c D q k A0
  by_cases h1 : sp = 18
  ·
    refine V_aload_n d_M_testPair_0 rfl rfl ?_
    refine mg_steps d_M_testPair_1 ?_
    refine V_bipush (v := (nI 18)) d_M_testPair_4 (by decide) ?_
    refine V_icmp_ne_f (tgt := 12) d_M_testPair_6 (by decide) (by rw [h1]; rfl) ?_
    refine V_bipush (v := (-2)) d_M_testPair_9 (by decide) ?_
    exact V_iret d_M_testPair_11 rfl (⟨rfl, Or.inl ⟨h1, rfl⟩⟩)
  · by_cases h2 : 2 ≤ d
    ·
      refine V_aload_n d_M_testPair_0 rfl rfl ?_
      refine mg_steps d_M_testPair_1 ?_
      refine V_bipush (v := (nI 18)) d_M_testPair_4 (by decide) ?_
      refine V_icmp_ne_t (tgt := 12) d_M_testPair_6 (by decide) (fun z => h1 ((nI_eq (by omega) (by omega)).mp z)) ?_
      refine V_aload_n d_M_testPair_12 rfl rfl ?_
      refine mg_depth d_M_testPair_13 ?_
      refine V_iconst (v := (nI 2)) d_M_testPair_16 (by decide) ?_
      refine V_icmp_ge_t (tgt := 25) d_M_testPair_17 (by decide) (nI_le h2 (by omega)) ?_
      refine V_iconst (v := (nI 0)) d_M_testPair_25 (by decide) ?_
      exact V_iret d_M_testPair_26 rfl (⟨rfl, Or.inr (Or.inr ⟨h1, h2, rfl⟩)⟩)
    ·
      refine V_aload_n d_M_testPair_0 rfl rfl ?_
      refine mg_steps d_M_testPair_1 ?_
      refine V_bipush (v := (nI 18)) d_M_testPair_4 (by decide) ?_
      refine V_icmp_ne_t (tgt := 12) d_M_testPair_6 (by decide) (fun z => h1 ((nI_eq (by omega) (by omega)).mp z)) ?_
      refine V_aload_n d_M_testPair_12 rfl rfl ?_
      refine mg_depth d_M_testPair_13 ?_
      refine V_iconst (v := (nI 2)) d_M_testPair_16 (by decide) ?_
      refine V_icmp_ge_f (tgt := 25) d_M_testPair_17 (by decide) (nI_ge (by omega) (by omega)) ?_
      refine V_bipush (v := (-3)) d_M_testPair_20 (by decide) ?_
      refine V_goto (tgt := 26) d_M_testPair_22 (by decide) ?_
      exact V_iret d_M_testPair_26 rfl (⟨rfl, Or.inr (Or.inl ⟨h1, by omega, rfl⟩)⟩)
set_option maxHeartbeats 4000000 in
theorem c_M_testOne (S : Nat → Int32) (A : Nat → Nat → Int32) {d sp pu : Nat} (hd : d ≤ 6) (hsp : sp ≤ 18) : C_M_testOne [] (st3 S (nI d) (nI sp) (nI pu), A) (fun r u2 => u2 = (st3 S (nI d) (nI sp) (nI pu), A) ∧ ((sp = 18 ∧ r = -2) ∨ (¬ sp = 18 ∧ d < 1 ∧ r = -3) ∨ (¬ sp = 18 ∧ 1 ≤ d ∧ r = nI 0))) := by
  refine e_M_testOne ?_
  intro p l e s m args below meth c D q k A0
  by_cases h1 : sp = 18
  ·
    refine V_aload_n d_M_testOne_0 rfl rfl ?_
    refine mg_steps d_M_testOne_1 ?_
    refine V_bipush (v := (nI 18)) d_M_testOne_4 (by decide) ?_
    refine V_icmp_ne_f (tgt := 12) d_M_testOne_6 (by decide) (by rw [h1]; rfl) ?_
    refine V_bipush (v := (-2)) d_M_testOne_9 (by decide) ?_
    exact V_iret d_M_testOne_11 rfl (⟨rfl, Or.inl ⟨h1, rfl⟩⟩)
  · by_cases h2 : 1 ≤ d
    ·
      refine V_aload_n d_M_testOne_0 rfl rfl ?_
      refine mg_steps d_M_testOne_1 ?_
      refine V_bipush (v := (nI 18)) d_M_testOne_4 (by decide) ?_
      refine V_icmp_ne_t (tgt := 12) d_M_testOne_6 (by decide) (fun z => h1 ((nI_eq (by omega) (by omega)).mp z)) ?_
      refine V_aload_n d_M_testOne_12 rfl rfl ?_
      refine mg_depth d_M_testOne_13 ?_
      refine V_if_ne_t (tgt := 24) d_M_testOne_16 (by decide) (nI_ne0 h2 (by omega)) ?_
      refine V_iconst (v := (nI 0)) d_M_testOne_24 (by decide) ?_
      exact V_iret d_M_testOne_25 rfl (⟨rfl, Or.inr (Or.inr ⟨h1, h2, rfl⟩)⟩)
    ·
      refine V_aload_n d_M_testOne_0 rfl rfl ?_
      refine mg_steps d_M_testOne_1 ?_
      refine V_bipush (v := (nI 18)) d_M_testOne_4 (by decide) ?_
      refine V_icmp_ne_t (tgt := 12) d_M_testOne_6 (by decide) (fun z => h1 ((nI_eq (by omega) (by omega)).mp z)) ?_
      refine V_aload_n d_M_testOne_12 rfl rfl ?_
      refine mg_depth d_M_testOne_13 ?_
      refine V_if_ne_f (tgt := 24) d_M_testOne_16 (by decide) (by rw [show d = 0 by omega]; rfl) ?_
      refine V_bipush (v := (-3)) d_M_testOne_19 (by decide) ?_
      refine V_goto (tgt := 25) d_M_testOne_21 (by decide) ?_
      exact V_iret d_M_testOne_25 rfl (⟨rfl, Or.inr (Or.inl ⟨h1, by omega, rfl⟩)⟩)
def wd1 (x : Nat) : Nat := if x = 2 then 0 else 1 + x
theorem wd1_lt {x : Nat} (h : x ≤ 2) : wd1 x < 31 := by
  unfold wd1
  split <;> omega
def mpairF (f : Nat → Int32) (d x y : Nat) : Nat → Int32 := upd (clF f d 31) (31 * d + wd1 x) (clF f d 31 (31 * d + wd1 x) ||| nI 1 <<< (nI (wd1 y) &&& 31))
set_option maxHeartbeats 8000000 in
theorem c_M_pair (S : Nat → Int32) (A : Nat → Nat → Int32) {d sp pu : Nat} (hd : d ≤ 6) (hsp : sp ≤ 18) (hpu : pu ≤ 9) (a1 a2 : Int32) : C_M_pair [.int a1, .int a2] (st3 S (nI d) (nI sp) (nI pu), A) (fun r u2 => (¬ (in3 a1 ∧ in3 a2) → r = -1 ∧ u2 = (st3 S (nI d) (nI sp) (nI pu), A)) ∧ ∀ x y, x ≤ 2 → y ≤ 2 → a1 = nI x → a2 = nI y → ((sp = 18 ∨ d = 6 ∨ pu = 9) → r = -2 ∧ u2 = (st3 S (nI d) (nI sp) (nI pu), A)) ∧ (¬ (sp = 18 ∨ d = 6 ∨ pu = 9) → r = nI (d + 1) ∧ u2 = (st3 S (nI (d + 1)) (nI (sp + 1)) (nI (pu + 1)), setA A 1 (mpairF (A 1) d x y)))) := by
  by_cases h1 : in3 a1
  · by_cases h2 : in3 a2
    · obtain ⟨x, hx, rfl⟩ := h1
      obtain ⟨y, hy, rfl⟩ := h2
      have e1 := in3_1 ⟨x, hx, rfl⟩
      have e2 := in3_1 ⟨y, hy, rfl⟩
      generalize hpost : (fun (r : Int32) (u2 : XS) => (¬ (in3 (nI x) ∧ in3 (nI y)) → r = -1 ∧ u2 = (st3 S (nI d) (nI sp) (nI pu), A)) ∧ ∀ x' y', x' ≤ 2 → y' ≤ 2 → nI x = nI x' → nI y = nI y' → ((sp = 18 ∨ d = 6 ∨ pu = 9) → r = -2 ∧ u2 = (st3 S (nI d) (nI sp) (nI pu), A)) ∧ (¬ (sp = 18 ∨ d = 6 ∨ pu = 9) → r = nI (d + 1) ∧ u2 = (st3 S (nI (d + 1)) (nI (sp + 1)) (nI (pu + 1)), setA A 1 (mpairF (A 1) d x' y')))) = post
      have hok : ∀ (r : Int32) (u2 : XS), ((sp = 18 ∨ d = 6 ∨ pu = 9) → r = -2 ∧ u2 = (st3 S (nI d) (nI sp) (nI pu), A)) → (¬ (sp = 18 ∨ d = 6 ∨ pu = 9) → r = nI (d + 1) ∧ u2 = (st3 S (nI (d + 1)) (nI (sp + 1)) (nI (pu + 1)), setA A 1 (mpairF (A 1) d x y))) → post r u2 := by
        intro r u2 g1 g2
        rw [← hpost]
        refine ⟨fun z => absurd ⟨⟨x, hx, rfl⟩, ⟨y, hy, rfl⟩⟩ z, fun x' y' hx' hy' q1 q2 => ?_⟩
        rw [← (nI_eq (by omega) (by omega)).mp q1, ← (nI_eq (by omega) (by omega)).mp q2]
        exact ⟨g1, g2⟩
      refine e_M_pair ?_
      intro p l e s m args below meth c D q k A0
      refine V_iload_n d_M_pair_0 rfl rfl ?_
      refine V_if_lt_f (tgt := 18) d_M_pair_1 (by decide) (e1.1) ?_
      refine V_iload_n d_M_pair_4 rfl rfl ?_
      refine V_iconst (v := (nI 2)) d_M_pair_5 (by decide) ?_
      refine V_icmp_gt_f (tgt := 18) d_M_pair_6 (by decide) (e1.2.1) ?_
      refine V_iload_n d_M_pair_9 rfl rfl ?_
      refine V_if_lt_f (tgt := 18) d_M_pair_10 (by decide) (e2.1) ?_
      refine V_iload_n d_M_pair_13 rfl rfl ?_
      refine V_iconst (v := (nI 2)) d_M_pair_14 (by decide) ?_
      refine V_icmp_le_t (tgt := 20) d_M_pair_15 (by decide) (e2.2.2) ?_
      refine V_aload_n d_M_pair_20 rfl rfl ?_
      refine mg_steps d_M_pair_21 ?_
      refine V_bipush (v := (nI 18)) d_M_pair_24 (by decide) ?_
      by_cases k1 : sp = 18
      ·
        refine V_icmp_eq_t (tgt := 47) d_M_pair_26 (by decide) (by rw [k1]; rfl) ?_
        refine V_bipush (v := (-2)) d_M_pair_47 (by decide) ?_
        exact V_iret d_M_pair_49 rfl (hok _ _ (fun _ => ⟨rfl, rfl⟩) (fun z => absurd (Or.inl k1) z))
      ·
        refine V_icmp_eq_f (tgt := 47) d_M_pair_26 (by decide) (fun z => k1 ((nI_eq (by omega) (by omega)).mp z)) ?_
        refine V_aload_n d_M_pair_29 rfl rfl ?_
        refine mg_depth d_M_pair_30 ?_
        refine V_bipush (v := (nI 6)) d_M_pair_33 (by decide) ?_
        by_cases k2 : d = 6
        ·
          refine V_icmp_eq_t (tgt := 47) d_M_pair_35 (by decide) (by rw [k2]; rfl) ?_
          refine V_bipush (v := (-2)) d_M_pair_47 (by decide) ?_
          exact V_iret d_M_pair_49 rfl (hok _ _ (fun _ => ⟨rfl, rfl⟩) (fun z => absurd (Or.inr (Or.inl k2)) z))
        ·
          refine V_icmp_eq_f (tgt := 47) d_M_pair_35 (by decide) (fun z => k2 ((nI_eq (by omega) (by omega)).mp z)) ?_
          refine V_aload_n d_M_pair_38 rfl rfl ?_
          refine mg_pushed d_M_pair_39 ?_
          refine V_bipush (v := (nI 9)) d_M_pair_42 (by decide) ?_
          by_cases k3 : pu = 9
          ·
            refine V_icmp_ne_f (tgt := 50) d_M_pair_44 (by decide) (by rw [k3]; rfl) ?_
            refine V_bipush (v := (-2)) d_M_pair_47 (by decide) ?_
            exact V_iret d_M_pair_49 rfl (hok _ _ (fun _ => ⟨rfl, rfl⟩) (fun z => absurd (Or.inr (Or.inr k3)) z))
          · have hfull : ¬ (sp = 18 ∨ d = 6 ∨ pu = 9) := by omega
            have wx := wd1_lt hx
            have wy := wd1_lt hy
            refine V_icmp_ne_t (tgt := 50) d_M_pair_44 (by decide) (fun z => k3 ((nI_eq (by omega) (by omega)).mp z)) ?_
            refine V_aload_n d_M_pair_50 rfl rfl ?_
            refine V_aload_n d_M_pair_51 rfl rfl ?_
            refine mg_depth d_M_pair_52 ?_
            refine v_M_clear (c_M_clear _ (by omega)) ⟨Nat.le_of_ble_eq_true rfl, Nat.le_of_ble_eq_true rfl⟩ (Nat.le_of_ble_eq_true rfl) d_M_pair_55 ?_
            rintro _ rfl
            have J87 : (V p l e rm_M_pair s m args below meth c R_M wM b_M_pair 3 (some .int) D (mty k) A0 (mw q k) 0 0 (MQ below (va_Qi post (vB D (mty k) (mw q k) A0) A0) args s 0 0 A0) (87) ([some (.ref (q 0)), some (.int (nI x)), some (.int (nI y))]) ([.int (nI (wd1 y)), .int (nI (wd1 x)), .int (nI d), .ref (q 0)]) ((st3 S (nI d) (nI sp) (nI pu), setA A 1 (clF (A 1) d 31)))) := by
              refine v_M_put (c_M_put _ (by omega) wx) ⟨Nat.le_of_ble_eq_true rfl, Nat.le_of_ble_eq_true rfl⟩ (Nat.le_of_ble_eq_true rfl) d_M_pair_87 ?_
              rintro _ rfl
              refine V_aload_n d_M_pair_90 rfl rfl ?_
              refine V_dup d_M_pair_91 rfl ?_
              refine mg_steps d_M_pair_92 ?_
              refine V_iconst (v := (nI 1)) d_M_pair_95 (by decide) ?_
              refine V_iadd d_M_pair_96 (nI_1 sp) ?_
              refine mp_steps d_M_pair_97 ?_
              refine V_aload_n d_M_pair_100 rfl rfl ?_
              refine V_dup d_M_pair_101 rfl ?_
              refine mg_pushed d_M_pair_102 ?_
              refine V_iconst (v := (nI 1)) d_M_pair_105 (by decide) ?_
              refine V_iadd d_M_pair_106 (nI_1 pu) ?_
              refine mp_pushed d_M_pair_107 ?_
              refine V_aload_n d_M_pair_110 rfl rfl ?_
              refine V_dup d_M_pair_111 rfl ?_
              refine mg_depth d_M_pair_112 ?_
              refine V_iconst (v := (nI 1)) d_M_pair_115 (by decide) ?_
              refine V_iadd d_M_pair_116 (nI_1 d) ?_
              refine mp_depth d_M_pair_117 ?_
              refine V_aload_n d_M_pair_120 rfl rfl ?_
              refine mg_depth d_M_pair_121 ?_
              refine V_iret d_M_pair_124 rfl (hok _ _ (fun z => absurd z hfull) (fun _ => ⟨rfl, ?_⟩))
              refine Prod.ext ?_ ?_
              · exact ext4 rfl rfl rfl rfl (fun j hj => by dsimp only; simp (disch := omega) only [pk_un, st3_ge])
              · exact setA_setA _ _ _ _
            by_cases jx : x = 2
            · have wxe : wd1 x = 0 := if_pos jx
              rw [wxe] at J87
              by_cases jy : y = 2
              · have wye : wd1 y = 0 := if_pos jy
                rw [wye] at J87
                refine V_aload_n d_M_pair_58 rfl rfl ?_
                refine V_aload_n d_M_pair_59 rfl rfl ?_
                refine mg_depth d_M_pair_60 ?_
                refine V_iload_n d_M_pair_63 rfl rfl ?_
                refine V_iconst (v := (nI 2)) d_M_pair_64 (by decide) ?_
                refine V_icmp_ne_f (tgt := 72) d_M_pair_65 (by decide) (by rw [jx]) ?_
                refine V_iconst (v := (nI 0)) d_M_pair_68 (by decide) ?_
                refine V_goto (tgt := 75) d_M_pair_69 (by decide) ?_
                refine V_iload_n d_M_pair_75 rfl rfl ?_
                refine V_iconst (v := (nI 2)) d_M_pair_76 (by decide) ?_
                refine V_icmp_ne_f (tgt := 84) d_M_pair_77 (by decide) (by rw [jy]) ?_
                refine V_iconst (v := (nI 0)) d_M_pair_80 (by decide) ?_
                refine V_goto (tgt := 87) d_M_pair_81 (by decide) ?_
                exact J87
              · have wye : wd1 y = 1 + y := if_neg jy
                rw [wye] at J87
                refine V_aload_n d_M_pair_58 rfl rfl ?_
                refine V_aload_n d_M_pair_59 rfl rfl ?_
                refine mg_depth d_M_pair_60 ?_
                refine V_iload_n d_M_pair_63 rfl rfl ?_
                refine V_iconst (v := (nI 2)) d_M_pair_64 (by decide) ?_
                refine V_icmp_ne_f (tgt := 72) d_M_pair_65 (by decide) (by rw [jx]) ?_
                refine V_iconst (v := (nI 0)) d_M_pair_68 (by decide) ?_
                refine V_goto (tgt := 75) d_M_pair_69 (by decide) ?_
                refine V_iload_n d_M_pair_75 rfl rfl ?_
                refine V_iconst (v := (nI 2)) d_M_pair_76 (by decide) ?_
                refine V_icmp_ne_t (tgt := 84) d_M_pair_77 (by decide) (fun z => jy ((nI_eq (by omega) (by omega)).mp z)) ?_
                refine V_iconst (v := (nI 1)) d_M_pair_84 (by decide) ?_
                refine V_iload_n d_M_pair_85 rfl rfl ?_
                refine V_iadd d_M_pair_86 (nI_add _ _) ?_
                exact J87
            · have wxe : wd1 x = 1 + x := if_neg jx
              rw [wxe] at J87
              by_cases jy : y = 2
              · have wye : wd1 y = 0 := if_pos jy
                rw [wye] at J87
                refine V_aload_n d_M_pair_58 rfl rfl ?_
                refine V_aload_n d_M_pair_59 rfl rfl ?_
                refine mg_depth d_M_pair_60 ?_
                refine V_iload_n d_M_pair_63 rfl rfl ?_
                refine V_iconst (v := (nI 2)) d_M_pair_64 (by decide) ?_
                refine V_icmp_ne_t (tgt := 72) d_M_pair_65 (by decide) (fun z => jx ((nI_eq (by omega) (by omega)).mp z)) ?_
                refine V_iconst (v := (nI 1)) d_M_pair_72 (by decide) ?_
                refine V_iload_n d_M_pair_73 rfl rfl ?_
                refine V_iadd d_M_pair_74 (nI_add _ _) ?_
                refine V_iload_n d_M_pair_75 rfl rfl ?_
                refine V_iconst (v := (nI 2)) d_M_pair_76 (by decide) ?_
                refine V_icmp_ne_f (tgt := 84) d_M_pair_77 (by decide) (by rw [jy]) ?_
                refine V_iconst (v := (nI 0)) d_M_pair_80 (by decide) ?_
                refine V_goto (tgt := 87) d_M_pair_81 (by decide) ?_
                exact J87
              · have wye : wd1 y = 1 + y := if_neg jy
                rw [wye] at J87
                refine V_aload_n d_M_pair_58 rfl rfl ?_
                refine V_aload_n d_M_pair_59 rfl rfl ?_
                refine mg_depth d_M_pair_60 ?_
                refine V_iload_n d_M_pair_63 rfl rfl ?_
                refine V_iconst (v := (nI 2)) d_M_pair_64 (by decide) ?_
                refine V_icmp_ne_t (tgt := 72) d_M_pair_65 (by decide) (fun z => jx ((nI_eq (by omega) (by omega)).mp z)) ?_
                refine V_iconst (v := (nI 1)) d_M_pair_72 (by decide) ?_
                refine V_iload_n d_M_pair_73 rfl rfl ?_
                refine V_iadd d_M_pair_74 (nI_add _ _) ?_
                refine V_iload_n d_M_pair_75 rfl rfl ?_
                refine V_iconst (v := (nI 2)) d_M_pair_76 (by decide) ?_
                refine V_icmp_ne_t (tgt := 84) d_M_pair_77 (by decide) (fun z => jy ((nI_eq (by omega) (by omega)).mp z)) ?_
                refine V_iconst (v := (nI 1)) d_M_pair_84 (by decide) ?_
                refine V_iload_n d_M_pair_85 rfl rfl ?_
                refine V_iadd d_M_pair_86 (nI_add _ _) ?_
                exact J87
    · have hno : ∀ (x y : Nat), x ≤ 2 → y ≤ 2 → a1 = nI x → a2 = nI y → False := fun x y _ hy _ e => h2 ⟨y, hy, e⟩
      refine e_M_pair ?_
      intro p l e s m args below meth c D q k A0
      refine V_iload_n d_M_pair_0 rfl rfl ?_
      refine V_if_lt_f (tgt := 18) d_M_pair_1 (by decide) ((in3_1 h1).1) ?_
      refine V_iload_n d_M_pair_4 rfl rfl ?_
      refine V_iconst (v := (nI 2)) d_M_pair_5 (by decide) ?_
      refine V_icmp_gt_f (tgt := 18) d_M_pair_6 (by decide) ((in3_1 h1).2.1) ?_
      refine V_iload_n d_M_pair_9 rfl rfl ?_
      refine V_if_lt (tgt := 18) d_M_pair_10 (by decide) (fun c_10 => ?_) (fun c_10 => ?_)
      ·
        refine V_iconst (v := (-1)) d_M_pair_18 (by decide) ?_
        exact V_iret d_M_pair_19 rfl (⟨fun _ => ⟨rfl, rfl⟩, fun x y q1 q2 q3 q4 => absurd (hno x y q1 q2 q3 q4) id⟩)
      ·
        refine V_iload_n d_M_pair_13 rfl rfl ?_
        refine V_iconst (v := (nI 2)) d_M_pair_14 (by decide) ?_
        refine V_icmp_le (tgt := 20) d_M_pair_15 (by decide) (fun c_15 => ?_) (fun c_15 => ?_)
        · exact absurd (in3_2 c_10 c_15) h2
        ·
          refine V_iconst (v := (-1)) d_M_pair_18 (by decide) ?_
          exact V_iret d_M_pair_19 rfl (⟨fun _ => ⟨rfl, rfl⟩, fun x y q1 q2 q3 q4 => absurd (hno x y q1 q2 q3 q4) id⟩)
  · have hno : ∀ (x y : Nat), x ≤ 2 → y ≤ 2 → a1 = nI x → a2 = nI y → False := fun x y hx _ e _ => h1 ⟨x, hx, e⟩
    refine e_M_pair ?_
    intro p l e s m args below meth c D q k A0
    refine V_iload_n d_M_pair_0 rfl rfl ?_
    refine V_if_lt (tgt := 18) d_M_pair_1 (by decide) (fun c_1 => ?_) (fun c_1 => ?_)
    ·
      refine V_iconst (v := (-1)) d_M_pair_18 (by decide) ?_
      exact V_iret d_M_pair_19 rfl (⟨fun _ => ⟨rfl, rfl⟩, fun x y q1 q2 q3 q4 => absurd (hno x y q1 q2 q3 q4) id⟩)
    ·
      refine V_iload_n d_M_pair_4 rfl rfl ?_
      refine V_iconst (v := (nI 2)) d_M_pair_5 (by decide) ?_
      refine V_icmp_gt (tgt := 18) d_M_pair_6 (by decide) (fun c_6 => ?_) (fun c_6 => ?_)
      ·
        refine V_iconst (v := (-1)) d_M_pair_18 (by decide) ?_
        exact V_iret d_M_pair_19 rfl (⟨fun _ => ⟨rfl, rfl⟩, fun x y q1 q2 q3 q4 => absurd (hno x y q1 q2 q3 q4) id⟩)
      · exact absurd (in3_2 c_1 (Int32.not_lt.mp c_6)) h1
end
section
/-! PairExpressionsModel: cat, alt, star, turn, define -/
theorem ctF_congr {f g : Nat → Int32} {x y a v : Nat} (h : ∀ i, i < 217 → f i = g i) (hx : x ≤ 6) (hy : y ≤ 6) (ha : a < 31) (hv : v < 31) : ctF f x y a v ↔ ctF g x y a v := by
  have la := lenN_le a
  have lv := lenN_le v
  unfold ctF
  refine exists_congr (fun p => and_congr_right (fun hp => exists_congr (fun q => and_congr_right (fun hq => ?_))))
  unfold ctK
  have e1 := hd_lt a ha p (by omega) hp
  have e2 := tl_lt a ha p (by omega) hp
  rw [h _ (by omega), h _ (by omega)]
theorem clF_lo {f : Nat → Int32} {r i : Nat} (h : i < 31 * r) : clF f r 31 i = f i := if_neg (by omega)
theorem clF_in {f : Nat → Int32} {r a : Nat} (h : a < 31) : clF f r 31 (31 * r + a) = nI 0 := if_pos (by omega)
theorem cpF_out {f : Nat → Int32} {a b i : Nat} (h : ¬ (31 * b ≤ i ∧ i < 31 * b + 31)) : cpF f a b 31 i = f i := if_neg h
theorem cpF_in {f : Nat → Int32} {a b j : Nat} (h : j < 31) : cpF f a b 31 (31 * b + j) = f (31 * a + j) := by
  unfold cpF
  rw [if_pos (by omega)]
  congr 1
  omega
set_option maxHeartbeats 8000000 in
theorem c_M_cat (S : Nat → Int32) (A : Nat → Nat → Int32) {d sp pu : Nat} (hd : d ≤ 6) (hsp : sp ≤ 18) : C_M_cat [] (st3 S (nI d) (nI sp) (nI pu), A) (fun r u2 => (sp = 18 → r = -2 ∧ u2 = (st3 S (nI d) (nI sp) (nI pu), A)) ∧ (¬ sp = 18 → d < 2 → r = -3 ∧ u2 = (st3 S (nI d) (nI sp) (nI pu), A)) ∧ (¬ sp = 18 → 2 ≤ d → r = nI (d - 1) ∧ ∃ f : Nat → Int32, u2 = (st3 S (nI (d - 1)) (nI (sp + 1)) (nI pu), setA A 1 f) ∧ (∀ i, i < 217 → ¬ (31 * (d - 2) ≤ i ∧ i < 31 * (d - 2) + 31) → f i = A 1 i) ∧ ∀ a v, a < 31 → v < 31 → (bt (f (31 * (d - 2) + a)) v = true ↔ ctF (A 1) (d - 2) (d - 1) a v))) := by
  generalize hpost : (fun (r : Int32) (u2 : XS) => (sp = 18 → r = -2 ∧ u2 = (st3 S (nI d) (nI sp) (nI pu), A)) ∧ (¬ sp = 18 → d < 2 → r = -3 ∧ u2 = (st3 S (nI d) (nI sp) (nI pu), A)) ∧ (¬ sp = 18 → 2 ≤ d → r = nI (d - 1) ∧ ∃ f : Nat → Int32, u2 = (st3 S (nI (d - 1)) (nI (sp + 1)) (nI pu), setA A 1 f) ∧ (∀ i, i < 217 → ¬ (31 * (d - 2) ≤ i ∧ i < 31 * (d - 2) + 31) → f i = A 1 i) ∧ ∀ a v, a < 31 → v < 31 → (bt (f (31 * (d - 2) + a)) v = true ↔ ctF (A 1) (d - 2) (d - 1) a v))) = post
  refine e_M_cat ?_
  intro p l e s m args below meth c D q k A0
  refine V_aload_n d_M_cat_0 rfl rfl ?_
  refine v_M_testPair (c_M_testPair S A hd hsp) ⟨Nat.le_of_ble_eq_true rfl, Nat.le_of_ble_eq_true rfl⟩ (Nat.le_of_ble_eq_true rfl) d_M_cat_1 ?_
  rintro r _ ⟨rfl, ⟨k1, rfl⟩ | ⟨k1, k2, rfl⟩ | ⟨k1, k2, rfl⟩⟩
  ·
    refine V_istore_n d_M_cat_4 rfl (by decide) ?_
    refine V_iload_n d_M_cat_5 rfl rfl ?_
    refine V_if_ge_f (tgt := 11) d_M_cat_6 (by decide) (by decide) ?_
    refine V_iload_n d_M_cat_9 rfl rfl ?_
    exact V_iret d_M_cat_10 rfl (by rw [← hpost]; exact ⟨fun _ => ⟨rfl, rfl⟩, fun z => absurd k1 z, fun z => absurd k1 z⟩)
  ·
    refine V_istore_n d_M_cat_4 rfl (by decide) ?_
    refine V_iload_n d_M_cat_5 rfl rfl ?_
    refine V_if_ge_f (tgt := 11) d_M_cat_6 (by decide) (by decide) ?_
    refine V_iload_n d_M_cat_9 rfl rfl ?_
    exact V_iret d_M_cat_10 rfl (by rw [← hpost]; exact ⟨fun z => absurd z k1, fun _ _ => ⟨rfl, rfl⟩, fun _ z => by omega⟩)
  · have loop : ∀ n, n ≤ 31 → ∀ (f : Nat → Int32) (x3 x4 : Option Value), (∀ i, i < 217 → f i = A 1 i) → (∀ a v, a < n → v < 31 → (bt (f (217 + a)) v = true ↔ ctF (A 1) (d - 2) (d - 1) a v)) → (V p l e rm_M_cat s m args below meth c R_M wM b_M_cat 5 (some .int) D (mty k) A0 (mw q k) 0 0 (MQ below (va_Qi post (vB D (mty k) (mw q k) A0) A0) args s 0 0 A0) (19) ([some (.ref (q 0)), some (.int (nI 0)), some (.int (nI n)), x3, x4]) ([]) ((st3 S (nI d) (nI sp) (nI pu), setA A 1 f))) := by
      refine dn 31 ?_ ?_
      · intro f x3 x4 hf hb
        refine V_iload_n d_M_cat_19 rfl rfl ?_
        refine V_bipush (v := (nI 31)) d_M_cat_20 (by decide) ?_
        refine V_icmp_ge_t (tgt := 89) d_M_cat_22 (by decide) (nI_le (by omega) (by omega)) ?_
        refine V_aload_n d_M_cat_89 rfl rfl ?_
        refine V_dup d_M_cat_90 rfl ?_
        refine mg_steps d_M_cat_91 ?_
        refine V_iconst (v := (nI 1)) d_M_cat_94 (by decide) ?_
        refine V_iadd d_M_cat_95 (nI_1 sp) ?_
        refine mp_steps d_M_cat_96 ?_
        refine V_aload_n d_M_cat_99 rfl rfl ?_
        refine V_dup d_M_cat_100 rfl ?_
        refine mg_depth d_M_cat_101 ?_
        refine V_iconst (v := (nI 1)) d_M_cat_104 (by decide) ?_
        refine V_isub d_M_cat_105 (pk_sub (by omega)) ?_
        refine mp_depth d_M_cat_106 ?_
        refine V_aload_n d_M_cat_109 rfl rfl ?_
        refine V_bipush (v := (nI 7)) d_M_cat_110 (by decide) ?_
        refine V_aload_n d_M_cat_112 rfl rfl ?_
        refine mg_depth d_M_cat_113 ?_
        refine V_iconst (v := (nI 1)) d_M_cat_116 (by decide) ?_
        refine V_isub d_M_cat_117 (pk_sub (by omega)) ?_
        refine v_M_copy (c_M_copy _ (a := 7) (b1 := d - 1 - 1) (by omega) (by omega) (by omega)) ⟨Nat.le_of_ble_eq_true rfl, Nat.le_of_ble_eq_true rfl⟩ (Nat.le_of_ble_eq_true rfl) d_M_cat_118 ?_
        rintro _ rfl
        refine V_aload_n d_M_cat_121 rfl rfl ?_
        refine mg_depth d_M_cat_122 ?_
        refine V_iret d_M_cat_125 rfl ?_
        rw [← hpost]
        refine ⟨fun z => absurd z k1, fun _ z => by omega, fun _ _ => ⟨rfl, cpF f 7 (d - 2) 31, ?_, ?_, ?_⟩⟩
        · refine Prod.ext ?_ ?_
          · exact ext4 rfl rfl rfl rfl (fun j hj => by dsimp only; simp (disch := omega) only [pk_un, st3_ge])
          · exact setA_setA _ _ _ _
        · intro i hi hn
          rw [cpF_out hn]
          exact hf i hi
        · intro a v ha hv
          rw [cpF_in ha]
          exact hb a v ha hv
      · intro n hn ih f x3 x4 hf hb
        have inner : ∀ j, j ≤ 31 → ∀ row : Int32, (∀ v, v < 31 → (bt row v = true ↔ v < j ∧ ctF (A 1) (d - 2) (d - 1) n v)) → (V p l e rm_M_cat s m args below meth c R_M wM b_M_cat 5 (some .int) D (mty k) A0 (mw q k) 0 0 (MQ below (va_Qi post (vB D (mty k) (mw q k) A0) A0) args s 0 0 A0) (30) ([some (.ref (q 0)), some (.int (nI 0)), some (.int (nI n)), some (.int row), some (.int (nI j))]) ([]) ((st3 S (nI d) (nI sp) (nI pu), setA A 1 f))) := by
          refine dn 31 ?_ ?_
          · intro row hrow
            refine V_iload d_M_cat_30 rfl ?_
            refine V_bipush (v := (nI 31)) d_M_cat_32 (by decide) ?_
            refine V_icmp_ge_t (tgt := 72) d_M_cat_34 (by decide) (nI_le (by omega) (by omega)) ?_
            refine V_aload_n d_M_cat_72 rfl rfl ?_
            refine mg_sets d_M_cat_73 ?_
            refine V_sipush (v := (nI 217)) d_M_cat_76 (by decide) ?_
            refine V_iload_n d_M_cat_79 rfl rfl ?_
            refine V_iadd d_M_cat_80 (nI_add _ _) ?_
            refine V_iload_n d_M_cat_81 rfl rfl ?_
            refine ms_sets (rfl) (by omega) d_M_cat_82 ?_
            refine V_at rfl rfl rfl (show _ = (st3 S (nI d) (nI sp) (nI pu), setA A 1 (upd f (217 + n) row)) from Prod.ext rfl (updA_setA _ _ _ _ _)) ?_
            refine V_iinc d_M_cat_83 rfl (nI_1 _) (by decide) ?_
            refine V_goto (tgt := 19) d_M_cat_86 (by decide) ?_
            refine ih _ _ _ (fun i hi => ?_) (fun a v ha hv => ?_)
            · rw [pk_un (by omega)]; exact hf i hi
            · by_cases e : a = n
              · subst e
                rw [pk_us, hrow v hv]
                exact ⟨fun z => z.2, fun z => ⟨hv, z⟩⟩
              · rw [pk_un (by omega)]
                exact hb a v (by omega) hv
          · intro j hj ihj row hrow
            refine V_iload d_M_cat_30 rfl ?_
            refine V_bipush (v := (nI 31)) d_M_cat_32 (by decide) ?_
            refine V_icmp_ge_f (tgt := 72) d_M_cat_34 (by decide) (nI_ge hj (by omega)) ?_
            refine V_aload_n d_M_cat_37 rfl rfl ?_
            refine V_aload_n d_M_cat_38 rfl rfl ?_
            refine mg_depth d_M_cat_39 ?_
            refine V_iconst (v := (nI 2)) d_M_cat_42 (by decide) ?_
            refine V_isub d_M_cat_43 (pk_sub (by omega)) ?_
            refine V_aload_n d_M_cat_44 rfl rfl ?_
            refine mg_depth d_M_cat_45 ?_
            refine V_iconst (v := (nI 1)) d_M_cat_48 (by decide) ?_
            refine V_isub d_M_cat_49 (pk_sub (by omega)) ?_
            refine V_iload_n d_M_cat_50 rfl rfl ?_
            refine V_iload d_M_cat_51 rfl ?_
            refine v_M_cuts (c_M_cuts _ (by omega) (by omega) hn hj) ⟨Nat.le_of_ble_eq_true rfl, Nat.le_of_ble_eq_true rfl⟩ (Nat.le_of_ble_eq_true rfl) d_M_cat_53 ?_
            rintro r _ ⟨rfl, ⟨rfl, h1⟩ | ⟨rfl, h1⟩⟩
            · have h1 := (ctF_congr (f := f) hf (by omega) (by omega) hn hj).mp h1
              refine V_if_eq_f (tgt := 66) d_M_cat_56 (by decide) (by decide) ?_
              refine V_iload_n d_M_cat_59 rfl rfl ?_
              refine V_iconst (v := (nI 1)) d_M_cat_60 (by decide) ?_
              refine V_iload d_M_cat_61 rfl ?_
              refine V_ishl d_M_cat_63 (rfl) ?_
              refine V_ior d_M_cat_64 (rfl) ?_
              refine V_istore_n d_M_cat_65 rfl (by decide) ?_
              refine V_iinc d_M_cat_66 rfl (nI_1 _) (by decide) ?_
              refine V_goto (tgt := 30) d_M_cat_69 (by decide) ?_
              refine ihj _ (fun v hv => ?_)
              rw [b_or, b_sh1 (by omega), Bool.or_eq_true, hrow v hv, decide_eq_true_eq]
              constructor
              · rintro (⟨z1, z2⟩ | rfl)
                · exact ⟨by omega, z2⟩
                · exact ⟨by omega, h1⟩
              · rintro ⟨z1, z2⟩
                by_cases e : v = j
                · exact Or.inr e
                · exact Or.inl ⟨by omega, z2⟩
            · have h1 : ¬ ctF (A 1) (d - 2) (d - 1) n j := fun z => h1 ((ctF_congr (f := f) hf (by omega) (by omega) hn hj).mpr z)
              refine V_if_eq_t (tgt := 66) d_M_cat_56 (by decide) (rfl) ?_
              refine V_iinc d_M_cat_66 rfl (nI_1 _) (by decide) ?_
              refine V_goto (tgt := 30) d_M_cat_69 (by decide) ?_
              refine ihj _ (fun v hv => ?_)
              rw [hrow v hv]
              constructor
              · rintro ⟨z1, z2⟩; exact ⟨by omega, z2⟩
              · rintro ⟨z1, z2⟩
                by_cases e : v = j
                · subst e; exact absurd z2 h1
                · exact ⟨by omega, z2⟩
        refine V_iload_n d_M_cat_19 rfl rfl ?_
        refine V_bipush (v := (nI 31)) d_M_cat_20 (by decide) ?_
        refine V_icmp_ge_f (tgt := 89) d_M_cat_22 (by decide) (nI_ge hn (by omega)) ?_
        refine V_iconst (v := (nI 0)) d_M_cat_25 (by decide) ?_
        refine V_istore_n d_M_cat_26 rfl (by decide) ?_
        refine V_iconst (v := (nI 0)) d_M_cat_27 (by decide) ?_
        refine V_istore d_M_cat_28 (by decide) ?_
        exact inner 0 (by omega) _ (fun v hv => by rw [b_n0]; simp)
    refine V_istore_n d_M_cat_4 rfl (by decide) ?_
    refine V_iload_n d_M_cat_5 rfl rfl ?_
    refine V_if_ge_t (tgt := 11) d_M_cat_6 (by decide) (by decide) ?_
    refine V_aload_n d_M_cat_11 rfl rfl ?_
    refine V_bipush (v := (nI 7)) d_M_cat_12 (by decide) ?_
    refine v_M_clear (c_M_clear _ (r1 := 7) (by omega)) ⟨Nat.le_of_ble_eq_true rfl, Nat.le_of_ble_eq_true rfl⟩ (Nat.le_of_ble_eq_true rfl) d_M_cat_14 ?_
    rintro _ rfl
    refine V_iconst (v := (nI 0)) d_M_cat_17 (by decide) ?_
    refine V_istore_n d_M_cat_18 rfl (by decide) ?_
    exact loop 0 (by omega) _ _ _ (fun i hi => clF_lo (by omega)) (by omega)
def alF (f : Nat → Int32) (r n : Nat) : Nat → Int32 := fun i => if 31 * r ≤ i ∧ i < 31 * r + n then f i ||| f (i + 31) else f i
theorem alF_0 (f : Nat → Int32) (r : Nat) : alF f r 0 = f := by
  funext i
  exact if_neg (by omega)
theorem alF_s (f : Nat → Int32) {r n : Nat} (hn : n < 31) : upd (alF f r n) (31 * r + n) (alF f r n (31 * r + n) ||| alF f r n (31 * (r + 1) + n)) = alF f r (n + 1) := by
  have h1 : alF f r n (31 * r + n) = f (31 * r + n) := if_neg (by omega)
  have h2 : alF f r n (31 * (r + 1) + n) = f (31 * (r + 1) + n) := if_neg (by omega)
  rw [h1, h2]
  funext i
  unfold upd alF
  by_cases hi : i = 31 * r + n
  · subst hi
    simp
    congr 2
    omega
  · have : (31 * r ≤ i ∧ i < 31 * r + (n + 1)) ↔ (31 * r ≤ i ∧ i < 31 * r + n) := by omega
    simp [hi, this]
set_option maxHeartbeats 8000000 in
theorem c_M_alt (S : Nat → Int32) (A : Nat → Nat → Int32) {d sp pu : Nat} (hd : d ≤ 6) (hsp : sp ≤ 18) : C_M_alt [] (st3 S (nI d) (nI sp) (nI pu), A) (fun r u2 => (sp = 18 → r = -2 ∧ u2 = (st3 S (nI d) (nI sp) (nI pu), A)) ∧ (¬ sp = 18 → d < 2 → r = -3 ∧ u2 = (st3 S (nI d) (nI sp) (nI pu), A)) ∧ (¬ sp = 18 → 2 ≤ d → r = nI (d - 1) ∧ u2 = (st3 S (nI (d - 1)) (nI (sp + 1)) (nI pu), setA A 1 (alF (A 1) (d - 2) 31)))) := by
  generalize hpost : (fun (r : Int32) (u2 : XS) => (sp = 18 → r = -2 ∧ u2 = (st3 S (nI d) (nI sp) (nI pu), A)) ∧ (¬ sp = 18 → d < 2 → r = -3 ∧ u2 = (st3 S (nI d) (nI sp) (nI pu), A)) ∧ (¬ sp = 18 → 2 ≤ d → r = nI (d - 1) ∧ u2 = (st3 S (nI (d - 1)) (nI (sp + 1)) (nI pu), setA A 1 (alF (A 1) (d - 2) 31)))) = post
  refine e_M_alt ?_
  intro p l e s m args below meth c D q k A0
  refine V_aload_n d_M_alt_0 rfl rfl ?_
  refine v_M_testPair (c_M_testPair S A hd hsp) ⟨Nat.le_of_ble_eq_true rfl, Nat.le_of_ble_eq_true rfl⟩ (Nat.le_of_ble_eq_true rfl) d_M_alt_1 ?_
  rintro r _ ⟨rfl, ⟨k1, rfl⟩ | ⟨k1, k2, rfl⟩ | ⟨k1, k2, rfl⟩⟩
  ·
    refine V_istore_n d_M_alt_4 rfl (by decide) ?_
    refine V_iload_n d_M_alt_5 rfl rfl ?_
    refine V_if_ge_f (tgt := 11) d_M_alt_6 (by decide) (by decide) ?_
    refine V_iload_n d_M_alt_9 rfl rfl ?_
    exact V_iret d_M_alt_10 rfl (by rw [← hpost]; exact ⟨fun _ => ⟨rfl, rfl⟩, fun z => absurd k1 z, fun z => absurd k1 z⟩)
  ·
    refine V_istore_n d_M_alt_4 rfl (by decide) ?_
    refine V_iload_n d_M_alt_5 rfl rfl ?_
    refine V_if_ge_f (tgt := 11) d_M_alt_6 (by decide) (by decide) ?_
    refine V_iload_n d_M_alt_9 rfl rfl ?_
    exact V_iret d_M_alt_10 rfl (by rw [← hpost]; exact ⟨fun z => absurd z k1, fun _ _ => ⟨rfl, rfl⟩, fun _ z => by omega⟩)
  · have loop : ∀ n, n ≤ 31 → (V p l e rm_M_alt s m args below meth c R_M wM b_M_alt 3 (some .int) D (mty k) A0 (mw q k) 0 0 (MQ below (va_Qi post (vB D (mty k) (mw q k) A0) A0) args s 0 0 A0) (33) ([some (.ref (q 0)), some (.int (nI 0)), some (.int (nI n))]) ([]) ((st3 S (nI (d - 1)) (nI (sp + 1)) (nI pu), setA A 1 (alF (A 1) (d - 2) n)))) := by
      refine dn 31 ?_ ?_
      ·
        refine V_iload_n d_M_alt_33 rfl rfl ?_
        refine V_bipush (v := (nI 31)) d_M_alt_34 (by decide) ?_
        refine V_icmp_ge_t (tgt := 92) d_M_alt_36 (by decide) (nI_le (by omega) (by omega)) ?_
        refine V_aload_n d_M_alt_92 rfl rfl ?_
        refine mg_depth d_M_alt_93 ?_
        exact V_iret d_M_alt_96 rfl (by rw [← hpost]; exact ⟨fun z => absurd z k1, fun _ z => by omega, fun _ _ => ⟨rfl, rfl⟩⟩)
      · intro n hn ih
        refine V_iload_n d_M_alt_33 rfl rfl ?_
        refine V_bipush (v := (nI 31)) d_M_alt_34 (by decide) ?_
        refine V_icmp_ge_f (tgt := 92) d_M_alt_36 (by decide) (nI_ge hn (by omega)) ?_
        refine V_aload_n d_M_alt_39 rfl rfl ?_
        refine mg_sets d_M_alt_40 ?_
        refine V_bipush (v := (nI 31)) d_M_alt_43 (by decide) ?_
        refine V_aload_n d_M_alt_45 rfl rfl ?_
        refine mg_depth d_M_alt_46 ?_
        refine V_iconst (v := (nI 1)) d_M_alt_49 (by decide) ?_
        refine V_isub d_M_alt_50 (pk_sub (by omega)) ?_
        refine V_imul d_M_alt_51 (pk_mul _ _) ?_
        refine V_iload_n d_M_alt_52 rfl rfl ?_
        refine V_iadd d_M_alt_53 (nI_add _ _) ?_
        refine V_aload_n d_M_alt_54 rfl rfl ?_
        refine mg_sets d_M_alt_55 ?_
        refine V_bipush (v := (nI 31)) d_M_alt_58 (by decide) ?_
        refine V_aload_n d_M_alt_60 rfl rfl ?_
        refine mg_depth d_M_alt_61 ?_
        refine V_iconst (v := (nI 1)) d_M_alt_64 (by decide) ?_
        refine V_isub d_M_alt_65 (pk_sub (by omega)) ?_
        refine V_imul d_M_alt_66 (pk_mul _ _) ?_
        refine V_iload_n d_M_alt_67 rfl rfl ?_
        refine V_iadd d_M_alt_68 (nI_add _ _) ?_
        refine ml_sets (rfl) (by omega) d_M_alt_69 ?_
        refine V_aload_n d_M_alt_70 rfl rfl ?_
        refine mg_sets d_M_alt_71 ?_
        refine V_bipush (v := (nI 31)) d_M_alt_74 (by decide) ?_
        refine V_aload_n d_M_alt_76 rfl rfl ?_
        refine mg_depth d_M_alt_77 ?_
        refine V_imul d_M_alt_80 (pk_mul _ _) ?_
        refine V_iload_n d_M_alt_81 rfl rfl ?_
        refine V_iadd d_M_alt_82 (nI_add _ _) ?_
        refine ml_sets (rfl) (by omega) d_M_alt_83 ?_
        refine V_ior d_M_alt_84 (rfl) ?_
        refine ms_sets (rfl) (by omega) d_M_alt_85 ?_
        refine V_at rfl rfl rfl (show _ = (st3 S (nI (d - 1)) (nI (sp + 1)) (nI pu), setA A 1 (alF (A 1) (d - 2) (n + 1))) from Prod.ext rfl ((updA_setA _ _ _ _ _).trans ?_)) ?_
        · rw [← alF_s (A 1) hn, show d - 1 - 1 = d - 2 by omega, show d - 2 + 1 = d - 1 by omega]
          rfl
        refine V_iinc d_M_alt_86 rfl (nI_1 _) (by decide) ?_
        refine V_goto (tgt := 33) d_M_alt_89 (by decide) ?_
        exact ih
    refine V_istore_n d_M_alt_4 rfl (by decide) ?_
    refine V_iload_n d_M_alt_5 rfl rfl ?_
    refine V_if_ge_t (tgt := 11) d_M_alt_6 (by decide) (by decide) ?_
    refine V_aload_n d_M_alt_11 rfl rfl ?_
    refine V_dup d_M_alt_12 rfl ?_
    refine mg_steps d_M_alt_13 ?_
    refine V_iconst (v := (nI 1)) d_M_alt_16 (by decide) ?_
    refine V_iadd d_M_alt_17 (nI_1 sp) ?_
    refine mp_steps d_M_alt_18 ?_
    refine V_aload_n d_M_alt_21 rfl rfl ?_
    refine V_dup d_M_alt_22 rfl ?_
    refine mg_depth d_M_alt_23 ?_
    refine V_iconst (v := (nI 1)) d_M_alt_26 (by decide) ?_
    refine V_isub d_M_alt_27 (pk_sub (by omega)) ?_
    refine mp_depth d_M_alt_28 ?_
    refine V_iconst (v := (nI 0)) d_M_alt_31 (by decide) ?_
    refine V_istore_n d_M_alt_32 rfl (by decide) ?_
    refine V_at rfl rfl rfl (show _ = (st3 S (nI (d - 1)) (nI (sp + 1)) (nI pu), setA A 1 (alF (A 1) (d - 2) 0)) from Prod.ext (ext4 rfl rfl rfl rfl (fun j hj => by dsimp only; simp (disch := omega) only [pk_un, st3_ge])) (by rw [alF_0, setA_self])) ?_
    exact loop 0 (by omega)
theorem tl_0 : ∀ n, n < 31 → tlN n 0 = n := by decide +kernel
theorem tl_s : ∀ n, n < 31 → ∀ p, p < 5 → p ≤ lenN n → 0 < p → tlN n p < n := by decide +kernel
theorem tl_dec {a v p q : Nat} (ha : a < 31) (hv : v < 31) (hp : p ≤ lenN a) (hq : q ≤ lenN v) (h : 0 < p + q) : 31 * tlN a p + tlN v q < 31 * a + v := by
  have la := lenN_le a
  have lv := lenN_le v
  have e4 := tl_lt v hv q (by omega) hq
  rcases Nat.eq_zero_or_pos p with h0 | h0
  · have := tl_s v hv q (by omega) hq (by omega)
    rw [h0, tl_0 a ha]
    omega
  · have := tl_s a ha p (by omega) hp h0
    omega
/-- what star lists: T, by cutting off something in front -/
def StarT (f : Nat → Int32) (x : Nat) (T : Nat → Nat → Bool) : Prop := ∀ a v, a < 31 → v < 31 → (T a v = true ↔ (a = 0 ∧ v = 0) ∨ ∃ p, p ≤ lenN a ∧ ∃ q, q ≤ lenN v ∧ 0 < p + q ∧ bt (f (31 * x + hdN a p)) (hdN v q) = true ∧ T (tlN a p) (tlN v q) = true)
theorem star_ct {f g : Nat → Int32} {x n : Nat} {T : Nat → Nat → Bool} (hT : StarT g x T) (hf : ∀ i, i < 217 → f i = g i) (hx : x ≤ 5) (hn : n < 961) (hb : ∀ a v, a < 31 → v < 31 → (bt (f (217 + a)) v = true ↔ T a v = true ∧ (31 * a + v < n ∨ (a = 0 ∧ v = 0)))) : T (n / 31) (n % 31) = true ↔ (n = 0 ∨ ctF f x 7 (n / 31) (n % 31)) := by
  have ha : n / 31 < 31 := by omega
  have hv : n % 31 < 31 := by omega
  have la := lenN_le (n / 31)
  have lv := lenN_le (n % 31)
  rw [hT _ _ ha hv]
  refine or_congr (by omega) ?_
  unfold ctF
  refine exists_congr (fun p => and_congr_right (fun hp => exists_congr (fun q => and_congr_right (fun hq => ?_))))
  have e1 := hd_lt _ ha p (by omega) hp
  have e2 := tl_lt _ ha p (by omega) hp
  have e4 := tl_lt _ hv q (by omega) hq
  unfold ctK
  rw [hf _ (by omega : 31 * x + hdN (n / 31) p < 217)]
  have hpq : (0 < p + q ∨ 7 ≠ 7) ↔ 0 < p + q := by simp
  rw [hpq]
  refine and_congr_right (fun h0 => and_congr_right (fun _ => ?_))
  have hdec := tl_dec ha hv hp hq h0
  rw [show 31 * 7 + tlN (n / 31) p = 217 + tlN (n / 31) p by omega, hb _ _ e2 e4]
  exact ⟨fun z => ⟨z, Or.inl (by omega)⟩, fun z => z.1⟩
set_option maxHeartbeats 8000000 in
theorem c_M_star (S : Nat → Int32) (A : Nat → Nat → Int32) {d sp pu : Nat} (hd : d ≤ 6) (hsp : sp ≤ 18) (T : Nat → Nat → Bool) (hT : 1 ≤ d → StarT (A 1) (d - 1) T) : C_M_star [] (st3 S (nI d) (nI sp) (nI pu), A) (fun r u2 => (sp = 18 → r = -2 ∧ u2 = (st3 S (nI d) (nI sp) (nI pu), A)) ∧ (¬ sp = 18 → d < 1 → r = -3 ∧ u2 = (st3 S (nI d) (nI sp) (nI pu), A)) ∧ (¬ sp = 18 → 1 ≤ d → r = nI d ∧ ∃ f : Nat → Int32, u2 = (st3 S (nI d) (nI (sp + 1)) (nI pu), setA A 1 f) ∧ (∀ i, i < 217 → ¬ (31 * (d - 1) ≤ i ∧ i < 31 * (d - 1) + 31) → f i = A 1 i) ∧ ∀ a v, a < 31 → v < 31 → bt (f (31 * (d - 1) + a)) v = T a v)) := by
  generalize hpost : (fun (r : Int32) (u2 : XS) => (sp = 18 → r = -2 ∧ u2 = (st3 S (nI d) (nI sp) (nI pu), A)) ∧ (¬ sp = 18 → d < 1 → r = -3 ∧ u2 = (st3 S (nI d) (nI sp) (nI pu), A)) ∧ (¬ sp = 18 → 1 ≤ d → r = nI d ∧ ∃ f : Nat → Int32, u2 = (st3 S (nI d) (nI (sp + 1)) (nI pu), setA A 1 f) ∧ (∀ i, i < 217 → ¬ (31 * (d - 1) ≤ i ∧ i < 31 * (d - 1) + 31) → f i = A 1 i) ∧ ∀ a v, a < 31 → v < 31 → bt (f (31 * (d - 1) + a)) v = T a v)) = post
  refine e_M_star ?_
  intro p l e s m args below meth c D q k A0
  refine V_aload_n d_M_star_0 rfl rfl ?_
  refine v_M_testOne (c_M_testOne S A hd hsp) ⟨Nat.le_of_ble_eq_true rfl, Nat.le_of_ble_eq_true rfl⟩ (Nat.le_of_ble_eq_true rfl) d_M_star_1 ?_
  rintro r _ ⟨rfl, ⟨k1, rfl⟩ | ⟨k1, k2, rfl⟩ | ⟨k1, k2, rfl⟩⟩
  ·
    refine V_istore_n d_M_star_4 rfl (by decide) ?_
    refine V_iload_n d_M_star_5 rfl rfl ?_
    refine V_if_ge_f (tgt := 11) d_M_star_6 (by decide) (by decide) ?_
    refine V_iload_n d_M_star_9 rfl rfl ?_
    exact V_iret d_M_star_10 rfl (by rw [← hpost]; exact ⟨fun _ => ⟨rfl, rfl⟩, fun z => absurd k1 z, fun z => absurd k1 z⟩)
  ·
    refine V_istore_n d_M_star_4 rfl (by decide) ?_
    refine V_iload_n d_M_star_5 rfl rfl ?_
    refine V_if_ge_f (tgt := 11) d_M_star_6 (by decide) (by decide) ?_
    refine V_iload_n d_M_star_9 rfl rfl ?_
    exact V_iret d_M_star_10 rfl (by rw [← hpost]; exact ⟨fun z => absurd z k1, fun _ _ => ⟨rfl, rfl⟩, fun _ z => by omega⟩)
  · have hT := hT k2
    have hT00 : T 0 0 = true := (hT 0 0 (by omega) (by omega)).mpr (Or.inl ⟨rfl, rfl⟩)
    have loop : ∀ n, n ≤ 961 → ∀ (f : Nat → Int32), (∀ i, i < 217 → f i = A 1 i) → (∀ a v, a < 31 → v < 31 → (bt (f (217 + a)) v = true ↔ T a v = true ∧ (31 * a + v < n ∨ (a = 0 ∧ v = 0)))) → (V p l e rm_M_star s m args below meth c R_M wM b_M_star 3 (some .int) D (mty k) A0 (mw q k) 0 0 (MQ below (va_Qi post (vB D (mty k) (mw q k) A0) A0) args s 0 0 A0) (27) ([some (.ref (q 0)), some (.int (nI 0)), some (.int (nI n))]) ([]) ((st3 S (nI d) (nI sp) (nI pu), setA A 1 f))) := by
      refine dn 961 ?_ ?_
      · intro f hf hb
        refine V_iload_n d_M_star_27 rfl rfl ?_
        refine V_sipush (v := (nI 961)) d_M_star_28 (by decide) ?_
        refine V_icmp_ge_t (tgt := 77) d_M_star_31 (by decide) (nI_le (by omega) (by omega)) ?_
        refine V_aload_n d_M_star_77 rfl rfl ?_
        refine V_bipush (v := (nI 7)) d_M_star_78 (by decide) ?_
        refine V_aload_n d_M_star_80 rfl rfl ?_
        refine mg_depth d_M_star_81 ?_
        refine V_iconst (v := (nI 1)) d_M_star_84 (by decide) ?_
        refine V_isub d_M_star_85 (pk_sub (by omega)) ?_
        refine v_M_copy (c_M_copy _ (a := 7) (b1 := d - 1) (by omega) (by omega) (by omega)) ⟨Nat.le_of_ble_eq_true rfl, Nat.le_of_ble_eq_true rfl⟩ (Nat.le_of_ble_eq_true rfl) d_M_star_86 ?_
        rintro _ rfl
        refine V_aload_n d_M_star_89 rfl rfl ?_
        refine V_dup d_M_star_90 rfl ?_
        refine mg_steps d_M_star_91 ?_
        refine V_iconst (v := (nI 1)) d_M_star_94 (by decide) ?_
        refine V_iadd d_M_star_95 (nI_1 sp) ?_
        refine mp_steps d_M_star_96 ?_
        refine V_aload_n d_M_star_99 rfl rfl ?_
        refine mg_depth d_M_star_100 ?_
        refine V_iret d_M_star_103 rfl ?_
        rw [← hpost]
        refine ⟨fun z => absurd z k1, fun _ z => by omega, fun _ _ => ⟨rfl, cpF f 7 (d - 1) 31, ?_, ?_, ?_⟩⟩
        · refine Prod.ext ?_ ?_
          · exact ext4 rfl rfl rfl rfl (fun j hj => by dsimp only; simp (disch := omega) only [pk_un, st3_ge])
          · exact setA_setA _ _ _ _
        · intro i hi hn
          rw [cpF_out hn]
          exact hf i hi
        · intro a v ha hv
          rw [cpF_in ha]
          exact bool_iff ((hb a v ha hv).trans ⟨fun z => z.1, fun z => ⟨z, Or.inl (by omega)⟩⟩)
      · intro n hn ih f hf hb
        have hct := star_ct hT hf (by omega) hn hb
        have ha : n / 31 < 31 := by omega
        have hv : n % 31 < 31 := by omega
        refine V_iload_n d_M_star_27 rfl rfl ?_
        refine V_sipush (v := (nI 961)) d_M_star_28 (by decide) ?_
        refine V_icmp_ge_f (tgt := 77) d_M_star_31 (by decide) (nI_ge hn (by omega)) ?_
        refine V_aload_n d_M_star_34 rfl rfl ?_
        refine V_aload_n d_M_star_35 rfl rfl ?_
        refine mg_depth d_M_star_36 ?_
        refine V_iconst (v := (nI 1)) d_M_star_39 (by decide) ?_
        refine V_isub d_M_star_40 (pk_sub (by omega)) ?_
        refine V_bipush (v := (nI 7)) d_M_star_41 (by decide) ?_
        refine V_iload_n d_M_star_43 rfl rfl ?_
        refine V_bipush (v := (nI 31)) d_M_star_44 (by decide) ?_
        refine V_idiv d_M_star_46 (by decide) (pk_div (by omega) (by omega) (by omega)) ?_
        refine V_iload_n d_M_star_47 rfl rfl ?_
        refine V_bipush (v := (nI 31)) d_M_star_48 (by decide) ?_
        refine V_irem d_M_star_50 (by decide) (pk_rem (by omega) (by omega) (by omega)) ?_
        refine v_M_cuts (c_M_cuts _ (by omega) (y := 7) (by omega) ha hv) ⟨Nat.le_of_ble_eq_true rfl, Nat.le_of_ble_eq_true rfl⟩ (Nat.le_of_ble_eq_true rfl) d_M_star_51 ?_
        rintro r _ ⟨rfl, ⟨rfl, h1⟩ | ⟨rfl, h1⟩⟩
        · have hTn := hct.mpr (Or.inr h1)
          refine V_if_eq_f (tgt := 71) d_M_star_54 (by decide) (by decide) ?_
          refine V_aload_n d_M_star_57 rfl rfl ?_
          refine V_bipush (v := (nI 7)) d_M_star_58 (by decide) ?_
          refine V_iload_n d_M_star_60 rfl rfl ?_
          refine V_bipush (v := (nI 31)) d_M_star_61 (by decide) ?_
          refine V_idiv d_M_star_63 (by decide) (pk_div (by omega) (by omega) (by omega)) ?_
          refine V_iload_n d_M_star_64 rfl rfl ?_
          refine V_bipush (v := (nI 31)) d_M_star_65 (by decide) ?_
          refine V_irem d_M_star_67 (by decide) (pk_rem (by omega) (by omega) (by omega)) ?_
          refine v_M_put (c_M_put _ (r1 := 7) (by omega) ha) ⟨Nat.le_of_ble_eq_true rfl, Nat.le_of_ble_eq_true rfl⟩ (Nat.le_of_ble_eq_true rfl) d_M_star_68 ?_
          rintro _ rfl
          refine V_at rfl rfl rfl (show _ = (st3 S (nI d) (nI sp) (nI pu), setA A 1 (upd f (217 + n / 31) (f (217 + n / 31) ||| nI 1 <<< (nI (n % 31) &&& 31)))) from Prod.ext rfl (setA_setA _ _ _ _)) ?_
          refine V_iinc d_M_star_71 rfl (nI_1 _) (by decide) ?_
          refine V_goto (tgt := 27) d_M_star_74 (by decide) ?_
          refine ih _ (fun i hi => ?_) (fun a v ha' hv' => ?_)
          · rw [pk_un (by omega)]; exact hf i hi
          · by_cases e : a = n / 31
            · subst e
              rw [pk_us, b_or, b_sh1 (by omega), Bool.or_eq_true, hb _ _ ha' hv', decide_eq_true_eq]
              constructor
              · rintro (⟨z1, z2⟩ | rfl)
                · exact ⟨z1, z2.imp (fun y => by omega) id⟩
                · exact ⟨hTn, Or.inl (by omega)⟩
              · rintro ⟨z1, z2⟩
                by_cases e2 : v = n % 31
                · exact Or.inr e2
                · exact Or.inl ⟨z1, z2.imp (fun y => by omega) id⟩
            · rw [pk_un (by omega), hb _ _ ha' hv']
              refine and_congr_right (fun _ => ?_)
              omega
        · have hTn : T (n / 31) (n % 31) = true ↔ n = 0 := hct.trans ⟨fun z => z.elim id (fun y => absurd y h1), Or.inl⟩
          refine V_if_eq_t (tgt := 71) d_M_star_54 (by decide) (rfl) ?_
          refine V_iinc d_M_star_71 rfl (nI_1 _) (by decide) ?_
          refine V_goto (tgt := 27) d_M_star_74 (by decide) ?_
          refine ih _ hf (fun a v ha' hv' => ?_)
          rw [hb _ _ ha' hv']
          by_cases e : 31 * a + v = n
          · have e1 : a = n / 31 := by omega
            have e2 : v = n % 31 := by omega
            rw [e1, e2, hTn]
            omega
          · refine and_congr_right (fun _ => ?_)
            omega
    refine V_istore_n d_M_star_4 rfl (by decide) ?_
    refine V_iload_n d_M_star_5 rfl rfl ?_
    refine V_if_ge_t (tgt := 11) d_M_star_6 (by decide) (by decide) ?_
    refine V_aload_n d_M_star_11 rfl rfl ?_
    refine V_bipush (v := (nI 7)) d_M_star_12 (by decide) ?_
    refine v_M_clear (c_M_clear _ (r1 := 7) (by omega)) ⟨Nat.le_of_ble_eq_true rfl, Nat.le_of_ble_eq_true rfl⟩ (Nat.le_of_ble_eq_true rfl) d_M_star_14 ?_
    rintro _ rfl
    refine V_aload_n d_M_star_17 rfl rfl ?_
    refine V_bipush (v := (nI 7)) d_M_star_18 (by decide) ?_
    refine V_iconst (v := (nI 0)) d_M_star_20 (by decide) ?_
    refine V_iconst (v := (nI 0)) d_M_star_21 (by decide) ?_
    refine v_M_put (c_M_put _ (r1 := 7) (a := 0) (v := 0) (by omega) (by omega)) ⟨Nat.le_of_ble_eq_true rfl, Nat.le_of_ble_eq_true rfl⟩ (Nat.le_of_ble_eq_true rfl) d_M_star_22 ?_
    rintro _ rfl
    refine V_at rfl rfl rfl (show _ = (st3 S (nI d) (nI sp) (nI pu), setA A 1 (upd (clF (A 1) 7 31) 217 (clF (A 1) 7 31 217 ||| nI 1 <<< (nI 0 &&& 31)))) from Prod.ext rfl (by dsimp only; rw [setA_setA]; rfl)) ?_
    refine V_iconst (v := (nI 0)) d_M_star_25 (by decide) ?_
    refine V_istore_n d_M_star_26 rfl (by decide) ?_
    refine loop 0 (by omega) _ (fun i hi => ?_) (fun a v ha hv => ?_)
    · rw [pk_un (by omega)]; exact clF_lo (by omega)
    · by_cases e : a = 0
      · subst e
        rw [show 217 + 0 = 217 from rfl, pk_us, show clF (A 1) 7 31 217 = nI 0 from clF_in (r := 7) (a := 0) (by omega), b_or, b_n0, b_sh1 (by omega), Bool.false_or, decide_eq_true_eq]
        constructor
        · rintro rfl
          exact ⟨hT00, Or.inr ⟨rfl, rfl⟩⟩
        · rintro ⟨_, z⟩
          omega
      · rw [pk_un (by omega), show clF (A 1) 7 31 (217 + a) = nI 0 from clF_in (r := 7) ha, b_n0]
        constructor
        · intro z; cases z
        · rintro ⟨_, z⟩
          omega
set_option maxHeartbeats 8000000 in
theorem c_M_turn (S : Nat → Int32) (A : Nat → Nat → Int32) {d sp pu : Nat} (hd : d ≤ 6) (hsp : sp ≤ 18) : C_M_turn [] (st3 S (nI d) (nI sp) (nI pu), A) (fun r u2 => (sp = 18 → r = -2 ∧ u2 = (st3 S (nI d) (nI sp) (nI pu), A)) ∧ (¬ sp = 18 → d < 1 → r = -3 ∧ u2 = (st3 S (nI d) (nI sp) (nI pu), A)) ∧ (¬ sp = 18 → 1 ≤ d → r = nI d ∧ ∃ f : Nat → Int32, u2 = (st3 S (nI d) (nI (sp + 1)) (nI pu), setA A 1 f) ∧ (∀ i, i < 217 → ¬ (31 * (d - 1) ≤ i ∧ i < 31 * (d - 1) + 31) → f i = A 1 i) ∧ ∀ a v, a < 31 → v < 31 → bt (f (31 * (d - 1) + a)) v = bt (A 1 (31 * (d - 1) + v)) a)) := by
  generalize hpost : (fun (r : Int32) (u2 : XS) => (sp = 18 → r = -2 ∧ u2 = (st3 S (nI d) (nI sp) (nI pu), A)) ∧ (¬ sp = 18 → d < 1 → r = -3 ∧ u2 = (st3 S (nI d) (nI sp) (nI pu), A)) ∧ (¬ sp = 18 → 1 ≤ d → r = nI d ∧ ∃ f : Nat → Int32, u2 = (st3 S (nI d) (nI (sp + 1)) (nI pu), setA A 1 f) ∧ (∀ i, i < 217 → ¬ (31 * (d - 1) ≤ i ∧ i < 31 * (d - 1) + 31) → f i = A 1 i) ∧ ∀ a v, a < 31 → v < 31 → bt (f (31 * (d - 1) + a)) v = bt (A 1 (31 * (d - 1) + v)) a)) = post
  refine e_M_turn ?_
  intro p l e s m args below meth c D q k A0
  refine V_aload_n d_M_turn_0 rfl rfl ?_
  refine v_M_testOne (c_M_testOne S A hd hsp) ⟨Nat.le_of_ble_eq_true rfl, Nat.le_of_ble_eq_true rfl⟩ (Nat.le_of_ble_eq_true rfl) d_M_turn_1 ?_
  rintro r _ ⟨rfl, ⟨k1, rfl⟩ | ⟨k1, k2, rfl⟩ | ⟨k1, k2, rfl⟩⟩
  ·
    refine V_istore_n d_M_turn_4 rfl (by decide) ?_
    refine V_iload_n d_M_turn_5 rfl rfl ?_
    refine V_if_ge_f (tgt := 11) d_M_turn_6 (by decide) (by decide) ?_
    refine V_iload_n d_M_turn_9 rfl rfl ?_
    exact V_iret d_M_turn_10 rfl (by rw [← hpost]; exact ⟨fun _ => ⟨rfl, rfl⟩, fun z => absurd k1 z, fun z => absurd k1 z⟩)
  ·
    refine V_istore_n d_M_turn_4 rfl (by decide) ?_
    refine V_iload_n d_M_turn_5 rfl rfl ?_
    refine V_if_ge_f (tgt := 11) d_M_turn_6 (by decide) (by decide) ?_
    refine V_iload_n d_M_turn_9 rfl rfl ?_
    exact V_iret d_M_turn_10 rfl (by rw [← hpost]; exact ⟨fun z => absurd z k1, fun _ _ => ⟨rfl, rfl⟩, fun _ z => by omega⟩)
  · have loop : ∀ n, n ≤ 31 → ∀ (f : Nat → Int32) (x3 : Option Value), (∀ i, i < 217 → f i = A 1 i) → (∀ a v, a < 31 → v < 31 → (bt (f (217 + a)) v = true ↔ bt (A 1 (31 * (d - 1) + v)) a = true ∧ a < n)) → (V p l e rm_M_turn s m args below meth c R_M wM b_M_turn 4 (some .int) D (mty k) A0 (mw q k) 0 0 (MQ below (va_Qi post (vB D (mty k) (mw q k) A0) A0) args s 0 0 A0) (19) ([some (.ref (q 0)), some (.int (nI 0)), some (.int (nI n)), x3]) ([]) ((st3 S (nI d) (nI sp) (nI pu), setA A 1 f))) := by
      refine dn 31 ?_ ?_
      · intro f x3 hf hb
        refine V_iload_n d_M_turn_19 rfl rfl ?_
        refine V_bipush (v := (nI 31)) d_M_turn_20 (by decide) ?_
        refine V_icmp_ge_t (tgt := 68) d_M_turn_22 (by decide) (nI_le (by omega) (by omega)) ?_
        refine V_aload_n d_M_turn_68 rfl rfl ?_
        refine V_bipush (v := (nI 7)) d_M_turn_69 (by decide) ?_
        refine V_aload_n d_M_turn_71 rfl rfl ?_
        refine mg_depth d_M_turn_72 ?_
        refine V_iconst (v := (nI 1)) d_M_turn_75 (by decide) ?_
        refine V_isub d_M_turn_76 (pk_sub (by omega)) ?_
        refine v_M_copy (c_M_copy _ (a := 7) (b1 := d - 1) (by omega) (by omega) (by omega)) ⟨Nat.le_of_ble_eq_true rfl, Nat.le_of_ble_eq_true rfl⟩ (Nat.le_of_ble_eq_true rfl) d_M_turn_77 ?_
        rintro _ rfl
        refine V_aload_n d_M_turn_80 rfl rfl ?_
        refine V_dup d_M_turn_81 rfl ?_
        refine mg_steps d_M_turn_82 ?_
        refine V_iconst (v := (nI 1)) d_M_turn_85 (by decide) ?_
        refine V_iadd d_M_turn_86 (nI_1 sp) ?_
        refine mp_steps d_M_turn_87 ?_
        refine V_aload_n d_M_turn_90 rfl rfl ?_
        refine mg_depth d_M_turn_91 ?_
        refine V_iret d_M_turn_94 rfl ?_
        rw [← hpost]
        refine ⟨fun z => absurd z k1, fun _ z => by omega, fun _ _ => ⟨rfl, cpF f 7 (d - 1) 31, ?_, ?_, ?_⟩⟩
        · refine Prod.ext ?_ ?_
          · exact ext4 rfl rfl rfl rfl (fun j hj => by dsimp only; simp (disch := omega) only [pk_un, st3_ge])
          · exact setA_setA _ _ _ _
        · intro i hi hn
          rw [cpF_out hn]
          exact hf i hi
        · intro a v ha hv
          rw [cpF_in ha]
          exact bool_iff ((hb a v ha hv).trans ⟨fun z => z.1, fun z => ⟨z, ha⟩⟩)
      · intro n hn ih f x3 hf hb
        have inner : ∀ j, j ≤ 31 → ∀ (f : Nat → Int32), (∀ i, i < 217 → f i = A 1 i) → (∀ a v, a < 31 → v < 31 → (bt (f (217 + a)) v = true ↔ bt (A 1 (31 * (d - 1) + v)) a = true ∧ (a < n ∨ (a = n ∧ v < j)))) → (V p l e rm_M_turn s m args below meth c R_M wM b_M_turn 4 (some .int) D (mty k) A0 (mw q k) 0 0 (MQ below (va_Qi post (vB D (mty k) (mw q k) A0) A0) args s 0 0 A0) (27) ([some (.ref (q 0)), some (.int (nI 0)), some (.int (nI n)), some (.int (nI j))]) ([]) ((st3 S (nI d) (nI sp) (nI pu), setA A 1 f))) := by
          refine dn 31 ?_ ?_
          · intro f hf hb
            refine V_iload_n d_M_turn_27 rfl rfl ?_
            refine V_bipush (v := (nI 31)) d_M_turn_28 (by decide) ?_
            refine V_icmp_ge_t (tgt := 62) d_M_turn_30 (by decide) (nI_le (by omega) (by omega)) ?_
            refine V_iinc d_M_turn_62 rfl (nI_1 _) (by decide) ?_
            refine V_goto (tgt := 19) d_M_turn_65 (by decide) ?_
            refine ih f _ hf (fun a v ha hv => ?_)
            rw [hb a v ha hv]
            refine and_congr_right (fun _ => ?_)
            omega
          · intro j hj ihj f hf hb
            refine V_iload_n d_M_turn_27 rfl rfl ?_
            refine V_bipush (v := (nI 31)) d_M_turn_28 (by decide) ?_
            refine V_icmp_ge_f (tgt := 62) d_M_turn_30 (by decide) (nI_ge hj (by omega)) ?_
            refine V_aload_n d_M_turn_33 rfl rfl ?_
            refine V_aload_n d_M_turn_34 rfl rfl ?_
            refine mg_depth d_M_turn_35 ?_
            refine V_iconst (v := (nI 1)) d_M_turn_38 (by decide) ?_
            refine V_isub d_M_turn_39 (pk_sub (by omega)) ?_
            refine V_iload_n d_M_turn_40 rfl rfl ?_
            refine V_iload_n d_M_turn_41 rfl rfl ?_
            refine v_M_has (c_M_has _ (by omega) hj hn) ⟨Nat.le_of_ble_eq_true rfl, Nat.le_of_ble_eq_true rfl⟩ (Nat.le_of_ble_eq_true rfl) d_M_turn_42 ?_
            rintro r _ ⟨rfl, rfl⟩
            have hfe : f (31 * (d - 1) + j) = A 1 (31 * (d - 1) + j) := hf _ (by omega)
            cases h1 : bt (A 1 (31 * (d - 1) + j)) n
            ·
              refine V_if_eq_t (tgt := 56) d_M_turn_45 (by decide) (show bI (bt (f (31 * (d - 1) + j)) n) = 0 by rw [hfe, h1]; rfl) ?_
              refine V_iinc d_M_turn_56 rfl (nI_1 _) (by decide) ?_
              refine V_goto (tgt := 27) d_M_turn_59 (by decide) ?_
              refine ihj f hf (fun a v ha hv => ?_)
              rw [hb a v ha hv]
              by_cases e : a = n ∧ v = j
              · obtain ⟨rfl, rfl⟩ := e
                rw [h1]
                exact ⟨fun z => absurd z.1 (by decide), fun z => absurd z.1 (by decide)⟩
              · refine and_congr_right (fun _ => ?_)
                omega
            ·
              refine V_if_eq_f (tgt := 56) d_M_turn_45 (by decide) (show ¬ bI (bt (f (31 * (d - 1) + j)) n) = 0 by rw [hfe, h1]; decide) ?_
              refine V_aload_n d_M_turn_48 rfl rfl ?_
              refine V_bipush (v := (nI 7)) d_M_turn_49 (by decide) ?_
              refine V_iload_n d_M_turn_51 rfl rfl ?_
              refine V_iload_n d_M_turn_52 rfl rfl ?_
              refine v_M_put (c_M_put _ (r1 := 7) (by omega) hn) ⟨Nat.le_of_ble_eq_true rfl, Nat.le_of_ble_eq_true rfl⟩ (Nat.le_of_ble_eq_true rfl) d_M_turn_53 ?_
              rintro _ rfl
              refine V_at rfl rfl rfl (show _ = (st3 S (nI d) (nI sp) (nI pu), setA A 1 (upd f (217 + n) (f (217 + n) ||| nI 1 <<< (nI j &&& 31)))) from Prod.ext rfl (setA_setA _ _ _ _)) ?_
              refine V_iinc d_M_turn_56 rfl (nI_1 _) (by decide) ?_
              refine V_goto (tgt := 27) d_M_turn_59 (by decide) ?_
              refine ihj _ (fun i hi => ?_) (fun a v ha hv => ?_)
              · rw [pk_un (by omega)]; exact hf i hi
              · by_cases e : a = n
                · subst e
                  rw [pk_us, b_or, b_sh1 (by omega), Bool.or_eq_true, hb _ _ ha hv, decide_eq_true_eq]
                  constructor
                  · rintro (⟨z1, z2⟩ | rfl)
                    · exact ⟨z1, by omega⟩
                    · exact ⟨h1, by omega⟩
                  · rintro ⟨z1, z2⟩
                    by_cases e2 : v = j
                    · exact Or.inr e2
                    · exact Or.inl ⟨z1, by omega⟩
                · rw [pk_un (by omega), hb _ _ ha hv]
                  refine and_congr_right (fun _ => ?_)
                  omega
        refine V_iload_n d_M_turn_19 rfl rfl ?_
        refine V_bipush (v := (nI 31)) d_M_turn_20 (by decide) ?_
        refine V_icmp_ge_f (tgt := 68) d_M_turn_22 (by decide) (nI_ge hn (by omega)) ?_
        refine V_iconst (v := (nI 0)) d_M_turn_25 (by decide) ?_
        refine V_istore_n d_M_turn_26 rfl (by decide) ?_
        refine inner 0 (by omega) f hf (fun a v ha hv => ?_)
        rw [hb a v ha hv]
        refine and_congr_right (fun _ => ?_)
        omega
    refine V_istore_n d_M_turn_4 rfl (by decide) ?_
    refine V_iload_n d_M_turn_5 rfl rfl ?_
    refine V_if_ge_t (tgt := 11) d_M_turn_6 (by decide) (by decide) ?_
    refine V_aload_n d_M_turn_11 rfl rfl ?_
    refine V_bipush (v := (nI 7)) d_M_turn_12 (by decide) ?_
    refine v_M_clear (c_M_clear _ (r1 := 7) (by omega)) ⟨Nat.le_of_ble_eq_true rfl, Nat.le_of_ble_eq_true rfl⟩ (Nat.le_of_ble_eq_true rfl) d_M_turn_14 ?_
    rintro _ rfl
    refine V_iconst (v := (nI 0)) d_M_turn_17 (by decide) ?_
    refine V_istore_n d_M_turn_18 rfl (by decide) ?_
    refine loop 0 (by omega) _ _ (fun i hi => clF_lo (by omega)) (fun a v ha hv => ?_)
    rw [show clF (A 1) 7 31 (217 + a) = nI 0 from clF_in (r := 7) ha, b_n0]
    exact ⟨fun z => (by cases z), fun z => absurd z.2 (Nat.not_lt_zero _)⟩
set_option maxHeartbeats 8000000 in
theorem c_M_define (S : Nat → Int32) (A : Nat → Nat → Int32) {d sp pu : Nat} (hd : d ≤ 6) : C_M_define [] (st3 S (nI d) (nI sp) (nI pu), A) (fun r u2 => (d = 0 → r = -3 ∧ u2 = (st3 S (nI d) (nI sp) (nI pu), A)) ∧ (¬ d = 0 → r = nI d ∧ u2 = (st3 S (nI 0) (nI 0) (nI 0), setA A 1 (cpF (A 1) (d - 1) 6 31)))) := by
  refine e_M_define ?_
  intro p l e s m args below meth c D q k A0
  by_cases h0 : d = 0
  ·
    refine V_aload_n d_M_define_0 rfl rfl ?_
    refine mg_depth d_M_define_1 ?_
    refine V_if_ne_f (tgt := 10) d_M_define_4 (by decide) (by rw [h0]; rfl) ?_
    refine V_bipush (v := (-3)) d_M_define_7 (by decide) ?_
    exact V_iret d_M_define_9 rfl (⟨fun _ => ⟨rfl, rfl⟩, fun z => absurd h0 z⟩)
  ·
    refine V_aload_n d_M_define_0 rfl rfl ?_
    refine mg_depth d_M_define_1 ?_
    refine V_if_ne_t (tgt := 10) d_M_define_4 (by decide) (nI_ne0 (by omega) (by omega)) ?_
    refine V_aload_n d_M_define_10 rfl rfl ?_
    refine mg_depth d_M_define_11 ?_
    refine V_istore_n d_M_define_14 rfl (by decide) ?_
    refine V_aload_n d_M_define_15 rfl rfl ?_
    refine V_aload_n d_M_define_16 rfl rfl ?_
    refine mg_depth d_M_define_17 ?_
    refine V_iconst (v := (nI 1)) d_M_define_20 (by decide) ?_
    refine V_isub d_M_define_21 (pk_sub (by omega)) ?_
    refine V_bipush (v := (nI 6)) d_M_define_22 (by decide) ?_
    refine v_M_copy (c_M_copy _ (a := d - 1) (b1 := 6) (by omega) (by omega) (by omega)) ⟨Nat.le_of_ble_eq_true rfl, Nat.le_of_ble_eq_true rfl⟩ (Nat.le_of_ble_eq_true rfl) d_M_define_24 ?_
    rintro _ rfl
    refine V_aload_n d_M_define_27 rfl rfl ?_
    refine v_M_discard (c_M_discard _) ⟨Nat.le_of_ble_eq_true rfl, Nat.le_of_ble_eq_true rfl⟩ (Nat.le_of_ble_eq_true rfl) d_M_define_28 ?_
    rintro _ rfl
    refine V_iload_n d_M_define_31 rfl rfl ?_
    refine V_iret d_M_define_32 rfl ⟨fun z => absurd z h0, fun _ => ⟨rfl, Prod.ext ?_ rfl⟩⟩
    exact ext4 rfl rfl rfl rfl (fun j hj => by dsimp only; simp (disch := omega) only [st3_ge])
end
section
/-! PairExpressionsModel: the questions -/
def MG (u : XS) (G : Nat → Nat → Bool) : Prop := ∀ a v, a < 31 → v < 31 → bt (u.2 1 (31 * 6 + a)) v = G a v
set_option maxHeartbeats 4000000 in
theorem c_M_related (u : XS) (G : Nat → Nat → Bool) (hG : MG u G) (a1 a2 a3 a4 : Int32) : C_M_related [.int a1, .int a2, .int a3, .int a4] u (fun r u2 => u2 = u ∧ (¬ (isW a1 a2 ∧ isW a3 a4) → r = nI 0) ∧ (isW a1 a2 → isW a3 a4 → r = bI (G (wn a1 a2) (wn a3 a4)))) := by
  refine e_M_related ?_
  intro p l e s m args below meth c D q k A0
  refine V_aload_n d_M_related_0 rfl rfl ?_
  refine V_iload_n d_M_related_1 rfl rfl ?_
  refine V_iload_n d_M_related_2 rfl rfl ?_
  refine v_M_isWord (c_M_isWord u a1 a2) ⟨Nat.le_of_ble_eq_true rfl, Nat.le_of_ble_eq_true rfl⟩ (Nat.le_of_ble_eq_true rfl) d_M_related_3 ?_
  rintro r u ⟨rfl, ⟨rfl, hn⟩ | ⟨rfl, L, B, hL, hB, rfl, rfl⟩⟩
  ·
    refine V_if_eq_t (tgt := 47) d_M_related_6 (by decide) (rfl) ?_
    refine V_iconst (v := (nI 0)) d_M_related_47 (by decide) ?_
    exact V_zret d_M_related_48 rfl (rfl) (⟨rfl, fun _ => rfl, fun h => absurd h hn⟩)
  ·
    refine V_if_eq_f (tgt := 47) d_M_related_6 (by decide) (by decide) ?_
    refine V_aload_n d_M_related_9 rfl rfl ?_
    refine V_iload_n d_M_related_10 rfl rfl ?_
    refine V_iload d_M_related_11 rfl ?_
    refine v_M_isWord (c_M_isWord u a3 a4) ⟨Nat.le_of_ble_eq_true rfl, Nat.le_of_ble_eq_true rfl⟩ (Nat.le_of_ble_eq_true rfl) d_M_related_13 ?_
    rintro r u ⟨rfl, ⟨rfl, hn⟩ | ⟨rfl, L2, B2, hL2, hB2, rfl, rfl⟩⟩
    ·
      refine V_if_eq_t (tgt := 47) d_M_related_16 (by decide) (rfl) ?_
      refine V_iconst (v := (nI 0)) d_M_related_47 (by decide) ?_
      exact V_zret d_M_related_48 rfl (rfl) (⟨rfl, fun _ => rfl, fun _ h => absurd h hn⟩)
    · have w1 := wn_lt hL hB
      have w2 := wn_lt hL2 hB2
      refine V_if_eq_f (tgt := 47) d_M_related_16 (by decide) (by decide) ?_
      refine V_aload_n d_M_related_19 rfl rfl ?_
      refine V_bipush (v := (nI 6)) d_M_related_20 (by decide) ?_
      refine V_iconst (v := (nI 1)) d_M_related_22 (by decide) ?_
      refine V_iload_n d_M_related_23 rfl rfl ?_
      refine V_ishl d_M_related_24 (nI_shl1 (by omega)) ?_
      refine V_iconst (v := (nI 1)) d_M_related_25 (by decide) ?_
      refine V_isub d_M_related_26 (pk_sub (Nat.one_le_two_pow)) ?_
      refine V_iload_n d_M_related_27 rfl rfl ?_
      refine V_iadd d_M_related_28 (nI_add _ _) ?_
      refine V_iconst (v := (nI 1)) d_M_related_29 (by decide) ?_
      refine V_iload_n d_M_related_30 rfl rfl ?_
      refine V_ishl d_M_related_31 (nI_shl1 (by omega)) ?_
      refine V_iconst (v := (nI 1)) d_M_related_32 (by decide) ?_
      refine V_isub d_M_related_33 (pk_sub (Nat.one_le_two_pow)) ?_
      refine V_iload d_M_related_34 rfl ?_
      refine V_iadd d_M_related_36 (nI_add _ _) ?_
      refine v_M_has (c_M_has u (r1 := 6) (by omega) w1 w2) ⟨Nat.le_of_ble_eq_true rfl, Nat.le_of_ble_eq_true rfl⟩ (Nat.le_of_ble_eq_true rfl) d_M_related_37 ?_
      rintro r u ⟨rfl, rfl⟩
      rw [hG _ _ w1 w2]
      cases hg : G (2 ^ L - 1 + B) (2 ^ L2 - 1 + B2)
      ·
        refine V_if_eq_t (tgt := 47) d_M_related_40 (by decide) (rfl) ?_
        refine V_iconst (v := (nI 0)) d_M_related_47 (by decide) ?_
        exact V_zret d_M_related_48 rfl (rfl) (⟨rfl, fun _ => rfl, fun _ _ => by rw [wn_eq hL hB, wn_eq hL2 hB2, hg]; rfl⟩)
      ·
        refine V_if_eq_f (tgt := 47) d_M_related_40 (by decide) (by decide) ?_
        refine V_iconst (v := (nI 1)) d_M_related_43 (by decide) ?_
        refine V_goto (tgt := 48) d_M_related_44 (by decide) ?_
        exact V_zret d_M_related_48 rfl (rfl) (⟨rfl, fun h => absurd ⟨isW_mk hL hB, isW_mk hL2 hB2⟩ h, fun _ _ => by rw [wn_eq hL hB, wn_eq hL2 hB2, hg]; rfl⟩)
set_option maxHeartbeats 4000000 in
theorem c_M_imagesOf (u : XS) (G : Nat → Nat → Bool) (hG : MG u G) {a : Nat} (ha : a < 31) : C_M_imagesOf [.int (nI a)] u (fun r u2 => u2 = u ∧ r = nI (cnt (G a) 31)) := by
  generalize hpost : (fun (r : Int32) (u2 : XS) => u2 = u ∧ r = nI (cnt (G a) 31)) = post
  refine e_M_imagesOf ?_
  intro p l e s m args below meth c D q k A0
  have loop : ∀ n, n ≤ 31 → (V p l e rm_M_imagesOf s m args below meth c R_M wM b_M_imagesOf 4 (some .int) D (mty k) A0 (mw q k) 0 0 (MQ below (va_Qi post (vB D (mty k) (mw q k) A0) A0) args s 0 0 A0) (4) ([some (.ref (q 0)), some (.int (nI a)), some (.int (nI (cnt (G a) n))), some (.int (nI n))]) ([]) (u)) := by
    refine dn 31 ?_ ?_
    ·
      refine V_iload_n d_M_imagesOf_4 rfl rfl ?_
      refine V_bipush (v := (nI 31)) d_M_imagesOf_5 (by decide) ?_
      refine V_icmp_ge_t (tgt := 35) d_M_imagesOf_7 (by decide) (nI_le (by omega) (by omega)) ?_
      refine V_iload_n d_M_imagesOf_35 rfl rfl ?_
      exact V_iret d_M_imagesOf_36 rfl (by rw [← hpost]; exact ⟨rfl, rfl⟩)
    · intro n hn ih
      refine V_iload_n d_M_imagesOf_4 rfl rfl ?_
      refine V_bipush (v := (nI 31)) d_M_imagesOf_5 (by decide) ?_
      refine V_icmp_ge_f (tgt := 35) d_M_imagesOf_7 (by decide) (nI_ge hn (by omega)) ?_
      refine V_aload_n d_M_imagesOf_10 rfl rfl ?_
      refine V_bipush (v := (nI 6)) d_M_imagesOf_11 (by decide) ?_
      refine V_iload_n d_M_imagesOf_13 rfl rfl ?_
      refine V_iload_n d_M_imagesOf_14 rfl rfl ?_
      refine v_M_has (c_M_has u (r1 := 6) (by omega) ha hn) ⟨Nat.le_of_ble_eq_true rfl, Nat.le_of_ble_eq_true rfl⟩ (Nat.le_of_ble_eq_true rfl) d_M_imagesOf_15 ?_
      rintro r u ⟨rfl, rfl⟩
      rw [hG _ _ ha hn]
      cases hg : G a n
      · have he : cnt (G a) (n + 1) = cnt (G a) n := by rw [cnt, hg]; rfl
        rw [he] at ih
        refine V_if_eq_t (tgt := 27) d_M_imagesOf_18 (by decide) (rfl) ?_
        refine V_iload_n d_M_imagesOf_27 rfl rfl ?_
        refine V_istore_n d_M_imagesOf_28 rfl (by decide) ?_
        refine V_iinc d_M_imagesOf_29 rfl (nI_1 _) (by decide) ?_
        refine V_goto (tgt := 4) d_M_imagesOf_32 (by decide) ?_
        exact ih
      · have he : cnt (G a) (n + 1) = cnt (G a) n + 1 := by rw [cnt, hg]; rfl
        rw [he] at ih
        refine V_if_eq_f (tgt := 27) d_M_imagesOf_18 (by decide) (by decide) ?_
        refine V_iload_n d_M_imagesOf_21 rfl rfl ?_
        refine V_iconst (v := (nI 1)) d_M_imagesOf_22 (by decide) ?_
        refine V_iadd d_M_imagesOf_23 (nI_1 _) ?_
        refine V_goto (tgt := 28) d_M_imagesOf_24 (by decide) ?_
        refine V_istore_n d_M_imagesOf_28 rfl (by decide) ?_
        refine V_iinc d_M_imagesOf_29 rfl (nI_1 _) (by decide) ?_
        refine V_goto (tgt := 4) d_M_imagesOf_32 (by decide) ?_
        exact ih
  refine V_iconst (v := (nI 0)) d_M_imagesOf_0 (by decide) ?_
  refine V_istore_n d_M_imagesOf_1 rfl (by decide) ?_
  refine V_iconst (v := (nI 0)) d_M_imagesOf_2 (by decide) ?_
  refine V_istore_n d_M_imagesOf_3 rfl (by decide) ?_
  exact loop 0 (by omega)
set_option maxHeartbeats 4000000 in
theorem c_M_images (u : XS) (G : Nat → Nat → Bool) (hG : MG u G) (a1 a2 : Int32) : C_M_images [.int a1, .int a2] u (fun r u2 => u2 = u ∧ (¬ isW a1 a2 → r = -1) ∧ (isW a1 a2 → r = nI (cnt (G (wn a1 a2)) 31))) := by
  refine e_M_images ?_
  intro p l e s m args below meth c D q k A0
  refine V_aload_n d_M_images_0 rfl rfl ?_
  refine V_iload_n d_M_images_1 rfl rfl ?_
  refine V_iload_n d_M_images_2 rfl rfl ?_
  refine v_M_isWord (c_M_isWord u a1 a2) ⟨Nat.le_of_ble_eq_true rfl, Nat.le_of_ble_eq_true rfl⟩ (Nat.le_of_ble_eq_true rfl) d_M_images_3 ?_
  rintro r u ⟨rfl, ⟨rfl, hn⟩ | ⟨rfl, L, B, hL, hB, rfl, rfl⟩⟩
  ·
    refine V_if_eq_t (tgt := 23) d_M_images_6 (by decide) (rfl) ?_
    refine V_iconst (v := (-1)) d_M_images_23 (by decide) ?_
    exact V_iret d_M_images_24 rfl (⟨rfl, fun _ => rfl, fun h => absurd h hn⟩)
  · have w1 := wn_lt hL hB
    refine V_if_eq_f (tgt := 23) d_M_images_6 (by decide) (by decide) ?_
    refine V_aload_n d_M_images_9 rfl rfl ?_
    refine V_iconst (v := (nI 1)) d_M_images_10 (by decide) ?_
    refine V_iload_n d_M_images_11 rfl rfl ?_
    refine V_ishl d_M_images_12 (nI_shl1 (by omega)) ?_
    refine V_iconst (v := (nI 1)) d_M_images_13 (by decide) ?_
    refine V_isub d_M_images_14 (pk_sub (Nat.one_le_two_pow)) ?_
    refine V_iload_n d_M_images_15 rfl rfl ?_
    refine V_iadd d_M_images_16 (nI_add _ _) ?_
    refine v_M_imagesOf (c_M_imagesOf u G hG w1) ⟨Nat.le_of_ble_eq_true rfl, Nat.le_of_ble_eq_true rfl⟩ (Nat.le_of_ble_eq_true rfl) d_M_images_17 ?_
    rintro r u ⟨rfl, rfl⟩
    refine V_goto (tgt := 24) d_M_images_20 (by decide) ?_
    exact V_iret d_M_images_24 rfl (⟨rfl, fun h => absurd (isW_mk hL hB) h, fun _ => by rw [wn_eq hL hB]⟩)
set_option maxHeartbeats 4000000 in
theorem c_M_sources (u : XS) (G : Nat → Nat → Bool) (hG : MG u G) (a1 a2 : Int32) : C_M_sources [.int a1, .int a2] u (fun r u2 => u2 = u ∧ (¬ isW a1 a2 → r = -1) ∧ (isW a1 a2 → r = nI (cnt (fun a => G a (wn a1 a2)) 31))) := by
  generalize hpost : (fun (r : Int32) (u2 : XS) => u2 = u ∧ (¬ isW a1 a2 → r = -1) ∧ (isW a1 a2 → r = nI (cnt (fun a => G a (wn a1 a2)) 31))) = post
  refine e_M_sources ?_
  intro p l e s m args below meth c D q k A0
  refine V_aload_n d_M_sources_0 rfl rfl ?_
  refine V_iload_n d_M_sources_1 rfl rfl ?_
  refine V_iload_n d_M_sources_2 rfl rfl ?_
  refine v_M_isWord (c_M_isWord u a1 a2) ⟨Nat.le_of_ble_eq_true rfl, Nat.le_of_ble_eq_true rfl⟩ (Nat.le_of_ble_eq_true rfl) d_M_sources_3 ?_
  rintro r u ⟨rfl, ⟨rfl, hn⟩ | ⟨rfl, L, B, hL, hB, rfl, rfl⟩⟩
  ·
    refine V_if_ne_f (tgt := 11) d_M_sources_6 (by decide) (rfl) ?_
    refine V_iconst (v := (-1)) d_M_sources_9 (by decide) ?_
    exact V_iret d_M_sources_10 rfl (by rw [← hpost]; exact ⟨rfl, fun _ => rfl, fun h => absurd h hn⟩)
  · have w1 := wn_lt hL hB
    have loop : ∀ n, n ≤ 31 → (V p l e rm_M_sources s m args below meth c R_M wM b_M_sources 5 (some .int) D (mty k) A0 (mw q k) 0 0 (MQ below (va_Qi post (vB D (mty k) (mw q k) A0) A0) args s 0 0 A0) (16) ([some (.ref (q 0)), some (.int (nI L)), some (.int (nI B)), some (.int (nI (cnt (fun a => G a (2 ^ L - 1 + B)) n))), some (.int (nI n))]) ([]) (u)) := by
      refine dn 31 ?_ ?_
      ·
        refine V_iload d_M_sources_16 rfl ?_
        refine V_bipush (v := (nI 31)) d_M_sources_18 (by decide) ?_
        refine V_icmp_ge_t (tgt := 55) d_M_sources_20 (by decide) (nI_le (by omega) (by omega)) ?_
        refine V_iload_n d_M_sources_55 rfl rfl ?_
        exact V_iret d_M_sources_56 rfl (by rw [← hpost]; exact ⟨rfl, fun h => absurd (isW_mk hL hB) h, fun _ => by rw [wn_eq hL hB]⟩)
      · intro n hn ih
        refine V_iload d_M_sources_16 rfl ?_
        refine V_bipush (v := (nI 31)) d_M_sources_18 (by decide) ?_
        refine V_icmp_ge_f (tgt := 55) d_M_sources_20 (by decide) (nI_ge hn (by omega)) ?_
        refine V_aload_n d_M_sources_23 rfl rfl ?_
        refine V_bipush (v := (nI 6)) d_M_sources_24 (by decide) ?_
        refine V_iload d_M_sources_26 rfl ?_
        refine V_iconst (v := (nI 1)) d_M_sources_28 (by decide) ?_
        refine V_iload_n d_M_sources_29 rfl rfl ?_
        refine V_ishl d_M_sources_30 (nI_shl1 (by omega)) ?_
        refine V_iconst (v := (nI 1)) d_M_sources_31 (by decide) ?_
        refine V_isub d_M_sources_32 (pk_sub (Nat.one_le_two_pow)) ?_
        refine V_iload_n d_M_sources_33 rfl rfl ?_
        refine V_iadd d_M_sources_34 (nI_add _ _) ?_
        refine v_M_has (c_M_has u (r1 := 6) (by omega) hn w1) ⟨Nat.le_of_ble_eq_true rfl, Nat.le_of_ble_eq_true rfl⟩ (Nat.le_of_ble_eq_true rfl) d_M_sources_35 ?_
        rintro r u ⟨rfl, rfl⟩
        rw [hG _ _ hn w1]
        cases hg : G n (2 ^ L - 1 + B)
        · have he : cnt (fun a => G a (2 ^ L - 1 + B)) (n + 1) = cnt (fun a => G a (2 ^ L - 1 + B)) n := by rw [cnt, hg]; rfl
          rw [he] at ih
          refine V_if_eq_t (tgt := 47) d_M_sources_38 (by decide) (rfl) ?_
          refine V_iload_n d_M_sources_47 rfl rfl ?_
          refine V_istore_n d_M_sources_48 rfl (by decide) ?_
          refine V_iinc d_M_sources_49 rfl (nI_1 _) (by decide) ?_
          refine V_goto (tgt := 16) d_M_sources_52 (by decide) ?_
          exact ih
        · have he : cnt (fun a => G a (2 ^ L - 1 + B)) (n + 1) = cnt (fun a => G a (2 ^ L - 1 + B)) n + 1 := by rw [cnt, hg]; rfl
          rw [he] at ih
          refine V_if_eq_f (tgt := 47) d_M_sources_38 (by decide) (by decide) ?_
          refine V_iload_n d_M_sources_41 rfl rfl ?_
          refine V_iconst (v := (nI 1)) d_M_sources_42 (by decide) ?_
          refine V_iadd d_M_sources_43 (nI_1 _) ?_
          refine V_goto (tgt := 48) d_M_sources_44 (by decide) ?_
          refine V_istore_n d_M_sources_48 rfl (by decide) ?_
          refine V_iinc d_M_sources_49 rfl (nI_1 _) (by decide) ?_
          refine V_goto (tgt := 16) d_M_sources_52 (by decide) ?_
          exact ih
    refine V_if_ne_t (tgt := 11) d_M_sources_6 (by decide) (by decide) ?_
    refine V_iconst (v := (nI 0)) d_M_sources_11 (by decide) ?_
    refine V_istore_n d_M_sources_12 rfl (by decide) ?_
    refine V_iconst (v := (nI 0)) d_M_sources_13 (by decide) ?_
    refine V_istore d_M_sources_14 (by decide) ?_
    exact loop 0 (by omega)
set_option maxHeartbeats 4000000 in
theorem c_M_pairs (u : XS) (G : Nat → Nat → Bool) (hG : MG u G) : C_M_pairs [] u (fun r u2 => u2 = u ∧ r = nI (sm (fun a => cnt (G a) 31) 31)) := by
  generalize hpost : (fun (r : Int32) (u2 : XS) => u2 = u ∧ r = nI (sm (fun a => cnt (G a) 31) 31)) = post
  refine e_M_pairs ?_
  intro p l e s m args below meth c D q k A0
  have loop : ∀ n, n ≤ 31 → (V p l e rm_M_pairs s m args below meth c R_M wM b_M_pairs 3 (some .int) D (mty k) A0 (mw q k) 0 0 (MQ below (va_Qi post (vB D (mty k) (mw q k) A0) A0) args s 0 0 A0) (4) ([some (.ref (q 0)), some (.int (nI (sm (fun a => cnt (G a) 31) n))), some (.int (nI n))]) ([]) (u)) := by
    refine dn 31 ?_ ?_
    ·
      refine V_iload_n d_M_pairs_4 rfl rfl ?_
      refine V_bipush (v := (nI 31)) d_M_pairs_5 (by decide) ?_
      refine V_icmp_ge_t (tgt := 24) d_M_pairs_7 (by decide) (nI_le (by omega) (by omega)) ?_
      refine V_iload_n d_M_pairs_24 rfl rfl ?_
      exact V_iret d_M_pairs_25 rfl (by rw [← hpost]; exact ⟨rfl, rfl⟩)
    · intro n hn ih
      refine V_iload_n d_M_pairs_4 rfl rfl ?_
      refine V_bipush (v := (nI 31)) d_M_pairs_5 (by decide) ?_
      refine V_icmp_ge_f (tgt := 24) d_M_pairs_7 (by decide) (nI_ge hn (by omega)) ?_
      refine V_iload_n d_M_pairs_10 rfl rfl ?_
      refine V_aload_n d_M_pairs_11 rfl rfl ?_
      refine V_iload_n d_M_pairs_12 rfl rfl ?_
      refine v_M_imagesOf (c_M_imagesOf u G hG hn) ⟨Nat.le_of_ble_eq_true rfl, Nat.le_of_ble_eq_true rfl⟩ (Nat.le_of_ble_eq_true rfl) d_M_pairs_13 ?_
      rintro r u ⟨rfl, rfl⟩
      refine V_iadd d_M_pairs_16 (nI_add _ _) ?_
      refine V_istore_n d_M_pairs_17 rfl (by decide) ?_
      refine V_iinc d_M_pairs_18 rfl (nI_1 _) (by decide) ?_
      refine V_goto (tgt := 4) d_M_pairs_21 (by decide) ?_
      exact ih
  refine V_iconst (v := (nI 0)) d_M_pairs_0 (by decide) ?_
  refine V_istore_n d_M_pairs_1 rfl (by decide) ?_
  refine V_iconst (v := (nI 0)) d_M_pairs_2 (by decide) ?_
  refine V_istore_n d_M_pairs_3 rfl (by decide) ?_
  exact loop 0 (by omega)
set_option maxHeartbeats 4000000 in
theorem c_M_domain (u : XS) (G : Nat → Nat → Bool) (hG : MG u G) : C_M_domain [] u (fun r u2 => u2 = u ∧ r = nI (cnt (fun a => decide (1 ≤ cnt (G a) 31)) 31)) := by
  generalize hpost : (fun (r : Int32) (u2 : XS) => u2 = u ∧ r = nI (cnt (fun a => decide (1 ≤ cnt (G a) 31)) 31)) = post
  refine e_M_domain ?_
  intro p l e s m args below meth c D q k A0
  have loop : ∀ n, n ≤ 31 → (V p l e rm_M_domain s m args below meth c R_M wM b_M_domain 3 (some .int) D (mty k) A0 (mw q k) 0 0 (MQ below (va_Qi post (vB D (mty k) (mw q k) A0) A0) args s 0 0 A0) (4) ([some (.ref (q 0)), some (.int (nI (cnt (fun a => decide (1 ≤ cnt (G a) 31)) n))), some (.int (nI n))]) ([]) (u)) := by
    refine dn 31 ?_ ?_
    ·
      refine V_iload_n d_M_domain_4 rfl rfl ?_
      refine V_bipush (v := (nI 31)) d_M_domain_5 (by decide) ?_
      refine V_icmp_ge_t (tgt := 32) d_M_domain_7 (by decide) (nI_le (by omega) (by omega)) ?_
      refine V_iload_n d_M_domain_32 rfl rfl ?_
      exact V_iret d_M_domain_33 rfl (by rw [← hpost]; exact ⟨rfl, rfl⟩)
    · intro n hn ih
      refine V_iload_n d_M_domain_4 rfl rfl ?_
      refine V_bipush (v := (nI 31)) d_M_domain_5 (by decide) ?_
      refine V_icmp_ge_f (tgt := 32) d_M_domain_7 (by decide) (nI_ge hn (by omega)) ?_
      refine V_aload_n d_M_domain_10 rfl rfl ?_
      refine V_iload_n d_M_domain_11 rfl rfl ?_
      refine v_M_imagesOf (c_M_imagesOf u G hG hn) ⟨Nat.le_of_ble_eq_true rfl, Nat.le_of_ble_eq_true rfl⟩ (Nat.le_of_ble_eq_true rfl) d_M_domain_12 ?_
      rintro r u ⟨rfl, rfl⟩
      have hc := cnt_le (G n) 31
      by_cases hle : 1 ≤ cnt (G n) 31
      · have he : cnt (fun a => decide (1 ≤ cnt (G a) 31)) (n + 1) = cnt (fun a => decide (1 ≤ cnt (G a) 31)) n + 1 := by rw [cnt, decide_eq_true hle]; rfl
        rw [he] at ih
        refine V_if_le_f (tgt := 24) d_M_domain_15 (by decide) (nI_nle hle (by omega)) ?_
        refine V_iload_n d_M_domain_18 rfl rfl ?_
        refine V_iconst (v := (nI 1)) d_M_domain_19 (by decide) ?_
        refine V_iadd d_M_domain_20 (nI_1 _) ?_
        refine V_goto (tgt := 25) d_M_domain_21 (by decide) ?_
        refine V_istore_n d_M_domain_25 rfl (by decide) ?_
        refine V_iinc d_M_domain_26 rfl (nI_1 _) (by decide) ?_
        refine V_goto (tgt := 4) d_M_domain_29 (by decide) ?_
        exact ih
      · have he : cnt (fun a => decide (1 ≤ cnt (G a) 31)) (n + 1) = cnt (fun a => decide (1 ≤ cnt (G a) 31)) n := by rw [cnt, decide_eq_false hle]; rfl
        rw [he] at ih
        refine V_if_le_t (tgt := 24) d_M_domain_15 (by decide) (by rw [show cnt (G n) 31 = 0 by omega]; decide) ?_
        refine V_iload_n d_M_domain_24 rfl rfl ?_
        refine V_istore_n d_M_domain_25 rfl (by decide) ?_
        refine V_iinc d_M_domain_26 rfl (nI_1 _) (by decide) ?_
        refine V_goto (tgt := 4) d_M_domain_29 (by decide) ?_
        exact ih
  refine V_iconst (v := (nI 0)) d_M_domain_0 (by decide) ?_
  refine V_istore_n d_M_domain_1 rfl (by decide) ?_
  refine V_iconst (v := (nI 0)) d_M_domain_2 (by decide) ?_
  refine V_istore_n d_M_domain_3 rfl (by decide) ?_
  exact loop 0 (by omega)
set_option maxHeartbeats 4000000 in
theorem c_M_manyValued (u : XS) (G : Nat → Nat → Bool) (hG : MG u G) : C_M_manyValued [] u (fun r u2 => u2 = u ∧ r = nI (cnt (fun a => decide (2 ≤ cnt (G a) 31)) 31)) := by
  generalize hpost : (fun (r : Int32) (u2 : XS) => u2 = u ∧ r = nI (cnt (fun a => decide (2 ≤ cnt (G a) 31)) 31)) = post
  refine e_M_manyValued ?_
  intro p l e s m args below meth c D q k A0
  have loop : ∀ n, n ≤ 31 → (V p l e rm_M_manyValued s m args below meth c R_M wM b_M_manyValued 3 (some .int) D (mty k) A0 (mw q k) 0 0 (MQ below (va_Qi post (vB D (mty k) (mw q k) A0) A0) args s 0 0 A0) (4) ([some (.ref (q 0)), some (.int (nI (cnt (fun a => decide (2 ≤ cnt (G a) 31)) n))), some (.int (nI n))]) ([]) (u)) := by
    refine dn 31 ?_ ?_
    ·
      refine V_iload_n d_M_manyValued_4 rfl rfl ?_
      refine V_bipush (v := (nI 31)) d_M_manyValued_5 (by decide) ?_
      refine V_icmp_ge_t (tgt := 33) d_M_manyValued_7 (by decide) (nI_le (by omega) (by omega)) ?_
      refine V_iload_n d_M_manyValued_33 rfl rfl ?_
      exact V_iret d_M_manyValued_34 rfl (by rw [← hpost]; exact ⟨rfl, rfl⟩)
    · intro n hn ih
      refine V_iload_n d_M_manyValued_4 rfl rfl ?_
      refine V_bipush (v := (nI 31)) d_M_manyValued_5 (by decide) ?_
      refine V_icmp_ge_f (tgt := 33) d_M_manyValued_7 (by decide) (nI_ge hn (by omega)) ?_
      refine V_aload_n d_M_manyValued_10 rfl rfl ?_
      refine V_iload_n d_M_manyValued_11 rfl rfl ?_
      refine v_M_imagesOf (c_M_imagesOf u G hG hn) ⟨Nat.le_of_ble_eq_true rfl, Nat.le_of_ble_eq_true rfl⟩ (Nat.le_of_ble_eq_true rfl) d_M_manyValued_12 ?_
      rintro r u ⟨rfl, rfl⟩
      have hc := cnt_le (G n) 31
      by_cases hle : 2 ≤ cnt (G n) 31
      · have he : cnt (fun a => decide (2 ≤ cnt (G a) 31)) (n + 1) = cnt (fun a => decide (2 ≤ cnt (G a) 31)) n + 1 := by rw [cnt, decide_eq_true hle]; rfl
        rw [he] at ih
        refine V_iconst (v := (nI 1)) d_M_manyValued_15 (by decide) ?_
        refine V_icmp_le_f (tgt := 25) d_M_manyValued_16 (by decide) (nI_ge (by omega) (by omega)) ?_
        refine V_iload_n d_M_manyValued_19 rfl rfl ?_
        refine V_iconst (v := (nI 1)) d_M_manyValued_20 (by decide) ?_
        refine V_iadd d_M_manyValued_21 (nI_1 _) ?_
        refine V_goto (tgt := 26) d_M_manyValued_22 (by decide) ?_
        refine V_istore_n d_M_manyValued_26 rfl (by decide) ?_
        refine V_iinc d_M_manyValued_27 rfl (nI_1 _) (by decide) ?_
        refine V_goto (tgt := 4) d_M_manyValued_30 (by decide) ?_
        exact ih
      · have he : cnt (fun a => decide (2 ≤ cnt (G a) 31)) (n + 1) = cnt (fun a => decide (2 ≤ cnt (G a) 31)) n := by rw [cnt, decide_eq_false hle]; rfl
        rw [he] at ih
        refine V_iconst (v := (nI 1)) d_M_manyValued_15 (by decide) ?_
        refine V_icmp_le_t (tgt := 25) d_M_manyValued_16 (by decide) (nI_le (by omega) (by omega)) ?_
        refine V_iload_n d_M_manyValued_25 rfl rfl ?_
        refine V_istore_n d_M_manyValued_26 rfl (by decide) ?_
        refine V_iinc d_M_manyValued_27 rfl (nI_1 _) (by decide) ?_
        refine V_goto (tgt := 4) d_M_manyValued_30 (by decide) ?_
        exact ih
  refine V_iconst (v := (nI 0)) d_M_manyValued_0 (by decide) ?_
  refine V_istore_n d_M_manyValued_1 rfl (by decide) ?_
  refine V_iconst (v := (nI 0)) d_M_manyValued_2 (by decide) ?_
  refine V_istore_n d_M_manyValued_3 rfl (by decide) ?_
  exact loop 0 (by omega)
set_option maxHeartbeats 4000000 in
theorem c_M_fixed (u : XS) (G : Nat → Nat → Bool) (hG : MG u G) : C_M_fixed [] u (fun r u2 => u2 = u ∧ r = nI (cnt (fun a => G a a) 31)) := by
  generalize hpost : (fun (r : Int32) (u2 : XS) => u2 = u ∧ r = nI (cnt (fun a => G a a) 31)) = post
  refine e_M_fixed ?_
  intro p l e s m args below meth c D q k A0
  have loop : ∀ n, n ≤ 31 → (V p l e rm_M_fixed s m args below meth c R_M wM b_M_fixed 3 (some .int) D (mty k) A0 (mw q k) 0 0 (MQ below (va_Qi post (vB D (mty k) (mw q k) A0) A0) args s 0 0 A0) (4) ([some (.ref (q 0)), some (.int (nI (cnt (fun a => G a a) n))), some (.int (nI n))]) ([]) (u)) := by
    refine dn 31 ?_ ?_
    ·
      refine V_iload_n d_M_fixed_4 rfl rfl ?_
      refine V_bipush (v := (nI 31)) d_M_fixed_5 (by decide) ?_
      refine V_icmp_ge_t (tgt := 35) d_M_fixed_7 (by decide) (nI_le (by omega) (by omega)) ?_
      refine V_iload_n d_M_fixed_35 rfl rfl ?_
      exact V_iret d_M_fixed_36 rfl (by rw [← hpost]; exact ⟨rfl, rfl⟩)
    · intro n hn ih
      refine V_iload_n d_M_fixed_4 rfl rfl ?_
      refine V_bipush (v := (nI 31)) d_M_fixed_5 (by decide) ?_
      refine V_icmp_ge_f (tgt := 35) d_M_fixed_7 (by decide) (nI_ge hn (by omega)) ?_
      refine V_aload_n d_M_fixed_10 rfl rfl ?_
      refine V_bipush (v := (nI 6)) d_M_fixed_11 (by decide) ?_
      refine V_iload_n d_M_fixed_13 rfl rfl ?_
      refine V_iload_n d_M_fixed_14 rfl rfl ?_
      refine v_M_has (c_M_has u (r1 := 6) (by omega) hn hn) ⟨Nat.le_of_ble_eq_true rfl, Nat.le_of_ble_eq_true rfl⟩ (Nat.le_of_ble_eq_true rfl) d_M_fixed_15 ?_
      rintro r u ⟨rfl, rfl⟩
      rw [hG _ _ hn hn]
      cases hg : G n n
      · have he : cnt (fun a => G a a) (n + 1) = cnt (fun a => G a a) n := by rw [cnt, hg]; rfl
        rw [he] at ih
        refine V_if_eq_t (tgt := 27) d_M_fixed_18 (by decide) (rfl) ?_
        refine V_iload_n d_M_fixed_27 rfl rfl ?_
        refine V_istore_n d_M_fixed_28 rfl (by decide) ?_
        refine V_iinc d_M_fixed_29 rfl (nI_1 _) (by decide) ?_
        refine V_goto (tgt := 4) d_M_fixed_32 (by decide) ?_
        exact ih
      · have he : cnt (fun a => G a a) (n + 1) = cnt (fun a => G a a) n + 1 := by rw [cnt, hg]; rfl
        rw [he] at ih
        refine V_if_eq_f (tgt := 27) d_M_fixed_18 (by decide) (by decide) ?_
        refine V_iload_n d_M_fixed_21 rfl rfl ?_
        refine V_iconst (v := (nI 1)) d_M_fixed_22 (by decide) ?_
        refine V_iadd d_M_fixed_23 (nI_1 _) ?_
        refine V_goto (tgt := 28) d_M_fixed_24 (by decide) ?_
        refine V_istore_n d_M_fixed_28 rfl (by decide) ?_
        refine V_iinc d_M_fixed_29 rfl (nI_1 _) (by decide) ?_
        refine V_goto (tgt := 4) d_M_fixed_32 (by decide) ?_
        exact ih
  refine V_iconst (v := (nI 0)) d_M_fixed_0 (by decide) ?_
  refine V_istore_n d_M_fixed_1 rfl (by decide) ?_
  refine V_iconst (v := (nI 0)) d_M_fixed_2 (by decide) ?_
  refine V_istore_n d_M_fixed_3 rfl (by decide) ?_
  exact loop 0 (by omega)
set_option maxHeartbeats 4000000 in
theorem c_M_leads (u : XS) (G : Nat → Nat → Bool) (hG : MG u G) {a w : Nat} (ha : a < 31) (hw : w < 31) : C_M_leads [.int (nI a), .int (nI w)] u (fun r u2 => u2 = u ∧ r = bI (lead G a w)) := by
  generalize hpost : (fun (r : Int32) (u2 : XS) => u2 = u ∧ r = bI (lead G a w)) = post
  refine e_M_leads ?_
  intro p l e s m args below meth c D q k A0
  have loop : ∀ n, n ≤ 31 → anyN (fun v => G a v && G v w) n = false → (V p l e rm_M_leads s m args below meth c R_M wM b_M_leads 4 (some .boolean) D (mty k) A0 (mw q k) 0 0 (MQ below (va_Qi post (vB D (mty k) (mw q k) A0) A0) args s 0 0 A0) (2) ([some (.ref (q 0)), some (.int (nI a)), some (.int (nI w)), some (.int (nI n))]) ([]) (u)) := by
    refine dn 31 ?_ ?_
    · intro h
      refine V_iload_n d_M_leads_2 rfl rfl ?_
      refine V_bipush (v := (nI 31)) d_M_leads_3 (by decide) ?_
      refine V_icmp_ge_t (tgt := 38) d_M_leads_5 (by decide) (nI_le (by omega) (by omega)) ?_
      refine V_iconst (v := (nI 0)) d_M_leads_38 (by decide) ?_
      exact V_zret d_M_leads_39 rfl (rfl) (by rw [← hpost]; exact ⟨rfl, by rw [lead, h]; rfl⟩)
    · intro n hn ih h
      refine V_iload_n d_M_leads_2 rfl rfl ?_
      refine V_bipush (v := (nI 31)) d_M_leads_3 (by decide) ?_
      refine V_icmp_ge_f (tgt := 38) d_M_leads_5 (by decide) (nI_ge hn (by omega)) ?_
      refine V_aload_n d_M_leads_8 rfl rfl ?_
      refine V_bipush (v := (nI 6)) d_M_leads_9 (by decide) ?_
      refine V_iload_n d_M_leads_11 rfl rfl ?_
      refine V_iload_n d_M_leads_12 rfl rfl ?_
      refine v_M_has (c_M_has u (r1 := 6) (by omega) ha hn) ⟨Nat.le_of_ble_eq_true rfl, Nat.le_of_ble_eq_true rfl⟩ (Nat.le_of_ble_eq_true rfl) d_M_leads_13 ?_
      rintro r u ⟨rfl, rfl⟩
      rw [hG _ _ ha hn]
      cases hg : G a n
      ·
        refine V_if_eq_t (tgt := 32) d_M_leads_16 (by decide) (rfl) ?_
        refine V_iinc d_M_leads_32 rfl (nI_1 _) (by decide) ?_
        refine V_goto (tgt := 2) d_M_leads_35 (by decide) ?_
        exact ih (by rw [anyN, h, hg]; rfl)
      ·
        refine V_if_eq_f (tgt := 32) d_M_leads_16 (by decide) (by decide) ?_
        refine V_aload_n d_M_leads_19 rfl rfl ?_
        refine V_bipush (v := (nI 6)) d_M_leads_20 (by decide) ?_
        refine V_iload_n d_M_leads_22 rfl rfl ?_
        refine V_iload_n d_M_leads_23 rfl rfl ?_
        refine v_M_has (c_M_has u (r1 := 6) (by omega) hn hw) ⟨Nat.le_of_ble_eq_true rfl, Nat.le_of_ble_eq_true rfl⟩ (Nat.le_of_ble_eq_true rfl) d_M_leads_24 ?_
        rintro r u ⟨rfl, rfl⟩
        rw [hG _ _ hn hw]
        cases hg2 : G n w
        ·
          refine V_if_eq_t (tgt := 32) d_M_leads_27 (by decide) (rfl) ?_
          refine V_iinc d_M_leads_32 rfl (nI_1 _) (by decide) ?_
          refine V_goto (tgt := 2) d_M_leads_35 (by decide) ?_
          exact ih (by rw [anyN, h, hg, hg2]; rfl)
        ·
          refine V_if_eq_f (tgt := 32) d_M_leads_27 (by decide) (by decide) ?_
          refine V_iconst (v := (nI 1)) d_M_leads_30 (by decide) ?_
          exact V_zret d_M_leads_31 rfl (rfl) (by rw [← hpost]; exact ⟨rfl, by rw [lead, (anyN_iff 31).mpr ⟨n, hn, by rw [hg, hg2]; rfl⟩]; rfl⟩)
  refine V_iconst (v := (nI 0)) d_M_leads_0 (by decide) ?_
  refine V_istore_n d_M_leads_1 rfl (by decide) ?_
  exact loop 0 (by omega) rfl
set_option maxHeartbeats 4000000 in
theorem c_M_twoSteps (u : XS) (G : Nat → Nat → Bool) (hG : MG u G) : C_M_twoSteps [] u (fun r u2 => u2 = u ∧ r = nI (sm (fun a => cnt (lead G a) 31) 31)) := by
  generalize hpost : (fun (r : Int32) (u2 : XS) => u2 = u ∧ r = nI (sm (fun a => cnt (lead G a) 31) 31)) = post
  refine e_M_twoSteps ?_
  intro p l e s m args below meth c D q k A0
  have loop : ∀ n, n ≤ 31 → ∀ x3 : Option Value, (V p l e rm_M_twoSteps s m args below meth c R_M wM b_M_twoSteps 4 (some .int) D (mty k) A0 (mw q k) 0 0 (MQ below (va_Qi post (vB D (mty k) (mw q k) A0) A0) args s 0 0 A0) (4) ([some (.ref (q 0)), some (.int (nI (sm (fun a => cnt (lead G a) 31) n))), some (.int (nI n)), x3]) ([]) (u)) := by
    refine dn 31 ?_ ?_
    · intro x3
      refine V_iload_n d_M_twoSteps_4 rfl rfl ?_
      refine V_bipush (v := (nI 31)) d_M_twoSteps_5 (by decide) ?_
      refine V_icmp_ge_t (tgt := 47) d_M_twoSteps_7 (by decide) (nI_le (by omega) (by omega)) ?_
      refine V_iload_n d_M_twoSteps_47 rfl rfl ?_
      exact V_iret d_M_twoSteps_48 rfl (by rw [← hpost]; exact ⟨rfl, rfl⟩)
    · intro n hn ih x3
      have inner : ∀ j, j ≤ 31 → (V p l e rm_M_twoSteps s m args below meth c R_M wM b_M_twoSteps 4 (some .int) D (mty k) A0 (mw q k) 0 0 (MQ below (va_Qi post (vB D (mty k) (mw q k) A0) A0) args s 0 0 A0) (12) ([some (.ref (q 0)), some (.int (nI (sm (fun a => cnt (lead G a) 31) n + cnt (lead G n) j))), some (.int (nI n)), some (.int (nI j))]) ([]) (u)) := by
        refine dn 31 ?_ ?_
        ·
          refine V_iload_n d_M_twoSteps_12 rfl rfl ?_
          refine V_bipush (v := (nI 31)) d_M_twoSteps_13 (by decide) ?_
          refine V_icmp_ge_t (tgt := 41) d_M_twoSteps_15 (by decide) (nI_le (by omega) (by omega)) ?_
          refine V_iinc d_M_twoSteps_41 rfl (nI_1 _) (by decide) ?_
          refine V_goto (tgt := 4) d_M_twoSteps_44 (by decide) ?_
          exact ih _
        · intro j hj ihj
          refine V_iload_n d_M_twoSteps_12 rfl rfl ?_
          refine V_bipush (v := (nI 31)) d_M_twoSteps_13 (by decide) ?_
          refine V_icmp_ge_f (tgt := 41) d_M_twoSteps_15 (by decide) (nI_ge hj (by omega)) ?_
          refine V_aload_n d_M_twoSteps_18 rfl rfl ?_
          refine V_iload_n d_M_twoSteps_19 rfl rfl ?_
          refine V_iload_n d_M_twoSteps_20 rfl rfl ?_
          refine v_M_leads (c_M_leads u G hG hn hj) ⟨Nat.le_of_ble_eq_true rfl, Nat.le_of_ble_eq_true rfl⟩ (Nat.le_of_ble_eq_true rfl) d_M_twoSteps_21 ?_
          rintro r u ⟨rfl, rfl⟩
          cases hg : lead G n j
          · have he : cnt (lead G n) (j + 1) = cnt (lead G n) j := by rw [cnt, hg]; rfl
            rw [he] at ihj
            refine V_if_eq_t (tgt := 33) d_M_twoSteps_24 (by decide) (rfl) ?_
            refine V_iload_n d_M_twoSteps_33 rfl rfl ?_
            refine V_istore_n d_M_twoSteps_34 rfl (by decide) ?_
            refine V_iinc d_M_twoSteps_35 rfl (nI_1 _) (by decide) ?_
            refine V_goto (tgt := 12) d_M_twoSteps_38 (by decide) ?_
            exact ihj
          · have he : cnt (lead G n) (j + 1) = cnt (lead G n) j + 1 := by rw [cnt, hg]; rfl
            rw [he] at ihj
            refine V_if_eq_f (tgt := 33) d_M_twoSteps_24 (by decide) (by decide) ?_
            refine V_iload_n d_M_twoSteps_27 rfl rfl ?_
            refine V_iconst (v := (nI 1)) d_M_twoSteps_28 (by decide) ?_
            refine V_iadd d_M_twoSteps_29 (nI_1 _) ?_
            refine V_goto (tgt := 34) d_M_twoSteps_30 (by decide) ?_
            refine V_istore_n d_M_twoSteps_34 rfl (by decide) ?_
            refine V_iinc d_M_twoSteps_35 rfl (nI_1 _) (by decide) ?_
            refine V_goto (tgt := 12) d_M_twoSteps_38 (by decide) ?_
            exact ihj
      refine V_iload_n d_M_twoSteps_4 rfl rfl ?_
      refine V_bipush (v := (nI 31)) d_M_twoSteps_5 (by decide) ?_
      refine V_icmp_ge_f (tgt := 47) d_M_twoSteps_7 (by decide) (nI_ge hn (by omega)) ?_
      refine V_iconst (v := (nI 0)) d_M_twoSteps_10 (by decide) ?_
      refine V_istore_n d_M_twoSteps_11 rfl (by decide) ?_
      exact inner 0 (by omega)
  refine V_iconst (v := (nI 0)) d_M_twoSteps_0 (by decide) ?_
  refine V_istore_n d_M_twoSteps_1 rfl (by decide) ?_
  refine V_iconst (v := (nI 0)) d_M_twoSteps_2 (by decide) ?_
  refine V_istore_n d_M_twoSteps_3 rfl (by decide) ?_
  exact loop 0 (by omega) _
set_option maxHeartbeats 4000000 in
theorem c_M_image (u : XS) (G : Nat → Nat → Bool) (hG : MG u G) (a1 a2 a3 : Int32) : C_M_image [.int a1, .int a2, .int a3] u (fun r u2 => u2 = u ∧ (¬ isW a1 a2 → r = -1) ∧ (isW a1 a2 → imR (G (wn a1 a2)) a3 r)) := by
  generalize hpost : (fun (r : Int32) (u2 : XS) => u2 = u ∧ (¬ isW a1 a2 → r = -1) ∧ (isW a1 a2 → imR (G (wn a1 a2)) a3 r)) = post
  refine e_M_image ?_
  intro p l e s m args below meth c D q k A0
  refine V_aload_n d_M_image_0 rfl rfl ?_
  refine V_iload_n d_M_image_1 rfl rfl ?_
  refine V_iload_n d_M_image_2 rfl rfl ?_
  refine v_M_isWord (c_M_isWord u a1 a2) ⟨Nat.le_of_ble_eq_true rfl, Nat.le_of_ble_eq_true rfl⟩ (Nat.le_of_ble_eq_true rfl) d_M_image_3 ?_
  rintro r u ⟨rfl, ⟨rfl, hn⟩ | ⟨rfl, L, B, hL, hB, rfl, rfl⟩⟩
  ·
    refine V_if_ne_f (tgt := 11) d_M_image_6 (by decide) (rfl) ?_
    refine V_iconst (v := (-1)) d_M_image_9 (by decide) ?_
    exact V_iret d_M_image_10 rfl (by rw [← hpost]; exact ⟨rfl, fun _ => rfl, fun h => absurd h hn⟩)
  · have w1 := wn_lt hL hB
    have hrw : ∀ v, v < 31 → bt (u.2 1 (31 * 6 + (2 ^ L - 1 + B))) v = G (2 ^ L - 1 + B) v := fun v hv => hG _ _ w1 hv
    generalize hg : G (2 ^ L - 1 + B) = g at hrw
    have hfin : ∀ r : Int32, imR g a3 r → post r u := by
      intro r hr
      rw [← hpost]
      exact ⟨rfl, fun h => absurd (isW_mk hL hB) h, fun _ => by rw [wn_eq hL hB, hg]; exact hr⟩
    have loop : ∀ v, v ≤ 31 → ∀ x6 : Option Value, (∀ v', v' < v → g v' = true → ¬ a3 = nI (cnt g v')) → (V p l e rm_M_image s m args below meth c R_M wM b_M_image 7 (some .int) D (mty k) A0 (mw q k) 0 0 (MQ below (va_Qi post (vB D (mty k) (mw q k) A0) A0) args s 0 0 A0) (17) ([some (.ref (q 0)), some (.int (nI L)), some (.int (nI B)), some (.int a3), some (.int (nI (cnt g v))), some (.int (nI v)), x6]) ([]) (u)) := by
      refine dn 31 ?_ ?_
      · intro x6 hv
        refine V_iload d_M_image_17 rfl ?_
        refine V_bipush (v := (nI 31)) d_M_image_19 (by decide) ?_
        refine V_icmp_ge_t (tgt := 81) d_M_image_21 (by decide) (nI_le (by omega) (by omega)) ?_
        refine V_bipush (v := (-4)) d_M_image_81 (by decide) ?_
        exact V_iret d_M_image_83 rfl (hfin _ (Or.inr ⟨hv, rfl⟩))
      · intro v hv31 ih x6 hv
        have h4 := lenN_le v
        have hpw := pw_lt h4
        have hp1 : 1 ≤ 2 ^ lenN v := Nat.one_le_two_pow
        have hl2 := ln_2 v hv31
        refine V_iload d_M_image_17 rfl ?_
        refine V_bipush (v := (nI 31)) d_M_image_19 (by decide) ?_
        refine V_icmp_ge_f (tgt := 81) d_M_image_21 (by decide) (nI_ge hv31 (by omega)) ?_
        refine V_aload_n d_M_image_24 rfl rfl ?_
        refine V_bipush (v := (nI 6)) d_M_image_25 (by decide) ?_
        refine V_iconst (v := (nI 1)) d_M_image_27 (by decide) ?_
        refine V_iload_n d_M_image_28 rfl rfl ?_
        refine V_ishl d_M_image_29 (nI_shl1 (by omega)) ?_
        refine V_iconst (v := (nI 1)) d_M_image_30 (by decide) ?_
        refine V_isub d_M_image_31 (pk_sub (Nat.one_le_two_pow)) ?_
        refine V_iload_n d_M_image_32 rfl rfl ?_
        refine V_iadd d_M_image_33 (nI_add _ _) ?_
        refine V_iload d_M_image_34 rfl ?_
        refine v_M_has (c_M_has u (r1 := 6) (by omega) w1 hv31) ⟨Nat.le_of_ble_eq_true rfl, Nat.le_of_ble_eq_true rfl⟩ (Nat.le_of_ble_eq_true rfl) d_M_image_36 ?_
        rintro r u ⟨rfl, rfl⟩
        rw [hrw v hv31]
        cases hgv : g v
        · have he : cnt g (v + 1) = cnt g v := by rw [cnt, hgv]; rfl
          rw [he] at ih
          refine V_if_eq_t (tgt := 75) d_M_image_39 (by decide) (rfl) ?_
          refine V_iinc d_M_image_75 rfl (nI_1 _) (by decide) ?_
          refine V_goto (tgt := 17) d_M_image_78 (by decide) ?_
          refine ih _ (fun v' h1 h2 => ?_)
          by_cases e : v' = v
          · subst e; rw [hgv] at h2; cases h2
          · exact hv v' (by omega) h2
        · have he : cnt g (v + 1) = cnt g v + 1 := by rw [cnt, hgv]; rfl
          rw [he] at ih
          refine V_if_eq_f (tgt := 75) d_M_image_39 (by decide) (by decide) ?_
          refine V_iload d_M_image_42 rfl ?_
          refine V_iload_n d_M_image_44 rfl rfl ?_
          refine V_icmp_ne (tgt := 72) d_M_image_45 (by decide) (fun c_45 => ?_) (fun c_45 => ?_)
          ·
            refine V_iinc d_M_image_72 rfl (nI_1 _) (by decide) ?_
            refine V_iinc d_M_image_75 rfl (nI_1 _) (by decide) ?_
            refine V_goto (tgt := 17) d_M_image_78 (by decide) ?_
            refine ih _ (fun v' h1 h2 => ?_)
            by_cases e : v' = v
            · subst e; exact fun z => c_45 z.symm
            · exact hv v' (by omega) h2
          ·
            refine V_aload_n d_M_image_48 rfl rfl ?_
            refine V_iload d_M_image_49 rfl ?_
            refine v_M_lenOf (c_M_lenOf u hv31) ⟨Nat.le_of_ble_eq_true rfl, Nat.le_of_ble_eq_true rfl⟩ (Nat.le_of_ble_eq_true rfl) d_M_image_51 ?_
            rintro r u ⟨rfl, rfl⟩
            refine V_istore d_M_image_54 (by decide) ?_
            refine V_bipush (v := (nI 16)) d_M_image_56 (by decide) ?_
            refine V_iload d_M_image_58 rfl ?_
            refine V_imul d_M_image_60 (pk_mul _ _) ?_
            refine V_iload d_M_image_61 rfl ?_
            refine V_iadd d_M_image_63 (nI_add _ _) ?_
            refine V_iconst (v := (nI 1)) d_M_image_64 (by decide) ?_
            refine V_iload d_M_image_65 rfl ?_
            refine V_ishl d_M_image_67 (nI_shl1 (by omega)) ?_
            refine V_iconst (v := (nI 1)) d_M_image_68 (by decide) ?_
            refine V_isub d_M_image_69 (pk_sub (by omega)) ?_
            refine V_isub d_M_image_70 (pk_sub (by omega)) ?_
            refine V_iret d_M_image_71 rfl (hfin _ (Or.inl ⟨v, hv31, hgv, c_45.symm, ?_⟩))
            congr 1
            omega
    refine V_if_ne_t (tgt := 11) d_M_image_6 (by decide) (by decide) ?_
    refine V_iconst (v := (nI 0)) d_M_image_11 (by decide) ?_
    refine V_istore d_M_image_12 (by decide) ?_
    refine V_iconst (v := (nI 0)) d_M_image_14 (by decide) ?_
    refine V_istore d_M_image_15 (by decide) ?_
    exact loop 0 (by omega) _ (by omega)
theorem cnt_lt {g : Nat → Bool} {a b : Nat} (h : a < b) (ha : g a = true) : cnt g a < cnt g b := by
  have h1 : cnt g (a + 1) = cnt g a + 1 := by rw [cnt, ha]; rfl
  have h2 := cnt_mono g (a := a + 1) b h
  omega
theorem imR_uniq {g : Nat → Bool} {k r1 r2 : Int32} (h1 : imR g k r1) (h2 : imR g k r2) : r1 = r2 := by
  rcases h1 with ⟨v, hv, hg, hk, rfl⟩ | ⟨h1, rfl⟩
  · rcases h2 with ⟨w, hw, hg2, hk2, rfl⟩ | ⟨h2, rfl⟩
    · have e : cnt g v = cnt g w := (nI_eq (Nat.lt_of_le_of_lt (cnt_le g v) (by omega)) (Nat.lt_of_le_of_lt (cnt_le g w) (by omega))).mp (hk.symm.trans hk2)
      have : v = w := by
        rcases Nat.lt_trichotomy v w with z | z | z
        · have := cnt_lt z hg; omega
        · exact z
        · have := cnt_lt z hg2; omega
      rw [this]
    · exact absurd hk (h2 v hv hg)
  · rcases h2 with ⟨w, hw, hg2, hk2, rfl⟩ | ⟨h2, rfl⟩
    · exact absurd hk2 (h1 w hw hg2)
    · rfl
end
section
def sel13 {α : Type} (a0 a1 a2 a3 a4 a5 a6 a7 a8 a9 a10 a11 a12 : α) : Nat → α := fun n => match n with
  | 0 => a0
  | 1 => a1
  | 2 => a2
  | 3 => a3
  | 4 => a4
  | 5 => a5
  | 6 => a6
  | 7 => a7
  | 8 => a8
  | 9 => a9
  | 10 => a10
  | 11 => a11
  | _ => a12
def lnF (n : Nat) : Nat → Int32 := fun i => if i < n then nI (lenN i) else nI 0
theorem lnF_1 : (fun _ => 0 : Nat → Int32) = lnF 1 := by
  funext i
  unfold lnF
  split
  · next h => rw [show i = 0 by omega]; rfl
  · rfl
theorem ln_half : ∀ n, n < 31 → 0 < n → lenN ((n - 1) / 2) + 1 = lenN n := by decide +kernel
theorem lnF_s {n : Nat} (h : n < 31) (h0 : 0 < n) : upd (lnF n) n (nI (lenN ((n - 1) / 2) + 1)) = lnF (n + 1) := by
  rw [ln_half n h h0]
  funext i
  unfold upd lnF
  by_cases hi : i = n
  · subst hi
    simp
  · have : (i < n + 1) ↔ i < n := by omega
    simp [hi, this]
theorem lnF_r {n : Nat} (h0 : 0 < n) : lnF n ((n - 1) / 2) = nI (lenN ((n - 1) / 2)) := if_pos (by omega)
def S00 : Nat → Int32 := fun _ => 0
def A00 : Nat → Nat → Int32 := fun _ _ => 0

abbrev rm_X_init : Room := ({ frames := 1, cells := 12, slots := 286, locals := 12 } : Room)
set_option maxHeartbeats 8000000 in
set_option maxRecDepth 100000 in
theorem c_X_init (l : Launch) (D : va_G) (h0 sz : Nat) : Met l y_X_init (.code y_X_init b_X_init 2 none :: wX) rm_X_init (va_Pc [.ref h0] (fun U => U.heap.size = sz ∧ va_P D classes [(h0, .inr (0, [.int 0, .int 0, .int 0, .int 0, .null, .null, .null, .null, .null, .null, .null, .int 0, .int 0, .int 0, .null, .null, .int 0, .null, .null, .null]))] U.heap ∧ va_K D classes [] U ∧ va_D (fun _ => True) [(h0, .inr (0, [.int 0, .int 0, .int 0, .int 0, .null, .null, .null, .null, .null, .null, .null, .int 0, .int 0, .int 0, .null, .null, .int 0, .null, .null, .null]))])) (va_Qv (fun u : XS => u = (S00, setA A00 12 (lnF 31))) (fun u t => ∃ (q : Nat → Nat) (k : Nat → ClassId), q 0 = h0 ∧ vB D (xty k) (xw q k) (va_A [(h0, .inr (0, [.int 0, .int 0, .int 0, .int 0, .null, .null, .null, .null, .null, .null, .null, .int 0, .int 0, .int 0, .null, .null, .int 0, .null, .null, .null]))] sz) u t) (va_A [(h0, .inr (0, [.int 0, .int 0, .int 0, .int 0, .null, .null, .null, .null, .null, .null, .null, .int 0, .int 0, .int 0, .null, .null, .int 0, .null, .null, .null]))] sz)) 12 286 (va_A [(h0, .inr (0, [.int 0, .int 0, .int 0, .int 0, .null, .null, .null, .null, .null, .null, .null, .int 0, .int 0, .int 0, .null, .null, .int 0, .null, .null, .null]))] sz) := by
  refine Met.ofW (cc := b_X_init) (maxL := 2) (ret := none) (by decide +kernel) rfl ?_
  intro p e s m args below meth c s₁ B hml hv
  obtain ⟨rfl, hsz, hP, hK, hD0⟩ := hv
  have hx := B.exec
  have hb := B.bytes
  have hr := B.returns
  have hts0 := atoms_spec (ws := .code y_X_init b_X_init 2 none :: wX) B.pre
  have hts : ∀ w ∈ wX, w.before _ s = true := fun w hw => hts0 w (List.mem_cons_of_mem _ hw)
  have hown : s.vm.findClass R_X = some m.cls := findClass_of_methodNamed B.named
  have hlocks := B.notSynchronized
  have hin : meth.name = "<init>" := (name_of_methodNamed B.named B.method).1
  subst hsz
  have hD := hD0.self (sz := s.heap.size)
  generalize hAe : va_A [(h0, .inr (0, [.int 0, .int 0, .int 0, .int 0, .null, .null, .null, .null, .null, .null, .null, .int 0, .int 0, .int 0, .null, .null, .int 0, .null, .null, .null]))] s.heap.size = A at hD ⊢
  have hA : ∀ q : Nat, s.heap.size ≤ q → A q := fun q h => by rw [← hAe]; exact Or.inr h
  have hS : va_S A s.heap s.heap [] := va_S.rf
  have hl := lv_entry ([.ref h0]) (n := 2) (Nat.le_of_ble_eq_true rfl)
  rw [lg_entry_eq]
  generalize (lg_sl ([.ref h0]) ++ List.replicate (2 - (lg_sl ([.ref h0])).length) Slot.unset).toArray = ls at hl ⊢
  have hl : lv_has ls 2 [(0, .ref h0)] := hl
  refine lv_aload_n hx hb d_X_init_0 rfl (lv_at hl 0 rfl) ?_
  refine W.objInit hx hb hown (hts _ kX_ml_1) (hts _ kX_imo) (hts _ kX_codeo) rfl (by rw [hml]; exact hl.1) rfl d_X_init_1 (Nat.le_of_ble_eq_true rfl) (Nat.le_of_ble_eq_true rfl) ?_
  refine W.eq (g2 := F0 m 4 ls []) rfl ?_
  refine lv_aload_n hx hb d_X_init_4 rfl (lv_at hl 0 rfl) ?_
  refine lv_bipush (v := 6) hx hb d_X_init_5 (by decide) ?_
  refine va_newa (atype := .int) (a0 := (6, .inl (fun _ => 0))) (N' := 6) hx hb (hts _ kX_ac_I) (ty := .int) rfl hK hP hD hS hA (fun _ => rfl) (by decide) (by decide) (by decide) (Nat.le_of_ble_eq_true rfl) (Nat.le_of_ble_eq_true rfl) d_X_init_7 (fun q1 c1 H hK hP hD hS => ?_)
  have hK : va_K D classes [(c1, .int)] s := hK
  have hP : va_P D classes [(h0, .inr (0, [.int 0, .int 0, .int 0, .int 0, .null, .null, .null, .null, .null, .null, .null, .int 0, .int 0, .int 0, .null, .null, .int 0, .null, .null, .null])), (q1, .inl (c1, 6, .inl (fun _ => 0)))] H := hP
  have hD : va_D A [(h0, .inr (0, [.int 0, .int 0, .int 0, .int 0, .null, .null, .null, .null, .null, .null, .null, .int 0, .int 0, .int 0, .null, .null, .int 0, .null, .null, .null])), (q1, .inl (c1, 6, .inl (fun _ => 0)))] := hD
  refine W.widen (k := 1) (n := 6) (by omega) (by omega) ?_
  refine va_putF (D := D) (ci := 0) (v := .ref q1) (ty := .array .int) (C := R_X) (T := F_X) (N := 20) hx hb hts i_X t_X t_X_ok n_X hown hK hP hD hS 0 rfl rfl 4 (by decide) (hts _ kX_fl_low) (fun _ h9 => h9) rfl hin rfl (by decide +kernel) rfl rfl (Nat.le_of_ble_eq_true rfl) d_X_init_9 (fun H locs hP hD hS => ?_)
  have hP : va_P D classes [(h0, .inr (0, [.int 0, .int 0, .int 0, .int 0, .ref q1, .null, .null, .null, .null, .null, .null, .int 0, .int 0, .int 0, .null, .null, .int 0, .null, .null, .null])), (q1, .inl (c1, 6, .inl (fun _ => 0)))] H := hP
  have hD : va_D A [(h0, .inr (0, [.int 0, .int 0, .int 0, .int 0, .ref q1, .null, .null, .null, .null, .null, .null, .int 0, .int 0, .int 0, .null, .null, .int 0, .null, .null, .null])), (q1, .inl (c1, 6, .inl (fun _ => 0)))] := hD
  refine lv_aload_n hx hb d_X_init_12 rfl (lv_at hl 0 rfl) ?_
  refine lv_bipush (v := 6) hx hb d_X_init_13 (by decide) ?_
  refine va_newa (atype := .int) (a0 := (6, .inl (fun _ => 0))) (N' := 6) hx hb (hts _ kX_ac_I) (ty := .int) rfl hK hP hD hS hA (fun _ => rfl) (by decide) (by decide) (by decide) (Nat.le_of_ble_eq_true rfl) (Nat.le_of_ble_eq_true rfl) d_X_init_15 (fun q2 c2 H hK hP hD hS => ?_)
  have hK : va_K D classes [(c1, .int), (c2, .int)] s := hK
  have hP : va_P D classes [(h0, .inr (0, [.int 0, .int 0, .int 0, .int 0, .ref q1, .null, .null, .null, .null, .null, .null, .int 0, .int 0, .int 0, .null, .null, .int 0, .null, .null, .null])), (q1, .inl (c1, 6, .inl (fun _ => 0))), (q2, .inl (c2, 6, .inl (fun _ => 0)))] H := hP
  have hD : va_D A [(h0, .inr (0, [.int 0, .int 0, .int 0, .int 0, .ref q1, .null, .null, .null, .null, .null, .null, .int 0, .int 0, .int 0, .null, .null, .int 0, .null, .null, .null])), (q1, .inl (c1, 6, .inl (fun _ => 0))), (q2, .inl (c2, 6, .inl (fun _ => 0)))] := hD
  refine W.widen (k := 2) (n := 12) (by omega) (by omega) ?_
  refine va_putF (D := D) (ci := 0) (v := .ref q2) (ty := .array .int) (C := R_X) (T := F_X) (N := 20) hx hb hts i_X t_X t_X_ok n_X hown hK hP hD hS 0 rfl rfl 5 (by decide) (hts _ kX_fl_first) (fun _ h9 => h9) rfl hin rfl (by decide +kernel) rfl rfl (Nat.le_of_ble_eq_true rfl) d_X_init_17 (fun H locs hP hD hS => ?_)
  have hP : va_P D classes [(h0, .inr (0, [.int 0, .int 0, .int 0, .int 0, .ref q1, .ref q2, .null, .null, .null, .null, .null, .int 0, .int 0, .int 0, .null, .null, .int 0, .null, .null, .null])), (q1, .inl (c1, 6, .inl (fun _ => 0))), (q2, .inl (c2, 6, .inl (fun _ => 0)))] H := hP
  have hD : va_D A [(h0, .inr (0, [.int 0, .int 0, .int 0, .int 0, .ref q1, .ref q2, .null, .null, .null, .null, .null, .int 0, .int 0, .int 0, .null, .null, .int 0, .null, .null, .null])), (q1, .inl (c1, 6, .inl (fun _ => 0))), (q2, .inl (c2, 6, .inl (fun _ => 0)))] := hD
  refine lv_aload_n hx hb d_X_init_20 rfl (lv_at hl 0 rfl) ?_
  refine lv_bipush (v := 6) hx hb d_X_init_21 (by decide) ?_
  refine va_newa (atype := .int) (a0 := (6, .inl (fun _ => 0))) (N' := 6) hx hb (hts _ kX_ac_I) (ty := .int) rfl hK hP hD hS hA (fun _ => rfl) (by decide) (by decide) (by decide) (Nat.le_of_ble_eq_true rfl) (Nat.le_of_ble_eq_true rfl) d_X_init_23 (fun q3 c3 H hK hP hD hS => ?_)
  have hK : va_K D classes [(c1, .int), (c2, .int), (c3, .int)] s := hK
  have hP : va_P D classes [(h0, .inr (0, [.int 0, .int 0, .int 0, .int 0, .ref q1, .ref q2, .null, .null, .null, .null, .null, .int 0, .int 0, .int 0, .null, .null, .int 0, .null, .null, .null])), (q1, .inl (c1, 6, .inl (fun _ => 0))), (q2, .inl (c2, 6, .inl (fun _ => 0))), (q3, .inl (c3, 6, .inl (fun _ => 0)))] H := hP
  have hD : va_D A [(h0, .inr (0, [.int 0, .int 0, .int 0, .int 0, .ref q1, .ref q2, .null, .null, .null, .null, .null, .int 0, .int 0, .int 0, .null, .null, .int 0, .null, .null, .null])), (q1, .inl (c1, 6, .inl (fun _ => 0))), (q2, .inl (c2, 6, .inl (fun _ => 0))), (q3, .inl (c3, 6, .inl (fun _ => 0)))] := hD
  refine W.widen (k := 3) (n := 18) (by omega) (by omega) ?_
  refine va_putF (D := D) (ci := 0) (v := .ref q3) (ty := .array .int) (C := R_X) (T := F_X) (N := 20) hx hb hts i_X t_X t_X_ok n_X hown hK hP hD hS 0 rfl rfl 6 (by decide) (hts _ kX_fl_last) (fun _ h9 => h9) rfl hin rfl (by decide +kernel) rfl rfl (Nat.le_of_ble_eq_true rfl) d_X_init_25 (fun H locs hP hD hS => ?_)
  have hP : va_P D classes [(h0, .inr (0, [.int 0, .int 0, .int 0, .int 0, .ref q1, .ref q2, .ref q3, .null, .null, .null, .null, .int 0, .int 0, .int 0, .null, .null, .int 0, .null, .null, .null])), (q1, .inl (c1, 6, .inl (fun _ => 0))), (q2, .inl (c2, 6, .inl (fun _ => 0))), (q3, .inl (c3, 6, .inl (fun _ => 0)))] H := hP
  have hD : va_D A [(h0, .inr (0, [.int 0, .int 0, .int 0, .int 0, .ref q1, .ref q2, .ref q3, .null, .null, .null, .null, .int 0, .int 0, .int 0, .null, .null, .int 0, .null, .null, .null])), (q1, .inl (c1, 6, .inl (fun _ => 0))), (q2, .inl (c2, 6, .inl (fun _ => 0))), (q3, .inl (c3, 6, .inl (fun _ => 0)))] := hD
  refine lv_aload_n hx hb d_X_init_28 rfl (lv_at hl 0 rfl) ?_
  refine lv_bipush (v := 6) hx hb d_X_init_29 (by decide) ?_
  refine va_newa (atype := .boolean) (a0 := (6, .inl (fun _ => 0))) (N' := 6) hx hb (hts _ kX_ac_Z) (ty := .boolean) rfl hK hP hD hS hA (fun _ => rfl) (by decide) (by decide) (by decide) (Nat.le_of_ble_eq_true rfl) (Nat.le_of_ble_eq_true rfl) d_X_init_31 (fun q4 c4 H hK hP hD hS => ?_)
  have hK : va_K D classes [(c1, .int), (c2, .int), (c3, .int), (c4, .boolean)] s := hK
  have hP : va_P D classes [(h0, .inr (0, [.int 0, .int 0, .int 0, .int 0, .ref q1, .ref q2, .ref q3, .null, .null, .null, .null, .int 0, .int 0, .int 0, .null, .null, .int 0, .null, .null, .null])), (q1, .inl (c1, 6, .inl (fun _ => 0))), (q2, .inl (c2, 6, .inl (fun _ => 0))), (q3, .inl (c3, 6, .inl (fun _ => 0))), (q4, .inl (c4, 6, .inl (fun _ => 0)))] H := hP
  have hD : va_D A [(h0, .inr (0, [.int 0, .int 0, .int 0, .int 0, .ref q1, .ref q2, .ref q3, .null, .null, .null, .null, .int 0, .int 0, .int 0, .null, .null, .int 0, .null, .null, .null])), (q1, .inl (c1, 6, .inl (fun _ => 0))), (q2, .inl (c2, 6, .inl (fun _ => 0))), (q3, .inl (c3, 6, .inl (fun _ => 0))), (q4, .inl (c4, 6, .inl (fun _ => 0)))] := hD
  refine W.widen (k := 4) (n := 24) (by omega) (by omega) ?_
  refine va_putF (D := D) (ci := 0) (v := .ref q4) (ty := .array .boolean) (C := R_X) (T := F_X) (N := 20) hx hb hts i_X t_X t_X_ok n_X hown hK hP hD hS 0 rfl rfl 7 (by decide) (hts _ kX_fl_empty) (fun _ h9 => h9) rfl hin rfl (by decide +kernel) rfl rfl (Nat.le_of_ble_eq_true rfl) d_X_init_33 (fun H locs hP hD hS => ?_)
  have hP : va_P D classes [(h0, .inr (0, [.int 0, .int 0, .int 0, .int 0, .ref q1, .ref q2, .ref q3, .ref q4, .null, .null, .null, .int 0, .int 0, .int 0, .null, .null, .int 0, .null, .null, .null])), (q1, .inl (c1, 6, .inl (fun _ => 0))), (q2, .inl (c2, 6, .inl (fun _ => 0))), (q3, .inl (c3, 6, .inl (fun _ => 0))), (q4, .inl (c4, 6, .inl (fun _ => 0)))] H := hP
  have hD : va_D A [(h0, .inr (0, [.int 0, .int 0, .int 0, .int 0, .ref q1, .ref q2, .ref q3, .ref q4, .null, .null, .null, .int 0, .int 0, .int 0, .null, .null, .int 0, .null, .null, .null])), (q1, .inl (c1, 6, .inl (fun _ => 0))), (q2, .inl (c2, 6, .inl (fun _ => 0))), (q3, .inl (c3, 6, .inl (fun _ => 0))), (q4, .inl (c4, 6, .inl (fun _ => 0)))] := hD
  refine lv_aload_n hx hb d_X_init_36 rfl (lv_at hl 0 rfl) ?_
  refine lv_bipush (v := 9) hx hb d_X_init_37 (by decide) ?_
  refine va_newa (atype := .int) (a0 := (9, .inl (fun _ => 0))) (N' := 9) hx hb (hts _ kX_ac_I) (ty := .int) rfl hK hP hD hS hA (fun _ => rfl) (by decide) (by decide) (by decide) (Nat.le_of_ble_eq_true rfl) (Nat.le_of_ble_eq_true rfl) d_X_init_39 (fun q5 c5 H hK hP hD hS => ?_)
  have hK : va_K D classes [(c1, .int), (c2, .int), (c3, .int), (c4, .boolean), (c5, .int)] s := hK
  have hP : va_P D classes [(h0, .inr (0, [.int 0, .int 0, .int 0, .int 0, .ref q1, .ref q2, .ref q3, .ref q4, .null, .null, .null, .int 0, .int 0, .int 0, .null, .null, .int 0, .null, .null, .null])), (q1, .inl (c1, 6, .inl (fun _ => 0))), (q2, .inl (c2, 6, .inl (fun _ => 0))), (q3, .inl (c3, 6, .inl (fun _ => 0))), (q4, .inl (c4, 6, .inl (fun _ => 0))), (q5, .inl (c5, 9, .inl (fun _ => 0)))] H := hP
  have hD : va_D A [(h0, .inr (0, [.int 0, .int 0, .int 0, .int 0, .ref q1, .ref q2, .ref q3, .ref q4, .null, .null, .null, .int 0, .int 0, .int 0, .null, .null, .int 0, .null, .null, .null])), (q1, .inl (c1, 6, .inl (fun _ => 0))), (q2, .inl (c2, 6, .inl (fun _ => 0))), (q3, .inl (c3, 6, .inl (fun _ => 0))), (q4, .inl (c4, 6, .inl (fun _ => 0))), (q5, .inl (c5, 9, .inl (fun _ => 0)))] := hD
  refine W.widen (k := 5) (n := 33) (by omega) (by omega) ?_
  refine va_putF (D := D) (ci := 0) (v := .ref q5) (ty := .array .int) (C := R_X) (T := F_X) (N := 20) hx hb hts i_X t_X t_X_ok n_X hown hK hP hD hS 0 rfl rfl 8 (by decide) (hts _ kX_fl_leftOf) (fun _ h9 => h9) rfl hin rfl (by decide +kernel) rfl rfl (Nat.le_of_ble_eq_true rfl) d_X_init_41 (fun H locs hP hD hS => ?_)
  have hP : va_P D classes [(h0, .inr (0, [.int 0, .int 0, .int 0, .int 0, .ref q1, .ref q2, .ref q3, .ref q4, .ref q5, .null, .null, .int 0, .int 0, .int 0, .null, .null, .int 0, .null, .null, .null])), (q1, .inl (c1, 6, .inl (fun _ => 0))), (q2, .inl (c2, 6, .inl (fun _ => 0))), (q3, .inl (c3, 6, .inl (fun _ => 0))), (q4, .inl (c4, 6, .inl (fun _ => 0))), (q5, .inl (c5, 9, .inl (fun _ => 0)))] H := hP
  have hD : va_D A [(h0, .inr (0, [.int 0, .int 0, .int 0, .int 0, .ref q1, .ref q2, .ref q3, .ref q4, .ref q5, .null, .null, .int 0, .int 0, .int 0, .null, .null, .int 0, .null, .null, .null])), (q1, .inl (c1, 6, .inl (fun _ => 0))), (q2, .inl (c2, 6, .inl (fun _ => 0))), (q3, .inl (c3, 6, .inl (fun _ => 0))), (q4, .inl (c4, 6, .inl (fun _ => 0))), (q5, .inl (c5, 9, .inl (fun _ => 0)))] := hD
  refine lv_aload_n hx hb d_X_init_44 rfl (lv_at hl 0 rfl) ?_
  refine lv_bipush (v := 9) hx hb d_X_init_45 (by decide) ?_
  refine va_newa (atype := .int) (a0 := (9, .inl (fun _ => 0))) (N' := 9) hx hb (hts _ kX_ac_I) (ty := .int) rfl hK hP hD hS hA (fun _ => rfl) (by decide) (by decide) (by decide) (Nat.le_of_ble_eq_true rfl) (Nat.le_of_ble_eq_true rfl) d_X_init_47 (fun q6 c6 H hK hP hD hS => ?_)
  have hK : va_K D classes [(c1, .int), (c2, .int), (c3, .int), (c4, .boolean), (c5, .int), (c6, .int)] s := hK
  have hP : va_P D classes [(h0, .inr (0, [.int 0, .int 0, .int 0, .int 0, .ref q1, .ref q2, .ref q3, .ref q4, .ref q5, .null, .null, .int 0, .int 0, .int 0, .null, .null, .int 0, .null, .null, .null])), (q1, .inl (c1, 6, .inl (fun _ => 0))), (q2, .inl (c2, 6, .inl (fun _ => 0))), (q3, .inl (c3, 6, .inl (fun _ => 0))), (q4, .inl (c4, 6, .inl (fun _ => 0))), (q5, .inl (c5, 9, .inl (fun _ => 0))), (q6, .inl (c6, 9, .inl (fun _ => 0)))] H := hP
  have hD : va_D A [(h0, .inr (0, [.int 0, .int 0, .int 0, .int 0, .ref q1, .ref q2, .ref q3, .ref q4, .ref q5, .null, .null, .int 0, .int 0, .int 0, .null, .null, .int 0, .null, .null, .null])), (q1, .inl (c1, 6, .inl (fun _ => 0))), (q2, .inl (c2, 6, .inl (fun _ => 0))), (q3, .inl (c3, 6, .inl (fun _ => 0))), (q4, .inl (c4, 6, .inl (fun _ => 0))), (q5, .inl (c5, 9, .inl (fun _ => 0))), (q6, .inl (c6, 9, .inl (fun _ => 0)))] := hD
  refine W.widen (k := 6) (n := 42) (by omega) (by omega) ?_
  refine va_putF (D := D) (ci := 0) (v := .ref q6) (ty := .array .int) (C := R_X) (T := F_X) (N := 20) hx hb hts i_X t_X t_X_ok n_X hown hK hP hD hS 0 rfl rfl 9 (by decide) (hts _ kX_fl_rightOf) (fun _ h9 => h9) rfl hin rfl (by decide +kernel) rfl rfl (Nat.le_of_ble_eq_true rfl) d_X_init_49 (fun H locs hP hD hS => ?_)
  have hP : va_P D classes [(h0, .inr (0, [.int 0, .int 0, .int 0, .int 0, .ref q1, .ref q2, .ref q3, .ref q4, .ref q5, .ref q6, .null, .int 0, .int 0, .int 0, .null, .null, .int 0, .null, .null, .null])), (q1, .inl (c1, 6, .inl (fun _ => 0))), (q2, .inl (c2, 6, .inl (fun _ => 0))), (q3, .inl (c3, 6, .inl (fun _ => 0))), (q4, .inl (c4, 6, .inl (fun _ => 0))), (q5, .inl (c5, 9, .inl (fun _ => 0))), (q6, .inl (c6, 9, .inl (fun _ => 0)))] H := hP
  have hD : va_D A [(h0, .inr (0, [.int 0, .int 0, .int 0, .int 0, .ref q1, .ref q2, .ref q3, .ref q4, .ref q5, .ref q6, .null, .int 0, .int 0, .int 0, .null, .null, .int 0, .null, .null, .null])), (q1, .inl (c1, 6, .inl (fun _ => 0))), (q2, .inl (c2, 6, .inl (fun _ => 0))), (q3, .inl (c3, 6, .inl (fun _ => 0))), (q4, .inl (c4, 6, .inl (fun _ => 0))), (q5, .inl (c5, 9, .inl (fun _ => 0))), (q6, .inl (c6, 9, .inl (fun _ => 0)))] := hD
  refine lv_aload_n hx hb d_X_init_52 rfl (lv_at hl 0 rfl) ?_
  refine lv_bipush (v := 9) hx hb d_X_init_53 (by decide) ?_
  refine va_newa (atype := .int) (a0 := (9, .inl (fun _ => 0))) (N' := 9) hx hb (hts _ kX_ac_I) (ty := .int) rfl hK hP hD hS hA (fun _ => rfl) (by decide) (by decide) (by decide) (Nat.le_of_ble_eq_true rfl) (Nat.le_of_ble_eq_true rfl) d_X_init_55 (fun q7 c7 H hK hP hD hS => ?_)
  have hK : va_K D classes [(c1, .int), (c2, .int), (c3, .int), (c4, .boolean), (c5, .int), (c6, .int), (c7, .int)] s := hK
  have hP : va_P D classes [(h0, .inr (0, [.int 0, .int 0, .int 0, .int 0, .ref q1, .ref q2, .ref q3, .ref q4, .ref q5, .ref q6, .null, .int 0, .int 0, .int 0, .null, .null, .int 0, .null, .null, .null])), (q1, .inl (c1, 6, .inl (fun _ => 0))), (q2, .inl (c2, 6, .inl (fun _ => 0))), (q3, .inl (c3, 6, .inl (fun _ => 0))), (q4, .inl (c4, 6, .inl (fun _ => 0))), (q5, .inl (c5, 9, .inl (fun _ => 0))), (q6, .inl (c6, 9, .inl (fun _ => 0))), (q7, .inl (c7, 9, .inl (fun _ => 0)))] H := hP
  have hD : va_D A [(h0, .inr (0, [.int 0, .int 0, .int 0, .int 0, .ref q1, .ref q2, .ref q3, .ref q4, .ref q5, .ref q6, .null, .int 0, .int 0, .int 0, .null, .null, .int 0, .null, .null, .null])), (q1, .inl (c1, 6, .inl (fun _ => 0))), (q2, .inl (c2, 6, .inl (fun _ => 0))), (q3, .inl (c3, 6, .inl (fun _ => 0))), (q4, .inl (c4, 6, .inl (fun _ => 0))), (q5, .inl (c5, 9, .inl (fun _ => 0))), (q6, .inl (c6, 9, .inl (fun _ => 0))), (q7, .inl (c7, 9, .inl (fun _ => 0)))] := hD
  refine W.widen (k := 7) (n := 51) (by omega) (by omega) ?_
  refine va_putF (D := D) (ci := 0) (v := .ref q7) (ty := .array .int) (C := R_X) (T := F_X) (N := 20) hx hb hts i_X t_X t_X_ok n_X hown hK hP hD hS 0 rfl rfl 10 (by decide) (hts _ kX_fl_follow) (fun _ h9 => h9) rfl hin rfl (by decide +kernel) rfl rfl (Nat.le_of_ble_eq_true rfl) d_X_init_57 (fun H locs hP hD hS => ?_)
  have hP : va_P D classes [(h0, .inr (0, [.int 0, .int 0, .int 0, .int 0, .ref q1, .ref q2, .ref q3, .ref q4, .ref q5, .ref q6, .ref q7, .int 0, .int 0, .int 0, .null, .null, .int 0, .null, .null, .null])), (q1, .inl (c1, 6, .inl (fun _ => 0))), (q2, .inl (c2, 6, .inl (fun _ => 0))), (q3, .inl (c3, 6, .inl (fun _ => 0))), (q4, .inl (c4, 6, .inl (fun _ => 0))), (q5, .inl (c5, 9, .inl (fun _ => 0))), (q6, .inl (c6, 9, .inl (fun _ => 0))), (q7, .inl (c7, 9, .inl (fun _ => 0)))] H := hP
  have hD : va_D A [(h0, .inr (0, [.int 0, .int 0, .int 0, .int 0, .ref q1, .ref q2, .ref q3, .ref q4, .ref q5, .ref q6, .ref q7, .int 0, .int 0, .int 0, .null, .null, .int 0, .null, .null, .null])), (q1, .inl (c1, 6, .inl (fun _ => 0))), (q2, .inl (c2, 6, .inl (fun _ => 0))), (q3, .inl (c3, 6, .inl (fun _ => 0))), (q4, .inl (c4, 6, .inl (fun _ => 0))), (q5, .inl (c5, 9, .inl (fun _ => 0))), (q6, .inl (c6, 9, .inl (fun _ => 0))), (q7, .inl (c7, 9, .inl (fun _ => 0)))] := hD
  refine lv_aload_n hx hb d_X_init_60 rfl (lv_at hl 0 rfl) ?_
  refine lv_bipush (v := 9) hx hb d_X_init_61 (by decide) ?_
  refine va_newa (atype := .int) (a0 := (9, .inl (fun _ => 0))) (N' := 9) hx hb (hts _ kX_ac_I) (ty := .int) rfl hK hP hD hS hA (fun _ => rfl) (by decide) (by decide) (by decide) (Nat.le_of_ble_eq_true rfl) (Nat.le_of_ble_eq_true rfl) d_X_init_63 (fun q8 c8 H hK hP hD hS => ?_)
  have hK : va_K D classes [(c1, .int), (c2, .int), (c3, .int), (c4, .boolean), (c5, .int), (c6, .int), (c7, .int), (c8, .int)] s := hK
  have hP : va_P D classes [(h0, .inr (0, [.int 0, .int 0, .int 0, .int 0, .ref q1, .ref q2, .ref q3, .ref q4, .ref q5, .ref q6, .ref q7, .int 0, .int 0, .int 0, .null, .null, .int 0, .null, .null, .null])), (q1, .inl (c1, 6, .inl (fun _ => 0))), (q2, .inl (c2, 6, .inl (fun _ => 0))), (q3, .inl (c3, 6, .inl (fun _ => 0))), (q4, .inl (c4, 6, .inl (fun _ => 0))), (q5, .inl (c5, 9, .inl (fun _ => 0))), (q6, .inl (c6, 9, .inl (fun _ => 0))), (q7, .inl (c7, 9, .inl (fun _ => 0))), (q8, .inl (c8, 9, .inl (fun _ => 0)))] H := hP
  have hD : va_D A [(h0, .inr (0, [.int 0, .int 0, .int 0, .int 0, .ref q1, .ref q2, .ref q3, .ref q4, .ref q5, .ref q6, .ref q7, .int 0, .int 0, .int 0, .null, .null, .int 0, .null, .null, .null])), (q1, .inl (c1, 6, .inl (fun _ => 0))), (q2, .inl (c2, 6, .inl (fun _ => 0))), (q3, .inl (c3, 6, .inl (fun _ => 0))), (q4, .inl (c4, 6, .inl (fun _ => 0))), (q5, .inl (c5, 9, .inl (fun _ => 0))), (q6, .inl (c6, 9, .inl (fun _ => 0))), (q7, .inl (c7, 9, .inl (fun _ => 0))), (q8, .inl (c8, 9, .inl (fun _ => 0)))] := hD
  refine W.widen (k := 8) (n := 60) (by omega) (by omega) ?_
  refine va_putF (D := D) (ci := 0) (v := .ref q8) (ty := .array .int) (C := R_X) (T := F_X) (N := 20) hx hb hts i_X t_X t_X_ok n_X hown hK hP hD hS 0 rfl rfl 14 (by decide) (hts _ kX_fl_useFollow) (fun _ h9 => h9) rfl hin rfl (by decide +kernel) rfl rfl (Nat.le_of_ble_eq_true rfl) d_X_init_65 (fun H locs hP hD hS => ?_)
  have hP : va_P D classes [(h0, .inr (0, [.int 0, .int 0, .int 0, .int 0, .ref q1, .ref q2, .ref q3, .ref q4, .ref q5, .ref q6, .ref q7, .int 0, .int 0, .int 0, .ref q8, .null, .int 0, .null, .null, .null])), (q1, .inl (c1, 6, .inl (fun _ => 0))), (q2, .inl (c2, 6, .inl (fun _ => 0))), (q3, .inl (c3, 6, .inl (fun _ => 0))), (q4, .inl (c4, 6, .inl (fun _ => 0))), (q5, .inl (c5, 9, .inl (fun _ => 0))), (q6, .inl (c6, 9, .inl (fun _ => 0))), (q7, .inl (c7, 9, .inl (fun _ => 0))), (q8, .inl (c8, 9, .inl (fun _ => 0)))] H := hP
  have hD : va_D A [(h0, .inr (0, [.int 0, .int 0, .int 0, .int 0, .ref q1, .ref q2, .ref q3, .ref q4, .ref q5, .ref q6, .ref q7, .int 0, .int 0, .int 0, .ref q8, .null, .int 0, .null, .null, .null])), (q1, .inl (c1, 6, .inl (fun _ => 0))), (q2, .inl (c2, 6, .inl (fun _ => 0))), (q3, .inl (c3, 6, .inl (fun _ => 0))), (q4, .inl (c4, 6, .inl (fun _ => 0))), (q5, .inl (c5, 9, .inl (fun _ => 0))), (q6, .inl (c6, 9, .inl (fun _ => 0))), (q7, .inl (c7, 9, .inl (fun _ => 0))), (q8, .inl (c8, 9, .inl (fun _ => 0)))] := hD
  refine lv_aload_n hx hb d_X_init_68 rfl (lv_at hl 0 rfl) ?_
  refine lv_bipush (v := 9) hx hb d_X_init_69 (by decide) ?_
  refine va_newa (atype := .int) (a0 := (9, .inl (fun _ => 0))) (N' := 9) hx hb (hts _ kX_ac_I) (ty := .int) rfl hK hP hD hS hA (fun _ => rfl) (by decide) (by decide) (by decide) (Nat.le_of_ble_eq_true rfl) (Nat.le_of_ble_eq_true rfl) d_X_init_71 (fun q9 c9 H hK hP hD hS => ?_)
  have hK : va_K D classes [(c1, .int), (c2, .int), (c3, .int), (c4, .boolean), (c5, .int), (c6, .int), (c7, .int), (c8, .int), (c9, .int)] s := hK
  have hP : va_P D classes [(h0, .inr (0, [.int 0, .int 0, .int 0, .int 0, .ref q1, .ref q2, .ref q3, .ref q4, .ref q5, .ref q6, .ref q7, .int 0, .int 0, .int 0, .ref q8, .null, .int 0, .null, .null, .null])), (q1, .inl (c1, 6, .inl (fun _ => 0))), (q2, .inl (c2, 6, .inl (fun _ => 0))), (q3, .inl (c3, 6, .inl (fun _ => 0))), (q4, .inl (c4, 6, .inl (fun _ => 0))), (q5, .inl (c5, 9, .inl (fun _ => 0))), (q6, .inl (c6, 9, .inl (fun _ => 0))), (q7, .inl (c7, 9, .inl (fun _ => 0))), (q8, .inl (c8, 9, .inl (fun _ => 0))), (q9, .inl (c9, 9, .inl (fun _ => 0)))] H := hP
  have hD : va_D A [(h0, .inr (0, [.int 0, .int 0, .int 0, .int 0, .ref q1, .ref q2, .ref q3, .ref q4, .ref q5, .ref q6, .ref q7, .int 0, .int 0, .int 0, .ref q8, .null, .int 0, .null, .null, .null])), (q1, .inl (c1, 6, .inl (fun _ => 0))), (q2, .inl (c2, 6, .inl (fun _ => 0))), (q3, .inl (c3, 6, .inl (fun _ => 0))), (q4, .inl (c4, 6, .inl (fun _ => 0))), (q5, .inl (c5, 9, .inl (fun _ => 0))), (q6, .inl (c6, 9, .inl (fun _ => 0))), (q7, .inl (c7, 9, .inl (fun _ => 0))), (q8, .inl (c8, 9, .inl (fun _ => 0))), (q9, .inl (c9, 9, .inl (fun _ => 0)))] := hD
  refine W.widen (k := 9) (n := 69) (by omega) (by omega) ?_
  refine va_putF (D := D) (ci := 0) (v := .ref q9) (ty := .array .int) (C := R_X) (T := F_X) (N := 20) hx hb hts i_X t_X t_X_ok n_X hown hK hP hD hS 0 rfl rfl 15 (by decide) (hts _ kX_fl_fits) (fun _ h9 => h9) rfl hin rfl (by decide +kernel) rfl rfl (Nat.le_of_ble_eq_true rfl) d_X_init_73 (fun H locs hP hD hS => ?_)
  have hP : va_P D classes [(h0, .inr (0, [.int 0, .int 0, .int 0, .int 0, .ref q1, .ref q2, .ref q3, .ref q4, .ref q5, .ref q6, .ref q7, .int 0, .int 0, .int 0, .ref q8, .ref q9, .int 0, .null, .null, .null])), (q1, .inl (c1, 6, .inl (fun _ => 0))), (q2, .inl (c2, 6, .inl (fun _ => 0))), (q3, .inl (c3, 6, .inl (fun _ => 0))), (q4, .inl (c4, 6, .inl (fun _ => 0))), (q5, .inl (c5, 9, .inl (fun _ => 0))), (q6, .inl (c6, 9, .inl (fun _ => 0))), (q7, .inl (c7, 9, .inl (fun _ => 0))), (q8, .inl (c8, 9, .inl (fun _ => 0))), (q9, .inl (c9, 9, .inl (fun _ => 0)))] H := hP
  have hD : va_D A [(h0, .inr (0, [.int 0, .int 0, .int 0, .int 0, .ref q1, .ref q2, .ref q3, .ref q4, .ref q5, .ref q6, .ref q7, .int 0, .int 0, .int 0, .ref q8, .ref q9, .int 0, .null, .null, .null])), (q1, .inl (c1, 6, .inl (fun _ => 0))), (q2, .inl (c2, 6, .inl (fun _ => 0))), (q3, .inl (c3, 6, .inl (fun _ => 0))), (q4, .inl (c4, 6, .inl (fun _ => 0))), (q5, .inl (c5, 9, .inl (fun _ => 0))), (q6, .inl (c6, 9, .inl (fun _ => 0))), (q7, .inl (c7, 9, .inl (fun _ => 0))), (q8, .inl (c8, 9, .inl (fun _ => 0))), (q9, .inl (c9, 9, .inl (fun _ => 0)))] := hD
  refine lv_aload_n hx hb d_X_init_76 rfl (lv_at hl 0 rfl) ?_
  refine lv_bipush (v := 31) hx hb d_X_init_77 (by decide) ?_
  refine va_newa (atype := .int) (a0 := (31, .inl (fun _ => 0))) (N' := 31) hx hb (hts _ kX_ac_I) (ty := .int) rfl hK hP hD hS hA (fun _ => rfl) (by decide) (by decide) (by decide) (Nat.le_of_ble_eq_true rfl) (Nat.le_of_ble_eq_true rfl) d_X_init_79 (fun q10 c10 H hK hP hD hS => ?_)
  have hK : va_K D classes [(c1, .int), (c2, .int), (c3, .int), (c4, .boolean), (c5, .int), (c6, .int), (c7, .int), (c8, .int), (c9, .int), (c10, .int)] s := hK
  have hP : va_P D classes [(h0, .inr (0, [.int 0, .int 0, .int 0, .int 0, .ref q1, .ref q2, .ref q3, .ref q4, .ref q5, .ref q6, .ref q7, .int 0, .int 0, .int 0, .ref q8, .ref q9, .int 0, .null, .null, .null])), (q1, .inl (c1, 6, .inl (fun _ => 0))), (q2, .inl (c2, 6, .inl (fun _ => 0))), (q3, .inl (c3, 6, .inl (fun _ => 0))), (q4, .inl (c4, 6, .inl (fun _ => 0))), (q5, .inl (c5, 9, .inl (fun _ => 0))), (q6, .inl (c6, 9, .inl (fun _ => 0))), (q7, .inl (c7, 9, .inl (fun _ => 0))), (q8, .inl (c8, 9, .inl (fun _ => 0))), (q9, .inl (c9, 9, .inl (fun _ => 0))), (q10, .inl (c10, 31, .inl (fun _ => 0)))] H := hP
  have hD : va_D A [(h0, .inr (0, [.int 0, .int 0, .int 0, .int 0, .ref q1, .ref q2, .ref q3, .ref q4, .ref q5, .ref q6, .ref q7, .int 0, .int 0, .int 0, .ref q8, .ref q9, .int 0, .null, .null, .null])), (q1, .inl (c1, 6, .inl (fun _ => 0))), (q2, .inl (c2, 6, .inl (fun _ => 0))), (q3, .inl (c3, 6, .inl (fun _ => 0))), (q4, .inl (c4, 6, .inl (fun _ => 0))), (q5, .inl (c5, 9, .inl (fun _ => 0))), (q6, .inl (c6, 9, .inl (fun _ => 0))), (q7, .inl (c7, 9, .inl (fun _ => 0))), (q8, .inl (c8, 9, .inl (fun _ => 0))), (q9, .inl (c9, 9, .inl (fun _ => 0))), (q10, .inl (c10, 31, .inl (fun _ => 0)))] := hD
  refine W.widen (k := 10) (n := 100) (by omega) (by omega) ?_
  refine va_putF (D := D) (ci := 0) (v := .ref q10) (ty := .array .int) (C := R_X) (T := F_X) (N := 20) hx hb hts i_X t_X t_X_ok n_X hown hK hP hD hS 0 rfl rfl 17 (by decide) (hts _ kX_fl_row) (fun _ h9 => h9) rfl hin rfl (by decide +kernel) rfl rfl (Nat.le_of_ble_eq_true rfl) d_X_init_81 (fun H locs hP hD hS => ?_)
  have hP : va_P D classes [(h0, .inr (0, [.int 0, .int 0, .int 0, .int 0, .ref q1, .ref q2, .ref q3, .ref q4, .ref q5, .ref q6, .ref q7, .int 0, .int 0, .int 0, .ref q8, .ref q9, .int 0, .ref q10, .null, .null])), (q1, .inl (c1, 6, .inl (fun _ => 0))), (q2, .inl (c2, 6, .inl (fun _ => 0))), (q3, .inl (c3, 6, .inl (fun _ => 0))), (q4, .inl (c4, 6, .inl (fun _ => 0))), (q5, .inl (c5, 9, .inl (fun _ => 0))), (q6, .inl (c6, 9, .inl (fun _ => 0))), (q7, .inl (c7, 9, .inl (fun _ => 0))), (q8, .inl (c8, 9, .inl (fun _ => 0))), (q9, .inl (c9, 9, .inl (fun _ => 0))), (q10, .inl (c10, 31, .inl (fun _ => 0)))] H := hP
  have hD : va_D A [(h0, .inr (0, [.int 0, .int 0, .int 0, .int 0, .ref q1, .ref q2, .ref q3, .ref q4, .ref q5, .ref q6, .ref q7, .int 0, .int 0, .int 0, .ref q8, .ref q9, .int 0, .ref q10, .null, .null])), (q1, .inl (c1, 6, .inl (fun _ => 0))), (q2, .inl (c2, 6, .inl (fun _ => 0))), (q3, .inl (c3, 6, .inl (fun _ => 0))), (q4, .inl (c4, 6, .inl (fun _ => 0))), (q5, .inl (c5, 9, .inl (fun _ => 0))), (q6, .inl (c6, 9, .inl (fun _ => 0))), (q7, .inl (c7, 9, .inl (fun _ => 0))), (q8, .inl (c8, 9, .inl (fun _ => 0))), (q9, .inl (c9, 9, .inl (fun _ => 0))), (q10, .inl (c10, 31, .inl (fun _ => 0)))] := hD
  refine lv_aload_n hx hb d_X_init_84 rfl (lv_at hl 0 rfl) ?_
  refine lv_sipush (v := 155) hx hb d_X_init_85 (by decide) ?_
  refine va_newa (atype := .int) (a0 := (155, .inl (fun _ => 0))) (N' := 155) hx hb (hts _ kX_ac_I) (ty := .int) rfl hK hP hD hS hA (fun _ => rfl) (by decide) (by decide) (by decide) (Nat.le_of_ble_eq_true rfl) (Nat.le_of_ble_eq_true rfl) d_X_init_88 (fun q11 c11 H hK hP hD hS => ?_)
  have hK : va_K D classes [(c1, .int), (c2, .int), (c3, .int), (c4, .boolean), (c5, .int), (c6, .int), (c7, .int), (c8, .int), (c9, .int), (c10, .int), (c11, .int)] s := hK
  have hP : va_P D classes [(h0, .inr (0, [.int 0, .int 0, .int 0, .int 0, .ref q1, .ref q2, .ref q3, .ref q4, .ref q5, .ref q6, .ref q7, .int 0, .int 0, .int 0, .ref q8, .ref q9, .int 0, .ref q10, .null, .null])), (q1, .inl (c1, 6, .inl (fun _ => 0))), (q2, .inl (c2, 6, .inl (fun _ => 0))), (q3, .inl (c3, 6, .inl (fun _ => 0))), (q4, .inl (c4, 6, .inl (fun _ => 0))), (q5, .inl (c5, 9, .inl (fun _ => 0))), (q6, .inl (c6, 9, .inl (fun _ => 0))), (q7, .inl (c7, 9, .inl (fun _ => 0))), (q8, .inl (c8, 9, .inl (fun _ => 0))), (q9, .inl (c9, 9, .inl (fun _ => 0))), (q10, .inl (c10, 31, .inl (fun _ => 0))), (q11, .inl (c11, 155, .inl (fun _ => 0)))] H := hP
  have hD : va_D A [(h0, .inr (0, [.int 0, .int 0, .int 0, .int 0, .ref q1, .ref q2, .ref q3, .ref q4, .ref q5, .ref q6, .ref q7, .int 0, .int 0, .int 0, .ref q8, .ref q9, .int 0, .ref q10, .null, .null])), (q1, .inl (c1, 6, .inl (fun _ => 0))), (q2, .inl (c2, 6, .inl (fun _ => 0))), (q3, .inl (c3, 6, .inl (fun _ => 0))), (q4, .inl (c4, 6, .inl (fun _ => 0))), (q5, .inl (c5, 9, .inl (fun _ => 0))), (q6, .inl (c6, 9, .inl (fun _ => 0))), (q7, .inl (c7, 9, .inl (fun _ => 0))), (q8, .inl (c8, 9, .inl (fun _ => 0))), (q9, .inl (c9, 9, .inl (fun _ => 0))), (q10, .inl (c10, 31, .inl (fun _ => 0))), (q11, .inl (c11, 155, .inl (fun _ => 0)))] := hD
  refine W.widen (k := 11) (n := 255) (by omega) (by omega) ?_
  refine va_putF (D := D) (ci := 0) (v := .ref q11) (ty := .array .int) (C := R_X) (T := F_X) (N := 20) hx hb hts i_X t_X t_X_ok n_X hown hK hP hD hS 0 rfl rfl 18 (by decide) (hts _ kX_fl_reach) (fun _ h9 => h9) rfl hin rfl (by decide +kernel) rfl rfl (Nat.le_of_ble_eq_true rfl) d_X_init_90 (fun H locs hP hD hS => ?_)
  have hP : va_P D classes [(h0, .inr (0, [.int 0, .int 0, .int 0, .int 0, .ref q1, .ref q2, .ref q3, .ref q4, .ref q5, .ref q6, .ref q7, .int 0, .int 0, .int 0, .ref q8, .ref q9, .int 0, .ref q10, .ref q11, .null])), (q1, .inl (c1, 6, .inl (fun _ => 0))), (q2, .inl (c2, 6, .inl (fun _ => 0))), (q3, .inl (c3, 6, .inl (fun _ => 0))), (q4, .inl (c4, 6, .inl (fun _ => 0))), (q5, .inl (c5, 9, .inl (fun _ => 0))), (q6, .inl (c6, 9, .inl (fun _ => 0))), (q7, .inl (c7, 9, .inl (fun _ => 0))), (q8, .inl (c8, 9, .inl (fun _ => 0))), (q9, .inl (c9, 9, .inl (fun _ => 0))), (q10, .inl (c10, 31, .inl (fun _ => 0))), (q11, .inl (c11, 155, .inl (fun _ => 0)))] H := hP
  have hD : va_D A [(h0, .inr (0, [.int 0, .int 0, .int 0, .int 0, .ref q1, .ref q2, .ref q3, .ref q4, .ref q5, .ref q6, .ref q7, .int 0, .int 0, .int 0, .ref q8, .ref q9, .int 0, .ref q10, .ref q11, .null])), (q1, .inl (c1, 6, .inl (fun _ => 0))), (q2, .inl (c2, 6, .inl (fun _ => 0))), (q3, .inl (c3, 6, .inl (fun _ => 0))), (q4, .inl (c4, 6, .inl (fun _ => 0))), (q5, .inl (c5, 9, .inl (fun _ => 0))), (q6, .inl (c6, 9, .inl (fun _ => 0))), (q7, .inl (c7, 9, .inl (fun _ => 0))), (q8, .inl (c8, 9, .inl (fun _ => 0))), (q9, .inl (c9, 9, .inl (fun _ => 0))), (q10, .inl (c10, 31, .inl (fun _ => 0))), (q11, .inl (c11, 155, .inl (fun _ => 0)))] := hD
  refine lv_aload_n hx hb d_X_init_93 rfl (lv_at hl 0 rfl) ?_
  refine lv_bipush (v := 31) hx hb d_X_init_94 (by decide) ?_
  refine va_newa (atype := .int) (a0 := (31, .inl (fun _ => 0))) (N' := 31) hx hb (hts _ kX_ac_I) (ty := .int) rfl hK hP hD hS hA (fun _ => rfl) (by decide) (by decide) (by decide) (Nat.le_of_ble_eq_true rfl) (Nat.le_of_ble_eq_true rfl) d_X_init_96 (fun q12 c12 H hK hP hD hS => ?_)
  have hK : va_K D classes [(c1, .int), (c2, .int), (c3, .int), (c4, .boolean), (c5, .int), (c6, .int), (c7, .int), (c8, .int), (c9, .int), (c10, .int), (c11, .int), (c12, .int)] s := hK
  have hP : va_P D classes [(h0, .inr (0, [.int 0, .int 0, .int 0, .int 0, .ref q1, .ref q2, .ref q3, .ref q4, .ref q5, .ref q6, .ref q7, .int 0, .int 0, .int 0, .ref q8, .ref q9, .int 0, .ref q10, .ref q11, .null])), (q1, .inl (c1, 6, .inl (fun _ => 0))), (q2, .inl (c2, 6, .inl (fun _ => 0))), (q3, .inl (c3, 6, .inl (fun _ => 0))), (q4, .inl (c4, 6, .inl (fun _ => 0))), (q5, .inl (c5, 9, .inl (fun _ => 0))), (q6, .inl (c6, 9, .inl (fun _ => 0))), (q7, .inl (c7, 9, .inl (fun _ => 0))), (q8, .inl (c8, 9, .inl (fun _ => 0))), (q9, .inl (c9, 9, .inl (fun _ => 0))), (q10, .inl (c10, 31, .inl (fun _ => 0))), (q11, .inl (c11, 155, .inl (fun _ => 0))), (q12, .inl (c12, 31, .inl (fun _ => 0)))] H := hP
  have hD : va_D A [(h0, .inr (0, [.int 0, .int 0, .int 0, .int 0, .ref q1, .ref q2, .ref q3, .ref q4, .ref q5, .ref q6, .ref q7, .int 0, .int 0, .int 0, .ref q8, .ref q9, .int 0, .ref q10, .ref q11, .null])), (q1, .inl (c1, 6, .inl (fun _ => 0))), (q2, .inl (c2, 6, .inl (fun _ => 0))), (q3, .inl (c3, 6, .inl (fun _ => 0))), (q4, .inl (c4, 6, .inl (fun _ => 0))), (q5, .inl (c5, 9, .inl (fun _ => 0))), (q6, .inl (c6, 9, .inl (fun _ => 0))), (q7, .inl (c7, 9, .inl (fun _ => 0))), (q8, .inl (c8, 9, .inl (fun _ => 0))), (q9, .inl (c9, 9, .inl (fun _ => 0))), (q10, .inl (c10, 31, .inl (fun _ => 0))), (q11, .inl (c11, 155, .inl (fun _ => 0))), (q12, .inl (c12, 31, .inl (fun _ => 0)))] := hD
  refine W.widen (k := 12) (n := 286) (by omega) (by omega) ?_
  refine va_putF (D := D) (ci := 0) (v := .ref q12) (ty := .array .int) (C := R_X) (T := F_X) (N := 20) hx hb hts i_X t_X t_X_ok n_X hown hK hP hD hS 0 rfl rfl 19 (by decide) (hts _ kX_fl_lengthOf) (fun _ h9 => h9) rfl hin rfl (by decide +kernel) rfl rfl (Nat.le_of_ble_eq_true rfl) d_X_init_98 (fun H locs hP hD hS => ?_)
  have hP : va_P D classes [(h0, .inr (0, [.int 0, .int 0, .int 0, .int 0, .ref q1, .ref q2, .ref q3, .ref q4, .ref q5, .ref q6, .ref q7, .int 0, .int 0, .int 0, .ref q8, .ref q9, .int 0, .ref q10, .ref q11, .ref q12])), (q1, .inl (c1, 6, .inl (fun _ => 0))), (q2, .inl (c2, 6, .inl (fun _ => 0))), (q3, .inl (c3, 6, .inl (fun _ => 0))), (q4, .inl (c4, 6, .inl (fun _ => 0))), (q5, .inl (c5, 9, .inl (fun _ => 0))), (q6, .inl (c6, 9, .inl (fun _ => 0))), (q7, .inl (c7, 9, .inl (fun _ => 0))), (q8, .inl (c8, 9, .inl (fun _ => 0))), (q9, .inl (c9, 9, .inl (fun _ => 0))), (q10, .inl (c10, 31, .inl (fun _ => 0))), (q11, .inl (c11, 155, .inl (fun _ => 0))), (q12, .inl (c12, 31, .inl (fun _ => 0)))] H := hP
  have hD : va_D A [(h0, .inr (0, [.int 0, .int 0, .int 0, .int 0, .ref q1, .ref q2, .ref q3, .ref q4, .ref q5, .ref q6, .ref q7, .int 0, .int 0, .int 0, .ref q8, .ref q9, .int 0, .ref q10, .ref q11, .ref q12])), (q1, .inl (c1, 6, .inl (fun _ => 0))), (q2, .inl (c2, 6, .inl (fun _ => 0))), (q3, .inl (c3, 6, .inl (fun _ => 0))), (q4, .inl (c4, 6, .inl (fun _ => 0))), (q5, .inl (c5, 9, .inl (fun _ => 0))), (q6, .inl (c6, 9, .inl (fun _ => 0))), (q7, .inl (c7, 9, .inl (fun _ => 0))), (q8, .inl (c8, 9, .inl (fun _ => 0))), (q9, .inl (c9, 9, .inl (fun _ => 0))), (q10, .inl (c10, 31, .inl (fun _ => 0))), (q11, .inl (c11, 155, .inl (fun _ => 0))), (q12, .inl (c12, 31, .inl (fun _ => 0)))] := hD
  obtain ⟨q, hq⟩ : ∃ q : Nat → Nat, q = (sel13 h0 q1 q2 q3 q4 q5 q6 q7 q8 q9 q10 q11 q12) := ⟨_, rfl⟩
  obtain ⟨k, hk⟩ : ∃ k : Nat → ClassId, k = (sel13 c1 c1 c2 c3 c4 c5 c6 c7 c8 c9 c10 c11 c12) := ⟨_, rfl⟩
  have hA12 : A00 = setA A00 12 (lnF 1) := by rw [← lnF_1]; exact (setA_self A00 12).symm
  have hP2 : va_P D classes (xw q k (S00, A00)) H := by rw [hq, hk]; exact hP
  have hD2 : va_D A (xw q k (S00, A00)) := by rw [hq, hk]; exact hD
  rw [hA12] at hP2 hD2
  have hK2 : va_K D classes (xty k) s := by rw [hk]; exact hK
  have hq0 : q 0 = h0 := by rw [hq]; rfl
  clear hq hk
  subst hq0
  have hend : ∀ lo, V p l e rm_X_init s m ([.ref (q 0)] : List Value).toArray below meth c R_X wX b_X_init 2 none D (xty k) A (xw q k) 12 286 (MQ below (va_Qv (fun u : XS => u = (S00, setA A00 12 (lnF 31))) (fun u t => ∃ (q1 : Nat → Nat) (k : Nat → ClassId), q1 0 = q 0 ∧ vB D (xty k) (xw q1 k) A u t) A) ([.ref (q 0)] : List Value).toArray s 12 286 A) (133) (lo) ([]) ((S00, setA A00 12 (lnF 31))) := by
      intro lo hc ls H locs h1 h2 h3 h4
      exact W.vret (hlocks := hlocks) hx hb hr (fun t ht hW => ⟨⟨_, rfl, rfl, q, k, rfl, by rw [ht]; exact h2, va_K.moved hW.alike hK2, h3⟩, h4.F ht⟩) h4.2.2 d_X_init_133
  have loop : ∀ n, n ≤ 31 → 0 < n → V p l e rm_X_init s m ([.ref (q 0)] : List Value).toArray below meth c R_X wX b_X_init 2 none D (xty k) A (xw q k) 12 286 (MQ below (va_Qv (fun u : XS => u = (S00, setA A00 12 (lnF 31))) (fun u t => ∃ (q1 : Nat → Nat) (k : Nat → ClassId), q1 0 = q 0 ∧ vB D (xty k) (xw q1 k) A u t) A) ([.ref (q 0)] : List Value).toArray s 12 286 A) (103) ([some (.ref (q 0)), some (.int (nI n))]) ([]) ((S00, setA A00 12 (lnF n))) := by
      refine dn 31 ?_ ?_
      · intro _
        refine V_iload_n d_X_init_103 rfl rfl ?_
        refine V_bipush (v := (nI 31)) d_X_init_104 (by decide) ?_
        refine V_icmp_ge_t (tgt := 133) d_X_init_106 (by decide) (nI_le (by omega) (by omega)) ?_
        exact hend _
      · intro n hn ih h0
        refine V_iload_n d_X_init_103 rfl rfl ?_
        refine V_bipush (v := (nI 31)) d_X_init_104 (by decide) ?_
        refine V_icmp_ge_f (tgt := 133) d_X_init_106 (by decide) (nI_ge hn (by omega)) ?_
        refine V_aload_n d_X_init_109 rfl rfl ?_
        refine xg_lengthOf d_X_init_110 ?_
        refine V_iload_n d_X_init_113 rfl rfl ?_
        refine V_aload_n d_X_init_114 rfl rfl ?_
        refine xg_lengthOf d_X_init_115 ?_
        refine V_iload_n d_X_init_118 rfl rfl ?_
        refine V_iconst (v := (nI 1)) d_X_init_119 (by decide) ?_
        refine V_isub d_X_init_120 (pk_sub h0) ?_
        refine V_iconst (v := (nI 1)) d_X_init_121 (by decide) ?_
        refine V_ishr d_X_init_122 (nI_shr (by omega) (by omega)) ?_
        refine xl_lengthOf (rfl) (by omega) d_X_init_123 ?_
        refine V_top (show _ = nI (lenN ((n - 1) / 2)) from lnF_r h0) ?_
        refine V_iconst (v := (nI 1)) d_X_init_124 (by decide) ?_
        refine V_iadd d_X_init_125 (nI_add _ _) ?_
        refine xs_lengthOf (rfl) (by omega) d_X_init_126 ?_
        refine V_at rfl rfl rfl (show _ = (S00, setA A00 12 (lnF (n + 1))) from Prod.ext rfl ((updA_setA _ _ _ _ _).trans (by rw [← lnF_s hn h0]))) ?_
        refine V_iinc d_X_init_127 rfl (nI_1 _) (by decide) ?_
        refine V_goto (tgt := 103) d_X_init_130 (by decide) ?_
        exact ih (by omega)
  have go : V p l e rm_X_init s m ([.ref (q 0)] : List Value).toArray below meth c R_X wX b_X_init 2 none D (xty k) A (xw q k) 12 286 (MQ below (va_Qv (fun u : XS => u = (S00, setA A00 12 (lnF 31))) (fun u t => ∃ (q1 : Nat → Nat) (k : Nat → ClassId), q1 0 = q 0 ∧ vB D (xty k) (xw q1 k) A u t) A) ([.ref (q 0)] : List Value).toArray s 12 286 A) (101) ([some (.ref (q 0)), none]) ([]) ((S00, setA A00 12 (lnF 1))) := by
      refine V_iconst (v := (nI 1)) d_X_init_101 (by decide) ?_
      refine V_istore_n d_X_init_102 rfl (by decide) ?_
      exact loop 1 (by omega) (by omega)
  exact go ⟨⟨hx, hb, hml, hown, hts⟩, hK2, hr, hlocks, hA⟩ ls H _ (lo_entry (vs := [.ref (q 0)]) (by simp [Value.category]) hl rfl) hP2 hD2 hS
abbrev rm_M_init : Room := ({ frames := 1, cells := 1, slots := 248, locals := 12 } : Room)
set_option maxHeartbeats 8000000 in
set_option maxRecDepth 100000 in
theorem c_M_init (l : Launch) (D : va_G) (h0 sz : Nat) : Met l y_M_init (.code y_M_init b_M_init 1 none :: wM) rm_M_init (va_Pc [.ref h0] (fun U => U.heap.size = sz ∧ va_P D classes [(h0, .inr (1, [.null, .int 0, .int 0, .int 0]))] U.heap ∧ va_K D classes [] U ∧ va_D (fun _ => True) [(h0, .inr (1, [.null, .int 0, .int 0, .int 0]))])) (va_Qv (fun u : XS => u = (S00, A00)) (fun u t => ∃ (q : Nat → Nat) (k : Nat → ClassId), q 0 = h0 ∧ vB D (mty k) (mw q k) (va_A [(h0, .inr (1, [.null, .int 0, .int 0, .int 0]))] sz) u t) (va_A [(h0, .inr (1, [.null, .int 0, .int 0, .int 0]))] sz)) 1 248 (va_A [(h0, .inr (1, [.null, .int 0, .int 0, .int 0]))] sz) := by
  refine Met.ofW (cc := b_M_init) (maxL := 1) (ret := none) (by decide +kernel) rfl ?_
  intro p e s m args below meth c s₁ B hml hv
  obtain ⟨rfl, hsz, hP, hK, hD0⟩ := hv
  have hx := B.exec
  have hb := B.bytes
  have hr := B.returns
  have hts0 := atoms_spec (ws := .code y_M_init b_M_init 1 none :: wM) B.pre
  have hts : ∀ w ∈ wM, w.before _ s = true := fun w hw => hts0 w (List.mem_cons_of_mem _ hw)
  have hown : s.vm.findClass R_M = some m.cls := findClass_of_methodNamed B.named
  have hlocks := B.notSynchronized
  have hin : meth.name = "<init>" := (name_of_methodNamed B.named B.method).1
  subst hsz
  have hD := hD0.self (sz := s.heap.size)
  generalize hAe : va_A [(h0, .inr (1, [.null, .int 0, .int 0, .int 0]))] s.heap.size = A at hD ⊢
  have hA : ∀ q : Nat, s.heap.size ≤ q → A q := fun q h => by rw [← hAe]; exact Or.inr h
  have hS : va_S A s.heap s.heap [] := va_S.rf
  have hl := lv_entry ([.ref h0]) (n := 1) (Nat.le_of_ble_eq_true rfl)
  rw [lg_entry_eq]
  generalize (lg_sl ([.ref h0]) ++ List.replicate (1 - (lg_sl ([.ref h0])).length) Slot.unset).toArray = ls at hl ⊢
  have hl : lv_has ls 1 [(0, .ref h0)] := hl
  refine lv_aload_n hx hb d_M_init_0 rfl (lv_at hl 0 rfl) ?_
  refine W.objInit hx hb hown (hts _ kM_ml_1) (hts _ kM_imo) (hts _ kM_codeo) rfl (by rw [hml]; exact hl.1) rfl d_M_init_1 (Nat.le_of_ble_eq_true rfl) (Nat.le_of_ble_eq_true rfl) ?_
  refine W.eq (g2 := F0 m 4 ls []) rfl ?_
  refine lv_aload_n hx hb d_M_init_4 rfl (lv_at hl 0 rfl) ?_
  refine lv_sipush (v := 248) hx hb d_M_init_5 (by decide) ?_
  refine va_newa (atype := .int) (a0 := (248, .inl (fun _ => 0))) (N' := 248) hx hb (hts _ kM_ac_I) (ty := .int) rfl hK hP hD hS hA (fun _ => rfl) (by decide) (by decide) (by decide) (Nat.le_of_ble_eq_true rfl) (Nat.le_of_ble_eq_true rfl) d_M_init_8 (fun q1 c1 H hK hP hD hS => ?_)
  have hK : va_K D classes [(c1, .int)] s := hK
  have hP : va_P D classes [(h0, .inr (1, [.null, .int 0, .int 0, .int 0])), (q1, .inl (c1, 248, .inl (fun _ => 0)))] H := hP
  have hD : va_D A [(h0, .inr (1, [.null, .int 0, .int 0, .int 0])), (q1, .inl (c1, 248, .inl (fun _ => 0)))] := hD
  refine W.widen (k := 1) (n := 248) (by omega) (by omega) ?_
  refine va_putF (D := D) (ci := 1) (v := .ref q1) (ty := .array .int) (C := R_M) (T := F_M) (N := 4) hx hb hts i_M t_M t_M_ok n_M hown hK hP hD hS 0 rfl rfl 0 (by decide) (hts _ kM_fl_sets) (fun _ h9 => h9) rfl hin rfl (by decide +kernel) rfl rfl (Nat.le_of_ble_eq_true rfl) d_M_init_10 (fun H locs hP hD hS => ?_)
  have hP : va_P D classes [(h0, .inr (1, [.ref q1, .int 0, .int 0, .int 0])), (q1, .inl (c1, 248, .inl (fun _ => 0)))] H := hP
  have hD : va_D A [(h0, .inr (1, [.ref q1, .int 0, .int 0, .int 0])), (q1, .inl (c1, 248, .inl (fun _ => 0)))] := hD
  obtain ⟨q, hq⟩ : ∃ q : Nat → Nat, q = (fun n => match n with | 0 => h0 | _ => q1) := ⟨_, rfl⟩
  obtain ⟨k, hk⟩ : ∃ k : Nat → ClassId, k = (fun _ => c1) := ⟨_, rfl⟩
  have hP2 : va_P D classes (mw q k (S00, A00)) H := by rw [hq, hk]; exact hP
  have hD2 : va_D A (mw q k (S00, A00)) := by rw [hq, hk]; exact hD
  have hK2 : va_K D classes (mty k) s := by rw [hk]; exact hK
  have hq0 : q 0 = h0 := by rw [hq]; rfl
  clear hq hk
  subst hq0
  exact W.vret (hlocks := hlocks) hx hb hr (fun t ht hW => ⟨⟨_, rfl, rfl, q, k, rfl, by rw [ht]; exact hP2, va_K.moved hW.alike hK2, hD2⟩, hS.F ht⟩) hS.2.2 d_M_init_13
end
section
/-! The plain law: paths of places (last place first), what they read, and how cat, alt, star, turn change them -/
noncomputable def bP (p : Prop) : Bool := @decide p (Classical.propDecidable p)
theorem bP_iff {p : Prop} : bP p = true ↔ p := by
  unfold bP
  exact @decide_eq_true_iff p (Classical.propDecidable p)
def Ch (fi : Int32) (fo : Nat → Int32) : List Nat → Prop
  | [] => False
  | [p] => bt fi p = true
  | p :: q :: ps => bt (fo q) p = true ∧ Ch fi fo (q :: ps)
def Acc (fi la : Int32) (e : Bool) (fo : Nat → Int32) : List Nat → Prop
  | [] => e = true
  | p :: ps => bt la p = true ∧ Ch fi fo (p :: ps)
def ww (l : Nat → Nat) : List Nat → List Nat
  | [] => []
  | p :: ps => (if l p = 2 then [] else [l p]) ++ ww l ps
theorem ww_app (l : Nat → Nat) : ∀ a b, ww l (a ++ b) = ww l a ++ ww l b
  | [], b => rfl
  | p :: a, b => by rw [List.cons_append, ww, ww, ww_app l a b, List.append_assoc]
theorem ww_congr {l l' : Nat → Nat} : ∀ ps : List Nat, (∀ p ∈ ps, l p = l' p) → ww l ps = ww l' ps
  | [], _ => rfl
  | p :: ps, h => by rw [ww, ww, h p List.mem_cons_self, ww_congr ps (fun q hq => h q (List.mem_cons_of_mem _ hq))]
def Rel (fi la : Int32) (e : Bool) (fo : Nat → Int32) (lf rf : Nat → Nat) (a b : List Nat) : Prop := ∃ ps, Acc fi la e fo ps ∧ ww lf ps = a ∧ ww rf ps = b
theorem Ch_in {fi : Int32} {fo : Nat → Int32} {P : Nat → Prop} (h1 : ∀ p, bt fi p = true → P p) (h2 : ∀ q, P q → ∀ p, bt (fo q) p = true → P p) : ∀ ps, Ch fi fo ps → ∀ p ∈ ps, P p
  | [], h => absurd h id
  | [p], h => by
    intro p' hp
    rw [List.mem_singleton] at hp
    subst hp
    exact h1 _ h
  | p :: q :: ps, h => by
    have ih := Ch_in h1 h2 (q :: ps) h.2
    intro p' hp
    rcases List.mem_cons.mp hp with rfl | hp
    · exact h2 q (ih q List.mem_cons_self) _ h.1
    · exact ih p' hp
theorem Ch_mono {fi fi' : Int32} {fo fo' : Nat → Int32} {P : Nat → Prop} (h1 : ∀ p, bt fi p = true → P p) (h2 : ∀ q, P q → ∀ p, bt (fo q) p = true → P p) (hf : ∀ p, bt fi p = true → bt fi' p = true) (he : ∀ q, P q → ∀ p, bt (fo q) p = true → bt (fo' q) p = true) : ∀ ps, Ch fi fo ps → Ch fi' fo' ps
  | [], h => absurd h id
  | [p], h => hf p h
  | p :: q :: ps, h => ⟨he q (Ch_in h1 h2 (q :: ps) h.2 q List.mem_cons_self) p h.1, Ch_mono h1 h2 hf he (q :: ps) h.2⟩
theorem Ch_app {fi g : Int32} {fo : Nat → Int32} {q : Nat} {t : List Nat} (hg : ∀ p, bt g p = true → bt (fo q) p = true) (hc : Ch fi fo (q :: t)) : ∀ ps, Ch g fo ps → Ch fi fo (ps ++ q :: t)
  | [], h => absurd h id
  | [p], h => ⟨hg p h, hc⟩
  | p :: r :: ps, h => ⟨h.1, Ch_app hg hc (r :: ps) h.2⟩
theorem Acc_in {fi la : Int32} {e : Bool} {fo : Nat → Int32} {P : Nat → Prop} (h1 : ∀ p, bt fi p = true → P p) (h2 : ∀ q, P q → ∀ p, bt (fo q) p = true → P p) {ps : List Nat} (h : Acc fi la e fo ps) : ∀ p ∈ ps, P p := by
  cases ps with
  | nil => intro p hp; cases hp
  | cons p ps => exact Ch_in h1 h2 _ h.2
theorem Acc_mono {fi fi' la la' : Int32} {e e' : Bool} {fo fo' : Nat → Int32} {P : Nat → Prop} (h1 : ∀ p, bt fi p = true → P p) (h2 : ∀ q, P q → ∀ p, bt (fo q) p = true → P p) (hf : ∀ p, bt fi p = true → bt fi' p = true) (hl : ∀ p, bt la p = true → bt la' p = true) (he : e = true → e' = true) (ho : ∀ q, P q → ∀ p, bt (fo q) p = true → bt (fo' q) p = true) {ps : List Nat} (h : Acc fi la e fo ps) : Acc fi' la' e' fo' ps := by
  cases ps with
  | nil => exact he h
  | cons p ps => exact ⟨hl p h.1, Ch_mono h1 h2 hf ho _ h.2⟩
/-- what an expression relates depends on its own places alone -/
theorem Rel_congr {fi la : Int32} {e : Bool} {fo fo' : Nat → Int32} {lf rf lf' rf' : Nat → Nat} {P : Nat → Prop} (h1 : ∀ p, bt fi p = true → P p) (h2 : ∀ q, P q → ∀ p, bt (fo q) p = true → P p) (ho : ∀ q, P q → fo q = fo' q) (hl : ∀ p, P p → lf p = lf' p) (hr : ∀ p, P p → rf p = rf' p) {a b : List Nat} : Rel fi la e fo lf rf a b ↔ Rel fi la e fo' lf' rf' a b := by
  have h2' : ∀ q, P q → ∀ p, bt (fo' q) p = true → P p := fun q hq p hp => h2 q hq p (by rw [ho q hq]; exact hp)
  constructor
  · rintro ⟨ps, hA, rfl, rfl⟩
    have hin := Acc_in h1 h2 hA
    exact ⟨ps, Acc_mono h1 h2 (fun _ h => h) (fun _ h => h) id (fun q hq p hp => by rw [← ho q hq]; exact hp) hA, (ww_congr ps (fun p hp => hl p (hin p hp))).symm, (ww_congr ps (fun p hp => hr p (hin p hp))).symm⟩
  · rintro ⟨ps, hA, rfl, rfl⟩
    have hin := Acc_in h1 h2' hA
    exact ⟨ps, Acc_mono h1 h2' (fun _ h => h) (fun _ h => h) id (fun q hq p hp => by rw [ho q hq]; exact hp) hA, ww_congr ps (fun p hp => hl p (hin p hp)), ww_congr ps (fun p hp => hr p (hin p hp))⟩
section CatLaw
variable {P Q : Nat → Prop} {fx lx fy ly f' l' : Int32} {ex ey : Bool} {fo fo' : Nat → Int32}
theorem cat_ch (hfx : ∀ p, bt fx p = true → P p) (hlx : ∀ p, bt lx p = true → P p) (hox : ∀ q, P q → ∀ p, bt (fo q) p = true → P p) (hfy : ∀ p, bt fy p = true → Q p) (hoy : ∀ q, Q q → ∀ p, bt (fo q) p = true → Q p) (hd : ∀ p, P p → Q p → False)
    (hfo : ∀ q p, bt (fo' q) p = true ↔ bt (fo q) p = true ∨ (bt lx q = true ∧ bt fy p = true)) (hf' : ∀ p, bt f' p = true ↔ bt fx p = true ∨ (ex = true ∧ bt fy p = true)) : ∀ ps, Ch f' fo' ps → ∃ p1 p2, ps = p2 ++ p1 ∧ ((p1 = [] ∧ ex = true) ∨ (Ch fx fo p1 ∧ (p2 = [] ∨ ∃ q t, p1 = q :: t ∧ bt lx q = true))) ∧ (p2 = [] ∨ Ch fy fo p2)
  | [], h => absurd h id
  | [p], h => by
    rcases (hf' p).mp h with h | ⟨h1, h2⟩
    · exact ⟨[p], [], rfl, Or.inr ⟨h, Or.inl rfl⟩, Or.inl rfl⟩
    · exact ⟨[], [p], rfl, Or.inl ⟨rfl, h1⟩, Or.inr h2⟩
  | p :: q :: ps, h => by
    obtain ⟨p1, p2, e, h1, h2⟩ := cat_ch hfx hlx hox hfy hoy hd hfo hf' (q :: ps) h.2
    cases p2 with
    | nil =>
      have e : p1 = q :: ps := e.symm
      subst e
      rcases h1 with ⟨z, _⟩ | ⟨hc, _⟩
      · cases z
      · rcases (hfo q p).mp h.1 with g | ⟨g1, g2⟩
        · exact ⟨p :: q :: ps, [], rfl, Or.inr ⟨⟨g, hc⟩, Or.inl rfl⟩, Or.inl rfl⟩
        · exact ⟨q :: ps, [p], rfl, Or.inr ⟨hc, Or.inr ⟨q, ps, rfl, g1⟩⟩, Or.inr g2⟩
    | cons r t =>
      rw [List.cons_append] at e
      injection e with e1 e2
      subst e1
      rcases h2 with z | hc
      · cases z
      · have hq := Ch_in hfy hoy _ hc q List.mem_cons_self
        rcases (hfo q p).mp h.1 with g | ⟨g1, g2⟩
        · refine ⟨p1, p :: q :: t, by rw [e2]; rfl, ?_, Or.inr ⟨g, hc⟩⟩
          rcases h1 with z | ⟨z1, z2⟩
          · exact Or.inl z
          · rcases z2 with z2 | z2
            · cases z2
            · exact Or.inr ⟨z1, Or.inr z2⟩
        · exact absurd (hd q (hlx q g1) hq) id
theorem cat_acc (hfx : ∀ p, bt fx p = true → P p) (hlx : ∀ p, bt lx p = true → P p) (hox : ∀ q, P q → ∀ p, bt (fo q) p = true → P p) (hfy : ∀ p, bt fy p = true → Q p) (hly : ∀ p, bt ly p = true → Q p) (hoy : ∀ q, Q q → ∀ p, bt (fo q) p = true → Q p) (hd : ∀ p, P p → Q p → False)
    (hfo : ∀ q p, bt (fo' q) p = true ↔ bt (fo q) p = true ∨ (bt lx q = true ∧ bt fy p = true)) (hf' : ∀ p, bt f' p = true ↔ bt fx p = true ∨ (ex = true ∧ bt fy p = true)) (hl' : ∀ p, bt l' p = true ↔ bt ly p = true ∨ (ey = true ∧ bt lx p = true)) (ps : List Nat) : Acc f' l' (ex && ey) fo' ps ↔ ∃ p1 p2, ps = p2 ++ p1 ∧ Acc fx lx ex fo p1 ∧ Acc fy ly ey fo p2 := by
  constructor
  · intro h
    cases ps with
    | nil =>
      have h : (ex && ey) = true := h
      rw [Bool.and_eq_true] at h
      exact ⟨[], [], rfl, h.1, h.2⟩
    | cons p t =>
      obtain ⟨p1, p2, e, h1, h2⟩ := cat_ch hfx hlx hox hfy hoy hd hfo hf' _ h.2
      cases p2 with
      | nil =>
        have e : p1 = p :: t := e.symm
        subst e
        rcases h1 with ⟨z, _⟩ | ⟨hc, _⟩
        · cases z
        · have hp := Ch_in hfx hox _ hc p List.mem_cons_self
          rcases (hl' p).mp h.1 with g | ⟨g1, g2⟩
          · exact absurd (hd p hp (hly p g)) id
          · exact ⟨p :: t, [], rfl, ⟨g2, hc⟩, g1⟩
      | cons r t2 =>
        rw [List.cons_append] at e
        injection e with e1 e2
        subst e1
        rcases h2 with z | hc
        · cases z
        · have hp := Ch_in hfy hoy _ hc p List.mem_cons_self
          refine ⟨p1, p :: t2, by rw [e2]; rfl, ?_, ?_⟩
          · rcases h1 with ⟨z1, z2⟩ | ⟨z1, z2⟩
            · subst z1; exact z2
            · rcases z2 with z2 | ⟨q, t3, z2, z3⟩
              · cases z2
              · subst z2; exact ⟨z3, z1⟩
          · rcases (hl' p).mp h.1 with g | ⟨g1, g2⟩
            · exact ⟨g, hc⟩
            · exact absurd (hd p (hlx p g2) hp) id
  · rintro ⟨p1, p2, rfl, h1, h2⟩
    have mono1 : ∀ ps, Ch fx fo ps → Ch f' fo' ps := Ch_mono hfx hox (fun p hp => (hf' p).mpr (Or.inl hp)) (fun q _ p hp => (hfo q p).mpr (Or.inl hp))
    cases p1 with
    | nil =>
      have he : ex = true := h1
      rw [List.append_nil]
      cases p2 with
      | nil =>
        have he2 : ey = true := h2
        show (ex && ey) = true
        rw [he, he2]; rfl
      | cons p t =>
        exact ⟨(hl' p).mpr (Or.inl h2.1), Ch_mono hfy hoy (fun p hp => (hf' p).mpr (Or.inr ⟨he, hp⟩)) (fun q _ p hp => (hfo q p).mpr (Or.inl hp)) _ h2.2⟩
    | cons q t =>
      cases p2 with
      | nil => exact ⟨(hl' q).mpr (Or.inr ⟨h2, h1.1⟩), mono1 _ h1.2⟩
      | cons p t2 =>
        refine ⟨(hl' p).mpr (Or.inl h2.1), ?_⟩
        exact Ch_app (g := fy) (fun p hp => (hfo q p).mpr (Or.inr ⟨h1.1, hp⟩)) (mono1 _ h1.2) (p :: t2) (Ch_mono hfy hoy (fun _ h => h) (fun q _ p hp => (hfo q p).mpr (Or.inl hp)) _ h2.2)
theorem alt_acc (hfx : ∀ p, bt fx p = true → P p) (hlx : ∀ p, bt lx p = true → P p) (hox : ∀ q, P q → ∀ p, bt (fo q) p = true → P p) (hfy : ∀ p, bt fy p = true → Q p) (hly : ∀ p, bt ly p = true → Q p) (hoy : ∀ q, Q q → ∀ p, bt (fo q) p = true → Q p) (hd : ∀ p, P p → Q p → False)
    (hf' : ∀ p, bt f' p = true ↔ bt fx p = true ∨ bt fy p = true) (hl' : ∀ p, bt l' p = true ↔ bt lx p = true ∨ bt ly p = true) (ps : List Nat) : Acc f' l' (ex || ey) fo ps ↔ Acc fx lx ex fo ps ∨ Acc fy ly ey fo ps := by
  have hch : ∀ ps, Ch f' fo ps → Ch fx fo ps ∨ Ch fy fo ps := by
    intro ps
    induction ps with
    | nil => intro h; exact absurd h id
    | cons p t ih =>
      cases t with
      | nil => exact fun h => (hf' p).mp h
      | cons q r =>
        rintro ⟨h1, h2⟩
        exact (ih h2).imp (fun z => ⟨h1, z⟩) (fun z => ⟨h1, z⟩)
  constructor
  · intro h
    cases ps with
    | nil =>
      have h : (ex || ey) = true := h
      rw [Bool.or_eq_true] at h
      exact h
    | cons p t =>
      rcases hch _ h.2 with hc | hc
      · have hp := Ch_in hfx hox _ hc p List.mem_cons_self
        rcases (hl' p).mp h.1 with g | g
        · exact Or.inl ⟨g, hc⟩
        · exact absurd (hd p hp (hly p g)) id
      · have hp := Ch_in hfy hoy _ hc p List.mem_cons_self
        rcases (hl' p).mp h.1 with g | g
        · exact absurd (hd p (hlx p g) hp) id
        · exact Or.inr ⟨g, hc⟩
  · rintro (h | h)
    · exact Acc_mono hfx hox (fun p hp => (hf' p).mpr (Or.inl hp)) (fun p hp => (hl' p).mpr (Or.inl hp)) (fun z => by rw [z]; rfl) (fun _ _ _ h => h) h
    · exact Acc_mono hfy hoy (fun p hp => (hf' p).mpr (Or.inr hp)) (fun p hp => (hl' p).mpr (Or.inr hp)) (fun z => by rw [z, Bool.or_true]) (fun _ _ _ h => h) h
theorem star_ch (hfo : ∀ q p, bt (fo' q) p = true ↔ bt (fo q) p = true ∨ (bt lx q = true ∧ bt fx p = true)) : ∀ ps, Ch fx fo' ps → ∃ p1 p2, ps = p2 ++ p1 ∧ Ch fx fo p1 ∧ (p2 = [] ∨ ((∃ q t, p1 = q :: t ∧ bt lx q = true) ∧ Ch fx fo' p2))
  | [], h => absurd h id
  | [p], h => ⟨[p], [], rfl, h, Or.inl rfl⟩
  | p :: q :: ps, h => by
    obtain ⟨p1, p2, e, h1, h2⟩ := star_ch hfo (q :: ps) h.2
    cases p2 with
    | nil =>
      have e : p1 = q :: ps := e.symm
      subst e
      rcases (hfo q p).mp h.1 with g | ⟨g1, g2⟩
      · exact ⟨p :: q :: ps, [], rfl, ⟨g, h1⟩, Or.inl rfl⟩
      · exact ⟨q :: ps, [p], rfl, h1, Or.inr ⟨⟨q, ps, rfl, g1⟩, g2⟩⟩
    | cons r t =>
      rw [List.cons_append] at e
      injection e with e1 e2
      subst e1
      rcases h2 with z | ⟨z1, z2⟩
      · cases z
      · exact ⟨p1, p :: q :: t, by rw [e2]; rfl, h1, Or.inr ⟨z1, h.1, z2⟩⟩
theorem star_acc (hfx : ∀ p, bt fx p = true → P p) (hox : ∀ q, P q → ∀ p, bt (fo q) p = true → P p)
    (hfo : ∀ q p, bt (fo' q) p = true ↔ bt (fo q) p = true ∨ (bt lx q = true ∧ bt fx p = true)) (ps : List Nat) : Acc fx lx true fo' ps ↔ ps = [] ∨ ∃ p1 p2, ps = p2 ++ p1 ∧ p1 ≠ [] ∧ Acc fx lx ex fo p1 ∧ Acc fx lx true fo' p2 := by
  constructor
  · intro h
    cases ps with
    | nil => exact Or.inl rfl
    | cons p t =>
      refine Or.inr ?_
      obtain ⟨p1, p2, e, h1, h2⟩ := star_ch hfo _ h.2
      cases p2 with
      | nil =>
        have e : p1 = p :: t := e.symm
        subst e
        exact ⟨p :: t, [], rfl, by simp, ⟨h.1, h1⟩, rfl⟩
      | cons r t2 =>
        rw [List.cons_append] at e
        injection e with e1 e2
        subst e1
        rcases h2 with z | ⟨⟨q, t3, z1, z2⟩, z3⟩
        · cases z
        · subst z1
          exact ⟨q :: t3, p :: t2, by rw [e2]; rfl, by simp, ⟨z2, h1⟩, ⟨h.1, z3⟩⟩
  · rintro (rfl | ⟨p1, p2, rfl, hne, h1, h2⟩)
    · rfl
    · have mono1 : ∀ ps, Ch fx fo ps → Ch fx fo' ps := Ch_mono hfx hox (fun _ h => h) (fun q _ p hp => (hfo q p).mpr (Or.inl hp))
      cases p1 with
      | nil => exact absurd rfl hne
      | cons q t =>
        cases p2 with
        | nil => exact ⟨h1.1, mono1 _ h1.2⟩
        | cons p t2 => exact ⟨h2.1, Ch_app (g := fx) (fun p hp => (hfo q p).mpr (Or.inr ⟨h1.1, hp⟩)) (mono1 _ h1.2) (p :: t2) h2.2⟩
end CatLaw
/-! words by their numbers, last letter first -/
def rwF : Nat → Nat → List Nat
  | 0, _ => []
  | k + 1, n => if n = 0 then [] else ((n - 1) % 2) :: rwF k ((n - 1) / 2)
def rwd (n : Nat) : List Nat := rwF 5 n
theorem rw_len : ∀ n, n < 31 → (rwd n).length = lenN n := by decide +kernel
theorem rw_hd : ∀ n, n < 31 → ∀ p, p < 5 → p ≤ lenN n → rwd (hdN n p) = (rwd n).drop (lenN n - p) := by decide +kernel
theorem rw_tl : ∀ n, n < 31 → ∀ p, p < 5 → p ≤ lenN n → rwd (tlN n p) = (rwd n).take (lenN n - p) := by decide +kernel
theorem rw_inj : ∀ n, n < 31 → ∀ m, m < 31 → rwd n = rwd m → n = m := by decide +kernel
theorem rw_s : ∀ n, n < 31 → 0 < n → rwd n = ((n - 1) % 2) :: rwd ((n - 1) / 2) := by decide +kernel
theorem rw_0 : rwd 0 = [] := rfl
theorem rw_nil {n : Nat} (h : n < 31) : rwd n = [] ↔ n = 0 := ⟨fun z => rw_inj n h 0 (by omega) z, fun z => by rw [z]; rfl⟩
theorem rw_split {n : Nat} (hn : n < 31) {a1 a2 : List Nat} : rwd n = a2 ++ a1 ↔ ∃ p, p ≤ lenN n ∧ rwd (hdN n p) = a1 ∧ rwd (tlN n p) = a2 := by
  have h4 := lenN_le n
  have hl := rw_len n hn
  constructor
  · intro h
    have hlen : a2.length + a1.length = lenN n := by rw [← hl, h, List.length_append]
    refine ⟨a1.length, by omega, ?_, ?_⟩
    · rw [rw_hd n hn _ (by omega) (by omega), h, show lenN n - a1.length = a2.length by omega, List.drop_left]
    · rw [rw_tl n hn _ (by omega) (by omega), h, show lenN n - a1.length = a2.length by omega, List.take_left]
  · rintro ⟨p, hp, rfl, rfl⟩
    rw [rw_hd n hn p (by omega) hp, rw_tl n hn p (by omega) hp, List.take_append_drop]
end
section
/-! The plain law: relations by numbers of words, and the invariant of the two stacks -/
theorem hd_len : ∀ n, n < 31 → ∀ p, p < 5 → p ≤ lenN n → (rwd (hdN n p)).length = p := by decide +kernel
section RelLaw
variable {P Q : Nat → Prop} {fx lx fy ly f' l' : Int32} {ex ey : Bool} {fo fo' : Nat → Int32} {lf rf : Nat → Nat} {a b : Nat}
theorem Rel_cat (hfx : ∀ p, bt fx p = true → P p) (hlx : ∀ p, bt lx p = true → P p) (hox : ∀ q, P q → ∀ p, bt (fo q) p = true → P p) (hfy : ∀ p, bt fy p = true → Q p) (hly : ∀ p, bt ly p = true → Q p) (hoy : ∀ q, Q q → ∀ p, bt (fo q) p = true → Q p) (hd : ∀ p, P p → Q p → False)
    (hfo : ∀ q p, bt (fo' q) p = true ↔ bt (fo q) p = true ∨ (bt lx q = true ∧ bt fy p = true)) (hf' : ∀ p, bt f' p = true ↔ bt fx p = true ∨ (ex = true ∧ bt fy p = true)) (hl' : ∀ p, bt l' p = true ↔ bt ly p = true ∨ (ey = true ∧ bt lx p = true)) (ha : a < 31) (hb : b < 31) :
    Rel f' l' (ex && ey) fo' lf rf (rwd a) (rwd b) ↔ ∃ p, p ≤ lenN a ∧ ∃ q, q ≤ lenN b ∧ Rel fx lx ex fo lf rf (rwd (hdN a p)) (rwd (hdN b q)) ∧ Rel fy ly ey fo lf rf (rwd (tlN a p)) (rwd (tlN b q)) := by
  constructor
  · rintro ⟨ps, hA, e1, e2⟩
    obtain ⟨p1, p2, rfl, h1, h2⟩ := (cat_acc hfx hlx hox hfy hly hoy hd hfo hf' hl' ps).mp hA
    rw [ww_app] at e1 e2
    obtain ⟨p, hp, g1, g2⟩ := (rw_split ha).mp e1.symm
    obtain ⟨q, hq, g3, g4⟩ := (rw_split hb).mp e2.symm
    exact ⟨p, hp, q, hq, ⟨p1, h1, g1.symm, g3.symm⟩, ⟨p2, h2, g2.symm, g4.symm⟩⟩
  · rintro ⟨p, hp, q, hq, ⟨p1, h1, g1, g3⟩, ⟨p2, h2, g2, g4⟩⟩
    refine ⟨p2 ++ p1, (cat_acc hfx hlx hox hfy hly hoy hd hfo hf' hl' _).mpr ⟨p1, p2, rfl, h1, h2⟩, ?_, ?_⟩
    · rw [ww_app]
      exact ((rw_split ha).mpr ⟨p, hp, g1.symm, g2.symm⟩).symm
    · rw [ww_app]
      exact ((rw_split hb).mpr ⟨q, hq, g3.symm, g4.symm⟩).symm
theorem Rel_alt (hfx : ∀ p, bt fx p = true → P p) (hlx : ∀ p, bt lx p = true → P p) (hox : ∀ q, P q → ∀ p, bt (fo q) p = true → P p) (hfy : ∀ p, bt fy p = true → Q p) (hly : ∀ p, bt ly p = true → Q p) (hoy : ∀ q, Q q → ∀ p, bt (fo q) p = true → Q p) (hd : ∀ p, P p → Q p → False)
    (hf' : ∀ p, bt f' p = true ↔ bt fx p = true ∨ bt fy p = true) (hl' : ∀ p, bt l' p = true ↔ bt lx p = true ∨ bt ly p = true) {u v : List Nat} :
    Rel f' l' (ex || ey) fo lf rf u v ↔ Rel fx lx ex fo lf rf u v ∨ Rel fy ly ey fo lf rf u v := by
  constructor
  · rintro ⟨ps, hA, e⟩
    exact ((alt_acc hfx hlx hox hfy hly hoy hd hf' hl' ps).mp hA).imp (fun z => ⟨ps, z, e⟩) (fun z => ⟨ps, z, e⟩)
  · rintro (⟨ps, hA, e⟩ | ⟨ps, hA, e⟩)
    · exact ⟨ps, (alt_acc hfx hlx hox hfy hly hoy hd hf' hl' ps).mpr (Or.inl hA), e⟩
    · exact ⟨ps, (alt_acc hfx hlx hox hfy hly hoy hd hf' hl' ps).mpr (Or.inr hA), e⟩
theorem ww_ne {ps : List Nat} (hne : ps ≠ []) (hl : ∀ p ∈ ps, ¬ (lf p = 2 ∧ rf p = 2)) (h1 : ww lf ps = []) (h2 : ww rf ps = []) : False := by
  cases ps with
  | nil => exact hne rfl
  | cons p t =>
    have := hl p List.mem_cons_self
    rw [ww] at h1 h2
    by_cases g : lf p = 2
    · have g2 : ¬ rf p = 2 := fun z => this ⟨g, z⟩
      rw [if_neg g2] at h2
      cases h2
    · rw [if_neg g] at h1
      cases h1
theorem Rel_star (hfx : ∀ p, bt fx p = true → P p) (hox : ∀ q, P q → ∀ p, bt (fo q) p = true → P p) (hlab : ∀ p, P p → ¬ (lf p = 2 ∧ rf p = 2))
    (hfo : ∀ q p, bt (fo' q) p = true ↔ bt (fo q) p = true ∨ (bt lx q = true ∧ bt fx p = true)) (ha : a < 31) (hb : b < 31) :
    Rel fx lx true fo' lf rf (rwd a) (rwd b) ↔ (a = 0 ∧ b = 0) ∨ ∃ p, p ≤ lenN a ∧ ∃ q, q ≤ lenN b ∧ 0 < p + q ∧ Rel fx lx ex fo lf rf (rwd (hdN a p)) (rwd (hdN b q)) ∧ Rel fx lx true fo' lf rf (rwd (tlN a p)) (rwd (tlN b q)) := by
  have la := lenN_le a
  have lb := lenN_le b
  constructor
  · rintro ⟨ps, hA, e1, e2⟩
    rcases (star_acc (ex := ex) hfx hox hfo ps).mp hA with rfl | ⟨p1, p2, rfl, hne, h1, h2⟩
    · exact Or.inl ⟨(rw_nil ha).mp e1.symm, (rw_nil hb).mp e2.symm⟩
    · refine Or.inr ?_
      rw [ww_app] at e1 e2
      obtain ⟨p, hp, g1, g2⟩ := (rw_split ha).mp e1.symm
      obtain ⟨q, hq, g3, g4⟩ := (rw_split hb).mp e2.symm
      refine ⟨p, hp, q, hq, ?_, ⟨p1, h1, g1.symm, g3.symm⟩, ⟨p2, h2, g2.symm, g4.symm⟩⟩
      have l1 := hd_len a ha p (by omega) hp
      have l2 := hd_len b hb q (by omega) hq
      rcases Nat.eq_zero_or_pos (p + q) with z | z
      · have z1 : p = 0 := by omega
        have z2 : q = 0 := by omega
        rw [g1, z1] at l1
        rw [g3, z2] at l2
        exact absurd (ww_ne hne (fun r hr => hlab r (Acc_in hfx hox h1 r hr)) (List.length_eq_zero_iff.mp l1) (List.length_eq_zero_iff.mp l2)) id
      · exact z
  · rintro (⟨rfl, rfl⟩ | ⟨p, hp, q, hq, h0, ⟨p1, h1, g1, g3⟩, ⟨p2, h2, g2, g4⟩⟩)
    · exact ⟨[], rfl, rfl, rfl⟩
    · have l1 := hd_len a ha p (by omega) hp
      have l2 := hd_len b hb q (by omega) hq
      have hne : p1 ≠ [] := by
        rintro rfl
        rw [← g1] at l1
        rw [← g3] at l2
        have l1 : 0 = p := l1
        have l2 : 0 = q := l2
        omega
      refine ⟨p2 ++ p1, (star_acc (ex := ex) hfx hox hfo _).mpr (Or.inr ⟨p1, p2, rfl, hne, h1, h2⟩), ?_, ?_⟩
      · rw [ww_app]
        exact ((rw_split ha).mpr ⟨p, hp, g1.symm, g2.symm⟩).symm
      · rw [ww_app]
        exact ((rw_split hb).mpr ⟨q, hq, g3.symm, g4.symm⟩).symm
end RelLaw
theorem lk_bt {fo : Nat → Int32} {lx fy : Int32} (hlx : ∀ q, bt lx q = true → q < 9) (q p : Nat) : bt (lkF fo lx fy 9 q) p = true ↔ bt (fo q) p = true ∨ (bt lx q = true ∧ bt fy p = true) := by
  unfold lkF
  by_cases h : bt lx q = true
  · rw [if_pos ⟨hlx q h, h⟩, b_or, Bool.or_eq_true]
    exact ⟨fun z => z.imp id (fun y => ⟨h, y⟩), fun z => z.imp id (fun y => y.2)⟩
  · rw [if_neg (fun z => h z.2)]
    exact ⟨Or.inl, fun z => z.elim id (fun y => absurd y.1 h)⟩
theorem lk_ne {fo : Nat → Int32} {lx fy : Int32} {q : Nat} (h : ¬ bt lx q = true) : lkF fo lx fy 9 q = fo q := if_neg (fun z => h z.2)
/-- the stack of expressions (arrays A) against the stack of relations (sets B) -/
def Core (A : Nat → Nat → Int32) (B : Nat → Int32) (h np : Nat) (lw own lf rf : Nat → Nat) (em : Nat → Bool) : Prop :=
  (∀ i, i < h → A 1 i = nI (lw i) ∧ lw i ≤ np ∧ A 4 i = bI (em i)) ∧
  (∀ p, p < np → A 5 p = nI (lf p) ∧ A 6 p = nI (rf p) ∧ lf p ≤ 2 ∧ rf p ≤ 2 ∧ ¬ (lf p = 2 ∧ rf p = 2)) ∧
  (∀ p, p < np → own p < h) ∧
  (∀ i p, i < h → p < np → (i ≤ own p ↔ lw i ≤ p)) ∧
  (∀ i p, i < h → bt (A 2 i) p = true → p < np ∧ own p = i) ∧
  (∀ i p, i < h → bt (A 3 i) p = true → p < np ∧ own p = i) ∧
  (∀ q p, q < np → bt (A 7 q) p = true → p < np ∧ own p = own q) ∧
  (∀ i a b, i < h → a < 31 → b < 31 → (bt (B (31 * i + a)) b = true ↔ Rel (A 2 i) (A 3 i) (em i) (A 7) lf rf (rwd a) (rwd b)))
theorem core_cat {A : Nat → Nat → Int32} {B f : Nat → Int32} {h np : Nat} {lw own lf rf : Nat → Nat} {em : Nat → Bool} (H : Core A B h np lw own lf rf em) (hnp : np ≤ 9) (hh : h ≤ 6) (h2 : 2 ≤ h)
    (hf : ∀ i, i < 217 → ¬ (31 * (h - 2) ≤ i ∧ i < 31 * (h - 2) + 31) → f i = B i) (hb : ∀ a v, a < 31 → v < 31 → (bt (f (31 * (h - 2) + a)) v = true ↔ ctF B (h - 2) (h - 1) a v)) :
    Core (ar7 A (A 1) (upd (A 2) (h - 2) (if em (h - 2) then A 2 (h - 2) ||| A 2 (h - 1) else A 2 (h - 2))) (upd (A 3) (h - 2) (if em (h - 1) then A 3 (h - 2) ||| A 3 (h - 1) else A 3 (h - 1))) (upd (A 4) (h - 2) (bI (em (h - 2) && em (h - 1)))) (A 5) (A 6) (lkF (A 7) (A 3 (h - 2)) (A 2 (h - 1)) 9)) f (h - 1) np lw (fun p => min (own p) (h - 2)) lf rf (fun i => if i = h - 2 then em (h - 2) && em (h - 1) else em i) := by
  obtain ⟨c1, c2, c3, c4, c5, c6, c7, c8⟩ := H
  have e2 : ∀ p, bt (if em (h - 2) then A 2 (h - 2) ||| A 2 (h - 1) else A 2 (h - 2)) p = true ↔ bt (A 2 (h - 2)) p = true ∨ (em (h - 2) = true ∧ bt (A 2 (h - 1)) p = true) := by
    intro p
    cases em (h - 2)
    · simp
    · simp [b_or]
  have e3 : ∀ p, bt (if em (h - 1) then A 3 (h - 2) ||| A 3 (h - 1) else A 3 (h - 1)) p = true ↔ bt (A 3 (h - 1)) p = true ∨ (em (h - 1) = true ∧ bt (A 3 (h - 2)) p = true) := by
    intro p
    cases em (h - 1)
    · simp
    · simp [b_or, or_comm]
  have hlx : ∀ q, bt (A 3 (h - 2)) q = true → q < 9 := fun q hq => by
    have := (c6 _ q (by omega) hq).1
    omega
  have hfo := lk_bt (fo := A 7) (fy := A 2 (h - 1)) hlx
  refine ⟨?_, c2, ?_, ?_, ?_, ?_, ?_, ?_⟩
  · intro i hi
    refine ⟨(c1 i (by omega)).1, (c1 i (by omega)).2.1, ?_⟩
    show upd (A 4) (h - 2) _ i = bI (if i = h - 2 then _ else _)
    by_cases e : i = h - 2
    · subst e; rw [pk_us, if_pos rfl]
    · rw [pk_un e, if_neg e]; exact (c1 i (by omega)).2.2
  · intro p hp
    show min (own p) (h - 2) < h - 1
    omega
  · intro i p hi hp
    have := c4 i p (by omega) hp
    have hown := c3 p hp
    show i ≤ min (own p) (h - 2) ↔ _
    rw [← this]
    omega
  · intro i p hi hb2
    have hb2 : bt (upd (A 2) (h - 2) _ i) p = true := hb2
    show p < np ∧ min (own p) (h - 2) = i
    by_cases e : i = h - 2
    · subst e
      rw [pk_us, e2] at hb2
      rcases hb2 with z | ⟨_, z⟩
      · have := c5 _ p (by omega) z; omega
      · have := c5 _ p (by omega) z; omega
    · rw [pk_un e] at hb2
      have := c5 _ p (by omega) hb2
      omega
  · intro i p hi hb2
    have hb2 : bt (upd (A 3) (h - 2) _ i) p = true := hb2
    show p < np ∧ min (own p) (h - 2) = i
    by_cases e : i = h - 2
    · subst e
      rw [pk_us, e3] at hb2
      rcases hb2 with z | ⟨_, z⟩
      · have := c6 _ p (by omega) z; omega
      · have := c6 _ p (by omega) z; omega
    · rw [pk_un e] at hb2
      have := c6 _ p (by omega) hb2
      omega
  · intro q p hq hb2
    have hb2 : bt (lkF (A 7) (A 3 (h - 2)) (A 2 (h - 1)) 9 q) p = true := hb2
    show p < np ∧ min (own p) (h - 2) = min (own q) (h - 2)
    rcases (hfo q p).mp hb2 with z | ⟨z1, z2⟩
    · have := c7 q p hq z; omega
    · have := c6 _ q (by omega) z1
      have := c5 _ p (by omega) z2
      omega
  · intro i a b hi ha hbb
    show bt (f (31 * i + a)) b = true ↔ Rel (upd (A 2) (h - 2) _ i) (upd (A 3) (h - 2) _ i) (if i = h - 2 then _ else _) (lkF (A 7) (A 3 (h - 2)) (A 2 (h - 1)) 9) lf rf (rwd a) (rwd b)
    by_cases e : i = h - 2
    · subst e
      rw [pk_us, pk_us, if_pos rfl, hb a b ha hbb, Rel_cat (P := fun p => p < np ∧ own p = h - 2) (Q := fun p => p < np ∧ own p = h - 1) (fo := A 7) (c5 _ · (by omega)) (c6 _ · (by omega)) (fun q hq p hp => by have := c7 q p hq.1 hp; omega) (c5 _ · (by omega)) (c6 _ · (by omega)) (fun q hq p hp => by have := c7 q p hq.1 hp; omega) (fun p z1 z2 => by omega) hfo e2 e3 ha hbb]
      have la := lenN_le a
      have lb := lenN_le b
      unfold ctF
      refine exists_congr (fun p => and_congr_right (fun hp => exists_congr (fun q => and_congr_right (fun hq => ?_))))
      unfold ctK
      rw [c8 (h - 2) _ _ (by omega) (hd_lt a ha p (by omega) hp) (hd_lt b hbb q (by omega) hq), c8 (h - 1) _ _ (by omega) (tl_lt a ha p (by omega) hp) (tl_lt b hbb q (by omega) hq)]
      exact ⟨fun z => z.2, fun z => ⟨Or.inr (by omega), z⟩⟩
    · rw [pk_un e, pk_un e, if_neg e, hf _ (by omega) (by omega), c8 i a b (by omega) ha hbb]
      refine Rel_congr (P := fun p => p < np ∧ own p = i) (c5 _ · (by omega)) (fun q hq p hp => by have := c7 q p hq.1 hp; omega) (fun q hq => (lk_ne (fun z => ?_)).symm) (fun _ _ => rfl) (fun _ _ => rfl)
      have := c6 _ q (by omega) z
      omega
theorem core_alt {A : Nat → Nat → Int32} {B : Nat → Int32} {h np : Nat} {lw own lf rf : Nat → Nat} {em : Nat → Bool} (H : Core A B h np lw own lf rf em) (hh : h ≤ 6) (h2 : 2 ≤ h) :
    Core (ar7 A (A 1) (upd (A 2) (h - 2) (A 2 (h - 2) ||| A 2 (h - 1))) (upd (A 3) (h - 2) (A 3 (h - 2) ||| A 3 (h - 1))) (upd (A 4) (h - 2) (bI (em (h - 2) || em (h - 1)))) (A 5) (A 6) (A 7)) (alF B (h - 2) 31) (h - 1) np lw (fun p => min (own p) (h - 2)) lf rf (fun i => if i = h - 2 then em (h - 2) || em (h - 1) else em i) := by
  obtain ⟨c1, c2, c3, c4, c5, c6, c7, c8⟩ := H
  have e2 : ∀ p, bt (A 2 (h - 2) ||| A 2 (h - 1)) p = true ↔ bt (A 2 (h - 2)) p = true ∨ bt (A 2 (h - 1)) p = true := fun p => by rw [b_or, Bool.or_eq_true]
  have e3 : ∀ p, bt (A 3 (h - 2) ||| A 3 (h - 1)) p = true ↔ bt (A 3 (h - 2)) p = true ∨ bt (A 3 (h - 1)) p = true := fun p => by rw [b_or, Bool.or_eq_true]
  refine ⟨?_, c2, ?_, ?_, ?_, ?_, ?_, ?_⟩
  · intro i hi
    refine ⟨(c1 i (by omega)).1, (c1 i (by omega)).2.1, ?_⟩
    show upd (A 4) (h - 2) _ i = bI (if i = h - 2 then _ else _)
    by_cases e : i = h - 2
    · subst e; rw [pk_us, if_pos rfl]
    · rw [pk_un e, if_neg e]; exact (c1 i (by omega)).2.2
  · intro p hp
    show min (own p) (h - 2) < h - 1
    omega
  · intro i p hi hp
    have := c4 i p (by omega) hp
    have hown := c3 p hp
    show i ≤ min (own p) (h - 2) ↔ _
    rw [← this]
    omega
  · intro i p hi hb2
    have hb2 : bt (upd (A 2) (h - 2) _ i) p = true := hb2
    show p < np ∧ min (own p) (h - 2) = i
    by_cases e : i = h - 2
    · subst e
      rw [pk_us, e2] at hb2
      rcases hb2 with z | z
      · have := c5 _ p (by omega) z; omega
      · have := c5 _ p (by omega) z; omega
    · rw [pk_un e] at hb2
      have := c5 _ p (by omega) hb2
      omega
  · intro i p hi hb2
    have hb2 : bt (upd (A 3) (h - 2) _ i) p = true := hb2
    show p < np ∧ min (own p) (h - 2) = i
    by_cases e : i = h - 2
    · subst e
      rw [pk_us, e3] at hb2
      rcases hb2 with z | z
      · have := c6 _ p (by omega) z; omega
      · have := c6 _ p (by omega) z; omega
    · rw [pk_un e] at hb2
      have := c6 _ p (by omega) hb2
      omega
  · intro q p hq hb2
    have := c7 q p hq hb2
    show p < np ∧ min (own p) (h - 2) = min (own q) (h - 2)
    omega
  · intro i a b hi ha hbb
    show bt (alF B (h - 2) 31 (31 * i + a)) b = true ↔ Rel (upd (A 2) (h - 2) _ i) (upd (A 3) (h - 2) _ i) (if i = h - 2 then _ else _) (A 7) lf rf (rwd a) (rwd b)
    by_cases e : i = h - 2
    · subst e
      have ea : alF B (h - 2) 31 (31 * (h - 2) + a) = B (31 * (h - 2) + a) ||| B (31 * (h - 1) + a) := by
        unfold alF
        rw [if_pos (by omega)]
        congr 2
        omega
      rw [pk_us, pk_us, if_pos rfl, ea, b_or, Bool.or_eq_true, c8 (h - 2) a b (by omega) ha hbb, c8 (h - 1) a b (by omega) ha hbb]
      exact (Rel_alt (P := fun p => p < np ∧ own p = h - 2) (Q := fun p => p < np ∧ own p = h - 1) (c5 _ · (by omega)) (c6 _ · (by omega)) (fun q hq p hp => by have := c7 q p hq.1 hp; omega) (c5 _ · (by omega)) (c6 _ · (by omega)) (fun q hq p hp => by have := c7 q p hq.1 hp; omega) (fun p z1 z2 => by omega) e2 e3).symm
    · rw [pk_un e, pk_un e, if_neg e, show alF B (h - 2) 31 (31 * i + a) = B (31 * i + a) from if_neg (by omega)]
      exact c8 i a b (by omega) ha hbb
/-- what star's list must be -/
noncomputable def starT (A : Nat → Nat → Int32) (h : Nat) (lf rf : Nat → Nat) : Nat → Nat → Bool := fun a b => bP (Rel (A 2 (h - 1)) (A 3 (h - 1)) true (lkF (A 7) (A 3 (h - 1)) (A 2 (h - 1)) 9) lf rf (rwd a) (rwd b))
theorem core_starT {A : Nat → Nat → Int32} {B : Nat → Int32} {h np : Nat} {lw own lf rf : Nat → Nat} {em : Nat → Bool} (H : Core A B h np lw own lf rf em) (hnp : np ≤ 9) (hh : h ≤ 6) (h1 : 1 ≤ h) : StarT B (h - 1) (starT A h lf rf) := by
  obtain ⟨c1, c2, c3, c4, c5, c6, c7, c8⟩ := H
  have hlx : ∀ q, bt (A 3 (h - 1)) q = true → q < 9 := fun q hq => by
    have := (c6 _ q (by omega) hq).1
    omega
  have hfo := lk_bt (fo := A 7) (fy := A 2 (h - 1)) hlx
  intro a b ha hb
  have la := lenN_le a
  have lb := lenN_le b
  unfold starT
  rw [bP_iff, Rel_star (P := fun p => p < np ∧ own p = h - 1) (fo := A 7) (ex := em (h - 1)) (c5 _ · (by omega)) (fun q hq p hp => by have := c7 q p hq.1 hp; omega) (fun p hp => (c2 p hp.1).2.2.2.2) hfo ha hb]
  refine or_congr Iff.rfl ?_
  refine exists_congr (fun p => and_congr_right (fun hp => exists_congr (fun q => and_congr_right (fun hq => and_congr_right (fun _ => ?_)))))
  rw [c8 (h - 1) _ _ (by omega) (hd_lt a ha p (by omega) hp) (hd_lt b hb q (by omega) hq), bP_iff]
theorem core_star {A : Nat → Nat → Int32} {B f : Nat → Int32} {h np : Nat} {lw own lf rf : Nat → Nat} {em : Nat → Bool} (H : Core A B h np lw own lf rf em) (hnp : np ≤ 9) (hh : h ≤ 6) (h1 : 1 ≤ h)
    (hf : ∀ i, i < 217 → ¬ (31 * (h - 1) ≤ i ∧ i < 31 * (h - 1) + 31) → f i = B i) (hb : ∀ a v, a < 31 → v < 31 → bt (f (31 * (h - 1) + a)) v = starT A h lf rf a v) :
    Core (ar7 A (A 1) (A 2) (A 3) (upd (A 4) (h - 1) (nI 1)) (A 5) (A 6) (lkF (A 7) (A 3 (h - 1)) (A 2 (h - 1)) 9)) f h np lw own lf rf (fun i => if i = h - 1 then true else em i) := by
  obtain ⟨c1, c2, c3, c4, c5, c6, c7, c8⟩ := H
  have hlx : ∀ q, bt (A 3 (h - 1)) q = true → q < 9 := fun q hq => by
    have := (c6 _ q (by omega) hq).1
    omega
  have hfo := lk_bt (fo := A 7) (fy := A 2 (h - 1)) hlx
  refine ⟨?_, c2, c3, c4, c5, c6, ?_, ?_⟩
  · intro i hi
    refine ⟨(c1 i hi).1, (c1 i hi).2.1, ?_⟩
    show upd (A 4) (h - 1) _ i = bI (if i = h - 1 then _ else _)
    by_cases e : i = h - 1
    · subst e; rw [pk_us, if_pos rfl]; rfl
    · rw [pk_un e, if_neg e]; exact (c1 i hi).2.2
  · intro q p hq hb2
    have hb2 : bt (lkF (A 7) (A 3 (h - 1)) (A 2 (h - 1)) 9 q) p = true := hb2
    rcases (hfo q p).mp hb2 with z | ⟨z1, z2⟩
    · exact c7 q p hq z
    · have := c6 _ q (by omega) z1
      have := c5 _ p (by omega) z2
      omega
  · intro i a b hi ha hbb
    show bt (f (31 * i + a)) b = true ↔ Rel (A 2 i) (A 3 i) (if i = h - 1 then _ else _) (lkF (A 7) (A 3 (h - 1)) (A 2 (h - 1)) 9) lf rf (rwd a) (rwd b)
    by_cases e : i = h - 1
    · subst e
      rw [if_pos rfl, hb a b ha hbb]
      unfold starT
      rw [bP_iff]
    · rw [if_neg e, hf _ (by omega) (by omega), c8 i a b (by omega) ha hbb]
      refine Rel_congr (P := fun p => p < np ∧ own p = i) (c5 _ · (by omega)) (fun q hq p hp => by have := c7 q p hq.1 hp; omega) (fun q hq => (lk_ne (fun z => ?_)).symm) (fun _ _ => rfl) (fun _ _ => rfl)
      have := c6 _ q (by omega) z
      omega
theorem core_turn {A : Nat → Nat → Int32} {B f : Nat → Int32} {h np : Nat} {lw own lf rf : Nat → Nat} {em : Nat → Bool} (H : Core A B h np lw own lf rf em) (hh : h ≤ 6) (h1 : 1 ≤ h)
    (hf : ∀ i, i < 217 → ¬ (31 * (h - 1) ≤ i ∧ i < 31 * (h - 1) + 31) → f i = B i) (hb : ∀ a v, a < 31 → v < 31 → bt (f (31 * (h - 1) + a)) v = bt (B (31 * (h - 1) + v)) a) :
    Core (setA (setA A 5 (swF (A 5) (A 6) (lw (h - 1)) np)) 6 (swF (A 6) (A 5) (lw (h - 1)) np)) f h np lw own (fun p => if own p = h - 1 then rf p else lf p) (fun p => if own p = h - 1 then lf p else rf p) em := by
  obtain ⟨c1, c2, c3, c4, c5, c6, c7, c8⟩ := H
  refine ⟨c1, ?_, c3, c4, c5, c6, c7, ?_⟩
  · intro p hp
    obtain ⟨g1, g2, g3, g4, g5⟩ := c2 p hp
    have g6 := c3 p hp
    have g7 := c4 (h - 1) p (by omega) hp
    show swF (A 5) (A 6) (lw (h - 1)) np p = nI (if own p = h - 1 then rf p else lf p) ∧ swF (A 6) (A 5) (lw (h - 1)) np p = nI (if own p = h - 1 then lf p else rf p) ∧ (if own p = h - 1 then rf p else lf p) ≤ 2 ∧ (if own p = h - 1 then lf p else rf p) ≤ 2 ∧ ¬ ((if own p = h - 1 then rf p else lf p) = 2 ∧ (if own p = h - 1 then lf p else rf p) = 2)
    unfold swF
    by_cases e : own p = h - 1
    · rw [if_pos e, if_pos e, if_pos (by omega), if_pos (by omega)]
      exact ⟨g2, g1, g4, g3, fun z => g5 ⟨z.2, z.1⟩⟩
    · rw [if_neg e, if_neg e, if_neg (by omega), if_neg (by omega)]
      exact ⟨g1, g2, g3, g4, g5⟩
  · intro i a b hi ha hbb
    show bt (f (31 * i + a)) b = true ↔ Rel (A 2 i) (A 3 i) (em i) (A 7) _ _ (rwd a) (rwd b)
    by_cases e : i = h - 1
    · subst e
      rw [hb a b ha hbb, c8 (h - 1) b a (by omega) hbb ha]
      have hsw : Rel (A 2 (h - 1)) (A 3 (h - 1)) (em (h - 1)) (A 7) lf rf (rwd b) (rwd a) ↔ Rel (A 2 (h - 1)) (A 3 (h - 1)) (em (h - 1)) (A 7) rf lf (rwd a) (rwd b) := exists_congr (fun ps => and_congr_right (fun _ => and_comm))
      rw [hsw]
      exact Rel_congr (P := fun p => p < np ∧ own p = h - 1) (c5 _ · (by omega)) (fun q hq p hp => by have := c7 q p hq.1 hp; omega) (fun _ _ => rfl) (fun p hp => (if_pos hp.2).symm) (fun p hp => (if_pos hp.2).symm)
    · rw [hf _ (by omega) (by omega), c8 i a b (by omega) ha hbb]
      exact Rel_congr (P := fun p => p < np ∧ own p = i) (c5 _ · (by omega)) (fun q hq p hp => by have := c7 q p hq.1 hp; omega) (fun _ _ => rfl) (fun p hp => (if_neg (by omega)).symm) (fun p hp => (if_neg (by omega)).symm)
end
section
/-! The plain law: a new pair, the relation in use, the invariant -/
theorem wd_lb : ∀ x, x < 3 → rwd (wd1 x) = if x = 2 then [] else [x] := by decide +kernel
theorem mp_out {f : Nat → Int32} {d x y i : Nat} (hx : x ≤ 2) (h : ¬ (31 * d ≤ i ∧ i < 31 * d + 31)) : mpairF f d x y i = f i := by
  have := wd1_lt hx
  unfold mpairF
  rw [pk_un (by omega)]
  exact if_neg h
theorem mp_in {f : Nat → Int32} {d x y a b : Nat} (hy : y ≤ 2) (ha : a < 31) : bt (mpairF f d x y (31 * d + a)) b = true ↔ a = wd1 x ∧ b = wd1 y := by
  have := wd1_lt hy
  unfold mpairF
  by_cases e : a = wd1 x
  · subst e
    rw [pk_us, clF_in ha, b_or, b_n0, Bool.false_or, b_sh1 (by omega), decide_eq_true_eq]
    exact ⟨fun z => ⟨rfl, z⟩, fun z => z.2⟩
  · rw [pk_un (by omega), clF_in ha, b_n0]
    exact ⟨fun z => (by cases z), fun z => absurd z.1 e⟩
theorem Rel_one {fi : Int32} {fo : Nat → Int32} {lf rf : Nat → Nat} {n a b : Nat} (hfi : ∀ p, bt fi p = true ↔ p = n) (hfo : fo n = nI 0) (hl : lf n ≤ 2) (hr : rf n ≤ 2) (ha : a < 31) (hb : b < 31) : Rel fi fi false fo lf rf (rwd a) (rwd b) ↔ a = wd1 (lf n) ∧ b = wd1 (rf n) := by
  have key : ∀ ps, Acc fi fi false fo ps ↔ ps = [n] := by
    intro ps
    cases ps with
    | nil => exact ⟨fun z => (by cases z), fun z => (by cases z)⟩
    | cons p t =>
      constructor
      · rintro ⟨h1, h2⟩
        have hp := (hfi p).mp h1
        subst hp
        cases t with
        | nil => rfl
        | cons q r =>
          have hq : q = p := Ch_in (P := fun z => z = p) (fun z hz => (hfi z).mp hz) (fun z hz w hw => by rw [hz, hfo, b_n0] at hw; cases hw) _ h2 q (List.mem_cons_of_mem _ List.mem_cons_self)
          have h3 := h2.1
          rw [hq, hfo, b_n0] at h3
          cases h3
      · intro z
        cases z
        exact ⟨(hfi n).mpr rfl, (hfi n).mpr rfl⟩
  have hw : ∀ l : Nat → Nat, l n ≤ 2 → ww l [n] = rwd (wd1 (l n)) := by
    intro l h
    rw [wd_lb _ (by omega), ww, ww, List.append_nil]
  have w1 := wd1_lt hl
  have w2 := wd1_lt hr
  constructor
  · rintro ⟨ps, hA, e1, e2⟩
    rw [(key ps).mp hA, hw lf hl] at e1
    rw [(key ps).mp hA, hw rf hr] at e2
    exact ⟨rw_inj _ ha _ w1 e1.symm, rw_inj _ hb _ w2 e2.symm⟩
  · rintro ⟨rfl, rfl⟩
    exact ⟨[n], (key _).mpr rfl, hw lf hl, hw rf hr⟩
theorem Rel_nil {fo : Nat → Int32} {lf rf : Nat → Nat} {a b : Nat} (ha : a < 31) (hb : b < 31) : Rel (nI 0) (nI 0) true fo lf rf (rwd a) (rwd b) ↔ a = 0 ∧ b = 0 := by
  constructor
  · rintro ⟨ps, hA, e1, e2⟩
    cases ps with
    | nil => exact ⟨(rw_nil ha).mp e1.symm, (rw_nil hb).mp e2.symm⟩
    | cons p t =>
      have := hA.1
      rw [b_n0] at this
      cases this
  · rintro ⟨rfl, rfl⟩
    exact ⟨[], rfl, rfl, rfl⟩
theorem core_pair1 {A : Nat → Nat → Int32} {B : Nat → Int32} {h np x y : Nat} {lw own lf rf : Nat → Nat} {em : Nat → Bool} (H : Core A B h np lw own lf rf em) (hnp : np < 9) (hh : h < 6) (hx : x ≤ 2) (hy : y ≤ 2) (hne : ¬ (x = 2 ∧ y = 2)) :
    Core (ar7 A (upd (A 1) h (nI np)) (upd (A 2) h (nI 1 <<< (nI np &&& 31))) (upd (A 3) h (nI 1 <<< (nI np &&& 31))) (upd (A 4) h (nI 0)) (upd (A 5) np (nI x)) (upd (A 6) np (nI y)) (upd (A 7) np (nI 0))) (mpairF B h x y) (h + 1) (np + 1) (fun i => if i = h then np else lw i) (fun p => if p = np then h else own p) (fun p => if p = np then x else lf p) (fun p => if p = np then y else rf p) (fun i => if i = h then false else em i) := by
  obtain ⟨c1, c2, c3, c4, c5, c6, c7, c8⟩ := H
  have hbit : ∀ p, bt (nI 1 <<< (nI np &&& 31)) p = true ↔ p = np := fun p => by rw [b_sh1 (by omega), decide_eq_true_eq]
  refine ⟨?_, ?_, ?_, ?_, ?_, ?_, ?_, ?_⟩
  · intro i hi
    show upd (A 1) h (nI np) i = nI (if i = h then np else lw i) ∧ (if i = h then np else lw i) ≤ np + 1 ∧ upd (A 4) h (nI 0) i = bI (if i = h then false else em i)
    by_cases e : i = h
    · subst e
      rw [pk_us, pk_us, if_pos rfl, if_pos rfl]
      exact ⟨rfl, by omega, rfl⟩
    · rw [pk_un e, pk_un e, if_neg e, if_neg e]
      obtain ⟨g1, g2, g3⟩ := c1 i (by omega)
      exact ⟨g1, by omega, g3⟩
  · intro p hp
    show upd (A 5) np (nI x) p = nI (if p = np then x else lf p) ∧ upd (A 6) np (nI y) p = nI (if p = np then y else rf p) ∧ (if p = np then x else lf p) ≤ 2 ∧ (if p = np then y else rf p) ≤ 2 ∧ ¬ ((if p = np then x else lf p) = 2 ∧ (if p = np then y else rf p) = 2)
    by_cases e : p = np
    · subst e
      rw [pk_us, pk_us, if_pos rfl, if_pos rfl]
      exact ⟨rfl, rfl, hx, hy, hne⟩
    · rw [pk_un e, pk_un e, if_neg e, if_neg e]
      exact c2 p (by omega)
  · intro p hp
    show (if p = np then h else own p) < h + 1
    by_cases e : p = np
    · rw [if_pos e]; omega
    · rw [if_neg e]
      have := c3 p (by omega)
      omega
  · intro i p hi hp
    show i ≤ (if p = np then h else own p) ↔ (if i = h then np else lw i) ≤ p
    by_cases e : p = np
    · rw [if_pos e]
      by_cases e2 : i = h
      · rw [if_pos e2]; omega
      · rw [if_neg e2]
        have := (c1 i (by omega)).2.1
        omega
    · rw [if_neg e]
      have := c3 p (by omega)
      by_cases e2 : i = h
      · rw [if_pos e2]; omega
      · rw [if_neg e2]
        exact c4 i p (by omega) (by omega)
  · intro i p hi hb
    have hb : bt (upd (A 2) h _ i) p = true := hb
    show p < np + 1 ∧ (if p = np then h else own p) = i
    by_cases e : i = h
    · subst e
      rw [pk_us, hbit] at hb
      rw [if_pos hb]
      omega
    · rw [pk_un e] at hb
      have := c5 i p (by omega) hb
      rw [if_neg (by omega)]
      omega
  · intro i p hi hb
    have hb : bt (upd (A 3) h _ i) p = true := hb
    show p < np + 1 ∧ (if p = np then h else own p) = i
    by_cases e : i = h
    · subst e
      rw [pk_us, hbit] at hb
      rw [if_pos hb]
      omega
    · rw [pk_un e] at hb
      have := c6 i p (by omega) hb
      rw [if_neg (by omega)]
      omega
  · intro q p hq hb
    have hb : bt (upd (A 7) np _ q) p = true := hb
    show p < np + 1 ∧ (if p = np then h else own p) = (if q = np then h else own q)
    by_cases e : q = np
    · subst e
      rw [pk_us, b_n0] at hb
      cases hb
    · rw [pk_un e] at hb
      have := c7 q p (by omega) hb
      rw [if_neg e, if_neg (by omega)]
      omega
  · intro i a b hi ha hb
    show bt (mpairF B h x y (31 * i + a)) b = true ↔ Rel (upd (A 2) h _ i) (upd (A 3) h _ i) (if i = h then _ else _) (upd (A 7) np (nI 0)) _ _ (rwd a) (rwd b)
    by_cases e : i = h
    · subst e
      have h1 := Rel_one (fi := nI 1 <<< (nI np &&& 31)) (fo := upd (A 7) np (nI 0)) (lf := fun p => if p = np then x else lf p) (rf := fun p => if p = np then y else rf p) (n := np) hbit pk_us (by rw [if_pos rfl]; exact hx) (by rw [if_pos rfl]; exact hy) ha hb
      rw [if_pos rfl, if_pos rfl] at h1
      rw [pk_us, pk_us, if_pos rfl, mp_in hy ha, h1]
    · rw [pk_un e, pk_un e, if_neg e, mp_out hx (by omega), c8 i a b (by omega) ha hb]
      refine Rel_congr (P := fun p => p < np ∧ own p = i) (c5 _ · (by omega)) (fun q hq p hp => by have := c7 q p hq.1 hp; omega) (fun q hq => (pk_un (by omega)).symm) (fun p hp => (if_neg (by omega)).symm) (fun p hp => (if_neg (by omega)).symm)
theorem core_pair0 {A : Nat → Nat → Int32} {B : Nat → Int32} {h np : Nat} {lw own lf rf : Nat → Nat} {em : Nat → Bool} (H : Core A B h np lw own lf rf em) (hh : h < 6) :
    Core (ar7 A (upd (A 1) h (nI np)) (upd (A 2) h (nI 0)) (upd (A 3) h (nI 0)) (upd (A 4) h (nI 1)) (A 5) (A 6) (A 7)) (mpairF B h 2 2) (h + 1) np (fun i => if i = h then np else lw i) own lf rf (fun i => if i = h then true else em i) := by
  obtain ⟨c1, c2, c3, c4, c5, c6, c7, c8⟩ := H
  refine ⟨?_, c2, ?_, ?_, ?_, ?_, c7, ?_⟩
  · intro i hi
    show upd (A 1) h (nI np) i = nI (if i = h then np else lw i) ∧ (if i = h then np else lw i) ≤ np ∧ upd (A 4) h (nI 1) i = bI (if i = h then true else em i)
    by_cases e : i = h
    · subst e
      rw [pk_us, pk_us, if_pos rfl, if_pos rfl]
      exact ⟨rfl, by omega, rfl⟩
    · rw [pk_un e, pk_un e, if_neg e, if_neg e]
      exact c1 i (by omega)
  · intro p hp
    have := c3 p hp
    omega
  · intro i p hi hp
    show i ≤ own p ↔ (if i = h then np else lw i) ≤ p
    have := c3 p hp
    by_cases e2 : i = h
    · rw [if_pos e2]; omega
    · rw [if_neg e2]
      exact c4 i p (by omega) hp
  · intro i p hi hb
    have hb : bt (upd (A 2) h _ i) p = true := hb
    by_cases e : i = h
    · subst e
      rw [pk_us, b_n0] at hb
      cases hb
    · rw [pk_un e] at hb
      exact c5 i p (by omega) hb
  · intro i p hi hb
    have hb : bt (upd (A 3) h _ i) p = true := hb
    by_cases e : i = h
    · subst e
      rw [pk_us, b_n0] at hb
      cases hb
    · rw [pk_un e] at hb
      exact c6 i p (by omega) hb
  · intro i a b hi ha hb
    show bt (mpairF B h 2 2 (31 * i + a)) b = true ↔ Rel (upd (A 2) h _ i) (upd (A 3) h _ i) (if i = h then _ else _) (A 7) lf rf (rwd a) (rwd b)
    by_cases e : i = h
    · subst e
      rw [pk_us, pk_us, if_pos rfl, mp_in (by omega) ha, Rel_nil ha hb]
      exact Iff.rfl
    · rw [pk_un e, pk_un e, if_neg e, mp_out (by omega) (by omega), c8 i a b (by omega) ha hb]
theorem lab_eq {l a : Nat} {w : List Nat} (ha : a < 31) : ((if l = 2 then [] else [l]) ++ w = rwd a) ↔ (l = 2 ∧ w = rwd a) ∨ (¬ l = 2 ∧ 0 < a ∧ l = (a - 1) % 2 ∧ w = rwd ((a - 1) / 2)) := by
  by_cases e : l = 2
  · rw [if_pos e, List.nil_append]
    exact ⟨fun z => Or.inl ⟨e, z⟩, fun z => z.elim (fun y => y.2) (fun y => absurd e y.1)⟩
  · rw [if_neg e]
    rcases Nat.eq_zero_or_pos a with h0 | h0
    · subst h0
      rw [rw_0]
      exact ⟨fun z => (by cases z), fun z => z.elim (fun y => absurd y.1 e) (fun y => absurd y.2.1 (by omega))⟩
    · rw [rw_s a ha h0]
      constructor
      · intro z
        injection z with z1 z2
        exact Or.inr ⟨e, h0, z1, z2⟩
      · rintro (⟨z, _⟩ | ⟨_, _, z1, z2⟩)
        · exact absurd z e
        · rw [← z1, ← z2]; rfl
theorem dp_rec {fi : Int32} {fo fi9 : Nat → Int32} {np : Nat} {lf rf : Nat → Nat} (hnp : np ≤ 9) (h1 : ∀ p, bt fi p = true → p < np) (h2 : ∀ q, q < np → ∀ p, bt (fo q) p = true → p < np) (hlab : ∀ p, p < np → lf p ≤ 2 ∧ rf p ≤ 2 ∧ ¬ (lf p = 2 ∧ rf p = 2)) (hfit : ∀ k, k < 9 → ∀ p, bt (fi9 k) p = true ↔ p < np ∧ lf p * 3 + rf p = k) :
    dRec fi fo fi9 (fun a b p => ∃ ps, Ch fi fo (p :: ps) ∧ ww lf (p :: ps) = rwd a ∧ ww rf (p :: ps) = rwd b) := by
  have hin : ∀ ps, Ch fi fo ps → ∀ p ∈ ps, p < np := Ch_in (P := fun p => p < np) h1 h2
  refine ⟨?_, ?_, ?_⟩
  · rintro p ⟨ps, hc, e1, e2⟩
    exact ww_ne (by simp) (fun r hr => (hlab r (hin _ hc r hr)).2.2) e1 e2
  · rintro a b ⟨ps, hc, _⟩
    have := hin _ hc 9 List.mem_cons_self
    omega
  · intro a b p ha hb hne
    have E : ∀ a' b', a' < 31 → b' < 31 → ((∃ ps, Ch fi fo (p :: ps) ∧ ww lf ps = rwd a' ∧ ww rf ps = rwd b') ↔ dPre fi fo (fun a b p => ∃ ps, Ch fi fo (p :: ps) ∧ ww lf (p :: ps) = rwd a ∧ ww rf (p :: ps) = rwd b) a' b' p) := by
      intro a' b' ha' hb'
      constructor
      · rintro ⟨ps, hc, e1, e2⟩
        cases ps with
        | nil => exact Or.inl ⟨(rw_nil ha').mp e1.symm, (rw_nil hb').mp e2.symm, hc⟩
        | cons q t =>
          have := hin _ hc q (List.mem_cons_of_mem _ List.mem_cons_self)
          exact Or.inr ⟨q, by omega, ⟨t, hc.2, e1, e2⟩, hc.1⟩
      · rintro (⟨z1, z2, z3⟩ | ⟨q, hq, ⟨t, hc, e1, e2⟩, z⟩)
        · subst z1
          subst z2
          exact ⟨[], z3, rfl, rfl⟩
        · exact ⟨q :: t, ⟨z, hc⟩, e1, e2⟩
    constructor
    · rintro ⟨ps, hc, e1, e2⟩
      have hp := hin _ hc p List.mem_cons_self
      obtain ⟨l1, l2, l3⟩ := hlab p hp
      rw [ww, lab_eq ha] at e1
      rw [ww, lab_eq hb] at e2
      unfold dStep
      rcases e1 with ⟨g1, g2⟩ | ⟨g1, g2, g3, g4⟩
      · rcases e2 with ⟨k1, k2⟩ | ⟨k1, k2, k3, k4⟩
        · exact absurd ⟨g1, k1⟩ l3
        · refine Or.inr (Or.inl ⟨k2, (E a ((b - 1) / 2) ha (by omega)).mp ⟨ps, hc, g2, k4⟩, (hfit _ (by omega) p).mpr ⟨hp, by omega⟩⟩)
      · rcases e2 with ⟨k1, k2⟩ | ⟨k1, k2, k3, k4⟩
        · refine Or.inl ⟨g2, (E ((a - 1) / 2) b (by omega) hb).mp ⟨ps, hc, g4, k2⟩, (hfit _ (by omega) p).mpr ⟨hp, by omega⟩⟩
        · refine Or.inr (Or.inr ⟨k2, g2, (E ((a - 1) / 2) ((b - 1) / 2) (by omega) (by omega)).mp ⟨ps, hc, g4, k4⟩, (hfit _ (by omega) p).mpr ⟨hp, by omega⟩⟩)
    · unfold dStep
      rintro (⟨g, z, hf⟩ | ⟨g, z, hf⟩ | ⟨g, g2, z, hf⟩)
      · obtain ⟨hp, hk⟩ := (hfit _ (by omega) p).mp hf
        obtain ⟨l1, l2, l3⟩ := hlab p hp
        obtain ⟨ps, hc, e1, e2⟩ := (E _ _ (by omega) hb).mpr z
        refine ⟨ps, hc, ?_, ?_⟩
        · rw [ww, lab_eq ha]; exact Or.inr ⟨by omega, g, by omega, e1⟩
        · rw [ww, lab_eq hb]; exact Or.inl ⟨by omega, e2⟩
      · obtain ⟨hp, hk⟩ := (hfit _ (by omega) p).mp hf
        obtain ⟨l1, l2, l3⟩ := hlab p hp
        obtain ⟨ps, hc, e1, e2⟩ := (E _ _ ha (by omega)).mpr z
        refine ⟨ps, hc, ?_, ?_⟩
        · rw [ww, lab_eq ha]; exact Or.inl ⟨by omega, e1⟩
        · rw [ww, lab_eq hb]; exact Or.inr ⟨by omega, g, by omega, e2⟩
      · obtain ⟨hp, hk⟩ := (hfit _ (by omega) p).mp hf
        obtain ⟨l1, l2, l3⟩ := hlab p hp
        obtain ⟨ps, hc, e1, e2⟩ := (E _ _ (by omega) (by omega)).mpr z
        refine ⟨ps, hc, ?_, ?_⟩
        · rw [ww, lab_eq ha]; exact Or.inr ⟨by omega, g2, by omega, e1⟩
        · rw [ww, lab_eq hb]; exact Or.inr ⟨by omega, g, by omega, e2⟩
/-- both worlds -/
def InvG (u t : XS) (G : Nat → Nat → Bool) : Prop := ∃ (S : Nat → Int32) (A : Nat → Nat → Int32) (T : Nat → Int32) (B : Nat → Nat → Int32) (h md ca np : Nat) (lw own lf rf : Nat → Nat) (em : Nat → Bool), u = (st4 S (nI h) (nI md) (nI ca) (nI np), A) ∧ t = (st3 T (nI h) (nI md) (nI ca), B) ∧ h ≤ 6 ∧ md ≤ 18 ∧ ca ≤ 9 ∧ np ≤ ca ∧ Core A (B 1) h np lw own lf rf em ∧ XQ u G ∧ MG t G
def Inv (u t : XS) : Prop := ∃ G, InvG u t G
theorem XQ.cg {u u2 : XS} {G : Nat → Nat → Bool} (h : XQ u G) (h11 : u2.1 11 = u.1 11) (h12 : u2.1 12 = u.1 12) (h13 : u2.1 13 = u.1 13) (h16 : u2.1 16 = u.1 16) (k8 : u2.2 8 = u.2 8) (k9 : u2.2 9 = u.2 9) (k10 : u2.2 10 = u.2 10) (k12 : u2.2 12 = u.2 12) : XQ u2 G := by
  unfold XQ UseOk FIN RowsOk LenOk at h ⊢
  rw [h11, h12, h13, h16, k8, k9, k10, k12]
  exact h
theorem Core.cg {A A' : Nat → Nat → Int32} {B : Nat → Int32} {h np : Nat} {lw own lf rf : Nat → Nat} {em : Nat → Bool} (H : Core A B h np lw own lf rf em) (e : ∀ a, 1 ≤ a → a ≤ 7 → A' a = A a) : Core A' B h np lw own lf rf em := by
  unfold Core at H ⊢
  rw [e 1 (by omega) (by omega), e 2 (by omega) (by omega), e 3 (by omega) (by omega), e 4 (by omega) (by omega), e 5 (by omega) (by omega), e 6 (by omega) (by omega), e 7 (by omega) (by omega)]
  exact H
theorem Core.nil {A : Nat → Nat → Int32} {B : Nat → Int32} {lw own lf rf : Nat → Nat} {em : Nat → Bool} : Core A B 0 0 lw own lf rf em :=
  ⟨fun i hi => absurd hi (by omega), fun p hp => absurd hp (by omega), fun p hp => absurd hp (by omega), fun i p hi => absurd hi (by omega), fun i p hi => absurd hi (by omega), fun i p hi => absurd hi (by omega), fun q p hq => absurd hq (by omega), fun i a b hi => absurd hi (by omega)⟩
end
section
/-! Every call of the law: the contracts of both sides, and that their answers agree -/
theorem MG.cg {u u2 : XS} {G : Nat → Nat → Bool} (h : MG u G) (e : ∀ a, a < 31 → u2.2 1 (31 * 6 + a) = u.2 1 (31 * 6 + a)) : MG u2 G := by
  intro a v ha hv
  rw [e a ha]
  exact h a v ha hv
theorem InvG.sm {u u2 t : XS} {G : Nat → Nat → Bool} (H : InvG u t G) (hs : Sm u u2) (hq : XQ u2 G) : InvG u2 t G := by
  obtain ⟨S, A, T, B, h, md, ca, np, lw, own, lf, rf, em, rfl, rfl, hh, hmd, hca, hnp, hC, hX, hG⟩ := H
  refine ⟨u2.1, u2.2, T, B, h, md, ca, np, lw, own, lf, rf, em, ?_, rfl, hh, hmd, hca, hnp, hC.cg (fun a h1 h2 => hs.2 a (by omega) (by omega)), hq, hG⟩
  exact Prod.ext (ext4 (hs.1 0 (by omega)) (hs.1 1 (by omega)) (hs.1 2 (by omega)) (hs.1 3 (by omega)) (fun j hj => (st4_ge hj).symm)) rfl
theorem InvG.xq {u t : XS} {G : Nat → Nat → Bool} (H : InvG u t G) : XQ u G ∧ MG t G := by
  obtain ⟨S, A, T, B, h, md, ca, np, lw, own, lf, rf, em, rfl, rfl, hh, hmd, hca, hnp, hC, hX, hG⟩ := H
  exact ⟨hX, hG⟩
set_option maxHeartbeats 4000000 in
theorem st_pair {u t : XS} (H : Inv u t) (a1 a2 : Int32) : ∃ PX PM, C_X_pair [.int a1, .int a2] u PX ∧ C_M_pair [.int a1, .int a2] t PM ∧ ∀ r1 u2 r2 t2, PX r1 u2 → PM r2 t2 → r1 = r2 ∧ Inv u2 t2 := by
  have keep := H
  obtain ⟨G, S, A, T, B, h, md, ca, np, lw, own, lf, rf, em, rfl, rfl, hh, hmd, hca, hnp, hC, hX, hG⟩ := H
  refine ⟨_, _, c_X_pair S A hh hmd hca hnp a1 a2, c_M_pair T B hh hmd hca a1 a2, ?_⟩
  rintro r1 u2 r2 t2 ⟨x1, x2⟩ ⟨m1, m2⟩
  by_cases hin : in3 a1 ∧ in3 a2
  · obtain ⟨⟨x, hx, rfl⟩, ⟨y, hy, rfl⟩⟩ := hin
    obtain ⟨x3, x4⟩ := x2 x y hx hy rfl rfl
    obtain ⟨m3, m4⟩ := m2 x y hx hy rfl rfl
    by_cases hf : md = 18 ∨ h = 6 ∨ ca = 9
    · obtain ⟨rfl, rfl⟩ := x3 hf
      obtain ⟨rfl, rfl⟩ := m3 hf
      exact ⟨rfl, keep⟩
    · obtain ⟨rfl, rfl⟩ := x4 hf
      obtain ⟨rfl, rfl⟩ := m4 hf
      refine ⟨rfl, G, ?_⟩
      have hG2 : MG (st3 T (nI (h + 1)) (nI (md + 1)) (nI (ca + 1)), setA B 1 (mpairF (B 1) h x y)) G := hG.cg (fun a ha => mp_out hx (by omega))
      by_cases hn : x = 2 ∧ y = 2
      · rw [pairU, if_pos hn]
        obtain ⟨rfl, rfl⟩ := hn
        exact ⟨S, _, T, _, h + 1, md + 1, ca + 1, np, _, _, _, _, _, rfl, rfl, by omega, by omega, by omega, by omega, core_pair0 hC (by omega), hX.cg rfl rfl rfl rfl rfl rfl rfl rfl, hG2⟩
      · rw [pairU, if_neg hn]
        exact ⟨S, _, T, _, h + 1, md + 1, ca + 1, np + 1, _, _, _, _, _, rfl, rfl, by omega, by omega, by omega, by omega, core_pair1 hC (by omega) (by omega) hx hy hn, hX.cg rfl rfl rfl rfl rfl rfl rfl rfl, hG2⟩
  · obtain ⟨rfl, rfl⟩ := x1 hin
    obtain ⟨rfl, rfl⟩ := m1 hin
    exact ⟨rfl, keep⟩
set_option maxHeartbeats 4000000 in
theorem st_cat {u t : XS} (H : Inv u t) : ∃ PX PM, C_X_cat [] u PX ∧ C_M_cat [] t PM ∧ ∀ r1 u2 r2 t2, PX r1 u2 → PM r2 t2 → r1 = r2 ∧ Inv u2 t2 := by
  have keep := H
  obtain ⟨G, S, A, T, B, h, md, ca, np, lw, own, lf, rf, em, rfl, rfl, hh, hmd, hca, hnp, hC, hX, hG⟩ := H
  refine ⟨_, _, c_X_cat S A hh hmd (em (h - 2)) (em (h - 1)) (fun h2 => (hC.1 (h - 2) (by omega)).2.2) (fun h2 => (hC.1 (h - 1) (by omega)).2.2), c_M_cat T B hh hmd, ?_⟩
  rintro r1 u2 r2 t2 ⟨x1, x2, x3⟩ ⟨m1, m2, m3⟩
  by_cases k1 : md = 18
  · obtain ⟨rfl, rfl⟩ := x1 k1
    obtain ⟨rfl, rfl⟩ := m1 k1
    exact ⟨rfl, keep⟩
  · by_cases k2 : h < 2
    · obtain ⟨rfl, rfl⟩ := x2 k1 k2
      obtain ⟨rfl, rfl⟩ := m2 k1 k2
      exact ⟨rfl, keep⟩
    · obtain ⟨rfl, rfl⟩ := x3 k1 (by omega)
      obtain ⟨rfl, f, rfl, hf, hb⟩ := m3 k1 (by omega)
      exact ⟨rfl, G, S, _, T, _, h - 1, md + 1, ca, np, _, _, _, _, _, rfl, rfl, by omega, by omega, by omega, by omega, core_cat hC (by omega) hh (by omega) hf hb, hX.cg rfl rfl rfl rfl rfl rfl rfl rfl, hG.cg (fun a ha => hf _ (by omega) (by omega))⟩
set_option maxHeartbeats 4000000 in
theorem st_alt {u t : XS} (H : Inv u t) : ∃ PX PM, C_X_alt [] u PX ∧ C_M_alt [] t PM ∧ ∀ r1 u2 r2 t2, PX r1 u2 → PM r2 t2 → r1 = r2 ∧ Inv u2 t2 := by
  have keep := H
  obtain ⟨G, S, A, T, B, h, md, ca, np, lw, own, lf, rf, em, rfl, rfl, hh, hmd, hca, hnp, hC, hX, hG⟩ := H
  refine ⟨_, _, c_X_alt S A hh hmd (em (h - 2)) (em (h - 1)) (fun h2 => (hC.1 (h - 2) (by omega)).2.2) (fun h2 => (hC.1 (h - 1) (by omega)).2.2), c_M_alt T B hh hmd, ?_⟩
  rintro r1 u2 r2 t2 ⟨x1, x2, x3⟩ ⟨m1, m2, m3⟩
  by_cases k1 : md = 18
  · obtain ⟨rfl, rfl⟩ := x1 k1
    obtain ⟨rfl, rfl⟩ := m1 k1
    exact ⟨rfl, keep⟩
  · by_cases k2 : h < 2
    · obtain ⟨rfl, rfl⟩ := x2 k1 k2
      obtain ⟨rfl, rfl⟩ := m2 k1 k2
      exact ⟨rfl, keep⟩
    · obtain ⟨rfl, rfl⟩ := x3 k1 (by omega)
      obtain ⟨rfl, rfl⟩ := m3 k1 (by omega)
      exact ⟨rfl, G, S, _, T, _, h - 1, md + 1, ca, np, _, _, _, _, _, rfl, rfl, by omega, by omega, by omega, by omega, core_alt hC hh (by omega), hX.cg rfl rfl rfl rfl rfl rfl rfl rfl, hG.cg (fun a ha => if_neg (by omega))⟩
set_option maxHeartbeats 4000000 in
theorem st_star {u t : XS} (H : Inv u t) : ∃ PX PM, C_X_star [] u PX ∧ C_M_star [] t PM ∧ ∀ r1 u2 r2 t2, PX r1 u2 → PM r2 t2 → r1 = r2 ∧ Inv u2 t2 := by
  have keep := H
  obtain ⟨G, S, A, T, B, h, md, ca, np, lw, own, lf, rf, em, rfl, rfl, hh, hmd, hca, hnp, hC, hX, hG⟩ := H
  refine ⟨_, _, c_X_star S A hh hmd, c_M_star T B hh hmd (starT A h lf rf) (fun h1 => core_starT hC (by omega) hh h1), ?_⟩
  rintro r1 u2 r2 t2 ⟨x1, x2, x3⟩ ⟨m1, m2, m3⟩
  by_cases k1 : md = 18
  · obtain ⟨rfl, rfl⟩ := x1 k1
    obtain ⟨rfl, rfl⟩ := m1 k1
    exact ⟨rfl, keep⟩
  · by_cases k2 : h < 1
    · obtain ⟨rfl, rfl⟩ := x2 k1 k2
      obtain ⟨rfl, rfl⟩ := m2 k1 k2
      exact ⟨rfl, keep⟩
    · obtain ⟨rfl, rfl⟩ := x3 k1 (by omega)
      obtain ⟨rfl, f, rfl, hf, hb⟩ := m3 k1 (by omega)
      exact ⟨rfl, G, S, _, T, _, h, md + 1, ca, np, _, _, _, _, _, rfl, rfl, by omega, by omega, by omega, by omega, core_star hC (by omega) hh (by omega) hf hb, hX.cg rfl rfl rfl rfl rfl rfl rfl rfl, hG.cg (fun a ha => hf _ (by omega) (by omega))⟩
set_option maxHeartbeats 4000000 in
theorem st_turn {u t : XS} (H : Inv u t) : ∃ PX PM, C_X_turn [] u PX ∧ C_M_turn [] t PM ∧ ∀ r1 u2 r2 t2, PX r1 u2 → PM r2 t2 → r1 = r2 ∧ Inv u2 t2 := by
  have keep := H
  obtain ⟨G, S, A, T, B, h, md, ca, np, lw, own, lf, rf, em, rfl, rfl, hh, hmd, hca, hnp, hC, hX, hG⟩ := H
  refine ⟨_, _, c_X_turn S A (lw := lw (h - 1)) hh hmd (by omega) (fun h1 => (hC.1 (h - 1) (by omega)).1) (fun h1 => (hC.1 (h - 1) (by omega)).2.1), c_M_turn T B hh hmd, ?_⟩
  rintro r1 u2 r2 t2 ⟨x1, x2, x3⟩ ⟨m1, m2, m3⟩
  by_cases k1 : md = 18
  · obtain ⟨rfl, rfl⟩ := x1 k1
    obtain ⟨rfl, rfl⟩ := m1 k1
    exact ⟨rfl, keep⟩
  · by_cases k2 : h < 1
    · obtain ⟨rfl, rfl⟩ := x2 k1 k2
      obtain ⟨rfl, rfl⟩ := m2 k1 k2
      exact ⟨rfl, keep⟩
    · obtain ⟨rfl, rfl⟩ := x3 k1 (by omega)
      obtain ⟨rfl, f, rfl, hf, hb⟩ := m3 k1 (by omega)
      exact ⟨rfl, G, S, _, T, _, h, md + 1, ca, np, _, _, _, _, _, rfl, rfl, by omega, by omega, by omega, by omega, core_turn hC hh (by omega) hf hb, hX.cg rfl rfl rfl rfl rfl rfl rfl rfl, hG.cg (fun a ha => hf _ (by omega) (by omega))⟩
theorem st_steps {u t : XS} (H : Inv u t) : ∃ PX PM, C_X_steps [] u PX ∧ C_M_steps [] t PM ∧ ∀ r1 u2 r2 t2, PX r1 u2 → PM r2 t2 → r1 = r2 ∧ Inv u2 t2 := by
  have keep := H
  obtain ⟨G, S, A, T, B, h, md, ca, np, lw, own, lf, rf, em, rfl, rfl, hh, hmd, hca, hnp, hC, hX, hG⟩ := H
  refine ⟨_, _, c_X_steps _, c_M_steps _, ?_⟩
  rintro r1 u2 r2 t2 ⟨rfl, rfl⟩ ⟨rfl, rfl⟩
  exact ⟨rfl, keep⟩
theorem st_depth {u t : XS} (H : Inv u t) : ∃ PX PM, C_X_depth [] u PX ∧ C_M_depth [] t PM ∧ ∀ r1 u2 r2 t2, PX r1 u2 → PM r2 t2 → r1 = r2 ∧ Inv u2 t2 := by
  have keep := H
  obtain ⟨G, S, A, T, B, h, md, ca, np, lw, own, lf, rf, em, rfl, rfl, hh, hmd, hca, hnp, hC, hX, hG⟩ := H
  refine ⟨_, _, c_X_depth _, c_M_depth _, ?_⟩
  rintro r1 u2 r2 t2 ⟨rfl, rfl⟩ ⟨rfl, rfl⟩
  exact ⟨rfl, keep⟩
theorem st_discard {u t : XS} (H : Inv u t) : ∃ PX PM, C_X_discard [] u PX ∧ C_M_discard [] t PM ∧ ∀ u2 t2, PX u2 → PM t2 → Inv u2 t2 := by
  obtain ⟨G, S, A, T, B, h, md, ca, np, lw, own, lf, rf, em, rfl, rfl, hh, hmd, hca, hnp, hC, hX, hG⟩ := H
  refine ⟨_, _, c_X_discard _, c_M_discard _, ?_⟩
  rintro u2 t2 rfl rfl
  exact ⟨G, _, A, _, B, 0, 0, 0, 0, lw, own, lf, rf, em, rfl, rfl, by omega, by omega, by omega, by omega, Core.nil, hX.cg rfl rfl rfl rfl rfl rfl rfl rfl, hG.cg (fun a ha => rfl)⟩
set_option maxHeartbeats 4000000 in
theorem st_define {u t : XS} (H : Inv u t) : ∃ PX PM, C_X_define [] u PX ∧ C_M_define [] t PM ∧ ∀ r1 u2 r2 t2, PX r1 u2 → PM r2 t2 → r1 = r2 ∧ Inv u2 t2 := by
  have keep := H
  obtain ⟨G, S, A, T, B, h, md, ca, np, lw, own, lf, rf, em, rfl, rfl, hh, hmd, hca, hnp, hC, hX, hG⟩ := H
  refine ⟨_, _, c_X_define S A hh (by omega) lf rf (fun p hp => ⟨(hC.2.1 p hp).1, (hC.2.1 p hp).2.2.1⟩) (fun p hp => ⟨(hC.2.1 p hp).2.1, (hC.2.1 p hp).2.2.2.1⟩) (em (h - 1)) (fun h1 => (hC.1 (h - 1) (by omega)).2.2), c_M_define T B hh, ?_⟩
  rintro r1 u2 r2 t2 ⟨x1, x2⟩ ⟨m1, m2⟩
  by_cases k : h = 0
  · obtain ⟨rfl, rfl⟩ := x1 k
    obtain ⟨rfl, rfl⟩ := m1 k
    exact ⟨rfl, keep⟩
  · obtain ⟨rfl, fi, rfl, hfi⟩ := x2 k
    obtain ⟨rfl, rfl⟩ := m2 k
    refine ⟨rfl, fun a b => bP (Rel (A 2 (h - 1)) (A 3 (h - 1)) (em (h - 1)) (A 7) lf rf (rwd a) (rwd b)), ?_⟩
    obtain ⟨c1, c2, c3, c4, c5, c6, c7, c8⟩ := hC
    have hsw : ∀ q, q < np → swF (A 8) (A 7) 0 np q = A 7 q := fun q hq => if_pos (by omega)
    have hrec := dp_rec (fi := A 2 (h - 1)) (fo := swF (A 8) (A 7) 0 np) (fi9 := fi) (np := np) (lf := lf) (rf := rf) (by omega) (fun p hp => (c5 _ p (by omega) hp).1) (fun q hq p hp => by rw [hsw q hq] at hp; exact (c7 q p hq hp).1) (fun p hp => (c2 p hp).2.2) hfi
    have hem : A 4 (h - 1) = bI (em (h - 1)) := (c1 (h - 1) (by omega)).2.2
    have hlen : LenOk A := by
      obtain ⟨⟨D1, ⟨l1, -⟩, -⟩, -⟩ := hX
      exact l1
    refine ⟨defS S (A 2 (h - 1)) (A 3 (h - 1)) (A 4 (h - 1)), setA (setA A 8 (swF (A 8) (A 7) 0 np)) 9 fi, T, _, 0, 0, 0, 0, lw, own, lf, rf, em, ?_, rfl, by omega, by omega, by omega, by omega, Core.nil, ⟨⟨_, ⟨hlen, hrec, ?_⟩, ?_⟩, Or.inl rfl⟩, ?_⟩
    · exact Prod.ext (ext4 rfl rfl rfl rfl (fun j hj => (st4_ge hj).symm)) rfl
    · show bt (A 3 (h - 1)) 9 = false
      cases hb : bt (A 3 (h - 1)) 9
      · rfl
      · have := (c6 _ 9 (by omega) hb).1
        omega
    · intro a b ha hb
      rw [bP_iff, Rel_congr (P := fun p => p < np ∧ own p = h - 1) (fo' := swF (A 8) (A 7) 0 np) (c5 _ · (by omega)) (fun q hq p hp => by have := c7 q p hq.1 hp; omega) (fun q hq => (hsw q hq.1).symm) (fun _ _ => rfl) (fun _ _ => rfl)]
      constructor
      · rintro ⟨ps, hA, e1, e2⟩
        cases ps with
        | nil =>
          refine Or.inr ⟨(rw_nil ha).mp e1.symm, (rw_nil hb).mp e2.symm, ?_⟩
          show ¬ A 4 (h - 1) = nI 0
          have hA : em (h - 1) = true := hA
          rw [hem, hA]
          decide
        | cons p ps => exact Or.inl ⟨p, ⟨ps, hA.2, e1, e2⟩, hA.1⟩
      · rintro (⟨p, ⟨ps, hc, e1, e2⟩, hl⟩ | ⟨rfl, rfl, he⟩)
        · exact ⟨p :: ps, ⟨hl, hc⟩, e1, e2⟩
        · have he : ¬ A 4 (h - 1) = nI 0 := he
          refine ⟨[], ?_, rfl, rfl⟩
          show em (h - 1) = true
          rw [hem] at he
          cases hx : em (h - 1)
          · rw [hx] at he; exact absurd rfl he
          · rfl
    · intro a v ha hv
      show bt (cpF (B 1) (h - 1) 6 31 (31 * 6 + a)) v = _
      rw [cpF_in ha]
      exact bool_iff ((c8 (h - 1) a v (by omega) ha hv).trans bP_iff.symm)
theorem st_related {u t : XS} (H : Inv u t) (a1 a2 a3 a4 : Int32) : ∃ PX PM, C_X_related [.int a1, .int a2, .int a3, .int a4] u PX ∧ C_M_related [.int a1, .int a2, .int a3, .int a4] t PM ∧ ∀ r1 u2 r2 t2, PX r1 u2 → PM r2 t2 → r1 = r2 ∧ Inv u2 t2 := by
  obtain ⟨G, H⟩ := H
  refine ⟨_, _, c_X_related _ G H.xq.1 a1 a2 a3 a4, c_M_related _ G H.xq.2 a1 a2 a3 a4, ?_⟩
  rintro r1 u2 r2 t2 ⟨hs, hq, hx1, hx2⟩ ⟨rfl, hm1, hm2⟩
  refine ⟨?_, G, H.sm hs hq⟩
  by_cases hw : isW a1 a2 ∧ isW a3 a4
  · rw [hx2 hw.1 hw.2, hm2 hw.1 hw.2]
  · rw [hx1 hw, hm1 hw]
theorem st_images {u t : XS} (H : Inv u t) (a1 a2 : Int32) : ∃ PX PM, C_X_images [.int a1, .int a2] u PX ∧ C_M_images [.int a1, .int a2] t PM ∧ ∀ r1 u2 r2 t2, PX r1 u2 → PM r2 t2 → r1 = r2 ∧ Inv u2 t2 := by
  obtain ⟨G, H⟩ := H
  refine ⟨_, _, c_X_images _ G H.xq.1 a1 a2, c_M_images _ G H.xq.2 a1 a2, ?_⟩
  rintro r1 u2 r2 t2 ⟨hs, hq, hx1, hx2⟩ ⟨rfl, hm1, hm2⟩
  refine ⟨?_, G, H.sm hs hq⟩
  by_cases hw : isW a1 a2
  · rw [hx2 hw, hm2 hw]
  · rw [hx1 hw, hm1 hw]
theorem st_sources {u t : XS} (H : Inv u t) (a1 a2 : Int32) : ∃ PX PM, C_X_sources [.int a1, .int a2] u PX ∧ C_M_sources [.int a1, .int a2] t PM ∧ ∀ r1 u2 r2 t2, PX r1 u2 → PM r2 t2 → r1 = r2 ∧ Inv u2 t2 := by
  obtain ⟨G, H⟩ := H
  refine ⟨_, _, c_X_sources _ G H.xq.1 a1 a2, c_M_sources _ G H.xq.2 a1 a2, ?_⟩
  rintro r1 u2 r2 t2 ⟨hs, hq, hx1, hx2⟩ ⟨rfl, hm1, hm2⟩
  refine ⟨?_, G, H.sm hs hq⟩
  by_cases hw : isW a1 a2
  · rw [hx2 hw, hm2 hw]
  · rw [hx1 hw, hm1 hw]
theorem st_image {u t : XS} (H : Inv u t) (a1 a2 a3 : Int32) : ∃ PX PM, C_X_image [.int a1, .int a2, .int a3] u PX ∧ C_M_image [.int a1, .int a2, .int a3] t PM ∧ ∀ r1 u2 r2 t2, PX r1 u2 → PM r2 t2 → r1 = r2 ∧ Inv u2 t2 := by
  obtain ⟨G, H⟩ := H
  refine ⟨_, _, c_X_image _ G H.xq.1 a1 a2 a3, c_M_image _ G H.xq.2 a1 a2 a3, ?_⟩
  rintro r1 u2 r2 t2 ⟨hs, hq, hx1, hx2⟩ ⟨rfl, hm1, hm2⟩
  refine ⟨?_, G, H.sm hs hq⟩
  by_cases hw : isW a1 a2
  · exact imR_uniq (hx2 hw) (hm2 hw)
  · rw [hx1 hw, hm1 hw]
theorem st_pairs {u t : XS} (H : Inv u t) : ∃ PX PM, C_X_pairs [] u PX ∧ C_M_pairs [] t PM ∧ ∀ r1 u2 r2 t2, PX r1 u2 → PM r2 t2 → r1 = r2 ∧ Inv u2 t2 := by
  obtain ⟨G, H⟩ := H
  refine ⟨_, _, c_X_pairs _ G H.xq.1 , c_M_pairs _ G H.xq.2 , ?_⟩
  rintro r1 u2 r2 t2 ⟨hs, hq, hx⟩ ⟨rfl, hm⟩
  refine ⟨?_, G, H.sm hs hq⟩
  rw [hx, hm]
theorem st_domain {u t : XS} (H : Inv u t) : ∃ PX PM, C_X_domain [] u PX ∧ C_M_domain [] t PM ∧ ∀ r1 u2 r2 t2, PX r1 u2 → PM r2 t2 → r1 = r2 ∧ Inv u2 t2 := by
  obtain ⟨G, H⟩ := H
  refine ⟨_, _, c_X_domain _ G H.xq.1 , c_M_domain _ G H.xq.2 , ?_⟩
  rintro r1 u2 r2 t2 ⟨hs, hq, hx⟩ ⟨rfl, hm⟩
  refine ⟨?_, G, H.sm hs hq⟩
  rw [hx, hm]
theorem st_manyValued {u t : XS} (H : Inv u t) : ∃ PX PM, C_X_manyValued [] u PX ∧ C_M_manyValued [] t PM ∧ ∀ r1 u2 r2 t2, PX r1 u2 → PM r2 t2 → r1 = r2 ∧ Inv u2 t2 := by
  obtain ⟨G, H⟩ := H
  refine ⟨_, _, c_X_manyValued _ G H.xq.1 , c_M_manyValued _ G H.xq.2 , ?_⟩
  rintro r1 u2 r2 t2 ⟨hs, hq, hx⟩ ⟨rfl, hm⟩
  refine ⟨?_, G, H.sm hs hq⟩
  rw [hx, hm]
theorem st_fixed {u t : XS} (H : Inv u t) : ∃ PX PM, C_X_fixed [] u PX ∧ C_M_fixed [] t PM ∧ ∀ r1 u2 r2 t2, PX r1 u2 → PM r2 t2 → r1 = r2 ∧ Inv u2 t2 := by
  obtain ⟨G, H⟩ := H
  refine ⟨_, _, c_X_fixed _ G H.xq.1 , c_M_fixed _ G H.xq.2 , ?_⟩
  rintro r1 u2 r2 t2 ⟨hs, hq, hx⟩ ⟨rfl, hm⟩
  refine ⟨?_, G, H.sm hs hq⟩
  rw [hx, hm]
theorem st_twoSteps {u t : XS} (H : Inv u t) : ∃ PX PM, C_X_twoSteps [] u PX ∧ C_M_twoSteps [] t PM ∧ ∀ r1 u2 r2 t2, PX r1 u2 → PM r2 t2 → r1 = r2 ∧ Inv u2 t2 := by
  obtain ⟨G, H⟩ := H
  refine ⟨_, _, c_X_twoSteps _ G H.xq.1 , c_M_twoSteps _ G H.xq.2 , ?_⟩
  rintro r1 u2 r2 t2 ⟨hs, hq, hx⟩ ⟨rfl, hm⟩
  refine ⟨?_, G, H.sm hs hq⟩
  rw [hx, hm]
theorem Inv0 : Inv (S00, setA A00 12 (lnF 31)) (S00, A00) := by
  refine ⟨fun _ _ => false, S00, setA A00 12 (lnF 31), S00, A00, 0, 0, 0, 0, fun _ => 0, fun _ => 0, fun _ => 0, fun _ => 0, fun _ => false, ?_, ?_, by omega, by omega, by omega, by omega, Core.nil, ⟨⟨fun _ _ _ => False, ⟨?_, ⟨fun _ => id, fun _ _ => id, ?_⟩, rfl⟩, ?_⟩, Or.inl rfl⟩, ?_⟩
  · exact Prod.ext (ext4 rfl rfl rfl rfl (fun j hj => (st4_ge hj).symm)) rfl
  · exact Prod.ext (ext4 rfl rfl rfl rfl (fun j hj => (st3_ge hj).symm)) rfl
  · intro n hn
    exact if_pos hn
  · intro a b p ha hb hne
    refine ⟨False.elim, ?_⟩
    have hz : ∀ k, ¬ bt ((setA A00 12 (lnF 31)) 9 k) p = true := fun k z => by
      have z : bt 0 p = true := z
      rw [b_0] at z
      cases z
    rintro (⟨_, _, z⟩ | ⟨_, _, z⟩ | ⟨_, _, _, z⟩)
    · exact hz ((a - 1) % 2 * 3 + 2) z
    · exact hz (6 + (b - 1) % 2) z
    · exact hz ((a - 1) % 2 * 3 + (b - 1) % 2) z
  · intro a b ha hb
    constructor
    · intro z; cases z
    · rintro (⟨p, z, _⟩ | ⟨_, _, z⟩)
      · exact absurd z id
      · exact absurd rfl z
  · intro a v ha hv
    show bt 0 v = false
    exact b_0 v
end
section
/-! THE CLAIM OUT OF ONE WALK OF THE LAW'S BODY. Your part is whole_start (and what it stands on); all else here is the same for every law, but numbers. -/
def R_law : String := "PairExpressionsLaw"
def lw_P (b : Addr) (xs : List Int32) (args : Array Value) (s : State) : Prop := args = #[.ref b] ∧ s.IntsAt b xs ∧ xs.length ≤ 2560 ∧ (Jvm.Cond.and given_1 narrow_1).before args s = true
def lw_Q (_ : Array Value) (s : State) (o : Outcome) (t : State) : Prop := o = .returned (some (.int 1)) ∧ Framed s o t [] 15 558
def lw_Z (below : List Frame) (a : Array Value) (s : State) : State → Prop := fun t => ∃ o, t.status = .running ∧ Ended t below o ∧ lw_Q a s o t
/-- the law's own end, with 1 on the stack, nothing written that was there before, its room as the claim has it -/
theorem lw_ret {p : Program} {l : Launch} {e : Env} {s : State} {m : MethodId} {below : List Frame} {meth : Method} {c : Code} {b : Nat} (hx : p.tables.exec = Jvm.exec) (hb : c.code = code) (hr : meth.sig.returnType = ret) (hlocks : meth.locks = false) {pc : Nat} {H : Heap} {ls : Array Slot} (hdg : decode code pc = .ok (.ireturn, 1)) : W p l e room_1 s m #[Value.ref b] below meth c H [] 15 558 (lw_Z below #[Value.ref b] s) (F0 m pc ls [.int 1]) := by
  intro T hT X
  obtain ⟨fs, hret, hrun, hended, hW, hframe⟩ := X.leave (v := some (.int 1)) (hlocks := hlocks) (fun h => by rw [hr] at h; cases h)
  have hmeth' : T.vm.method? m = some meth := X.method'
  refine ⟨T.setFrames fs, ?_, .returned (some (.int 1)), hrun, hended, rfl, ⟨_, rfl⟩, hW, hframe⟩
  jvm_step X.here [X.here.top, hx, hb, hdg, hmeth', hr, ret, narrow_b1]
  (try refine ⟨rfl, ?_⟩); (try refine ⟨rfl, ?_⟩)
  first | (intro acts; rw [hret _ acts rfl rfl rfl]) | rw [hret _ _ rfl rfl rfl]
  exact Steps.refl _
/-- what holds at the law's entry: the machine, the code, the tables' words (any of lw_tbl by 'hts w (by decide +kernel)'), the script of L ints xs at the cell b, what the Statement gives of the start (any of its parts by flat_of_before) -/
def lw_At (p : Program) (s : State) (m : MethodId) (meth : Method) (c : Code) (b L : Nat) (xs : Nat → Int32) : Prop :=
  p.tables.exec = Jvm.exec ∧ c.code = code ∧ meth.sig.returnType = ret ∧ c.maxLocals = 4 ∧ s.vm.findClass R_law = some m.cls ∧ (∀ w ∈ lw_tbl, w.before #[Value.ref b] s = true) ∧ va_X b L xs s s.heap ∧ b < s.heap.size ∧ meth.locks = false ∧ (Jvm.Cond.and given_1 narrow_1).before #[Value.ref b] s = true

theorem d_law_0 : decode code 0 = .ok (.new 7, 3) := by decide +kernel
theorem d_law_3 : decode code 3 = .ok (.dup, 1) := by decide +kernel
theorem d_law_4 : decode code 4 = .ok (.invokespecial 9, 3) := by decide +kernel
theorem d_law_7 : decode code 7 = .ok (.astore_n 1, 1) := by decide +kernel
theorem d_law_8 : decode code 8 = .ok (.new 10, 3) := by decide +kernel
theorem d_law_11 : decode code 11 = .ok (.dup, 1) := by decide +kernel
theorem d_law_12 : decode code 12 = .ok (.invokespecial 12, 3) := by decide +kernel
theorem d_law_15 : decode code 15 = .ok (.astore_n 2, 1) := by decide +kernel
theorem d_law_16 : decode code 16 = .ok (.iconst 0, 1) := by decide +kernel
theorem d_law_17 : decode code 17 = .ok (.istore_n 3, 1) := by decide +kernel
theorem d_law_18 : decode code 18 = .ok (.iload_n 3, 1) := by decide +kernel
theorem d_law_19 : decode code 19 = .ok (.aload_n 0, 1) := by decide +kernel
theorem d_law_20 : decode code 20 = .ok (.arraylength, 1) := by decide +kernel
theorem d_law_21 : decode code 21 = .ok (.iconst 5, 1) := by decide +kernel
theorem d_law_22 : decode code 22 = .ok (.isub, 1) := by decide +kernel
theorem d_law_23 : decode code 23 = .ok (.if_icmp .gt 465, 3) := by decide +kernel
theorem d_law_26 : decode code 26 = .ok (.aload_n 0, 1) := by decide +kernel
theorem d_law_27 : decode code 27 = .ok (.iload_n 3, 1) := by decide +kernel
theorem d_law_28 : decode code 28 = .ok (.iaload, 1) := by decide +kernel
theorem d_law_29 : decode code 29 = .ok (.bipush 31, 2) := by decide +kernel
theorem d_law_31 : decode code 31 = .ok (.iand, 1) := by decide +kernel
theorem d_law_32 : decode code 32 = .ok (.tableswitch 450 0 17 #[88, 121, 134, 147, 160, 173, 186, 199, 210, 223, 276, 309, 352, 385, 398, 411, 424, 437], 88) := by decide +kernel
theorem d_law_120 : decode code 120 = .ok (.aload_n 1, 1) := by decide +kernel
theorem d_law_121 : decode code 121 = .ok (.aload_n 0, 1) := by decide +kernel
theorem d_law_122 : decode code 122 = .ok (.iload_n 3, 1) := by decide +kernel
theorem d_law_123 : decode code 123 = .ok (.iconst 1, 1) := by decide +kernel
theorem d_law_124 : decode code 124 = .ok (.iadd, 1) := by decide +kernel
theorem d_law_125 : decode code 125 = .ok (.iaload, 1) := by decide +kernel
theorem d_law_126 : decode code 126 = .ok (.aload_n 0, 1) := by decide +kernel
theorem d_law_127 : decode code 127 = .ok (.iload_n 3, 1) := by decide +kernel
theorem d_law_128 : decode code 128 = .ok (.iconst 2, 1) := by decide +kernel
theorem d_law_129 : decode code 129 = .ok (.iadd, 1) := by decide +kernel
theorem d_law_130 : decode code 130 = .ok (.iaload, 1) := by decide +kernel
theorem d_law_131 : decode code 131 = .ok (.invokevirtual 13, 3) := by decide +kernel
theorem d_law_134 : decode code 134 = .ok (.aload_n 2, 1) := by decide +kernel
theorem d_law_135 : decode code 135 = .ok (.aload_n 0, 1) := by decide +kernel
theorem d_law_136 : decode code 136 = .ok (.iload_n 3, 1) := by decide +kernel
theorem d_law_137 : decode code 137 = .ok (.iconst 1, 1) := by decide +kernel
theorem d_law_138 : decode code 138 = .ok (.iadd, 1) := by decide +kernel
theorem d_law_139 : decode code 139 = .ok (.iaload, 1) := by decide +kernel
theorem d_law_140 : decode code 140 = .ok (.aload_n 0, 1) := by decide +kernel
theorem d_law_141 : decode code 141 = .ok (.iload_n 3, 1) := by decide +kernel
theorem d_law_142 : decode code 142 = .ok (.iconst 2, 1) := by decide +kernel
theorem d_law_143 : decode code 143 = .ok (.iadd, 1) := by decide +kernel
theorem d_law_144 : decode code 144 = .ok (.iaload, 1) := by decide +kernel
theorem d_law_145 : decode code 145 = .ok (.invokevirtual 17, 3) := by decide +kernel
theorem d_law_148 : decode code 148 = .ok (.if_icmp .eq 334, 3) := by decide +kernel
theorem d_law_151 : decode code 151 = .ok (.iconst 0, 1) := by decide +kernel
theorem d_law_152 : decode code 152 = .ok (.ireturn, 1) := by decide +kernel
theorem d_law_153 : decode code 153 = .ok (.aload_n 1, 1) := by decide +kernel
theorem d_law_154 : decode code 154 = .ok (.invokevirtual 18, 3) := by decide +kernel
theorem d_law_157 : decode code 157 = .ok (.aload_n 2, 1) := by decide +kernel
theorem d_law_158 : decode code 158 = .ok (.invokevirtual 22, 3) := by decide +kernel
theorem d_law_161 : decode code 161 = .ok (.if_icmp .eq 321, 3) := by decide +kernel
theorem d_law_164 : decode code 164 = .ok (.iconst 0, 1) := by decide +kernel
theorem d_law_165 : decode code 165 = .ok (.ireturn, 1) := by decide +kernel
theorem d_law_166 : decode code 166 = .ok (.aload_n 1, 1) := by decide +kernel
theorem d_law_167 : decode code 167 = .ok (.invokevirtual 23, 3) := by decide +kernel
theorem d_law_170 : decode code 170 = .ok (.aload_n 2, 1) := by decide +kernel
theorem d_law_171 : decode code 171 = .ok (.invokevirtual 26, 3) := by decide +kernel
theorem d_law_174 : decode code 174 = .ok (.if_icmp .eq 308, 3) := by decide +kernel
theorem d_law_177 : decode code 177 = .ok (.iconst 0, 1) := by decide +kernel
theorem d_law_178 : decode code 178 = .ok (.ireturn, 1) := by decide +kernel
theorem d_law_179 : decode code 179 = .ok (.aload_n 1, 1) := by decide +kernel
theorem d_law_180 : decode code 180 = .ok (.invokevirtual 27, 3) := by decide +kernel
theorem d_law_183 : decode code 183 = .ok (.aload_n 2, 1) := by decide +kernel
theorem d_law_184 : decode code 184 = .ok (.invokevirtual 30, 3) := by decide +kernel
theorem d_law_187 : decode code 187 = .ok (.if_icmp .eq 295, 3) := by decide +kernel
theorem d_law_190 : decode code 190 = .ok (.iconst 0, 1) := by decide +kernel
theorem d_law_191 : decode code 191 = .ok (.ireturn, 1) := by decide +kernel
theorem d_law_192 : decode code 192 = .ok (.aload_n 1, 1) := by decide +kernel
theorem d_law_193 : decode code 193 = .ok (.invokevirtual 31, 3) := by decide +kernel
theorem d_law_196 : decode code 196 = .ok (.aload_n 2, 1) := by decide +kernel
theorem d_law_197 : decode code 197 = .ok (.invokevirtual 34, 3) := by decide +kernel
theorem d_law_200 : decode code 200 = .ok (.if_icmp .eq 282, 3) := by decide +kernel
theorem d_law_203 : decode code 203 = .ok (.iconst 0, 1) := by decide +kernel
theorem d_law_204 : decode code 204 = .ok (.ireturn, 1) := by decide +kernel
theorem d_law_205 : decode code 205 = .ok (.aload_n 1, 1) := by decide +kernel
theorem d_law_206 : decode code 206 = .ok (.invokevirtual 35, 3) := by decide +kernel
theorem d_law_209 : decode code 209 = .ok (.aload_n 2, 1) := by decide +kernel
theorem d_law_210 : decode code 210 = .ok (.invokevirtual 38, 3) := by decide +kernel
theorem d_law_213 : decode code 213 = .ok (.if_icmp .eq 269, 3) := by decide +kernel
theorem d_law_216 : decode code 216 = .ok (.iconst 0, 1) := by decide +kernel
theorem d_law_217 : decode code 217 = .ok (.ireturn, 1) := by decide +kernel
theorem d_law_218 : decode code 218 = .ok (.aload_n 1, 1) := by decide +kernel
theorem d_law_219 : decode code 219 = .ok (.invokevirtual 39, 3) := by decide +kernel
theorem d_law_222 : decode code 222 = .ok (.aload_n 2, 1) := by decide +kernel
theorem d_law_223 : decode code 223 = .ok (.invokevirtual 42, 3) := by decide +kernel
theorem d_law_226 : decode code 226 = .ok (.if_icmp .eq 256, 3) := by decide +kernel
theorem d_law_229 : decode code 229 = .ok (.iconst 0, 1) := by decide +kernel
theorem d_law_230 : decode code 230 = .ok (.ireturn, 1) := by decide +kernel
theorem d_law_231 : decode code 231 = .ok (.aload_n 1, 1) := by decide +kernel
theorem d_law_232 : decode code 232 = .ok (.invokevirtual 43, 3) := by decide +kernel
theorem d_law_235 : decode code 235 = .ok (.aload_n 2, 1) := by decide +kernel
theorem d_law_236 : decode code 236 = .ok (.invokevirtual 46, 3) := by decide +kernel
theorem d_law_239 : decode code 239 = .ok (.goto 243, 3) := by decide +kernel
theorem d_law_242 : decode code 242 = .ok (.aload_n 1, 1) := by decide +kernel
theorem d_law_243 : decode code 243 = .ok (.invokevirtual 47, 3) := by decide +kernel
theorem d_law_246 : decode code 246 = .ok (.aload_n 2, 1) := by decide +kernel
theorem d_law_247 : decode code 247 = .ok (.invokevirtual 50, 3) := by decide +kernel
theorem d_law_250 : decode code 250 = .ok (.if_icmp .eq 232, 3) := by decide +kernel
theorem d_law_253 : decode code 253 = .ok (.iconst 0, 1) := by decide +kernel
theorem d_law_254 : decode code 254 = .ok (.ireturn, 1) := by decide +kernel
theorem d_law_255 : decode code 255 = .ok (.aload_n 1, 1) := by decide +kernel
theorem d_law_256 : decode code 256 = .ok (.aload_n 0, 1) := by decide +kernel
theorem d_law_257 : decode code 257 = .ok (.iload_n 3, 1) := by decide +kernel
theorem d_law_258 : decode code 258 = .ok (.iconst 1, 1) := by decide +kernel
theorem d_law_259 : decode code 259 = .ok (.iadd, 1) := by decide +kernel
theorem d_law_260 : decode code 260 = .ok (.iaload, 1) := by decide +kernel
theorem d_law_261 : decode code 261 = .ok (.aload_n 0, 1) := by decide +kernel
theorem d_law_262 : decode code 262 = .ok (.iload_n 3, 1) := by decide +kernel
theorem d_law_263 : decode code 263 = .ok (.iconst 2, 1) := by decide +kernel
theorem d_law_264 : decode code 264 = .ok (.iadd, 1) := by decide +kernel
theorem d_law_265 : decode code 265 = .ok (.iaload, 1) := by decide +kernel
theorem d_law_266 : decode code 266 = .ok (.aload_n 0, 1) := by decide +kernel
theorem d_law_267 : decode code 267 = .ok (.iload_n 3, 1) := by decide +kernel
theorem d_law_268 : decode code 268 = .ok (.iconst 3, 1) := by decide +kernel
theorem d_law_269 : decode code 269 = .ok (.iadd, 1) := by decide +kernel
theorem d_law_270 : decode code 270 = .ok (.iaload, 1) := by decide +kernel
theorem d_law_271 : decode code 271 = .ok (.aload_n 0, 1) := by decide +kernel
theorem d_law_272 : decode code 272 = .ok (.iload_n 3, 1) := by decide +kernel
theorem d_law_273 : decode code 273 = .ok (.iconst 4, 1) := by decide +kernel
theorem d_law_274 : decode code 274 = .ok (.iadd, 1) := by decide +kernel
theorem d_law_275 : decode code 275 = .ok (.iaload, 1) := by decide +kernel
theorem d_law_276 : decode code 276 = .ok (.invokevirtual 51, 3) := by decide +kernel
theorem d_law_279 : decode code 279 = .ok (.aload_n 2, 1) := by decide +kernel
theorem d_law_280 : decode code 280 = .ok (.aload_n 0, 1) := by decide +kernel
theorem d_law_281 : decode code 281 = .ok (.iload_n 3, 1) := by decide +kernel
theorem d_law_282 : decode code 282 = .ok (.iconst 1, 1) := by decide +kernel
theorem d_law_283 : decode code 283 = .ok (.iadd, 1) := by decide +kernel
theorem d_law_284 : decode code 284 = .ok (.iaload, 1) := by decide +kernel
theorem d_law_285 : decode code 285 = .ok (.aload_n 0, 1) := by decide +kernel
theorem d_law_286 : decode code 286 = .ok (.iload_n 3, 1) := by decide +kernel
theorem d_law_287 : decode code 287 = .ok (.iconst 2, 1) := by decide +kernel
theorem d_law_288 : decode code 288 = .ok (.iadd, 1) := by decide +kernel
theorem d_law_289 : decode code 289 = .ok (.iaload, 1) := by decide +kernel
theorem d_law_290 : decode code 290 = .ok (.aload_n 0, 1) := by decide +kernel
theorem d_law_291 : decode code 291 = .ok (.iload_n 3, 1) := by decide +kernel
theorem d_law_292 : decode code 292 = .ok (.iconst 3, 1) := by decide +kernel
theorem d_law_293 : decode code 293 = .ok (.iadd, 1) := by decide +kernel
theorem d_law_294 : decode code 294 = .ok (.iaload, 1) := by decide +kernel
theorem d_law_295 : decode code 295 = .ok (.aload_n 0, 1) := by decide +kernel
theorem d_law_296 : decode code 296 = .ok (.iload_n 3, 1) := by decide +kernel
theorem d_law_297 : decode code 297 = .ok (.iconst 4, 1) := by decide +kernel
theorem d_law_298 : decode code 298 = .ok (.iadd, 1) := by decide +kernel
theorem d_law_299 : decode code 299 = .ok (.iaload, 1) := by decide +kernel
theorem d_law_300 : decode code 300 = .ok (.invokevirtual 55, 3) := by decide +kernel
theorem d_law_303 : decode code 303 = .ok (.if_icmp .eq 179, 3) := by decide +kernel
theorem d_law_306 : decode code 306 = .ok (.iconst 0, 1) := by decide +kernel
theorem d_law_307 : decode code 307 = .ok (.ireturn, 1) := by decide +kernel
theorem d_law_308 : decode code 308 = .ok (.aload_n 1, 1) := by decide +kernel
theorem d_law_309 : decode code 309 = .ok (.aload_n 0, 1) := by decide +kernel
theorem d_law_310 : decode code 310 = .ok (.iload_n 3, 1) := by decide +kernel
theorem d_law_311 : decode code 311 = .ok (.iconst 1, 1) := by decide +kernel
theorem d_law_312 : decode code 312 = .ok (.iadd, 1) := by decide +kernel
theorem d_law_313 : decode code 313 = .ok (.iaload, 1) := by decide +kernel
theorem d_law_314 : decode code 314 = .ok (.aload_n 0, 1) := by decide +kernel
theorem d_law_315 : decode code 315 = .ok (.iload_n 3, 1) := by decide +kernel
theorem d_law_316 : decode code 316 = .ok (.iconst 2, 1) := by decide +kernel
theorem d_law_317 : decode code 317 = .ok (.iadd, 1) := by decide +kernel
theorem d_law_318 : decode code 318 = .ok (.iaload, 1) := by decide +kernel
theorem d_law_319 : decode code 319 = .ok (.invokevirtual 56, 3) := by decide +kernel
theorem d_law_322 : decode code 322 = .ok (.aload_n 2, 1) := by decide +kernel
theorem d_law_323 : decode code 323 = .ok (.aload_n 0, 1) := by decide +kernel
theorem d_law_324 : decode code 324 = .ok (.iload_n 3, 1) := by decide +kernel
theorem d_law_325 : decode code 325 = .ok (.iconst 1, 1) := by decide +kernel
theorem d_law_326 : decode code 326 = .ok (.iadd, 1) := by decide +kernel
theorem d_law_327 : decode code 327 = .ok (.iaload, 1) := by decide +kernel
theorem d_law_328 : decode code 328 = .ok (.aload_n 0, 1) := by decide +kernel
theorem d_law_329 : decode code 329 = .ok (.iload_n 3, 1) := by decide +kernel
theorem d_law_330 : decode code 330 = .ok (.iconst 2, 1) := by decide +kernel
theorem d_law_331 : decode code 331 = .ok (.iadd, 1) := by decide +kernel
theorem d_law_332 : decode code 332 = .ok (.iaload, 1) := by decide +kernel
theorem d_law_333 : decode code 333 = .ok (.invokevirtual 59, 3) := by decide +kernel
theorem d_law_336 : decode code 336 = .ok (.if_icmp .eq 146, 3) := by decide +kernel
theorem d_law_339 : decode code 339 = .ok (.iconst 0, 1) := by decide +kernel
theorem d_law_340 : decode code 340 = .ok (.ireturn, 1) := by decide +kernel
theorem d_law_341 : decode code 341 = .ok (.aload_n 1, 1) := by decide +kernel
theorem d_law_342 : decode code 342 = .ok (.aload_n 0, 1) := by decide +kernel
theorem d_law_343 : decode code 343 = .ok (.iload_n 3, 1) := by decide +kernel
theorem d_law_344 : decode code 344 = .ok (.iconst 1, 1) := by decide +kernel
theorem d_law_345 : decode code 345 = .ok (.iadd, 1) := by decide +kernel
theorem d_law_346 : decode code 346 = .ok (.iaload, 1) := by decide +kernel
theorem d_law_347 : decode code 347 = .ok (.aload_n 0, 1) := by decide +kernel
theorem d_law_348 : decode code 348 = .ok (.iload_n 3, 1) := by decide +kernel
theorem d_law_349 : decode code 349 = .ok (.iconst 2, 1) := by decide +kernel
theorem d_law_350 : decode code 350 = .ok (.iadd, 1) := by decide +kernel
theorem d_law_351 : decode code 351 = .ok (.iaload, 1) := by decide +kernel
theorem d_law_352 : decode code 352 = .ok (.aload_n 0, 1) := by decide +kernel
theorem d_law_353 : decode code 353 = .ok (.iload_n 3, 1) := by decide +kernel
theorem d_law_354 : decode code 354 = .ok (.iconst 3, 1) := by decide +kernel
theorem d_law_355 : decode code 355 = .ok (.iadd, 1) := by decide +kernel
theorem d_law_356 : decode code 356 = .ok (.iaload, 1) := by decide +kernel
theorem d_law_357 : decode code 357 = .ok (.invokevirtual 60, 3) := by decide +kernel
theorem d_law_360 : decode code 360 = .ok (.aload_n 2, 1) := by decide +kernel
theorem d_law_361 : decode code 361 = .ok (.aload_n 0, 1) := by decide +kernel
theorem d_law_362 : decode code 362 = .ok (.iload_n 3, 1) := by decide +kernel
theorem d_law_363 : decode code 363 = .ok (.iconst 1, 1) := by decide +kernel
theorem d_law_364 : decode code 364 = .ok (.iadd, 1) := by decide +kernel
theorem d_law_365 : decode code 365 = .ok (.iaload, 1) := by decide +kernel
theorem d_law_366 : decode code 366 = .ok (.aload_n 0, 1) := by decide +kernel
theorem d_law_367 : decode code 367 = .ok (.iload_n 3, 1) := by decide +kernel
theorem d_law_368 : decode code 368 = .ok (.iconst 2, 1) := by decide +kernel
theorem d_law_369 : decode code 369 = .ok (.iadd, 1) := by decide +kernel
theorem d_law_370 : decode code 370 = .ok (.iaload, 1) := by decide +kernel
theorem d_law_371 : decode code 371 = .ok (.aload_n 0, 1) := by decide +kernel
theorem d_law_372 : decode code 372 = .ok (.iload_n 3, 1) := by decide +kernel
theorem d_law_373 : decode code 373 = .ok (.iconst 3, 1) := by decide +kernel
theorem d_law_374 : decode code 374 = .ok (.iadd, 1) := by decide +kernel
theorem d_law_375 : decode code 375 = .ok (.iaload, 1) := by decide +kernel
theorem d_law_376 : decode code 376 = .ok (.invokevirtual 64, 3) := by decide +kernel
theorem d_law_379 : decode code 379 = .ok (.if_icmp .eq 103, 3) := by decide +kernel
theorem d_law_382 : decode code 382 = .ok (.iconst 0, 1) := by decide +kernel
theorem d_law_383 : decode code 383 = .ok (.ireturn, 1) := by decide +kernel
theorem d_law_384 : decode code 384 = .ok (.aload_n 1, 1) := by decide +kernel
theorem d_law_385 : decode code 385 = .ok (.aload_n 0, 1) := by decide +kernel
theorem d_law_386 : decode code 386 = .ok (.iload_n 3, 1) := by decide +kernel
theorem d_law_387 : decode code 387 = .ok (.iconst 1, 1) := by decide +kernel
theorem d_law_388 : decode code 388 = .ok (.iadd, 1) := by decide +kernel
theorem d_law_389 : decode code 389 = .ok (.iaload, 1) := by decide +kernel
theorem d_law_390 : decode code 390 = .ok (.aload_n 0, 1) := by decide +kernel
theorem d_law_391 : decode code 391 = .ok (.iload_n 3, 1) := by decide +kernel
theorem d_law_392 : decode code 392 = .ok (.iconst 2, 1) := by decide +kernel
theorem d_law_393 : decode code 393 = .ok (.iadd, 1) := by decide +kernel
theorem d_law_394 : decode code 394 = .ok (.iaload, 1) := by decide +kernel
theorem d_law_395 : decode code 395 = .ok (.invokevirtual 65, 3) := by decide +kernel
theorem d_law_398 : decode code 398 = .ok (.aload_n 2, 1) := by decide +kernel
theorem d_law_399 : decode code 399 = .ok (.aload_n 0, 1) := by decide +kernel
theorem d_law_400 : decode code 400 = .ok (.iload_n 3, 1) := by decide +kernel
theorem d_law_401 : decode code 401 = .ok (.iconst 1, 1) := by decide +kernel
theorem d_law_402 : decode code 402 = .ok (.iadd, 1) := by decide +kernel
theorem d_law_403 : decode code 403 = .ok (.iaload, 1) := by decide +kernel
theorem d_law_404 : decode code 404 = .ok (.aload_n 0, 1) := by decide +kernel
theorem d_law_405 : decode code 405 = .ok (.iload_n 3, 1) := by decide +kernel
theorem d_law_406 : decode code 406 = .ok (.iconst 2, 1) := by decide +kernel
theorem d_law_407 : decode code 407 = .ok (.iadd, 1) := by decide +kernel
theorem d_law_408 : decode code 408 = .ok (.iaload, 1) := by decide +kernel
theorem d_law_409 : decode code 409 = .ok (.invokevirtual 68, 3) := by decide +kernel
theorem d_law_412 : decode code 412 = .ok (.if_icmp .eq 70, 3) := by decide +kernel
theorem d_law_415 : decode code 415 = .ok (.iconst 0, 1) := by decide +kernel
theorem d_law_416 : decode code 416 = .ok (.ireturn, 1) := by decide +kernel
theorem d_law_417 : decode code 417 = .ok (.aload_n 1, 1) := by decide +kernel
theorem d_law_418 : decode code 418 = .ok (.invokevirtual 69, 3) := by decide +kernel
theorem d_law_421 : decode code 421 = .ok (.aload_n 2, 1) := by decide +kernel
theorem d_law_422 : decode code 422 = .ok (.invokevirtual 72, 3) := by decide +kernel
theorem d_law_425 : decode code 425 = .ok (.if_icmp .eq 57, 3) := by decide +kernel
theorem d_law_428 : decode code 428 = .ok (.iconst 0, 1) := by decide +kernel
theorem d_law_429 : decode code 429 = .ok (.ireturn, 1) := by decide +kernel
theorem d_law_430 : decode code 430 = .ok (.aload_n 1, 1) := by decide +kernel
theorem d_law_431 : decode code 431 = .ok (.invokevirtual 73, 3) := by decide +kernel
theorem d_law_434 : decode code 434 = .ok (.aload_n 2, 1) := by decide +kernel
theorem d_law_435 : decode code 435 = .ok (.invokevirtual 76, 3) := by decide +kernel
theorem d_law_438 : decode code 438 = .ok (.if_icmp .eq 44, 3) := by decide +kernel
theorem d_law_441 : decode code 441 = .ok (.iconst 0, 1) := by decide +kernel
theorem d_law_442 : decode code 442 = .ok (.ireturn, 1) := by decide +kernel
theorem d_law_443 : decode code 443 = .ok (.aload_n 1, 1) := by decide +kernel
theorem d_law_444 : decode code 444 = .ok (.invokevirtual 77, 3) := by decide +kernel
theorem d_law_447 : decode code 447 = .ok (.aload_n 2, 1) := by decide +kernel
theorem d_law_448 : decode code 448 = .ok (.invokevirtual 80, 3) := by decide +kernel
theorem d_law_451 : decode code 451 = .ok (.if_icmp .eq 31, 3) := by decide +kernel
theorem d_law_454 : decode code 454 = .ok (.iconst 0, 1) := by decide +kernel
theorem d_law_455 : decode code 455 = .ok (.ireturn, 1) := by decide +kernel
theorem d_law_456 : decode code 456 = .ok (.aload_n 1, 1) := by decide +kernel
theorem d_law_457 : decode code 457 = .ok (.invokevirtual 81, 3) := by decide +kernel
theorem d_law_460 : decode code 460 = .ok (.aload_n 2, 1) := by decide +kernel
theorem d_law_461 : decode code 461 = .ok (.invokevirtual 84, 3) := by decide +kernel
theorem d_law_464 : decode code 464 = .ok (.if_icmp .eq 18, 3) := by decide +kernel
theorem d_law_467 : decode code 467 = .ok (.iconst 0, 1) := by decide +kernel
theorem d_law_468 : decode code 468 = .ok (.ireturn, 1) := by decide +kernel
theorem d_law_469 : decode code 469 = .ok (.aload_n 1, 1) := by decide +kernel
theorem d_law_470 : decode code 470 = .ok (.invokevirtual 85, 3) := by decide +kernel
theorem d_law_473 : decode code 473 = .ok (.aload_n 2, 1) := by decide +kernel
theorem d_law_474 : decode code 474 = .ok (.invokevirtual 88, 3) := by decide +kernel
theorem d_law_477 : decode code 477 = .ok (.if_icmp .eq 5, 3) := by decide +kernel
theorem d_law_480 : decode code 480 = .ok (.iconst 0, 1) := by decide +kernel
theorem d_law_481 : decode code 481 = .ok (.ireturn, 1) := by decide +kernel
theorem d_law_482 : decode code 482 = .ok (.iinc 3 5, 3) := by decide +kernel
theorem d_law_485 : decode code 485 = .ok (.goto (-467), 3) := by decide +kernel
theorem d_law_488 : decode code 488 = .ok (.iconst 1, 1) := by decide +kernel
theorem d_law_489 : decode code 489 = .ok (.ireturn, 1) := by decide +kernel
set_option maxRecDepth 40000 in
theorem gl_X : GoodIn lw_tbl wX := goodIn_p _ [35, 151, 171, 138, 203, 159, 163, 114, 155, 167, 110, 183, 175] rfl (by decide +kernel)
set_option maxRecDepth 40000 in
theorem gl_M : GoodIn lw_tbl wM := goodIn_p _ [35, 242, 282, 258, 266, 310, 278, 270, 331, 323, 363, 262, 246, 274, 294, 254] rfl (by decide +kernel)
theorem gd_law {Tw W2 : List Cond} (hW : GoodIn Tw W2) {own C : String} {idx : Nat} {z : MethodName} {bb : ByteArray} {nn : Nat} {rr : Option FieldType} (h1 : Cond.methodLink own idx z ∈ Tw) (h2 : Cond.instanceMethod z ∈ Tw) (h3 : Cond.selects C z z ∈ Tw) (h4 : Cond.initialized C ∈ Tw) (h5 : Cond.code z bb nn rr ∈ Tw) : GoodIn Tw (wsV own idx C z (.code z bb nn rr :: W2)) := by
  intro w hw
  simp only [wsV, List.cons_append, List.nil_append, List.mem_cons] at hw
  rcases hw with rfl | rfl | rfl | rfl | rfl | h
  · exact ⟨h1, Or.inl rfl⟩
  · exact ⟨h2, Or.inl rfl⟩
  · exact ⟨h3, Or.inl rfl⟩
  · exact ⟨h4, Or.inl rfl⟩
  · exact ⟨h5, Or.inl rfl⟩
  · exact hW w h
theorem gd_law0 {Tw W2 : List Cond} (hW : GoodIn Tw W2) {z : MethodName} {bb : ByteArray} {nn : Nat} {rr : Option FieldType} (h5 : Cond.code z bb nn rr ∈ Tw) : GoodIn Tw (.code z bb nn rr :: W2) := by
  intro w hw
  rcases List.mem_cons.mp hw with rfl | h
  · exact ⟨h5, Or.inl rfl⟩
  · exact hW w h
set_option maxRecDepth 40000 in
theorem ml_X_init : Cond.methodLink R_law 9 y_X_init ∈ lw_tbl := List.mem_of_getElem? (i := 30) rfl
set_option maxRecDepth 40000 in
theorem im_X_init : Cond.instanceMethod y_X_init ∈ lw_tbl := List.mem_of_getElem? (i := 31) rfl
set_option maxRecDepth 40000 in
theorem cd_X_init : Cond.code y_X_init b_X_init 2 none ∈ lw_tbl := List.mem_of_getElem? (i := 32) rfl
set_option maxRecDepth 40000 in
theorem in_X : Cond.initialized R_X ∈ lw_tbl := List.mem_of_getElem? (i := 26) rfl
theorem gl_X_init : GoodIn lw_tbl (.code y_X_init b_X_init 2 none :: wX) := gd_law0 gl_X cd_X_init
set_option maxRecDepth 40000 in
theorem cl_X : Cond.classLink R_law 7 R_X ∈ lw_tbl := List.mem_of_getElem? (i := 28) rfl
set_option maxRecDepth 40000 in
theorem is_X : Cond.instantiable R_X 20 ∈ lw_tbl := List.mem_of_getElem? (i := 29) rfl
theorem il_X : ∀ w ∈ u_X, w ∈ lw_tbl := fun w h => (gl_X w (i_X w h)).1
set_option maxRecDepth 40000 in
theorem ml_M_init : Cond.methodLink R_law 12 y_M_init ∈ lw_tbl := List.mem_of_getElem? (i := 218) rfl
set_option maxRecDepth 40000 in
theorem im_M_init : Cond.instanceMethod y_M_init ∈ lw_tbl := List.mem_of_getElem? (i := 219) rfl
set_option maxRecDepth 40000 in
theorem cd_M_init : Cond.code y_M_init b_M_init 1 none ∈ lw_tbl := List.mem_of_getElem? (i := 220) rfl
set_option maxRecDepth 40000 in
theorem in_M : Cond.initialized R_M ∈ lw_tbl := List.mem_of_getElem? (i := 27) rfl
theorem gl_M_init : GoodIn lw_tbl (.code y_M_init b_M_init 1 none :: wM) := gd_law0 gl_M cd_M_init
set_option maxRecDepth 40000 in
theorem cl_M : Cond.classLink R_law 10 R_M ∈ lw_tbl := List.mem_of_getElem? (i := 216) rfl
set_option maxRecDepth 40000 in
theorem is_M : Cond.instantiable R_M 4 ∈ lw_tbl := List.mem_of_getElem? (i := 217) rfl
theorem il_M : ∀ w ∈ u_M, w ∈ lw_tbl := fun w h => (gl_M w (i_M w h)).1
set_option maxRecDepth 40000 in
theorem ml_X_pair : Cond.methodLink R_law 13 y_X_pair ∈ lw_tbl := List.mem_of_getElem? (i := 99) rfl
set_option maxRecDepth 40000 in
theorem im_X_pair : Cond.instanceMethod y_X_pair ∈ lw_tbl := List.mem_of_getElem? (i := 100) rfl
set_option maxRecDepth 40000 in
theorem cd_X_pair : Cond.code y_X_pair b_X_pair 5 (some .int) ∈ lw_tbl := List.mem_of_getElem? (i := 102) rfl
set_option maxRecDepth 40000 in
theorem se_X_pair : Cond.selects R_X y_X_pair y_X_pair ∈ lw_tbl := List.mem_of_getElem? (i := 101) rfl
theorem gl_X_pair : GoodIn lw_tbl (wsV R_law 13 R_X y_X_pair (.code y_X_pair b_X_pair 5 (some .int) :: wX)) := gd_law gl_X ml_X_pair im_X_pair se_X_pair in_X cd_X_pair
set_option maxRecDepth 40000 in
theorem ml_M_pair : Cond.methodLink R_law 17 y_M_pair ∈ lw_tbl := List.mem_of_getElem? (i := 235) rfl
set_option maxRecDepth 40000 in
theorem im_M_pair : Cond.instanceMethod y_M_pair ∈ lw_tbl := List.mem_of_getElem? (i := 236) rfl
set_option maxRecDepth 40000 in
theorem cd_M_pair : Cond.code y_M_pair b_M_pair 3 (some .int) ∈ lw_tbl := List.mem_of_getElem? (i := 238) rfl
set_option maxRecDepth 40000 in
theorem se_M_pair : Cond.selects R_M y_M_pair y_M_pair ∈ lw_tbl := List.mem_of_getElem? (i := 237) rfl
theorem gl_M_pair : GoodIn lw_tbl (wsV R_law 17 R_M y_M_pair (.code y_M_pair b_M_pair 3 (some .int) :: wM)) := gd_law gl_M ml_M_pair im_M_pair se_M_pair in_M cd_M_pair
set_option maxRecDepth 40000 in
theorem ml_X_cat : Cond.methodLink R_law 18 y_X_cat ∈ lw_tbl := List.mem_of_getElem? (i := 103) rfl
set_option maxRecDepth 40000 in
theorem im_X_cat : Cond.instanceMethod y_X_cat ∈ lw_tbl := List.mem_of_getElem? (i := 104) rfl
set_option maxRecDepth 40000 in
theorem cd_X_cat : Cond.code y_X_cat b_X_cat 4 (some .int) ∈ lw_tbl := List.mem_of_getElem? (i := 106) rfl
set_option maxRecDepth 40000 in
theorem se_X_cat : Cond.selects R_X y_X_cat y_X_cat ∈ lw_tbl := List.mem_of_getElem? (i := 105) rfl
theorem gl_X_cat : GoodIn lw_tbl (wsV R_law 18 R_X y_X_cat (.code y_X_cat b_X_cat 4 (some .int) :: wX)) := gd_law gl_X ml_X_cat im_X_cat se_X_cat in_X cd_X_cat
set_option maxRecDepth 40000 in
theorem ml_M_cat : Cond.methodLink R_law 22 y_M_cat ∈ lw_tbl := List.mem_of_getElem? (i := 247) rfl
set_option maxRecDepth 40000 in
theorem im_M_cat : Cond.instanceMethod y_M_cat ∈ lw_tbl := List.mem_of_getElem? (i := 248) rfl
set_option maxRecDepth 40000 in
theorem cd_M_cat : Cond.code y_M_cat b_M_cat 5 (some .int) ∈ lw_tbl := List.mem_of_getElem? (i := 250) rfl
set_option maxRecDepth 40000 in
theorem se_M_cat : Cond.selects R_M y_M_cat y_M_cat ∈ lw_tbl := List.mem_of_getElem? (i := 249) rfl
theorem gl_M_cat : GoodIn lw_tbl (wsV R_law 22 R_M y_M_cat (.code y_M_cat b_M_cat 5 (some .int) :: wM)) := gd_law gl_M ml_M_cat im_M_cat se_M_cat in_M cd_M_cat
set_option maxRecDepth 40000 in
theorem ml_X_alt : Cond.methodLink R_law 23 y_X_alt ∈ lw_tbl := List.mem_of_getElem? (i := 115) rfl
set_option maxRecDepth 40000 in
theorem im_X_alt : Cond.instanceMethod y_X_alt ∈ lw_tbl := List.mem_of_getElem? (i := 116) rfl
set_option maxRecDepth 40000 in
theorem cd_X_alt : Cond.code y_X_alt b_X_alt 4 (some .int) ∈ lw_tbl := List.mem_of_getElem? (i := 118) rfl
set_option maxRecDepth 40000 in
theorem se_X_alt : Cond.selects R_X y_X_alt y_X_alt ∈ lw_tbl := List.mem_of_getElem? (i := 117) rfl
theorem gl_X_alt : GoodIn lw_tbl (wsV R_law 23 R_X y_X_alt (.code y_X_alt b_X_alt 4 (some .int) :: wX)) := gd_law gl_X ml_X_alt im_X_alt se_X_alt in_X cd_X_alt
set_option maxRecDepth 40000 in
theorem ml_M_alt : Cond.methodLink R_law 26 y_M_alt ∈ lw_tbl := List.mem_of_getElem? (i := 283) rfl
set_option maxRecDepth 40000 in
theorem im_M_alt : Cond.instanceMethod y_M_alt ∈ lw_tbl := List.mem_of_getElem? (i := 284) rfl
set_option maxRecDepth 40000 in
theorem cd_M_alt : Cond.code y_M_alt b_M_alt 3 (some .int) ∈ lw_tbl := List.mem_of_getElem? (i := 286) rfl
set_option maxRecDepth 40000 in
theorem se_M_alt : Cond.selects R_M y_M_alt y_M_alt ∈ lw_tbl := List.mem_of_getElem? (i := 285) rfl
theorem gl_M_alt : GoodIn lw_tbl (wsV R_law 26 R_M y_M_alt (.code y_M_alt b_M_alt 3 (some .int) :: wM)) := gd_law gl_M ml_M_alt im_M_alt se_M_alt in_M cd_M_alt
set_option maxRecDepth 40000 in
theorem ml_X_star : Cond.methodLink R_law 27 y_X_star ∈ lw_tbl := List.mem_of_getElem? (i := 119) rfl
set_option maxRecDepth 40000 in
theorem im_X_star : Cond.instanceMethod y_X_star ∈ lw_tbl := List.mem_of_getElem? (i := 120) rfl
set_option maxRecDepth 40000 in
theorem cd_X_star : Cond.code y_X_star b_X_star 3 (some .int) ∈ lw_tbl := List.mem_of_getElem? (i := 122) rfl
set_option maxRecDepth 40000 in
theorem se_X_star : Cond.selects R_X y_X_star y_X_star ∈ lw_tbl := List.mem_of_getElem? (i := 121) rfl
theorem gl_X_star : GoodIn lw_tbl (wsV R_law 27 R_X y_X_star (.code y_X_star b_X_star 3 (some .int) :: wX)) := gd_law gl_X ml_X_star im_X_star se_X_star in_X cd_X_star
set_option maxRecDepth 40000 in
theorem ml_M_star : Cond.methodLink R_law 30 y_M_star ∈ lw_tbl := List.mem_of_getElem? (i := 287) rfl
set_option maxRecDepth 40000 in
theorem im_M_star : Cond.instanceMethod y_M_star ∈ lw_tbl := List.mem_of_getElem? (i := 288) rfl
set_option maxRecDepth 40000 in
theorem cd_M_star : Cond.code y_M_star b_M_star 3 (some .int) ∈ lw_tbl := List.mem_of_getElem? (i := 290) rfl
set_option maxRecDepth 40000 in
theorem se_M_star : Cond.selects R_M y_M_star y_M_star ∈ lw_tbl := List.mem_of_getElem? (i := 289) rfl
theorem gl_M_star : GoodIn lw_tbl (wsV R_law 30 R_M y_M_star (.code y_M_star b_M_star 3 (some .int) :: wM)) := gd_law gl_M ml_M_star im_M_star se_M_star in_M cd_M_star
set_option maxRecDepth 40000 in
theorem ml_X_turn : Cond.methodLink R_law 31 y_X_turn ∈ lw_tbl := List.mem_of_getElem? (i := 123) rfl
set_option maxRecDepth 40000 in
theorem im_X_turn : Cond.instanceMethod y_X_turn ∈ lw_tbl := List.mem_of_getElem? (i := 124) rfl
set_option maxRecDepth 40000 in
theorem cd_X_turn : Cond.code y_X_turn b_X_turn 4 (some .int) ∈ lw_tbl := List.mem_of_getElem? (i := 126) rfl
set_option maxRecDepth 40000 in
theorem se_X_turn : Cond.selects R_X y_X_turn y_X_turn ∈ lw_tbl := List.mem_of_getElem? (i := 125) rfl
theorem gl_X_turn : GoodIn lw_tbl (wsV R_law 31 R_X y_X_turn (.code y_X_turn b_X_turn 4 (some .int) :: wX)) := gd_law gl_X ml_X_turn im_X_turn se_X_turn in_X cd_X_turn
set_option maxRecDepth 40000 in
theorem ml_M_turn : Cond.methodLink R_law 34 y_M_turn ∈ lw_tbl := List.mem_of_getElem? (i := 295) rfl
set_option maxRecDepth 40000 in
theorem im_M_turn : Cond.instanceMethod y_M_turn ∈ lw_tbl := List.mem_of_getElem? (i := 296) rfl
set_option maxRecDepth 40000 in
theorem cd_M_turn : Cond.code y_M_turn b_M_turn 4 (some .int) ∈ lw_tbl := List.mem_of_getElem? (i := 298) rfl
set_option maxRecDepth 40000 in
theorem se_M_turn : Cond.selects R_M y_M_turn y_M_turn ∈ lw_tbl := List.mem_of_getElem? (i := 297) rfl
theorem gl_M_turn : GoodIn lw_tbl (wsV R_law 34 R_M y_M_turn (.code y_M_turn b_M_turn 4 (some .int) :: wM)) := gd_law gl_M ml_M_turn im_M_turn se_M_turn in_M cd_M_turn
set_option maxRecDepth 40000 in
theorem ml_X_steps : Cond.methodLink R_law 35 y_X_steps ∈ lw_tbl := List.mem_of_getElem? (i := 127) rfl
set_option maxRecDepth 40000 in
theorem im_X_steps : Cond.instanceMethod y_X_steps ∈ lw_tbl := List.mem_of_getElem? (i := 128) rfl
set_option maxRecDepth 40000 in
theorem cd_X_steps : Cond.code y_X_steps b_X_steps 1 (some .int) ∈ lw_tbl := List.mem_of_getElem? (i := 130) rfl
set_option maxRecDepth 40000 in
theorem se_X_steps : Cond.selects R_X y_X_steps y_X_steps ∈ lw_tbl := List.mem_of_getElem? (i := 129) rfl
theorem gl_X_steps : GoodIn lw_tbl (wsV R_law 35 R_X y_X_steps (.code y_X_steps b_X_steps 1 (some .int) :: wX)) := gd_law gl_X ml_X_steps im_X_steps se_X_steps in_X cd_X_steps
set_option maxRecDepth 40000 in
theorem ml_M_steps : Cond.methodLink R_law 38 y_M_steps ∈ lw_tbl := List.mem_of_getElem? (i := 299) rfl
set_option maxRecDepth 40000 in
theorem im_M_steps : Cond.instanceMethod y_M_steps ∈ lw_tbl := List.mem_of_getElem? (i := 300) rfl
set_option maxRecDepth 40000 in
theorem cd_M_steps : Cond.code y_M_steps b_M_steps 1 (some .int) ∈ lw_tbl := List.mem_of_getElem? (i := 302) rfl
set_option maxRecDepth 40000 in
theorem se_M_steps : Cond.selects R_M y_M_steps y_M_steps ∈ lw_tbl := List.mem_of_getElem? (i := 301) rfl
theorem gl_M_steps : GoodIn lw_tbl (wsV R_law 38 R_M y_M_steps (.code y_M_steps b_M_steps 1 (some .int) :: wM)) := gd_law gl_M ml_M_steps im_M_steps se_M_steps in_M cd_M_steps
set_option maxRecDepth 40000 in
theorem ml_X_depth : Cond.methodLink R_law 39 y_X_depth ∈ lw_tbl := List.mem_of_getElem? (i := 131) rfl
set_option maxRecDepth 40000 in
theorem im_X_depth : Cond.instanceMethod y_X_depth ∈ lw_tbl := List.mem_of_getElem? (i := 132) rfl
set_option maxRecDepth 40000 in
theorem cd_X_depth : Cond.code y_X_depth b_X_depth 1 (some .int) ∈ lw_tbl := List.mem_of_getElem? (i := 134) rfl
set_option maxRecDepth 40000 in
theorem se_X_depth : Cond.selects R_X y_X_depth y_X_depth ∈ lw_tbl := List.mem_of_getElem? (i := 133) rfl
theorem gl_X_depth : GoodIn lw_tbl (wsV R_law 39 R_X y_X_depth (.code y_X_depth b_X_depth 1 (some .int) :: wX)) := gd_law gl_X ml_X_depth im_X_depth se_X_depth in_X cd_X_depth
set_option maxRecDepth 40000 in
theorem ml_M_depth : Cond.methodLink R_law 42 y_M_depth ∈ lw_tbl := List.mem_of_getElem? (i := 303) rfl
set_option maxRecDepth 40000 in
theorem im_M_depth : Cond.instanceMethod y_M_depth ∈ lw_tbl := List.mem_of_getElem? (i := 304) rfl
set_option maxRecDepth 40000 in
theorem cd_M_depth : Cond.code y_M_depth b_M_depth 1 (some .int) ∈ lw_tbl := List.mem_of_getElem? (i := 306) rfl
set_option maxRecDepth 40000 in
theorem se_M_depth : Cond.selects R_M y_M_depth y_M_depth ∈ lw_tbl := List.mem_of_getElem? (i := 305) rfl
theorem gl_M_depth : GoodIn lw_tbl (wsV R_law 42 R_M y_M_depth (.code y_M_depth b_M_depth 1 (some .int) :: wM)) := gd_law gl_M ml_M_depth im_M_depth se_M_depth in_M cd_M_depth
set_option maxRecDepth 40000 in
theorem ml_X_discard : Cond.methodLink R_law 43 y_X_discard ∈ lw_tbl := List.mem_of_getElem? (i := 135) rfl
set_option maxRecDepth 40000 in
theorem im_X_discard : Cond.instanceMethod y_X_discard ∈ lw_tbl := List.mem_of_getElem? (i := 136) rfl
set_option maxRecDepth 40000 in
theorem cd_X_discard : Cond.code y_X_discard b_X_discard 1 none ∈ lw_tbl := List.mem_of_getElem? (i := 138) rfl
set_option maxRecDepth 40000 in
theorem se_X_discard : Cond.selects R_X y_X_discard y_X_discard ∈ lw_tbl := List.mem_of_getElem? (i := 137) rfl
theorem gl_X_discard : GoodIn lw_tbl (wsV R_law 43 R_X y_X_discard (.code y_X_discard b_X_discard 1 none :: wX)) := gd_law gl_X ml_X_discard im_X_discard se_X_discard in_X cd_X_discard
set_option maxRecDepth 40000 in
theorem ml_M_discard : Cond.methodLink R_law 46 y_M_discard ∈ lw_tbl := List.mem_of_getElem? (i := 307) rfl
set_option maxRecDepth 40000 in
theorem im_M_discard : Cond.instanceMethod y_M_discard ∈ lw_tbl := List.mem_of_getElem? (i := 308) rfl
set_option maxRecDepth 40000 in
theorem cd_M_discard : Cond.code y_M_discard b_M_discard 1 none ∈ lw_tbl := List.mem_of_getElem? (i := 310) rfl
set_option maxRecDepth 40000 in
theorem se_M_discard : Cond.selects R_M y_M_discard y_M_discard ∈ lw_tbl := List.mem_of_getElem? (i := 309) rfl
theorem gl_M_discard : GoodIn lw_tbl (wsV R_law 46 R_M y_M_discard (.code y_M_discard b_M_discard 1 none :: wM)) := gd_law gl_M ml_M_discard im_M_discard se_M_discard in_M cd_M_discard
set_option maxRecDepth 40000 in
theorem ml_X_define : Cond.methodLink R_law 47 y_X_define ∈ lw_tbl := List.mem_of_getElem? (i := 139) rfl
set_option maxRecDepth 40000 in
theorem im_X_define : Cond.instanceMethod y_X_define ∈ lw_tbl := List.mem_of_getElem? (i := 140) rfl
set_option maxRecDepth 40000 in
theorem cd_X_define : Cond.code y_X_define b_X_define 4 (some .int) ∈ lw_tbl := List.mem_of_getElem? (i := 142) rfl
set_option maxRecDepth 40000 in
theorem se_X_define : Cond.selects R_X y_X_define y_X_define ∈ lw_tbl := List.mem_of_getElem? (i := 141) rfl
theorem gl_X_define : GoodIn lw_tbl (wsV R_law 47 R_X y_X_define (.code y_X_define b_X_define 4 (some .int) :: wX)) := gd_law gl_X ml_X_define im_X_define se_X_define in_X cd_X_define
set_option maxRecDepth 40000 in
theorem ml_M_define : Cond.methodLink R_law 50 y_M_define ∈ lw_tbl := List.mem_of_getElem? (i := 311) rfl
set_option maxRecDepth 40000 in
theorem im_M_define : Cond.instanceMethod y_M_define ∈ lw_tbl := List.mem_of_getElem? (i := 312) rfl
set_option maxRecDepth 40000 in
theorem cd_M_define : Cond.code y_M_define b_M_define 2 (some .int) ∈ lw_tbl := List.mem_of_getElem? (i := 314) rfl
set_option maxRecDepth 40000 in
theorem se_M_define : Cond.selects R_M y_M_define y_M_define ∈ lw_tbl := List.mem_of_getElem? (i := 313) rfl
theorem gl_M_define : GoodIn lw_tbl (wsV R_law 50 R_M y_M_define (.code y_M_define b_M_define 2 (some .int) :: wM)) := gd_law gl_M ml_M_define im_M_define se_M_define in_M cd_M_define
set_option maxRecDepth 40000 in
theorem ml_X_related : Cond.methodLink R_law 51 y_X_related ∈ lw_tbl := List.mem_of_getElem? (i := 144) rfl
set_option maxRecDepth 40000 in
theorem im_X_related : Cond.instanceMethod y_X_related ∈ lw_tbl := List.mem_of_getElem? (i := 145) rfl
set_option maxRecDepth 40000 in
theorem cd_X_related : Cond.code y_X_related b_X_related 7 (some .boolean) ∈ lw_tbl := List.mem_of_getElem? (i := 147) rfl
set_option maxRecDepth 40000 in
theorem se_X_related : Cond.selects R_X y_X_related y_X_related ∈ lw_tbl := List.mem_of_getElem? (i := 146) rfl
theorem gl_X_related : GoodIn lw_tbl (wsV R_law 51 R_X y_X_related (.code y_X_related b_X_related 7 (some .boolean) :: wX)) := gd_law gl_X ml_X_related im_X_related se_X_related in_X cd_X_related
set_option maxRecDepth 40000 in
theorem ml_M_related : Cond.methodLink R_law 55 y_M_related ∈ lw_tbl := List.mem_of_getElem? (i := 316) rfl
set_option maxRecDepth 40000 in
theorem im_M_related : Cond.instanceMethod y_M_related ∈ lw_tbl := List.mem_of_getElem? (i := 317) rfl
set_option maxRecDepth 40000 in
theorem cd_M_related : Cond.code y_M_related b_M_related 5 (some .boolean) ∈ lw_tbl := List.mem_of_getElem? (i := 319) rfl
set_option maxRecDepth 40000 in
theorem se_M_related : Cond.selects R_M y_M_related y_M_related ∈ lw_tbl := List.mem_of_getElem? (i := 318) rfl
theorem gl_M_related : GoodIn lw_tbl (wsV R_law 55 R_M y_M_related (.code y_M_related b_M_related 5 (some .boolean) :: wM)) := gd_law gl_M ml_M_related im_M_related se_M_related in_M cd_M_related
set_option maxRecDepth 40000 in
theorem ml_X_images : Cond.methodLink R_law 56 y_X_images ∈ lw_tbl := List.mem_of_getElem? (i := 176) rfl
set_option maxRecDepth 40000 in
theorem im_X_images : Cond.instanceMethod y_X_images ∈ lw_tbl := List.mem_of_getElem? (i := 177) rfl
set_option maxRecDepth 40000 in
theorem cd_X_images : Cond.code y_X_images b_X_images 4 (some .int) ∈ lw_tbl := List.mem_of_getElem? (i := 179) rfl
set_option maxRecDepth 40000 in
theorem se_X_images : Cond.selects R_X y_X_images y_X_images ∈ lw_tbl := List.mem_of_getElem? (i := 178) rfl
theorem gl_X_images : GoodIn lw_tbl (wsV R_law 56 R_X y_X_images (.code y_X_images b_X_images 4 (some .int) :: wX)) := gd_law gl_X ml_X_images im_X_images se_X_images in_X cd_X_images
set_option maxRecDepth 40000 in
theorem ml_M_images : Cond.methodLink R_law 59 y_M_images ∈ lw_tbl := List.mem_of_getElem? (i := 324) rfl
set_option maxRecDepth 40000 in
theorem im_M_images : Cond.instanceMethod y_M_images ∈ lw_tbl := List.mem_of_getElem? (i := 325) rfl
set_option maxRecDepth 40000 in
theorem cd_M_images : Cond.code y_M_images b_M_images 3 (some .int) ∈ lw_tbl := List.mem_of_getElem? (i := 327) rfl
set_option maxRecDepth 40000 in
theorem se_M_images : Cond.selects R_M y_M_images y_M_images ∈ lw_tbl := List.mem_of_getElem? (i := 326) rfl
theorem gl_M_images : GoodIn lw_tbl (wsV R_law 59 R_M y_M_images (.code y_M_images b_M_images 3 (some .int) :: wM)) := gd_law gl_M ml_M_images im_M_images se_M_images in_M cd_M_images
set_option maxRecDepth 40000 in
theorem ml_X_image : Cond.methodLink R_law 60 y_X_image ∈ lw_tbl := List.mem_of_getElem? (i := 184) rfl
set_option maxRecDepth 40000 in
theorem im_X_image : Cond.instanceMethod y_X_image ∈ lw_tbl := List.mem_of_getElem? (i := 185) rfl
set_option maxRecDepth 40000 in
theorem cd_X_image : Cond.code y_X_image b_X_image 7 (some .int) ∈ lw_tbl := List.mem_of_getElem? (i := 187) rfl
set_option maxRecDepth 40000 in
theorem se_X_image : Cond.selects R_X y_X_image y_X_image ∈ lw_tbl := List.mem_of_getElem? (i := 186) rfl
theorem gl_X_image : GoodIn lw_tbl (wsV R_law 60 R_X y_X_image (.code y_X_image b_X_image 7 (some .int) :: wX)) := gd_law gl_X ml_X_image im_X_image se_X_image in_X cd_X_image
set_option maxRecDepth 40000 in
theorem ml_M_image : Cond.methodLink R_law 64 y_M_image ∈ lw_tbl := List.mem_of_getElem? (i := 332) rfl
set_option maxRecDepth 40000 in
theorem im_M_image : Cond.instanceMethod y_M_image ∈ lw_tbl := List.mem_of_getElem? (i := 333) rfl
set_option maxRecDepth 40000 in
theorem cd_M_image : Cond.code y_M_image b_M_image 7 (some .int) ∈ lw_tbl := List.mem_of_getElem? (i := 335) rfl
set_option maxRecDepth 40000 in
theorem se_M_image : Cond.selects R_M y_M_image y_M_image ∈ lw_tbl := List.mem_of_getElem? (i := 334) rfl
theorem gl_M_image : GoodIn lw_tbl (wsV R_law 64 R_M y_M_image (.code y_M_image b_M_image 7 (some .int) :: wM)) := gd_law gl_M ml_M_image im_M_image se_M_image in_M cd_M_image
set_option maxRecDepth 40000 in
theorem ml_X_sources : Cond.methodLink R_law 65 y_X_sources ∈ lw_tbl := List.mem_of_getElem? (i := 188) rfl
set_option maxRecDepth 40000 in
theorem im_X_sources : Cond.instanceMethod y_X_sources ∈ lw_tbl := List.mem_of_getElem? (i := 189) rfl
set_option maxRecDepth 40000 in
theorem cd_X_sources : Cond.code y_X_sources b_X_sources 6 (some .int) ∈ lw_tbl := List.mem_of_getElem? (i := 191) rfl
set_option maxRecDepth 40000 in
theorem se_X_sources : Cond.selects R_X y_X_sources y_X_sources ∈ lw_tbl := List.mem_of_getElem? (i := 190) rfl
theorem gl_X_sources : GoodIn lw_tbl (wsV R_law 65 R_X y_X_sources (.code y_X_sources b_X_sources 6 (some .int) :: wX)) := gd_law gl_X ml_X_sources im_X_sources se_X_sources in_X cd_X_sources
set_option maxRecDepth 40000 in
theorem ml_M_sources : Cond.methodLink R_law 68 y_M_sources ∈ lw_tbl := List.mem_of_getElem? (i := 336) rfl
set_option maxRecDepth 40000 in
theorem im_M_sources : Cond.instanceMethod y_M_sources ∈ lw_tbl := List.mem_of_getElem? (i := 337) rfl
set_option maxRecDepth 40000 in
theorem cd_M_sources : Cond.code y_M_sources b_M_sources 5 (some .int) ∈ lw_tbl := List.mem_of_getElem? (i := 339) rfl
set_option maxRecDepth 40000 in
theorem se_M_sources : Cond.selects R_M y_M_sources y_M_sources ∈ lw_tbl := List.mem_of_getElem? (i := 338) rfl
theorem gl_M_sources : GoodIn lw_tbl (wsV R_law 68 R_M y_M_sources (.code y_M_sources b_M_sources 5 (some .int) :: wM)) := gd_law gl_M ml_M_sources im_M_sources se_M_sources in_M cd_M_sources
set_option maxRecDepth 40000 in
theorem ml_X_pairs : Cond.methodLink R_law 69 y_X_pairs ∈ lw_tbl := List.mem_of_getElem? (i := 192) rfl
set_option maxRecDepth 40000 in
theorem im_X_pairs : Cond.instanceMethod y_X_pairs ∈ lw_tbl := List.mem_of_getElem? (i := 193) rfl
set_option maxRecDepth 40000 in
theorem cd_X_pairs : Cond.code y_X_pairs b_X_pairs 4 (some .int) ∈ lw_tbl := List.mem_of_getElem? (i := 195) rfl
set_option maxRecDepth 40000 in
theorem se_X_pairs : Cond.selects R_X y_X_pairs y_X_pairs ∈ lw_tbl := List.mem_of_getElem? (i := 194) rfl
theorem gl_X_pairs : GoodIn lw_tbl (wsV R_law 69 R_X y_X_pairs (.code y_X_pairs b_X_pairs 4 (some .int) :: wX)) := gd_law gl_X ml_X_pairs im_X_pairs se_X_pairs in_X cd_X_pairs
set_option maxRecDepth 40000 in
theorem ml_M_pairs : Cond.methodLink R_law 72 y_M_pairs ∈ lw_tbl := List.mem_of_getElem? (i := 340) rfl
set_option maxRecDepth 40000 in
theorem im_M_pairs : Cond.instanceMethod y_M_pairs ∈ lw_tbl := List.mem_of_getElem? (i := 341) rfl
set_option maxRecDepth 40000 in
theorem cd_M_pairs : Cond.code y_M_pairs b_M_pairs 3 (some .int) ∈ lw_tbl := List.mem_of_getElem? (i := 343) rfl
set_option maxRecDepth 40000 in
theorem se_M_pairs : Cond.selects R_M y_M_pairs y_M_pairs ∈ lw_tbl := List.mem_of_getElem? (i := 342) rfl
theorem gl_M_pairs : GoodIn lw_tbl (wsV R_law 72 R_M y_M_pairs (.code y_M_pairs b_M_pairs 3 (some .int) :: wM)) := gd_law gl_M ml_M_pairs im_M_pairs se_M_pairs in_M cd_M_pairs
set_option maxRecDepth 40000 in
theorem ml_X_domain : Cond.methodLink R_law 73 y_X_domain ∈ lw_tbl := List.mem_of_getElem? (i := 196) rfl
set_option maxRecDepth 40000 in
theorem im_X_domain : Cond.instanceMethod y_X_domain ∈ lw_tbl := List.mem_of_getElem? (i := 197) rfl
set_option maxRecDepth 40000 in
theorem cd_X_domain : Cond.code y_X_domain b_X_domain 1 (some .int) ∈ lw_tbl := List.mem_of_getElem? (i := 199) rfl
set_option maxRecDepth 40000 in
theorem se_X_domain : Cond.selects R_X y_X_domain y_X_domain ∈ lw_tbl := List.mem_of_getElem? (i := 198) rfl
theorem gl_X_domain : GoodIn lw_tbl (wsV R_law 73 R_X y_X_domain (.code y_X_domain b_X_domain 1 (some .int) :: wX)) := gd_law gl_X ml_X_domain im_X_domain se_X_domain in_X cd_X_domain
set_option maxRecDepth 40000 in
theorem ml_M_domain : Cond.methodLink R_law 76 y_M_domain ∈ lw_tbl := List.mem_of_getElem? (i := 344) rfl
set_option maxRecDepth 40000 in
theorem im_M_domain : Cond.instanceMethod y_M_domain ∈ lw_tbl := List.mem_of_getElem? (i := 345) rfl
set_option maxRecDepth 40000 in
theorem cd_M_domain : Cond.code y_M_domain b_M_domain 3 (some .int) ∈ lw_tbl := List.mem_of_getElem? (i := 347) rfl
set_option maxRecDepth 40000 in
theorem se_M_domain : Cond.selects R_M y_M_domain y_M_domain ∈ lw_tbl := List.mem_of_getElem? (i := 346) rfl
theorem gl_M_domain : GoodIn lw_tbl (wsV R_law 76 R_M y_M_domain (.code y_M_domain b_M_domain 3 (some .int) :: wM)) := gd_law gl_M ml_M_domain im_M_domain se_M_domain in_M cd_M_domain
set_option maxRecDepth 40000 in
theorem ml_X_manyValued : Cond.methodLink R_law 77 y_X_manyValued ∈ lw_tbl := List.mem_of_getElem? (i := 204) rfl
set_option maxRecDepth 40000 in
theorem im_X_manyValued : Cond.instanceMethod y_X_manyValued ∈ lw_tbl := List.mem_of_getElem? (i := 205) rfl
set_option maxRecDepth 40000 in
theorem cd_X_manyValued : Cond.code y_X_manyValued b_X_manyValued 1 (some .int) ∈ lw_tbl := List.mem_of_getElem? (i := 207) rfl
set_option maxRecDepth 40000 in
theorem se_X_manyValued : Cond.selects R_X y_X_manyValued y_X_manyValued ∈ lw_tbl := List.mem_of_getElem? (i := 206) rfl
theorem gl_X_manyValued : GoodIn lw_tbl (wsV R_law 77 R_X y_X_manyValued (.code y_X_manyValued b_X_manyValued 1 (some .int) :: wX)) := gd_law gl_X ml_X_manyValued im_X_manyValued se_X_manyValued in_X cd_X_manyValued
set_option maxRecDepth 40000 in
theorem ml_M_manyValued : Cond.methodLink R_law 80 y_M_manyValued ∈ lw_tbl := List.mem_of_getElem? (i := 348) rfl
set_option maxRecDepth 40000 in
theorem im_M_manyValued : Cond.instanceMethod y_M_manyValued ∈ lw_tbl := List.mem_of_getElem? (i := 349) rfl
set_option maxRecDepth 40000 in
theorem cd_M_manyValued : Cond.code y_M_manyValued b_M_manyValued 3 (some .int) ∈ lw_tbl := List.mem_of_getElem? (i := 351) rfl
set_option maxRecDepth 40000 in
theorem se_M_manyValued : Cond.selects R_M y_M_manyValued y_M_manyValued ∈ lw_tbl := List.mem_of_getElem? (i := 350) rfl
theorem gl_M_manyValued : GoodIn lw_tbl (wsV R_law 80 R_M y_M_manyValued (.code y_M_manyValued b_M_manyValued 3 (some .int) :: wM)) := gd_law gl_M ml_M_manyValued im_M_manyValued se_M_manyValued in_M cd_M_manyValued
set_option maxRecDepth 40000 in
theorem ml_X_fixed : Cond.methodLink R_law 81 y_X_fixed ∈ lw_tbl := List.mem_of_getElem? (i := 208) rfl
set_option maxRecDepth 40000 in
theorem im_X_fixed : Cond.instanceMethod y_X_fixed ∈ lw_tbl := List.mem_of_getElem? (i := 209) rfl
set_option maxRecDepth 40000 in
theorem cd_X_fixed : Cond.code y_X_fixed b_X_fixed 3 (some .int) ∈ lw_tbl := List.mem_of_getElem? (i := 211) rfl
set_option maxRecDepth 40000 in
theorem se_X_fixed : Cond.selects R_X y_X_fixed y_X_fixed ∈ lw_tbl := List.mem_of_getElem? (i := 210) rfl
theorem gl_X_fixed : GoodIn lw_tbl (wsV R_law 81 R_X y_X_fixed (.code y_X_fixed b_X_fixed 3 (some .int) :: wX)) := gd_law gl_X ml_X_fixed im_X_fixed se_X_fixed in_X cd_X_fixed
set_option maxRecDepth 40000 in
theorem ml_M_fixed : Cond.methodLink R_law 84 y_M_fixed ∈ lw_tbl := List.mem_of_getElem? (i := 352) rfl
set_option maxRecDepth 40000 in
theorem im_M_fixed : Cond.instanceMethod y_M_fixed ∈ lw_tbl := List.mem_of_getElem? (i := 353) rfl
set_option maxRecDepth 40000 in
theorem cd_M_fixed : Cond.code y_M_fixed b_M_fixed 3 (some .int) ∈ lw_tbl := List.mem_of_getElem? (i := 355) rfl
set_option maxRecDepth 40000 in
theorem se_M_fixed : Cond.selects R_M y_M_fixed y_M_fixed ∈ lw_tbl := List.mem_of_getElem? (i := 354) rfl
theorem gl_M_fixed : GoodIn lw_tbl (wsV R_law 84 R_M y_M_fixed (.code y_M_fixed b_M_fixed 3 (some .int) :: wM)) := gd_law gl_M ml_M_fixed im_M_fixed se_M_fixed in_M cd_M_fixed
set_option maxRecDepth 40000 in
theorem ml_X_twoSteps : Cond.methodLink R_law 85 y_X_twoSteps ∈ lw_tbl := List.mem_of_getElem? (i := 212) rfl
set_option maxRecDepth 40000 in
theorem im_X_twoSteps : Cond.instanceMethod y_X_twoSteps ∈ lw_tbl := List.mem_of_getElem? (i := 213) rfl
set_option maxRecDepth 40000 in
theorem cd_X_twoSteps : Cond.code y_X_twoSteps b_X_twoSteps 5 (some .int) ∈ lw_tbl := List.mem_of_getElem? (i := 215) rfl
set_option maxRecDepth 40000 in
theorem se_X_twoSteps : Cond.selects R_X y_X_twoSteps y_X_twoSteps ∈ lw_tbl := List.mem_of_getElem? (i := 214) rfl
theorem gl_X_twoSteps : GoodIn lw_tbl (wsV R_law 85 R_X y_X_twoSteps (.code y_X_twoSteps b_X_twoSteps 5 (some .int) :: wX)) := gd_law gl_X ml_X_twoSteps im_X_twoSteps se_X_twoSteps in_X cd_X_twoSteps
set_option maxRecDepth 40000 in
theorem ml_M_twoSteps : Cond.methodLink R_law 88 y_M_twoSteps ∈ lw_tbl := List.mem_of_getElem? (i := 356) rfl
set_option maxRecDepth 40000 in
theorem im_M_twoSteps : Cond.instanceMethod y_M_twoSteps ∈ lw_tbl := List.mem_of_getElem? (i := 357) rfl
set_option maxRecDepth 40000 in
theorem cd_M_twoSteps : Cond.code y_M_twoSteps b_M_twoSteps 4 (some .int) ∈ lw_tbl := List.mem_of_getElem? (i := 359) rfl
set_option maxRecDepth 40000 in
theorem se_M_twoSteps : Cond.selects R_M y_M_twoSteps y_M_twoSteps ∈ lw_tbl := List.mem_of_getElem? (i := 358) rfl
theorem gl_M_twoSteps : GoodIn lw_tbl (wsV R_law 88 R_M y_M_twoSteps (.code y_M_twoSteps b_M_twoSteps 4 (some .int) :: wM)) := gd_law gl_M ml_M_twoSteps im_M_twoSteps se_M_twoSteps in_M cd_M_twoSteps
end
section
section LAW
variable {p : Program} {l : Launch} {e : Env} {s : State} {m : MethodId} {below : List Frame} {meth : Method} {c : Code} {b L : Nat} {xs : Nat → Int32} {D : va_G} {qx qm : Nat → Nat} {kx km : Nat → ClassId} {pc : Nat} {lo : List (Option Value)} {st : List Value} {z : XS × XS}

theorem L_sld (hX : va_X b L xs s s.heap) (hbl : b < s.heap.size) (hL : L ≤ 2560) {j : Int32} {n : Nat} (hi : j = nI n) (hn : n < L) (hd : decode code pc = .ok (.iaload, 1)) (kk : V p l e room_1 s m #[Value.ref b] below meth c R_law lw_tbl code 4 ret D (xty kx ++ mty km) (fun q : Nat => s.heap.size ≤ q) (fun z : XS × XS => xw qx kx z.1 ++ mw qm km z.2) 15 558 (lw_Z below #[Value.ref b] s) (pc + 1) (lo) (.int (xs n) :: st) (z)) : V p l e room_1 s m #[Value.ref b] below meth c R_law lw_tbl code 4 ret D (xty kx ++ mty km) (fun q : Nat => s.heap.size ≤ q) (fun z : XS × XS => xw qx kx z.1 ++ mw qm km z.2) 15 558 (lw_Z below #[Value.ref b] s) (pc) (lo) (.int j :: .ref b :: st) (z) := by
  subst hi
  intro hc ls H locs h1 h2 h3 h4
  obtain ⟨⟨hx, hb, hml, hown, hts⟩, hK, hre, hlk, hA⟩ := id hc
  have hcl : (nI n).toNatClampNeg = n := nI_clamp (by omega)
  have hk := kk hc ls H locs h1 h2 h3 h4
  rw [← hcl] at hk
  exact va_sld hx hb hX hbl (Nat.not_le.mpr hbl) h4 (vp_in_nI hn (by omega)) hd hk
theorem L_slen (hX : va_X b L xs s s.heap) (hbl : b < s.heap.size) (hd : decode code pc = .ok (.arraylength, 1)) (kk : V p l e room_1 s m #[Value.ref b] below meth c R_law lw_tbl code 4 ret D (xty kx ++ mty km) (fun q : Nat => s.heap.size ≤ q) (fun z : XS × XS => xw qx kx z.1 ++ mw qm km z.2) 15 558 (lw_Z below #[Value.ref b] s) (pc + 1) (lo) (.int (nI L) :: st) (z)) : V p l e room_1 s m #[Value.ref b] below meth c R_law lw_tbl code 4 ret D (xty kx ++ mty km) (fun q : Nat => s.heap.size ≤ q) (fun z : XS × XS => xw qx kx z.1 ++ mw qm km z.2) 15 558 (lw_Z below #[Value.ref b] s) (pc) (lo) (.ref b :: st) (z) := by
  intro hc ls H locs h1 h2 h3 h4
  obtain ⟨⟨hx, hb, hml, hown, hts⟩, hK, hre, hlk, hA⟩ := id hc
  exact va_slen hx hb hX hbl (Nat.not_le.mpr hbl) h4 hd (kk hc ls H locs h1 h2 h3 h4)
theorem L_in {x : Int32} {dflt lo0 hi0 : Int} {offs : Array Int} {len : Nat} {off : Int} {tgt : Nat} (hd : decode code pc = .ok (.tableswitch dflt lo0 hi0 offs, len)) (g1 : ¬ x.toInt < lo0) (g2 : ¬ hi0 < x.toInt) (ho : offs[(x.toInt - lo0).toNat]? = some off) (ht : (pc : Int) + off = (tgt : Int)) (kk : V p l e room_1 s m #[Value.ref b] below meth c R_law lw_tbl code 4 ret D (xty kx ++ mty km) (fun q : Nat => s.heap.size ≤ q) (fun z : XS × XS => xw qx kx z.1 ++ mw qm km z.2) 15 558 (lw_Z below #[Value.ref b] s) (tgt) (lo) (st) (z)) : V p l e room_1 s m #[Value.ref b] below meth c R_law lw_tbl code 4 ret D (xty kx ++ mty km) (fun q : Nat => s.heap.size ≤ q) (fun z : XS × XS => xw qx kx z.1 ++ mw qm km z.2) 15 558 (lw_Z below #[Value.ref b] s) (pc) (lo) (.int x :: st) (z) := by
  intro hc ls H locs h1 h2 h3 h4
  obtain ⟨⟨hx, hb, hml, hown, hts⟩, hK, hre, hlk, hA⟩ := id hc
  exact lv_tableIn hx hb hd g1 g2 ho ht (kk hc ls H locs h1 h2 h3 h4)
theorem L_out {x : Int32} {dflt lo0 hi0 : Int} {offs : Array Int} {len : Nat} {tgt : Nat} (hd : decode code pc = .ok (.tableswitch dflt lo0 hi0 offs, len)) (h : x.toInt < lo0 ∨ hi0 < x.toInt) (ht : (pc : Int) + dflt = (tgt : Int)) (kk : V p l e room_1 s m #[Value.ref b] below meth c R_law lw_tbl code 4 ret D (xty kx ++ mty km) (fun q : Nat => s.heap.size ≤ q) (fun z : XS × XS => xw qx kx z.1 ++ mw qm km z.2) 15 558 (lw_Z below #[Value.ref b] s) (tgt) (lo) (st) (z)) : V p l e room_1 s m #[Value.ref b] below meth c R_law lw_tbl code 4 ret D (xty kx ++ mty km) (fun q : Nat => s.heap.size ≤ q) (fun z : XS × XS => xw qx kx z.1 ++ mw qm km z.2) 15 558 (lw_Z below #[Value.ref b] s) (pc) (lo) (.int x :: st) (z) := by
  intro hc ls H locs h1 h2 h3 h4
  obtain ⟨⟨hx, hb, hml, hown, hts⟩, hK, hre, hlk, hA⟩ := id hc
  exact lv_tableOut hx hb hd h ht (kk hc ls H locs h1 h2 h3 h4)
theorem L_ret (hd : decode code pc = .ok (.ireturn, 1)) : V p l e room_1 s m #[Value.ref b] below meth c R_law lw_tbl code 4 ret D (xty kx ++ mty km) (fun q : Nat => s.heap.size ≤ q) (fun z : XS × XS => xw qx kx z.1 ++ mw qm km z.2) 15 558 (lw_Z below #[Value.ref b] s) (pc) (lo) ([.int 1]) (z) := by
  intro hc ls H locs h1 h2 h3 h4
  obtain ⟨⟨hx, hb, hml, hown, hts⟩, hK, hre, hlk, hA⟩ := id hc
  refine va_forget (fun q hq => h4.2.2 q hq) ?_
  exact lw_ret hx hb hre hlk hd
set_option maxHeartbeats 4000000 in
theorem L_callXi {y : MethodName} {bb : ByteArray} {nn : Nat} {rr : Option FieldType} {rm : Room} {As rest st : List Value} {post : Int32 → XS → Prop} {idx : Nat} (hM : Mi wX xw xty y bb nn rr rm As z.1 post) (hg : GoodIn lw_tbl (wsV R_law idx R_X y (.code y bb nn rr :: wX)))
    (hy : y.cls = R_X ∧ y.cls ≠ "java/lang/invoke/MethodHandle" ∧ y.cls ≠ "java/lang/invoke/VarHandle" ∧ (parseMethodDescriptor y.desc).map (fun d => d.parameters.length) = some As.length) (hrm : rm.cells = 0 ∧ rm.slots = 0) (hR : rm.frames + 1 ≤ room_1.frames ∧ 8 + (nn + 11) + rm.locals ≤ room_1.locals) (hrest : (rest.map fun v => v.category).sum ≤ 8) (hst : st = As.reverse ++ .ref (qx 0) :: rest) (hd : decode code pc = .ok (.invokevirtual idx, 3))
    (kk : ∀ (r : Int32) (u2 : XS), post r u2 → V p l e room_1 s m #[Value.ref b] below meth c R_law lw_tbl code 4 ret D (xty kx ++ mty km) (fun q : Nat => s.heap.size ≤ q) (fun z : XS × XS => xw qx kx z.1 ++ mw qm km z.2) 15 558 (lw_Z below #[Value.ref b] s) (pc + 3) (lo) (.int r :: rest) ((u2, z.2))) : V p l e room_1 s m #[Value.ref b] below meth c R_law lw_tbl code 4 ret D (xty kx ++ mty km) (fun q : Nat => s.heap.size ≤ q) (fun z : XS × XS => xw qx kx z.1 ++ mw qm km z.2) 15 558 (lw_Z below #[Value.ref b] s) (pc) (lo) (st) (z) := by
  intro hc ls H locs h1 h2 h3 h4
  obtain ⟨⟨hx, hb, hml, hown, hts⟩, hK, hre, hlk, hA⟩ := id hc
  subst hst
  have hPc := h2.sub (ws' := xw qx kx z.1) [0, 1, 2, 3, 4, 5, 6, 7, 8, 9, 10, 11, 12] rfl
  have hDc := h3.sub (ws' := xw qx kx z.1) [0, 1, 2, 3, 4, 5, 6, 7, 8, 9, 10, 11, 12] (by decide) rfl
  have hKc := hK.sub (tys' := xty kx) [0, 1, 2, 3, 4, 5, 6, 7, 8, 9, 10, 11] rfl
  have hFc := va_free (wc := xw qx kx z.1) h3 h4 hA [0, 1, 2, 3, 4, 5, 6, 7, 8, 9, 10, 11, 12] rfl
  refine va_calli (va_runV (As := As) (rest := rest) ⟨hx, hb, hml, hown, hts⟩ (hM l D qx kx H.size) (cwV As.length hts hg rfl hrm.1 hrm.2 hy hR) ⟨fun a U g mk q9 => by obtain ⟨q0, q1, qP, qK, qD⟩ := q9; exact ⟨q0, q1, qP, va_K.moved (u := U) (U := U.calling g mk a) (Vm.Alike.refl U.vm) qK, qD⟩, va_recv hKc hPc (ci := 0) (q := (R_X, F_X, 20)) (q0 := 0) rfl rfl, fun U hU hW => ⟨rfl, by rw [hU], by rw [hU]; exact hPc, va_K.moved hW.alike hKc, hDc.weaken (fun _ _ _ _ => trivial)⟩⟩ rfl rfl h1.1 rfl (lv_room hrest) hd ⟨Nat.le_of_ble_eq_true rfl, Nat.le_of_ble_eq_true rfl⟩) h4 (fun q' _ h => hFc q' h) hFc (fun r u2 t H1 locs1 ht hvm hp hB hz1 hk1 hS1 => ?_)
  obtain ⟨hP1, hK1, hD1⟩ := hB
  rw [ht] at hP1
  obtain ⟨hP, hD⟩ := va_join (wr := mw qm km z.2) (w1 := xw qx kx u2) h2 h3 [0, 1, 2, 3, 4, 5, 6, 7, 8, 9, 10, 11, 12] [13, 14] rfl rfl (by decide) (by decide) hk1 hFc hP1 hD1
  exact kk r u2 hp hc ls H1 locs1 h1 (hP.sub [2, 3, 4, 5, 6, 7, 8, 9, 10, 11, 12, 13, 14, 0, 1] rfl) (hD.sub [2, 3, 4, 5, 6, 7, 8, 9, 10, 11, 12, 13, 14, 0, 1] (by decide) rfl) hS1
set_option maxHeartbeats 4000000 in
theorem L_callXv {y : MethodName} {bb : ByteArray} {nn : Nat} {rr : Option FieldType} {rm : Room} {As rest st : List Value} {post : XS → Prop} {idx : Nat} (hM : Mv wX xw xty y bb nn rr rm As z.1 post) (hg : GoodIn lw_tbl (wsV R_law idx R_X y (.code y bb nn rr :: wX)))
    (hy : y.cls = R_X ∧ y.cls ≠ "java/lang/invoke/MethodHandle" ∧ y.cls ≠ "java/lang/invoke/VarHandle" ∧ (parseMethodDescriptor y.desc).map (fun d => d.parameters.length) = some As.length) (hrm : rm.cells = 0 ∧ rm.slots = 0) (hR : rm.frames + 1 ≤ room_1.frames ∧ 8 + (nn + 11) + rm.locals ≤ room_1.locals) (hrest : (rest.map fun v => v.category).sum ≤ 8) (hst : st = As.reverse ++ .ref (qx 0) :: rest) (hd : decode code pc = .ok (.invokevirtual idx, 3))
    (kk : ∀ (u2 : XS), post u2 → V p l e room_1 s m #[Value.ref b] below meth c R_law lw_tbl code 4 ret D (xty kx ++ mty km) (fun q : Nat => s.heap.size ≤ q) (fun z : XS × XS => xw qx kx z.1 ++ mw qm km z.2) 15 558 (lw_Z below #[Value.ref b] s) (pc + 3) (lo) (rest) ((u2, z.2))) : V p l e room_1 s m #[Value.ref b] below meth c R_law lw_tbl code 4 ret D (xty kx ++ mty km) (fun q : Nat => s.heap.size ≤ q) (fun z : XS × XS => xw qx kx z.1 ++ mw qm km z.2) 15 558 (lw_Z below #[Value.ref b] s) (pc) (lo) (st) (z) := by
  intro hc ls H locs h1 h2 h3 h4
  obtain ⟨⟨hx, hb, hml, hown, hts⟩, hK, hre, hlk, hA⟩ := id hc
  subst hst
  have hPc := h2.sub (ws' := xw qx kx z.1) [0, 1, 2, 3, 4, 5, 6, 7, 8, 9, 10, 11, 12] rfl
  have hDc := h3.sub (ws' := xw qx kx z.1) [0, 1, 2, 3, 4, 5, 6, 7, 8, 9, 10, 11, 12] (by decide) rfl
  have hKc := hK.sub (tys' := xty kx) [0, 1, 2, 3, 4, 5, 6, 7, 8, 9, 10, 11] rfl
  have hFc := va_free (wc := xw qx kx z.1) h3 h4 hA [0, 1, 2, 3, 4, 5, 6, 7, 8, 9, 10, 11, 12] rfl
  refine va_callv (va_runV (As := As) (rest := rest) ⟨hx, hb, hml, hown, hts⟩ (hM l D qx kx H.size) (cwV As.length hts hg rfl hrm.1 hrm.2 hy hR) ⟨fun a U g mk q9 => by obtain ⟨q0, q1, qP, qK, qD⟩ := q9; exact ⟨q0, q1, qP, va_K.moved (u := U) (U := U.calling g mk a) (Vm.Alike.refl U.vm) qK, qD⟩, va_recv hKc hPc (ci := 0) (q := (R_X, F_X, 20)) (q0 := 0) rfl rfl, fun U hU hW => ⟨rfl, by rw [hU], by rw [hU]; exact hPc, va_K.moved hW.alike hKc, hDc.weaken (fun _ _ _ _ => trivial)⟩⟩ rfl rfl h1.1 rfl (lv_room hrest) hd ⟨Nat.le_of_ble_eq_true rfl, Nat.le_of_ble_eq_true rfl⟩) h4 (fun q' _ h => hFc q' h) hFc (fun u2 t H1 locs1 ht hvm hp hB hz1 hk1 hS1 => ?_)
  obtain ⟨hP1, hK1, hD1⟩ := hB
  rw [ht] at hP1
  obtain ⟨hP, hD⟩ := va_join (wr := mw qm km z.2) (w1 := xw qx kx u2) h2 h3 [0, 1, 2, 3, 4, 5, 6, 7, 8, 9, 10, 11, 12] [13, 14] rfl rfl (by decide) (by decide) hk1 hFc hP1 hD1
  exact kk u2 hp hc ls H1 locs1 h1 (hP.sub [2, 3, 4, 5, 6, 7, 8, 9, 10, 11, 12, 13, 14, 0, 1] rfl) (hD.sub [2, 3, 4, 5, 6, 7, 8, 9, 10, 11, 12, 13, 14, 0, 1] (by decide) rfl) hS1
set_option maxHeartbeats 4000000 in
theorem L_callMi {y : MethodName} {bb : ByteArray} {nn : Nat} {rr : Option FieldType} {rm : Room} {As rest st : List Value} {post : Int32 → XS → Prop} {idx : Nat} (hM : Mi wM mw mty y bb nn rr rm As z.2 post) (hg : GoodIn lw_tbl (wsV R_law idx R_M y (.code y bb nn rr :: wM)))
    (hy : y.cls = R_M ∧ y.cls ≠ "java/lang/invoke/MethodHandle" ∧ y.cls ≠ "java/lang/invoke/VarHandle" ∧ (parseMethodDescriptor y.desc).map (fun d => d.parameters.length) = some As.length) (hrm : rm.cells = 0 ∧ rm.slots = 0) (hR : rm.frames + 1 ≤ room_1.frames ∧ 8 + (nn + 11) + rm.locals ≤ room_1.locals) (hrest : (rest.map fun v => v.category).sum ≤ 8) (hst : st = As.reverse ++ .ref (qm 0) :: rest) (hd : decode code pc = .ok (.invokevirtual idx, 3))
    (kk : ∀ (r : Int32) (u2 : XS), post r u2 → V p l e room_1 s m #[Value.ref b] below meth c R_law lw_tbl code 4 ret D (xty kx ++ mty km) (fun q : Nat => s.heap.size ≤ q) (fun z : XS × XS => xw qx kx z.1 ++ mw qm km z.2) 15 558 (lw_Z below #[Value.ref b] s) (pc + 3) (lo) (.int r :: rest) ((z.1, u2))) : V p l e room_1 s m #[Value.ref b] below meth c R_law lw_tbl code 4 ret D (xty kx ++ mty km) (fun q : Nat => s.heap.size ≤ q) (fun z : XS × XS => xw qx kx z.1 ++ mw qm km z.2) 15 558 (lw_Z below #[Value.ref b] s) (pc) (lo) (st) (z) := by
  intro hc ls H locs h1 h2 h3 h4
  obtain ⟨⟨hx, hb, hml, hown, hts⟩, hK, hre, hlk, hA⟩ := id hc
  subst hst
  have hPc := h2.sub (ws' := mw qm km z.2) [13, 14] rfl
  have hDc := h3.sub (ws' := mw qm km z.2) [13, 14] (by decide) rfl
  have hKc := hK.sub (tys' := mty km) [12] rfl
  have hFc := va_free (wc := mw qm km z.2) h3 h4 hA [13, 14] rfl
  refine va_calli (va_runV (As := As) (rest := rest) ⟨hx, hb, hml, hown, hts⟩ (hM l D qm km H.size) (cwV As.length hts hg rfl hrm.1 hrm.2 hy hR) ⟨fun a U g mk q9 => by obtain ⟨q0, q1, qP, qK, qD⟩ := q9; exact ⟨q0, q1, qP, va_K.moved (u := U) (U := U.calling g mk a) (Vm.Alike.refl U.vm) qK, qD⟩, va_recv hKc hPc (ci := 1) (q := (R_M, F_M, 4)) (q0 := 0) rfl rfl, fun U hU hW => ⟨rfl, by rw [hU], by rw [hU]; exact hPc, va_K.moved hW.alike hKc, hDc.weaken (fun _ _ _ _ => trivial)⟩⟩ rfl rfl h1.1 rfl (lv_room hrest) hd ⟨Nat.le_of_ble_eq_true rfl, Nat.le_of_ble_eq_true rfl⟩) h4 (fun q' _ h => hFc q' h) hFc (fun r u2 t H1 locs1 ht hvm hp hB hz1 hk1 hS1 => ?_)
  obtain ⟨hP1, hK1, hD1⟩ := hB
  rw [ht] at hP1
  obtain ⟨hP, hD⟩ := va_join (wr := xw qx kx z.1) (w1 := mw qm km u2) h2 h3 [13, 14] [0, 1, 2, 3, 4, 5, 6, 7, 8, 9, 10, 11, 12] rfl rfl (by decide) (by decide) hk1 hFc hP1 hD1
  exact kk r u2 hp hc ls H1 locs1 h1 (hP.sub [0, 1, 2, 3, 4, 5, 6, 7, 8, 9, 10, 11, 12, 13, 14] rfl) (hD.sub [0, 1, 2, 3, 4, 5, 6, 7, 8, 9, 10, 11, 12, 13, 14] (by decide) rfl) hS1
set_option maxHeartbeats 4000000 in
theorem L_callMv {y : MethodName} {bb : ByteArray} {nn : Nat} {rr : Option FieldType} {rm : Room} {As rest st : List Value} {post : XS → Prop} {idx : Nat} (hM : Mv wM mw mty y bb nn rr rm As z.2 post) (hg : GoodIn lw_tbl (wsV R_law idx R_M y (.code y bb nn rr :: wM)))
    (hy : y.cls = R_M ∧ y.cls ≠ "java/lang/invoke/MethodHandle" ∧ y.cls ≠ "java/lang/invoke/VarHandle" ∧ (parseMethodDescriptor y.desc).map (fun d => d.parameters.length) = some As.length) (hrm : rm.cells = 0 ∧ rm.slots = 0) (hR : rm.frames + 1 ≤ room_1.frames ∧ 8 + (nn + 11) + rm.locals ≤ room_1.locals) (hrest : (rest.map fun v => v.category).sum ≤ 8) (hst : st = As.reverse ++ .ref (qm 0) :: rest) (hd : decode code pc = .ok (.invokevirtual idx, 3))
    (kk : ∀ (u2 : XS), post u2 → V p l e room_1 s m #[Value.ref b] below meth c R_law lw_tbl code 4 ret D (xty kx ++ mty km) (fun q : Nat => s.heap.size ≤ q) (fun z : XS × XS => xw qx kx z.1 ++ mw qm km z.2) 15 558 (lw_Z below #[Value.ref b] s) (pc + 3) (lo) (rest) ((z.1, u2))) : V p l e room_1 s m #[Value.ref b] below meth c R_law lw_tbl code 4 ret D (xty kx ++ mty km) (fun q : Nat => s.heap.size ≤ q) (fun z : XS × XS => xw qx kx z.1 ++ mw qm km z.2) 15 558 (lw_Z below #[Value.ref b] s) (pc) (lo) (st) (z) := by
  intro hc ls H locs h1 h2 h3 h4
  obtain ⟨⟨hx, hb, hml, hown, hts⟩, hK, hre, hlk, hA⟩ := id hc
  subst hst
  have hPc := h2.sub (ws' := mw qm km z.2) [13, 14] rfl
  have hDc := h3.sub (ws' := mw qm km z.2) [13, 14] (by decide) rfl
  have hKc := hK.sub (tys' := mty km) [12] rfl
  have hFc := va_free (wc := mw qm km z.2) h3 h4 hA [13, 14] rfl
  refine va_callv (va_runV (As := As) (rest := rest) ⟨hx, hb, hml, hown, hts⟩ (hM l D qm km H.size) (cwV As.length hts hg rfl hrm.1 hrm.2 hy hR) ⟨fun a U g mk q9 => by obtain ⟨q0, q1, qP, qK, qD⟩ := q9; exact ⟨q0, q1, qP, va_K.moved (u := U) (U := U.calling g mk a) (Vm.Alike.refl U.vm) qK, qD⟩, va_recv hKc hPc (ci := 1) (q := (R_M, F_M, 4)) (q0 := 0) rfl rfl, fun U hU hW => ⟨rfl, by rw [hU], by rw [hU]; exact hPc, va_K.moved hW.alike hKc, hDc.weaken (fun _ _ _ _ => trivial)⟩⟩ rfl rfl h1.1 rfl (lv_room hrest) hd ⟨Nat.le_of_ble_eq_true rfl, Nat.le_of_ble_eq_true rfl⟩) h4 (fun q' _ h => hFc q' h) hFc (fun u2 t H1 locs1 ht hvm hp hB hz1 hk1 hS1 => ?_)
  obtain ⟨hP1, hK1, hD1⟩ := hB
  rw [ht] at hP1
  obtain ⟨hP, hD⟩ := va_join (wr := xw qx kx z.1) (w1 := mw qm km u2) h2 h3 [13, 14] [0, 1, 2, 3, 4, 5, 6, 7, 8, 9, 10, 11, 12] rfl rfl (by decide) (by decide) hk1 hFc hP1 hD1
  exact kk u2 hp hc ls H1 locs1 h1 (hP.sub [0, 1, 2, 3, 4, 5, 6, 7, 8, 9, 10, 11, 12, 13, 14] rfl) (hD.sub [0, 1, 2, 3, 4, 5, 6, 7, 8, 9, 10, 11, 12, 13, 14] (by decide) rfl) hS1
theorem hy_X_pair : y_X_pair.cls = R_X ∧ y_X_pair.cls ≠ "java/lang/invoke/MethodHandle" ∧ y_X_pair.cls ≠ "java/lang/invoke/VarHandle" ∧ (parseMethodDescriptor y_X_pair.desc).map (fun d => d.parameters.length) = some 2 := by decide +kernel
theorem l_X_pair {a1 a2 : Int32} {post : Int32 → XS → Prop} (hM : C_X_pair [.int a1, .int a2] z.1 post) (hrest : (st.map fun v => v.category).sum ≤ 8) (hd : decode code pc = .ok (.invokevirtual 13, 3)) (kk : ∀ (r : Int32) (u2 : XS), post r u2 → V p l e room_1 s m #[Value.ref b] below meth c R_law lw_tbl code 4 ret D (xty kx ++ mty km) (fun q : Nat => s.heap.size ≤ q) (fun z : XS × XS => xw qx kx z.1 ++ mw qm km z.2) 15 558 (lw_Z below #[Value.ref b] s) (pc + 3) (lo) (.int r :: st) ((u2, z.2))) : V p l e room_1 s m #[Value.ref b] below meth c R_law lw_tbl code 4 ret D (xty kx ++ mty km) (fun q : Nat => s.heap.size ≤ q) (fun z : XS × XS => xw qx kx z.1 ++ mw qm km z.2) 15 558 (lw_Z below #[Value.ref b] s) (pc) (lo) (.int a2 :: .int a1 :: .ref (qx 0) :: st) (z) :=
  L_callXi (rest := st) hM gl_X_pair hy_X_pair ⟨rfl, rfl⟩ ⟨Nat.le_of_ble_eq_true rfl, Nat.le_of_ble_eq_true rfl⟩ hrest rfl hd kk
theorem hy_M_pair : y_M_pair.cls = R_M ∧ y_M_pair.cls ≠ "java/lang/invoke/MethodHandle" ∧ y_M_pair.cls ≠ "java/lang/invoke/VarHandle" ∧ (parseMethodDescriptor y_M_pair.desc).map (fun d => d.parameters.length) = some 2 := by decide +kernel
theorem l_M_pair {a1 a2 : Int32} {post : Int32 → XS → Prop} (hM : C_M_pair [.int a1, .int a2] z.2 post) (hrest : (st.map fun v => v.category).sum ≤ 8) (hd : decode code pc = .ok (.invokevirtual 17, 3)) (kk : ∀ (r : Int32) (u2 : XS), post r u2 → V p l e room_1 s m #[Value.ref b] below meth c R_law lw_tbl code 4 ret D (xty kx ++ mty km) (fun q : Nat => s.heap.size ≤ q) (fun z : XS × XS => xw qx kx z.1 ++ mw qm km z.2) 15 558 (lw_Z below #[Value.ref b] s) (pc + 3) (lo) (.int r :: st) ((z.1, u2))) : V p l e room_1 s m #[Value.ref b] below meth c R_law lw_tbl code 4 ret D (xty kx ++ mty km) (fun q : Nat => s.heap.size ≤ q) (fun z : XS × XS => xw qx kx z.1 ++ mw qm km z.2) 15 558 (lw_Z below #[Value.ref b] s) (pc) (lo) (.int a2 :: .int a1 :: .ref (qm 0) :: st) (z) :=
  L_callMi (rest := st) hM gl_M_pair hy_M_pair ⟨rfl, rfl⟩ ⟨Nat.le_of_ble_eq_true rfl, Nat.le_of_ble_eq_true rfl⟩ hrest rfl hd kk
theorem hy_X_cat : y_X_cat.cls = R_X ∧ y_X_cat.cls ≠ "java/lang/invoke/MethodHandle" ∧ y_X_cat.cls ≠ "java/lang/invoke/VarHandle" ∧ (parseMethodDescriptor y_X_cat.desc).map (fun d => d.parameters.length) = some 0 := by decide +kernel
theorem l_X_cat {post : Int32 → XS → Prop} (hM : C_X_cat [] z.1 post) (hrest : (st.map fun v => v.category).sum ≤ 8) (hd : decode code pc = .ok (.invokevirtual 18, 3)) (kk : ∀ (r : Int32) (u2 : XS), post r u2 → V p l e room_1 s m #[Value.ref b] below meth c R_law lw_tbl code 4 ret D (xty kx ++ mty km) (fun q : Nat => s.heap.size ≤ q) (fun z : XS × XS => xw qx kx z.1 ++ mw qm km z.2) 15 558 (lw_Z below #[Value.ref b] s) (pc + 3) (lo) (.int r :: st) ((u2, z.2))) : V p l e room_1 s m #[Value.ref b] below meth c R_law lw_tbl code 4 ret D (xty kx ++ mty km) (fun q : Nat => s.heap.size ≤ q) (fun z : XS × XS => xw qx kx z.1 ++ mw qm km z.2) 15 558 (lw_Z below #[Value.ref b] s) (pc) (lo) (.ref (qx 0) :: st) (z) :=
  L_callXi (rest := st) hM gl_X_cat hy_X_cat ⟨rfl, rfl⟩ ⟨Nat.le_of_ble_eq_true rfl, Nat.le_of_ble_eq_true rfl⟩ hrest rfl hd kk
theorem hy_M_cat : y_M_cat.cls = R_M ∧ y_M_cat.cls ≠ "java/lang/invoke/MethodHandle" ∧ y_M_cat.cls ≠ "java/lang/invoke/VarHandle" ∧ (parseMethodDescriptor y_M_cat.desc).map (fun d => d.parameters.length) = some 0 := by decide +kernel
theorem l_M_cat {post : Int32 → XS → Prop} (hM : C_M_cat [] z.2 post) (hrest : (st.map fun v => v.category).sum ≤ 8) (hd : decode code pc = .ok (.invokevirtual 22, 3)) (kk : ∀ (r : Int32) (u2 : XS), post r u2 → V p l e room_1 s m #[Value.ref b] below meth c R_law lw_tbl code 4 ret D (xty kx ++ mty km) (fun q : Nat => s.heap.size ≤ q) (fun z : XS × XS => xw qx kx z.1 ++ mw qm km z.2) 15 558 (lw_Z below #[Value.ref b] s) (pc + 3) (lo) (.int r :: st) ((z.1, u2))) : V p l e room_1 s m #[Value.ref b] below meth c R_law lw_tbl code 4 ret D (xty kx ++ mty km) (fun q : Nat => s.heap.size ≤ q) (fun z : XS × XS => xw qx kx z.1 ++ mw qm km z.2) 15 558 (lw_Z below #[Value.ref b] s) (pc) (lo) (.ref (qm 0) :: st) (z) :=
  L_callMi (rest := st) hM gl_M_cat hy_M_cat ⟨rfl, rfl⟩ ⟨Nat.le_of_ble_eq_true rfl, Nat.le_of_ble_eq_true rfl⟩ hrest rfl hd kk
theorem hy_X_alt : y_X_alt.cls = R_X ∧ y_X_alt.cls ≠ "java/lang/invoke/MethodHandle" ∧ y_X_alt.cls ≠ "java/lang/invoke/VarHandle" ∧ (parseMethodDescriptor y_X_alt.desc).map (fun d => d.parameters.length) = some 0 := by decide +kernel
theorem l_X_alt {post : Int32 → XS → Prop} (hM : C_X_alt [] z.1 post) (hrest : (st.map fun v => v.category).sum ≤ 8) (hd : decode code pc = .ok (.invokevirtual 23, 3)) (kk : ∀ (r : Int32) (u2 : XS), post r u2 → V p l e room_1 s m #[Value.ref b] below meth c R_law lw_tbl code 4 ret D (xty kx ++ mty km) (fun q : Nat => s.heap.size ≤ q) (fun z : XS × XS => xw qx kx z.1 ++ mw qm km z.2) 15 558 (lw_Z below #[Value.ref b] s) (pc + 3) (lo) (.int r :: st) ((u2, z.2))) : V p l e room_1 s m #[Value.ref b] below meth c R_law lw_tbl code 4 ret D (xty kx ++ mty km) (fun q : Nat => s.heap.size ≤ q) (fun z : XS × XS => xw qx kx z.1 ++ mw qm km z.2) 15 558 (lw_Z below #[Value.ref b] s) (pc) (lo) (.ref (qx 0) :: st) (z) :=
  L_callXi (rest := st) hM gl_X_alt hy_X_alt ⟨rfl, rfl⟩ ⟨Nat.le_of_ble_eq_true rfl, Nat.le_of_ble_eq_true rfl⟩ hrest rfl hd kk
theorem hy_M_alt : y_M_alt.cls = R_M ∧ y_M_alt.cls ≠ "java/lang/invoke/MethodHandle" ∧ y_M_alt.cls ≠ "java/lang/invoke/VarHandle" ∧ (parseMethodDescriptor y_M_alt.desc).map (fun d => d.parameters.length) = some 0 := by decide +kernel
theorem l_M_alt {post : Int32 → XS → Prop} (hM : C_M_alt [] z.2 post) (hrest : (st.map fun v => v.category).sum ≤ 8) (hd : decode code pc = .ok (.invokevirtual 26, 3)) (kk : ∀ (r : Int32) (u2 : XS), post r u2 → V p l e room_1 s m #[Value.ref b] below meth c R_law lw_tbl code 4 ret D (xty kx ++ mty km) (fun q : Nat => s.heap.size ≤ q) (fun z : XS × XS => xw qx kx z.1 ++ mw qm km z.2) 15 558 (lw_Z below #[Value.ref b] s) (pc + 3) (lo) (.int r :: st) ((z.1, u2))) : V p l e room_1 s m #[Value.ref b] below meth c R_law lw_tbl code 4 ret D (xty kx ++ mty km) (fun q : Nat => s.heap.size ≤ q) (fun z : XS × XS => xw qx kx z.1 ++ mw qm km z.2) 15 558 (lw_Z below #[Value.ref b] s) (pc) (lo) (.ref (qm 0) :: st) (z) :=
  L_callMi (rest := st) hM gl_M_alt hy_M_alt ⟨rfl, rfl⟩ ⟨Nat.le_of_ble_eq_true rfl, Nat.le_of_ble_eq_true rfl⟩ hrest rfl hd kk
theorem hy_X_star : y_X_star.cls = R_X ∧ y_X_star.cls ≠ "java/lang/invoke/MethodHandle" ∧ y_X_star.cls ≠ "java/lang/invoke/VarHandle" ∧ (parseMethodDescriptor y_X_star.desc).map (fun d => d.parameters.length) = some 0 := by decide +kernel
theorem l_X_star {post : Int32 → XS → Prop} (hM : C_X_star [] z.1 post) (hrest : (st.map fun v => v.category).sum ≤ 8) (hd : decode code pc = .ok (.invokevirtual 27, 3)) (kk : ∀ (r : Int32) (u2 : XS), post r u2 → V p l e room_1 s m #[Value.ref b] below meth c R_law lw_tbl code 4 ret D (xty kx ++ mty km) (fun q : Nat => s.heap.size ≤ q) (fun z : XS × XS => xw qx kx z.1 ++ mw qm km z.2) 15 558 (lw_Z below #[Value.ref b] s) (pc + 3) (lo) (.int r :: st) ((u2, z.2))) : V p l e room_1 s m #[Value.ref b] below meth c R_law lw_tbl code 4 ret D (xty kx ++ mty km) (fun q : Nat => s.heap.size ≤ q) (fun z : XS × XS => xw qx kx z.1 ++ mw qm km z.2) 15 558 (lw_Z below #[Value.ref b] s) (pc) (lo) (.ref (qx 0) :: st) (z) :=
  L_callXi (rest := st) hM gl_X_star hy_X_star ⟨rfl, rfl⟩ ⟨Nat.le_of_ble_eq_true rfl, Nat.le_of_ble_eq_true rfl⟩ hrest rfl hd kk
theorem hy_M_star : y_M_star.cls = R_M ∧ y_M_star.cls ≠ "java/lang/invoke/MethodHandle" ∧ y_M_star.cls ≠ "java/lang/invoke/VarHandle" ∧ (parseMethodDescriptor y_M_star.desc).map (fun d => d.parameters.length) = some 0 := by decide +kernel
theorem l_M_star {post : Int32 → XS → Prop} (hM : C_M_star [] z.2 post) (hrest : (st.map fun v => v.category).sum ≤ 8) (hd : decode code pc = .ok (.invokevirtual 30, 3)) (kk : ∀ (r : Int32) (u2 : XS), post r u2 → V p l e room_1 s m #[Value.ref b] below meth c R_law lw_tbl code 4 ret D (xty kx ++ mty km) (fun q : Nat => s.heap.size ≤ q) (fun z : XS × XS => xw qx kx z.1 ++ mw qm km z.2) 15 558 (lw_Z below #[Value.ref b] s) (pc + 3) (lo) (.int r :: st) ((z.1, u2))) : V p l e room_1 s m #[Value.ref b] below meth c R_law lw_tbl code 4 ret D (xty kx ++ mty km) (fun q : Nat => s.heap.size ≤ q) (fun z : XS × XS => xw qx kx z.1 ++ mw qm km z.2) 15 558 (lw_Z below #[Value.ref b] s) (pc) (lo) (.ref (qm 0) :: st) (z) :=
  L_callMi (rest := st) hM gl_M_star hy_M_star ⟨rfl, rfl⟩ ⟨Nat.le_of_ble_eq_true rfl, Nat.le_of_ble_eq_true rfl⟩ hrest rfl hd kk
theorem hy_X_turn : y_X_turn.cls = R_X ∧ y_X_turn.cls ≠ "java/lang/invoke/MethodHandle" ∧ y_X_turn.cls ≠ "java/lang/invoke/VarHandle" ∧ (parseMethodDescriptor y_X_turn.desc).map (fun d => d.parameters.length) = some 0 := by decide +kernel
theorem l_X_turn {post : Int32 → XS → Prop} (hM : C_X_turn [] z.1 post) (hrest : (st.map fun v => v.category).sum ≤ 8) (hd : decode code pc = .ok (.invokevirtual 31, 3)) (kk : ∀ (r : Int32) (u2 : XS), post r u2 → V p l e room_1 s m #[Value.ref b] below meth c R_law lw_tbl code 4 ret D (xty kx ++ mty km) (fun q : Nat => s.heap.size ≤ q) (fun z : XS × XS => xw qx kx z.1 ++ mw qm km z.2) 15 558 (lw_Z below #[Value.ref b] s) (pc + 3) (lo) (.int r :: st) ((u2, z.2))) : V p l e room_1 s m #[Value.ref b] below meth c R_law lw_tbl code 4 ret D (xty kx ++ mty km) (fun q : Nat => s.heap.size ≤ q) (fun z : XS × XS => xw qx kx z.1 ++ mw qm km z.2) 15 558 (lw_Z below #[Value.ref b] s) (pc) (lo) (.ref (qx 0) :: st) (z) :=
  L_callXi (rest := st) hM gl_X_turn hy_X_turn ⟨rfl, rfl⟩ ⟨Nat.le_of_ble_eq_true rfl, Nat.le_of_ble_eq_true rfl⟩ hrest rfl hd kk
theorem hy_M_turn : y_M_turn.cls = R_M ∧ y_M_turn.cls ≠ "java/lang/invoke/MethodHandle" ∧ y_M_turn.cls ≠ "java/lang/invoke/VarHandle" ∧ (parseMethodDescriptor y_M_turn.desc).map (fun d => d.parameters.length) = some 0 := by decide +kernel
theorem l_M_turn {post : Int32 → XS → Prop} (hM : C_M_turn [] z.2 post) (hrest : (st.map fun v => v.category).sum ≤ 8) (hd : decode code pc = .ok (.invokevirtual 34, 3)) (kk : ∀ (r : Int32) (u2 : XS), post r u2 → V p l e room_1 s m #[Value.ref b] below meth c R_law lw_tbl code 4 ret D (xty kx ++ mty km) (fun q : Nat => s.heap.size ≤ q) (fun z : XS × XS => xw qx kx z.1 ++ mw qm km z.2) 15 558 (lw_Z below #[Value.ref b] s) (pc + 3) (lo) (.int r :: st) ((z.1, u2))) : V p l e room_1 s m #[Value.ref b] below meth c R_law lw_tbl code 4 ret D (xty kx ++ mty km) (fun q : Nat => s.heap.size ≤ q) (fun z : XS × XS => xw qx kx z.1 ++ mw qm km z.2) 15 558 (lw_Z below #[Value.ref b] s) (pc) (lo) (.ref (qm 0) :: st) (z) :=
  L_callMi (rest := st) hM gl_M_turn hy_M_turn ⟨rfl, rfl⟩ ⟨Nat.le_of_ble_eq_true rfl, Nat.le_of_ble_eq_true rfl⟩ hrest rfl hd kk
theorem hy_X_steps : y_X_steps.cls = R_X ∧ y_X_steps.cls ≠ "java/lang/invoke/MethodHandle" ∧ y_X_steps.cls ≠ "java/lang/invoke/VarHandle" ∧ (parseMethodDescriptor y_X_steps.desc).map (fun d => d.parameters.length) = some 0 := by decide +kernel
theorem l_X_steps {post : Int32 → XS → Prop} (hM : C_X_steps [] z.1 post) (hrest : (st.map fun v => v.category).sum ≤ 8) (hd : decode code pc = .ok (.invokevirtual 35, 3)) (kk : ∀ (r : Int32) (u2 : XS), post r u2 → V p l e room_1 s m #[Value.ref b] below meth c R_law lw_tbl code 4 ret D (xty kx ++ mty km) (fun q : Nat => s.heap.size ≤ q) (fun z : XS × XS => xw qx kx z.1 ++ mw qm km z.2) 15 558 (lw_Z below #[Value.ref b] s) (pc + 3) (lo) (.int r :: st) ((u2, z.2))) : V p l e room_1 s m #[Value.ref b] below meth c R_law lw_tbl code 4 ret D (xty kx ++ mty km) (fun q : Nat => s.heap.size ≤ q) (fun z : XS × XS => xw qx kx z.1 ++ mw qm km z.2) 15 558 (lw_Z below #[Value.ref b] s) (pc) (lo) (.ref (qx 0) :: st) (z) :=
  L_callXi (rest := st) hM gl_X_steps hy_X_steps ⟨rfl, rfl⟩ ⟨Nat.le_of_ble_eq_true rfl, Nat.le_of_ble_eq_true rfl⟩ hrest rfl hd kk
theorem hy_M_steps : y_M_steps.cls = R_M ∧ y_M_steps.cls ≠ "java/lang/invoke/MethodHandle" ∧ y_M_steps.cls ≠ "java/lang/invoke/VarHandle" ∧ (parseMethodDescriptor y_M_steps.desc).map (fun d => d.parameters.length) = some 0 := by decide +kernel
theorem l_M_steps {post : Int32 → XS → Prop} (hM : C_M_steps [] z.2 post) (hrest : (st.map fun v => v.category).sum ≤ 8) (hd : decode code pc = .ok (.invokevirtual 38, 3)) (kk : ∀ (r : Int32) (u2 : XS), post r u2 → V p l e room_1 s m #[Value.ref b] below meth c R_law lw_tbl code 4 ret D (xty kx ++ mty km) (fun q : Nat => s.heap.size ≤ q) (fun z : XS × XS => xw qx kx z.1 ++ mw qm km z.2) 15 558 (lw_Z below #[Value.ref b] s) (pc + 3) (lo) (.int r :: st) ((z.1, u2))) : V p l e room_1 s m #[Value.ref b] below meth c R_law lw_tbl code 4 ret D (xty kx ++ mty km) (fun q : Nat => s.heap.size ≤ q) (fun z : XS × XS => xw qx kx z.1 ++ mw qm km z.2) 15 558 (lw_Z below #[Value.ref b] s) (pc) (lo) (.ref (qm 0) :: st) (z) :=
  L_callMi (rest := st) hM gl_M_steps hy_M_steps ⟨rfl, rfl⟩ ⟨Nat.le_of_ble_eq_true rfl, Nat.le_of_ble_eq_true rfl⟩ hrest rfl hd kk
theorem hy_X_depth : y_X_depth.cls = R_X ∧ y_X_depth.cls ≠ "java/lang/invoke/MethodHandle" ∧ y_X_depth.cls ≠ "java/lang/invoke/VarHandle" ∧ (parseMethodDescriptor y_X_depth.desc).map (fun d => d.parameters.length) = some 0 := by decide +kernel
theorem l_X_depth {post : Int32 → XS → Prop} (hM : C_X_depth [] z.1 post) (hrest : (st.map fun v => v.category).sum ≤ 8) (hd : decode code pc = .ok (.invokevirtual 39, 3)) (kk : ∀ (r : Int32) (u2 : XS), post r u2 → V p l e room_1 s m #[Value.ref b] below meth c R_law lw_tbl code 4 ret D (xty kx ++ mty km) (fun q : Nat => s.heap.size ≤ q) (fun z : XS × XS => xw qx kx z.1 ++ mw qm km z.2) 15 558 (lw_Z below #[Value.ref b] s) (pc + 3) (lo) (.int r :: st) ((u2, z.2))) : V p l e room_1 s m #[Value.ref b] below meth c R_law lw_tbl code 4 ret D (xty kx ++ mty km) (fun q : Nat => s.heap.size ≤ q) (fun z : XS × XS => xw qx kx z.1 ++ mw qm km z.2) 15 558 (lw_Z below #[Value.ref b] s) (pc) (lo) (.ref (qx 0) :: st) (z) :=
  L_callXi (rest := st) hM gl_X_depth hy_X_depth ⟨rfl, rfl⟩ ⟨Nat.le_of_ble_eq_true rfl, Nat.le_of_ble_eq_true rfl⟩ hrest rfl hd kk
theorem hy_M_depth : y_M_depth.cls = R_M ∧ y_M_depth.cls ≠ "java/lang/invoke/MethodHandle" ∧ y_M_depth.cls ≠ "java/lang/invoke/VarHandle" ∧ (parseMethodDescriptor y_M_depth.desc).map (fun d => d.parameters.length) = some 0 := by decide +kernel
theorem l_M_depth {post : Int32 → XS → Prop} (hM : C_M_depth [] z.2 post) (hrest : (st.map fun v => v.category).sum ≤ 8) (hd : decode code pc = .ok (.invokevirtual 42, 3)) (kk : ∀ (r : Int32) (u2 : XS), post r u2 → V p l e room_1 s m #[Value.ref b] below meth c R_law lw_tbl code 4 ret D (xty kx ++ mty km) (fun q : Nat => s.heap.size ≤ q) (fun z : XS × XS => xw qx kx z.1 ++ mw qm km z.2) 15 558 (lw_Z below #[Value.ref b] s) (pc + 3) (lo) (.int r :: st) ((z.1, u2))) : V p l e room_1 s m #[Value.ref b] below meth c R_law lw_tbl code 4 ret D (xty kx ++ mty km) (fun q : Nat => s.heap.size ≤ q) (fun z : XS × XS => xw qx kx z.1 ++ mw qm km z.2) 15 558 (lw_Z below #[Value.ref b] s) (pc) (lo) (.ref (qm 0) :: st) (z) :=
  L_callMi (rest := st) hM gl_M_depth hy_M_depth ⟨rfl, rfl⟩ ⟨Nat.le_of_ble_eq_true rfl, Nat.le_of_ble_eq_true rfl⟩ hrest rfl hd kk
theorem l_X_discard {post : XS → Prop} (hM : C_X_discard [] z.1 post) (hrest : (st.map fun v => v.category).sum ≤ 8) (hd : decode code pc = .ok (.invokevirtual 43, 3)) (kk : ∀ (u2 : XS), post u2 → V p l e room_1 s m #[Value.ref b] below meth c R_law lw_tbl code 4 ret D (xty kx ++ mty km) (fun q : Nat => s.heap.size ≤ q) (fun z : XS × XS => xw qx kx z.1 ++ mw qm km z.2) 15 558 (lw_Z below #[Value.ref b] s) (pc + 3) (lo) (st) ((u2, z.2))) : V p l e room_1 s m #[Value.ref b] below meth c R_law lw_tbl code 4 ret D (xty kx ++ mty km) (fun q : Nat => s.heap.size ≤ q) (fun z : XS × XS => xw qx kx z.1 ++ mw qm km z.2) 15 558 (lw_Z below #[Value.ref b] s) (pc) (lo) (.ref (qx 0) :: st) (z) :=
  L_callXv (rest := st) hM gl_X_discard hy_X_discard ⟨rfl, rfl⟩ ⟨Nat.le_of_ble_eq_true rfl, Nat.le_of_ble_eq_true rfl⟩ hrest rfl hd kk
theorem l_M_discard {post : XS → Prop} (hM : C_M_discard [] z.2 post) (hrest : (st.map fun v => v.category).sum ≤ 8) (hd : decode code pc = .ok (.invokevirtual 46, 3)) (kk : ∀ (u2 : XS), post u2 → V p l e room_1 s m #[Value.ref b] below meth c R_law lw_tbl code 4 ret D (xty kx ++ mty km) (fun q : Nat => s.heap.size ≤ q) (fun z : XS × XS => xw qx kx z.1 ++ mw qm km z.2) 15 558 (lw_Z below #[Value.ref b] s) (pc + 3) (lo) (st) ((z.1, u2))) : V p l e room_1 s m #[Value.ref b] below meth c R_law lw_tbl code 4 ret D (xty kx ++ mty km) (fun q : Nat => s.heap.size ≤ q) (fun z : XS × XS => xw qx kx z.1 ++ mw qm km z.2) 15 558 (lw_Z below #[Value.ref b] s) (pc) (lo) (.ref (qm 0) :: st) (z) :=
  L_callMv (rest := st) hM gl_M_discard hy_M_discard ⟨rfl, rfl⟩ ⟨Nat.le_of_ble_eq_true rfl, Nat.le_of_ble_eq_true rfl⟩ hrest rfl hd kk
theorem hy_X_define : y_X_define.cls = R_X ∧ y_X_define.cls ≠ "java/lang/invoke/MethodHandle" ∧ y_X_define.cls ≠ "java/lang/invoke/VarHandle" ∧ (parseMethodDescriptor y_X_define.desc).map (fun d => d.parameters.length) = some 0 := by decide +kernel
theorem l_X_define {post : Int32 → XS → Prop} (hM : C_X_define [] z.1 post) (hrest : (st.map fun v => v.category).sum ≤ 8) (hd : decode code pc = .ok (.invokevirtual 47, 3)) (kk : ∀ (r : Int32) (u2 : XS), post r u2 → V p l e room_1 s m #[Value.ref b] below meth c R_law lw_tbl code 4 ret D (xty kx ++ mty km) (fun q : Nat => s.heap.size ≤ q) (fun z : XS × XS => xw qx kx z.1 ++ mw qm km z.2) 15 558 (lw_Z below #[Value.ref b] s) (pc + 3) (lo) (.int r :: st) ((u2, z.2))) : V p l e room_1 s m #[Value.ref b] below meth c R_law lw_tbl code 4 ret D (xty kx ++ mty km) (fun q : Nat => s.heap.size ≤ q) (fun z : XS × XS => xw qx kx z.1 ++ mw qm km z.2) 15 558 (lw_Z below #[Value.ref b] s) (pc) (lo) (.ref (qx 0) :: st) (z) :=
  L_callXi (rest := st) hM gl_X_define hy_X_define ⟨rfl, rfl⟩ ⟨Nat.le_of_ble_eq_true rfl, Nat.le_of_ble_eq_true rfl⟩ hrest rfl hd kk
theorem hy_M_define : y_M_define.cls = R_M ∧ y_M_define.cls ≠ "java/lang/invoke/MethodHandle" ∧ y_M_define.cls ≠ "java/lang/invoke/VarHandle" ∧ (parseMethodDescriptor y_M_define.desc).map (fun d => d.parameters.length) = some 0 := by decide +kernel
theorem l_M_define {post : Int32 → XS → Prop} (hM : C_M_define [] z.2 post) (hrest : (st.map fun v => v.category).sum ≤ 8) (hd : decode code pc = .ok (.invokevirtual 50, 3)) (kk : ∀ (r : Int32) (u2 : XS), post r u2 → V p l e room_1 s m #[Value.ref b] below meth c R_law lw_tbl code 4 ret D (xty kx ++ mty km) (fun q : Nat => s.heap.size ≤ q) (fun z : XS × XS => xw qx kx z.1 ++ mw qm km z.2) 15 558 (lw_Z below #[Value.ref b] s) (pc + 3) (lo) (.int r :: st) ((z.1, u2))) : V p l e room_1 s m #[Value.ref b] below meth c R_law lw_tbl code 4 ret D (xty kx ++ mty km) (fun q : Nat => s.heap.size ≤ q) (fun z : XS × XS => xw qx kx z.1 ++ mw qm km z.2) 15 558 (lw_Z below #[Value.ref b] s) (pc) (lo) (.ref (qm 0) :: st) (z) :=
  L_callMi (rest := st) hM gl_M_define hy_M_define ⟨rfl, rfl⟩ ⟨Nat.le_of_ble_eq_true rfl, Nat.le_of_ble_eq_true rfl⟩ hrest rfl hd kk
theorem hy_X_related : y_X_related.cls = R_X ∧ y_X_related.cls ≠ "java/lang/invoke/MethodHandle" ∧ y_X_related.cls ≠ "java/lang/invoke/VarHandle" ∧ (parseMethodDescriptor y_X_related.desc).map (fun d => d.parameters.length) = some 4 := by decide +kernel
theorem l_X_related {a1 a2 a3 a4 : Int32} {post : Int32 → XS → Prop} (hM : C_X_related [.int a1, .int a2, .int a3, .int a4] z.1 post) (hrest : (st.map fun v => v.category).sum ≤ 8) (hd : decode code pc = .ok (.invokevirtual 51, 3)) (kk : ∀ (r : Int32) (u2 : XS), post r u2 → V p l e room_1 s m #[Value.ref b] below meth c R_law lw_tbl code 4 ret D (xty kx ++ mty km) (fun q : Nat => s.heap.size ≤ q) (fun z : XS × XS => xw qx kx z.1 ++ mw qm km z.2) 15 558 (lw_Z below #[Value.ref b] s) (pc + 3) (lo) (.int r :: st) ((u2, z.2))) : V p l e room_1 s m #[Value.ref b] below meth c R_law lw_tbl code 4 ret D (xty kx ++ mty km) (fun q : Nat => s.heap.size ≤ q) (fun z : XS × XS => xw qx kx z.1 ++ mw qm km z.2) 15 558 (lw_Z below #[Value.ref b] s) (pc) (lo) (.int a4 :: .int a3 :: .int a2 :: .int a1 :: .ref (qx 0) :: st) (z) :=
  L_callXi (rest := st) hM gl_X_related hy_X_related ⟨rfl, rfl⟩ ⟨Nat.le_of_ble_eq_true rfl, Nat.le_of_ble_eq_true rfl⟩ hrest rfl hd kk
theorem hy_M_related : y_M_related.cls = R_M ∧ y_M_related.cls ≠ "java/lang/invoke/MethodHandle" ∧ y_M_related.cls ≠ "java/lang/invoke/VarHandle" ∧ (parseMethodDescriptor y_M_related.desc).map (fun d => d.parameters.length) = some 4 := by decide +kernel
theorem l_M_related {a1 a2 a3 a4 : Int32} {post : Int32 → XS → Prop} (hM : C_M_related [.int a1, .int a2, .int a3, .int a4] z.2 post) (hrest : (st.map fun v => v.category).sum ≤ 8) (hd : decode code pc = .ok (.invokevirtual 55, 3)) (kk : ∀ (r : Int32) (u2 : XS), post r u2 → V p l e room_1 s m #[Value.ref b] below meth c R_law lw_tbl code 4 ret D (xty kx ++ mty km) (fun q : Nat => s.heap.size ≤ q) (fun z : XS × XS => xw qx kx z.1 ++ mw qm km z.2) 15 558 (lw_Z below #[Value.ref b] s) (pc + 3) (lo) (.int r :: st) ((z.1, u2))) : V p l e room_1 s m #[Value.ref b] below meth c R_law lw_tbl code 4 ret D (xty kx ++ mty km) (fun q : Nat => s.heap.size ≤ q) (fun z : XS × XS => xw qx kx z.1 ++ mw qm km z.2) 15 558 (lw_Z below #[Value.ref b] s) (pc) (lo) (.int a4 :: .int a3 :: .int a2 :: .int a1 :: .ref (qm 0) :: st) (z) :=
  L_callMi (rest := st) hM gl_M_related hy_M_related ⟨rfl, rfl⟩ ⟨Nat.le_of_ble_eq_true rfl, Nat.le_of_ble_eq_true rfl⟩ hrest rfl hd kk
theorem hy_X_images : y_X_images.cls = R_X ∧ y_X_images.cls ≠ "java/lang/invoke/MethodHandle" ∧ y_X_images.cls ≠ "java/lang/invoke/VarHandle" ∧ (parseMethodDescriptor y_X_images.desc).map (fun d => d.parameters.length) = some 2 := by decide +kernel
theorem l_X_images {a1 a2 : Int32} {post : Int32 → XS → Prop} (hM : C_X_images [.int a1, .int a2] z.1 post) (hrest : (st.map fun v => v.category).sum ≤ 8) (hd : decode code pc = .ok (.invokevirtual 56, 3)) (kk : ∀ (r : Int32) (u2 : XS), post r u2 → V p l e room_1 s m #[Value.ref b] below meth c R_law lw_tbl code 4 ret D (xty kx ++ mty km) (fun q : Nat => s.heap.size ≤ q) (fun z : XS × XS => xw qx kx z.1 ++ mw qm km z.2) 15 558 (lw_Z below #[Value.ref b] s) (pc + 3) (lo) (.int r :: st) ((u2, z.2))) : V p l e room_1 s m #[Value.ref b] below meth c R_law lw_tbl code 4 ret D (xty kx ++ mty km) (fun q : Nat => s.heap.size ≤ q) (fun z : XS × XS => xw qx kx z.1 ++ mw qm km z.2) 15 558 (lw_Z below #[Value.ref b] s) (pc) (lo) (.int a2 :: .int a1 :: .ref (qx 0) :: st) (z) :=
  L_callXi (rest := st) hM gl_X_images hy_X_images ⟨rfl, rfl⟩ ⟨Nat.le_of_ble_eq_true rfl, Nat.le_of_ble_eq_true rfl⟩ hrest rfl hd kk
theorem hy_M_images : y_M_images.cls = R_M ∧ y_M_images.cls ≠ "java/lang/invoke/MethodHandle" ∧ y_M_images.cls ≠ "java/lang/invoke/VarHandle" ∧ (parseMethodDescriptor y_M_images.desc).map (fun d => d.parameters.length) = some 2 := by decide +kernel
theorem l_M_images {a1 a2 : Int32} {post : Int32 → XS → Prop} (hM : C_M_images [.int a1, .int a2] z.2 post) (hrest : (st.map fun v => v.category).sum ≤ 8) (hd : decode code pc = .ok (.invokevirtual 59, 3)) (kk : ∀ (r : Int32) (u2 : XS), post r u2 → V p l e room_1 s m #[Value.ref b] below meth c R_law lw_tbl code 4 ret D (xty kx ++ mty km) (fun q : Nat => s.heap.size ≤ q) (fun z : XS × XS => xw qx kx z.1 ++ mw qm km z.2) 15 558 (lw_Z below #[Value.ref b] s) (pc + 3) (lo) (.int r :: st) ((z.1, u2))) : V p l e room_1 s m #[Value.ref b] below meth c R_law lw_tbl code 4 ret D (xty kx ++ mty km) (fun q : Nat => s.heap.size ≤ q) (fun z : XS × XS => xw qx kx z.1 ++ mw qm km z.2) 15 558 (lw_Z below #[Value.ref b] s) (pc) (lo) (.int a2 :: .int a1 :: .ref (qm 0) :: st) (z) :=
  L_callMi (rest := st) hM gl_M_images hy_M_images ⟨rfl, rfl⟩ ⟨Nat.le_of_ble_eq_true rfl, Nat.le_of_ble_eq_true rfl⟩ hrest rfl hd kk
theorem hy_X_image : y_X_image.cls = R_X ∧ y_X_image.cls ≠ "java/lang/invoke/MethodHandle" ∧ y_X_image.cls ≠ "java/lang/invoke/VarHandle" ∧ (parseMethodDescriptor y_X_image.desc).map (fun d => d.parameters.length) = some 3 := by decide +kernel
theorem l_X_image {a1 a2 a3 : Int32} {post : Int32 → XS → Prop} (hM : C_X_image [.int a1, .int a2, .int a3] z.1 post) (hrest : (st.map fun v => v.category).sum ≤ 8) (hd : decode code pc = .ok (.invokevirtual 60, 3)) (kk : ∀ (r : Int32) (u2 : XS), post r u2 → V p l e room_1 s m #[Value.ref b] below meth c R_law lw_tbl code 4 ret D (xty kx ++ mty km) (fun q : Nat => s.heap.size ≤ q) (fun z : XS × XS => xw qx kx z.1 ++ mw qm km z.2) 15 558 (lw_Z below #[Value.ref b] s) (pc + 3) (lo) (.int r :: st) ((u2, z.2))) : V p l e room_1 s m #[Value.ref b] below meth c R_law lw_tbl code 4 ret D (xty kx ++ mty km) (fun q : Nat => s.heap.size ≤ q) (fun z : XS × XS => xw qx kx z.1 ++ mw qm km z.2) 15 558 (lw_Z below #[Value.ref b] s) (pc) (lo) (.int a3 :: .int a2 :: .int a1 :: .ref (qx 0) :: st) (z) :=
  L_callXi (rest := st) hM gl_X_image hy_X_image ⟨rfl, rfl⟩ ⟨Nat.le_of_ble_eq_true rfl, Nat.le_of_ble_eq_true rfl⟩ hrest rfl hd kk
theorem hy_M_image : y_M_image.cls = R_M ∧ y_M_image.cls ≠ "java/lang/invoke/MethodHandle" ∧ y_M_image.cls ≠ "java/lang/invoke/VarHandle" ∧ (parseMethodDescriptor y_M_image.desc).map (fun d => d.parameters.length) = some 3 := by decide +kernel
theorem l_M_image {a1 a2 a3 : Int32} {post : Int32 → XS → Prop} (hM : C_M_image [.int a1, .int a2, .int a3] z.2 post) (hrest : (st.map fun v => v.category).sum ≤ 8) (hd : decode code pc = .ok (.invokevirtual 64, 3)) (kk : ∀ (r : Int32) (u2 : XS), post r u2 → V p l e room_1 s m #[Value.ref b] below meth c R_law lw_tbl code 4 ret D (xty kx ++ mty km) (fun q : Nat => s.heap.size ≤ q) (fun z : XS × XS => xw qx kx z.1 ++ mw qm km z.2) 15 558 (lw_Z below #[Value.ref b] s) (pc + 3) (lo) (.int r :: st) ((z.1, u2))) : V p l e room_1 s m #[Value.ref b] below meth c R_law lw_tbl code 4 ret D (xty kx ++ mty km) (fun q : Nat => s.heap.size ≤ q) (fun z : XS × XS => xw qx kx z.1 ++ mw qm km z.2) 15 558 (lw_Z below #[Value.ref b] s) (pc) (lo) (.int a3 :: .int a2 :: .int a1 :: .ref (qm 0) :: st) (z) :=
  L_callMi (rest := st) hM gl_M_image hy_M_image ⟨rfl, rfl⟩ ⟨Nat.le_of_ble_eq_true rfl, Nat.le_of_ble_eq_true rfl⟩ hrest rfl hd kk
theorem hy_X_sources : y_X_sources.cls = R_X ∧ y_X_sources.cls ≠ "java/lang/invoke/MethodHandle" ∧ y_X_sources.cls ≠ "java/lang/invoke/VarHandle" ∧ (parseMethodDescriptor y_X_sources.desc).map (fun d => d.parameters.length) = some 2 := by decide +kernel
theorem l_X_sources {a1 a2 : Int32} {post : Int32 → XS → Prop} (hM : C_X_sources [.int a1, .int a2] z.1 post) (hrest : (st.map fun v => v.category).sum ≤ 8) (hd : decode code pc = .ok (.invokevirtual 65, 3)) (kk : ∀ (r : Int32) (u2 : XS), post r u2 → V p l e room_1 s m #[Value.ref b] below meth c R_law lw_tbl code 4 ret D (xty kx ++ mty km) (fun q : Nat => s.heap.size ≤ q) (fun z : XS × XS => xw qx kx z.1 ++ mw qm km z.2) 15 558 (lw_Z below #[Value.ref b] s) (pc + 3) (lo) (.int r :: st) ((u2, z.2))) : V p l e room_1 s m #[Value.ref b] below meth c R_law lw_tbl code 4 ret D (xty kx ++ mty km) (fun q : Nat => s.heap.size ≤ q) (fun z : XS × XS => xw qx kx z.1 ++ mw qm km z.2) 15 558 (lw_Z below #[Value.ref b] s) (pc) (lo) (.int a2 :: .int a1 :: .ref (qx 0) :: st) (z) :=
  L_callXi (rest := st) hM gl_X_sources hy_X_sources ⟨rfl, rfl⟩ ⟨Nat.le_of_ble_eq_true rfl, Nat.le_of_ble_eq_true rfl⟩ hrest rfl hd kk
theorem hy_M_sources : y_M_sources.cls = R_M ∧ y_M_sources.cls ≠ "java/lang/invoke/MethodHandle" ∧ y_M_sources.cls ≠ "java/lang/invoke/VarHandle" ∧ (parseMethodDescriptor y_M_sources.desc).map (fun d => d.parameters.length) = some 2 := by decide +kernel
theorem l_M_sources {a1 a2 : Int32} {post : Int32 → XS → Prop} (hM : C_M_sources [.int a1, .int a2] z.2 post) (hrest : (st.map fun v => v.category).sum ≤ 8) (hd : decode code pc = .ok (.invokevirtual 68, 3)) (kk : ∀ (r : Int32) (u2 : XS), post r u2 → V p l e room_1 s m #[Value.ref b] below meth c R_law lw_tbl code 4 ret D (xty kx ++ mty km) (fun q : Nat => s.heap.size ≤ q) (fun z : XS × XS => xw qx kx z.1 ++ mw qm km z.2) 15 558 (lw_Z below #[Value.ref b] s) (pc + 3) (lo) (.int r :: st) ((z.1, u2))) : V p l e room_1 s m #[Value.ref b] below meth c R_law lw_tbl code 4 ret D (xty kx ++ mty km) (fun q : Nat => s.heap.size ≤ q) (fun z : XS × XS => xw qx kx z.1 ++ mw qm km z.2) 15 558 (lw_Z below #[Value.ref b] s) (pc) (lo) (.int a2 :: .int a1 :: .ref (qm 0) :: st) (z) :=
  L_callMi (rest := st) hM gl_M_sources hy_M_sources ⟨rfl, rfl⟩ ⟨Nat.le_of_ble_eq_true rfl, Nat.le_of_ble_eq_true rfl⟩ hrest rfl hd kk
theorem hy_X_pairs : y_X_pairs.cls = R_X ∧ y_X_pairs.cls ≠ "java/lang/invoke/MethodHandle" ∧ y_X_pairs.cls ≠ "java/lang/invoke/VarHandle" ∧ (parseMethodDescriptor y_X_pairs.desc).map (fun d => d.parameters.length) = some 0 := by decide +kernel
theorem l_X_pairs {post : Int32 → XS → Prop} (hM : C_X_pairs [] z.1 post) (hrest : (st.map fun v => v.category).sum ≤ 8) (hd : decode code pc = .ok (.invokevirtual 69, 3)) (kk : ∀ (r : Int32) (u2 : XS), post r u2 → V p l e room_1 s m #[Value.ref b] below meth c R_law lw_tbl code 4 ret D (xty kx ++ mty km) (fun q : Nat => s.heap.size ≤ q) (fun z : XS × XS => xw qx kx z.1 ++ mw qm km z.2) 15 558 (lw_Z below #[Value.ref b] s) (pc + 3) (lo) (.int r :: st) ((u2, z.2))) : V p l e room_1 s m #[Value.ref b] below meth c R_law lw_tbl code 4 ret D (xty kx ++ mty km) (fun q : Nat => s.heap.size ≤ q) (fun z : XS × XS => xw qx kx z.1 ++ mw qm km z.2) 15 558 (lw_Z below #[Value.ref b] s) (pc) (lo) (.ref (qx 0) :: st) (z) :=
  L_callXi (rest := st) hM gl_X_pairs hy_X_pairs ⟨rfl, rfl⟩ ⟨Nat.le_of_ble_eq_true rfl, Nat.le_of_ble_eq_true rfl⟩ hrest rfl hd kk
theorem hy_M_pairs : y_M_pairs.cls = R_M ∧ y_M_pairs.cls ≠ "java/lang/invoke/MethodHandle" ∧ y_M_pairs.cls ≠ "java/lang/invoke/VarHandle" ∧ (parseMethodDescriptor y_M_pairs.desc).map (fun d => d.parameters.length) = some 0 := by decide +kernel
theorem l_M_pairs {post : Int32 → XS → Prop} (hM : C_M_pairs [] z.2 post) (hrest : (st.map fun v => v.category).sum ≤ 8) (hd : decode code pc = .ok (.invokevirtual 72, 3)) (kk : ∀ (r : Int32) (u2 : XS), post r u2 → V p l e room_1 s m #[Value.ref b] below meth c R_law lw_tbl code 4 ret D (xty kx ++ mty km) (fun q : Nat => s.heap.size ≤ q) (fun z : XS × XS => xw qx kx z.1 ++ mw qm km z.2) 15 558 (lw_Z below #[Value.ref b] s) (pc + 3) (lo) (.int r :: st) ((z.1, u2))) : V p l e room_1 s m #[Value.ref b] below meth c R_law lw_tbl code 4 ret D (xty kx ++ mty km) (fun q : Nat => s.heap.size ≤ q) (fun z : XS × XS => xw qx kx z.1 ++ mw qm km z.2) 15 558 (lw_Z below #[Value.ref b] s) (pc) (lo) (.ref (qm 0) :: st) (z) :=
  L_callMi (rest := st) hM gl_M_pairs hy_M_pairs ⟨rfl, rfl⟩ ⟨Nat.le_of_ble_eq_true rfl, Nat.le_of_ble_eq_true rfl⟩ hrest rfl hd kk
theorem hy_X_domain : y_X_domain.cls = R_X ∧ y_X_domain.cls ≠ "java/lang/invoke/MethodHandle" ∧ y_X_domain.cls ≠ "java/lang/invoke/VarHandle" ∧ (parseMethodDescriptor y_X_domain.desc).map (fun d => d.parameters.length) = some 0 := by decide +kernel
theorem l_X_domain {post : Int32 → XS → Prop} (hM : C_X_domain [] z.1 post) (hrest : (st.map fun v => v.category).sum ≤ 8) (hd : decode code pc = .ok (.invokevirtual 73, 3)) (kk : ∀ (r : Int32) (u2 : XS), post r u2 → V p l e room_1 s m #[Value.ref b] below meth c R_law lw_tbl code 4 ret D (xty kx ++ mty km) (fun q : Nat => s.heap.size ≤ q) (fun z : XS × XS => xw qx kx z.1 ++ mw qm km z.2) 15 558 (lw_Z below #[Value.ref b] s) (pc + 3) (lo) (.int r :: st) ((u2, z.2))) : V p l e room_1 s m #[Value.ref b] below meth c R_law lw_tbl code 4 ret D (xty kx ++ mty km) (fun q : Nat => s.heap.size ≤ q) (fun z : XS × XS => xw qx kx z.1 ++ mw qm km z.2) 15 558 (lw_Z below #[Value.ref b] s) (pc) (lo) (.ref (qx 0) :: st) (z) :=
  L_callXi (rest := st) hM gl_X_domain hy_X_domain ⟨rfl, rfl⟩ ⟨Nat.le_of_ble_eq_true rfl, Nat.le_of_ble_eq_true rfl⟩ hrest rfl hd kk
theorem hy_M_domain : y_M_domain.cls = R_M ∧ y_M_domain.cls ≠ "java/lang/invoke/MethodHandle" ∧ y_M_domain.cls ≠ "java/lang/invoke/VarHandle" ∧ (parseMethodDescriptor y_M_domain.desc).map (fun d => d.parameters.length) = some 0 := by decide +kernel
theorem l_M_domain {post : Int32 → XS → Prop} (hM : C_M_domain [] z.2 post) (hrest : (st.map fun v => v.category).sum ≤ 8) (hd : decode code pc = .ok (.invokevirtual 76, 3)) (kk : ∀ (r : Int32) (u2 : XS), post r u2 → V p l e room_1 s m #[Value.ref b] below meth c R_law lw_tbl code 4 ret D (xty kx ++ mty km) (fun q : Nat => s.heap.size ≤ q) (fun z : XS × XS => xw qx kx z.1 ++ mw qm km z.2) 15 558 (lw_Z below #[Value.ref b] s) (pc + 3) (lo) (.int r :: st) ((z.1, u2))) : V p l e room_1 s m #[Value.ref b] below meth c R_law lw_tbl code 4 ret D (xty kx ++ mty km) (fun q : Nat => s.heap.size ≤ q) (fun z : XS × XS => xw qx kx z.1 ++ mw qm km z.2) 15 558 (lw_Z below #[Value.ref b] s) (pc) (lo) (.ref (qm 0) :: st) (z) :=
  L_callMi (rest := st) hM gl_M_domain hy_M_domain ⟨rfl, rfl⟩ ⟨Nat.le_of_ble_eq_true rfl, Nat.le_of_ble_eq_true rfl⟩ hrest rfl hd kk
theorem hy_X_manyValued : y_X_manyValued.cls = R_X ∧ y_X_manyValued.cls ≠ "java/lang/invoke/MethodHandle" ∧ y_X_manyValued.cls ≠ "java/lang/invoke/VarHandle" ∧ (parseMethodDescriptor y_X_manyValued.desc).map (fun d => d.parameters.length) = some 0 := by decide +kernel
theorem l_X_manyValued {post : Int32 → XS → Prop} (hM : C_X_manyValued [] z.1 post) (hrest : (st.map fun v => v.category).sum ≤ 8) (hd : decode code pc = .ok (.invokevirtual 77, 3)) (kk : ∀ (r : Int32) (u2 : XS), post r u2 → V p l e room_1 s m #[Value.ref b] below meth c R_law lw_tbl code 4 ret D (xty kx ++ mty km) (fun q : Nat => s.heap.size ≤ q) (fun z : XS × XS => xw qx kx z.1 ++ mw qm km z.2) 15 558 (lw_Z below #[Value.ref b] s) (pc + 3) (lo) (.int r :: st) ((u2, z.2))) : V p l e room_1 s m #[Value.ref b] below meth c R_law lw_tbl code 4 ret D (xty kx ++ mty km) (fun q : Nat => s.heap.size ≤ q) (fun z : XS × XS => xw qx kx z.1 ++ mw qm km z.2) 15 558 (lw_Z below #[Value.ref b] s) (pc) (lo) (.ref (qx 0) :: st) (z) :=
  L_callXi (rest := st) hM gl_X_manyValued hy_X_manyValued ⟨rfl, rfl⟩ ⟨Nat.le_of_ble_eq_true rfl, Nat.le_of_ble_eq_true rfl⟩ hrest rfl hd kk
theorem hy_M_manyValued : y_M_manyValued.cls = R_M ∧ y_M_manyValued.cls ≠ "java/lang/invoke/MethodHandle" ∧ y_M_manyValued.cls ≠ "java/lang/invoke/VarHandle" ∧ (parseMethodDescriptor y_M_manyValued.desc).map (fun d => d.parameters.length) = some 0 := by decide +kernel
theorem l_M_manyValued {post : Int32 → XS → Prop} (hM : C_M_manyValued [] z.2 post) (hrest : (st.map fun v => v.category).sum ≤ 8) (hd : decode code pc = .ok (.invokevirtual 80, 3)) (kk : ∀ (r : Int32) (u2 : XS), post r u2 → V p l e room_1 s m #[Value.ref b] below meth c R_law lw_tbl code 4 ret D (xty kx ++ mty km) (fun q : Nat => s.heap.size ≤ q) (fun z : XS × XS => xw qx kx z.1 ++ mw qm km z.2) 15 558 (lw_Z below #[Value.ref b] s) (pc + 3) (lo) (.int r :: st) ((z.1, u2))) : V p l e room_1 s m #[Value.ref b] below meth c R_law lw_tbl code 4 ret D (xty kx ++ mty km) (fun q : Nat => s.heap.size ≤ q) (fun z : XS × XS => xw qx kx z.1 ++ mw qm km z.2) 15 558 (lw_Z below #[Value.ref b] s) (pc) (lo) (.ref (qm 0) :: st) (z) :=
  L_callMi (rest := st) hM gl_M_manyValued hy_M_manyValued ⟨rfl, rfl⟩ ⟨Nat.le_of_ble_eq_true rfl, Nat.le_of_ble_eq_true rfl⟩ hrest rfl hd kk
theorem hy_X_fixed : y_X_fixed.cls = R_X ∧ y_X_fixed.cls ≠ "java/lang/invoke/MethodHandle" ∧ y_X_fixed.cls ≠ "java/lang/invoke/VarHandle" ∧ (parseMethodDescriptor y_X_fixed.desc).map (fun d => d.parameters.length) = some 0 := by decide +kernel
theorem l_X_fixed {post : Int32 → XS → Prop} (hM : C_X_fixed [] z.1 post) (hrest : (st.map fun v => v.category).sum ≤ 8) (hd : decode code pc = .ok (.invokevirtual 81, 3)) (kk : ∀ (r : Int32) (u2 : XS), post r u2 → V p l e room_1 s m #[Value.ref b] below meth c R_law lw_tbl code 4 ret D (xty kx ++ mty km) (fun q : Nat => s.heap.size ≤ q) (fun z : XS × XS => xw qx kx z.1 ++ mw qm km z.2) 15 558 (lw_Z below #[Value.ref b] s) (pc + 3) (lo) (.int r :: st) ((u2, z.2))) : V p l e room_1 s m #[Value.ref b] below meth c R_law lw_tbl code 4 ret D (xty kx ++ mty km) (fun q : Nat => s.heap.size ≤ q) (fun z : XS × XS => xw qx kx z.1 ++ mw qm km z.2) 15 558 (lw_Z below #[Value.ref b] s) (pc) (lo) (.ref (qx 0) :: st) (z) :=
  L_callXi (rest := st) hM gl_X_fixed hy_X_fixed ⟨rfl, rfl⟩ ⟨Nat.le_of_ble_eq_true rfl, Nat.le_of_ble_eq_true rfl⟩ hrest rfl hd kk
theorem hy_M_fixed : y_M_fixed.cls = R_M ∧ y_M_fixed.cls ≠ "java/lang/invoke/MethodHandle" ∧ y_M_fixed.cls ≠ "java/lang/invoke/VarHandle" ∧ (parseMethodDescriptor y_M_fixed.desc).map (fun d => d.parameters.length) = some 0 := by decide +kernel
theorem l_M_fixed {post : Int32 → XS → Prop} (hM : C_M_fixed [] z.2 post) (hrest : (st.map fun v => v.category).sum ≤ 8) (hd : decode code pc = .ok (.invokevirtual 84, 3)) (kk : ∀ (r : Int32) (u2 : XS), post r u2 → V p l e room_1 s m #[Value.ref b] below meth c R_law lw_tbl code 4 ret D (xty kx ++ mty km) (fun q : Nat => s.heap.size ≤ q) (fun z : XS × XS => xw qx kx z.1 ++ mw qm km z.2) 15 558 (lw_Z below #[Value.ref b] s) (pc + 3) (lo) (.int r :: st) ((z.1, u2))) : V p l e room_1 s m #[Value.ref b] below meth c R_law lw_tbl code 4 ret D (xty kx ++ mty km) (fun q : Nat => s.heap.size ≤ q) (fun z : XS × XS => xw qx kx z.1 ++ mw qm km z.2) 15 558 (lw_Z below #[Value.ref b] s) (pc) (lo) (.ref (qm 0) :: st) (z) :=
  L_callMi (rest := st) hM gl_M_fixed hy_M_fixed ⟨rfl, rfl⟩ ⟨Nat.le_of_ble_eq_true rfl, Nat.le_of_ble_eq_true rfl⟩ hrest rfl hd kk
theorem hy_X_twoSteps : y_X_twoSteps.cls = R_X ∧ y_X_twoSteps.cls ≠ "java/lang/invoke/MethodHandle" ∧ y_X_twoSteps.cls ≠ "java/lang/invoke/VarHandle" ∧ (parseMethodDescriptor y_X_twoSteps.desc).map (fun d => d.parameters.length) = some 0 := by decide +kernel
theorem l_X_twoSteps {post : Int32 → XS → Prop} (hM : C_X_twoSteps [] z.1 post) (hrest : (st.map fun v => v.category).sum ≤ 8) (hd : decode code pc = .ok (.invokevirtual 85, 3)) (kk : ∀ (r : Int32) (u2 : XS), post r u2 → V p l e room_1 s m #[Value.ref b] below meth c R_law lw_tbl code 4 ret D (xty kx ++ mty km) (fun q : Nat => s.heap.size ≤ q) (fun z : XS × XS => xw qx kx z.1 ++ mw qm km z.2) 15 558 (lw_Z below #[Value.ref b] s) (pc + 3) (lo) (.int r :: st) ((u2, z.2))) : V p l e room_1 s m #[Value.ref b] below meth c R_law lw_tbl code 4 ret D (xty kx ++ mty km) (fun q : Nat => s.heap.size ≤ q) (fun z : XS × XS => xw qx kx z.1 ++ mw qm km z.2) 15 558 (lw_Z below #[Value.ref b] s) (pc) (lo) (.ref (qx 0) :: st) (z) :=
  L_callXi (rest := st) hM gl_X_twoSteps hy_X_twoSteps ⟨rfl, rfl⟩ ⟨Nat.le_of_ble_eq_true rfl, Nat.le_of_ble_eq_true rfl⟩ hrest rfl hd kk
theorem hy_M_twoSteps : y_M_twoSteps.cls = R_M ∧ y_M_twoSteps.cls ≠ "java/lang/invoke/MethodHandle" ∧ y_M_twoSteps.cls ≠ "java/lang/invoke/VarHandle" ∧ (parseMethodDescriptor y_M_twoSteps.desc).map (fun d => d.parameters.length) = some 0 := by decide +kernel
theorem l_M_twoSteps {post : Int32 → XS → Prop} (hM : C_M_twoSteps [] z.2 post) (hrest : (st.map fun v => v.category).sum ≤ 8) (hd : decode code pc = .ok (.invokevirtual 88, 3)) (kk : ∀ (r : Int32) (u2 : XS), post r u2 → V p l e room_1 s m #[Value.ref b] below meth c R_law lw_tbl code 4 ret D (xty kx ++ mty km) (fun q : Nat => s.heap.size ≤ q) (fun z : XS × XS => xw qx kx z.1 ++ mw qm km z.2) 15 558 (lw_Z below #[Value.ref b] s) (pc + 3) (lo) (.int r :: st) ((z.1, u2))) : V p l e room_1 s m #[Value.ref b] below meth c R_law lw_tbl code 4 ret D (xty kx ++ mty km) (fun q : Nat => s.heap.size ≤ q) (fun z : XS × XS => xw qx kx z.1 ++ mw qm km z.2) 15 558 (lw_Z below #[Value.ref b] s) (pc) (lo) (.ref (qm 0) :: st) (z) :=
  L_callMi (rest := st) hM gl_M_twoSteps hy_M_twoSteps ⟨rfl, rfl⟩ ⟨Nat.le_of_ble_eq_true rfl, Nat.le_of_ble_eq_true rfl⟩ hrest rfl hd kk
end LAW
end
section
section LOOP
variable {p : Program} {l : Launch} {e : Env} {s : State} {m : MethodId} {below : List Frame} {meth : Method} {c : Code} {b L : Nat} {xs : Nat → Int32} {D : va_G} {qx qm : Nat → Nat} {kx km : Nat → ClassId} {pc : Nat} {lo : List (Option Value)} {st : List Value} {z : XS × XS}

set_option maxHeartbeats 8000000 in
theorem law_pair (hX : va_X b L xs s s.heap) (hbl : b < s.heap.size) (hL : L ≤ 2560) {i : Nat} (hi5 : i + 5 ≤ L) {u t : XS} (hI : Inv u t)
    (ih : ∀ u t, Inv u t → V p l e room_1 s m #[Value.ref b] below meth c R_law lw_tbl code 4 ret D (xty kx ++ mty km) (fun q : Nat => s.heap.size ≤ q) (fun z : XS × XS => xw qx kx z.1 ++ mw qm km z.2) 15 558 (lw_Z below #[Value.ref b] s) (18) ([some (.ref b), some (.ref (qx 0)), some (.ref (qm 0)), some (.int (nI (i + 5)))]) ([]) ((u, t))) : V p l e room_1 s m #[Value.ref b] below meth c R_law lw_tbl code 4 ret D (xty kx ++ mty km) (fun q : Nat => s.heap.size ≤ q) (fun z : XS × XS => xw qx kx z.1 ++ mw qm km z.2) 15 558 (lw_Z below #[Value.ref b] s) (120) ([some (.ref b), some (.ref (qx 0)), some (.ref (qm 0)), some (.int (nI i))]) ([]) ((u, t)) := by
  obtain ⟨PX, PM, hcx, hcm, hj⟩ := st_pair hI (xs (i + 1)) (xs (i + 2))
  refine V_aload_n d_law_120 rfl rfl ?_
  refine V_aload_n d_law_121 rfl rfl ?_
  refine V_iload_n d_law_122 rfl rfl ?_
  refine V_iconst (v := (nI 1)) d_law_123 (by decide) ?_
  refine V_iadd d_law_124 (nI_add _ _) ?_
  refine L_sld hX hbl hL rfl (by omega) d_law_125 ?_
  refine V_aload_n d_law_126 rfl rfl ?_
  refine V_iload_n d_law_127 rfl rfl ?_
  refine V_iconst (v := (nI 2)) d_law_128 (by decide) ?_
  refine V_iadd d_law_129 (nI_add _ _) ?_
  refine L_sld hX hbl hL rfl (by omega) d_law_130 ?_
  refine l_X_pair hcx (Nat.le_of_ble_eq_true rfl) d_law_131 ?_
  intro r1 u2 hp1
  refine V_aload_n d_law_134 rfl rfl ?_
  refine V_aload_n d_law_135 rfl rfl ?_
  refine V_iload_n d_law_136 rfl rfl ?_
  refine V_iconst (v := (nI 1)) d_law_137 (by decide) ?_
  refine V_iadd d_law_138 (nI_add _ _) ?_
  refine L_sld hX hbl hL rfl (by omega) d_law_139 ?_
  refine V_aload_n d_law_140 rfl rfl ?_
  refine V_iload_n d_law_141 rfl rfl ?_
  refine V_iconst (v := (nI 2)) d_law_142 (by decide) ?_
  refine V_iadd d_law_143 (nI_add _ _) ?_
  refine L_sld hX hbl hL rfl (by omega) d_law_144 ?_
  refine l_M_pair hcm (Nat.le_of_ble_eq_true rfl) d_law_145 ?_
  intro r2 t2 hp2
  obtain ⟨he, hI2⟩ := hj r1 u2 r2 t2 hp1 hp2
  refine V_icmp_eq_t (tgt := 482) d_law_148 (by decide) he ?_
  refine V_iinc d_law_482 rfl (show _ = nI (i + 5) from nI_add i 5) (by decide) ?_
  refine V_goto (tgt := 18) d_law_485 (by decide) ?_
  exact ih u2 t2 hI2
set_option maxHeartbeats 8000000 in
theorem law_cat (hX : va_X b L xs s s.heap) (hbl : b < s.heap.size) (hL : L ≤ 2560) {i : Nat} (hi5 : i + 5 ≤ L) {u t : XS} (hI : Inv u t)
    (ih : ∀ u t, Inv u t → V p l e room_1 s m #[Value.ref b] below meth c R_law lw_tbl code 4 ret D (xty kx ++ mty km) (fun q : Nat => s.heap.size ≤ q) (fun z : XS × XS => xw qx kx z.1 ++ mw qm km z.2) 15 558 (lw_Z below #[Value.ref b] s) (18) ([some (.ref b), some (.ref (qx 0)), some (.ref (qm 0)), some (.int (nI (i + 5)))]) ([]) ((u, t))) : V p l e room_1 s m #[Value.ref b] below meth c R_law lw_tbl code 4 ret D (xty kx ++ mty km) (fun q : Nat => s.heap.size ≤ q) (fun z : XS × XS => xw qx kx z.1 ++ mw qm km z.2) 15 558 (lw_Z below #[Value.ref b] s) (153) ([some (.ref b), some (.ref (qx 0)), some (.ref (qm 0)), some (.int (nI i))]) ([]) ((u, t)) := by
  obtain ⟨PX, PM, hcx, hcm, hj⟩ := st_cat hI
  refine V_aload_n d_law_153 rfl rfl ?_
  refine l_X_cat hcx (Nat.le_of_ble_eq_true rfl) d_law_154 ?_
  intro r1 u2 hp1
  refine V_aload_n d_law_157 rfl rfl ?_
  refine l_M_cat hcm (Nat.le_of_ble_eq_true rfl) d_law_158 ?_
  intro r2 t2 hp2
  obtain ⟨he, hI2⟩ := hj r1 u2 r2 t2 hp1 hp2
  refine V_icmp_eq_t (tgt := 482) d_law_161 (by decide) he ?_
  refine V_iinc d_law_482 rfl (show _ = nI (i + 5) from nI_add i 5) (by decide) ?_
  refine V_goto (tgt := 18) d_law_485 (by decide) ?_
  exact ih u2 t2 hI2
set_option maxHeartbeats 8000000 in
theorem law_alt (hX : va_X b L xs s s.heap) (hbl : b < s.heap.size) (hL : L ≤ 2560) {i : Nat} (hi5 : i + 5 ≤ L) {u t : XS} (hI : Inv u t)
    (ih : ∀ u t, Inv u t → V p l e room_1 s m #[Value.ref b] below meth c R_law lw_tbl code 4 ret D (xty kx ++ mty km) (fun q : Nat => s.heap.size ≤ q) (fun z : XS × XS => xw qx kx z.1 ++ mw qm km z.2) 15 558 (lw_Z below #[Value.ref b] s) (18) ([some (.ref b), some (.ref (qx 0)), some (.ref (qm 0)), some (.int (nI (i + 5)))]) ([]) ((u, t))) : V p l e room_1 s m #[Value.ref b] below meth c R_law lw_tbl code 4 ret D (xty kx ++ mty km) (fun q : Nat => s.heap.size ≤ q) (fun z : XS × XS => xw qx kx z.1 ++ mw qm km z.2) 15 558 (lw_Z below #[Value.ref b] s) (166) ([some (.ref b), some (.ref (qx 0)), some (.ref (qm 0)), some (.int (nI i))]) ([]) ((u, t)) := by
  obtain ⟨PX, PM, hcx, hcm, hj⟩ := st_alt hI
  refine V_aload_n d_law_166 rfl rfl ?_
  refine l_X_alt hcx (Nat.le_of_ble_eq_true rfl) d_law_167 ?_
  intro r1 u2 hp1
  refine V_aload_n d_law_170 rfl rfl ?_
  refine l_M_alt hcm (Nat.le_of_ble_eq_true rfl) d_law_171 ?_
  intro r2 t2 hp2
  obtain ⟨he, hI2⟩ := hj r1 u2 r2 t2 hp1 hp2
  refine V_icmp_eq_t (tgt := 482) d_law_174 (by decide) he ?_
  refine V_iinc d_law_482 rfl (show _ = nI (i + 5) from nI_add i 5) (by decide) ?_
  refine V_goto (tgt := 18) d_law_485 (by decide) ?_
  exact ih u2 t2 hI2
set_option maxHeartbeats 8000000 in
theorem law_star (hX : va_X b L xs s s.heap) (hbl : b < s.heap.size) (hL : L ≤ 2560) {i : Nat} (hi5 : i + 5 ≤ L) {u t : XS} (hI : Inv u t)
    (ih : ∀ u t, Inv u t → V p l e room_1 s m #[Value.ref b] below meth c R_law lw_tbl code 4 ret D (xty kx ++ mty km) (fun q : Nat => s.heap.size ≤ q) (fun z : XS × XS => xw qx kx z.1 ++ mw qm km z.2) 15 558 (lw_Z below #[Value.ref b] s) (18) ([some (.ref b), some (.ref (qx 0)), some (.ref (qm 0)), some (.int (nI (i + 5)))]) ([]) ((u, t))) : V p l e room_1 s m #[Value.ref b] below meth c R_law lw_tbl code 4 ret D (xty kx ++ mty km) (fun q : Nat => s.heap.size ≤ q) (fun z : XS × XS => xw qx kx z.1 ++ mw qm km z.2) 15 558 (lw_Z below #[Value.ref b] s) (179) ([some (.ref b), some (.ref (qx 0)), some (.ref (qm 0)), some (.int (nI i))]) ([]) ((u, t)) := by
  obtain ⟨PX, PM, hcx, hcm, hj⟩ := st_star hI
  refine V_aload_n d_law_179 rfl rfl ?_
  refine l_X_star hcx (Nat.le_of_ble_eq_true rfl) d_law_180 ?_
  intro r1 u2 hp1
  refine V_aload_n d_law_183 rfl rfl ?_
  refine l_M_star hcm (Nat.le_of_ble_eq_true rfl) d_law_184 ?_
  intro r2 t2 hp2
  obtain ⟨he, hI2⟩ := hj r1 u2 r2 t2 hp1 hp2
  refine V_icmp_eq_t (tgt := 482) d_law_187 (by decide) he ?_
  refine V_iinc d_law_482 rfl (show _ = nI (i + 5) from nI_add i 5) (by decide) ?_
  refine V_goto (tgt := 18) d_law_485 (by decide) ?_
  exact ih u2 t2 hI2
set_option maxHeartbeats 8000000 in
theorem law_turn (hX : va_X b L xs s s.heap) (hbl : b < s.heap.size) (hL : L ≤ 2560) {i : Nat} (hi5 : i + 5 ≤ L) {u t : XS} (hI : Inv u t)
    (ih : ∀ u t, Inv u t → V p l e room_1 s m #[Value.ref b] below meth c R_law lw_tbl code 4 ret D (xty kx ++ mty km) (fun q : Nat => s.heap.size ≤ q) (fun z : XS × XS => xw qx kx z.1 ++ mw qm km z.2) 15 558 (lw_Z below #[Value.ref b] s) (18) ([some (.ref b), some (.ref (qx 0)), some (.ref (qm 0)), some (.int (nI (i + 5)))]) ([]) ((u, t))) : V p l e room_1 s m #[Value.ref b] below meth c R_law lw_tbl code 4 ret D (xty kx ++ mty km) (fun q : Nat => s.heap.size ≤ q) (fun z : XS × XS => xw qx kx z.1 ++ mw qm km z.2) 15 558 (lw_Z below #[Value.ref b] s) (192) ([some (.ref b), some (.ref (qx 0)), some (.ref (qm 0)), some (.int (nI i))]) ([]) ((u, t)) := by
  obtain ⟨PX, PM, hcx, hcm, hj⟩ := st_turn hI
  refine V_aload_n d_law_192 rfl rfl ?_
  refine l_X_turn hcx (Nat.le_of_ble_eq_true rfl) d_law_193 ?_
  intro r1 u2 hp1
  refine V_aload_n d_law_196 rfl rfl ?_
  refine l_M_turn hcm (Nat.le_of_ble_eq_true rfl) d_law_197 ?_
  intro r2 t2 hp2
  obtain ⟨he, hI2⟩ := hj r1 u2 r2 t2 hp1 hp2
  refine V_icmp_eq_t (tgt := 482) d_law_200 (by decide) he ?_
  refine V_iinc d_law_482 rfl (show _ = nI (i + 5) from nI_add i 5) (by decide) ?_
  refine V_goto (tgt := 18) d_law_485 (by decide) ?_
  exact ih u2 t2 hI2
set_option maxHeartbeats 8000000 in
theorem law_steps (hX : va_X b L xs s s.heap) (hbl : b < s.heap.size) (hL : L ≤ 2560) {i : Nat} (hi5 : i + 5 ≤ L) {u t : XS} (hI : Inv u t)
    (ih : ∀ u t, Inv u t → V p l e room_1 s m #[Value.ref b] below meth c R_law lw_tbl code 4 ret D (xty kx ++ mty km) (fun q : Nat => s.heap.size ≤ q) (fun z : XS × XS => xw qx kx z.1 ++ mw qm km z.2) 15 558 (lw_Z below #[Value.ref b] s) (18) ([some (.ref b), some (.ref (qx 0)), some (.ref (qm 0)), some (.int (nI (i + 5)))]) ([]) ((u, t))) : V p l e room_1 s m #[Value.ref b] below meth c R_law lw_tbl code 4 ret D (xty kx ++ mty km) (fun q : Nat => s.heap.size ≤ q) (fun z : XS × XS => xw qx kx z.1 ++ mw qm km z.2) 15 558 (lw_Z below #[Value.ref b] s) (205) ([some (.ref b), some (.ref (qx 0)), some (.ref (qm 0)), some (.int (nI i))]) ([]) ((u, t)) := by
  obtain ⟨PX, PM, hcx, hcm, hj⟩ := st_steps hI
  refine V_aload_n d_law_205 rfl rfl ?_
  refine l_X_steps hcx (Nat.le_of_ble_eq_true rfl) d_law_206 ?_
  intro r1 u2 hp1
  refine V_aload_n d_law_209 rfl rfl ?_
  refine l_M_steps hcm (Nat.le_of_ble_eq_true rfl) d_law_210 ?_
  intro r2 t2 hp2
  obtain ⟨he, hI2⟩ := hj r1 u2 r2 t2 hp1 hp2
  refine V_icmp_eq_t (tgt := 482) d_law_213 (by decide) he ?_
  refine V_iinc d_law_482 rfl (show _ = nI (i + 5) from nI_add i 5) (by decide) ?_
  refine V_goto (tgt := 18) d_law_485 (by decide) ?_
  exact ih u2 t2 hI2
set_option maxHeartbeats 8000000 in
theorem law_depth (hX : va_X b L xs s s.heap) (hbl : b < s.heap.size) (hL : L ≤ 2560) {i : Nat} (hi5 : i + 5 ≤ L) {u t : XS} (hI : Inv u t)
    (ih : ∀ u t, Inv u t → V p l e room_1 s m #[Value.ref b] below meth c R_law lw_tbl code 4 ret D (xty kx ++ mty km) (fun q : Nat => s.heap.size ≤ q) (fun z : XS × XS => xw qx kx z.1 ++ mw qm km z.2) 15 558 (lw_Z below #[Value.ref b] s) (18) ([some (.ref b), some (.ref (qx 0)), some (.ref (qm 0)), some (.int (nI (i + 5)))]) ([]) ((u, t))) : V p l e room_1 s m #[Value.ref b] below meth c R_law lw_tbl code 4 ret D (xty kx ++ mty km) (fun q : Nat => s.heap.size ≤ q) (fun z : XS × XS => xw qx kx z.1 ++ mw qm km z.2) 15 558 (lw_Z below #[Value.ref b] s) (218) ([some (.ref b), some (.ref (qx 0)), some (.ref (qm 0)), some (.int (nI i))]) ([]) ((u, t)) := by
  obtain ⟨PX, PM, hcx, hcm, hj⟩ := st_depth hI
  refine V_aload_n d_law_218 rfl rfl ?_
  refine l_X_depth hcx (Nat.le_of_ble_eq_true rfl) d_law_219 ?_
  intro r1 u2 hp1
  refine V_aload_n d_law_222 rfl rfl ?_
  refine l_M_depth hcm (Nat.le_of_ble_eq_true rfl) d_law_223 ?_
  intro r2 t2 hp2
  obtain ⟨he, hI2⟩ := hj r1 u2 r2 t2 hp1 hp2
  refine V_icmp_eq_t (tgt := 482) d_law_226 (by decide) he ?_
  refine V_iinc d_law_482 rfl (show _ = nI (i + 5) from nI_add i 5) (by decide) ?_
  refine V_goto (tgt := 18) d_law_485 (by decide) ?_
  exact ih u2 t2 hI2
set_option maxHeartbeats 8000000 in
theorem law_discard (hX : va_X b L xs s s.heap) (hbl : b < s.heap.size) (hL : L ≤ 2560) {i : Nat} (hi5 : i + 5 ≤ L) {u t : XS} (hI : Inv u t)
    (ih : ∀ u t, Inv u t → V p l e room_1 s m #[Value.ref b] below meth c R_law lw_tbl code 4 ret D (xty kx ++ mty km) (fun q : Nat => s.heap.size ≤ q) (fun z : XS × XS => xw qx kx z.1 ++ mw qm km z.2) 15 558 (lw_Z below #[Value.ref b] s) (18) ([some (.ref b), some (.ref (qx 0)), some (.ref (qm 0)), some (.int (nI (i + 5)))]) ([]) ((u, t))) : V p l e room_1 s m #[Value.ref b] below meth c R_law lw_tbl code 4 ret D (xty kx ++ mty km) (fun q : Nat => s.heap.size ≤ q) (fun z : XS × XS => xw qx kx z.1 ++ mw qm km z.2) 15 558 (lw_Z below #[Value.ref b] s) (231) ([some (.ref b), some (.ref (qx 0)), some (.ref (qm 0)), some (.int (nI i))]) ([]) ((u, t)) := by
  obtain ⟨PX, PM, hcx, hcm, hj⟩ := st_discard hI
  refine V_aload_n d_law_231 rfl rfl ?_
  refine l_X_discard hcx (Nat.le_of_ble_eq_true rfl) d_law_232 ?_
  intro u2 hp1
  refine V_aload_n d_law_235 rfl rfl ?_
  refine l_M_discard hcm (Nat.le_of_ble_eq_true rfl) d_law_236 ?_
  intro t2 hp2
  refine V_goto (tgt := 482) d_law_239 (by decide) ?_
  refine V_iinc d_law_482 rfl (show _ = nI (i + 5) from nI_add i 5) (by decide) ?_
  refine V_goto (tgt := 18) d_law_485 (by decide) ?_
  exact ih u2 t2 (hj u2 t2 hp1 hp2)
set_option maxHeartbeats 8000000 in
theorem law_define (hX : va_X b L xs s s.heap) (hbl : b < s.heap.size) (hL : L ≤ 2560) {i : Nat} (hi5 : i + 5 ≤ L) {u t : XS} (hI : Inv u t)
    (ih : ∀ u t, Inv u t → V p l e room_1 s m #[Value.ref b] below meth c R_law lw_tbl code 4 ret D (xty kx ++ mty km) (fun q : Nat => s.heap.size ≤ q) (fun z : XS × XS => xw qx kx z.1 ++ mw qm km z.2) 15 558 (lw_Z below #[Value.ref b] s) (18) ([some (.ref b), some (.ref (qx 0)), some (.ref (qm 0)), some (.int (nI (i + 5)))]) ([]) ((u, t))) : V p l e room_1 s m #[Value.ref b] below meth c R_law lw_tbl code 4 ret D (xty kx ++ mty km) (fun q : Nat => s.heap.size ≤ q) (fun z : XS × XS => xw qx kx z.1 ++ mw qm km z.2) 15 558 (lw_Z below #[Value.ref b] s) (242) ([some (.ref b), some (.ref (qx 0)), some (.ref (qm 0)), some (.int (nI i))]) ([]) ((u, t)) := by
  obtain ⟨PX, PM, hcx, hcm, hj⟩ := st_define hI
  refine V_aload_n d_law_242 rfl rfl ?_
  refine l_X_define hcx (Nat.le_of_ble_eq_true rfl) d_law_243 ?_
  intro r1 u2 hp1
  refine V_aload_n d_law_246 rfl rfl ?_
  refine l_M_define hcm (Nat.le_of_ble_eq_true rfl) d_law_247 ?_
  intro r2 t2 hp2
  obtain ⟨he, hI2⟩ := hj r1 u2 r2 t2 hp1 hp2
  refine V_icmp_eq_t (tgt := 482) d_law_250 (by decide) he ?_
  refine V_iinc d_law_482 rfl (show _ = nI (i + 5) from nI_add i 5) (by decide) ?_
  refine V_goto (tgt := 18) d_law_485 (by decide) ?_
  exact ih u2 t2 hI2
set_option maxHeartbeats 8000000 in
theorem law_related (hX : va_X b L xs s s.heap) (hbl : b < s.heap.size) (hL : L ≤ 2560) {i : Nat} (hi5 : i + 5 ≤ L) {u t : XS} (hI : Inv u t)
    (ih : ∀ u t, Inv u t → V p l e room_1 s m #[Value.ref b] below meth c R_law lw_tbl code 4 ret D (xty kx ++ mty km) (fun q : Nat => s.heap.size ≤ q) (fun z : XS × XS => xw qx kx z.1 ++ mw qm km z.2) 15 558 (lw_Z below #[Value.ref b] s) (18) ([some (.ref b), some (.ref (qx 0)), some (.ref (qm 0)), some (.int (nI (i + 5)))]) ([]) ((u, t))) : V p l e room_1 s m #[Value.ref b] below meth c R_law lw_tbl code 4 ret D (xty kx ++ mty km) (fun q : Nat => s.heap.size ≤ q) (fun z : XS × XS => xw qx kx z.1 ++ mw qm km z.2) 15 558 (lw_Z below #[Value.ref b] s) (255) ([some (.ref b), some (.ref (qx 0)), some (.ref (qm 0)), some (.int (nI i))]) ([]) ((u, t)) := by
  obtain ⟨PX, PM, hcx, hcm, hj⟩ := st_related hI (xs (i + 1)) (xs (i + 2)) (xs (i + 3)) (xs (i + 4))
  refine V_aload_n d_law_255 rfl rfl ?_
  refine V_aload_n d_law_256 rfl rfl ?_
  refine V_iload_n d_law_257 rfl rfl ?_
  refine V_iconst (v := (nI 1)) d_law_258 (by decide) ?_
  refine V_iadd d_law_259 (nI_add _ _) ?_
  refine L_sld hX hbl hL rfl (by omega) d_law_260 ?_
  refine V_aload_n d_law_261 rfl rfl ?_
  refine V_iload_n d_law_262 rfl rfl ?_
  refine V_iconst (v := (nI 2)) d_law_263 (by decide) ?_
  refine V_iadd d_law_264 (nI_add _ _) ?_
  refine L_sld hX hbl hL rfl (by omega) d_law_265 ?_
  refine V_aload_n d_law_266 rfl rfl ?_
  refine V_iload_n d_law_267 rfl rfl ?_
  refine V_iconst (v := (nI 3)) d_law_268 (by decide) ?_
  refine V_iadd d_law_269 (nI_add _ _) ?_
  refine L_sld hX hbl hL rfl (by omega) d_law_270 ?_
  refine V_aload_n d_law_271 rfl rfl ?_
  refine V_iload_n d_law_272 rfl rfl ?_
  refine V_iconst (v := (nI 4)) d_law_273 (by decide) ?_
  refine V_iadd d_law_274 (nI_add _ _) ?_
  refine L_sld hX hbl hL rfl (by omega) d_law_275 ?_
  refine l_X_related hcx (Nat.le_of_ble_eq_true rfl) d_law_276 ?_
  intro r1 u2 hp1
  refine V_aload_n d_law_279 rfl rfl ?_
  refine V_aload_n d_law_280 rfl rfl ?_
  refine V_iload_n d_law_281 rfl rfl ?_
  refine V_iconst (v := (nI 1)) d_law_282 (by decide) ?_
  refine V_iadd d_law_283 (nI_add _ _) ?_
  refine L_sld hX hbl hL rfl (by omega) d_law_284 ?_
  refine V_aload_n d_law_285 rfl rfl ?_
  refine V_iload_n d_law_286 rfl rfl ?_
  refine V_iconst (v := (nI 2)) d_law_287 (by decide) ?_
  refine V_iadd d_law_288 (nI_add _ _) ?_
  refine L_sld hX hbl hL rfl (by omega) d_law_289 ?_
  refine V_aload_n d_law_290 rfl rfl ?_
  refine V_iload_n d_law_291 rfl rfl ?_
  refine V_iconst (v := (nI 3)) d_law_292 (by decide) ?_
  refine V_iadd d_law_293 (nI_add _ _) ?_
  refine L_sld hX hbl hL rfl (by omega) d_law_294 ?_
  refine V_aload_n d_law_295 rfl rfl ?_
  refine V_iload_n d_law_296 rfl rfl ?_
  refine V_iconst (v := (nI 4)) d_law_297 (by decide) ?_
  refine V_iadd d_law_298 (nI_add _ _) ?_
  refine L_sld hX hbl hL rfl (by omega) d_law_299 ?_
  refine l_M_related hcm (Nat.le_of_ble_eq_true rfl) d_law_300 ?_
  intro r2 t2 hp2
  obtain ⟨he, hI2⟩ := hj r1 u2 r2 t2 hp1 hp2
  refine V_icmp_eq_t (tgt := 482) d_law_303 (by decide) he ?_
  refine V_iinc d_law_482 rfl (show _ = nI (i + 5) from nI_add i 5) (by decide) ?_
  refine V_goto (tgt := 18) d_law_485 (by decide) ?_
  exact ih u2 t2 hI2
set_option maxHeartbeats 8000000 in
theorem law_images (hX : va_X b L xs s s.heap) (hbl : b < s.heap.size) (hL : L ≤ 2560) {i : Nat} (hi5 : i + 5 ≤ L) {u t : XS} (hI : Inv u t)
    (ih : ∀ u t, Inv u t → V p l e room_1 s m #[Value.ref b] below meth c R_law lw_tbl code 4 ret D (xty kx ++ mty km) (fun q : Nat => s.heap.size ≤ q) (fun z : XS × XS => xw qx kx z.1 ++ mw qm km z.2) 15 558 (lw_Z below #[Value.ref b] s) (18) ([some (.ref b), some (.ref (qx 0)), some (.ref (qm 0)), some (.int (nI (i + 5)))]) ([]) ((u, t))) : V p l e room_1 s m #[Value.ref b] below meth c R_law lw_tbl code 4 ret D (xty kx ++ mty km) (fun q : Nat => s.heap.size ≤ q) (fun z : XS × XS => xw qx kx z.1 ++ mw qm km z.2) 15 558 (lw_Z below #[Value.ref b] s) (308) ([some (.ref b), some (.ref (qx 0)), some (.ref (qm 0)), some (.int (nI i))]) ([]) ((u, t)) := by
  obtain ⟨PX, PM, hcx, hcm, hj⟩ := st_images hI (xs (i + 1)) (xs (i + 2))
  refine V_aload_n d_law_308 rfl rfl ?_
  refine V_aload_n d_law_309 rfl rfl ?_
  refine V_iload_n d_law_310 rfl rfl ?_
  refine V_iconst (v := (nI 1)) d_law_311 (by decide) ?_
  refine V_iadd d_law_312 (nI_add _ _) ?_
  refine L_sld hX hbl hL rfl (by omega) d_law_313 ?_
  refine V_aload_n d_law_314 rfl rfl ?_
  refine V_iload_n d_law_315 rfl rfl ?_
  refine V_iconst (v := (nI 2)) d_law_316 (by decide) ?_
  refine V_iadd d_law_317 (nI_add _ _) ?_
  refine L_sld hX hbl hL rfl (by omega) d_law_318 ?_
  refine l_X_images hcx (Nat.le_of_ble_eq_true rfl) d_law_319 ?_
  intro r1 u2 hp1
  refine V_aload_n d_law_322 rfl rfl ?_
  refine V_aload_n d_law_323 rfl rfl ?_
  refine V_iload_n d_law_324 rfl rfl ?_
  refine V_iconst (v := (nI 1)) d_law_325 (by decide) ?_
  refine V_iadd d_law_326 (nI_add _ _) ?_
  refine L_sld hX hbl hL rfl (by omega) d_law_327 ?_
  refine V_aload_n d_law_328 rfl rfl ?_
  refine V_iload_n d_law_329 rfl rfl ?_
  refine V_iconst (v := (nI 2)) d_law_330 (by decide) ?_
  refine V_iadd d_law_331 (nI_add _ _) ?_
  refine L_sld hX hbl hL rfl (by omega) d_law_332 ?_
  refine l_M_images hcm (Nat.le_of_ble_eq_true rfl) d_law_333 ?_
  intro r2 t2 hp2
  obtain ⟨he, hI2⟩ := hj r1 u2 r2 t2 hp1 hp2
  refine V_icmp_eq_t (tgt := 482) d_law_336 (by decide) he ?_
  refine V_iinc d_law_482 rfl (show _ = nI (i + 5) from nI_add i 5) (by decide) ?_
  refine V_goto (tgt := 18) d_law_485 (by decide) ?_
  exact ih u2 t2 hI2
set_option maxHeartbeats 8000000 in
theorem law_image (hX : va_X b L xs s s.heap) (hbl : b < s.heap.size) (hL : L ≤ 2560) {i : Nat} (hi5 : i + 5 ≤ L) {u t : XS} (hI : Inv u t)
    (ih : ∀ u t, Inv u t → V p l e room_1 s m #[Value.ref b] below meth c R_law lw_tbl code 4 ret D (xty kx ++ mty km) (fun q : Nat => s.heap.size ≤ q) (fun z : XS × XS => xw qx kx z.1 ++ mw qm km z.2) 15 558 (lw_Z below #[Value.ref b] s) (18) ([some (.ref b), some (.ref (qx 0)), some (.ref (qm 0)), some (.int (nI (i + 5)))]) ([]) ((u, t))) : V p l e room_1 s m #[Value.ref b] below meth c R_law lw_tbl code 4 ret D (xty kx ++ mty km) (fun q : Nat => s.heap.size ≤ q) (fun z : XS × XS => xw qx kx z.1 ++ mw qm km z.2) 15 558 (lw_Z below #[Value.ref b] s) (341) ([some (.ref b), some (.ref (qx 0)), some (.ref (qm 0)), some (.int (nI i))]) ([]) ((u, t)) := by
  obtain ⟨PX, PM, hcx, hcm, hj⟩ := st_image hI (xs (i + 1)) (xs (i + 2)) (xs (i + 3))
  refine V_aload_n d_law_341 rfl rfl ?_
  refine V_aload_n d_law_342 rfl rfl ?_
  refine V_iload_n d_law_343 rfl rfl ?_
  refine V_iconst (v := (nI 1)) d_law_344 (by decide) ?_
  refine V_iadd d_law_345 (nI_add _ _) ?_
  refine L_sld hX hbl hL rfl (by omega) d_law_346 ?_
  refine V_aload_n d_law_347 rfl rfl ?_
  refine V_iload_n d_law_348 rfl rfl ?_
  refine V_iconst (v := (nI 2)) d_law_349 (by decide) ?_
  refine V_iadd d_law_350 (nI_add _ _) ?_
  refine L_sld hX hbl hL rfl (by omega) d_law_351 ?_
  refine V_aload_n d_law_352 rfl rfl ?_
  refine V_iload_n d_law_353 rfl rfl ?_
  refine V_iconst (v := (nI 3)) d_law_354 (by decide) ?_
  refine V_iadd d_law_355 (nI_add _ _) ?_
  refine L_sld hX hbl hL rfl (by omega) d_law_356 ?_
  refine l_X_image hcx (Nat.le_of_ble_eq_true rfl) d_law_357 ?_
  intro r1 u2 hp1
  refine V_aload_n d_law_360 rfl rfl ?_
  refine V_aload_n d_law_361 rfl rfl ?_
  refine V_iload_n d_law_362 rfl rfl ?_
  refine V_iconst (v := (nI 1)) d_law_363 (by decide) ?_
  refine V_iadd d_law_364 (nI_add _ _) ?_
  refine L_sld hX hbl hL rfl (by omega) d_law_365 ?_
  refine V_aload_n d_law_366 rfl rfl ?_
  refine V_iload_n d_law_367 rfl rfl ?_
  refine V_iconst (v := (nI 2)) d_law_368 (by decide) ?_
  refine V_iadd d_law_369 (nI_add _ _) ?_
  refine L_sld hX hbl hL rfl (by omega) d_law_370 ?_
  refine V_aload_n d_law_371 rfl rfl ?_
  refine V_iload_n d_law_372 rfl rfl ?_
  refine V_iconst (v := (nI 3)) d_law_373 (by decide) ?_
  refine V_iadd d_law_374 (nI_add _ _) ?_
  refine L_sld hX hbl hL rfl (by omega) d_law_375 ?_
  refine l_M_image hcm (Nat.le_of_ble_eq_true rfl) d_law_376 ?_
  intro r2 t2 hp2
  obtain ⟨he, hI2⟩ := hj r1 u2 r2 t2 hp1 hp2
  refine V_icmp_eq_t (tgt := 482) d_law_379 (by decide) he ?_
  refine V_iinc d_law_482 rfl (show _ = nI (i + 5) from nI_add i 5) (by decide) ?_
  refine V_goto (tgt := 18) d_law_485 (by decide) ?_
  exact ih u2 t2 hI2
set_option maxHeartbeats 8000000 in
theorem law_sources (hX : va_X b L xs s s.heap) (hbl : b < s.heap.size) (hL : L ≤ 2560) {i : Nat} (hi5 : i + 5 ≤ L) {u t : XS} (hI : Inv u t)
    (ih : ∀ u t, Inv u t → V p l e room_1 s m #[Value.ref b] below meth c R_law lw_tbl code 4 ret D (xty kx ++ mty km) (fun q : Nat => s.heap.size ≤ q) (fun z : XS × XS => xw qx kx z.1 ++ mw qm km z.2) 15 558 (lw_Z below #[Value.ref b] s) (18) ([some (.ref b), some (.ref (qx 0)), some (.ref (qm 0)), some (.int (nI (i + 5)))]) ([]) ((u, t))) : V p l e room_1 s m #[Value.ref b] below meth c R_law lw_tbl code 4 ret D (xty kx ++ mty km) (fun q : Nat => s.heap.size ≤ q) (fun z : XS × XS => xw qx kx z.1 ++ mw qm km z.2) 15 558 (lw_Z below #[Value.ref b] s) (384) ([some (.ref b), some (.ref (qx 0)), some (.ref (qm 0)), some (.int (nI i))]) ([]) ((u, t)) := by
  obtain ⟨PX, PM, hcx, hcm, hj⟩ := st_sources hI (xs (i + 1)) (xs (i + 2))
  refine V_aload_n d_law_384 rfl rfl ?_
  refine V_aload_n d_law_385 rfl rfl ?_
  refine V_iload_n d_law_386 rfl rfl ?_
  refine V_iconst (v := (nI 1)) d_law_387 (by decide) ?_
  refine V_iadd d_law_388 (nI_add _ _) ?_
  refine L_sld hX hbl hL rfl (by omega) d_law_389 ?_
  refine V_aload_n d_law_390 rfl rfl ?_
  refine V_iload_n d_law_391 rfl rfl ?_
  refine V_iconst (v := (nI 2)) d_law_392 (by decide) ?_
  refine V_iadd d_law_393 (nI_add _ _) ?_
  refine L_sld hX hbl hL rfl (by omega) d_law_394 ?_
  refine l_X_sources hcx (Nat.le_of_ble_eq_true rfl) d_law_395 ?_
  intro r1 u2 hp1
  refine V_aload_n d_law_398 rfl rfl ?_
  refine V_aload_n d_law_399 rfl rfl ?_
  refine V_iload_n d_law_400 rfl rfl ?_
  refine V_iconst (v := (nI 1)) d_law_401 (by decide) ?_
  refine V_iadd d_law_402 (nI_add _ _) ?_
  refine L_sld hX hbl hL rfl (by omega) d_law_403 ?_
  refine V_aload_n d_law_404 rfl rfl ?_
  refine V_iload_n d_law_405 rfl rfl ?_
  refine V_iconst (v := (nI 2)) d_law_406 (by decide) ?_
  refine V_iadd d_law_407 (nI_add _ _) ?_
  refine L_sld hX hbl hL rfl (by omega) d_law_408 ?_
  refine l_M_sources hcm (Nat.le_of_ble_eq_true rfl) d_law_409 ?_
  intro r2 t2 hp2
  obtain ⟨he, hI2⟩ := hj r1 u2 r2 t2 hp1 hp2
  refine V_icmp_eq_t (tgt := 482) d_law_412 (by decide) he ?_
  refine V_iinc d_law_482 rfl (show _ = nI (i + 5) from nI_add i 5) (by decide) ?_
  refine V_goto (tgt := 18) d_law_485 (by decide) ?_
  exact ih u2 t2 hI2
set_option maxHeartbeats 8000000 in
theorem law_pairs (hX : va_X b L xs s s.heap) (hbl : b < s.heap.size) (hL : L ≤ 2560) {i : Nat} (hi5 : i + 5 ≤ L) {u t : XS} (hI : Inv u t)
    (ih : ∀ u t, Inv u t → V p l e room_1 s m #[Value.ref b] below meth c R_law lw_tbl code 4 ret D (xty kx ++ mty km) (fun q : Nat => s.heap.size ≤ q) (fun z : XS × XS => xw qx kx z.1 ++ mw qm km z.2) 15 558 (lw_Z below #[Value.ref b] s) (18) ([some (.ref b), some (.ref (qx 0)), some (.ref (qm 0)), some (.int (nI (i + 5)))]) ([]) ((u, t))) : V p l e room_1 s m #[Value.ref b] below meth c R_law lw_tbl code 4 ret D (xty kx ++ mty km) (fun q : Nat => s.heap.size ≤ q) (fun z : XS × XS => xw qx kx z.1 ++ mw qm km z.2) 15 558 (lw_Z below #[Value.ref b] s) (417) ([some (.ref b), some (.ref (qx 0)), some (.ref (qm 0)), some (.int (nI i))]) ([]) ((u, t)) := by
  obtain ⟨PX, PM, hcx, hcm, hj⟩ := st_pairs hI
  refine V_aload_n d_law_417 rfl rfl ?_
  refine l_X_pairs hcx (Nat.le_of_ble_eq_true rfl) d_law_418 ?_
  intro r1 u2 hp1
  refine V_aload_n d_law_421 rfl rfl ?_
  refine l_M_pairs hcm (Nat.le_of_ble_eq_true rfl) d_law_422 ?_
  intro r2 t2 hp2
  obtain ⟨he, hI2⟩ := hj r1 u2 r2 t2 hp1 hp2
  refine V_icmp_eq_t (tgt := 482) d_law_425 (by decide) he ?_
  refine V_iinc d_law_482 rfl (show _ = nI (i + 5) from nI_add i 5) (by decide) ?_
  refine V_goto (tgt := 18) d_law_485 (by decide) ?_
  exact ih u2 t2 hI2
set_option maxHeartbeats 8000000 in
theorem law_domain (hX : va_X b L xs s s.heap) (hbl : b < s.heap.size) (hL : L ≤ 2560) {i : Nat} (hi5 : i + 5 ≤ L) {u t : XS} (hI : Inv u t)
    (ih : ∀ u t, Inv u t → V p l e room_1 s m #[Value.ref b] below meth c R_law lw_tbl code 4 ret D (xty kx ++ mty km) (fun q : Nat => s.heap.size ≤ q) (fun z : XS × XS => xw qx kx z.1 ++ mw qm km z.2) 15 558 (lw_Z below #[Value.ref b] s) (18) ([some (.ref b), some (.ref (qx 0)), some (.ref (qm 0)), some (.int (nI (i + 5)))]) ([]) ((u, t))) : V p l e room_1 s m #[Value.ref b] below meth c R_law lw_tbl code 4 ret D (xty kx ++ mty km) (fun q : Nat => s.heap.size ≤ q) (fun z : XS × XS => xw qx kx z.1 ++ mw qm km z.2) 15 558 (lw_Z below #[Value.ref b] s) (430) ([some (.ref b), some (.ref (qx 0)), some (.ref (qm 0)), some (.int (nI i))]) ([]) ((u, t)) := by
  obtain ⟨PX, PM, hcx, hcm, hj⟩ := st_domain hI
  refine V_aload_n d_law_430 rfl rfl ?_
  refine l_X_domain hcx (Nat.le_of_ble_eq_true rfl) d_law_431 ?_
  intro r1 u2 hp1
  refine V_aload_n d_law_434 rfl rfl ?_
  refine l_M_domain hcm (Nat.le_of_ble_eq_true rfl) d_law_435 ?_
  intro r2 t2 hp2
  obtain ⟨he, hI2⟩ := hj r1 u2 r2 t2 hp1 hp2
  refine V_icmp_eq_t (tgt := 482) d_law_438 (by decide) he ?_
  refine V_iinc d_law_482 rfl (show _ = nI (i + 5) from nI_add i 5) (by decide) ?_
  refine V_goto (tgt := 18) d_law_485 (by decide) ?_
  exact ih u2 t2 hI2
set_option maxHeartbeats 8000000 in
theorem law_manyValued (hX : va_X b L xs s s.heap) (hbl : b < s.heap.size) (hL : L ≤ 2560) {i : Nat} (hi5 : i + 5 ≤ L) {u t : XS} (hI : Inv u t)
    (ih : ∀ u t, Inv u t → V p l e room_1 s m #[Value.ref b] below meth c R_law lw_tbl code 4 ret D (xty kx ++ mty km) (fun q : Nat => s.heap.size ≤ q) (fun z : XS × XS => xw qx kx z.1 ++ mw qm km z.2) 15 558 (lw_Z below #[Value.ref b] s) (18) ([some (.ref b), some (.ref (qx 0)), some (.ref (qm 0)), some (.int (nI (i + 5)))]) ([]) ((u, t))) : V p l e room_1 s m #[Value.ref b] below meth c R_law lw_tbl code 4 ret D (xty kx ++ mty km) (fun q : Nat => s.heap.size ≤ q) (fun z : XS × XS => xw qx kx z.1 ++ mw qm km z.2) 15 558 (lw_Z below #[Value.ref b] s) (443) ([some (.ref b), some (.ref (qx 0)), some (.ref (qm 0)), some (.int (nI i))]) ([]) ((u, t)) := by
  obtain ⟨PX, PM, hcx, hcm, hj⟩ := st_manyValued hI
  refine V_aload_n d_law_443 rfl rfl ?_
  refine l_X_manyValued hcx (Nat.le_of_ble_eq_true rfl) d_law_444 ?_
  intro r1 u2 hp1
  refine V_aload_n d_law_447 rfl rfl ?_
  refine l_M_manyValued hcm (Nat.le_of_ble_eq_true rfl) d_law_448 ?_
  intro r2 t2 hp2
  obtain ⟨he, hI2⟩ := hj r1 u2 r2 t2 hp1 hp2
  refine V_icmp_eq_t (tgt := 482) d_law_451 (by decide) he ?_
  refine V_iinc d_law_482 rfl (show _ = nI (i + 5) from nI_add i 5) (by decide) ?_
  refine V_goto (tgt := 18) d_law_485 (by decide) ?_
  exact ih u2 t2 hI2
set_option maxHeartbeats 8000000 in
theorem law_fixed (hX : va_X b L xs s s.heap) (hbl : b < s.heap.size) (hL : L ≤ 2560) {i : Nat} (hi5 : i + 5 ≤ L) {u t : XS} (hI : Inv u t)
    (ih : ∀ u t, Inv u t → V p l e room_1 s m #[Value.ref b] below meth c R_law lw_tbl code 4 ret D (xty kx ++ mty km) (fun q : Nat => s.heap.size ≤ q) (fun z : XS × XS => xw qx kx z.1 ++ mw qm km z.2) 15 558 (lw_Z below #[Value.ref b] s) (18) ([some (.ref b), some (.ref (qx 0)), some (.ref (qm 0)), some (.int (nI (i + 5)))]) ([]) ((u, t))) : V p l e room_1 s m #[Value.ref b] below meth c R_law lw_tbl code 4 ret D (xty kx ++ mty km) (fun q : Nat => s.heap.size ≤ q) (fun z : XS × XS => xw qx kx z.1 ++ mw qm km z.2) 15 558 (lw_Z below #[Value.ref b] s) (456) ([some (.ref b), some (.ref (qx 0)), some (.ref (qm 0)), some (.int (nI i))]) ([]) ((u, t)) := by
  obtain ⟨PX, PM, hcx, hcm, hj⟩ := st_fixed hI
  refine V_aload_n d_law_456 rfl rfl ?_
  refine l_X_fixed hcx (Nat.le_of_ble_eq_true rfl) d_law_457 ?_
  intro r1 u2 hp1
  refine V_aload_n d_law_460 rfl rfl ?_
  refine l_M_fixed hcm (Nat.le_of_ble_eq_true rfl) d_law_461 ?_
  intro r2 t2 hp2
  obtain ⟨he, hI2⟩ := hj r1 u2 r2 t2 hp1 hp2
  refine V_icmp_eq_t (tgt := 482) d_law_464 (by decide) he ?_
  refine V_iinc d_law_482 rfl (show _ = nI (i + 5) from nI_add i 5) (by decide) ?_
  refine V_goto (tgt := 18) d_law_485 (by decide) ?_
  exact ih u2 t2 hI2
set_option maxHeartbeats 8000000 in
theorem law_twoSteps (hX : va_X b L xs s s.heap) (hbl : b < s.heap.size) (hL : L ≤ 2560) {i : Nat} (hi5 : i + 5 ≤ L) {u t : XS} (hI : Inv u t)
    (ih : ∀ u t, Inv u t → V p l e room_1 s m #[Value.ref b] below meth c R_law lw_tbl code 4 ret D (xty kx ++ mty km) (fun q : Nat => s.heap.size ≤ q) (fun z : XS × XS => xw qx kx z.1 ++ mw qm km z.2) 15 558 (lw_Z below #[Value.ref b] s) (18) ([some (.ref b), some (.ref (qx 0)), some (.ref (qm 0)), some (.int (nI (i + 5)))]) ([]) ((u, t))) : V p l e room_1 s m #[Value.ref b] below meth c R_law lw_tbl code 4 ret D (xty kx ++ mty km) (fun q : Nat => s.heap.size ≤ q) (fun z : XS × XS => xw qx kx z.1 ++ mw qm km z.2) 15 558 (lw_Z below #[Value.ref b] s) (469) ([some (.ref b), some (.ref (qx 0)), some (.ref (qm 0)), some (.int (nI i))]) ([]) ((u, t)) := by
  obtain ⟨PX, PM, hcx, hcm, hj⟩ := st_twoSteps hI
  refine V_aload_n d_law_469 rfl rfl ?_
  refine l_X_twoSteps hcx (Nat.le_of_ble_eq_true rfl) d_law_470 ?_
  intro r1 u2 hp1
  refine V_aload_n d_law_473 rfl rfl ?_
  refine l_M_twoSteps hcm (Nat.le_of_ble_eq_true rfl) d_law_474 ?_
  intro r2 t2 hp2
  obtain ⟨he, hI2⟩ := hj r1 u2 r2 t2 hp1 hp2
  refine V_icmp_eq_t (tgt := 482) d_law_477 (by decide) he ?_
  refine V_iinc d_law_482 rfl (show _ = nI (i + 5) from nI_add i 5) (by decide) ?_
  refine V_goto (tgt := 18) d_law_485 (by decide) ?_
  exact ih u2 t2 hI2
theorem gt5 {L i : Nat} (hL : L ≤ 2560) (hi : i ≤ L) (h : ¬ (nI L - nI 5 < nI i)) : i + 5 ≤ L := by
  have h1 : (nI L - nI 5).toInt = (L : Int) - 5 := pk_sub_toInt (by omega) (by omega)
  have h2 : (nI i).toInt = (i : Int) := nI_toInt (by omega)
  rw [Int32.lt_iff_toInt_lt, h1, h2] at h
  omega
theorem sw5 (x : Int32) : ∃ j, j < 32 ∧ x &&& nI 31 = nI j := pk_andE x (m := nI 31) 5 (by decide)
set_option maxHeartbeats 8000000 in
theorem law_loop (hX : va_X b L xs s s.heap) (hbl : b < s.heap.size) (hL : L ≤ 2560) : ∀ (n i : Nat) (u t : XS), L + 1 ≤ i + n → i ≤ L → Inv u t → V p l e room_1 s m #[Value.ref b] below meth c R_law lw_tbl code 4 ret D (xty kx ++ mty km) (fun q : Nat => s.heap.size ≤ q) (fun z : XS × XS => xw qx kx z.1 ++ mw qm km z.2) 15 558 (lw_Z below #[Value.ref b] s) (18) ([some (.ref b), some (.ref (qx 0)), some (.ref (qm 0)), some (.int (nI i))]) ([]) ((u, t)) := by
  intro n
  induction n with
  | zero =>
    intro i u t h1 h2
    omega
  | succ n ih0 =>
    intro i u t h1 h2 hI
    refine V_iload_n d_law_18 rfl rfl ?_
    refine V_aload_n d_law_19 rfl rfl ?_
    refine L_slen hX hbl d_law_20 ?_
    refine V_iconst (v := (nI 5)) d_law_21 (by decide) ?_
    refine V_isub d_law_22 rfl ?_
    refine V_icmp_gt (tgt := 488) d_law_23 (by decide) (fun c_23 => ?_) (fun c_23 => ?_)
    · refine V_iconst (v := 1) d_law_488 (by decide) ?_
      exact L_ret d_law_489
    · have hi5 := gt5 hL h2 c_23
      have ih : ∀ u t, Inv u t → V p l e room_1 s m #[Value.ref b] below meth c R_law lw_tbl code 4 ret D (xty kx ++ mty km) (fun q : Nat => s.heap.size ≤ q) (fun z : XS × XS => xw qx kx z.1 ++ mw qm km z.2) 15 558 (lw_Z below #[Value.ref b] s) (18) ([some (.ref b), some (.ref (qx 0)), some (.ref (qm 0)), some (.int (nI (i + 5)))]) ([]) ((u, t)) := fun u t h => ih0 (i + 5) u t (by omega) (by omega) h
      refine V_aload_n d_law_26 rfl rfl ?_
      refine V_iload_n d_law_27 rfl rfl ?_
      refine L_sld hX hbl hL rfl (by omega) d_law_28 ?_
      refine V_bipush (v := (nI 31)) d_law_29 (by decide) ?_
      obtain ⟨j, hj, ej⟩ := sw5 (xs i)
      refine V_iand d_law_31 ej ?_
      have hcs : j = 0 ∨ j = 1 ∨ j = 2 ∨ j = 3 ∨ j = 4 ∨ j = 5 ∨ j = 6 ∨ j = 7 ∨ j = 8 ∨ j = 9 ∨ j = 10 ∨ j = 11 ∨ j = 12 ∨ j = 13 ∨ j = 14 ∨ j = 15 ∨ j = 16 ∨ j = 17 ∨ 18 ≤ j := by omega
      rcases hcs with rfl | rfl | rfl | rfl | rfl | rfl | rfl | rfl | rfl | rfl | rfl | rfl | rfl | rfl | rfl | rfl | rfl | rfl | hj2
      · refine L_in (tgt := 120) (off := 88) d_law_32 (by decide) (by decide) rfl (by decide) ?_
        exact law_pair hX hbl hL hi5 hI ih
      · refine L_in (tgt := 153) (off := 121) d_law_32 (by decide) (by decide) rfl (by decide) ?_
        exact law_cat hX hbl hL hi5 hI ih
      · refine L_in (tgt := 166) (off := 134) d_law_32 (by decide) (by decide) rfl (by decide) ?_
        exact law_alt hX hbl hL hi5 hI ih
      · refine L_in (tgt := 179) (off := 147) d_law_32 (by decide) (by decide) rfl (by decide) ?_
        exact law_star hX hbl hL hi5 hI ih
      · refine L_in (tgt := 192) (off := 160) d_law_32 (by decide) (by decide) rfl (by decide) ?_
        exact law_turn hX hbl hL hi5 hI ih
      · refine L_in (tgt := 205) (off := 173) d_law_32 (by decide) (by decide) rfl (by decide) ?_
        exact law_steps hX hbl hL hi5 hI ih
      · refine L_in (tgt := 218) (off := 186) d_law_32 (by decide) (by decide) rfl (by decide) ?_
        exact law_depth hX hbl hL hi5 hI ih
      · refine L_in (tgt := 231) (off := 199) d_law_32 (by decide) (by decide) rfl (by decide) ?_
        exact law_discard hX hbl hL hi5 hI ih
      · refine L_in (tgt := 242) (off := 210) d_law_32 (by decide) (by decide) rfl (by decide) ?_
        exact law_define hX hbl hL hi5 hI ih
      · refine L_in (tgt := 255) (off := 223) d_law_32 (by decide) (by decide) rfl (by decide) ?_
        exact law_related hX hbl hL hi5 hI ih
      · refine L_in (tgt := 308) (off := 276) d_law_32 (by decide) (by decide) rfl (by decide) ?_
        exact law_images hX hbl hL hi5 hI ih
      · refine L_in (tgt := 341) (off := 309) d_law_32 (by decide) (by decide) rfl (by decide) ?_
        exact law_image hX hbl hL hi5 hI ih
      · refine L_in (tgt := 384) (off := 352) d_law_32 (by decide) (by decide) rfl (by decide) ?_
        exact law_sources hX hbl hL hi5 hI ih
      · refine L_in (tgt := 417) (off := 385) d_law_32 (by decide) (by decide) rfl (by decide) ?_
        exact law_pairs hX hbl hL hi5 hI ih
      · refine L_in (tgt := 430) (off := 398) d_law_32 (by decide) (by decide) rfl (by decide) ?_
        exact law_domain hX hbl hL hi5 hI ih
      · refine L_in (tgt := 443) (off := 411) d_law_32 (by decide) (by decide) rfl (by decide) ?_
        exact law_manyValued hX hbl hL hi5 hI ih
      · refine L_in (tgt := 456) (off := 424) d_law_32 (by decide) (by decide) rfl (by decide) ?_
        exact law_fixed hX hbl hL hi5 hI ih
      · refine L_in (tgt := 469) (off := 437) d_law_32 (by decide) (by decide) rfl (by decide) ?_
        exact law_twoSteps hX hbl hL hi5 hI ih
      · refine L_out (tgt := 482) d_law_32 (Or.inr (by rw [nI_toInt (by omega)]; omega)) (by decide) ?_
        refine V_iinc d_law_482 rfl (show _ = nI (i + 5) from nI_add i 5) (by decide) ?_
        refine V_goto (tgt := 18) d_law_485 (by decide) ?_
        exact ih u t hI
end LOOP
end
section
set_option maxHeartbeats 8000000 in
set_option maxRecDepth 100000 in
theorem whole_start {p : Program} {e : Env} {s : State} {m : MethodId} {below : List Frame} {meth : Method} {c : Code} (l : Launch) {b L : Nat} {xs : Nat → Int32} (hL : L ≤ 2560) (C0 : lw_At p s m meth c b L xs) : W p l e room_1 s m #[Value.ref b] below meth c s.heap [] 0 0 (lw_Z below #[Value.ref b] s) (entryFrame m ([Value.ref b] : List Value).toArray 4) := by
  obtain ⟨hx, hb, hr, hml, hown, hts, hX, hbl, hlocks, hgv⟩ := id C0
  have hA : ∀ q : Nat, s.heap.size ≤ q → (fun q : Nat => s.heap.size ≤ q) q := fun _ h => h
  obtain ⟨c0, iS0, hKn0⟩ := u_known (C := R_X) (T := F_X) (N := 20) (n := 20) hts il_X (hts _ is_X)
  obtain ⟨c1, iS1, hKn1⟩ := u_known (C := R_M) (T := F_M) (N := 4) (n := 4) hts il_M (hts _ is_M)
  obtain ⟨D, hKc⟩ : ∃ (D : va_G), ∀ (k : Nat) (q : vw_C), classes[k]? = some q → u_Kn s q.1 q.2.1 q.2.2 (D.1 k) (D.2 k) := by
    refine ⟨(fun k => if k = 0 then c0 else c1, fun k => if k = 0 then iS0 else iS1), ?_⟩
    intro k q hq
    match k, hq with
    | 0, hq => cases hq; exact hKn0
    | 1, hq => cases hq; exact hKn1
    | k + 2, hq => simp [classes] at hq
  have hS : va_S (fun q : Nat => s.heap.size ≤ q) s.heap s.heap [] := va_S.rf
  have hK : va_K D classes [] s := ⟨hKc, fun k q h => by simp at h⟩
  have hP : va_P D classes [] s.heap := fun k q h => by simp at h
  have hD : va_D (fun q : Nat => s.heap.size ≤ q) [] := ⟨fun i j p q h => by simp at h, fun k q h => by simp at h⟩
  have hl := lv_entry ([.ref b]) (n := 4) (Nat.le_of_ble_eq_true rfl)
  rw [lg_entry_eq]
  generalize (lg_sl ([.ref b]) ++ List.replicate (4 - (lg_sl ([.ref b])).length) Slot.unset).toArray = ls at hl ⊢
  have hl : lv_has ls 4 [(0, .ref b)] := hl
  refine va_new (ci := 0) (fs := [.int 0, .int 0, .int 0, .int 0, .null, .null, .null, .null, .null, .null, .null, .int 0, .int 0, .int 0, .null, .null, .int 0, .null, .null, .null]) (C := R_X) (T := F_X) (N := 20) hx hb hts il_X t_X t_X_ok hown (hts _ cl_X) (hts _ is_X) (hts _ in_X) hK hP hD hS hA rfl (fun j hj => (by decide : ∀ j, j < 20 → defaultValue (t_X j) = vp_V [.int 0, .int 0, .int 0, .int 0, .null, .null, .null, .null, .null, .null, .null, .int 0, .int 0, .int 0, .null, .null, .int 0, .null, .null, .null] j) j hj) (Nat.le_of_ble_eq_true rfl) (Nat.le_of_ble_eq_true rfl) d_law_0 (fun q0v H hP hD hS => ?_)
  have hP : va_P D classes [(q0v, .inr (0, [.int 0, .int 0, .int 0, .int 0, .null, .null, .null, .null, .null, .null, .null, .int 0, .int 0, .int 0, .null, .null, .int 0, .null, .null, .null]))] H := hP
  have hD : va_D (fun q : Nat => s.heap.size ≤ q) [(q0v, .inr (0, [.int 0, .int 0, .int 0, .int 0, .null, .null, .null, .null, .null, .null, .null, .int 0, .int 0, .int 0, .null, .null, .int 0, .null, .null, .null]))] := hD
  refine W.widen (k := 1) (n := 20) (by omega) (by omega) ?_
  refine lv_dup hx hb d_law_3 rfl ?_
  have hPc := hP.sub (ws' := [(q0v, .inr (0, [.int 0, .int 0, .int 0, .int 0, .null, .null, .null, .null, .null, .null, .null, .int 0, .int 0, .int 0, .null, .null, .int 0, .null, .null, .null]))]) [0] rfl
  have hDc := hD.sub (ws' := [(q0v, .inr (0, [.int 0, .int 0, .int 0, .int 0, .null, .null, .null, .null, .null, .null, .null, .int 0, .int 0, .int 0, .null, .null, .int 0, .null, .null, .null]))]) [0] (by decide) rfl
  have hKc := hK.sub (tys' := []) [] rfl
  have hFc := va_free (wc := [(q0v, .inr (0, [.int 0, .int 0, .int 0, .int 0, .null, .null, .null, .null, .null, .null, .null, .int 0, .int 0, .int 0, .null, .null, .int 0, .null, .null, .null]))]) hD hS hA [0] rfl
  refine va_callv (va_runI (As := []) (rest := [.ref q0v]) ⟨hx, hb, hml, hown, hts⟩ (c_X_init l D q0v H.size) (cwI 0 hts gl_X_init rfl rfl rfl (hts _ in_X) (hts _ ml_X_init) (hts _ im_X_init) rfl (by decide +kernel) ⟨Nat.le_of_ble_eq_true rfl, Nat.le_of_ble_eq_true rfl⟩) ⟨fun a U g mk q9 => by obtain ⟨q0, q1, qP, qK, qD⟩ := q9; exact ⟨q0, q1, qP, va_K.moved (u := U) (U := U.calling g mk a) (Vm.Alike.refl U.vm) qK, qD⟩, fun U hU hW => ⟨rfl, by rw [hU], by rw [hU]; exact hPc, va_K.moved hW.alike hKc, hDc.weaken (fun _ _ _ _ => trivial)⟩⟩ rfl rfl hl.1 rfl (lv_room (Nat.le_of_ble_eq_true rfl)) d_law_4 ⟨Nat.le_of_ble_eq_true rfl, Nat.le_of_ble_eq_true rfl⟩) hS (fun q _ h => hFc q h) hFc (fun u t H1 locs ht hvm hw hB hz1 hk1 hS => ?_)
  obtain ⟨qx, kx, hq0, hP1, hK1, hD1⟩ := hB
  subst hq0
  subst hw
  rw [ht] at hP1
  have hK1 := va_K.moved hvm.symm hK1
  obtain ⟨hP, hD⟩ := va_join (wr := []) (w1 := xw qx kx (S00, setA A00 12 (lnF 31))) hP hD [0] [] rfl rfl (by decide) (by decide) hk1 hFc hP1 hD1
  have hK := (hK.sub (tys' := []) [] rfl).app hK1
  generalize H1 = H at hP hS ⊢
  have hP : va_P D classes (xw qx kx (S00, setA A00 12 (lnF 31))) H := hP
  have hD : va_D (fun q : Nat => s.heap.size ≤ q) (xw qx kx (S00, setA A00 12 (lnF 31))) := hD
  have hK : va_K D classes (xty kx) s := hK
  refine W.widen (k := 13) (n := 306) (by omega) (by omega) ?_
  refine lv_astore_n (lv' := [(1, .ref (qx 0)), (0, .ref b)]) hx hb d_law_7 rfl hl (by decide) rfl (fun ls hl => ?_)
  refine va_new (ci := 1) (fs := [.null, .int 0, .int 0, .int 0]) (C := R_M) (T := F_M) (N := 4) hx hb hts il_M t_M t_M_ok hown (hts _ cl_M) (hts _ is_M) (hts _ in_M) hK hP hD hS hA rfl (fun j hj => (by decide : ∀ j, j < 4 → defaultValue (t_M j) = vp_V [.null, .int 0, .int 0, .int 0] j) j hj) (Nat.le_of_ble_eq_true rfl) (Nat.le_of_ble_eq_true rfl) d_law_8 (fun q1v H hP hD hS => ?_)
  refine W.widen (k := 14) (n := 310) (by omega) (by omega) ?_
  refine lv_dup hx hb d_law_11 rfl ?_
  have hPc := hP.sub (ws' := [(q1v, .inr (1, [.null, .int 0, .int 0, .int 0]))]) [13] rfl
  have hDc := hD.sub (ws' := [(q1v, .inr (1, [.null, .int 0, .int 0, .int 0]))]) [13] (by decide) rfl
  have hKc := hK.sub (tys' := []) [] rfl
  have hFc := va_free (wc := [(q1v, .inr (1, [.null, .int 0, .int 0, .int 0]))]) hD hS hA [13] rfl
  refine va_callv (va_runI (As := []) (rest := [.ref q1v]) ⟨hx, hb, hml, hown, hts⟩ (c_M_init l D q1v H.size) (cwI 0 hts gl_M_init rfl rfl rfl (hts _ in_M) (hts _ ml_M_init) (hts _ im_M_init) rfl (by decide +kernel) ⟨Nat.le_of_ble_eq_true rfl, Nat.le_of_ble_eq_true rfl⟩) ⟨fun a U g mk q9 => by obtain ⟨q0, q1, qP, qK, qD⟩ := q9; exact ⟨q0, q1, qP, va_K.moved (u := U) (U := U.calling g mk a) (Vm.Alike.refl U.vm) qK, qD⟩, fun U hU hW => ⟨rfl, by rw [hU], by rw [hU]; exact hPc, va_K.moved hW.alike hKc, hDc.weaken (fun _ _ _ _ => trivial)⟩⟩ rfl rfl hl.1 rfl (lv_room (Nat.le_of_ble_eq_true rfl)) d_law_12 ⟨Nat.le_of_ble_eq_true rfl, Nat.le_of_ble_eq_true rfl⟩) hS (fun q _ h => hFc q h) hFc (fun u t H1 locs ht hvm hw hB hz1 hk1 hS => ?_)
  obtain ⟨qm, km, hq0, hP1, hK1, hD1⟩ := hB
  subst hq0
  subst hw
  rw [ht] at hP1
  have hK1 := va_K.moved hvm.symm hK1
  obtain ⟨hP, hD⟩ := va_join (wr := xw qx kx (S00, setA A00 12 (lnF 31))) (w1 := mw qm km (S00, A00)) hP hD [13] [0, 1, 2, 3, 4, 5, 6, 7, 8, 9, 10, 11, 12] rfl rfl (by decide) (by decide) hk1 hFc hP1 hD1
  have hK := hK.app hK1
  generalize H1 = H at hP hS ⊢
  refine W.widen (k := 15) (n := 558) (by omega) (by omega) ?_
  refine lv_astore_n (lv' := [(2, .ref (qm 0)), (1, .ref (qx 0)), (0, .ref b)]) hx hb d_law_15 rfl hl (by decide) rfl (fun ls hl => ?_)
  refine lv_iconst (v := nI 0) hx hb d_law_16 (by decide) ?_
  refine lv_istore_n (lv' := [(3, .int (nI 0)), (2, .ref (qm 0)), (1, .ref (qx 0)), (0, .ref b)]) hx hb d_law_17 rfl hl (by decide) rfl (fun ls hl => ?_)
  have hlo : lo_has ls 4 [some (.ref b), some (.ref (qx 0)), some (.ref (qm 0)), some (.int (nI 0))] := by
    refine ⟨hl.1, hl.2.1, fun i v hi => ?_⟩
    match i, hi with
    | 0, hi => cases hi; exact ⟨lv_at hl 3 rfl, rfl⟩
    | 1, hi => cases hi; exact ⟨lv_at hl 2 rfl, rfl⟩
    | 2, hi => cases hi; exact ⟨lv_at hl 1 rfl, rfl⟩
    | 3, hi => cases hi; exact ⟨lv_at hl 0 rfl, rfl⟩
    | k + 4, hi => simp at hi
  exact law_loop hX hbl hL (L + 1) 0 _ _ (by omega) (Nat.zero_le L) Inv0 ⟨⟨hx, hb, hml, hown, hts⟩, hK, hr, hlocks, hA⟩ ls H _ hlo hP hD hS
end
section
-- ===== YOUR PART ENDS =====
set_option maxHeartbeats 4000000 in
theorem lw_walk (l : Launch) (b : Addr) (xs : List Int32) : MetFree l x (headSpec (Jvm.Cond.code x code maxLocals ret :: tables_1) room_1) (lw_P b xs) (fun _ _ _ _ _ => True) lw_Q := by
  refine MetFree.of_bodyS (code := code) (maxLocals := maxLocals) (ret := ret) (by decide) ?_ ?_
  · intro args s m h hn
    obtain ⟨meth, c, h1, h2, h3, h4, h5, h6, -, -⟩ := Cond.code_spec hn (atoms_spec (ws := Jvm.Cond.code x code maxLocals ret :: tables_1) h _ List.mem_cons_self)
    exact ⟨meth, c, h1, h2, h3, h4, h5, h6⟩
  · intro p e s m args below meth c s₁ B hml0 hP _
    obtain ⟨rfl, hx, hbd, hgv⟩ := hP
    obtain ⟨scr, harrAt, hlist, hof, hsmall⟩ := hx
    obtain ⟨hcb, hkn, -, -⟩ := State.arrayAt?_spec harrAt
    have hown : s.vm.findClass R_law = some m.cls := findClass_of_methodNamed B.named
    have hts0 : ∀ c ∈ (Jvm.Cond.code x code maxLocals ret :: tables_1), c.before #[Value.ref b] s = true := atoms_spec (ws := Jvm.Cond.code x code maxLocals ret :: tables_1) B.pre
    have hts : ∀ w ∈ lw_tbl, w.before #[Value.ref b] s = true := k2_hts_sels lw_privs (fun w hw => hts0 w (List.mem_cons_of_mem _ hw)) lw_privs_ok
    have hml : c.maxLocals = 4 := B.maxLocals_eq (hts0 _ List.mem_cons_self)
    have X₀ : Stand p l e room_1 s m #[Value.ref b] below meth c s₁ [] 0 0 := Stand.of_body B
    have hh0 : s₁.heap = s.heap := by rw [B.state]; rfl
    have hsz : scr.slots.size = xs.length := by rw [← Array.length_toList, hlist, List.length_map]
    have hval : ∀ j : Nat, j < xs.length → scr.slots[j]? = some (.int (xs.getD j 0)) := fun j hj => by
      rw [← Array.getElem?_toList, hlist]
      simp [hj]
    have hbl : b < s.heap.size := (Array.getElem?_eq_some_iff.mp hcb).1
    have hX : va_X b xs.length (fun j => xs.getD j 0) s s.heap := ⟨scr, hcb, hof, hkn, hsz, hval⟩
    have K : W p l e room_1 s m #[Value.ref b] below meth c s₁.heap [] 0 0 (lw_Z below #[Value.ref b] s) (entryFrame m ([Value.ref b] : List Value).toArray 4) := by
      rw [hh0]
      exact whole_start l hbd ⟨B.exec, B.bytes, B.returns, hml, hown, hts, hX, hbl, B.notSynchronized, hgv⟩
    obtain ⟨t, a1, o, b1, b2, b3⟩ := K s₁ rfl X₀
    exact ⟨t, o, a1, b1, b2, b3⟩
theorem lw_pre_spec {args : Array Value} {s : State} (h : (Jvm.Cond.and given_1 narrow_1).before args s = true) (hr : rest_1_c.before args s = true) : ∃ (b : Addr) (xs : List Int32), lw_P b xs args s := by
  have hs := flat_of_before _ h
  have hq := flat_of_before _ hr
  have hc : (Cond.count 1).before args s = true := hs _ (by decide +kernel)
  have harr : (Cond.arrayOf (.arg 0) .int).before args s = true := hs _ (by decide +kernel)
  have hle : (Cond.le (.length (.arg 0)) (.int 2560)).before args s = true := hs _ (by decide +kernel)
  have hlen : (Cond.isInt (.length (.arg 0))).before args s = true := hq _ (by decide +kernel)
  have hall : (Cond.all (.arg 0) (.isInt (.elem (.arg 0) (.index 0)))).before args s = true := hq _ (by decide +kernel)
  obtain ⟨b, xs, hb, hx⟩ := State.ints_of_pre rfl harr hlen hall
  have hsm : xs.length < 2 ^ 31 := hx.choose_spec.2.2.2
  have hev : (Term.length (.arg 0)).eval args s none [] s = some (.int xs.length.toInt32) := hx.length_eval hb
  have hv := Cond.le_ints hev (show (Term.int 2560).eval args s none [] s = some (.int 2560) from rfl)
  have hd : xs.length.toInt32 ≤ 2560 := by
    simpa [Cond.before, Cond.holds, hv] using hle
  have hN : xs.length ≤ 2560 := (Int32.ofNat_le_ofNat hsm (by decide)).mp (show Int32.ofNat xs.length ≤ Int32.ofNat 2560 from hd)
  exact ⟨b, xs, Cond.one_arg hc (show args[0]? = some (.ref b) from hb), hx, hN, h⟩
theorem lw_comes (l : Launch) : Comes l x (Jvm.Cond.code x code maxLocals ret :: tables_1) room_1 (fun tb e args s => Calls_1 tb e args s ∧ rest_1 tb e args s ∧ Pre_1 tb e args s)
    (fun _ _ args s o t => lw_Q args s o t) := by
  intro p e ha hc hk s m args below hf hfit hheap happ hpre
  obtain ⟨b, xs, hP⟩ := lw_pre_spec hpre.2.2 hpre.2.1
  obtain ⟨k, o, h1, h2, h3, hQ⟩ := lw_walk l b xs p e ha hc hk s m args below hf ((Spec.applies_iff_loose hf).mp happ).1 hP trivial
  exact ⟨k, o, h1, h2, h3, hQ⟩
theorem lw_frame {s t : State} {o : Outcome} {args : Array Value} (h : Framed s o t [] 15 558) :
    Framed s o t (fieldLocs frame_1_writes args s ++ arrayLocs frame_1_arrays args s ++ staticLocs frame_1_statics s) 15 558 := h
theorem lw_limb (L : Cond) (hL : ∀ (args : Array Value) (s t : State), L.after args s (.returned (some (.int 1))) t = true) :
    ArmFor flags0 classFile x code maxLocals ret World_1 tables_1 room_1 Calls_1 rest_1 Pre_1
      (fun tb e a s o t => postC L tb e a s o t ∧ Framed s o t (fieldLocs frame_1_writes a s ++ arrayLocs frame_1_arrays a s ++ staticLocs frame_1_statics s) 15 558) := by
  intro l _ _ _ p e ha hc hk s m args below hf hfit hheap happ hpre
  obtain ⟨k, o, h1, h2, h3, rfl, hF⟩ := lw_comes l p e ha hc hk s m args below hf hfit hheap happ hpre
  exact ⟨k, _, h1, h2, h3, hL args s _, lw_frame hF⟩
theorem i_vc : Claimed_1_1 ∧ Claimed_1_2 := ⟨lw_limb limb_1_1 (fun args s t => by simp [limb_1_1, Cond.after, Cond.holds, Cond.value]), lw_limb limb_1_2 (fun args s t => Cond.after_iff.mpr (by
  first | (rw [show limb_1_2 = Cond.eq .result (.int 1) from rfl, Cond.eq_ints (x := 1) (y := 1) rfl rfl]; simp; done) | (simp [limb_1_2, Cond.value, Term.eval]; done)))⟩
end
